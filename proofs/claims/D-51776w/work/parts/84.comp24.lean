/-! FLAGLAUNDRY 13: the texts -/
/-- 'ldc_w' of a String constant of the start -/
theorem ldcStringW {p : Program} {l : Launch} {e : Env} {R : Room} {s : State} {m : MethodId} {args : Array Value} {below : List Frame} {meth : Method} {c : Code} {T : State} {locs : List Loc} {cells slots : Nat}
    (X : Stand p l e R s m args below meth c T locs cells slots) (hexec : p.tables.exec = Jvm.exec) {own text : String} {index : Nat} {a : Addr} (hown : s.vm.findClass own = some m.cls)
    (hconst : (Cond.stringRef own index text).before args s = true) (hev : (Term.string own index).eval args s none [] s = some (.ref a)) {g : JFrame} (hg : g.method = m) (hdg : decode c.code g.pc = .ok (.ldc_w index, 3)) :
    ∀ target, Steps p.tables e below (T.setTop { g with pc := g.pc + 3, stack := .ref a :: g.stack }) target → Steps p.tables e below (T.setTop g) target := by
  obtain ⟨k, cf, i, a', hk, hcf, hcp, -, hr, hev'⟩ := Cond.stringRef_spec hown hconst
  cases hev.symm.trans hev'
  obtain ⟨k', hk', he⟩ := X.warmed.alike.2.2 _ _ hk
  have hr' : k'.resolved[index]? = some (some (.string a)) := by
    rcases X.warmed.entry hk hk' index with h | ⟨h, -⟩
    · rw [h]; exact hr
    · rw [hr] at h; cases h
  intro target hrest
  subst hg
  jvm_step X.here [hexec, hdg, Op.ldc_w.wp_string (e := e) (s := T) (f := g) X.here.top hk' (by rw [he]; exact hcf) hcp hr']
  exact hrest
section ALdcwO
variable {l : Launch} {g : GC} {mi : MI} {d b : Nat} {Q : Option Value → AH → Prop} {X : String → Nat → AH → Prop} {pc : Nat} {L : List (Nat × Value)} {st : List Value} {σ : AH}
theorem A_ldcwO {tx : String} {ix q : Nat} (h : o_lit g mi.1.cls ix tx q) (hd : decode mi.2.1 pc = .ok (.ldc_w ix, 3)) (kk : AW l g mi d b Q X (pc + 3) L (.ref q :: st) σ) : AW l g mi d b Q X pc L st σ := by
  intro p e R s m args below meth c H locs cells slots ls C hP hL hl
  have hc := C
  obtain ⟨hx, hb, hr, hlk, hml, hown, hts, hg, hW, hrest⟩ := C
  have hZ := vk_R.warm hW h
  intro T hT Xs
  obtain ⟨t, a1, b1⟩ := kk p e R s m args below meth c H locs cells slots ls hc hP hL hl T hT Xs
  exact ⟨t, ldcStringW Xs hx hown (text := tx) (a := q) hZ.1 hZ.2 (g := F0 m pc ls st) rfl (by rw [hb]; exact hd) t a1, b1⟩
end ALdcwO
theorem SX.fr {σ0 τ : AH} {sb sa0 n : Nat} {l : List Int32} (h : SX σ0 sb sa0 τ l n) : fra [sb, sa0] σ0 τ := by
  obtain ⟨sa, cap, ml, f, -, -, k, -⟩ := h
  exact k
theorem SX.cell {σ0 τ : AH} {sb sa0 n : Nat} {l : List Int32} (h : SX σ0 sb sa0 τ l n) : ∃ sa ml, τ.1 sb = some (sbC sa ml (nI l.length)) := by
  obtain ⟨sa, cap, ml, f, -, k, -, -⟩ := h
  exact ⟨sa, ml, k.1⟩
theorem SBd.sx {σ : AH} {sb sa cap : Nat} {ml : Int32} {f : AF} {l : List Int32} (h : SBd σ sb sa cap ml f l) : SX σ sb sa σ l l.length := ⟨sa, cap, ml, f, h.2.2.2.1, h, fra.rf, Or.inl rfl⟩
theorem SX.sbd {σ0 τ : AH} {sb sa0 n : Nat} {l : List Int32} (h : SX σ0 sb sa0 τ l n) : ∃ sa cap ml f, SBd τ sb sa cap ml f l := by
  obtain ⟨sa, cap, ml, f, -, k, -, -⟩ := h
  exact ⟨sa, cap, ml, f, k⟩
theorem SBd.keep {σ τ : AH} {sb sa cap : Nat} {ml : Int32} {f : AF} {l : List Int32} (h : SBd σ sb sa cap ml f l) (w : wfh σ) (k : fra [sb, sa] σ τ) {a : Nat} {e : AE} (ha : σ.1 a = some e) (n1 : ∀ vs, ¬ e = .inr (.inl (12, vs))) (n2 : ∀ n f, ¬ e = bytA n f) : τ.1 a = some e := k.at w ha (fun m => by
  simp only [List.mem_cons, List.not_mem_nil, or_false] at m
  rcases m with m | m
  · rw [m] at ha; exact n1 _ (Option.some.inj (ha.symm.trans h.1))
  · rw [m] at ha; exact n2 _ _ (Option.some.inj (ha.symm.trans h.2.1)))
theorem SBd.nw {σ τ : AH} {sb sa cap : Nat} {ml : Int32} {f : AF} {l : List Int32} (h : SBd σ sb sa cap ml f l) (w : wfh σ) (k : fra [sb, sa] σ τ) : nw σ τ := ⟨k.1, fun a e ha i => h.keep w k ha (fun vs q => isW_no (by decide) (q ▸ i)) (fun n f q => isW_ty ⟨by decide, by decide, by decide⟩ (q ▸ i))⟩
theorem c_sbApIv {l : Launch} {g : GC} (σ : AH) (σ0 : AH) (sb sa0 : Nat) (v : Int32) (l9 : List Int32) (h : SX σ0 sb sa0 σ l9 l9.length) (hv : ∃ k, k < 100 ∧ v = nI k) (hl : l9.length + 2 ≤ 70) : AMet l g mJ3_append_2 5 18 [.ref sb, .int v] σ (fun w τ => w = some (.ref sb) ∧ SX σ0 sb sa0 τ (l9 ++ numI v) (l9 ++ numI v).length) (A_no) := by
  obtain ⟨k, hk, rfl⟩ := hv
  exact c_sbApI σ σ0 sb sa0 k l9 h hk hl
theorem c_sbApCv {l : Launch} {g : GC} (σ : AH) (σ0 : AH) (sb sa0 : Nat) (v : Int32) (l9 : List Int32) (h : SX σ0 sb sa0 σ l9 l9.length) (hv : ∃ k, k < 128 ∧ v = nI k) (hl : l9.length + 1 ≤ 70) : AMet l g mJ3_append 5 18 [.ref sb, .int v] σ (fun w τ => w = some (.ref sb) ∧ SX σ0 sb sa0 τ (l9 ++ [v]) (l9 ++ [v]).length) (A_no) := by
  obtain ⟨k, hk, rfl⟩ := hv
  exact c_sbApC σ σ0 sb sa0 k l9 h hk hl
theorem letK {k : Int32} (h : PLk k) : ∃ j, j < 128 ∧ b8 (letN k) = nI j := by
  rcases h with rfl | rfl | rfl | rfl
  · exact ⟨98, by decide, by decide⟩
  · exact ⟨116, by decide, by decide⟩
  · exact ⟨108, by decide, by decide⟩
  · exact ⟨103, by decide, by decide⟩
theorem c_kch {l : Launch} {g : GC} (σ : AH) (a : Nat) (k : Int32) (hs : o_str g a [98, 116, 108, 103]) (h : PLk k) : AMet l g mJ4_charAt 4 0 [.ref a, .int k] σ (A_eq (some (.int (b8 (letN k)))) σ) (A_no) := by
  rcases h with rfl | rfl | rfl | rfl
  · exact c_strchar σ a _ 0 hs (by decide) (by decide) (by decide)
  · exact c_strchar σ a _ 1 hs (by decide) (by decide) (by decide)
  · exact c_strchar σ a _ 2 hs (by decide) (by decide) (by decide)
  · exact c_strchar σ a _ 3 hs (by decide) (by decide) (by decide)
theorem k128 {k : Nat} (h : k < 128) : ∃ j, j < 128 ∧ nI k = nI j := ⟨k, h, rfl⟩
theorem k100 {k : Nat} (h : k < 100) : ∃ j, j < 100 ∧ nI k = nI j := ⟨k, h, rfl⟩
theorem k9 {v : Int32} (h : ∃ x, x ≤ 9 ∧ v = nI x) : ∃ j, j < 100 ∧ v = nI j := by
  obtain ⟨x, hx, e⟩ := h
  exact ⟨x, by omega, e⟩
theorem whyN_k (N : AF) (f : Nat) : ∃ j, j < 100 ∧ whyN N f = nI j := by
  unfold whyN
  repeat' split
  · exact ⟨1, by decide, rfl⟩
  · exact ⟨2, by decide, rfl⟩
  · exact ⟨3, by decide, rfl⟩
  · exact ⟨4, by decide, rfl⟩
  · exact ⟨5, by decide, rfl⟩
  · exact ⟨6, by decide, rfl⟩
  · exact ⟨7, by decide, rfl⟩
  · exact ⟨0, by decide, rfl⟩
theorem flagOn_k {N : AF} {p : Int32} (hF : nF N ≤ 12) (h : ¬ flagOnN N p = -1) : ∃ j, j < 100 ∧ flagOnN N p = nI j := by
  unfold flagOnN at h ⊢
  rcases fsr_in (p := fun f => fl N f 8 = 2 ∧ fl N f 9 = p) (nF N) 0 with e | ⟨j, -, hj, e, -⟩
  · exact absurd e h
  · exact ⟨j, by omega, e⟩
/-- each place in a tub's row is taken -/
def INS (N : AF) : Prop := ∀ t i, i < ix (manyT N t) → ∃ k, k < 100 ∧ flagInN N t (nI i) = nI k
theorem len1 {l : List Int32} {n : Nat} {c : Int32} (h : l.length ≤ n) : (l ++ [c]).length ≤ n + 1 := by rw [List.length_append]; exact Nat.add_le_add_right h 1
theorem len2 {l : List Int32} {n : Nat} {v : Int32} (h : l.length ≤ n) : (l ++ numI v).length ≤ n + 2 := by rw [List.length_append]; exact Nat.add_le_add h (numI_le v)
theorem manyT_ix {N : AF} {t : Int32} : ∃ m, m ≤ nF N ∧ manyT N t = nI m := by
  unfold manyT
  exact sm_ex _
theorem q_writeFlag {l : Launch} {g : GC} (σ : AH) (x bf dq sv ou : Nat) (bd pe ep : Int32) (is : Int32) (nv : Value) (W : WA) (N : AF) (f : Int32) (sa0 cap0 : Nat) (ml0 : Int32) (f0 : AF) (lp : List Int32) (hL : LD g σ is nv W N) (hX : σ.1 x = some (lauC bf bd pe ep nv dq sv ou)) (hS : SBd σ ou sa0 cap0 ml0 f0 lp) (hp70 : lp.length ≤ 70) : AMet l g mX1_writeFlag 10 306 [.ref x, .int f] σ (fun w τ => (mayT is (bi (okF is N f)) 1) = 0 ∧ w = some (.int (nI (txF N (ix f) (nC N)).length)) ∧ SX σ ou sa0 τ (txF N (ix f) (nC N)) (txF N (ix f) (nC N)).length) (A_thr ["java/lang/IllegalStateException", "java/lang/IndexOutOfBoundsException"] (mayT is (bi (okF is N f)) 1) σ) := by
  rcases hL with ⟨h0, hn⟩ | ⟨hs, hn, hR, hD, hw, hh⟩
  · subst hn
    refine A_of rfl (by decide) (Nat.le_of_ble_eq_true rfl) (L0 := [(0, .ref x), (1, .int f)]) rfl ?_
    refine A_wfh (fun wσ hgσ => ?_)
    have yσ : ext σ σ := ext.rf
    refine A_aload_n (i := 0) dX1_writeFlag_0 rfl rfl ?_
    refine A_iload_n (i := 1) dX1_writeFlag_1 rfl rfl ?_
    refine A_callV1 (b' := 0) (u_checkFlag σ x bf dq sv ou bd pe ep f hX) tX1_checkFlag q1490 hX rfl rfl dX1_writeFlag_2 (by decide) (Nat.le_of_ble_eq_true rfl) (Nat.le_of_ble_eq_true rfl) (fun w9 τ9 h9 => h9.elim) (fun E9 q9 τ9 h9 => A_out rfl (⟨yσ.tr h9.2, 0, by rw [h9.1]; rfl, by rw [(mayQ_1 h0)]; rfl⟩))
  · subst hn
    have hW := hD.1
    have hR9 := hR
    obtain ⟨h1, ⟨fr, h2, h2p⟩, ⟨fm, h3, h3p⟩, ⟨mcn, fnA, h4, h4p, h4q⟩, ⟨mcf, ffA, h5, h5p, h5q⟩, ⟨fu, h6, h6p⟩, h7, h8, h9, h10, h11⟩ := hR
    have hF12 : nF N ≤ 12 := hW.2.2.2.2.2
    have hN4 : nN N ≤ 4 := hW.2.1.2
    have hC6 : nC N ≤ 6 := hW.1.2
    have hT3 : nT N ≤ 3 := hW.2.2.1.2
    have hP8 : nP N ≤ 8 := hW.2.2.2.1.2
    by_cases ck1 : inR f 0 (N 10 - 1)
    · skip
      obtain ⟨jf, hjf, rfl⟩ := in_ex hW.2.2.2.2.1 (Nat.le_trans hF12 (by decide)) ck1
      have bjf : jf < 2000 := Nat.lt_of_lt_of_le hjf (Nat.le_trans hF12 (by decide))
      refine A_of rfl (by decide) (Nat.le_of_ble_eq_true rfl) (L0 := [(0, .ref x), (1, .int (nI jf))]) rfl ?_
      refine A_wfh (fun wσ hgσ => ?_)
      have yσ : ext σ σ := ext.rf
      refine A_aload_n (i := 0) dX1_writeFlag_0 rfl rfl ?_
      refine A_iload_n (i := 1) dX1_writeFlag_1 rfl rfl ?_
      refine A_callV1E (b' := 306) (v := some (.ref (wF W jf))) (τ := σ) (c_checkFlag σ x bf dq sv ou bd pe ep W N jf hX hR9 hD hjf) tX1_checkFlag q1490 hX rfl rfl dX1_writeFlag_2 (by decide) (Nat.le_of_ble_eq_true rfl) (Nat.le_of_ble_eq_true rfl) ?_
      refine A_astore_n (i := 2) dX1_writeFlag_5 rfl (Nat.le_of_ble_eq_true rfl) ?_
      refine A_aload_n (i := 0) dX1_writeFlag_6 rfl rfl ?_
      refine A_getf cb_X1 hX 7 (Nat.le_of_ble_eq_true rfl) q245 rfl (v := .ref ou) rfl dX1_writeFlag_7 ?_
      refine A_iconst (v := 0) dX1_writeFlag_10 (by decide) ?_
      refine A_callV1 (b' := 288) (c_sbSet σ σ ou sa0 lp (hS.sx.ex wσ yσ) hp70) tJ3_setLength q1928 hS.1 rfl rfl dX1_writeFlag_11 (by decide) (Nat.le_of_ble_eq_true rfl) (Nat.le_of_ble_eq_true rfl) (fun w9 θ1 h1 => ?_) (fun E9 q9 τ9 h9 => h9.elim)
      obtain ⟨e9, sθ1⟩ := h1
      subst e9
      refine A_wfh (fun wθ1 hgθ1 => ?_)
      have kθ1 : fra [ou, sa0] σ θ1 := sθ1.fr
      have hRθ1 : RW g θ1 W N := hR9.nw (hS.nw wσ kθ1)
      have fxθ1 : θ1.1 x = some (.inr (.inl (0, [.ref bf, .int bd, .int pe, .int ep, .ref (wW W), .ref dq, .ref sv, .ref ou]))) := hS.keep wσ kθ1 hX (fun vs q => by simp at q) (fun n f q => by simp at q)
      obtain ⟨saθ1, mlθ1, foθ1⟩ := sθ1.cell
      have hRc := hRθ1
      obtain ⟨h1θ1, ⟨frθ1, h2θ1, h2pθ1⟩, ⟨fmθ1, h3θ1, h3pθ1⟩, ⟨mcnθ1, fnAθ1, h4θ1, h4pθ1, h4qθ1⟩, ⟨mcfθ1, ffAθ1, h5θ1, h5pθ1, h5qθ1⟩, ⟨fuθ1, h6θ1, h6pθ1⟩, h7θ1, h8θ1, h9θ1, h10θ1, h11θ1⟩ := hRc
      have fθ1θ1_0 : θ1.1 (wW W) = some (.inr (.inl (4, [.int (N 9), .ref (wR W), .ref (wM W), .ref (wNL W), .ref (wFL W), .ref (wUN W), .int (N 6), .int (N 8), .int (N 0), .int (N 1), .int (N 2), .int (N 3), .int (N 4), .int (N 5), .int (N 11)]))) := h1θ1
      have fθ1θ1_1 : θ1.1 (wFL W) = some (.inr (.inl (14, [.int mcfθ1, .ref (wFA W), .int (nI (nF N))]))) := h5θ1
      have fθ1θ1_2 : θ1.1 (wFA W) = some (.inl (.object "java/lang/Object", 12, .inr (.inr (.inr (.inr ffAθ1))))) := h5pθ1
      have fθ1θ1_3 : θ1.1 (wNL W) = some (.inr (.inl (14, [.int mcnθ1, .ref (wNA W), .int (nI (nN N))]))) := h4θ1
      have fθ1θ1_4 : θ1.1 (wNA W) = some (.inl (.object "java/lang/Object", 4, .inr (.inr (.inr (.inr fnAθ1))))) := h4pθ1
      have fθ1θ1_5 : θ1.1 (wR W) = some (.inl (.int, 6, .inl frθ1)) := h2θ1
      have fθ1θ1_6 : θ1.1 (wM W) = some (.inl (.int, 3, .inl fmθ1)) := h3θ1
      have fθ1θ1_7 : θ1.1 (wUN W) = some (.inl (.object "FlagLaundry$Test", 7, .inr (.inr (.inr (.inr fuθ1))))) := h6θ1
      have pθ1 : (nl).length ≤ 0 := Nat.le_refl 0
      refine A_aload_n (i := 0) dX1_writeFlag_14 rfl rfl ?_
      refine A_getf cb_X1 fxθ1 7 (Nat.le_of_ble_eq_true rfl) q245 rfl (v := .ref ou) rfl dX1_writeFlag_15 ?_
      refine A_gok (fun hgk => ?_)
      obtain ⟨ac9, hl9, hs9⟩ := litL435 hgk
      refine A_ldcwO hl9 dX1_writeFlag_18 ?_
      refine A_aload_n (i := 2) dX1_writeFlag_21 rfl rfl ?_
      refine A_getfN cb_X7 (hRθ1.2.2.2.2.2.2.1 jf hjf) 8 (Nat.le_of_ble_eq_true rfl) q1122 rfl (v := .ref (wP W jf)) rfl dX1_writeFlag_22 ?_
      refine A_callS1E (b' := 288) (v := some (.int (fl N jf 8))) (τ := θ1) (c_kindOf θ1 (wP W jf) (fl N jf) (hRθ1.2.2.2.2.2.2.2.1 jf hjf) (flok_k hD hjf)) tX1_kindOf q1494 dX1_writeFlag_25 (by decide) (Nat.le_of_ble_eq_true rfl) (Nat.le_of_ble_eq_true rfl) ?_
      refine A_callVO1E (b' := 288) (v := some (.int (b8 (letN (fl N jf 8))))) (τ := θ1) (c_kch θ1 ac9 (fl N jf 8) hs9 (flok_k hD hjf)) tJ4_charAt q1981 hs9.choose_spec.1 dX1_writeFlag_28 (by decide) (Nat.le_of_ble_eq_true rfl) (Nat.le_of_ble_eq_true rfl) ?_
      refine A_callV1 (b' := 270) (c_sbApCv θ1 σ ou sa0 (b8 (letN (fl N jf 8))) nl sθ1 (letK (flok_k hD hjf)) (by have k := pθ1; omega)) tJ3_append q1992 foθ1 rfl rfl dX1_writeFlag_31 (by decide) (Nat.le_of_ble_eq_true rfl) (Nat.le_of_ble_eq_true rfl) (fun w9 θ2 h2 => ?_) (fun E9 q9 τ9 h9 => h9.elim)
      obtain ⟨e9, sθ2⟩ := h2
      subst e9
      refine A_wfh (fun wθ2 hgθ2 => ?_)
      have kθ2 : fra [ou, sa0] σ θ2 := sθ2.fr
      have hRθ2 : RW g θ2 W N := hR9.nw (hS.nw wσ kθ2)
      have fxθ2 : θ2.1 x = some (.inr (.inl (0, [.ref bf, .int bd, .int pe, .int ep, .ref (wW W), .ref dq, .ref sv, .ref ou]))) := hS.keep wσ kθ2 hX (fun vs q => by simp at q) (fun n f q => by simp at q)
      obtain ⟨saθ2, mlθ2, foθ2⟩ := sθ2.cell
      have hRc := hRθ2
      obtain ⟨h1θ2, ⟨frθ2, h2θ2, h2pθ2⟩, ⟨fmθ2, h3θ2, h3pθ2⟩, ⟨mcnθ2, fnAθ2, h4θ2, h4pθ2, h4qθ2⟩, ⟨mcfθ2, ffAθ2, h5θ2, h5pθ2, h5qθ2⟩, ⟨fuθ2, h6θ2, h6pθ2⟩, h7θ2, h8θ2, h9θ2, h10θ2, h11θ2⟩ := hRc
      have fθ2θ2_0 : θ2.1 (wW W) = some (.inr (.inl (4, [.int (N 9), .ref (wR W), .ref (wM W), .ref (wNL W), .ref (wFL W), .ref (wUN W), .int (N 6), .int (N 8), .int (N 0), .int (N 1), .int (N 2), .int (N 3), .int (N 4), .int (N 5), .int (N 11)]))) := h1θ2
      have fθ2θ2_1 : θ2.1 (wFL W) = some (.inr (.inl (14, [.int mcfθ2, .ref (wFA W), .int (nI (nF N))]))) := h5θ2
      have fθ2θ2_2 : θ2.1 (wFA W) = some (.inl (.object "java/lang/Object", 12, .inr (.inr (.inr (.inr ffAθ2))))) := h5pθ2
      have fθ2θ2_3 : θ2.1 (wNL W) = some (.inr (.inl (14, [.int mcnθ2, .ref (wNA W), .int (nI (nN N))]))) := h4θ2
      have fθ2θ2_4 : θ2.1 (wNA W) = some (.inl (.object "java/lang/Object", 4, .inr (.inr (.inr (.inr fnAθ2))))) := h4pθ2
      have fθ2θ2_5 : θ2.1 (wR W) = some (.inl (.int, 6, .inl frθ2)) := h2θ2
      have fθ2θ2_6 : θ2.1 (wM W) = some (.inl (.int, 3, .inl fmθ2)) := h3θ2
      have fθ2θ2_7 : θ2.1 (wUN W) = some (.inl (.object "FlagLaundry$Test", 7, .inr (.inr (.inr (.inr fuθ2))))) := h6θ2
      have pθ2 : (nl ++ [(b8 (letN (fl N jf 8)))]).length ≤ 0 + 1 := len1 pθ1
      refine A_aload_n (i := 2) dX1_writeFlag_34 rfl rfl ?_
      refine A_getfN cb_X7 (hRθ2.2.2.2.2.2.2.1 jf hjf) 3 (Nat.le_of_ble_eq_true rfl) q1107 rfl (v := .int (fl N jf 3)) rfl dX1_writeFlag_35 ?_
      refine A_callV1 (b' := 252) (c_sbApIv θ2 σ ou sa0 (fl N jf 3) (nl ++ [(b8 (letN (fl N jf 8)))]) sθ2 (k9 (hD.2 jf hjf).2.2.2.1) (by have k := pθ2; omega)) tJ3_append_2 q1993 foθ2 rfl rfl dX1_writeFlag_38 (by decide) (Nat.le_of_ble_eq_true rfl) (Nat.le_of_ble_eq_true rfl) (fun w9 θ3 h3 => ?_) (fun E9 q9 τ9 h9 => h9.elim)
      obtain ⟨e9, sθ3⟩ := h3
      subst e9
      refine A_wfh (fun wθ3 hgθ3 => ?_)
      have kθ3 : fra [ou, sa0] σ θ3 := sθ3.fr
      have hRθ3 : RW g θ3 W N := hR9.nw (hS.nw wσ kθ3)
      have fxθ3 : θ3.1 x = some (.inr (.inl (0, [.ref bf, .int bd, .int pe, .int ep, .ref (wW W), .ref dq, .ref sv, .ref ou]))) := hS.keep wσ kθ3 hX (fun vs q => by simp at q) (fun n f q => by simp at q)
      obtain ⟨saθ3, mlθ3, foθ3⟩ := sθ3.cell
      have hRc := hRθ3
      obtain ⟨h1θ3, ⟨frθ3, h2θ3, h2pθ3⟩, ⟨fmθ3, h3θ3, h3pθ3⟩, ⟨mcnθ3, fnAθ3, h4θ3, h4pθ3, h4qθ3⟩, ⟨mcfθ3, ffAθ3, h5θ3, h5pθ3, h5qθ3⟩, ⟨fuθ3, h6θ3, h6pθ3⟩, h7θ3, h8θ3, h9θ3, h10θ3, h11θ3⟩ := hRc
      have fθ3θ3_0 : θ3.1 (wW W) = some (.inr (.inl (4, [.int (N 9), .ref (wR W), .ref (wM W), .ref (wNL W), .ref (wFL W), .ref (wUN W), .int (N 6), .int (N 8), .int (N 0), .int (N 1), .int (N 2), .int (N 3), .int (N 4), .int (N 5), .int (N 11)]))) := h1θ3
      have fθ3θ3_1 : θ3.1 (wFL W) = some (.inr (.inl (14, [.int mcfθ3, .ref (wFA W), .int (nI (nF N))]))) := h5θ3
      have fθ3θ3_2 : θ3.1 (wFA W) = some (.inl (.object "java/lang/Object", 12, .inr (.inr (.inr (.inr ffAθ3))))) := h5pθ3
      have fθ3θ3_3 : θ3.1 (wNL W) = some (.inr (.inl (14, [.int mcnθ3, .ref (wNA W), .int (nI (nN N))]))) := h4θ3
      have fθ3θ3_4 : θ3.1 (wNA W) = some (.inl (.object "java/lang/Object", 4, .inr (.inr (.inr (.inr fnAθ3))))) := h4pθ3
      have fθ3θ3_5 : θ3.1 (wR W) = some (.inl (.int, 6, .inl frθ3)) := h2θ3
      have fθ3θ3_6 : θ3.1 (wM W) = some (.inl (.int, 3, .inl fmθ3)) := h3θ3
      have fθ3θ3_7 : θ3.1 (wUN W) = some (.inl (.object "FlagLaundry$Test", 7, .inr (.inr (.inr (.inr fuθ3))))) := h6θ3
      have pθ3 : (nl ++ [(b8 (letN (fl N jf 8)))] ++ numI (fl N jf 3)).length ≤ 0 + 1 + 2 := len2 pθ2
      refine A_aload_n (i := 2) dX1_writeFlag_41 rfl rfl ?_
      refine A_getfN cb_X7 (hRθ3.2.2.2.2.2.2.1 jf hjf) 4 (Nat.le_of_ble_eq_true rfl) q1110 rfl (v := .int (fl N jf 4)) rfl dX1_writeFlag_42 ?_
      refine A_callV1 (b' := 234) (c_sbApIv θ3 σ ou sa0 (fl N jf 4) (nl ++ [(b8 (letN (fl N jf 8)))] ++ numI (fl N jf 3)) sθ3 (k9 (hD.2 jf hjf).2.2.2.2.1) (by have k := pθ3; omega)) tJ3_append_2 q1993 foθ3 rfl rfl dX1_writeFlag_45 (by decide) (Nat.le_of_ble_eq_true rfl) (Nat.le_of_ble_eq_true rfl) (fun w9 θ4 h4 => ?_) (fun E9 q9 τ9 h9 => h9.elim)
      obtain ⟨e9, sθ4⟩ := h4
      subst e9
      refine A_wfh (fun wθ4 hgθ4 => ?_)
      have kθ4 : fra [ou, sa0] σ θ4 := sθ4.fr
      have hRθ4 : RW g θ4 W N := hR9.nw (hS.nw wσ kθ4)
      have fxθ4 : θ4.1 x = some (.inr (.inl (0, [.ref bf, .int bd, .int pe, .int ep, .ref (wW W), .ref dq, .ref sv, .ref ou]))) := hS.keep wσ kθ4 hX (fun vs q => by simp at q) (fun n f q => by simp at q)
      obtain ⟨saθ4, mlθ4, foθ4⟩ := sθ4.cell
      have hRc := hRθ4
      obtain ⟨h1θ4, ⟨frθ4, h2θ4, h2pθ4⟩, ⟨fmθ4, h3θ4, h3pθ4⟩, ⟨mcnθ4, fnAθ4, h4θ4, h4pθ4, h4qθ4⟩, ⟨mcfθ4, ffAθ4, h5θ4, h5pθ4, h5qθ4⟩, ⟨fuθ4, h6θ4, h6pθ4⟩, h7θ4, h8θ4, h9θ4, h10θ4, h11θ4⟩ := hRc
      have fθ4θ4_0 : θ4.1 (wW W) = some (.inr (.inl (4, [.int (N 9), .ref (wR W), .ref (wM W), .ref (wNL W), .ref (wFL W), .ref (wUN W), .int (N 6), .int (N 8), .int (N 0), .int (N 1), .int (N 2), .int (N 3), .int (N 4), .int (N 5), .int (N 11)]))) := h1θ4
      have fθ4θ4_1 : θ4.1 (wFL W) = some (.inr (.inl (14, [.int mcfθ4, .ref (wFA W), .int (nI (nF N))]))) := h5θ4
      have fθ4θ4_2 : θ4.1 (wFA W) = some (.inl (.object "java/lang/Object", 12, .inr (.inr (.inr (.inr ffAθ4))))) := h5pθ4
      have fθ4θ4_3 : θ4.1 (wNL W) = some (.inr (.inl (14, [.int mcnθ4, .ref (wNA W), .int (nI (nN N))]))) := h4θ4
      have fθ4θ4_4 : θ4.1 (wNA W) = some (.inl (.object "java/lang/Object", 4, .inr (.inr (.inr (.inr fnAθ4))))) := h4pθ4
      have fθ4θ4_5 : θ4.1 (wR W) = some (.inl (.int, 6, .inl frθ4)) := h2θ4
      have fθ4θ4_6 : θ4.1 (wM W) = some (.inl (.int, 3, .inl fmθ4)) := h3θ4
      have fθ4θ4_7 : θ4.1 (wUN W) = some (.inl (.object "FlagLaundry$Test", 7, .inr (.inr (.inr (.inr fuθ4))))) := h6θ4
      have pθ4 : (nl ++ [(b8 (letN (fl N jf 8)))] ++ numI (fl N jf 3) ++ numI (fl N jf 4)).length ≤ 0 + 1 + 2 + 2 := len2 pθ3
      refine A_aload_n (i := 2) dX1_writeFlag_48 rfl rfl ?_
      refine A_getfN cb_X7 (hRθ4.2.2.2.2.2.2.1 jf hjf) 5 (Nat.le_of_ble_eq_true rfl) q1112 rfl (v := .int (fl N jf 5)) rfl dX1_writeFlag_49 ?_
      refine A_callV1 (b' := 216) (c_sbApIv θ4 σ ou sa0 (fl N jf 5) (nl ++ [(b8 (letN (fl N jf 8)))] ++ numI (fl N jf 3) ++ numI (fl N jf 4)) sθ4 (k9 (hD.2 jf hjf).2.2.2.2.2.1) (by have k := pθ4; omega)) tJ3_append_2 q1993 foθ4 rfl rfl dX1_writeFlag_52 (by decide) (Nat.le_of_ble_eq_true rfl) (Nat.le_of_ble_eq_true rfl) (fun w9 θ5 h5 => ?_) (fun E9 q9 τ9 h9 => h9.elim)
      obtain ⟨e9, sθ5⟩ := h5
      subst e9
      refine A_wfh (fun wθ5 hgθ5 => ?_)
      have kθ5 : fra [ou, sa0] σ θ5 := sθ5.fr
      have hRθ5 : RW g θ5 W N := hR9.nw (hS.nw wσ kθ5)
      have fxθ5 : θ5.1 x = some (.inr (.inl (0, [.ref bf, .int bd, .int pe, .int ep, .ref (wW W), .ref dq, .ref sv, .ref ou]))) := hS.keep wσ kθ5 hX (fun vs q => by simp at q) (fun n f q => by simp at q)
      obtain ⟨saθ5, mlθ5, foθ5⟩ := sθ5.cell
      have hRc := hRθ5
      obtain ⟨h1θ5, ⟨frθ5, h2θ5, h2pθ5⟩, ⟨fmθ5, h3θ5, h3pθ5⟩, ⟨mcnθ5, fnAθ5, h4θ5, h4pθ5, h4qθ5⟩, ⟨mcfθ5, ffAθ5, h5θ5, h5pθ5, h5qθ5⟩, ⟨fuθ5, h6θ5, h6pθ5⟩, h7θ5, h8θ5, h9θ5, h10θ5, h11θ5⟩ := hRc
      have fθ5θ5_0 : θ5.1 (wW W) = some (.inr (.inl (4, [.int (N 9), .ref (wR W), .ref (wM W), .ref (wNL W), .ref (wFL W), .ref (wUN W), .int (N 6), .int (N 8), .int (N 0), .int (N 1), .int (N 2), .int (N 3), .int (N 4), .int (N 5), .int (N 11)]))) := h1θ5
      have fθ5θ5_1 : θ5.1 (wFL W) = some (.inr (.inl (14, [.int mcfθ5, .ref (wFA W), .int (nI (nF N))]))) := h5θ5
      have fθ5θ5_2 : θ5.1 (wFA W) = some (.inl (.object "java/lang/Object", 12, .inr (.inr (.inr (.inr ffAθ5))))) := h5pθ5
      have fθ5θ5_3 : θ5.1 (wNL W) = some (.inr (.inl (14, [.int mcnθ5, .ref (wNA W), .int (nI (nN N))]))) := h4θ5
      have fθ5θ5_4 : θ5.1 (wNA W) = some (.inl (.object "java/lang/Object", 4, .inr (.inr (.inr (.inr fnAθ5))))) := h4pθ5
      have fθ5θ5_5 : θ5.1 (wR W) = some (.inl (.int, 6, .inl frθ5)) := h2θ5
      have fθ5θ5_6 : θ5.1 (wM W) = some (.inl (.int, 3, .inl fmθ5)) := h3θ5
      have fθ5θ5_7 : θ5.1 (wUN W) = some (.inl (.object "FlagLaundry$Test", 7, .inr (.inr (.inr (.inr fuθ5))))) := h6θ5
      have pθ5 : (nl ++ [(b8 (letN (fl N jf 8)))] ++ numI (fl N jf 3) ++ numI (fl N jf 4) ++ numI (fl N jf 5)).length ≤ 0 + 1 + 2 + 2 + 2 := len2 pθ4
      refine A_pop dX1_writeFlag_55 rfl ?_
      refine A_iconst (v := 0) dX1_writeFlag_56 (by decide) ?_
      refine A_istore_n (i := 3) dX1_writeFlag_57 rfl (Nat.le_of_ble_eq_true rfl) ?_
      refine A_less (b' := ((nC N) - 0) * 36 + 0) (by omega) ?_
      refine A_sub (L' := [(0, .ref x), (1, .int (nI jf)), (2, .ref (wF W jf)), (3, .int (nI 0))]) ⟨rfl, rfl, rfl, rfl, trivial⟩ ?_
      refine A_forP (α := AH) (nC N) (fun i58 _ => ((nC N) - i58) * 36 + 0) (fun i58 _ => [(0, .ref x), (1, .int (nI jf)), (2, .ref (wF W jf)), (3, .int (nI i58))]) (fun _ τ58 => τ58) (fun i58 τ58 => SX σ ou sa0 τ58 (txF N jf i58) (txF N jf i58).length) θ5 (sθ5.room) (fun i58 τ58 hi58 hI58 ih58 => ?_) (fun τ58 hI58 => ?_)
      · skip
        refine A_less (b' := ((nC N) - (i58 + 1)) * 36 + 0 + 36) (by omega) ?_
        have sτ58 := hI58
        refine A_wfh (fun wτ58 hgτ58 => ?_)
        have kτ58 : fra [ou, sa0] σ τ58 := sτ58.fr
        have hRτ58 : RW g τ58 W N := hR9.nw (hS.nw wσ kτ58)
        have fxτ58 : τ58.1 x = some (.inr (.inl (0, [.ref bf, .int bd, .int pe, .int ep, .ref (wW W), .ref dq, .ref sv, .ref ou]))) := hS.keep wσ kτ58 hX (fun vs q => by simp at q) (fun n f q => by simp at q)
        obtain ⟨saτ58, mlτ58, foτ58⟩ := sτ58.cell
        have hRc := hRτ58
        obtain ⟨h1τ58, ⟨frτ58, h2τ58, h2pτ58⟩, ⟨fmτ58, h3τ58, h3pτ58⟩, ⟨mcnτ58, fnAτ58, h4τ58, h4pτ58, h4qτ58⟩, ⟨mcfτ58, ffAτ58, h5τ58, h5pτ58, h5qτ58⟩, ⟨fuτ58, h6τ58, h6pτ58⟩, h7τ58, h8τ58, h9τ58, h10τ58, h11τ58⟩ := hRc
        have fτ58τ58_0 : τ58.1 (wW W) = some (.inr (.inl (4, [.int (N 9), .ref (wR W), .ref (wM W), .ref (wNL W), .ref (wFL W), .ref (wUN W), .int (N 6), .int (N 8), .int (N 0), .int (N 1), .int (N 2), .int (N 3), .int (N 4), .int (N 5), .int (N 11)]))) := h1τ58
        have fτ58τ58_1 : τ58.1 (wFL W) = some (.inr (.inl (14, [.int mcfτ58, .ref (wFA W), .int (nI (nF N))]))) := h5τ58
        have fτ58τ58_2 : τ58.1 (wFA W) = some (.inl (.object "java/lang/Object", 12, .inr (.inr (.inr (.inr ffAτ58))))) := h5pτ58
        have fτ58τ58_3 : τ58.1 (wNL W) = some (.inr (.inl (14, [.int mcnτ58, .ref (wNA W), .int (nI (nN N))]))) := h4τ58
        have fτ58τ58_4 : τ58.1 (wNA W) = some (.inl (.object "java/lang/Object", 4, .inr (.inr (.inr (.inr fnAτ58))))) := h4pτ58
        have fτ58τ58_5 : τ58.1 (wR W) = some (.inl (.int, 6, .inl frτ58)) := h2τ58
        have fτ58τ58_6 : τ58.1 (wM W) = some (.inl (.int, 3, .inl fmτ58)) := h3τ58
        have fτ58τ58_7 : τ58.1 (wUN W) = some (.inl (.object "FlagLaundry$Test", 7, .inr (.inr (.inr (.inr fuτ58))))) := h6τ58
        have pτ58 : (txF N jf i58).length ≤ 7 + 3 * i58 := txF_le N jf i58
        refine A_iload_n (i := 3) dX1_writeFlag_58 rfl rfl ?_
        refine A_aload_n (i := 0) dX1_writeFlag_59 rfl rfl ?_
        refine A_getf cb_X1 fxτ58 4 (Nat.le_of_ble_eq_true rfl) q242 rfl (v := .ref (wW W)) rfl dX1_writeFlag_60 ?_
        refine A_getfN cb_X5 fτ58τ58_0 6 (Nat.le_of_ble_eq_true rfl) q839 rfl (v := .int (N 6)) rfl dX1_writeFlag_63 ?_
        refine A_icmp_ge_f (tgt := 100) dX1_writeFlag_66 (by decide) (br_lt hW.1.1 hi58 (by omega)) ?_
        refine A_aload_n (i := 2) dX1_writeFlag_69 rfl rfl ?_
        refine A_getfN cb_X7 (hRτ58.2.2.2.2.2.2.1 jf hjf) 6 (Nat.le_of_ble_eq_true rfl) q1116 rfl (v := .int (fl N jf 6)) rfl dX1_writeFlag_70 ?_
        refine A_iload_n (i := 3) dX1_writeFlag_73 rfl rfl ?_
        refine A_callS2E (b' := ((nC N) - (i58 + 1)) * 36 + 0 + 36) (v := some (.int (bi (hasB (fl N jf 6) (nI i58))))) (τ := τ58) (c_has1 τ58 (fl N jf 6) (nI i58)) tX1_has q1444 dX1_writeFlag_74 (by decide) (by omega) (Nat.le_of_ble_eq_true rfl) ?_
        refine A_if_eq (tgt := 94) dX1_writeFlag_77 (by decide) (fun c1 => ?_) (fun c1 => ?_)
        · skip
          have c1 := bi_eq0.mp c1
          refine A_iinc (v := nI (i58 + 1)) dX1_writeFlag_94 rfl (nI_inc _ _) (Nat.le_of_ble_eq_true rfl) ?_
          refine A_goto (tgt := 58) dX1_writeFlag_97 (by decide) ?_
          have sx9 : SX σ ou sa0 τ58 (txF N jf (i58 + 1)) (txF N jf (i58 + 1)).length := by rw [txF_s, if_neg c1]; exact sτ58.room
          refine A_less (b' := ((nC N) - (i58 + 1)) * 36 + 0) (by omega) ?_
          refine A_sub (L' := [(0, .ref x), (1, .int (nI jf)), (2, .ref (wF W jf)), (3, .int (nI (i58 + 1)))]) ⟨rfl, rfl, rfl, rfl, trivial⟩ ?_
          exact ih58 τ58 sx9
        · skip
          have c1 := bi_ne0.mp c1
          refine A_aload_n (i := 0) dX1_writeFlag_80 rfl rfl ?_
          refine A_getf cb_X1 fxτ58 7 (Nat.le_of_ble_eq_true rfl) q245 rfl (v := .ref ou) rfl dX1_writeFlag_81 ?_
          refine A_bipush (v := 43) dX1_writeFlag_84 (by decide) ?_
          refine A_int (w := (b8 43)) (by decide) ?_
          refine A_callV1 (b' := ((nC N) - (i58 + 1)) * 36 + 0 + 18) (c_sbApCv τ58 σ ou sa0 (b8 43) (txF N jf i58) sτ58 ⟨43, by decide, by decide⟩ (by have k := pτ58; omega)) tJ3_append q1992 foτ58 rfl rfl dX1_writeFlag_86 (by decide) (by omega) (Nat.le_of_ble_eq_true rfl) (fun w9 θ6 h6 => ?_) (fun E9 q9 τ9 h9 => h9.elim)
          obtain ⟨e9, sθ6⟩ := h6
          subst e9
          refine A_wfh (fun wθ6 hgθ6 => ?_)
          have kθ6 : fra [ou, sa0] σ θ6 := sθ6.fr
          have hRθ6 : RW g θ6 W N := hR9.nw (hS.nw wσ kθ6)
          have fxθ6 : θ6.1 x = some (.inr (.inl (0, [.ref bf, .int bd, .int pe, .int ep, .ref (wW W), .ref dq, .ref sv, .ref ou]))) := hS.keep wσ kθ6 hX (fun vs q => by simp at q) (fun n f q => by simp at q)
          obtain ⟨saθ6, mlθ6, foθ6⟩ := sθ6.cell
          have hRc := hRθ6
          obtain ⟨h1θ6, ⟨frθ6, h2θ6, h2pθ6⟩, ⟨fmθ6, h3θ6, h3pθ6⟩, ⟨mcnθ6, fnAθ6, h4θ6, h4pθ6, h4qθ6⟩, ⟨mcfθ6, ffAθ6, h5θ6, h5pθ6, h5qθ6⟩, ⟨fuθ6, h6θ6, h6pθ6⟩, h7θ6, h8θ6, h9θ6, h10θ6, h11θ6⟩ := hRc
          have fθ6θ6_0 : θ6.1 (wW W) = some (.inr (.inl (4, [.int (N 9), .ref (wR W), .ref (wM W), .ref (wNL W), .ref (wFL W), .ref (wUN W), .int (N 6), .int (N 8), .int (N 0), .int (N 1), .int (N 2), .int (N 3), .int (N 4), .int (N 5), .int (N 11)]))) := h1θ6
          have fθ6θ6_1 : θ6.1 (wFL W) = some (.inr (.inl (14, [.int mcfθ6, .ref (wFA W), .int (nI (nF N))]))) := h5θ6
          have fθ6θ6_2 : θ6.1 (wFA W) = some (.inl (.object "java/lang/Object", 12, .inr (.inr (.inr (.inr ffAθ6))))) := h5pθ6
          have fθ6θ6_3 : θ6.1 (wNL W) = some (.inr (.inl (14, [.int mcnθ6, .ref (wNA W), .int (nI (nN N))]))) := h4θ6
          have fθ6θ6_4 : θ6.1 (wNA W) = some (.inl (.object "java/lang/Object", 4, .inr (.inr (.inr (.inr fnAθ6))))) := h4pθ6
          have fθ6θ6_5 : θ6.1 (wR W) = some (.inl (.int, 6, .inl frθ6)) := h2θ6
          have fθ6θ6_6 : θ6.1 (wM W) = some (.inl (.int, 3, .inl fmθ6)) := h3θ6
          have fθ6θ6_7 : θ6.1 (wUN W) = some (.inl (.object "FlagLaundry$Test", 7, .inr (.inr (.inr (.inr fuθ6))))) := h6θ6
          have pθ6 : (txF N jf i58 ++ [(b8 43)]).length ≤ 7 + 3 * i58 + 1 := len1 pτ58
          refine A_iload_n (i := 3) dX1_writeFlag_89 rfl rfl ?_
          refine A_callV1 (b' := ((nC N) - (i58 + 1)) * 36 + 0 + 0) (c_sbApIv θ6 σ ou sa0 (nI i58) (txF N jf i58 ++ [(b8 43)]) sθ6 (k100 (by omega)) (by have k := pθ6; omega)) tJ3_append_2 q1993 foθ6 rfl rfl dX1_writeFlag_90 (by decide) (by omega) (Nat.le_of_ble_eq_true rfl) (fun w9 θ7 h7 => ?_) (fun E9 q9 τ9 h9 => h9.elim)
          obtain ⟨e9, sθ7⟩ := h7
          subst e9
          refine A_wfh (fun wθ7 hgθ7 => ?_)
          have kθ7 : fra [ou, sa0] σ θ7 := sθ7.fr
          have hRθ7 : RW g θ7 W N := hR9.nw (hS.nw wσ kθ7)
          have fxθ7 : θ7.1 x = some (.inr (.inl (0, [.ref bf, .int bd, .int pe, .int ep, .ref (wW W), .ref dq, .ref sv, .ref ou]))) := hS.keep wσ kθ7 hX (fun vs q => by simp at q) (fun n f q => by simp at q)
          obtain ⟨saθ7, mlθ7, foθ7⟩ := sθ7.cell
          have hRc := hRθ7
          obtain ⟨h1θ7, ⟨frθ7, h2θ7, h2pθ7⟩, ⟨fmθ7, h3θ7, h3pθ7⟩, ⟨mcnθ7, fnAθ7, h4θ7, h4pθ7, h4qθ7⟩, ⟨mcfθ7, ffAθ7, h5θ7, h5pθ7, h5qθ7⟩, ⟨fuθ7, h6θ7, h6pθ7⟩, h7θ7, h8θ7, h9θ7, h10θ7, h11θ7⟩ := hRc
          have fθ7θ7_0 : θ7.1 (wW W) = some (.inr (.inl (4, [.int (N 9), .ref (wR W), .ref (wM W), .ref (wNL W), .ref (wFL W), .ref (wUN W), .int (N 6), .int (N 8), .int (N 0), .int (N 1), .int (N 2), .int (N 3), .int (N 4), .int (N 5), .int (N 11)]))) := h1θ7
          have fθ7θ7_1 : θ7.1 (wFL W) = some (.inr (.inl (14, [.int mcfθ7, .ref (wFA W), .int (nI (nF N))]))) := h5θ7
          have fθ7θ7_2 : θ7.1 (wFA W) = some (.inl (.object "java/lang/Object", 12, .inr (.inr (.inr (.inr ffAθ7))))) := h5pθ7
          have fθ7θ7_3 : θ7.1 (wNL W) = some (.inr (.inl (14, [.int mcnθ7, .ref (wNA W), .int (nI (nN N))]))) := h4θ7
          have fθ7θ7_4 : θ7.1 (wNA W) = some (.inl (.object "java/lang/Object", 4, .inr (.inr (.inr (.inr fnAθ7))))) := h4pθ7
          have fθ7θ7_5 : θ7.1 (wR W) = some (.inl (.int, 6, .inl frθ7)) := h2θ7
          have fθ7θ7_6 : θ7.1 (wM W) = some (.inl (.int, 3, .inl fmθ7)) := h3θ7
          have fθ7θ7_7 : θ7.1 (wUN W) = some (.inl (.object "FlagLaundry$Test", 7, .inr (.inr (.inr (.inr fuθ7))))) := h6θ7
          have pθ7 : (txF N jf i58 ++ [(b8 43)] ++ numI (nI i58)).length ≤ 7 + 3 * i58 + 1 + 2 := len2 pθ6
          refine A_pop dX1_writeFlag_93 rfl ?_
          refine A_iinc (v := nI (i58 + 1)) dX1_writeFlag_94 rfl (nI_inc _ _) (Nat.le_of_ble_eq_true rfl) ?_
          refine A_goto (tgt := 58) dX1_writeFlag_97 (by decide) ?_
          have sx9 : SX σ ou sa0 θ7 (txF N jf (i58 + 1)) (txF N jf (i58 + 1)).length := by rw [txF_s, if_pos c1]; exact sθ7
          refine A_less (b' := ((nC N) - (i58 + 1)) * 36 + 0) (by omega) ?_
          refine A_sub (L' := [(0, .ref x), (1, .int (nI jf)), (2, .ref (wF W jf)), (3, .int (nI (i58 + 1)))]) ⟨rfl, rfl, rfl, rfl, trivial⟩ ?_
          exact ih58 θ7 sx9
      · skip
        refine A_less (b' := 0) (by omega) ?_
        have sτ58 := hI58
        refine A_wfh (fun wτ58 hgτ58 => ?_)
        have kτ58 : fra [ou, sa0] σ τ58 := sτ58.fr
        have hRτ58 : RW g τ58 W N := hR9.nw (hS.nw wσ kτ58)
        have fxτ58 : τ58.1 x = some (.inr (.inl (0, [.ref bf, .int bd, .int pe, .int ep, .ref (wW W), .ref dq, .ref sv, .ref ou]))) := hS.keep wσ kτ58 hX (fun vs q => by simp at q) (fun n f q => by simp at q)
        obtain ⟨saτ58, mlτ58, foτ58⟩ := sτ58.cell
        have hRc := hRτ58
        obtain ⟨h1τ58, ⟨frτ58, h2τ58, h2pτ58⟩, ⟨fmτ58, h3τ58, h3pτ58⟩, ⟨mcnτ58, fnAτ58, h4τ58, h4pτ58, h4qτ58⟩, ⟨mcfτ58, ffAτ58, h5τ58, h5pτ58, h5qτ58⟩, ⟨fuτ58, h6τ58, h6pτ58⟩, h7τ58, h8τ58, h9τ58, h10τ58, h11τ58⟩ := hRc
        have fτ58τ58_0 : τ58.1 (wW W) = some (.inr (.inl (4, [.int (N 9), .ref (wR W), .ref (wM W), .ref (wNL W), .ref (wFL W), .ref (wUN W), .int (N 6), .int (N 8), .int (N 0), .int (N 1), .int (N 2), .int (N 3), .int (N 4), .int (N 5), .int (N 11)]))) := h1τ58
        have fτ58τ58_1 : τ58.1 (wFL W) = some (.inr (.inl (14, [.int mcfτ58, .ref (wFA W), .int (nI (nF N))]))) := h5τ58
        have fτ58τ58_2 : τ58.1 (wFA W) = some (.inl (.object "java/lang/Object", 12, .inr (.inr (.inr (.inr ffAτ58))))) := h5pτ58
        have fτ58τ58_3 : τ58.1 (wNL W) = some (.inr (.inl (14, [.int mcnτ58, .ref (wNA W), .int (nI (nN N))]))) := h4τ58
        have fτ58τ58_4 : τ58.1 (wNA W) = some (.inl (.object "java/lang/Object", 4, .inr (.inr (.inr (.inr fnAτ58))))) := h4pτ58
        have fτ58τ58_5 : τ58.1 (wR W) = some (.inl (.int, 6, .inl frτ58)) := h2τ58
        have fτ58τ58_6 : τ58.1 (wM W) = some (.inl (.int, 3, .inl fmτ58)) := h3τ58
        have fτ58τ58_7 : τ58.1 (wUN W) = some (.inl (.object "FlagLaundry$Test", 7, .inr (.inr (.inr (.inr fuτ58))))) := h6τ58
        have pτ58 : (txF N jf (nC N)).length ≤ 7 + 3 * (nC N) := txF_le N jf (nC N)
        refine A_iload_n (i := 3) dX1_writeFlag_58 rfl rfl ?_
        refine A_aload_n (i := 0) dX1_writeFlag_59 rfl rfl ?_
        refine A_getf cb_X1 fxτ58 4 (Nat.le_of_ble_eq_true rfl) q242 rfl (v := .ref (wW W)) rfl dX1_writeFlag_60 ?_
        refine A_getfN cb_X5 fτ58τ58_0 6 (Nat.le_of_ble_eq_true rfl) q839 rfl (v := .int (N 6)) rfl dX1_writeFlag_63 ?_
        refine A_icmp_ge_t (tgt := 100) dX1_writeFlag_66 (by decide) (br_ge hW.1.1) ?_
        refine A_aload_n (i := 0) dX1_writeFlag_100 rfl rfl ?_
        refine A_getf cb_X1 fxτ58 7 (Nat.le_of_ble_eq_true rfl) q245 rfl (v := .ref ou) rfl dX1_writeFlag_101 ?_
        refine A_callV0E (b' := 0) (v := some (.int (nI (txF N jf (nC N)).length))) (τ := τ58) (c_sbLen τ58 σ ou sa0 (txF N jf (nC N)) sτ58.room) tJ3_length q1994 foτ58 rfl rfl dX1_writeFlag_104 (by decide) (Nat.le_of_ble_eq_true rfl) (Nat.le_of_ble_eq_true rfl) ?_
        exact A_iret dX1_writeFlag_107 rfl (⟨(mayQ_0 hs (bi_n ⟨hs, ck1⟩) (by decide)), by rw [ixn bjf] <;> rfl, by rw [ixn bjf]; exact sτ58⟩)
    · skip
      refine A_of rfl (by decide) (Nat.le_of_ble_eq_true rfl) (L0 := [(0, .ref x), (1, .int f)]) rfl ?_
      refine A_wfh (fun wσ hgσ => ?_)
      have yσ : ext σ σ := ext.rf
      refine A_aload_n (i := 0) dX1_writeFlag_0 rfl rfl ?_
      refine A_iload_n (i := 1) dX1_writeFlag_1 rfl rfl ?_
      refine A_callV1 (b' := 0) (c_checkFlag_no σ x bf dq sv ou bd pe ep W N f hX hR9 hD ck1) tX1_checkFlag q1490 hX rfl rfl dX1_writeFlag_2 (by decide) (Nat.le_of_ble_eq_true rfl) (Nat.le_of_ble_eq_true rfl) (fun w9 τ9 h9 => h9.elim) (fun E9 q9 τ9 h9 => A_out rfl (⟨yσ.tr h9.2, 1, by rw [h9.1]; rfl, by rw [(mayQ_2 hs (bi_f (fun h => ck1 h.2)))]; rfl⟩))
theorem q_writeTub {l : Launch} {g : GC} (σ : AH) (x bf dq sv ou : Nat) (bd pe ep : Int32) (is : Int32) (nv : Value) (W : WA) (N : AF) (t : Int32) (sa0 cap0 : Nat) (ml0 : Int32) (f0 : AF) (lp : List Int32) (hL : LD g σ is nv W N) (hX : σ.1 x = some (lauC bf bd pe ep nv dq sv ou)) (hS : SBd σ ou sa0 cap0 ml0 f0 lp) (hp70 : lp.length ≤ 70) (hIn : INS N) : AMet l g mX1_writeTub 36 740 [.ref x, .int t] σ (fun w τ => (mayT is (bi (okT is N t)) 1) = 0 ∧ w = some (.int (nI (orDash (txT N t (ix (manyT N t)))).length)) ∧ SX σ ou sa0 τ (orDash (txT N t (ix (manyT N t)))) (orDash (txT N t (ix (manyT N t)))).length) (A_thr ["java/lang/IllegalStateException", "java/lang/IndexOutOfBoundsException"] (mayT is (bi (okT is N t)) 1) σ) := by
  rcases hL with ⟨h0, hn⟩ | ⟨hs, hn, hR, hD, hw, hh⟩
  · subst hn
    refine A_of rfl (by decide) (Nat.le_of_ble_eq_true rfl) (L0 := [(0, .ref x), (1, .int t)]) rfl ?_
    refine A_wfh (fun wσ hgσ => ?_)
    have yσ : ext σ σ := ext.rf
    refine A_aload_n (i := 0) dX1_writeTub_0 rfl rfl ?_
    refine A_iload_n (i := 1) dX1_writeTub_1 rfl rfl ?_
    refine A_callV1 (b' := 0) (u_checkTub σ x bf dq sv ou bd pe ep t hX) tX1_checkTub q1505 hX rfl rfl dX1_writeTub_2 (by decide) (Nat.le_of_ble_eq_true rfl) (Nat.le_of_ble_eq_true rfl) (fun w9 τ9 h9 => h9.elim) (fun E9 q9 τ9 h9 => A_out rfl (⟨yσ.tr h9.2, 0, by rw [h9.1]; rfl, by rw [(mayQ_1 h0)]; rfl⟩))
  · subst hn
    have hW := hD.1
    have hR9 := hR
    obtain ⟨h1, ⟨fr, h2, h2p⟩, ⟨fm, h3, h3p⟩, ⟨mcn, fnA, h4, h4p, h4q⟩, ⟨mcf, ffA, h5, h5p, h5q⟩, ⟨fu, h6, h6p⟩, h7, h8, h9, h10, h11⟩ := hR
    have hF12 : nF N ≤ 12 := hW.2.2.2.2.2
    have hN4 : nN N ≤ 4 := hW.2.1.2
    have hC6 : nC N ≤ 6 := hW.1.2
    have hT3 : nT N ≤ 3 := hW.2.2.1.2
    have hP8 : nP N ≤ 8 := hW.2.2.2.1.2
    by_cases ck1 : inR t 0 (N 8 - 1)
    · skip
      obtain ⟨jt, hjt, rfl⟩ := in_ex hW.2.2.1.1 (Nat.le_trans hT3 (by decide)) ck1
      have bjt : jt < 2000 := Nat.lt_of_lt_of_le hjt (Nat.le_trans hT3 (by decide))
      obtain ⟨m, hm, em⟩ := manyT_ix (N := N) (t := nI jt)
      have hm12 : m ≤ 12 := Nat.le_trans hm hF12
      have em9 : ix (manyT N (nI jt)) = m := by rw [em]; exact nI_clamp (by omega)
      refine A_of rfl (by decide) (Nat.le_of_ble_eq_true rfl) (L0 := [(0, .ref x), (1, .int (nI jt))]) rfl ?_
      refine A_wfh (fun wσ hgσ => ?_)
      have yσ : ext σ σ := ext.rf
      refine A_aload_n (i := 0) dX1_writeTub_0 rfl rfl ?_
      refine A_iload_n (i := 1) dX1_writeTub_1 rfl rfl ?_
      refine A_callV1E (b' := 740) (v := some (.ref (wW W))) (τ := σ) (c_checkTub σ x bf dq sv ou bd pe ep W N jt hX hR9 hD hjt) tX1_checkTub q1505 hX rfl rfl dX1_writeTub_2 (by decide) (Nat.le_of_ble_eq_true rfl) (Nat.le_of_ble_eq_true rfl) ?_
      refine A_astore_n (i := 2) dX1_writeTub_5 rfl (Nat.le_of_ble_eq_true rfl) ?_
      refine A_aload_n (i := 0) dX1_writeTub_6 rfl rfl ?_
      refine A_getf cb_X1 hX 7 (Nat.le_of_ble_eq_true rfl) q245 rfl (v := .ref ou) rfl dX1_writeTub_7 ?_
      refine A_iconst (v := 0) dX1_writeTub_10 (by decide) ?_
      refine A_callV1 (b' := 722) (c_sbSet σ σ ou sa0 lp (hS.sx.ex wσ yσ) hp70) tJ3_setLength q1928 hS.1 rfl rfl dX1_writeTub_11 (by decide) (Nat.le_of_ble_eq_true rfl) (Nat.le_of_ble_eq_true rfl) (fun w9 θ8 h8 => ?_) (fun E9 q9 τ9 h9 => h9.elim)
      obtain ⟨e9, sθ8⟩ := h8
      subst e9
      refine A_wfh (fun wθ8 hgθ8 => ?_)
      have kθ8 : fra [ou, sa0] σ θ8 := sθ8.fr
      have hRθ8 : RW g θ8 W N := hR9.nw (hS.nw wσ kθ8)
      have fxθ8 : θ8.1 x = some (.inr (.inl (0, [.ref bf, .int bd, .int pe, .int ep, .ref (wW W), .ref dq, .ref sv, .ref ou]))) := hS.keep wσ kθ8 hX (fun vs q => by simp at q) (fun n f q => by simp at q)
      obtain ⟨saθ8, mlθ8, foθ8⟩ := sθ8.cell
      have hRc := hRθ8
      obtain ⟨h1θ8, ⟨frθ8, h2θ8, h2pθ8⟩, ⟨fmθ8, h3θ8, h3pθ8⟩, ⟨mcnθ8, fnAθ8, h4θ8, h4pθ8, h4qθ8⟩, ⟨mcfθ8, ffAθ8, h5θ8, h5pθ8, h5qθ8⟩, ⟨fuθ8, h6θ8, h6pθ8⟩, h7θ8, h8θ8, h9θ8, h10θ8, h11θ8⟩ := hRc
      have fθ8θ8_0 : θ8.1 (wW W) = some (.inr (.inl (4, [.int (N 9), .ref (wR W), .ref (wM W), .ref (wNL W), .ref (wFL W), .ref (wUN W), .int (N 6), .int (N 8), .int (N 0), .int (N 1), .int (N 2), .int (N 3), .int (N 4), .int (N 5), .int (N 11)]))) := h1θ8
      have fθ8θ8_1 : θ8.1 (wFL W) = some (.inr (.inl (14, [.int mcfθ8, .ref (wFA W), .int (nI (nF N))]))) := h5θ8
      have fθ8θ8_2 : θ8.1 (wFA W) = some (.inl (.object "java/lang/Object", 12, .inr (.inr (.inr (.inr ffAθ8))))) := h5pθ8
      have fθ8θ8_3 : θ8.1 (wNL W) = some (.inr (.inl (14, [.int mcnθ8, .ref (wNA W), .int (nI (nN N))]))) := h4θ8
      have fθ8θ8_4 : θ8.1 (wNA W) = some (.inl (.object "java/lang/Object", 4, .inr (.inr (.inr (.inr fnAθ8))))) := h4pθ8
      have fθ8θ8_5 : θ8.1 (wR W) = some (.inl (.int, 6, .inl frθ8)) := h2θ8
      have fθ8θ8_6 : θ8.1 (wM W) = some (.inl (.int, 3, .inl fmθ8)) := h3θ8
      have fθ8θ8_7 : θ8.1 (wUN W) = some (.inl (.object "FlagLaundry$Test", 7, .inr (.inr (.inr (.inr fuθ8))))) := h6θ8
      have pθ8 : (nl).length ≤ 0 := Nat.le_refl 0
      refine A_iconst (v := 0) dX1_writeTub_14 (by decide) ?_
      refine A_istore_n (i := 3) dX1_writeTub_15 rfl (Nat.le_of_ble_eq_true rfl) ?_
      refine A_less (b' := (m - 0) * 57 + 19) (by omega) ?_
      refine A_sub (L' := [(0, .ref x), (1, .int (nI jt)), (2, .ref (wW W)), (3, .int (nI 0))]) ⟨rfl, rfl, rfl, rfl, trivial⟩ ?_
      refine A_forP (α := AH) m (fun i16 _ => (m - i16) * 57 + 19) (fun i16 _ => [(0, .ref x), (1, .int (nI jt)), (2, .ref (wW W)), (3, .int (nI i16))]) (fun _ τ16 => τ16) (fun i16 τ16 => SX σ ou sa0 τ16 (txT N (nI jt) i16) (txT N (nI jt) i16).length) θ8 (sθ8.room) (fun i16 τ16 hi16 hI16 ih16 => ?_) (fun τ16 hI16 => ?_)
      · skip
        refine A_less (b' := (m - (i16 + 1)) * 57 + 19 + 57) (by omega) ?_
        have sτ16 := hI16
        refine A_wfh (fun wτ16 hgτ16 => ?_)
        have kτ16 : fra [ou, sa0] σ τ16 := sτ16.fr
        have hRτ16 : RW g τ16 W N := hR9.nw (hS.nw wσ kτ16)
        have fxτ16 : τ16.1 x = some (.inr (.inl (0, [.ref bf, .int bd, .int pe, .int ep, .ref (wW W), .ref dq, .ref sv, .ref ou]))) := hS.keep wσ kτ16 hX (fun vs q => by simp at q) (fun n f q => by simp at q)
        obtain ⟨saτ16, mlτ16, foτ16⟩ := sτ16.cell
        have hRc := hRτ16
        obtain ⟨h1τ16, ⟨frτ16, h2τ16, h2pτ16⟩, ⟨fmτ16, h3τ16, h3pτ16⟩, ⟨mcnτ16, fnAτ16, h4τ16, h4pτ16, h4qτ16⟩, ⟨mcfτ16, ffAτ16, h5τ16, h5pτ16, h5qτ16⟩, ⟨fuτ16, h6τ16, h6pτ16⟩, h7τ16, h8τ16, h9τ16, h10τ16, h11τ16⟩ := hRc
        have fτ16τ16_0 : τ16.1 (wW W) = some (.inr (.inl (4, [.int (N 9), .ref (wR W), .ref (wM W), .ref (wNL W), .ref (wFL W), .ref (wUN W), .int (N 6), .int (N 8), .int (N 0), .int (N 1), .int (N 2), .int (N 3), .int (N 4), .int (N 5), .int (N 11)]))) := h1τ16
        have fτ16τ16_1 : τ16.1 (wFL W) = some (.inr (.inl (14, [.int mcfτ16, .ref (wFA W), .int (nI (nF N))]))) := h5τ16
        have fτ16τ16_2 : τ16.1 (wFA W) = some (.inl (.object "java/lang/Object", 12, .inr (.inr (.inr (.inr ffAτ16))))) := h5pτ16
        have fτ16τ16_3 : τ16.1 (wNL W) = some (.inr (.inl (14, [.int mcnτ16, .ref (wNA W), .int (nI (nN N))]))) := h4τ16
        have fτ16τ16_4 : τ16.1 (wNA W) = some (.inl (.object "java/lang/Object", 4, .inr (.inr (.inr (.inr fnAτ16))))) := h4pτ16
        have fτ16τ16_5 : τ16.1 (wR W) = some (.inl (.int, 6, .inl frτ16)) := h2τ16
        have fτ16τ16_6 : τ16.1 (wM W) = some (.inl (.int, 3, .inl fmτ16)) := h3τ16
        have fτ16τ16_7 : τ16.1 (wUN W) = some (.inl (.object "FlagLaundry$Test", 7, .inr (.inr (.inr (.inr fuτ16))))) := h6τ16
        have pτ16 : (txT N (nI jt) i16).length ≤ 3 * i16 := txT_le N (nI jt) i16
        refine A_iload_n (i := 3) dX1_writeTub_16 rfl rfl ?_
        refine A_aload_n (i := 2) dX1_writeTub_17 rfl rfl ?_
        refine A_iload_n (i := 1) dX1_writeTub_18 rfl rfl ?_
        refine A_callV1 (b' := (m - (i16 + 1)) * 57 + 19 + 56) (c_within τ16 W N (nI jt) hRτ16 hD) tX5_within q1184 fτ16τ16_0 rfl rfl dX1_writeTub_19 (by decide) (by omega) (Nat.le_of_ble_eq_true rfl) (fun w9 σ1 h9 => ?_) (fun E9 q9 τ9 h9 => h9.elim)
        obtain ⟨e9, xσ1⟩ := h9
        subst e9
        refine A_wfh (fun wσ1 hgσ1 => ?_)
        have fσ1_0 : σ1.1 (wW W) = some (.inr (.inl (4, [.int (N 9), .ref (wR W), .ref (wM W), .ref (wNL W), .ref (wFL W), .ref (wUN W), .int (N 6), .int (N 8), .int (N 0), .int (N 1), .int (N 2), .int (N 3), .int (N 4), .int (N 5), .int (N 11)]))) := xσ1.at wτ16 fτ16τ16_0
        have fσ1_1 : σ1.1 (wFL W) = some (.inr (.inl (14, [.int mcfτ16, .ref (wFA W), .int (nI (nF N))]))) := xσ1.at wτ16 fτ16τ16_1
        have fσ1_2 : σ1.1 (wFA W) = some (.inl (.object "java/lang/Object", 12, .inr (.inr (.inr (.inr ffAτ16))))) := xσ1.at wτ16 fτ16τ16_2
        have fσ1_3 : σ1.1 (wNL W) = some (.inr (.inl (14, [.int mcnτ16, .ref (wNA W), .int (nI (nN N))]))) := xσ1.at wτ16 fτ16τ16_3
        have fσ1_4 : σ1.1 (wNA W) = some (.inl (.object "java/lang/Object", 4, .inr (.inr (.inr (.inr fnAτ16))))) := xσ1.at wτ16 fτ16τ16_4
        have fσ1_5 : σ1.1 (wR W) = some (.inl (.int, 6, .inl frτ16)) := xσ1.at wτ16 fτ16τ16_5
        have fσ1_6 : σ1.1 (wM W) = some (.inl (.int, 3, .inl fmτ16)) := xσ1.at wτ16 fτ16τ16_6
        have fσ1_7 : σ1.1 (wUN W) = some (.inl (.object "FlagLaundry$Test", 7, .inr (.inr (.inr (.inr fuτ16))))) := xσ1.at wτ16 fτ16τ16_7
        have fσ1_8 : σ1.1 x = some (.inr (.inl (0, [.ref bf, .int bd, .int pe, .int ep, .ref (wW W), .ref dq, .ref sv, .ref ou]))) := xσ1.at wτ16 fxτ16
        have fσ1_9 : σ1.1 ou = some (.inr (.inl (12, [.ref saτ16, .int 0, .int mlτ16, .int (nI (txT N (nI jt) i16).length)]))) := xσ1.at wτ16 foτ16
        have hRσ1 : RW g σ1 W N := hRτ16.ext wτ16 xσ1
        have sσ1 := sτ16.ex wτ16 xσ1
        refine A_icmp_ge_f (tgt := 59) dX1_writeTub_22 (by decide) (br_lt em hi16 (by omega)) ?_
        refine A_iload_n (i := 3) dX1_writeTub_25 rfl rfl ?_
        refine A_if_le (tgt := 39) dX1_writeTub_26 (by decide) (fun c1 => ?_) (fun c1 => ?_)
        · skip
          refine A_aload_n (i := 0) dX1_writeTub_39 rfl rfl ?_
          refine A_getf cb_X1 fσ1_8 7 (Nat.le_of_ble_eq_true rfl) q245 rfl (v := .ref ou) rfl dX1_writeTub_40 ?_
          refine A_aload_n (i := 2) dX1_writeTub_43 rfl rfl ?_
          refine A_iload_n (i := 1) dX1_writeTub_44 rfl rfl ?_
          refine A_iload_n (i := 3) dX1_writeTub_45 rfl rfl ?_
          refine A_callV2 (b' := (m - (i16 + 1)) * 57 + 19 + 36) (c_inTub5 σ1 W N (nI jt) (nI i16) hRσ1 hD) tX5_inTub q1524 fσ1_0 rfl rfl dX1_writeTub_46 (by decide) (by omega) (Nat.le_of_ble_eq_true rfl) (fun w9 σ2 h9 => ?_) (fun E9 q9 τ9 h9 => h9.elim)
          obtain ⟨e9, xσ2⟩ := h9
          subst e9
          refine A_wfh (fun wσ2 hgσ2 => ?_)
          have fσ2_0 : σ2.1 (wW W) = some (.inr (.inl (4, [.int (N 9), .ref (wR W), .ref (wM W), .ref (wNL W), .ref (wFL W), .ref (wUN W), .int (N 6), .int (N 8), .int (N 0), .int (N 1), .int (N 2), .int (N 3), .int (N 4), .int (N 5), .int (N 11)]))) := xσ2.at wσ1 fσ1_0
          have fσ2_1 : σ2.1 (wFL W) = some (.inr (.inl (14, [.int mcfτ16, .ref (wFA W), .int (nI (nF N))]))) := xσ2.at wσ1 fσ1_1
          have fσ2_2 : σ2.1 (wFA W) = some (.inl (.object "java/lang/Object", 12, .inr (.inr (.inr (.inr ffAτ16))))) := xσ2.at wσ1 fσ1_2
          have fσ2_3 : σ2.1 (wNL W) = some (.inr (.inl (14, [.int mcnτ16, .ref (wNA W), .int (nI (nN N))]))) := xσ2.at wσ1 fσ1_3
          have fσ2_4 : σ2.1 (wNA W) = some (.inl (.object "java/lang/Object", 4, .inr (.inr (.inr (.inr fnAτ16))))) := xσ2.at wσ1 fσ1_4
          have fσ2_5 : σ2.1 (wR W) = some (.inl (.int, 6, .inl frτ16)) := xσ2.at wσ1 fσ1_5
          have fσ2_6 : σ2.1 (wM W) = some (.inl (.int, 3, .inl fmτ16)) := xσ2.at wσ1 fσ1_6
          have fσ2_7 : σ2.1 (wUN W) = some (.inl (.object "FlagLaundry$Test", 7, .inr (.inr (.inr (.inr fuτ16))))) := xσ2.at wσ1 fσ1_7
          have fσ2_8 : σ2.1 x = some (.inr (.inl (0, [.ref bf, .int bd, .int pe, .int ep, .ref (wW W), .ref dq, .ref sv, .ref ou]))) := xσ2.at wσ1 fσ1_8
          have fσ2_9 : σ2.1 ou = some (.inr (.inl (12, [.ref saτ16, .int 0, .int mlτ16, .int (nI (txT N (nI jt) i16).length)]))) := xσ2.at wσ1 fσ1_9
          have hRσ2 : RW g σ2 W N := hRσ1.ext wσ1 xσ2
          have sσ2 := sσ1.ex wσ1 xσ2
          refine A_callV1 (b' := (m - (i16 + 1)) * 57 + 19 + 18) (c_sbApIv σ2 σ ou sa0 (flagInN N (nI jt) (nI i16)) (txT N (nI jt) i16) sσ2 (hIn (nI jt) i16 (by rw [em9]; exact hi16)) (by have k := pτ16; omega)) tJ3_append_2 q1993 fσ2_9 rfl rfl dX1_writeTub_49 (by decide) (by omega) (Nat.le_of_ble_eq_true rfl) (fun w9 θ9 h9 => ?_) (fun E9 q9 τ9 h9 => h9.elim)
          obtain ⟨e9, sθ9⟩ := h9
          subst e9
          refine A_wfh (fun wθ9 hgθ9 => ?_)
          have kθ9 : fra [ou, sa0] σ θ9 := sθ9.fr
          have hRθ9 : RW g θ9 W N := hR9.nw (hS.nw wσ kθ9)
          have fxθ9 : θ9.1 x = some (.inr (.inl (0, [.ref bf, .int bd, .int pe, .int ep, .ref (wW W), .ref dq, .ref sv, .ref ou]))) := hS.keep wσ kθ9 hX (fun vs q => by simp at q) (fun n f q => by simp at q)
          obtain ⟨saθ9, mlθ9, foθ9⟩ := sθ9.cell
          have hRc := hRθ9
          obtain ⟨h1θ9, ⟨frθ9, h2θ9, h2pθ9⟩, ⟨fmθ9, h3θ9, h3pθ9⟩, ⟨mcnθ9, fnAθ9, h4θ9, h4pθ9, h4qθ9⟩, ⟨mcfθ9, ffAθ9, h5θ9, h5pθ9, h5qθ9⟩, ⟨fuθ9, h6θ9, h6pθ9⟩, h7θ9, h8θ9, h9θ9, h10θ9, h11θ9⟩ := hRc
          have fθ9θ9_0 : θ9.1 (wW W) = some (.inr (.inl (4, [.int (N 9), .ref (wR W), .ref (wM W), .ref (wNL W), .ref (wFL W), .ref (wUN W), .int (N 6), .int (N 8), .int (N 0), .int (N 1), .int (N 2), .int (N 3), .int (N 4), .int (N 5), .int (N 11)]))) := h1θ9
          have fθ9θ9_1 : θ9.1 (wFL W) = some (.inr (.inl (14, [.int mcfθ9, .ref (wFA W), .int (nI (nF N))]))) := h5θ9
          have fθ9θ9_2 : θ9.1 (wFA W) = some (.inl (.object "java/lang/Object", 12, .inr (.inr (.inr (.inr ffAθ9))))) := h5pθ9
          have fθ9θ9_3 : θ9.1 (wNL W) = some (.inr (.inl (14, [.int mcnθ9, .ref (wNA W), .int (nI (nN N))]))) := h4θ9
          have fθ9θ9_4 : θ9.1 (wNA W) = some (.inl (.object "java/lang/Object", 4, .inr (.inr (.inr (.inr fnAθ9))))) := h4pθ9
          have fθ9θ9_5 : θ9.1 (wR W) = some (.inl (.int, 6, .inl frθ9)) := h2θ9
          have fθ9θ9_6 : θ9.1 (wM W) = some (.inl (.int, 3, .inl fmθ9)) := h3θ9
          have fθ9θ9_7 : θ9.1 (wUN W) = some (.inl (.object "FlagLaundry$Test", 7, .inr (.inr (.inr (.inr fuθ9))))) := h6θ9
          have pθ9 : (txT N (nI jt) i16 ++ numI (flagInN N (nI jt) (nI i16))).length ≤ 3 * i16 + 2 := len2 pτ16
          refine A_pop dX1_writeTub_52 rfl ?_
          refine A_iinc (v := nI (i16 + 1)) dX1_writeTub_53 rfl (nI_inc _ _) (Nat.le_of_ble_eq_true rfl) ?_
          refine A_goto (tgt := 16) dX1_writeTub_56 (by decide) ?_
          have sx9 : SX σ ou sa0 θ9 (txT N (nI jt) (i16 + 1)) (txT N (nI jt) (i16 + 1)).length := by rw [txT_s, if_pos (show i16 = 0 by have k := (nI_lei (b := 0) (by omega) (by decide)).mp c1; omega)]; exact sθ9
          refine A_less (b' := (m - (i16 + 1)) * 57 + 19) (by omega) ?_
          refine A_sub (L' := [(0, .ref x), (1, .int (nI jt)), (2, .ref (wW W)), (3, .int (nI (i16 + 1)))]) ⟨rfl, rfl, rfl, rfl, trivial⟩ ?_
          exact ih16 θ9 sx9
        · skip
          refine A_aload_n (i := 0) dX1_writeTub_29 rfl rfl ?_
          refine A_getf cb_X1 fσ1_8 7 (Nat.le_of_ble_eq_true rfl) q245 rfl (v := .ref ou) rfl dX1_writeTub_30 ?_
          refine A_bipush (v := 44) dX1_writeTub_33 (by decide) ?_
          refine A_int (w := (b8 44)) (by decide) ?_
          refine A_callV1 (b' := (m - (i16 + 1)) * 57 + 19 + 38) (c_sbApCv σ1 σ ou sa0 (b8 44) (txT N (nI jt) i16) sσ1 ⟨44, by decide, by decide⟩ (by have k := pτ16; omega)) tJ3_append q1992 fσ1_9 rfl rfl dX1_writeTub_35 (by decide) (by omega) (Nat.le_of_ble_eq_true rfl) (fun w9 θ10 h10 => ?_) (fun E9 q9 τ9 h9 => h9.elim)
          obtain ⟨e9, sθ10⟩ := h10
          subst e9
          refine A_wfh (fun wθ10 hgθ10 => ?_)
          have kθ10 : fra [ou, sa0] σ θ10 := sθ10.fr
          have hRθ10 : RW g θ10 W N := hR9.nw (hS.nw wσ kθ10)
          have fxθ10 : θ10.1 x = some (.inr (.inl (0, [.ref bf, .int bd, .int pe, .int ep, .ref (wW W), .ref dq, .ref sv, .ref ou]))) := hS.keep wσ kθ10 hX (fun vs q => by simp at q) (fun n f q => by simp at q)
          obtain ⟨saθ10, mlθ10, foθ10⟩ := sθ10.cell
          have hRc := hRθ10
          obtain ⟨h1θ10, ⟨frθ10, h2θ10, h2pθ10⟩, ⟨fmθ10, h3θ10, h3pθ10⟩, ⟨mcnθ10, fnAθ10, h4θ10, h4pθ10, h4qθ10⟩, ⟨mcfθ10, ffAθ10, h5θ10, h5pθ10, h5qθ10⟩, ⟨fuθ10, h6θ10, h6pθ10⟩, h7θ10, h8θ10, h9θ10, h10θ10, h11θ10⟩ := hRc
          have fθ10θ10_0 : θ10.1 (wW W) = some (.inr (.inl (4, [.int (N 9), .ref (wR W), .ref (wM W), .ref (wNL W), .ref (wFL W), .ref (wUN W), .int (N 6), .int (N 8), .int (N 0), .int (N 1), .int (N 2), .int (N 3), .int (N 4), .int (N 5), .int (N 11)]))) := h1θ10
          have fθ10θ10_1 : θ10.1 (wFL W) = some (.inr (.inl (14, [.int mcfθ10, .ref (wFA W), .int (nI (nF N))]))) := h5θ10
          have fθ10θ10_2 : θ10.1 (wFA W) = some (.inl (.object "java/lang/Object", 12, .inr (.inr (.inr (.inr ffAθ10))))) := h5pθ10
          have fθ10θ10_3 : θ10.1 (wNL W) = some (.inr (.inl (14, [.int mcnθ10, .ref (wNA W), .int (nI (nN N))]))) := h4θ10
          have fθ10θ10_4 : θ10.1 (wNA W) = some (.inl (.object "java/lang/Object", 4, .inr (.inr (.inr (.inr fnAθ10))))) := h4pθ10
          have fθ10θ10_5 : θ10.1 (wR W) = some (.inl (.int, 6, .inl frθ10)) := h2θ10
          have fθ10θ10_6 : θ10.1 (wM W) = some (.inl (.int, 3, .inl fmθ10)) := h3θ10
          have fθ10θ10_7 : θ10.1 (wUN W) = some (.inl (.object "FlagLaundry$Test", 7, .inr (.inr (.inr (.inr fuθ10))))) := h6θ10
          have pθ10 : (txT N (nI jt) i16 ++ [(b8 44)]).length ≤ 3 * i16 + 1 := len1 pτ16
          refine A_pop dX1_writeTub_38 rfl ?_
          refine A_aload_n (i := 0) dX1_writeTub_39 rfl rfl ?_
          refine A_getf cb_X1 fxθ10 7 (Nat.le_of_ble_eq_true rfl) q245 rfl (v := .ref ou) rfl dX1_writeTub_40 ?_
          refine A_aload_n (i := 2) dX1_writeTub_43 rfl rfl ?_
          refine A_iload_n (i := 1) dX1_writeTub_44 rfl rfl ?_
          refine A_iload_n (i := 3) dX1_writeTub_45 rfl rfl ?_
          refine A_callV2 (b' := (m - (i16 + 1)) * 57 + 19 + 18) (c_inTub5 θ10 W N (nI jt) (nI i16) hRθ10 hD) tX5_inTub q1524 fθ10θ10_0 rfl rfl dX1_writeTub_46 (by decide) (by omega) (Nat.le_of_ble_eq_true rfl) (fun w9 σ3 h9 => ?_) (fun E9 q9 τ9 h9 => h9.elim)
          obtain ⟨e9, xσ3⟩ := h9
          subst e9
          refine A_wfh (fun wσ3 hgσ3 => ?_)
          have fσ3_0 : σ3.1 (wW W) = some (.inr (.inl (4, [.int (N 9), .ref (wR W), .ref (wM W), .ref (wNL W), .ref (wFL W), .ref (wUN W), .int (N 6), .int (N 8), .int (N 0), .int (N 1), .int (N 2), .int (N 3), .int (N 4), .int (N 5), .int (N 11)]))) := xσ3.at wθ10 fθ10θ10_0
          have fσ3_1 : σ3.1 (wFL W) = some (.inr (.inl (14, [.int mcfθ10, .ref (wFA W), .int (nI (nF N))]))) := xσ3.at wθ10 fθ10θ10_1
          have fσ3_2 : σ3.1 (wFA W) = some (.inl (.object "java/lang/Object", 12, .inr (.inr (.inr (.inr ffAθ10))))) := xσ3.at wθ10 fθ10θ10_2
          have fσ3_3 : σ3.1 (wNL W) = some (.inr (.inl (14, [.int mcnθ10, .ref (wNA W), .int (nI (nN N))]))) := xσ3.at wθ10 fθ10θ10_3
          have fσ3_4 : σ3.1 (wNA W) = some (.inl (.object "java/lang/Object", 4, .inr (.inr (.inr (.inr fnAθ10))))) := xσ3.at wθ10 fθ10θ10_4
          have fσ3_5 : σ3.1 (wR W) = some (.inl (.int, 6, .inl frθ10)) := xσ3.at wθ10 fθ10θ10_5
          have fσ3_6 : σ3.1 (wM W) = some (.inl (.int, 3, .inl fmθ10)) := xσ3.at wθ10 fθ10θ10_6
          have fσ3_7 : σ3.1 (wUN W) = some (.inl (.object "FlagLaundry$Test", 7, .inr (.inr (.inr (.inr fuθ10))))) := xσ3.at wθ10 fθ10θ10_7
          have fσ3_8 : σ3.1 x = some (.inr (.inl (0, [.ref bf, .int bd, .int pe, .int ep, .ref (wW W), .ref dq, .ref sv, .ref ou]))) := xσ3.at wθ10 fxθ10
          have fσ3_9 : σ3.1 ou = some (.inr (.inl (12, [.ref saθ10, .int 0, .int mlθ10, .int (nI (txT N (nI jt) i16 ++ [(b8 44)]).length)]))) := xσ3.at wθ10 foθ10
          have hRσ3 : RW g σ3 W N := hRθ10.ext wθ10 xσ3
          have sσ3 := sθ10.ex wθ10 xσ3
          refine A_callV1 (b' := (m - (i16 + 1)) * 57 + 19 + 0) (c_sbApIv σ3 σ ou sa0 (flagInN N (nI jt) (nI i16)) (txT N (nI jt) i16 ++ [(b8 44)]) sσ3 (hIn (nI jt) i16 (by rw [em9]; exact hi16)) (by have k := pθ10; omega)) tJ3_append_2 q1993 fσ3_9 rfl rfl dX1_writeTub_49 (by decide) (by omega) (Nat.le_of_ble_eq_true rfl) (fun w9 θ11 h11 => ?_) (fun E9 q9 τ9 h9 => h9.elim)
          obtain ⟨e9, sθ11⟩ := h11
          subst e9
          refine A_wfh (fun wθ11 hgθ11 => ?_)
          have kθ11 : fra [ou, sa0] σ θ11 := sθ11.fr
          have hRθ11 : RW g θ11 W N := hR9.nw (hS.nw wσ kθ11)
          have fxθ11 : θ11.1 x = some (.inr (.inl (0, [.ref bf, .int bd, .int pe, .int ep, .ref (wW W), .ref dq, .ref sv, .ref ou]))) := hS.keep wσ kθ11 hX (fun vs q => by simp at q) (fun n f q => by simp at q)
          obtain ⟨saθ11, mlθ11, foθ11⟩ := sθ11.cell
          have hRc := hRθ11
          obtain ⟨h1θ11, ⟨frθ11, h2θ11, h2pθ11⟩, ⟨fmθ11, h3θ11, h3pθ11⟩, ⟨mcnθ11, fnAθ11, h4θ11, h4pθ11, h4qθ11⟩, ⟨mcfθ11, ffAθ11, h5θ11, h5pθ11, h5qθ11⟩, ⟨fuθ11, h6θ11, h6pθ11⟩, h7θ11, h8θ11, h9θ11, h10θ11, h11θ11⟩ := hRc
          have fθ11θ11_0 : θ11.1 (wW W) = some (.inr (.inl (4, [.int (N 9), .ref (wR W), .ref (wM W), .ref (wNL W), .ref (wFL W), .ref (wUN W), .int (N 6), .int (N 8), .int (N 0), .int (N 1), .int (N 2), .int (N 3), .int (N 4), .int (N 5), .int (N 11)]))) := h1θ11
          have fθ11θ11_1 : θ11.1 (wFL W) = some (.inr (.inl (14, [.int mcfθ11, .ref (wFA W), .int (nI (nF N))]))) := h5θ11
          have fθ11θ11_2 : θ11.1 (wFA W) = some (.inl (.object "java/lang/Object", 12, .inr (.inr (.inr (.inr ffAθ11))))) := h5pθ11
          have fθ11θ11_3 : θ11.1 (wNL W) = some (.inr (.inl (14, [.int mcnθ11, .ref (wNA W), .int (nI (nN N))]))) := h4θ11
          have fθ11θ11_4 : θ11.1 (wNA W) = some (.inl (.object "java/lang/Object", 4, .inr (.inr (.inr (.inr fnAθ11))))) := h4pθ11
          have fθ11θ11_5 : θ11.1 (wR W) = some (.inl (.int, 6, .inl frθ11)) := h2θ11
          have fθ11θ11_6 : θ11.1 (wM W) = some (.inl (.int, 3, .inl fmθ11)) := h3θ11
          have fθ11θ11_7 : θ11.1 (wUN W) = some (.inl (.object "FlagLaundry$Test", 7, .inr (.inr (.inr (.inr fuθ11))))) := h6θ11
          have pθ11 : (txT N (nI jt) i16 ++ [(b8 44)] ++ numI (flagInN N (nI jt) (nI i16))).length ≤ 3 * i16 + 1 + 2 := len2 pθ10
          refine A_pop dX1_writeTub_52 rfl ?_
          refine A_iinc (v := nI (i16 + 1)) dX1_writeTub_53 rfl (nI_inc _ _) (Nat.le_of_ble_eq_true rfl) ?_
          refine A_goto (tgt := 16) dX1_writeTub_56 (by decide) ?_
          have sx9 : SX σ ou sa0 θ11 (txT N (nI jt) (i16 + 1)) (txT N (nI jt) (i16 + 1)).length := by rw [txT_s, if_neg (show ¬ i16 = 0 by intro q; exact c1 (by rw [q]; decide))]; exact sθ11
          refine A_less (b' := (m - (i16 + 1)) * 57 + 19) (by omega) ?_
          refine A_sub (L' := [(0, .ref x), (1, .int (nI jt)), (2, .ref (wW W)), (3, .int (nI (i16 + 1)))]) ⟨rfl, rfl, rfl, rfl, trivial⟩ ?_
          exact ih16 θ11 sx9
      · skip
        refine A_less (b' := 19) (by omega) ?_
        have sτ16 := hI16
        refine A_wfh (fun wτ16 hgτ16 => ?_)
        have kτ16 : fra [ou, sa0] σ τ16 := sτ16.fr
        have hRτ16 : RW g τ16 W N := hR9.nw (hS.nw wσ kτ16)
        have fxτ16 : τ16.1 x = some (.inr (.inl (0, [.ref bf, .int bd, .int pe, .int ep, .ref (wW W), .ref dq, .ref sv, .ref ou]))) := hS.keep wσ kτ16 hX (fun vs q => by simp at q) (fun n f q => by simp at q)
        obtain ⟨saτ16, mlτ16, foτ16⟩ := sτ16.cell
        have hRc := hRτ16
        obtain ⟨h1τ16, ⟨frτ16, h2τ16, h2pτ16⟩, ⟨fmτ16, h3τ16, h3pτ16⟩, ⟨mcnτ16, fnAτ16, h4τ16, h4pτ16, h4qτ16⟩, ⟨mcfτ16, ffAτ16, h5τ16, h5pτ16, h5qτ16⟩, ⟨fuτ16, h6τ16, h6pτ16⟩, h7τ16, h8τ16, h9τ16, h10τ16, h11τ16⟩ := hRc
        have fτ16τ16_0 : τ16.1 (wW W) = some (.inr (.inl (4, [.int (N 9), .ref (wR W), .ref (wM W), .ref (wNL W), .ref (wFL W), .ref (wUN W), .int (N 6), .int (N 8), .int (N 0), .int (N 1), .int (N 2), .int (N 3), .int (N 4), .int (N 5), .int (N 11)]))) := h1τ16
        have fτ16τ16_1 : τ16.1 (wFL W) = some (.inr (.inl (14, [.int mcfτ16, .ref (wFA W), .int (nI (nF N))]))) := h5τ16
        have fτ16τ16_2 : τ16.1 (wFA W) = some (.inl (.object "java/lang/Object", 12, .inr (.inr (.inr (.inr ffAτ16))))) := h5pτ16
        have fτ16τ16_3 : τ16.1 (wNL W) = some (.inr (.inl (14, [.int mcnτ16, .ref (wNA W), .int (nI (nN N))]))) := h4τ16
        have fτ16τ16_4 : τ16.1 (wNA W) = some (.inl (.object "java/lang/Object", 4, .inr (.inr (.inr (.inr fnAτ16))))) := h4pτ16
        have fτ16τ16_5 : τ16.1 (wR W) = some (.inl (.int, 6, .inl frτ16)) := h2τ16
        have fτ16τ16_6 : τ16.1 (wM W) = some (.inl (.int, 3, .inl fmτ16)) := h3τ16
        have fτ16τ16_7 : τ16.1 (wUN W) = some (.inl (.object "FlagLaundry$Test", 7, .inr (.inr (.inr (.inr fuτ16))))) := h6τ16
        have pτ16 : (txT N (nI jt) m).length ≤ 3 * m := txT_le N (nI jt) m
        refine A_iload_n (i := 3) dX1_writeTub_16 rfl rfl ?_
        refine A_aload_n (i := 2) dX1_writeTub_17 rfl rfl ?_
        refine A_iload_n (i := 1) dX1_writeTub_18 rfl rfl ?_
        refine A_callV1 (b' := 18) (c_within τ16 W N (nI jt) hRτ16 hD) tX5_within q1184 fτ16τ16_0 rfl rfl dX1_writeTub_19 (by decide) (Nat.le_of_ble_eq_true rfl) (Nat.le_of_ble_eq_true rfl) (fun w9 σ4 h9 => ?_) (fun E9 q9 τ9 h9 => h9.elim)
        obtain ⟨e9, xσ4⟩ := h9
        subst e9
        refine A_wfh (fun wσ4 hgσ4 => ?_)
        have fσ4_0 : σ4.1 (wW W) = some (.inr (.inl (4, [.int (N 9), .ref (wR W), .ref (wM W), .ref (wNL W), .ref (wFL W), .ref (wUN W), .int (N 6), .int (N 8), .int (N 0), .int (N 1), .int (N 2), .int (N 3), .int (N 4), .int (N 5), .int (N 11)]))) := xσ4.at wτ16 fτ16τ16_0
        have fσ4_1 : σ4.1 (wFL W) = some (.inr (.inl (14, [.int mcfτ16, .ref (wFA W), .int (nI (nF N))]))) := xσ4.at wτ16 fτ16τ16_1
        have fσ4_2 : σ4.1 (wFA W) = some (.inl (.object "java/lang/Object", 12, .inr (.inr (.inr (.inr ffAτ16))))) := xσ4.at wτ16 fτ16τ16_2
        have fσ4_3 : σ4.1 (wNL W) = some (.inr (.inl (14, [.int mcnτ16, .ref (wNA W), .int (nI (nN N))]))) := xσ4.at wτ16 fτ16τ16_3
        have fσ4_4 : σ4.1 (wNA W) = some (.inl (.object "java/lang/Object", 4, .inr (.inr (.inr (.inr fnAτ16))))) := xσ4.at wτ16 fτ16τ16_4
        have fσ4_5 : σ4.1 (wR W) = some (.inl (.int, 6, .inl frτ16)) := xσ4.at wτ16 fτ16τ16_5
        have fσ4_6 : σ4.1 (wM W) = some (.inl (.int, 3, .inl fmτ16)) := xσ4.at wτ16 fτ16τ16_6
        have fσ4_7 : σ4.1 (wUN W) = some (.inl (.object "FlagLaundry$Test", 7, .inr (.inr (.inr (.inr fuτ16))))) := xσ4.at wτ16 fτ16τ16_7
        have fσ4_8 : σ4.1 x = some (.inr (.inl (0, [.ref bf, .int bd, .int pe, .int ep, .ref (wW W), .ref dq, .ref sv, .ref ou]))) := xσ4.at wτ16 fxτ16
        have fσ4_9 : σ4.1 ou = some (.inr (.inl (12, [.ref saτ16, .int 0, .int mlτ16, .int (nI (txT N (nI jt) m).length)]))) := xσ4.at wτ16 foτ16
        have hRσ4 : RW g σ4 W N := hRτ16.ext wτ16 xσ4
        have sσ4 := sτ16.ex wτ16 xσ4
        refine A_icmp_ge_t (tgt := 59) dX1_writeTub_22 (by decide) (br_ge em) ?_
        refine A_aload_n (i := 0) dX1_writeTub_59 rfl rfl ?_
        refine A_getf cb_X1 fσ4_8 7 (Nat.le_of_ble_eq_true rfl) q245 rfl (v := .ref ou) rfl dX1_writeTub_60 ?_
        refine A_callV0E (b' := 18) (v := some (.int (nI (txT N (nI jt) m).length))) (τ := σ4) (c_sbLen σ4 σ ou sa0 (txT N (nI jt) m) sσ4.room) tJ3_length q1994 fσ4_9 rfl rfl dX1_writeTub_63 (by decide) (Nat.le_of_ble_eq_true rfl) (Nat.le_of_ble_eq_true rfl) ?_
        refine A_if_ne (tgt := 79) dX1_writeTub_66 (by decide) (fun c2 => ?_) (fun c2 => ?_)
        · skip
          refine A_aload_n (i := 0) dX1_writeTub_79 rfl rfl ?_
          refine A_getf cb_X1 fσ4_8 7 (Nat.le_of_ble_eq_true rfl) q245 rfl (v := .ref ou) rfl dX1_writeTub_80 ?_
          refine A_callV0E (b' := 18) (v := some (.int (nI (txT N (nI jt) m).length))) (τ := σ4) (c_sbLen σ4 σ ou sa0 (txT N (nI jt) m) sσ4.room) tJ3_length q1994 fσ4_9 rfl rfl dX1_writeTub_83 (by decide) (Nat.le_of_ble_eq_true rfl) (Nat.le_of_ble_eq_true rfl) ?_
          have eo9 : orDash (txT N (nI jt) m) = txT N (nI jt) m := by unfold orDash; rw [if_neg (fun q => c2 (by rw [q]; rfl))]
          exact A_iret dX1_writeTub_86 rfl (⟨(mayQ_0 hs (bi_n ⟨hs, ck1⟩) (by decide)), (by rw [em9, eo9]), by rw [em9, eo9]; exact sσ4.room⟩)
        · skip
          refine A_aload_n (i := 0) dX1_writeTub_69 rfl rfl ?_
          refine A_getf cb_X1 fσ4_8 7 (Nat.le_of_ble_eq_true rfl) q245 rfl (v := .ref ou) rfl dX1_writeTub_70 ?_
          refine A_bipush (v := 45) dX1_writeTub_73 (by decide) ?_
          refine A_int (w := (b8 45)) (by decide) ?_
          refine A_callV1 (b' := 0) (c_sbApCv σ4 σ ou sa0 (b8 45) (txT N (nI jt) m) sσ4 ⟨45, by decide, by decide⟩ (by have k := pτ16; omega)) tJ3_append q1992 fσ4_9 rfl rfl dX1_writeTub_75 (by decide) (Nat.le_of_ble_eq_true rfl) (Nat.le_of_ble_eq_true rfl) (fun w9 θ12 h12 => ?_) (fun E9 q9 τ9 h9 => h9.elim)
          obtain ⟨e9, sθ12⟩ := h12
          subst e9
          refine A_wfh (fun wθ12 hgθ12 => ?_)
          have kθ12 : fra [ou, sa0] σ θ12 := sθ12.fr
          have hRθ12 : RW g θ12 W N := hR9.nw (hS.nw wσ kθ12)
          have fxθ12 : θ12.1 x = some (.inr (.inl (0, [.ref bf, .int bd, .int pe, .int ep, .ref (wW W), .ref dq, .ref sv, .ref ou]))) := hS.keep wσ kθ12 hX (fun vs q => by simp at q) (fun n f q => by simp at q)
          obtain ⟨saθ12, mlθ12, foθ12⟩ := sθ12.cell
          have hRc := hRθ12
          obtain ⟨h1θ12, ⟨frθ12, h2θ12, h2pθ12⟩, ⟨fmθ12, h3θ12, h3pθ12⟩, ⟨mcnθ12, fnAθ12, h4θ12, h4pθ12, h4qθ12⟩, ⟨mcfθ12, ffAθ12, h5θ12, h5pθ12, h5qθ12⟩, ⟨fuθ12, h6θ12, h6pθ12⟩, h7θ12, h8θ12, h9θ12, h10θ12, h11θ12⟩ := hRc
          have fθ12θ12_0 : θ12.1 (wW W) = some (.inr (.inl (4, [.int (N 9), .ref (wR W), .ref (wM W), .ref (wNL W), .ref (wFL W), .ref (wUN W), .int (N 6), .int (N 8), .int (N 0), .int (N 1), .int (N 2), .int (N 3), .int (N 4), .int (N 5), .int (N 11)]))) := h1θ12
          have fθ12θ12_1 : θ12.1 (wFL W) = some (.inr (.inl (14, [.int mcfθ12, .ref (wFA W), .int (nI (nF N))]))) := h5θ12
          have fθ12θ12_2 : θ12.1 (wFA W) = some (.inl (.object "java/lang/Object", 12, .inr (.inr (.inr (.inr ffAθ12))))) := h5pθ12
          have fθ12θ12_3 : θ12.1 (wNL W) = some (.inr (.inl (14, [.int mcnθ12, .ref (wNA W), .int (nI (nN N))]))) := h4θ12
          have fθ12θ12_4 : θ12.1 (wNA W) = some (.inl (.object "java/lang/Object", 4, .inr (.inr (.inr (.inr fnAθ12))))) := h4pθ12
          have fθ12θ12_5 : θ12.1 (wR W) = some (.inl (.int, 6, .inl frθ12)) := h2θ12
          have fθ12θ12_6 : θ12.1 (wM W) = some (.inl (.int, 3, .inl fmθ12)) := h3θ12
          have fθ12θ12_7 : θ12.1 (wUN W) = some (.inl (.object "FlagLaundry$Test", 7, .inr (.inr (.inr (.inr fuθ12))))) := h6θ12
          have pθ12 : (txT N (nI jt) m ++ [(b8 45)]).length ≤ 3 * m + 1 := len1 pτ16
          refine A_pop dX1_writeTub_78 rfl ?_
          refine A_aload_n (i := 0) dX1_writeTub_79 rfl rfl ?_
          refine A_getf cb_X1 fxθ12 7 (Nat.le_of_ble_eq_true rfl) q245 rfl (v := .ref ou) rfl dX1_writeTub_80 ?_
          refine A_callV0E (b' := 0) (v := some (.int (nI (txT N (nI jt) m ++ [(b8 45)]).length))) (τ := θ12) (c_sbLen θ12 σ ou sa0 (txT N (nI jt) m ++ [(b8 45)]) sθ12.room) tJ3_length q1994 foθ12 rfl rfl dX1_writeTub_83 (by decide) (Nat.le_of_ble_eq_true rfl) (Nat.le_of_ble_eq_true rfl) ?_
          have hl9 : (txT N (nI jt) m).length = 0 := (nI_eqi (by have k := txT_le N (nI jt) m; omega) (by decide)).mp c2
          have eo9 : orDash (txT N (nI jt) m) = txT N (nI jt) m ++ [(b8 45)] := by unfold orDash; rw [if_pos hl9]
          exact A_iret dX1_writeTub_86 rfl (⟨(mayQ_0 hs (bi_n ⟨hs, ck1⟩) (by decide)), (by rw [em9, eo9]), by rw [em9, eo9]; exact sθ12.room⟩)
    · skip
      refine A_of rfl (by decide) (Nat.le_of_ble_eq_true rfl) (L0 := [(0, .ref x), (1, .int t)]) rfl ?_
      refine A_wfh (fun wσ hgσ => ?_)
      have yσ : ext σ σ := ext.rf
      refine A_aload_n (i := 0) dX1_writeTub_0 rfl rfl ?_
      refine A_iload_n (i := 1) dX1_writeTub_1 rfl rfl ?_
      refine A_callV1 (b' := 0) (c_checkTub_no σ x bf dq sv ou bd pe ep W N t hX hR9 hD ck1) tX1_checkTub q1505 hX rfl rfl dX1_writeTub_2 (by decide) (Nat.le_of_ble_eq_true rfl) (Nat.le_of_ble_eq_true rfl) (fun w9 τ9 h9 => h9.elim) (fun E9 q9 τ9 h9 => A_out rfl (⟨yσ.tr h9.2, 1, by rw [h9.1]; rfl, by rw [(mayQ_2 hs (bi_f (fun h => ck1 h.2)))]; rfl⟩))
theorem q_writeLine {l : Launch} {g : GC} (σ : AH) (x bf dq sv ou : Nat) (bd pe ep : Int32) (is : Int32) (nv : Value) (W : WA) (N : AF) (sa0 cap0 : Nat) (ml0 : Int32) (f0 : AF) (lp : List Int32) (hL : LD g σ is nv W N) (hX : σ.1 x = some (lauC bf bd pe ep nv dq sv ou)) (hS : SBd σ ou sa0 cap0 ml0 f0 lp) (hp70 : lp.length ≤ 70) : AMet l g mX1_writeLine 9 306 [.ref x] σ (fun w τ => (mayT is 1 1) = 0 ∧ w = some (.int (nI (txL N (nP N)).length)) ∧ SX σ ou sa0 τ (txL N (nP N)) (txL N (nP N)).length) (A_thr ["java/lang/IllegalStateException"] (mayT is 1 1) σ) := by
  rcases hL with ⟨h0, hn⟩ | ⟨hs, hn, hR, hD, hw, hh⟩
  · subst hn
    refine A_of rfl (by decide) (Nat.le_of_ble_eq_true rfl) (L0 := [(0, .ref x)]) rfl ?_
    refine A_wfh (fun wσ hgσ => ?_)
    have yσ : ext σ σ := ext.rf
    refine A_aload_n (i := 0) dX1_writeLine_0 rfl rfl ?_
    refine A_callV0 (b' := 0) (u_loaded σ x bf dq sv ou bd pe ep  hX) tX1_loaded q1383 hX rfl rfl dX1_writeLine_1 (by decide) (Nat.le_of_ble_eq_true rfl) (Nat.le_of_ble_eq_true rfl) (fun w9 τ9 h9 => h9.elim) (fun E9 q9 τ9 h9 => A_out rfl (⟨yσ.tr h9.2, 0, by rw [h9.1]; rfl, by rw [(mayQ_1 h0)]; rfl⟩))
  · subst hn
    have hW := hD.1
    have hR9 := hR
    obtain ⟨h1, ⟨fr, h2, h2p⟩, ⟨fm, h3, h3p⟩, ⟨mcn, fnA, h4, h4p, h4q⟩, ⟨mcf, ffA, h5, h5p, h5q⟩, ⟨fu, h6, h6p⟩, h7, h8, h9, h10, h11⟩ := hR
    have hF12 : nF N ≤ 12 := hW.2.2.2.2.2
    have hN4 : nN N ≤ 4 := hW.2.1.2
    have hC6 : nC N ≤ 6 := hW.1.2
    have hT3 : nT N ≤ 3 := hW.2.2.1.2
    have hP8 : nP N ≤ 8 := hW.2.2.2.1.2
    refine A_of rfl (by decide) (Nat.le_of_ble_eq_true rfl) (L0 := [(0, .ref x)]) rfl ?_
    refine A_wfh (fun wσ hgσ => ?_)
    have yσ : ext σ σ := ext.rf
    refine A_aload_n (i := 0) dX1_writeLine_0 rfl rfl ?_
    refine A_callV0E (b' := 306) (v := some (.ref (wW W))) (τ := σ) (c_loaded σ x bf dq sv ou bd pe ep W N hX hR9 hD) tX1_loaded q1383 hX rfl rfl dX1_writeLine_1 (by decide) (Nat.le_of_ble_eq_true rfl) (Nat.le_of_ble_eq_true rfl) ?_
    refine A_astore_n (i := 1) dX1_writeLine_4 rfl (Nat.le_of_ble_eq_true rfl) ?_
    refine A_aload_n (i := 0) dX1_writeLine_5 rfl rfl ?_
    refine A_getf cb_X1 hX 7 (Nat.le_of_ble_eq_true rfl) q245 rfl (v := .ref ou) rfl dX1_writeLine_6 ?_
    refine A_iconst (v := 0) dX1_writeLine_9 (by decide) ?_
    refine A_callV1 (b' := 288) (c_sbSet σ σ ou sa0 lp (hS.sx.ex wσ yσ) hp70) tJ3_setLength q1928 hS.1 rfl rfl dX1_writeLine_10 (by decide) (Nat.le_of_ble_eq_true rfl) (Nat.le_of_ble_eq_true rfl) (fun w9 θ13 h13 => ?_) (fun E9 q9 τ9 h9 => h9.elim)
    obtain ⟨e9, sθ13⟩ := h13
    subst e9
    refine A_wfh (fun wθ13 hgθ13 => ?_)
    have kθ13 : fra [ou, sa0] σ θ13 := sθ13.fr
    have hRθ13 : RW g θ13 W N := hR9.nw (hS.nw wσ kθ13)
    have fxθ13 : θ13.1 x = some (.inr (.inl (0, [.ref bf, .int bd, .int pe, .int ep, .ref (wW W), .ref dq, .ref sv, .ref ou]))) := hS.keep wσ kθ13 hX (fun vs q => by simp at q) (fun n f q => by simp at q)
    obtain ⟨saθ13, mlθ13, foθ13⟩ := sθ13.cell
    have hRc := hRθ13
    obtain ⟨h1θ13, ⟨frθ13, h2θ13, h2pθ13⟩, ⟨fmθ13, h3θ13, h3pθ13⟩, ⟨mcnθ13, fnAθ13, h4θ13, h4pθ13, h4qθ13⟩, ⟨mcfθ13, ffAθ13, h5θ13, h5pθ13, h5qθ13⟩, ⟨fuθ13, h6θ13, h6pθ13⟩, h7θ13, h8θ13, h9θ13, h10θ13, h11θ13⟩ := hRc
    have fθ13θ13_0 : θ13.1 (wW W) = some (.inr (.inl (4, [.int (N 9), .ref (wR W), .ref (wM W), .ref (wNL W), .ref (wFL W), .ref (wUN W), .int (N 6), .int (N 8), .int (N 0), .int (N 1), .int (N 2), .int (N 3), .int (N 4), .int (N 5), .int (N 11)]))) := h1θ13
    have fθ13θ13_1 : θ13.1 (wFL W) = some (.inr (.inl (14, [.int mcfθ13, .ref (wFA W), .int (nI (nF N))]))) := h5θ13
    have fθ13θ13_2 : θ13.1 (wFA W) = some (.inl (.object "java/lang/Object", 12, .inr (.inr (.inr (.inr ffAθ13))))) := h5pθ13
    have fθ13θ13_3 : θ13.1 (wNL W) = some (.inr (.inl (14, [.int mcnθ13, .ref (wNA W), .int (nI (nN N))]))) := h4θ13
    have fθ13θ13_4 : θ13.1 (wNA W) = some (.inl (.object "java/lang/Object", 4, .inr (.inr (.inr (.inr fnAθ13))))) := h4pθ13
    have fθ13θ13_5 : θ13.1 (wR W) = some (.inl (.int, 6, .inl frθ13)) := h2θ13
    have fθ13θ13_6 : θ13.1 (wM W) = some (.inl (.int, 3, .inl fmθ13)) := h3θ13
    have fθ13θ13_7 : θ13.1 (wUN W) = some (.inl (.object "FlagLaundry$Test", 7, .inr (.inr (.inr (.inr fuθ13))))) := h6θ13
    have pθ13 : (nl).length ≤ 0 := Nat.le_refl 0
    refine A_iconst (v := 0) dX1_writeLine_13 (by decide) ?_
    refine A_istore_n (i := 2) dX1_writeLine_14 rfl (Nat.le_of_ble_eq_true rfl) ?_
    refine A_less (b' := ((nP N) - 0) * 36 + 0) (by omega) ?_
    refine A_sub (L' := [(0, .ref x), (1, .ref (wW W)), (2, .int (nI 0))]) ⟨rfl, rfl, rfl, trivial⟩ ?_
    refine A_forP (α := AH) (nP N) (fun i15 _ => ((nP N) - i15) * 36 + 0) (fun i15 _ => [(0, .ref x), (1, .ref (wW W)), (2, .int (nI i15))]) (fun _ τ15 => τ15) (fun i15 τ15 => SX σ ou sa0 τ15 (txL N i15) (txL N i15).length) θ13 (sθ13.room) (fun i15 τ15 hi15 hI15 ih15 => ?_) (fun τ15 hI15 => ?_)
    · skip
      refine A_less (b' := ((nP N) - (i15 + 1)) * 36 + 0 + 36) (by omega) ?_
      have sτ15 := hI15
      refine A_wfh (fun wτ15 hgτ15 => ?_)
      have kτ15 : fra [ou, sa0] σ τ15 := sτ15.fr
      have hRτ15 : RW g τ15 W N := hR9.nw (hS.nw wσ kτ15)
      have fxτ15 : τ15.1 x = some (.inr (.inl (0, [.ref bf, .int bd, .int pe, .int ep, .ref (wW W), .ref dq, .ref sv, .ref ou]))) := hS.keep wσ kτ15 hX (fun vs q => by simp at q) (fun n f q => by simp at q)
      obtain ⟨saτ15, mlτ15, foτ15⟩ := sτ15.cell
      have hRc := hRτ15
      obtain ⟨h1τ15, ⟨frτ15, h2τ15, h2pτ15⟩, ⟨fmτ15, h3τ15, h3pτ15⟩, ⟨mcnτ15, fnAτ15, h4τ15, h4pτ15, h4qτ15⟩, ⟨mcfτ15, ffAτ15, h5τ15, h5pτ15, h5qτ15⟩, ⟨fuτ15, h6τ15, h6pτ15⟩, h7τ15, h8τ15, h9τ15, h10τ15, h11τ15⟩ := hRc
      have fτ15τ15_0 : τ15.1 (wW W) = some (.inr (.inl (4, [.int (N 9), .ref (wR W), .ref (wM W), .ref (wNL W), .ref (wFL W), .ref (wUN W), .int (N 6), .int (N 8), .int (N 0), .int (N 1), .int (N 2), .int (N 3), .int (N 4), .int (N 5), .int (N 11)]))) := h1τ15
      have fτ15τ15_1 : τ15.1 (wFL W) = some (.inr (.inl (14, [.int mcfτ15, .ref (wFA W), .int (nI (nF N))]))) := h5τ15
      have fτ15τ15_2 : τ15.1 (wFA W) = some (.inl (.object "java/lang/Object", 12, .inr (.inr (.inr (.inr ffAτ15))))) := h5pτ15
      have fτ15τ15_3 : τ15.1 (wNL W) = some (.inr (.inl (14, [.int mcnτ15, .ref (wNA W), .int (nI (nN N))]))) := h4τ15
      have fτ15τ15_4 : τ15.1 (wNA W) = some (.inl (.object "java/lang/Object", 4, .inr (.inr (.inr (.inr fnAτ15))))) := h4pτ15
      have fτ15τ15_5 : τ15.1 (wR W) = some (.inl (.int, 6, .inl frτ15)) := h2τ15
      have fτ15τ15_6 : τ15.1 (wM W) = some (.inl (.int, 3, .inl fmτ15)) := h3τ15
      have fτ15τ15_7 : τ15.1 (wUN W) = some (.inl (.object "FlagLaundry$Test", 7, .inr (.inr (.inr (.inr fuτ15))))) := h6τ15
      have pτ15 : (txL N i15).length ≤ 3 * i15 := txL_le N i15
      refine A_iload_n (i := 2) dX1_writeLine_15 rfl rfl ?_
      refine A_aload_n (i := 1) dX1_writeLine_16 rfl rfl ?_
      refine A_getfN cb_X5 fτ15τ15_0 0 (Nat.le_of_ble_eq_true rfl) q823 rfl (v := .int (N 9)) rfl dX1_writeLine_17 ?_
      refine A_icmp_ge_f (tgt := 76) dX1_writeLine_20 (by decide) (br_lt hW.2.2.2.1.1 hi15 (by omega)) ?_
      refine A_aload_n (i := 1) dX1_writeLine_23 rfl rfl ?_
      refine A_iload_n (i := 2) dX1_writeLine_24 rfl rfl ?_
      refine A_callV1E (b' := ((nP N) - (i15 + 1)) * 36 + 0 + 36) (v := some (.int (flagOnN N (nI i15)))) (τ := τ15) (c_onPeg5 τ15 W N (nI i15) hRτ15 hD) tX5_onPeg q1541 fτ15τ15_0 rfl rfl dX1_writeLine_25 (by decide) (by omega) (Nat.le_of_ble_eq_true rfl) ?_
      refine A_istore_n (i := 3) dX1_writeLine_28 rfl (Nat.le_of_ble_eq_true rfl) ?_
      refine A_iload_n (i := 2) dX1_writeLine_29 rfl rfl ?_
      refine A_if_le (tgt := 43) dX1_writeLine_30 (by decide) (fun c1 => ?_) (fun c1 => ?_)
      · skip
        refine A_iload_n (i := 3) dX1_writeLine_43 rfl rfl ?_
        refine A_iconst (v := (-1)) dX1_writeLine_44 (by decide) ?_
        refine A_icmp_ne (tgt := 61) dX1_writeLine_45 (by decide) (fun c2 => ?_) (fun c2 => ?_)
        · skip
          refine A_aload_n (i := 0) dX1_writeLine_61 rfl rfl ?_
          refine A_getf cb_X1 fxτ15 7 (Nat.le_of_ble_eq_true rfl) q245 rfl (v := .ref ou) rfl dX1_writeLine_62 ?_
          refine A_iload_n (i := 3) dX1_writeLine_65 rfl rfl ?_
          refine A_callV1 (b' := ((nP N) - (i15 + 1)) * 36 + 0 + 18) (c_sbApIv τ15 σ ou sa0 (flagOnN N (nI i15)) (txL N i15) sτ15 (flagOn_k hF12 c2) (by have k := pτ15; omega)) tJ3_append_2 q1993 foτ15 rfl rfl dX1_writeLine_66 (by decide) (by omega) (Nat.le_of_ble_eq_true rfl) (fun w9 θ14 h14 => ?_) (fun E9 q9 τ9 h9 => h9.elim)
          obtain ⟨e9, sθ14⟩ := h14
          subst e9
          refine A_wfh (fun wθ14 hgθ14 => ?_)
          have kθ14 : fra [ou, sa0] σ θ14 := sθ14.fr
          have hRθ14 : RW g θ14 W N := hR9.nw (hS.nw wσ kθ14)
          have fxθ14 : θ14.1 x = some (.inr (.inl (0, [.ref bf, .int bd, .int pe, .int ep, .ref (wW W), .ref dq, .ref sv, .ref ou]))) := hS.keep wσ kθ14 hX (fun vs q => by simp at q) (fun n f q => by simp at q)
          obtain ⟨saθ14, mlθ14, foθ14⟩ := sθ14.cell
          have hRc := hRθ14
          obtain ⟨h1θ14, ⟨frθ14, h2θ14, h2pθ14⟩, ⟨fmθ14, h3θ14, h3pθ14⟩, ⟨mcnθ14, fnAθ14, h4θ14, h4pθ14, h4qθ14⟩, ⟨mcfθ14, ffAθ14, h5θ14, h5pθ14, h5qθ14⟩, ⟨fuθ14, h6θ14, h6pθ14⟩, h7θ14, h8θ14, h9θ14, h10θ14, h11θ14⟩ := hRc
          have fθ14θ14_0 : θ14.1 (wW W) = some (.inr (.inl (4, [.int (N 9), .ref (wR W), .ref (wM W), .ref (wNL W), .ref (wFL W), .ref (wUN W), .int (N 6), .int (N 8), .int (N 0), .int (N 1), .int (N 2), .int (N 3), .int (N 4), .int (N 5), .int (N 11)]))) := h1θ14
          have fθ14θ14_1 : θ14.1 (wFL W) = some (.inr (.inl (14, [.int mcfθ14, .ref (wFA W), .int (nI (nF N))]))) := h5θ14
          have fθ14θ14_2 : θ14.1 (wFA W) = some (.inl (.object "java/lang/Object", 12, .inr (.inr (.inr (.inr ffAθ14))))) := h5pθ14
          have fθ14θ14_3 : θ14.1 (wNL W) = some (.inr (.inl (14, [.int mcnθ14, .ref (wNA W), .int (nI (nN N))]))) := h4θ14
          have fθ14θ14_4 : θ14.1 (wNA W) = some (.inl (.object "java/lang/Object", 4, .inr (.inr (.inr (.inr fnAθ14))))) := h4pθ14
          have fθ14θ14_5 : θ14.1 (wR W) = some (.inl (.int, 6, .inl frθ14)) := h2θ14
          have fθ14θ14_6 : θ14.1 (wM W) = some (.inl (.int, 3, .inl fmθ14)) := h3θ14
          have fθ14θ14_7 : θ14.1 (wUN W) = some (.inl (.object "FlagLaundry$Test", 7, .inr (.inr (.inr (.inr fuθ14))))) := h6θ14
          have pθ14 : (txL N i15 ++ numI (flagOnN N (nI i15))).length ≤ 3 * i15 + 2 := len2 pτ15
          refine A_pop dX1_writeLine_69 rfl ?_
          refine A_iinc (v := nI (i15 + 1)) dX1_writeLine_70 rfl (nI_inc _ _) (Nat.le_of_ble_eq_true rfl) ?_
          refine A_goto (tgt := 15) dX1_writeLine_73 (by decide) ?_
          have sx9 : SX σ ou sa0 θ14 (txL N (i15 + 1)) (txL N (i15 + 1)).length := by rw [txL_s, if_pos (show i15 = 0 by have k := (nI_lei (b := 0) (by omega) (by decide)).mp c1; omega), if_neg c2]; exact sθ14
          refine A_less (b' := ((nP N) - (i15 + 1)) * 36 + 0) (by omega) ?_
          refine A_sub (L' := [(0, .ref x), (1, .ref (wW W)), (2, .int (nI (i15 + 1)))]) ⟨rfl, rfl, rfl, trivial⟩ ?_
          exact ih15 θ14 sx9
        · skip
          refine A_aload_n (i := 0) dX1_writeLine_48 rfl rfl ?_
          refine A_getf cb_X1 fxτ15 7 (Nat.le_of_ble_eq_true rfl) q245 rfl (v := .ref ou) rfl dX1_writeLine_49 ?_
          refine A_bipush (v := 46) dX1_writeLine_52 (by decide) ?_
          refine A_int (w := (b8 46)) (by decide) ?_
          refine A_callV1 (b' := ((nP N) - (i15 + 1)) * 36 + 0 + 18) (c_sbApCv τ15 σ ou sa0 (b8 46) (txL N i15) sτ15 ⟨46, by decide, by decide⟩ (by have k := pτ15; omega)) tJ3_append q1992 foτ15 rfl rfl dX1_writeLine_54 (by decide) (by omega) (Nat.le_of_ble_eq_true rfl) (fun w9 θ15 h15 => ?_) (fun E9 q9 τ9 h9 => h9.elim)
          obtain ⟨e9, sθ15⟩ := h15
          subst e9
          refine A_wfh (fun wθ15 hgθ15 => ?_)
          have kθ15 : fra [ou, sa0] σ θ15 := sθ15.fr
          have hRθ15 : RW g θ15 W N := hR9.nw (hS.nw wσ kθ15)
          have fxθ15 : θ15.1 x = some (.inr (.inl (0, [.ref bf, .int bd, .int pe, .int ep, .ref (wW W), .ref dq, .ref sv, .ref ou]))) := hS.keep wσ kθ15 hX (fun vs q => by simp at q) (fun n f q => by simp at q)
          obtain ⟨saθ15, mlθ15, foθ15⟩ := sθ15.cell
          have hRc := hRθ15
          obtain ⟨h1θ15, ⟨frθ15, h2θ15, h2pθ15⟩, ⟨fmθ15, h3θ15, h3pθ15⟩, ⟨mcnθ15, fnAθ15, h4θ15, h4pθ15, h4qθ15⟩, ⟨mcfθ15, ffAθ15, h5θ15, h5pθ15, h5qθ15⟩, ⟨fuθ15, h6θ15, h6pθ15⟩, h7θ15, h8θ15, h9θ15, h10θ15, h11θ15⟩ := hRc
          have fθ15θ15_0 : θ15.1 (wW W) = some (.inr (.inl (4, [.int (N 9), .ref (wR W), .ref (wM W), .ref (wNL W), .ref (wFL W), .ref (wUN W), .int (N 6), .int (N 8), .int (N 0), .int (N 1), .int (N 2), .int (N 3), .int (N 4), .int (N 5), .int (N 11)]))) := h1θ15
          have fθ15θ15_1 : θ15.1 (wFL W) = some (.inr (.inl (14, [.int mcfθ15, .ref (wFA W), .int (nI (nF N))]))) := h5θ15
          have fθ15θ15_2 : θ15.1 (wFA W) = some (.inl (.object "java/lang/Object", 12, .inr (.inr (.inr (.inr ffAθ15))))) := h5pθ15
          have fθ15θ15_3 : θ15.1 (wNL W) = some (.inr (.inl (14, [.int mcnθ15, .ref (wNA W), .int (nI (nN N))]))) := h4θ15
          have fθ15θ15_4 : θ15.1 (wNA W) = some (.inl (.object "java/lang/Object", 4, .inr (.inr (.inr (.inr fnAθ15))))) := h4pθ15
          have fθ15θ15_5 : θ15.1 (wR W) = some (.inl (.int, 6, .inl frθ15)) := h2θ15
          have fθ15θ15_6 : θ15.1 (wM W) = some (.inl (.int, 3, .inl fmθ15)) := h3θ15
          have fθ15θ15_7 : θ15.1 (wUN W) = some (.inl (.object "FlagLaundry$Test", 7, .inr (.inr (.inr (.inr fuθ15))))) := h6θ15
          have pθ15 : (txL N i15 ++ [(b8 46)]).length ≤ 3 * i15 + 1 := len1 pτ15
          refine A_pop dX1_writeLine_57 rfl ?_
          refine A_goto (tgt := 70) dX1_writeLine_58 (by decide) ?_
          refine A_iinc (v := nI (i15 + 1)) dX1_writeLine_70 rfl (nI_inc _ _) (Nat.le_of_ble_eq_true rfl) ?_
          refine A_goto (tgt := 15) dX1_writeLine_73 (by decide) ?_
          have sx9 : SX σ ou sa0 θ15 (txL N (i15 + 1)) (txL N (i15 + 1)).length := by rw [txL_s, if_pos (show i15 = 0 by have k := (nI_lei (b := 0) (by omega) (by decide)).mp c1; omega), if_pos c2]; exact sθ15
          refine A_less (b' := ((nP N) - (i15 + 1)) * 36 + 0) (by omega) ?_
          refine A_sub (L' := [(0, .ref x), (1, .ref (wW W)), (2, .int (nI (i15 + 1)))]) ⟨rfl, rfl, rfl, trivial⟩ ?_
          exact ih15 θ15 sx9
      · skip
        refine A_aload_n (i := 0) dX1_writeLine_33 rfl rfl ?_
        refine A_getf cb_X1 fxτ15 7 (Nat.le_of_ble_eq_true rfl) q245 rfl (v := .ref ou) rfl dX1_writeLine_34 ?_
        refine A_bipush (v := 47) dX1_writeLine_37 (by decide) ?_
        refine A_int (w := (b8 47)) (by decide) ?_
        refine A_callV1 (b' := ((nP N) - (i15 + 1)) * 36 + 0 + 18) (c_sbApCv τ15 σ ou sa0 (b8 47) (txL N i15) sτ15 ⟨47, by decide, by decide⟩ (by have k := pτ15; omega)) tJ3_append q1992 foτ15 rfl rfl dX1_writeLine_39 (by decide) (by omega) (Nat.le_of_ble_eq_true rfl) (fun w9 θ16 h16 => ?_) (fun E9 q9 τ9 h9 => h9.elim)
        obtain ⟨e9, sθ16⟩ := h16
        subst e9
        refine A_wfh (fun wθ16 hgθ16 => ?_)
        have kθ16 : fra [ou, sa0] σ θ16 := sθ16.fr
        have hRθ16 : RW g θ16 W N := hR9.nw (hS.nw wσ kθ16)
        have fxθ16 : θ16.1 x = some (.inr (.inl (0, [.ref bf, .int bd, .int pe, .int ep, .ref (wW W), .ref dq, .ref sv, .ref ou]))) := hS.keep wσ kθ16 hX (fun vs q => by simp at q) (fun n f q => by simp at q)
        obtain ⟨saθ16, mlθ16, foθ16⟩ := sθ16.cell
        have hRc := hRθ16
        obtain ⟨h1θ16, ⟨frθ16, h2θ16, h2pθ16⟩, ⟨fmθ16, h3θ16, h3pθ16⟩, ⟨mcnθ16, fnAθ16, h4θ16, h4pθ16, h4qθ16⟩, ⟨mcfθ16, ffAθ16, h5θ16, h5pθ16, h5qθ16⟩, ⟨fuθ16, h6θ16, h6pθ16⟩, h7θ16, h8θ16, h9θ16, h10θ16, h11θ16⟩ := hRc
        have fθ16θ16_0 : θ16.1 (wW W) = some (.inr (.inl (4, [.int (N 9), .ref (wR W), .ref (wM W), .ref (wNL W), .ref (wFL W), .ref (wUN W), .int (N 6), .int (N 8), .int (N 0), .int (N 1), .int (N 2), .int (N 3), .int (N 4), .int (N 5), .int (N 11)]))) := h1θ16
        have fθ16θ16_1 : θ16.1 (wFL W) = some (.inr (.inl (14, [.int mcfθ16, .ref (wFA W), .int (nI (nF N))]))) := h5θ16
        have fθ16θ16_2 : θ16.1 (wFA W) = some (.inl (.object "java/lang/Object", 12, .inr (.inr (.inr (.inr ffAθ16))))) := h5pθ16
        have fθ16θ16_3 : θ16.1 (wNL W) = some (.inr (.inl (14, [.int mcnθ16, .ref (wNA W), .int (nI (nN N))]))) := h4θ16
        have fθ16θ16_4 : θ16.1 (wNA W) = some (.inl (.object "java/lang/Object", 4, .inr (.inr (.inr (.inr fnAθ16))))) := h4pθ16
        have fθ16θ16_5 : θ16.1 (wR W) = some (.inl (.int, 6, .inl frθ16)) := h2θ16
        have fθ16θ16_6 : θ16.1 (wM W) = some (.inl (.int, 3, .inl fmθ16)) := h3θ16
        have fθ16θ16_7 : θ16.1 (wUN W) = some (.inl (.object "FlagLaundry$Test", 7, .inr (.inr (.inr (.inr fuθ16))))) := h6θ16
        have pθ16 : (txL N i15 ++ [(b8 47)]).length ≤ 3 * i15 + 1 := len1 pτ15
        refine A_pop dX1_writeLine_42 rfl ?_
        refine A_iload_n (i := 3) dX1_writeLine_43 rfl rfl ?_
        refine A_iconst (v := (-1)) dX1_writeLine_44 (by decide) ?_
        refine A_icmp_ne (tgt := 61) dX1_writeLine_45 (by decide) (fun c3 => ?_) (fun c3 => ?_)
        · skip
          refine A_aload_n (i := 0) dX1_writeLine_61 rfl rfl ?_
          refine A_getf cb_X1 fxθ16 7 (Nat.le_of_ble_eq_true rfl) q245 rfl (v := .ref ou) rfl dX1_writeLine_62 ?_
          refine A_iload_n (i := 3) dX1_writeLine_65 rfl rfl ?_
          refine A_callV1 (b' := ((nP N) - (i15 + 1)) * 36 + 0 + 0) (c_sbApIv θ16 σ ou sa0 (flagOnN N (nI i15)) (txL N i15 ++ [(b8 47)]) sθ16 (flagOn_k hF12 c3) (by have k := pθ16; omega)) tJ3_append_2 q1993 foθ16 rfl rfl dX1_writeLine_66 (by decide) (by omega) (Nat.le_of_ble_eq_true rfl) (fun w9 θ17 h17 => ?_) (fun E9 q9 τ9 h9 => h9.elim)
          obtain ⟨e9, sθ17⟩ := h17
          subst e9
          refine A_wfh (fun wθ17 hgθ17 => ?_)
          have kθ17 : fra [ou, sa0] σ θ17 := sθ17.fr
          have hRθ17 : RW g θ17 W N := hR9.nw (hS.nw wσ kθ17)
          have fxθ17 : θ17.1 x = some (.inr (.inl (0, [.ref bf, .int bd, .int pe, .int ep, .ref (wW W), .ref dq, .ref sv, .ref ou]))) := hS.keep wσ kθ17 hX (fun vs q => by simp at q) (fun n f q => by simp at q)
          obtain ⟨saθ17, mlθ17, foθ17⟩ := sθ17.cell
          have hRc := hRθ17
          obtain ⟨h1θ17, ⟨frθ17, h2θ17, h2pθ17⟩, ⟨fmθ17, h3θ17, h3pθ17⟩, ⟨mcnθ17, fnAθ17, h4θ17, h4pθ17, h4qθ17⟩, ⟨mcfθ17, ffAθ17, h5θ17, h5pθ17, h5qθ17⟩, ⟨fuθ17, h6θ17, h6pθ17⟩, h7θ17, h8θ17, h9θ17, h10θ17, h11θ17⟩ := hRc
          have fθ17θ17_0 : θ17.1 (wW W) = some (.inr (.inl (4, [.int (N 9), .ref (wR W), .ref (wM W), .ref (wNL W), .ref (wFL W), .ref (wUN W), .int (N 6), .int (N 8), .int (N 0), .int (N 1), .int (N 2), .int (N 3), .int (N 4), .int (N 5), .int (N 11)]))) := h1θ17
          have fθ17θ17_1 : θ17.1 (wFL W) = some (.inr (.inl (14, [.int mcfθ17, .ref (wFA W), .int (nI (nF N))]))) := h5θ17
          have fθ17θ17_2 : θ17.1 (wFA W) = some (.inl (.object "java/lang/Object", 12, .inr (.inr (.inr (.inr ffAθ17))))) := h5pθ17
          have fθ17θ17_3 : θ17.1 (wNL W) = some (.inr (.inl (14, [.int mcnθ17, .ref (wNA W), .int (nI (nN N))]))) := h4θ17
          have fθ17θ17_4 : θ17.1 (wNA W) = some (.inl (.object "java/lang/Object", 4, .inr (.inr (.inr (.inr fnAθ17))))) := h4pθ17
          have fθ17θ17_5 : θ17.1 (wR W) = some (.inl (.int, 6, .inl frθ17)) := h2θ17
          have fθ17θ17_6 : θ17.1 (wM W) = some (.inl (.int, 3, .inl fmθ17)) := h3θ17
          have fθ17θ17_7 : θ17.1 (wUN W) = some (.inl (.object "FlagLaundry$Test", 7, .inr (.inr (.inr (.inr fuθ17))))) := h6θ17
          have pθ17 : (txL N i15 ++ [(b8 47)] ++ numI (flagOnN N (nI i15))).length ≤ 3 * i15 + 1 + 2 := len2 pθ16
          refine A_pop dX1_writeLine_69 rfl ?_
          refine A_iinc (v := nI (i15 + 1)) dX1_writeLine_70 rfl (nI_inc _ _) (Nat.le_of_ble_eq_true rfl) ?_
          refine A_goto (tgt := 15) dX1_writeLine_73 (by decide) ?_
          have sx9 : SX σ ou sa0 θ17 (txL N (i15 + 1)) (txL N (i15 + 1)).length := by rw [txL_s, if_neg (show ¬ i15 = 0 by intro q; exact c1 (by rw [q]; decide)), if_neg c3]; exact sθ17
          refine A_less (b' := ((nP N) - (i15 + 1)) * 36 + 0) (by omega) ?_
          refine A_sub (L' := [(0, .ref x), (1, .ref (wW W)), (2, .int (nI (i15 + 1)))]) ⟨rfl, rfl, rfl, trivial⟩ ?_
          exact ih15 θ17 sx9
        · skip
          refine A_aload_n (i := 0) dX1_writeLine_48 rfl rfl ?_
          refine A_getf cb_X1 fxθ16 7 (Nat.le_of_ble_eq_true rfl) q245 rfl (v := .ref ou) rfl dX1_writeLine_49 ?_
          refine A_bipush (v := 46) dX1_writeLine_52 (by decide) ?_
          refine A_int (w := (b8 46)) (by decide) ?_
          refine A_callV1 (b' := ((nP N) - (i15 + 1)) * 36 + 0 + 0) (c_sbApCv θ16 σ ou sa0 (b8 46) (txL N i15 ++ [(b8 47)]) sθ16 ⟨46, by decide, by decide⟩ (by have k := pθ16; omega)) tJ3_append q1992 foθ16 rfl rfl dX1_writeLine_54 (by decide) (by omega) (Nat.le_of_ble_eq_true rfl) (fun w9 θ18 h18 => ?_) (fun E9 q9 τ9 h9 => h9.elim)
          obtain ⟨e9, sθ18⟩ := h18
          subst e9
          refine A_wfh (fun wθ18 hgθ18 => ?_)
          have kθ18 : fra [ou, sa0] σ θ18 := sθ18.fr
          have hRθ18 : RW g θ18 W N := hR9.nw (hS.nw wσ kθ18)
          have fxθ18 : θ18.1 x = some (.inr (.inl (0, [.ref bf, .int bd, .int pe, .int ep, .ref (wW W), .ref dq, .ref sv, .ref ou]))) := hS.keep wσ kθ18 hX (fun vs q => by simp at q) (fun n f q => by simp at q)
          obtain ⟨saθ18, mlθ18, foθ18⟩ := sθ18.cell
          have hRc := hRθ18
          obtain ⟨h1θ18, ⟨frθ18, h2θ18, h2pθ18⟩, ⟨fmθ18, h3θ18, h3pθ18⟩, ⟨mcnθ18, fnAθ18, h4θ18, h4pθ18, h4qθ18⟩, ⟨mcfθ18, ffAθ18, h5θ18, h5pθ18, h5qθ18⟩, ⟨fuθ18, h6θ18, h6pθ18⟩, h7θ18, h8θ18, h9θ18, h10θ18, h11θ18⟩ := hRc
          have fθ18θ18_0 : θ18.1 (wW W) = some (.inr (.inl (4, [.int (N 9), .ref (wR W), .ref (wM W), .ref (wNL W), .ref (wFL W), .ref (wUN W), .int (N 6), .int (N 8), .int (N 0), .int (N 1), .int (N 2), .int (N 3), .int (N 4), .int (N 5), .int (N 11)]))) := h1θ18
          have fθ18θ18_1 : θ18.1 (wFL W) = some (.inr (.inl (14, [.int mcfθ18, .ref (wFA W), .int (nI (nF N))]))) := h5θ18
          have fθ18θ18_2 : θ18.1 (wFA W) = some (.inl (.object "java/lang/Object", 12, .inr (.inr (.inr (.inr ffAθ18))))) := h5pθ18
          have fθ18θ18_3 : θ18.1 (wNL W) = some (.inr (.inl (14, [.int mcnθ18, .ref (wNA W), .int (nI (nN N))]))) := h4θ18
          have fθ18θ18_4 : θ18.1 (wNA W) = some (.inl (.object "java/lang/Object", 4, .inr (.inr (.inr (.inr fnAθ18))))) := h4pθ18
          have fθ18θ18_5 : θ18.1 (wR W) = some (.inl (.int, 6, .inl frθ18)) := h2θ18
          have fθ18θ18_6 : θ18.1 (wM W) = some (.inl (.int, 3, .inl fmθ18)) := h3θ18
          have fθ18θ18_7 : θ18.1 (wUN W) = some (.inl (.object "FlagLaundry$Test", 7, .inr (.inr (.inr (.inr fuθ18))))) := h6θ18
          have pθ18 : (txL N i15 ++ [(b8 47)] ++ [(b8 46)]).length ≤ 3 * i15 + 1 + 1 := len1 pθ16
          refine A_pop dX1_writeLine_57 rfl ?_
          refine A_goto (tgt := 70) dX1_writeLine_58 (by decide) ?_
          refine A_iinc (v := nI (i15 + 1)) dX1_writeLine_70 rfl (nI_inc _ _) (Nat.le_of_ble_eq_true rfl) ?_
          refine A_goto (tgt := 15) dX1_writeLine_73 (by decide) ?_
          have sx9 : SX σ ou sa0 θ18 (txL N (i15 + 1)) (txL N (i15 + 1)).length := by rw [txL_s, if_neg (show ¬ i15 = 0 by intro q; exact c1 (by rw [q]; decide)), if_pos c3]; exact sθ18
          refine A_less (b' := ((nP N) - (i15 + 1)) * 36 + 0) (by omega) ?_
          refine A_sub (L' := [(0, .ref x), (1, .ref (wW W)), (2, .int (nI (i15 + 1)))]) ⟨rfl, rfl, rfl, trivial⟩ ?_
          exact ih15 θ18 sx9
    · skip
      refine A_less (b' := 0) (by omega) ?_
      have sτ15 := hI15
      refine A_wfh (fun wτ15 hgτ15 => ?_)
      have kτ15 : fra [ou, sa0] σ τ15 := sτ15.fr
      have hRτ15 : RW g τ15 W N := hR9.nw (hS.nw wσ kτ15)
      have fxτ15 : τ15.1 x = some (.inr (.inl (0, [.ref bf, .int bd, .int pe, .int ep, .ref (wW W), .ref dq, .ref sv, .ref ou]))) := hS.keep wσ kτ15 hX (fun vs q => by simp at q) (fun n f q => by simp at q)
      obtain ⟨saτ15, mlτ15, foτ15⟩ := sτ15.cell
      have hRc := hRτ15
      obtain ⟨h1τ15, ⟨frτ15, h2τ15, h2pτ15⟩, ⟨fmτ15, h3τ15, h3pτ15⟩, ⟨mcnτ15, fnAτ15, h4τ15, h4pτ15, h4qτ15⟩, ⟨mcfτ15, ffAτ15, h5τ15, h5pτ15, h5qτ15⟩, ⟨fuτ15, h6τ15, h6pτ15⟩, h7τ15, h8τ15, h9τ15, h10τ15, h11τ15⟩ := hRc
      have fτ15τ15_0 : τ15.1 (wW W) = some (.inr (.inl (4, [.int (N 9), .ref (wR W), .ref (wM W), .ref (wNL W), .ref (wFL W), .ref (wUN W), .int (N 6), .int (N 8), .int (N 0), .int (N 1), .int (N 2), .int (N 3), .int (N 4), .int (N 5), .int (N 11)]))) := h1τ15
      have fτ15τ15_1 : τ15.1 (wFL W) = some (.inr (.inl (14, [.int mcfτ15, .ref (wFA W), .int (nI (nF N))]))) := h5τ15
      have fτ15τ15_2 : τ15.1 (wFA W) = some (.inl (.object "java/lang/Object", 12, .inr (.inr (.inr (.inr ffAτ15))))) := h5pτ15
      have fτ15τ15_3 : τ15.1 (wNL W) = some (.inr (.inl (14, [.int mcnτ15, .ref (wNA W), .int (nI (nN N))]))) := h4τ15
      have fτ15τ15_4 : τ15.1 (wNA W) = some (.inl (.object "java/lang/Object", 4, .inr (.inr (.inr (.inr fnAτ15))))) := h4pτ15
      have fτ15τ15_5 : τ15.1 (wR W) = some (.inl (.int, 6, .inl frτ15)) := h2τ15
      have fτ15τ15_6 : τ15.1 (wM W) = some (.inl (.int, 3, .inl fmτ15)) := h3τ15
      have fτ15τ15_7 : τ15.1 (wUN W) = some (.inl (.object "FlagLaundry$Test", 7, .inr (.inr (.inr (.inr fuτ15))))) := h6τ15
      have pτ15 : (txL N (nP N)).length ≤ 3 * (nP N) := txL_le N (nP N)
      refine A_iload_n (i := 2) dX1_writeLine_15 rfl rfl ?_
      refine A_aload_n (i := 1) dX1_writeLine_16 rfl rfl ?_
      refine A_getfN cb_X5 fτ15τ15_0 0 (Nat.le_of_ble_eq_true rfl) q823 rfl (v := .int (N 9)) rfl dX1_writeLine_17 ?_
      refine A_icmp_ge_t (tgt := 76) dX1_writeLine_20 (by decide) (br_ge hW.2.2.2.1.1) ?_
      refine A_aload_n (i := 0) dX1_writeLine_76 rfl rfl ?_
      refine A_getf cb_X1 fxτ15 7 (Nat.le_of_ble_eq_true rfl) q245 rfl (v := .ref ou) rfl dX1_writeLine_77 ?_
      refine A_callV0E (b' := 0) (v := some (.int (nI (txL N (nP N)).length))) (τ := τ15) (c_sbLen τ15 σ ou sa0 (txL N (nP N)) sτ15.room) tJ3_length q1994 foτ15 rfl rfl dX1_writeLine_80 (by decide) (Nat.le_of_ble_eq_true rfl) (Nat.le_of_ble_eq_true rfl) ?_
      exact A_iret dX1_writeLine_83 rfl (⟨(mayQ_0 hs (by decide) (by decide)), rfl, sτ15.room⟩)
theorem q_writeNation {l : Launch} {g : GC} (σ : AH) (x bf dq sv ou : Nat) (bd pe ep : Int32) (is : Int32) (nv : Value) (W : WA) (N : AF) (n : Int32) (sa0 cap0 : Nat) (ml0 : Int32) (f0 : AF) (lp : List Int32) (hL : LD g σ is nv W N) (hX : σ.1 x = some (lauC bf bd pe ep nv dq sv ou)) (hS : SBd σ ou sa0 cap0 ml0 f0 lp) (hp70 : lp.length ≤ 70) : AMet l g mX1_writeNation 14 920 [.ref x, .int n] σ (fun w τ => (mayT is (bi (okN is N n)) 1) = 0 ∧ w = some (.int (nI (orDash (txN N n (nF N))).length)) ∧ SX σ ou sa0 τ (orDash (txN N n (nF N))) (orDash (txN N n (nF N))).length) (A_thr ["java/lang/IllegalStateException", "java/lang/IndexOutOfBoundsException"] (mayT is (bi (okN is N n)) 1) σ) := by
  rcases hL with ⟨h0, hn⟩ | ⟨hs, hn, hR, hD, hw, hh⟩
  · subst hn
    refine A_of rfl (by decide) (Nat.le_of_ble_eq_true rfl) (L0 := [(0, .ref x), (1, .int n)]) rfl ?_
    refine A_wfh (fun wσ hgσ => ?_)
    have yσ : ext σ σ := ext.rf
    refine A_aload_n (i := 0) dX1_writeNation_0 rfl rfl ?_
    refine A_iload_n (i := 1) dX1_writeNation_1 rfl rfl ?_
    refine A_callV1 (b' := 0) (u_checkNation σ x bf dq sv ou bd pe ep n hX) tX1_checkNation q1455 hX rfl rfl dX1_writeNation_2 (by decide) (Nat.le_of_ble_eq_true rfl) (Nat.le_of_ble_eq_true rfl) (fun w9 τ9 h9 => h9.elim) (fun E9 q9 τ9 h9 => A_out rfl (⟨yσ.tr h9.2, 0, by rw [h9.1]; rfl, by rw [(mayQ_1 h0)]; rfl⟩))
  · subst hn
    have hW := hD.1
    have hR9 := hR
    obtain ⟨h1, ⟨fr, h2, h2p⟩, ⟨fm, h3, h3p⟩, ⟨mcn, fnA, h4, h4p, h4q⟩, ⟨mcf, ffA, h5, h5p, h5q⟩, ⟨fu, h6, h6p⟩, h7, h8, h9, h10, h11⟩ := hR
    have hF12 : nF N ≤ 12 := hW.2.2.2.2.2
    have hN4 : nN N ≤ 4 := hW.2.1.2
    have hC6 : nC N ≤ 6 := hW.1.2
    have hT3 : nT N ≤ 3 := hW.2.2.1.2
    have hP8 : nP N ≤ 8 := hW.2.2.2.1.2
    by_cases ck1 : inR n 0 (N 7 - 1)
    · skip
      obtain ⟨jn, hjn, rfl⟩ := in_ex hW.2.1.1 (Nat.le_trans hN4 (by decide)) ck1
      have bjn : jn < 2000 := Nat.lt_of_lt_of_le hjn (Nat.le_trans hN4 (by decide))
      refine A_of rfl (by decide) (Nat.le_of_ble_eq_true rfl) (L0 := [(0, .ref x), (1, .int (nI jn))]) rfl ?_
      refine A_wfh (fun wσ hgσ => ?_)
      have yσ : ext σ σ := ext.rf
      refine A_aload_n (i := 0) dX1_writeNation_0 rfl rfl ?_
      refine A_iload_n (i := 1) dX1_writeNation_1 rfl rfl ?_
      refine A_callV1E (b' := 920) (v := some (.ref (wN W jn))) (τ := σ) (c_checkNation σ x bf dq sv ou bd pe ep W N jn hX hR9 hD hjn) tX1_checkNation q1455 hX rfl rfl dX1_writeNation_2 (by decide) (Nat.le_of_ble_eq_true rfl) (Nat.le_of_ble_eq_true rfl) ?_
      refine A_astore_n (i := 2) dX1_writeNation_5 rfl (Nat.le_of_ble_eq_true rfl) ?_
      refine A_aload_n (i := 0) dX1_writeNation_6 rfl rfl ?_
      refine A_getf cb_X1 hX 7 (Nat.le_of_ble_eq_true rfl) q245 rfl (v := .ref ou) rfl dX1_writeNation_7 ?_
      refine A_iconst (v := 0) dX1_writeNation_10 (by decide) ?_
      refine A_callV1 (b' := 902) (c_sbSet σ σ ou sa0 lp (hS.sx.ex wσ yσ) hp70) tJ3_setLength q1928 hS.1 rfl rfl dX1_writeNation_11 (by decide) (Nat.le_of_ble_eq_true rfl) (Nat.le_of_ble_eq_true rfl) (fun w9 θ19 h19 => ?_) (fun E9 q9 τ9 h9 => h9.elim)
      obtain ⟨e9, sθ19⟩ := h19
      subst e9
      refine A_wfh (fun wθ19 hgθ19 => ?_)
      have kθ19 : fra [ou, sa0] σ θ19 := sθ19.fr
      have hRθ19 : RW g θ19 W N := hR9.nw (hS.nw wσ kθ19)
      have fxθ19 : θ19.1 x = some (.inr (.inl (0, [.ref bf, .int bd, .int pe, .int ep, .ref (wW W), .ref dq, .ref sv, .ref ou]))) := hS.keep wσ kθ19 hX (fun vs q => by simp at q) (fun n f q => by simp at q)
      obtain ⟨saθ19, mlθ19, foθ19⟩ := sθ19.cell
      have hRc := hRθ19
      obtain ⟨h1θ19, ⟨frθ19, h2θ19, h2pθ19⟩, ⟨fmθ19, h3θ19, h3pθ19⟩, ⟨mcnθ19, fnAθ19, h4θ19, h4pθ19, h4qθ19⟩, ⟨mcfθ19, ffAθ19, h5θ19, h5pθ19, h5qθ19⟩, ⟨fuθ19, h6θ19, h6pθ19⟩, h7θ19, h8θ19, h9θ19, h10θ19, h11θ19⟩ := hRc
      have fθ19θ19_0 : θ19.1 (wW W) = some (.inr (.inl (4, [.int (N 9), .ref (wR W), .ref (wM W), .ref (wNL W), .ref (wFL W), .ref (wUN W), .int (N 6), .int (N 8), .int (N 0), .int (N 1), .int (N 2), .int (N 3), .int (N 4), .int (N 5), .int (N 11)]))) := h1θ19
      have fθ19θ19_1 : θ19.1 (wFL W) = some (.inr (.inl (14, [.int mcfθ19, .ref (wFA W), .int (nI (nF N))]))) := h5θ19
      have fθ19θ19_2 : θ19.1 (wFA W) = some (.inl (.object "java/lang/Object", 12, .inr (.inr (.inr (.inr ffAθ19))))) := h5pθ19
      have fθ19θ19_3 : θ19.1 (wNL W) = some (.inr (.inl (14, [.int mcnθ19, .ref (wNA W), .int (nI (nN N))]))) := h4θ19
      have fθ19θ19_4 : θ19.1 (wNA W) = some (.inl (.object "java/lang/Object", 4, .inr (.inr (.inr (.inr fnAθ19))))) := h4pθ19
      have fθ19θ19_5 : θ19.1 (wR W) = some (.inl (.int, 6, .inl frθ19)) := h2θ19
      have fθ19θ19_6 : θ19.1 (wM W) = some (.inl (.int, 3, .inl fmθ19)) := h3θ19
      have fθ19θ19_7 : θ19.1 (wUN W) = some (.inl (.object "FlagLaundry$Test", 7, .inr (.inr (.inr (.inr fuθ19))))) := h6θ19
      have pθ19 : (nl).length ≤ 0 := Nat.le_refl 0
      refine A_iconst (v := 0) dX1_writeNation_14 (by decide) ?_
      refine A_istore_n (i := 3) dX1_writeNation_15 rfl (Nat.le_of_ble_eq_true rfl) ?_
      refine A_less (b' := ((nF N) - 0) * 73 + 18) (by omega) ?_
      refine A_sub (L' := [(0, .ref x), (1, .int (nI jn)), (2, .ref (wN W jn)), (3, .int (nI 0))]) ⟨rfl, rfl, rfl, rfl, trivial⟩ ?_
      refine A_forP (α := AH) (nF N) (fun i16 _ => ((nF N) - i16) * 73 + 18) (fun i16 _ => [(0, .ref x), (1, .int (nI jn)), (2, .ref (wN W jn)), (3, .int (nI i16))]) (fun _ τ16 => τ16) (fun i16 τ16 => SX σ ou sa0 τ16 (txN N (nI jn) i16) (txN N (nI jn) i16).length) θ19 (sθ19.room) (fun i16 τ16 hi16 hI16 ih16 => ?_) (fun τ16 hI16 => ?_)
      · skip
        refine A_less (b' := ((nF N) - (i16 + 1)) * 73 + 18 + 73) (by omega) ?_
        have sτ16 := hI16
        refine A_wfh (fun wτ16 hgτ16 => ?_)
        have kτ16 : fra [ou, sa0] σ τ16 := sτ16.fr
        have hRτ16 : RW g τ16 W N := hR9.nw (hS.nw wσ kτ16)
        have fxτ16 : τ16.1 x = some (.inr (.inl (0, [.ref bf, .int bd, .int pe, .int ep, .ref (wW W), .ref dq, .ref sv, .ref ou]))) := hS.keep wσ kτ16 hX (fun vs q => by simp at q) (fun n f q => by simp at q)
        obtain ⟨saτ16, mlτ16, foτ16⟩ := sτ16.cell
        have hRc := hRτ16
        obtain ⟨h1τ16, ⟨frτ16, h2τ16, h2pτ16⟩, ⟨fmτ16, h3τ16, h3pτ16⟩, ⟨mcnτ16, fnAτ16, h4τ16, h4pτ16, h4qτ16⟩, ⟨mcfτ16, ffAτ16, h5τ16, h5pτ16, h5qτ16⟩, ⟨fuτ16, h6τ16, h6pτ16⟩, h7τ16, h8τ16, h9τ16, h10τ16, h11τ16⟩ := hRc
        have fτ16τ16_0 : τ16.1 (wW W) = some (.inr (.inl (4, [.int (N 9), .ref (wR W), .ref (wM W), .ref (wNL W), .ref (wFL W), .ref (wUN W), .int (N 6), .int (N 8), .int (N 0), .int (N 1), .int (N 2), .int (N 3), .int (N 4), .int (N 5), .int (N 11)]))) := h1τ16
        have fτ16τ16_1 : τ16.1 (wFL W) = some (.inr (.inl (14, [.int mcfτ16, .ref (wFA W), .int (nI (nF N))]))) := h5τ16
        have fτ16τ16_2 : τ16.1 (wFA W) = some (.inl (.object "java/lang/Object", 12, .inr (.inr (.inr (.inr ffAτ16))))) := h5pτ16
        have fτ16τ16_3 : τ16.1 (wNL W) = some (.inr (.inl (14, [.int mcnτ16, .ref (wNA W), .int (nI (nN N))]))) := h4τ16
        have fτ16τ16_4 : τ16.1 (wNA W) = some (.inl (.object "java/lang/Object", 4, .inr (.inr (.inr (.inr fnAτ16))))) := h4pτ16
        have fτ16τ16_5 : τ16.1 (wR W) = some (.inl (.int, 6, .inl frτ16)) := h2τ16
        have fτ16τ16_6 : τ16.1 (wM W) = some (.inl (.int, 3, .inl fmτ16)) := h3τ16
        have fτ16τ16_7 : τ16.1 (wUN W) = some (.inl (.object "FlagLaundry$Test", 7, .inr (.inr (.inr (.inr fuτ16))))) := h6τ16
        have pτ16 : (txN N (nI jn) i16).length ≤ 5 * i16 := txN_le N (nI jn) i16
        refine A_iload_n (i := 3) dX1_writeNation_16 rfl rfl ?_
        refine A_aload_n (i := 0) dX1_writeNation_17 rfl rfl ?_
        refine A_getf cb_X1 fxτ16 4 (Nat.le_of_ble_eq_true rfl) q242 rfl (v := .ref (wW W)) rfl dX1_writeNation_18 ?_
        refine A_callV0E (b' := ((nF N) - (i16 + 1)) * 73 + 18 + 73) (v := some (.int (nI (nF N)))) (τ := τ16) (c_many τ16 W N hRτ16 hW) tX5_many q1369 fτ16τ16_0 rfl rfl dX1_writeNation_21 (by decide) (by omega) (Nat.le_of_ble_eq_true rfl) ?_
        refine A_icmp_ge_f (tgt := 103) dX1_writeNation_24 (by decide) (br_lt rfl hi16 (by omega)) ?_
        refine A_aload_n (i := 0) dX1_writeNation_27 rfl rfl ?_
        refine A_getf cb_X1 fxτ16 4 (Nat.le_of_ble_eq_true rfl) q242 rfl (v := .ref (wW W)) rfl dX1_writeNation_28 ?_
        refine A_iload_n (i := 3) dX1_writeNation_31 rfl rfl ?_
        refine A_callV1E (b' := ((nF N) - (i16 + 1)) * 73 + 18 + 73) (v := some (.ref (wF W i16))) (τ := τ16) (c_flagOf τ16 W N i16 hRτ16 hW hi16) tX5_flagOf q1153 fτ16τ16_0 rfl rfl dX1_writeNation_32 (by decide) (by omega) (Nat.le_of_ble_eq_true rfl) ?_
        refine A_getfN cb_X7 (hRτ16.2.2.2.2.2.2.1 i16 hi16) 0 (Nat.le_of_ble_eq_true rfl) q1098 rfl (v := .int (fl N i16 0)) rfl dX1_writeNation_35 ?_
        refine A_iload_n (i := 1) dX1_writeNation_38 rfl rfl ?_
        refine A_icmp_eq (tgt := 45) dX1_writeNation_39 (by decide) (fun c1 => ?_) (fun c1 => ?_)
        · skip
          refine A_aload_n (i := 0) dX1_writeNation_45 rfl rfl ?_
          refine A_getf cb_X1 fxτ16 7 (Nat.le_of_ble_eq_true rfl) q245 rfl (v := .ref ou) rfl dX1_writeNation_46 ?_
          refine A_callV0E (b' := ((nF N) - (i16 + 1)) * 73 + 18 + 73) (v := some (.int (nI (txN N (nI jn) i16).length))) (τ := τ16) (c_sbLen τ16 σ ou sa0 (txN N (nI jn) i16) sτ16.room) tJ3_length q1994 foτ16 rfl rfl dX1_writeNation_49 (by decide) (by omega) (Nat.le_of_ble_eq_true rfl) ?_
          refine A_if_le (tgt := 65) dX1_writeNation_52 (by decide) (fun c2 => ?_) (fun c2 => ?_)
          · skip
            refine A_aload_n (i := 0) dX1_writeNation_65 rfl rfl ?_
            refine A_getf cb_X1 fxτ16 7 (Nat.le_of_ble_eq_true rfl) q245 rfl (v := .ref ou) rfl dX1_writeNation_66 ?_
            refine A_iload_n (i := 3) dX1_writeNation_69 rfl rfl ?_
            refine A_callV1 (b' := ((nF N) - (i16 + 1)) * 73 + 18 + 55) (c_sbApIv τ16 σ ou sa0 (nI i16) (txN N (nI jn) i16) sτ16 (k100 (by omega)) (by have k := pτ16; omega)) tJ3_append_2 q1993 foτ16 rfl rfl dX1_writeNation_70 (by decide) (by omega) (Nat.le_of_ble_eq_true rfl) (fun w9 θ20 h20 => ?_) (fun E9 q9 τ9 h9 => h9.elim)
            obtain ⟨e9, sθ20⟩ := h20
            subst e9
            refine A_wfh (fun wθ20 hgθ20 => ?_)
            have kθ20 : fra [ou, sa0] σ θ20 := sθ20.fr
            have hRθ20 : RW g θ20 W N := hR9.nw (hS.nw wσ kθ20)
            have fxθ20 : θ20.1 x = some (.inr (.inl (0, [.ref bf, .int bd, .int pe, .int ep, .ref (wW W), .ref dq, .ref sv, .ref ou]))) := hS.keep wσ kθ20 hX (fun vs q => by simp at q) (fun n f q => by simp at q)
            obtain ⟨saθ20, mlθ20, foθ20⟩ := sθ20.cell
            have hRc := hRθ20
            obtain ⟨h1θ20, ⟨frθ20, h2θ20, h2pθ20⟩, ⟨fmθ20, h3θ20, h3pθ20⟩, ⟨mcnθ20, fnAθ20, h4θ20, h4pθ20, h4qθ20⟩, ⟨mcfθ20, ffAθ20, h5θ20, h5pθ20, h5qθ20⟩, ⟨fuθ20, h6θ20, h6pθ20⟩, h7θ20, h8θ20, h9θ20, h10θ20, h11θ20⟩ := hRc
            have fθ20θ20_0 : θ20.1 (wW W) = some (.inr (.inl (4, [.int (N 9), .ref (wR W), .ref (wM W), .ref (wNL W), .ref (wFL W), .ref (wUN W), .int (N 6), .int (N 8), .int (N 0), .int (N 1), .int (N 2), .int (N 3), .int (N 4), .int (N 5), .int (N 11)]))) := h1θ20
            have fθ20θ20_1 : θ20.1 (wFL W) = some (.inr (.inl (14, [.int mcfθ20, .ref (wFA W), .int (nI (nF N))]))) := h5θ20
            have fθ20θ20_2 : θ20.1 (wFA W) = some (.inl (.object "java/lang/Object", 12, .inr (.inr (.inr (.inr ffAθ20))))) := h5pθ20
            have fθ20θ20_3 : θ20.1 (wNL W) = some (.inr (.inl (14, [.int mcnθ20, .ref (wNA W), .int (nI (nN N))]))) := h4θ20
            have fθ20θ20_4 : θ20.1 (wNA W) = some (.inl (.object "java/lang/Object", 4, .inr (.inr (.inr (.inr fnAθ20))))) := h4pθ20
            have fθ20θ20_5 : θ20.1 (wR W) = some (.inl (.int, 6, .inl frθ20)) := h2θ20
            have fθ20θ20_6 : θ20.1 (wM W) = some (.inl (.int, 3, .inl fmθ20)) := h3θ20
            have fθ20θ20_7 : θ20.1 (wUN W) = some (.inl (.object "FlagLaundry$Test", 7, .inr (.inr (.inr (.inr fuθ20))))) := h6θ20
            have pθ20 : (txN N (nI jn) i16 ++ numI (nI i16)).length ≤ 5 * i16 + 2 := len2 pτ16
            refine A_bipush (v := 58) dX1_writeNation_73 (by decide) ?_
            refine A_int (w := (b8 58)) (by decide) ?_
            refine A_callV1 (b' := ((nF N) - (i16 + 1)) * 73 + 18 + 37) (c_sbApCv θ20 σ ou sa0 (b8 58) (txN N (nI jn) i16 ++ numI (nI i16)) sθ20 ⟨58, by decide, by decide⟩ (by have k := pθ20; omega)) tJ3_append q1992 foθ20 rfl rfl dX1_writeNation_75 (by decide) (by omega) (Nat.le_of_ble_eq_true rfl) (fun w9 θ21 h21 => ?_) (fun E9 q9 τ9 h9 => h9.elim)
            obtain ⟨e9, sθ21⟩ := h21
            subst e9
            refine A_wfh (fun wθ21 hgθ21 => ?_)
            have kθ21 : fra [ou, sa0] σ θ21 := sθ21.fr
            have hRθ21 : RW g θ21 W N := hR9.nw (hS.nw wσ kθ21)
            have fxθ21 : θ21.1 x = some (.inr (.inl (0, [.ref bf, .int bd, .int pe, .int ep, .ref (wW W), .ref dq, .ref sv, .ref ou]))) := hS.keep wσ kθ21 hX (fun vs q => by simp at q) (fun n f q => by simp at q)
            obtain ⟨saθ21, mlθ21, foθ21⟩ := sθ21.cell
            have hRc := hRθ21
            obtain ⟨h1θ21, ⟨frθ21, h2θ21, h2pθ21⟩, ⟨fmθ21, h3θ21, h3pθ21⟩, ⟨mcnθ21, fnAθ21, h4θ21, h4pθ21, h4qθ21⟩, ⟨mcfθ21, ffAθ21, h5θ21, h5pθ21, h5qθ21⟩, ⟨fuθ21, h6θ21, h6pθ21⟩, h7θ21, h8θ21, h9θ21, h10θ21, h11θ21⟩ := hRc
            have fθ21θ21_0 : θ21.1 (wW W) = some (.inr (.inl (4, [.int (N 9), .ref (wR W), .ref (wM W), .ref (wNL W), .ref (wFL W), .ref (wUN W), .int (N 6), .int (N 8), .int (N 0), .int (N 1), .int (N 2), .int (N 3), .int (N 4), .int (N 5), .int (N 11)]))) := h1θ21
            have fθ21θ21_1 : θ21.1 (wFL W) = some (.inr (.inl (14, [.int mcfθ21, .ref (wFA W), .int (nI (nF N))]))) := h5θ21
            have fθ21θ21_2 : θ21.1 (wFA W) = some (.inl (.object "java/lang/Object", 12, .inr (.inr (.inr (.inr ffAθ21))))) := h5pθ21
            have fθ21θ21_3 : θ21.1 (wNL W) = some (.inr (.inl (14, [.int mcnθ21, .ref (wNA W), .int (nI (nN N))]))) := h4θ21
            have fθ21θ21_4 : θ21.1 (wNA W) = some (.inl (.object "java/lang/Object", 4, .inr (.inr (.inr (.inr fnAθ21))))) := h4pθ21
            have fθ21θ21_5 : θ21.1 (wR W) = some (.inl (.int, 6, .inl frθ21)) := h2θ21
            have fθ21θ21_6 : θ21.1 (wM W) = some (.inl (.int, 3, .inl fmθ21)) := h3θ21
            have fθ21θ21_7 : θ21.1 (wUN W) = some (.inl (.object "FlagLaundry$Test", 7, .inr (.inr (.inr (.inr fuθ21))))) := h6θ21
            have pθ21 : (txN N (nI jn) i16 ++ numI (nI i16) ++ [(b8 58)]).length ≤ 5 * i16 + 2 + 1 := len1 pθ20
            refine A_aload_n (i := 0) dX1_writeNation_78 rfl rfl ?_
            refine A_getf cb_X1 fxθ21 4 (Nat.le_of_ble_eq_true rfl) q242 rfl (v := .ref (wW W)) rfl dX1_writeNation_79 ?_
            refine A_aload_n (i := 0) dX1_writeNation_82 rfl rfl ?_
            refine A_getf cb_X1 fxθ21 4 (Nat.le_of_ble_eq_true rfl) q242 rfl (v := .ref (wW W)) rfl dX1_writeNation_83 ?_
            refine A_iload_n (i := 3) dX1_writeNation_86 rfl rfl ?_
            refine A_callV1E (b' := ((nF N) - (i16 + 1)) * 73 + 18 + 37) (v := some (.ref (wF W i16))) (τ := θ21) (c_flagOf θ21 W N i16 hRθ21 hW hi16) tX5_flagOf q1153 fθ21θ21_0 rfl rfl dX1_writeNation_87 (by decide) (by omega) (Nat.le_of_ble_eq_true rfl) ?_
            refine A_callV1E (b' := ((nF N) - (i16 + 1)) * 73 + 18 + 37) (v := some (.int (whyN N i16))) (τ := θ21) (c_why5 θ21 W N i16 hRθ21 hD hi16) tX5_why q1630 fθ21θ21_0 rfl rfl dX1_writeNation_90 (by decide) (by omega) (Nat.le_of_ble_eq_true rfl) ?_
            refine A_callV1 (b' := ((nF N) - (i16 + 1)) * 73 + 18 + 19) (c_sbApIv θ21 σ ou sa0 (whyN N i16) (txN N (nI jn) i16 ++ numI (nI i16) ++ [(b8 58)]) sθ21 (whyN_k N i16) (by have k := pθ21; omega)) tJ3_append_2 q1993 foθ21 rfl rfl dX1_writeNation_93 (by decide) (by omega) (Nat.le_of_ble_eq_true rfl) (fun w9 θ22 h22 => ?_) (fun E9 q9 τ9 h9 => h9.elim)
            obtain ⟨e9, sθ22⟩ := h22
            subst e9
            refine A_wfh (fun wθ22 hgθ22 => ?_)
            have kθ22 : fra [ou, sa0] σ θ22 := sθ22.fr
            have hRθ22 : RW g θ22 W N := hR9.nw (hS.nw wσ kθ22)
            have fxθ22 : θ22.1 x = some (.inr (.inl (0, [.ref bf, .int bd, .int pe, .int ep, .ref (wW W), .ref dq, .ref sv, .ref ou]))) := hS.keep wσ kθ22 hX (fun vs q => by simp at q) (fun n f q => by simp at q)
            obtain ⟨saθ22, mlθ22, foθ22⟩ := sθ22.cell
            have hRc := hRθ22
            obtain ⟨h1θ22, ⟨frθ22, h2θ22, h2pθ22⟩, ⟨fmθ22, h3θ22, h3pθ22⟩, ⟨mcnθ22, fnAθ22, h4θ22, h4pθ22, h4qθ22⟩, ⟨mcfθ22, ffAθ22, h5θ22, h5pθ22, h5qθ22⟩, ⟨fuθ22, h6θ22, h6pθ22⟩, h7θ22, h8θ22, h9θ22, h10θ22, h11θ22⟩ := hRc
            have fθ22θ22_0 : θ22.1 (wW W) = some (.inr (.inl (4, [.int (N 9), .ref (wR W), .ref (wM W), .ref (wNL W), .ref (wFL W), .ref (wUN W), .int (N 6), .int (N 8), .int (N 0), .int (N 1), .int (N 2), .int (N 3), .int (N 4), .int (N 5), .int (N 11)]))) := h1θ22
            have fθ22θ22_1 : θ22.1 (wFL W) = some (.inr (.inl (14, [.int mcfθ22, .ref (wFA W), .int (nI (nF N))]))) := h5θ22
            have fθ22θ22_2 : θ22.1 (wFA W) = some (.inl (.object "java/lang/Object", 12, .inr (.inr (.inr (.inr ffAθ22))))) := h5pθ22
            have fθ22θ22_3 : θ22.1 (wNL W) = some (.inr (.inl (14, [.int mcnθ22, .ref (wNA W), .int (nI (nN N))]))) := h4θ22
            have fθ22θ22_4 : θ22.1 (wNA W) = some (.inl (.object "java/lang/Object", 4, .inr (.inr (.inr (.inr fnAθ22))))) := h4pθ22
            have fθ22θ22_5 : θ22.1 (wR W) = some (.inl (.int, 6, .inl frθ22)) := h2θ22
            have fθ22θ22_6 : θ22.1 (wM W) = some (.inl (.int, 3, .inl fmθ22)) := h3θ22
            have fθ22θ22_7 : θ22.1 (wUN W) = some (.inl (.object "FlagLaundry$Test", 7, .inr (.inr (.inr (.inr fuθ22))))) := h6θ22
            have pθ22 : (txN N (nI jn) i16 ++ numI (nI i16) ++ [(b8 58)] ++ numI (whyN N i16)).length ≤ 5 * i16 + 2 + 1 + 2 := len2 pθ21
            refine A_pop dX1_writeNation_96 rfl ?_
            refine A_iinc (v := nI (i16 + 1)) dX1_writeNation_97 rfl (nI_inc _ _) (Nat.le_of_ble_eq_true rfl) ?_
            refine A_goto (tgt := 16) dX1_writeNation_100 (by decide) ?_
            have sx9 : SX σ ou sa0 θ22 (txN N (nI jn) (i16 + 1)) (txN N (nI jn) (i16 + 1)).length := by rw [txN_s, if_pos c1, rsN, if_pos (show (txN N (nI jn) i16).length = 0 by have k := (nI_lei (b := 0) (by have k := txN_le N (nI jn) i16; omega) (by decide)).mp c2; omega)]; exact sθ22
            refine A_less (b' := ((nF N) - (i16 + 1)) * 73 + 18) (by omega) ?_
            refine A_sub (L' := [(0, .ref x), (1, .int (nI jn)), (2, .ref (wN W jn)), (3, .int (nI (i16 + 1)))]) ⟨rfl, rfl, rfl, rfl, trivial⟩ ?_
            exact ih16 θ22 sx9
          · skip
            refine A_aload_n (i := 0) dX1_writeNation_55 rfl rfl ?_
            refine A_getf cb_X1 fxτ16 7 (Nat.le_of_ble_eq_true rfl) q245 rfl (v := .ref ou) rfl dX1_writeNation_56 ?_
            refine A_bipush (v := 32) dX1_writeNation_59 (by decide) ?_
            refine A_int (w := (b8 32)) (by decide) ?_
            refine A_callV1 (b' := ((nF N) - (i16 + 1)) * 73 + 18 + 55) (c_sbApCv τ16 σ ou sa0 (b8 32) (txN N (nI jn) i16) sτ16 ⟨32, by decide, by decide⟩ (by have k := pτ16; omega)) tJ3_append q1992 foτ16 rfl rfl dX1_writeNation_61 (by decide) (by omega) (Nat.le_of_ble_eq_true rfl) (fun w9 θ23 h23 => ?_) (fun E9 q9 τ9 h9 => h9.elim)
            obtain ⟨e9, sθ23⟩ := h23
            subst e9
            refine A_wfh (fun wθ23 hgθ23 => ?_)
            have kθ23 : fra [ou, sa0] σ θ23 := sθ23.fr
            have hRθ23 : RW g θ23 W N := hR9.nw (hS.nw wσ kθ23)
            have fxθ23 : θ23.1 x = some (.inr (.inl (0, [.ref bf, .int bd, .int pe, .int ep, .ref (wW W), .ref dq, .ref sv, .ref ou]))) := hS.keep wσ kθ23 hX (fun vs q => by simp at q) (fun n f q => by simp at q)
            obtain ⟨saθ23, mlθ23, foθ23⟩ := sθ23.cell
            have hRc := hRθ23
            obtain ⟨h1θ23, ⟨frθ23, h2θ23, h2pθ23⟩, ⟨fmθ23, h3θ23, h3pθ23⟩, ⟨mcnθ23, fnAθ23, h4θ23, h4pθ23, h4qθ23⟩, ⟨mcfθ23, ffAθ23, h5θ23, h5pθ23, h5qθ23⟩, ⟨fuθ23, h6θ23, h6pθ23⟩, h7θ23, h8θ23, h9θ23, h10θ23, h11θ23⟩ := hRc
            have fθ23θ23_0 : θ23.1 (wW W) = some (.inr (.inl (4, [.int (N 9), .ref (wR W), .ref (wM W), .ref (wNL W), .ref (wFL W), .ref (wUN W), .int (N 6), .int (N 8), .int (N 0), .int (N 1), .int (N 2), .int (N 3), .int (N 4), .int (N 5), .int (N 11)]))) := h1θ23
            have fθ23θ23_1 : θ23.1 (wFL W) = some (.inr (.inl (14, [.int mcfθ23, .ref (wFA W), .int (nI (nF N))]))) := h5θ23
            have fθ23θ23_2 : θ23.1 (wFA W) = some (.inl (.object "java/lang/Object", 12, .inr (.inr (.inr (.inr ffAθ23))))) := h5pθ23
            have fθ23θ23_3 : θ23.1 (wNL W) = some (.inr (.inl (14, [.int mcnθ23, .ref (wNA W), .int (nI (nN N))]))) := h4θ23
            have fθ23θ23_4 : θ23.1 (wNA W) = some (.inl (.object "java/lang/Object", 4, .inr (.inr (.inr (.inr fnAθ23))))) := h4pθ23
            have fθ23θ23_5 : θ23.1 (wR W) = some (.inl (.int, 6, .inl frθ23)) := h2θ23
            have fθ23θ23_6 : θ23.1 (wM W) = some (.inl (.int, 3, .inl fmθ23)) := h3θ23
            have fθ23θ23_7 : θ23.1 (wUN W) = some (.inl (.object "FlagLaundry$Test", 7, .inr (.inr (.inr (.inr fuθ23))))) := h6θ23
            have pθ23 : (txN N (nI jn) i16 ++ [(b8 32)]).length ≤ 5 * i16 + 1 := len1 pτ16
            refine A_pop dX1_writeNation_64 rfl ?_
            refine A_aload_n (i := 0) dX1_writeNation_65 rfl rfl ?_
            refine A_getf cb_X1 fxθ23 7 (Nat.le_of_ble_eq_true rfl) q245 rfl (v := .ref ou) rfl dX1_writeNation_66 ?_
            refine A_iload_n (i := 3) dX1_writeNation_69 rfl rfl ?_
            refine A_callV1 (b' := ((nF N) - (i16 + 1)) * 73 + 18 + 37) (c_sbApIv θ23 σ ou sa0 (nI i16) (txN N (nI jn) i16 ++ [(b8 32)]) sθ23 (k100 (by omega)) (by have k := pθ23; omega)) tJ3_append_2 q1993 foθ23 rfl rfl dX1_writeNation_70 (by decide) (by omega) (Nat.le_of_ble_eq_true rfl) (fun w9 θ24 h24 => ?_) (fun E9 q9 τ9 h9 => h9.elim)
            obtain ⟨e9, sθ24⟩ := h24
            subst e9
            refine A_wfh (fun wθ24 hgθ24 => ?_)
            have kθ24 : fra [ou, sa0] σ θ24 := sθ24.fr
            have hRθ24 : RW g θ24 W N := hR9.nw (hS.nw wσ kθ24)
            have fxθ24 : θ24.1 x = some (.inr (.inl (0, [.ref bf, .int bd, .int pe, .int ep, .ref (wW W), .ref dq, .ref sv, .ref ou]))) := hS.keep wσ kθ24 hX (fun vs q => by simp at q) (fun n f q => by simp at q)
            obtain ⟨saθ24, mlθ24, foθ24⟩ := sθ24.cell
            have hRc := hRθ24
            obtain ⟨h1θ24, ⟨frθ24, h2θ24, h2pθ24⟩, ⟨fmθ24, h3θ24, h3pθ24⟩, ⟨mcnθ24, fnAθ24, h4θ24, h4pθ24, h4qθ24⟩, ⟨mcfθ24, ffAθ24, h5θ24, h5pθ24, h5qθ24⟩, ⟨fuθ24, h6θ24, h6pθ24⟩, h7θ24, h8θ24, h9θ24, h10θ24, h11θ24⟩ := hRc
            have fθ24θ24_0 : θ24.1 (wW W) = some (.inr (.inl (4, [.int (N 9), .ref (wR W), .ref (wM W), .ref (wNL W), .ref (wFL W), .ref (wUN W), .int (N 6), .int (N 8), .int (N 0), .int (N 1), .int (N 2), .int (N 3), .int (N 4), .int (N 5), .int (N 11)]))) := h1θ24
            have fθ24θ24_1 : θ24.1 (wFL W) = some (.inr (.inl (14, [.int mcfθ24, .ref (wFA W), .int (nI (nF N))]))) := h5θ24
            have fθ24θ24_2 : θ24.1 (wFA W) = some (.inl (.object "java/lang/Object", 12, .inr (.inr (.inr (.inr ffAθ24))))) := h5pθ24
            have fθ24θ24_3 : θ24.1 (wNL W) = some (.inr (.inl (14, [.int mcnθ24, .ref (wNA W), .int (nI (nN N))]))) := h4θ24
            have fθ24θ24_4 : θ24.1 (wNA W) = some (.inl (.object "java/lang/Object", 4, .inr (.inr (.inr (.inr fnAθ24))))) := h4pθ24
            have fθ24θ24_5 : θ24.1 (wR W) = some (.inl (.int, 6, .inl frθ24)) := h2θ24
            have fθ24θ24_6 : θ24.1 (wM W) = some (.inl (.int, 3, .inl fmθ24)) := h3θ24
            have fθ24θ24_7 : θ24.1 (wUN W) = some (.inl (.object "FlagLaundry$Test", 7, .inr (.inr (.inr (.inr fuθ24))))) := h6θ24
            have pθ24 : (txN N (nI jn) i16 ++ [(b8 32)] ++ numI (nI i16)).length ≤ 5 * i16 + 1 + 2 := len2 pθ23
            refine A_bipush (v := 58) dX1_writeNation_73 (by decide) ?_
            refine A_int (w := (b8 58)) (by decide) ?_
            refine A_callV1 (b' := ((nF N) - (i16 + 1)) * 73 + 18 + 19) (c_sbApCv θ24 σ ou sa0 (b8 58) (txN N (nI jn) i16 ++ [(b8 32)] ++ numI (nI i16)) sθ24 ⟨58, by decide, by decide⟩ (by have k := pθ24; omega)) tJ3_append q1992 foθ24 rfl rfl dX1_writeNation_75 (by decide) (by omega) (Nat.le_of_ble_eq_true rfl) (fun w9 θ25 h25 => ?_) (fun E9 q9 τ9 h9 => h9.elim)
            obtain ⟨e9, sθ25⟩ := h25
            subst e9
            refine A_wfh (fun wθ25 hgθ25 => ?_)
            have kθ25 : fra [ou, sa0] σ θ25 := sθ25.fr
            have hRθ25 : RW g θ25 W N := hR9.nw (hS.nw wσ kθ25)
            have fxθ25 : θ25.1 x = some (.inr (.inl (0, [.ref bf, .int bd, .int pe, .int ep, .ref (wW W), .ref dq, .ref sv, .ref ou]))) := hS.keep wσ kθ25 hX (fun vs q => by simp at q) (fun n f q => by simp at q)
            obtain ⟨saθ25, mlθ25, foθ25⟩ := sθ25.cell
            have hRc := hRθ25
            obtain ⟨h1θ25, ⟨frθ25, h2θ25, h2pθ25⟩, ⟨fmθ25, h3θ25, h3pθ25⟩, ⟨mcnθ25, fnAθ25, h4θ25, h4pθ25, h4qθ25⟩, ⟨mcfθ25, ffAθ25, h5θ25, h5pθ25, h5qθ25⟩, ⟨fuθ25, h6θ25, h6pθ25⟩, h7θ25, h8θ25, h9θ25, h10θ25, h11θ25⟩ := hRc
            have fθ25θ25_0 : θ25.1 (wW W) = some (.inr (.inl (4, [.int (N 9), .ref (wR W), .ref (wM W), .ref (wNL W), .ref (wFL W), .ref (wUN W), .int (N 6), .int (N 8), .int (N 0), .int (N 1), .int (N 2), .int (N 3), .int (N 4), .int (N 5), .int (N 11)]))) := h1θ25
            have fθ25θ25_1 : θ25.1 (wFL W) = some (.inr (.inl (14, [.int mcfθ25, .ref (wFA W), .int (nI (nF N))]))) := h5θ25
            have fθ25θ25_2 : θ25.1 (wFA W) = some (.inl (.object "java/lang/Object", 12, .inr (.inr (.inr (.inr ffAθ25))))) := h5pθ25
            have fθ25θ25_3 : θ25.1 (wNL W) = some (.inr (.inl (14, [.int mcnθ25, .ref (wNA W), .int (nI (nN N))]))) := h4θ25
            have fθ25θ25_4 : θ25.1 (wNA W) = some (.inl (.object "java/lang/Object", 4, .inr (.inr (.inr (.inr fnAθ25))))) := h4pθ25
            have fθ25θ25_5 : θ25.1 (wR W) = some (.inl (.int, 6, .inl frθ25)) := h2θ25
            have fθ25θ25_6 : θ25.1 (wM W) = some (.inl (.int, 3, .inl fmθ25)) := h3θ25
            have fθ25θ25_7 : θ25.1 (wUN W) = some (.inl (.object "FlagLaundry$Test", 7, .inr (.inr (.inr (.inr fuθ25))))) := h6θ25
            have pθ25 : (txN N (nI jn) i16 ++ [(b8 32)] ++ numI (nI i16) ++ [(b8 58)]).length ≤ 5 * i16 + 1 + 2 + 1 := len1 pθ24
            refine A_aload_n (i := 0) dX1_writeNation_78 rfl rfl ?_
            refine A_getf cb_X1 fxθ25 4 (Nat.le_of_ble_eq_true rfl) q242 rfl (v := .ref (wW W)) rfl dX1_writeNation_79 ?_
            refine A_aload_n (i := 0) dX1_writeNation_82 rfl rfl ?_
            refine A_getf cb_X1 fxθ25 4 (Nat.le_of_ble_eq_true rfl) q242 rfl (v := .ref (wW W)) rfl dX1_writeNation_83 ?_
            refine A_iload_n (i := 3) dX1_writeNation_86 rfl rfl ?_
            refine A_callV1E (b' := ((nF N) - (i16 + 1)) * 73 + 18 + 19) (v := some (.ref (wF W i16))) (τ := θ25) (c_flagOf θ25 W N i16 hRθ25 hW hi16) tX5_flagOf q1153 fθ25θ25_0 rfl rfl dX1_writeNation_87 (by decide) (by omega) (Nat.le_of_ble_eq_true rfl) ?_
            refine A_callV1E (b' := ((nF N) - (i16 + 1)) * 73 + 18 + 19) (v := some (.int (whyN N i16))) (τ := θ25) (c_why5 θ25 W N i16 hRθ25 hD hi16) tX5_why q1630 fθ25θ25_0 rfl rfl dX1_writeNation_90 (by decide) (by omega) (Nat.le_of_ble_eq_true rfl) ?_
            refine A_callV1 (b' := ((nF N) - (i16 + 1)) * 73 + 18 + 1) (c_sbApIv θ25 σ ou sa0 (whyN N i16) (txN N (nI jn) i16 ++ [(b8 32)] ++ numI (nI i16) ++ [(b8 58)]) sθ25 (whyN_k N i16) (by have k := pθ25; omega)) tJ3_append_2 q1993 foθ25 rfl rfl dX1_writeNation_93 (by decide) (by omega) (Nat.le_of_ble_eq_true rfl) (fun w9 θ26 h26 => ?_) (fun E9 q9 τ9 h9 => h9.elim)
            obtain ⟨e9, sθ26⟩ := h26
            subst e9
            refine A_wfh (fun wθ26 hgθ26 => ?_)
            have kθ26 : fra [ou, sa0] σ θ26 := sθ26.fr
            have hRθ26 : RW g θ26 W N := hR9.nw (hS.nw wσ kθ26)
            have fxθ26 : θ26.1 x = some (.inr (.inl (0, [.ref bf, .int bd, .int pe, .int ep, .ref (wW W), .ref dq, .ref sv, .ref ou]))) := hS.keep wσ kθ26 hX (fun vs q => by simp at q) (fun n f q => by simp at q)
            obtain ⟨saθ26, mlθ26, foθ26⟩ := sθ26.cell
            have hRc := hRθ26
            obtain ⟨h1θ26, ⟨frθ26, h2θ26, h2pθ26⟩, ⟨fmθ26, h3θ26, h3pθ26⟩, ⟨mcnθ26, fnAθ26, h4θ26, h4pθ26, h4qθ26⟩, ⟨mcfθ26, ffAθ26, h5θ26, h5pθ26, h5qθ26⟩, ⟨fuθ26, h6θ26, h6pθ26⟩, h7θ26, h8θ26, h9θ26, h10θ26, h11θ26⟩ := hRc
            have fθ26θ26_0 : θ26.1 (wW W) = some (.inr (.inl (4, [.int (N 9), .ref (wR W), .ref (wM W), .ref (wNL W), .ref (wFL W), .ref (wUN W), .int (N 6), .int (N 8), .int (N 0), .int (N 1), .int (N 2), .int (N 3), .int (N 4), .int (N 5), .int (N 11)]))) := h1θ26
            have fθ26θ26_1 : θ26.1 (wFL W) = some (.inr (.inl (14, [.int mcfθ26, .ref (wFA W), .int (nI (nF N))]))) := h5θ26
            have fθ26θ26_2 : θ26.1 (wFA W) = some (.inl (.object "java/lang/Object", 12, .inr (.inr (.inr (.inr ffAθ26))))) := h5pθ26
            have fθ26θ26_3 : θ26.1 (wNL W) = some (.inr (.inl (14, [.int mcnθ26, .ref (wNA W), .int (nI (nN N))]))) := h4θ26
            have fθ26θ26_4 : θ26.1 (wNA W) = some (.inl (.object "java/lang/Object", 4, .inr (.inr (.inr (.inr fnAθ26))))) := h4pθ26
            have fθ26θ26_5 : θ26.1 (wR W) = some (.inl (.int, 6, .inl frθ26)) := h2θ26
            have fθ26θ26_6 : θ26.1 (wM W) = some (.inl (.int, 3, .inl fmθ26)) := h3θ26
            have fθ26θ26_7 : θ26.1 (wUN W) = some (.inl (.object "FlagLaundry$Test", 7, .inr (.inr (.inr (.inr fuθ26))))) := h6θ26
            have pθ26 : (txN N (nI jn) i16 ++ [(b8 32)] ++ numI (nI i16) ++ [(b8 58)] ++ numI (whyN N i16)).length ≤ 5 * i16 + 1 + 2 + 1 + 2 := len2 pθ25
            refine A_pop dX1_writeNation_96 rfl ?_
            refine A_iinc (v := nI (i16 + 1)) dX1_writeNation_97 rfl (nI_inc _ _) (Nat.le_of_ble_eq_true rfl) ?_
            refine A_goto (tgt := 16) dX1_writeNation_100 (by decide) ?_
            have sx9 : SX σ ou sa0 θ26 (txN N (nI jn) (i16 + 1)) (txN N (nI jn) (i16 + 1)).length := by rw [txN_s, if_pos c1, rsN, if_neg (show ¬ (txN N (nI jn) i16).length = 0 by intro q; exact c2 (by rw [q]; decide))]; exact sθ26
            refine A_less (b' := ((nF N) - (i16 + 1)) * 73 + 18) (by omega) ?_
            refine A_sub (L' := [(0, .ref x), (1, .int (nI jn)), (2, .ref (wN W jn)), (3, .int (nI (i16 + 1)))]) ⟨rfl, rfl, rfl, rfl, trivial⟩ ?_
            exact ih16 θ26 sx9
        · skip
          refine A_goto (tgt := 97) dX1_writeNation_42 (by decide) ?_
          refine A_iinc (v := nI (i16 + 1)) dX1_writeNation_97 rfl (nI_inc _ _) (Nat.le_of_ble_eq_true rfl) ?_
          refine A_goto (tgt := 16) dX1_writeNation_100 (by decide) ?_
          have sx9 : SX σ ou sa0 τ16 (txN N (nI jn) (i16 + 1)) (txN N (nI jn) (i16 + 1)).length := by rw [txN_s, if_neg c1]; exact sτ16.room
          refine A_less (b' := ((nF N) - (i16 + 1)) * 73 + 18) (by omega) ?_
          refine A_sub (L' := [(0, .ref x), (1, .int (nI jn)), (2, .ref (wN W jn)), (3, .int (nI (i16 + 1)))]) ⟨rfl, rfl, rfl, rfl, trivial⟩ ?_
          exact ih16 τ16 sx9
      · skip
        refine A_less (b' := 18) (by omega) ?_
        have sτ16 := hI16
        refine A_wfh (fun wτ16 hgτ16 => ?_)
        have kτ16 : fra [ou, sa0] σ τ16 := sτ16.fr
        have hRτ16 : RW g τ16 W N := hR9.nw (hS.nw wσ kτ16)
        have fxτ16 : τ16.1 x = some (.inr (.inl (0, [.ref bf, .int bd, .int pe, .int ep, .ref (wW W), .ref dq, .ref sv, .ref ou]))) := hS.keep wσ kτ16 hX (fun vs q => by simp at q) (fun n f q => by simp at q)
        obtain ⟨saτ16, mlτ16, foτ16⟩ := sτ16.cell
        have hRc := hRτ16
        obtain ⟨h1τ16, ⟨frτ16, h2τ16, h2pτ16⟩, ⟨fmτ16, h3τ16, h3pτ16⟩, ⟨mcnτ16, fnAτ16, h4τ16, h4pτ16, h4qτ16⟩, ⟨mcfτ16, ffAτ16, h5τ16, h5pτ16, h5qτ16⟩, ⟨fuτ16, h6τ16, h6pτ16⟩, h7τ16, h8τ16, h9τ16, h10τ16, h11τ16⟩ := hRc
        have fτ16τ16_0 : τ16.1 (wW W) = some (.inr (.inl (4, [.int (N 9), .ref (wR W), .ref (wM W), .ref (wNL W), .ref (wFL W), .ref (wUN W), .int (N 6), .int (N 8), .int (N 0), .int (N 1), .int (N 2), .int (N 3), .int (N 4), .int (N 5), .int (N 11)]))) := h1τ16
        have fτ16τ16_1 : τ16.1 (wFL W) = some (.inr (.inl (14, [.int mcfτ16, .ref (wFA W), .int (nI (nF N))]))) := h5τ16
        have fτ16τ16_2 : τ16.1 (wFA W) = some (.inl (.object "java/lang/Object", 12, .inr (.inr (.inr (.inr ffAτ16))))) := h5pτ16
        have fτ16τ16_3 : τ16.1 (wNL W) = some (.inr (.inl (14, [.int mcnτ16, .ref (wNA W), .int (nI (nN N))]))) := h4τ16
        have fτ16τ16_4 : τ16.1 (wNA W) = some (.inl (.object "java/lang/Object", 4, .inr (.inr (.inr (.inr fnAτ16))))) := h4pτ16
        have fτ16τ16_5 : τ16.1 (wR W) = some (.inl (.int, 6, .inl frτ16)) := h2τ16
        have fτ16τ16_6 : τ16.1 (wM W) = some (.inl (.int, 3, .inl fmτ16)) := h3τ16
        have fτ16τ16_7 : τ16.1 (wUN W) = some (.inl (.object "FlagLaundry$Test", 7, .inr (.inr (.inr (.inr fuτ16))))) := h6τ16
        have pτ16 : (txN N (nI jn) (nF N)).length ≤ 5 * (nF N) := txN_le N (nI jn) (nF N)
        refine A_iload_n (i := 3) dX1_writeNation_16 rfl rfl ?_
        refine A_aload_n (i := 0) dX1_writeNation_17 rfl rfl ?_
        refine A_getf cb_X1 fxτ16 4 (Nat.le_of_ble_eq_true rfl) q242 rfl (v := .ref (wW W)) rfl dX1_writeNation_18 ?_
        refine A_callV0E (b' := 18) (v := some (.int (nI (nF N)))) (τ := τ16) (c_many τ16 W N hRτ16 hW) tX5_many q1369 fτ16τ16_0 rfl rfl dX1_writeNation_21 (by decide) (Nat.le_of_ble_eq_true rfl) (Nat.le_of_ble_eq_true rfl) ?_
        refine A_icmp_ge_t (tgt := 103) dX1_writeNation_24 (by decide) (br_ge rfl) ?_
        refine A_aload_n (i := 0) dX1_writeNation_103 rfl rfl ?_
        refine A_getf cb_X1 fxτ16 7 (Nat.le_of_ble_eq_true rfl) q245 rfl (v := .ref ou) rfl dX1_writeNation_104 ?_
        refine A_callV0E (b' := 18) (v := some (.int (nI (txN N (nI jn) (nF N)).length))) (τ := τ16) (c_sbLen τ16 σ ou sa0 (txN N (nI jn) (nF N)) sτ16.room) tJ3_length q1994 foτ16 rfl rfl dX1_writeNation_107 (by decide) (Nat.le_of_ble_eq_true rfl) (Nat.le_of_ble_eq_true rfl) ?_
        refine A_if_ne (tgt := 123) dX1_writeNation_110 (by decide) (fun c3 => ?_) (fun c3 => ?_)
        · skip
          refine A_aload_n (i := 0) dX1_writeNation_123 rfl rfl ?_
          refine A_getf cb_X1 fxτ16 7 (Nat.le_of_ble_eq_true rfl) q245 rfl (v := .ref ou) rfl dX1_writeNation_124 ?_
          refine A_callV0E (b' := 18) (v := some (.int (nI (txN N (nI jn) (nF N)).length))) (τ := τ16) (c_sbLen τ16 σ ou sa0 (txN N (nI jn) (nF N)) sτ16.room) tJ3_length q1994 foτ16 rfl rfl dX1_writeNation_127 (by decide) (Nat.le_of_ble_eq_true rfl) (Nat.le_of_ble_eq_true rfl) ?_
          have eo9 : orDash (txN N (nI jn) (nF N)) = txN N (nI jn) (nF N) := by unfold orDash; rw [if_neg (fun q => c3 (by rw [q]; rfl))]
          exact A_iret dX1_writeNation_130 rfl (⟨(mayQ_0 hs (bi_n ⟨hs, ck1⟩) (by decide)), (by rw [eo9]), by rw [eo9]; exact sτ16.room⟩)
        · skip
          refine A_aload_n (i := 0) dX1_writeNation_113 rfl rfl ?_
          refine A_getf cb_X1 fxτ16 7 (Nat.le_of_ble_eq_true rfl) q245 rfl (v := .ref ou) rfl dX1_writeNation_114 ?_
          refine A_bipush (v := 45) dX1_writeNation_117 (by decide) ?_
          refine A_int (w := (b8 45)) (by decide) ?_
          refine A_callV1 (b' := 0) (c_sbApCv τ16 σ ou sa0 (b8 45) (txN N (nI jn) (nF N)) sτ16 ⟨45, by decide, by decide⟩ (by have k := pτ16; omega)) tJ3_append q1992 foτ16 rfl rfl dX1_writeNation_119 (by decide) (Nat.le_of_ble_eq_true rfl) (Nat.le_of_ble_eq_true rfl) (fun w9 θ27 h27 => ?_) (fun E9 q9 τ9 h9 => h9.elim)
          obtain ⟨e9, sθ27⟩ := h27
          subst e9
          refine A_wfh (fun wθ27 hgθ27 => ?_)
          have kθ27 : fra [ou, sa0] σ θ27 := sθ27.fr
          have hRθ27 : RW g θ27 W N := hR9.nw (hS.nw wσ kθ27)
          have fxθ27 : θ27.1 x = some (.inr (.inl (0, [.ref bf, .int bd, .int pe, .int ep, .ref (wW W), .ref dq, .ref sv, .ref ou]))) := hS.keep wσ kθ27 hX (fun vs q => by simp at q) (fun n f q => by simp at q)
          obtain ⟨saθ27, mlθ27, foθ27⟩ := sθ27.cell
          have hRc := hRθ27
          obtain ⟨h1θ27, ⟨frθ27, h2θ27, h2pθ27⟩, ⟨fmθ27, h3θ27, h3pθ27⟩, ⟨mcnθ27, fnAθ27, h4θ27, h4pθ27, h4qθ27⟩, ⟨mcfθ27, ffAθ27, h5θ27, h5pθ27, h5qθ27⟩, ⟨fuθ27, h6θ27, h6pθ27⟩, h7θ27, h8θ27, h9θ27, h10θ27, h11θ27⟩ := hRc
          have fθ27θ27_0 : θ27.1 (wW W) = some (.inr (.inl (4, [.int (N 9), .ref (wR W), .ref (wM W), .ref (wNL W), .ref (wFL W), .ref (wUN W), .int (N 6), .int (N 8), .int (N 0), .int (N 1), .int (N 2), .int (N 3), .int (N 4), .int (N 5), .int (N 11)]))) := h1θ27
          have fθ27θ27_1 : θ27.1 (wFL W) = some (.inr (.inl (14, [.int mcfθ27, .ref (wFA W), .int (nI (nF N))]))) := h5θ27
          have fθ27θ27_2 : θ27.1 (wFA W) = some (.inl (.object "java/lang/Object", 12, .inr (.inr (.inr (.inr ffAθ27))))) := h5pθ27
          have fθ27θ27_3 : θ27.1 (wNL W) = some (.inr (.inl (14, [.int mcnθ27, .ref (wNA W), .int (nI (nN N))]))) := h4θ27
          have fθ27θ27_4 : θ27.1 (wNA W) = some (.inl (.object "java/lang/Object", 4, .inr (.inr (.inr (.inr fnAθ27))))) := h4pθ27
          have fθ27θ27_5 : θ27.1 (wR W) = some (.inl (.int, 6, .inl frθ27)) := h2θ27
          have fθ27θ27_6 : θ27.1 (wM W) = some (.inl (.int, 3, .inl fmθ27)) := h3θ27
          have fθ27θ27_7 : θ27.1 (wUN W) = some (.inl (.object "FlagLaundry$Test", 7, .inr (.inr (.inr (.inr fuθ27))))) := h6θ27
          have pθ27 : (txN N (nI jn) (nF N) ++ [(b8 45)]).length ≤ 5 * (nF N) + 1 := len1 pτ16
          refine A_pop dX1_writeNation_122 rfl ?_
          refine A_aload_n (i := 0) dX1_writeNation_123 rfl rfl ?_
          refine A_getf cb_X1 fxθ27 7 (Nat.le_of_ble_eq_true rfl) q245 rfl (v := .ref ou) rfl dX1_writeNation_124 ?_
          refine A_callV0E (b' := 0) (v := some (.int (nI (txN N (nI jn) (nF N) ++ [(b8 45)]).length))) (τ := θ27) (c_sbLen θ27 σ ou sa0 (txN N (nI jn) (nF N) ++ [(b8 45)]) sθ27.room) tJ3_length q1994 foθ27 rfl rfl dX1_writeNation_127 (by decide) (Nat.le_of_ble_eq_true rfl) (Nat.le_of_ble_eq_true rfl) ?_
          have hl9 : (txN N (nI jn) (nF N)).length = 0 := (nI_eqi (by have k := txN_le N (nI jn) (nF N); omega) (by decide)).mp c3
          have eo9 : orDash (txN N (nI jn) (nF N)) = txN N (nI jn) (nF N) ++ [(b8 45)] := by unfold orDash; rw [if_pos hl9]
          exact A_iret dX1_writeNation_130 rfl (⟨(mayQ_0 hs (bi_n ⟨hs, ck1⟩) (by decide)), (by rw [eo9]), by rw [eo9]; exact sθ27.room⟩)
    · skip
      refine A_of rfl (by decide) (Nat.le_of_ble_eq_true rfl) (L0 := [(0, .ref x), (1, .int n)]) rfl ?_
      refine A_wfh (fun wσ hgσ => ?_)
      have yσ : ext σ σ := ext.rf
      refine A_aload_n (i := 0) dX1_writeNation_0 rfl rfl ?_
      refine A_iload_n (i := 1) dX1_writeNation_1 rfl rfl ?_
      refine A_callV1 (b' := 0) (c_checkNation_no σ x bf dq sv ou bd pe ep W N n hX hR9 hD ck1) tX1_checkNation q1455 hX rfl rfl dX1_writeNation_2 (by decide) (Nat.le_of_ble_eq_true rfl) (Nat.le_of_ble_eq_true rfl) (fun w9 τ9 h9 => h9.elim) (fun E9 q9 τ9 h9 => A_out rfl (⟨yσ.tr h9.2, 1, by rw [h9.1]; rfl, by rw [(mayQ_2 hs (bi_f (fun h => ck1 h.2)))]; rfl⟩))
theorem q_textByte {l : Launch} {g : GC} (σ : AH) (x bf dq sv ou : Nat) (bd pe ep : Int32) (nv : Value) (i : Int32) (sa0 cap0 : Nat) (ml0 : Int32) (f0 : AF) (lp : List Int32) (hX : σ.1 x = some (lauC bf bd pe ep nv dq sv ou)) (hS : SBd σ ou sa0 cap0 ml0 f0 lp) (hp70 : lp.length ≤ 70) : AMet l g mX1_textByte 8 2 [.ref x, .int i] σ (A_val (mayT (bi (inR i 0 (nI lp.length - 1))) 1 1) (.int (lp.getD (ix i) 0)) σ) (A_thr ["java/lang/IndexOutOfBoundsException"] (mayT (bi (inR i 0 (nI lp.length - 1))) 1 1) σ) := by
  by_cases ck1 : inR i 0 (nI lp.length - 1)
  · skip
    obtain ⟨ji, hji, rfl⟩ := in_ex (M := nI lp.length) rfl (by omega) ck1
    have bji : ji < 2000 := by omega
    refine A_of rfl (by decide) (Nat.le_of_ble_eq_true rfl) (L0 := [(0, .ref x), (1, .int (nI ji))]) rfl ?_
    refine A_wfh (fun wσ hgσ => ?_)
    have yσ : ext σ σ := ext.rf
    refine A_iload_n (i := 1) dX1_textByte_0 rfl rfl ?_
    refine A_aload_n (i := 0) dX1_textByte_1 rfl rfl ?_
    refine A_getf cb_X1 hX 7 (Nat.le_of_ble_eq_true rfl) q245 rfl (v := .ref ou) rfl dX1_textByte_2 ?_
    refine A_callV0E (b' := 2) (v := some (.int (nI lp.length))) (τ := σ) (c_sbLen σ σ ou sa0 lp hS.sx) tJ3_length q1994 hS.1 rfl rfl dX1_textByte_5 (by decide) (Nat.le_of_ble_eq_true rfl) (Nat.le_of_ble_eq_true rfl) ?_
    refine A_callS2E (b' := 2) (v := none) (τ := σ) (c_cIdx σ (nI ji) (nI lp.length) ck1) tX1_checkIndex q378 dX1_textByte_8 (by decide) (Nat.le_of_ble_eq_true rfl) (Nat.le_of_ble_eq_true rfl) ?_
    refine A_aload_n (i := 0) dX1_textByte_11 rfl rfl ?_
    refine A_getf cb_X1 hX 7 (Nat.le_of_ble_eq_true rfl) q245 rfl (v := .ref ou) rfl dX1_textByte_12 ?_
    refine A_iload_n (i := 1) dX1_textByte_15 rfl rfl ?_
    refine A_callV1E (b' := 2) (v := some (.int (lp.getD ji 0))) (τ := σ) (c_sbAt σ σ ou sa0 lp ji hS.sx hji) tJ3_charAt q2023 hS.1 rfl rfl dX1_textByte_16 (by decide) (Nat.le_of_ble_eq_true rfl) (Nat.le_of_ble_eq_true rfl) ?_
    exact A_iret dX1_textByte_19 rfl (⟨mayQ_0 (bi_n ck1) (by decide) (by decide), by rw [ixn bji], yσ⟩)
  · skip
    refine A_of rfl (by decide) (Nat.le_of_ble_eq_true rfl) (L0 := [(0, .ref x), (1, .int i)]) rfl ?_
    refine A_wfh (fun wσ hgσ => ?_)
    have yσ : ext σ σ := ext.rf
    refine A_iload_n (i := 1) dX1_textByte_0 rfl rfl ?_
    refine A_aload_n (i := 0) dX1_textByte_1 rfl rfl ?_
    refine A_getf cb_X1 hX 7 (Nat.le_of_ble_eq_true rfl) q245 rfl (v := .ref ou) rfl dX1_textByte_2 ?_
    refine A_callV0E (b' := 2) (v := some (.int (nI lp.length))) (τ := σ) (c_sbLen σ σ ou sa0 lp hS.sx) tJ3_length q1994 hS.1 rfl rfl dX1_textByte_5 (by decide) (Nat.le_of_ble_eq_true rfl) (Nat.le_of_ble_eq_true rfl) ?_
    refine A_callS2 (b' := 0) (c_cIdx_no σ i (nI lp.length) ck1) tX1_checkIndex q378 dX1_textByte_8 (by decide) (Nat.le_of_ble_eq_true rfl) (Nat.le_of_ble_eq_true rfl) (fun w9 τ9 h9 => h9.elim) (fun E9 q9 τ9 h9 => A_out rfl (⟨yσ.tr h9.2, 0, by rw [h9.1]; rfl, by rw [mayQ_1 (bi_f ck1)]; rfl⟩))
