/-! MORE ROWS 4: old Strings and byte arrays as objects; the finally block; a flaw -/
section Rows9
variable {p : Program} {l : Launch} {e : Env} {R : Room} {s : State} {m : MethodId} {args : Array Value} {below : List Frame} {meth : Method} {c : Code} {H : Heap} {locs : List Loc} {cells slots : Nat} {Q : State → Prop}
variable {cc : ByteArray} {pc : Nat} {ls : Array Slot} {rest : List Value}
theorem vx_any {own E : String} {ce : Cell} {q : Addr} (hown : s.vm.findClass own = some m.cls) (pre : List ExceptionTableEntry) (x : ExceptionTableEntry) (suf : List ExceptionTableEntry) (hsplit : c.exceptionTable.toList = pre ++ x :: suf)
    (hpass : ∀ z ∈ pre, covers z pc = false ∨ (z.catchType ≠ 0 ∧ ∃ nm : String, (Cond.classLink own z.catchType nm).before args s = true ∧ va_Nc E nm s)) (hx : covers x pc = true) (h0 : x.catchType = 0) (hcell : H[q]? = some ce) (hv : ce.vm = .none) (hcl : s.vm.findClass E = some ce.cls)
    (kk : W p l e R s m args below meth c H locs cells slots Q (F0 m x.handlerPc ls [.ref q])) : vx_W p l e R s m args below meth c H locs cells slots Q (F0 m pc ls rest) q := by
  intro T hT X
  have hpl : e.platform.magicAccessors = ({} : Platform).magicAccessors := by rw [X.admits.platform]
  obtain ⟨vm', X', st⟩ := X.thenCaughtThrough q (g := F0 m pc ls rest) rfl (Steps.refl _) (by rw [hT]; exact hcell) (by rw [hv]; rfl) (by obtain ⟨k9, h9, -⟩ := Vm.findClass_spec hcl; exact ⟨k9, h9⟩) pre x suf hsplit
    (fun z hz => by
      rcases hpass z hz with h | ⟨hz0, nm, hl1, hn1⟩
      · exact Or.inl h
      · obtain ⟨c6, hc6, hcl6⟩ := Cond.classLink_spec hown hl1 e.platform hpl
        obtain ⟨a8, b8, h1, h2, h3⟩ := hn1
        cases Option.some.inj (h1.symm.trans hcl)
        cases Option.some.inj (h2.symm.trans hc6)
        exact Or.inr ⟨hz0, _, hcl6, h3⟩) hx (Or.inl h0)
  obtain ⟨t, a1, b1⟩ := kk (T.setVm vm') hT X'
  exact ⟨t, st.trans a1, b1⟩
end Rows9
section ARowsT
variable {l : Launch} {g : GC} {mi : MI} {d b : Nat} {Q : Option Value → AH → Prop} {X : String → Nat → AH → Prop} {pc : Nat} {L : List (Nat × Value)} {st : List Value} {σ : AH}
theorem A_castB {x : vp_A} {a ix : Nat} (hO : σ.1 a = some (.inl (.byte, x))) (hq : Cond.classLink mi.1.cls ix "[B" ∈ lw_all) (hd : decode mi.2.1 pc = .ok (.checkcast ix, 3)) (kk : AW l g mi d b Q X (pc + 3) L (.ref a :: st) σ) : AW l g mi d b Q X pc L (.ref a :: st) σ := by
  intro p e R s m args below meth c H locs cells slots ls C hP hL hl
  have hc := C
  obtain ⟨hx, hb, hr, hlk, hml, hown, hts, hg, hW, hrest⟩ := C
  exact va_castA hx hb hown (hts _ hq) (A_oneA (hP.2.2.1 a _ hO).2.2) 0 rfl (A_arr hg hW (ty := .byte) (by decide)).2.1 hd (kk p e R s m args below meth c H locs cells slots ls hc hP hL hl)
theorem A_castO {a ix : Nat} {nm : String} (hO : o_cls g nm a) (hq : Cond.classLink mi.1.cls ix nm ∈ lw_all) (hd : decode mi.2.1 pc = .ok (.checkcast ix, 3)) (kk : AW l g mi d b Q X (pc + 3) L (.ref a :: st) σ) : AW l g mi d b Q X pc L (.ref a :: st) σ := by
  intro p e R s m args below meth c H locs cells slots ls C hP hL hl
  have hc := C
  obtain ⟨hx, hb, hr, hlk, hml, hown, hts, hg, hW, hrest⟩ := C
  exact va_castE hx hb hown (hts _ hq) (o_recv hW hP hO) hd (kk p e R s m args below meth c H locs cells slots ls hc hP hL hl)
theorem A_instO {a ix : Nat} {nm : String} (hO : o_cls g nm a) (hq : Cond.classLink mi.1.cls ix nm ∈ lw_all) (hd : decode mi.2.1 pc = .ok (.instanceof ix, 3)) (kk : AW l g mi d b Q X (pc + 3) L (.int 1 :: st) σ) : AW l g mi d b Q X pc L (.ref a :: st) σ := by
  intro p e R s m args below meth c H locs cells slots ls C hP hL hl
  have hc := C
  obtain ⟨hx, hb, hr, hlk, hml, hown, hts, hg, hW, hrest⟩ := C
  exact va_instE hx hb hown (hts _ hq) (o_recv hW hP hO) hd (kk p e R s m args below meth c H locs cells slots ls hc hP hL hl)
/-- caught by the finally block -/
theorem A_catchAny {E : String} {q : Nat} {pre suf : List (Nat × Nat × Nat × Nat)} {s9 e9 h9 : Nat} (hh : mi.2.2.2.2 = pre ++ (s9, e9, h9, 0) :: suf) (hpass : ∀ z ∈ pre, (¬ (z.1 ≤ pc ∧ pc < z.2.1)) ∨ (z.2.2.2 ≠ 0 ∧ ∃ nm : String, Cond.classLink mi.1.cls z.2.2.2 nm ∈ lw_all ∧ Cond.not (.castable E nm) ∈ flatC (Jvm.Cond.and given_1 narrow_1))) (hin : s9 ≤ pc ∧ pc < e9) (kk : AW l g mi d b Q X h9 L [.ref q] σ) : AX l g mi d b Q X pc L E q σ := by
  intro p e R s m args below meth c H locs cells slots ls ce st C hP hL hl hce hvm hfc
  have hc := C
  obtain ⟨hx9, hb, hr, hlk, hml, hown, hts, hg, hW, ⟨h10, h10'⟩, ⟨h11, h11'⟩, hnm, htb, hmn⟩ := C
  refine vx_any hown (tableOf pre) ⟨s9, e9, h9, 0⟩ (tableOf suf) (by rw [htb, hh]; simp [tableOf]) (fun z hz => ?_) (by simp [covers, hin.1, hin.2]) rfl hce hvm hfc (kk p e R s m args below meth c H locs cells slots ls hc hP hL hl)
  obtain ⟨z', hz', rfl⟩ := List.mem_map.mp hz
  rcases hpass z' hz' with h | ⟨h1, nm, h2, h3⟩
  · left
    simp only [covers]
    simpa using h
  · exact Or.inr ⟨h1, nm, hts _ h2, va_Nc.moved hW.alike (va_Nc.of (nw_of hg h3))⟩
end ARowsT
section AFin
variable {l : Launch} {g : GC} {mi : MI} {d b : Nat} {Q : Option Value → AH → Prop} {X : String → Nat → AH → Prop} {pc : Nat} {L : List (Nat × Value)} {σ : AH}
/-- a finally block that sets one field to a number and throws again -/
theorem A_fin {ci N : Nat} {Cn : String} {T : Nat → String × String × String × Bool} {ty : Nat → FieldType} (cb : A_CB ci Cn T N ty) {E : String} {q : Nat} {pre suf : List (Nat × Nat × Nat × Nat)} {s9 e9 h9 : Nat} (hh : mi.2.2.2.2 = pre ++ (s9, e9, h9, 0) :: suf) (hpass : ∀ z ∈ pre, (¬ (z.1 ≤ pc ∧ pc < z.2.1)) ∨ (z.2.2.2 ≠ 0 ∧ ∃ nm : String, Cond.classLink mi.1.cls z.2.2.2 nm ∈ lw_all ∧ Cond.not (.castable E nm) ∈ flatC (Jvm.Cond.and given_1 narrow_1))) (hin : s9 ≤ pc ∧ pc < e9)
    {a : Nat} (hqa : ¬ q = a) {fs : List Value} {z : Int} {w : Int32} (hz : Int32.ofInt z = w) (h : σ.1 a = some (.inr (.inl (ci, fs)))) (fk : Nat) (hk : fk < N) {ix : Nat} {ref : String} (hq : Cond.fieldLink mi.1.cls ix ref (T fk).2.1 (T fk).2.2.1 ∈ lw_all) (hs : ref = (T fk).1) (hfin : (T fk).2.2.2 = false) (hn : narrow (ty fk) (.int w) = .int w) (hfit : fits (ty fk) (.int w) = true) (hlen : fk < fs.length)
    (d0 : decode mi.2.1 h9 = .ok (.astore_n 3, 1)) (d1 : decode mi.2.1 (h9 + 1) = .ok (.aload_n 0, 1)) (d2 : decode mi.2.1 (h9 + 2) = .ok (.iconst z, 1)) (d3 : decode mi.2.1 (h9 + 3) = .ok (.putfield ix, 3)) (d6 : decode mi.2.1 (h9 + 6) = .ok (.aload_n 3, 1)) (d7 : decode mi.2.1 (h9 + 7) = .ok (.athrow, 1)) (h3 : 3 < mi.2.2.1) (g0 : lget (lst1 3 (.ref q) L) 0 = some (.ref a)) (g3 : lget (lst1 3 (.ref q) L) 3 = some (.ref q))
    (kk : AX l g mi d b Q X (h9 + 7) (lst1 3 (.ref q) L) E q (h_put σ a (.inr (.inl (ci, fs.set fk (.int w)))))) : AX l g mi d b Q X pc L E q σ := by
  intro p e R s m args below meth c H locs cells slots ls ce st C hP hL hl hce hvm hfc
  have hc := C
  obtain ⟨hx, hb, hr, hlk, hml, hown, hts, hg, hW, ⟨h10, h10'⟩, ⟨h11, h11'⟩, hnm, htb, hmn⟩ := C
  refine vx_any hown (tableOf pre) ⟨s9, e9, h9, 0⟩ (tableOf suf) (by rw [htb, hh]; simp [tableOf]) (fun z hz => ?_) (by simp [covers, hin.1, hin.2]) rfl hce hvm hfc ?_
  · obtain ⟨z', hz', rfl⟩ := List.mem_map.mp hz
    rcases hpass z' hz' with h | ⟨h1, nm, h2, h3⟩
    · left
      simp only [covers]
      simpa using h
    · exact Or.inr ⟨h1, nm, hts _ h2, va_Nc.moved hW.alike (va_Nc.of (nw_of hg h3))⟩
  refine lv_astore_n hx hb d0 rfl hl h3 rfl (fun ls' hl' => ?_)
  refine lv_aload_n hx hb d1 rfl (lget_at hl' g0) ?_
  refine lv_iconst hx hb d2 hz ?_
  subst hs
  have hK := A_K hg hW
  have hap := va_apart (own := mi.1.cls) hts cb.2.1 ty cb.2.2.1 cb.2.2.2 hK cb.1
  obtain ⟨z1, z2, r, h1, cell, q1, q2, q3, q4⟩ := hP.2.2.1 a _ h
  have hr : r = (Cn, T, N) := Option.some.inj (h1.symm.trans cb.1)
  subst hr
  obtain ⟨hS, hfc9, kC, hkC, hkind⟩ := hK.1 ci _ cb.1
  obtain ⟨cf, kf, fi, f, hi, hsl⟩ := hS fk hk
  have hlay := hts _ (cb.2.1 _ (u_in_lay hk))
  unfold u_lay at hlay
  rw [if_neg (by rw [hfin]; decide)] at hlay
  have hst := (u_facts hfc9 hkC (u_lays hts cb.2.1 hk) hi).1
  have h6 := u_store hfc9 hkC hkind hlay hi (cb.2.2.1 fk hk) hn hfit
  refine W.putK hx hb (f := f) ⟨hown, hts _ hq, ⟨_, _, _, hi⟩, hst⟩ (by rw [q2]; exact h6) q1 q3 (by rw [hsl]; exact k2_hasslot (q4 fk hk)) rfl rfl d3 fun H' e1 e2 e3 => ?_
  rw [hsl] at e1 ⊢
  refine lv_aload_n hx hb d6 rfl (lget_at hl' g3) ?_
  refine vx_athrow hx hb d7 ?_
  exact kk p e R s m args below meth c H' _ cells slots ls' ce [] hc (hP.put h e2 e3 ⟨_, cb.1, t_OB.to (V := updV (vp_V fs) fk (.int w)) ⟨_, e1, q2, q3, t_set q4 hap hk (.int w)⟩ (fun j _ => vp_updV_set hlen (.int w) j)⟩) (A_locs hL z1) hl' ((e3 q hqa).trans hce) hvm hfc
end AFin
theorem obj_vm {g : GC} {σ : AH} {q : Nat} {o : Nat × List Value} (h : σ.1 q = some (.inr (.inl o))) : ∀ H : Heap, g_P g σ H → ∀ ce : Cell, H[q]? = some ce → ce.vm = .none := fun H hP ce hce => by
  obtain ⟨z1, z2, r, h1, cell, q1, q2, q3, q4⟩ := hP.2.2.1 q _ h
  rw [q1] at hce
  cases hce
  exact q3
/-- an overriding method called by the superclass's name -/
def A_MO (C owner : String) (x : MethodName) (mi : MI) (n : Nat) : Prop := (Cond.sameMethod x.cls owner x.name x.desc ∈ lw_all ∧ Cond.instanceMethod ⟨owner, x.name, x.desc⟩ ∈ lw_all ∧ Cond.selects C x mi.1 ∈ lw_all ∧ Cond.instanceMethod mi.1 ∈ lw_all ∧ Cond.initialized mi.1.cls ∈ lw_all ∧ Cond.code mi.1 mi.2.1 mi.2.2.1 mi.2.2.2.1 ∈ lw_all) ∧ (∃ b0 m0 r0, Cond.code ⟨owner, x.name, x.desc⟩ b0 m0 r0 ∈ lw_all) ∧ mi.2.2.2.2 = [] ∧ (owner ≠ "java/lang/invoke/MethodHandle" ∧ owner ≠ "java/lang/invoke/VarHandle" ∧ (parseMethodDescriptor x.desc).map (fun d => d.parameters.length) = some n) ∧ mi.2.2.1 ≤ 21
theorem lw_O {own : String} {idx : Nat} {C owner : String} {x y : MethodName} {b : ByteArray} {L : Nat} {r : Option FieldType} (h1 : Cond.methodLink own idx x ∈ lw_all) (h0 : Cond.sameMethod x.cls owner x.name x.desc ∈ lw_all) (h9 : Cond.instanceMethod ⟨owner, x.name, x.desc⟩ ∈ lw_all) (h2 : Cond.selects C x y ∈ lw_all) (h3 : Cond.instanceMethod y ∈ lw_all) (h4 : Cond.initialized y.cls ∈ lw_all) (h5 : Cond.code y b L r ∈ lw_all) : GoodIn lw_all (va_wsO own idx C owner x y (ws_ y b L r)) := by
  refine lw_app ?_ (lw_meth h5)
  intro w hw
  simp only [List.mem_cons, List.not_mem_nil, or_false] at hw
  rcases hw with e | e | e | e | e | e
  · rw [e]; exact h1
  · rw [e]; exact h0
  · rw [e]; exact h9
  · rw [e]; exact h2
  · rw [e]; exact h3
  · rw [e]; exact h4
section ARowsO
variable {l : Launch} {g : GC} {mi : MI} {d b : Nat} {Q : Option Value → AH → Prop} {X : String → Nat → AH → Prop} {pc : Nat} {L : List (Nat × Value)} {st : List Value} {σ : AH}
theorem A_callO {C owner : String} {x : MethodName} {mi' : MI} {d' k' b' n : Nat} {As : List Value} {Q' : Option Value → AH → Prop} {X' : String → Nat → AH → Prop} {bR : Nat} (hM : AMet l g mi' d' k' (.ref bR :: As) σ Q' X') (hm : A_MO C owner x mi' n) {ix : Nat} (hq : Cond.methodLink mi.1.cls ix x ∈ lw_all) (hO : A_rcv g σ C bR)
    (hd : decode mi.2.1 pc = .ok (.invokevirtual ix, 3)) (hn : As.length = n) (hdp : d' + 1 ≤ d) (hk : k' + b' ≤ b) (hw : (st.map fun v => v.category).sum ≤ 8)
    (kk : ∀ v τ, Q' v τ → AW l g mi d b' Q X (pc + 3) L (v.toList ++ st) τ) (kx : ∀ E q τ, X' E q τ → AX l g mi d b' Q X pc L E q τ) : AW l g mi d b Q X pc L (As.reverse ++ .ref bR :: st) σ := by
  intro p e R s m args below meth c H locs cells slots ls C9 hP hL hl
  obtain ⟨y, cc, nL, ret, hs⟩ := mi'
  obtain ⟨⟨m0, m9, m1, m2, m3, m4⟩, ⟨b0, l0, r0, mc⟩, m5, m6, m7⟩ := hm
  have m5 : hs = [] := m5
  subst m5
  have hc9 := C9
  obtain ⟨hx, hb, hr, hlk, hml, hown, hts, hg, hW, ⟨h10, h10'⟩, ⟨h11, h11'⟩, hnm, h13⟩ := C9
  have m7 : nL ≤ 21 := m7
  exact A_goes (vx_runU (rest := st) (g := F0 m pc ls (As.reverse ++ .ref bR :: st)) (C := C) ⟨hx, hb, hml, hown, hts⟩ hM (va_cwO n hts (lw_O hq m0 m9 m1 m2 m3 m4) rfl rfl rfl mc m6 ⟨by show d' + 1 ≤ R.frames; omega, by show 8 + (nL + 11) + (3200 + 40 * d') ≤ R.locals; omega⟩) ⟨A_blind, hO.cell hg hW hP, fun U hU hWU => ⟨rfl, hg, State.WarmedH.trans hW hWU, by rw [hU]; exact hP⟩⟩ rfl hn hl.1 rfl (lv_room hw) hd ⟨by omega, by omega⟩) hk hc9 hL hl kk kx
theorem A_callO0E {C owner : String} {x : MethodName} {mi' : MI} {d' k' b' : Nat} {bR : Nat} {v : Option Value} {τ : AH} (hM : AMet l g mi' d' k' (.ref bR :: []) σ (A_eq v τ) A_no) (hm : A_MO C owner x mi' 0) {ix : Nat} (hq : Cond.methodLink mi.1.cls ix x ∈ lw_all) (hO : A_rcv g σ C bR) (hd : decode mi.2.1 pc = .ok (.invokevirtual ix, 3)) (hdp : d' + 1 ≤ d) (hk : k' + b' ≤ b) (hw : (st.map fun v => v.category).sum ≤ 8) (kk : AW l g mi d b' Q X (pc + 3) L (v.toList ++ st) τ) : AW l g mi d b Q X pc L (.ref bR :: st) σ :=
  A_callO (As := []) hM hm hq hO hd rfl hdp hk hw (fun w τ' h => by obtain ⟨e1, e2⟩ := h; subst e1; subst e2; exact kk) (fun E q τ' h => h.elim)
end ARowsO
section ARowsAc
variable {l : Launch} {g : GC} {mi : MI} {d b : Nat} {Q : Option Value → AH → Prop} {X : String → Nat → AH → Prop} {pc : Nat} {L : List (Nat × Value)} {st : List Value} {σ : AH}
theorem A_acmp_ne_t {x y : Option Nat} {off : Int} {tgt : Nat} (hd : decode mi.2.1 pc = .ok (.if_acmp .ne off, 3)) (ht : (pc : Int) + off = (tgt : Int)) (h : ¬ x = y) (kk : AW l g mi d b Q X (tgt) L (st) σ) : AW l g mi d b Q X pc L (va_rf y :: va_rf x :: st) σ := A_acmp_ne hd ht (fun _ => kk) (fun e => absurd e h)
theorem A_acmp_ne_f {x y : Option Nat} {off : Int} {tgt : Nat} (hd : decode mi.2.1 pc = .ok (.if_acmp .ne off, 3)) (ht : (pc : Int) + off = (tgt : Int)) (h : x = y) (kk : AW l g mi d b Q X (pc + 3) L (st) σ) : AW l g mi d b Q X pc L (va_rf y :: va_rf x :: st) σ := A_acmp_ne hd ht (fun e => absurd h e) (fun _ => kk)
end ARowsAc
theorem tO_J3_length : A_MO "java/lang/StringBuilder" "java/lang/AbstractStringBuilder" ⟨"java/lang/AbstractStringBuilder", "length", "()I"⟩ mJ3_length 0 := ⟨⟨q549, q548, q550, q551, q137, q552⟩, ⟨_, _, _, q554⟩, rfl, ⟨by decide +kernel, by decide +kernel, by decide +kernel⟩, by decide⟩
theorem sub0 (x : Int32) : x - 0 = x := Int32.sub_zero x
theorem mnT2 {a b : Nat} (h : a ≤ b) (hb : b < 2 ^ 31) : mn (nI b) (nI a) = nI a := by
  unfold mn
  split
  · rfl
  · rename_i c
    have k : ¬ a < b := fun q => c ((nI_lti (by omega) hb).mpr q)
    rw [show b = a by omega]
/-! THE JDK 6: a flaw; new Strings -/
abbrev flwC (c p : Int32) : AE := .inr (.inl (3, [.null, .null, .null, .null, .null, .int 0, .int c, .int p]))
abbrev strC (va : Nat) (h z : Int32) : AE := .inr (.inl (13, [.ref va, .int 0, .int h, .int z]))
theorem s_unas {l : Launch} {g : GC} (hg : g_ok l g) : va_Zq "java/lang/Throwable" "UNASSIGNED_STACK" "[Ljava/lang/StackTraceElement;" (o_A g) g.1 g.1.heap := (ex_zq hg q312 (lw_all_tbl q141) (by decide +kernel)).1
theorem s_sent {l : Launch} {g : GC} (hg : g_ok l g) : va_Zq "java/lang/Throwable" "SUPPRESSED_SENTINEL" "Ljava/util/List;" (o_A g) g.1 g.1.heap := (ex_zq hg q314 (lw_all_tbl q141) (by decide +kernel)).1
set_option maxHeartbeats 200000 in
theorem c_thrInit {l : Launch} {g : GC} (σ : AH) (q : Nat) (hC : σ.1 q = some (flwC 0 0)) : AMet l g mJ6_init_3 1 0 [.ref q, .null, .null, .int 0, .int 0] σ (A_chg none σ q (flwC 0 0)) (A_no) := by
  refine A_of rfl (by decide) (Nat.le_of_ble_eq_true rfl) (L0 := [(0, .ref q), (1, .null), (2, .null), (3, .int 0), (4, .int 0)]) rfl ?_
  have zσ : kx q σ σ := kx.rf
  refine A_gok (fun hgk => ?_)
  refine A_aload_n (i := 0) dJ6_init_3_0 rfl rfl ?_
  refine A_objInit q310 q179 q180 dJ6_init_3_1 (by decide) (Nat.le_of_ble_eq_true rfl) ?_
  refine A_aload_n (i := 0) dJ6_init_3_4 rfl rfl ?_
  refine A_aload_n (i := 0) dJ6_init_3_5 rfl rfl ?_
  refine A_putf cb_X4 hC 0 (Nat.le_of_ble_eq_true rfl) q332 rfl rfl rfl rfl (Nat.le_of_ble_eq_true rfl) dJ6_init_3_6 ?_
  obtain ⟨σ1, eσ1⟩ : ∃ τ, τ = h_put σ q (.inr (.inl (3, [.ref q, .null, .null, .null, .null, .int 0, .int 0, .int 0]))) := ⟨_, rfl⟩
  refine A_st (σ' := σ1) eσ1.symm ?_
  have fσ1_0 : σ1.1 q = some (.inr (.inl (3, [.ref q, .null, .null, .null, .null, .int 0, .int 0, .int 0]))) := by rw [eσ1]; exact if_pos rfl
  have zσ1 : kx q σ σ1 := by rw [eσ1]; exact zσ.put
  refine A_aload_n (i := 0) dJ6_init_3_9 rfl rfl ?_
  refine A_getsQ (s_unas hgk) q311 rfl dJ6_init_3_10 (fun v10 hv10 => ?_)
  refine A_putf cb_X4 fσ1_0 1 (Nat.le_of_ble_eq_true rfl) q333 rfl rfl (by rcases hv10 with rfl | ⟨x, rfl⟩ <;> rfl) (by rcases hv10 with rfl | ⟨x, rfl⟩ <;> rfl) (Nat.le_of_ble_eq_true rfl) dJ6_init_3_13 ?_
  obtain ⟨σ2, eσ2⟩ : ∃ τ, τ = h_put σ1 q (.inr (.inl (3, [.ref q, v10, .null, .null, .null, .int 0, .int 0, .int 0]))) := ⟨_, rfl⟩
  refine A_st (σ' := σ2) eσ2.symm ?_
  have fσ2_0 : σ2.1 q = some (.inr (.inl (3, [.ref q, v10, .null, .null, .null, .int 0, .int 0, .int 0]))) := by rw [eσ2]; exact if_pos rfl
  have zσ2 : kx q σ σ2 := by rw [eσ2]; exact zσ1.put
  refine A_aload_n (i := 0) dJ6_init_3_16 rfl rfl ?_
  refine A_getsQ (s_sent hgk) q313 rfl dJ6_init_3_17 (fun v17 hv17 => ?_)
  refine A_putf cb_X4 fσ2_0 2 (Nat.le_of_ble_eq_true rfl) q334 rfl rfl (by rcases hv17 with rfl | ⟨x, rfl⟩ <;> rfl) (by rcases hv17 with rfl | ⟨x, rfl⟩ <;> rfl) (Nat.le_of_ble_eq_true rfl) dJ6_init_3_20 ?_
  obtain ⟨σ3, eσ3⟩ : ∃ τ, τ = h_put σ2 q (.inr (.inl (3, [.ref q, v10, v17, .null, .null, .int 0, .int 0, .int 0]))) := ⟨_, rfl⟩
  refine A_st (σ' := σ3) eσ3.symm ?_
  have fσ3_0 : σ3.1 q = some (.inr (.inl (3, [.ref q, v10, v17, .null, .null, .int 0, .int 0, .int 0]))) := by rw [eσ3]; exact if_pos rfl
  have zσ3 : kx q σ σ3 := by rw [eσ3]; exact zσ2.put
  refine A_iload dJ6_init_3_23 rfl ?_
  refine A_if_eq_t (tgt := 36) dJ6_init_3_25 (by decide) (rfl) ?_
  refine A_aload_n (i := 0) dJ6_init_3_36 rfl rfl ?_
  refine A_null dJ6_init_3_37 ?_
  refine A_putf cb_X4 fσ3_0 1 (Nat.le_of_ble_eq_true rfl) q333 rfl rfl rfl rfl (Nat.le_of_ble_eq_true rfl) dJ6_init_3_38 ?_
  obtain ⟨σ4, eσ4⟩ : ∃ τ, τ = h_put σ3 q (.inr (.inl (3, [.ref q, .null, v17, .null, .null, .int 0, .int 0, .int 0]))) := ⟨_, rfl⟩
  refine A_st (σ' := σ4) eσ4.symm ?_
  have fσ4_0 : σ4.1 q = some (.inr (.inl (3, [.ref q, .null, v17, .null, .null, .int 0, .int 0, .int 0]))) := by rw [eσ4]; exact if_pos rfl
  have zσ4 : kx q σ σ4 := by rw [eσ4]; exact zσ3.put
  refine A_aload_n (i := 0) dJ6_init_3_41 rfl rfl ?_
  refine A_aload_nN (i := 1) dJ6_init_3_42 rfl rfl ?_
  refine A_putf cb_X4 fσ4_0 3 (Nat.le_of_ble_eq_true rfl) q331 rfl rfl rfl rfl (Nat.le_of_ble_eq_true rfl) dJ6_init_3_43 ?_
  obtain ⟨σ5, eσ5⟩ : ∃ τ, τ = h_put σ4 q (.inr (.inl (3, [.ref q, .null, v17, .null, .null, .int 0, .int 0, .int 0]))) := ⟨_, rfl⟩
  refine A_st (σ' := σ5) eσ5.symm ?_
  have fσ5_0 : σ5.1 q = some (.inr (.inl (3, [.ref q, .null, v17, .null, .null, .int 0, .int 0, .int 0]))) := by rw [eσ5]; exact if_pos rfl
  have zσ5 : kx q σ σ5 := by rw [eσ5]; exact zσ4.put
  refine A_aload_n (i := 0) dJ6_init_3_46 rfl rfl ?_
  refine A_aload_nN (i := 2) dJ6_init_3_47 rfl rfl ?_
  refine A_putf cb_X4 fσ5_0 0 (Nat.le_of_ble_eq_true rfl) q332 rfl rfl rfl rfl (Nat.le_of_ble_eq_true rfl) dJ6_init_3_48 ?_
  obtain ⟨σ6, eσ6⟩ : ∃ τ, τ = h_put σ5 q (.inr (.inl (3, [.null, .null, v17, .null, .null, .int 0, .int 0, .int 0]))) := ⟨_, rfl⟩
  refine A_st (σ' := σ6) eσ6.symm ?_
  have fσ6_0 : σ6.1 q = some (.inr (.inl (3, [.null, .null, v17, .null, .null, .int 0, .int 0, .int 0]))) := by rw [eσ6]; exact if_pos rfl
  have zσ6 : kx q σ σ6 := by rw [eσ6]; exact zσ5.put
  refine A_iload_n (i := 3) dJ6_init_3_51 rfl rfl ?_
  refine A_if_ne_f (tgt := 60) dJ6_init_3_52 (by decide) (rfl) ?_
  refine A_aload_n (i := 0) dJ6_init_3_55 rfl rfl ?_
  refine A_null dJ6_init_3_56 ?_
  refine A_putf cb_X4 fσ6_0 2 (Nat.le_of_ble_eq_true rfl) q334 rfl rfl rfl rfl (Nat.le_of_ble_eq_true rfl) dJ6_init_3_57 ?_
  obtain ⟨σ7, eσ7⟩ : ∃ τ, τ = h_put σ6 q (.inr (.inl (3, [.null, .null, .null, .null, .null, .int 0, .int 0, .int 0]))) := ⟨_, rfl⟩
  refine A_st (σ' := σ7) eσ7.symm ?_
  have fσ7_0 : σ7.1 q = some (.inr (.inl (3, [.null, .null, .null, .null, .null, .int 0, .int 0, .int 0]))) := by rw [eσ7]; exact if_pos rfl
  have zσ7 : kx q σ σ7 := by rw [eσ7]; exact zσ6.put
  exact A_vret dJ6_init_3_60 rfl (⟨rfl, fσ7_0, zσ7⟩)
set_option maxHeartbeats 200000 in
theorem c_excInit {l : Launch} {g : GC} (σ : AH) (q : Nat) (hC : σ.1 q = some (flwC 0 0)) : AMet l g mJ7_init_3 2 0 [.ref q, .null, .null, .int 0, .int 0] σ (A_chg none σ q (flwC 0 0)) (A_no) := by
  refine A_of rfl (by decide) (Nat.le_of_ble_eq_true rfl) (L0 := [(0, .ref q), (1, .null), (2, .null), (3, .int 0), (4, .int 0)]) rfl ?_
  refine A_wfh (fun wσ hgσ => ?_)
  have zσ : kx q σ σ := kx.rf
  refine A_aload_n (i := 0) dJ7_init_3_0 rfl rfl ?_
  refine A_aload_nN (i := 1) dJ7_init_3_1 rfl rfl ?_
  refine A_aload_nN (i := 2) dJ7_init_3_2 rfl rfl ?_
  refine A_iload_n (i := 3) dJ7_init_3_3 rfl rfl ?_
  refine A_iload dJ7_init_3_4 rfl ?_
  refine A_callI4 (b' := 0) (c_thrInit σ q hC) tJ6_init_3 q741 dJ7_init_3_6 (by decide) (Nat.le_of_ble_eq_true rfl) (Nat.le_of_ble_eq_true rfl) (fun w9 σ1 h9 => ?_) (fun E9 q9 τ9 h9 => h9.elim)
  obtain ⟨e9, fσ1_a, kσ1⟩ := h9
  subst e9
  refine A_wfh (fun wσ1 hgσ1 => ?_)
  have zσ1 : kx q σ σ1 := zσ.trx kσ1
  exact A_vret dJ7_init_3_9 rfl (⟨rfl, fσ1_a, zσ1⟩)
set_option maxHeartbeats 200000 in
theorem c_flwInit {l : Launch} {g : GC} (σ : AH) (q : Nat) (c p : Int32) (hC : σ.1 q = some (flwC 0 0)) : AMet l g mX4_init 3 0 [.ref q, .int c, .int p] σ (A_chg none σ q (flwC c p)) (A_no) := by
  refine A_of rfl (by decide) (Nat.le_of_ble_eq_true rfl) (L0 := [(0, .ref q), (1, .int c), (2, .int p)]) rfl ?_
  refine A_wfh (fun wσ hgσ => ?_)
  have zσ : kx q σ σ := kx.rf
  refine A_aload_n (i := 0) dX4_init_0 rfl rfl ?_
  refine A_null dX4_init_1 ?_
  refine A_null dX4_init_2 ?_
  refine A_iconst (v := 0) dX4_init_3 (by decide) ?_
  refine A_iconst (v := 0) dX4_init_4 (by decide) ?_
  refine A_callI4 (b' := 0) (c_excInit σ q hC) tJ7_init_3 q738 dX4_init_5 (by decide) (Nat.le_of_ble_eq_true rfl) (Nat.le_of_ble_eq_true rfl) (fun w9 σ1 h9 => ?_) (fun E9 q9 τ9 h9 => h9.elim)
  obtain ⟨e9, fσ1_a, kσ1⟩ := h9
  subst e9
  refine A_wfh (fun wσ1 hgσ1 => ?_)
  have zσ1 : kx q σ σ1 := zσ.trx kσ1
  refine A_aload_n (i := 0) dX4_init_8 rfl rfl ?_
  refine A_iload_n (i := 1) dX4_init_9 rfl rfl ?_
  refine A_putfF cb_X4 fσ1_a 6 (Nat.le_of_ble_eq_true rfl) q744 rfl rfl rfl rfl rfl rfl (Nat.le_of_ble_eq_true rfl) dX4_init_10 ?_
  obtain ⟨σ2, eσ2⟩ : ∃ τ, τ = h_put σ1 q (.inr (.inl (3, [.null, .null, .null, .null, .null, .int 0, .int c, .int 0]))) := ⟨_, rfl⟩
  refine A_st (σ' := σ2) eσ2.symm ?_
  have wσ2 : wfh σ2 := by rw [eσ2]; exact wσ1.put fσ1_a
  have fσ2_0 : σ2.1 q = some (.inr (.inl (3, [.null, .null, .null, .null, .null, .int 0, .int c, .int 0]))) := by rw [eσ2]; exact if_pos rfl
  have zσ2 : kx q σ σ2 := by rw [eσ2]; exact zσ1.put
  refine A_aload_n (i := 0) dX4_init_13 rfl rfl ?_
  refine A_iload_n (i := 2) dX4_init_14 rfl rfl ?_
  refine A_putfF cb_X4 fσ2_0 7 (Nat.le_of_ble_eq_true rfl) q746 rfl rfl rfl rfl rfl rfl (Nat.le_of_ble_eq_true rfl) dX4_init_15 ?_
  obtain ⟨σ3, eσ3⟩ : ∃ τ, τ = h_put σ2 q (.inr (.inl (3, [.null, .null, .null, .null, .null, .int 0, .int c, .int p]))) := ⟨_, rfl⟩
  refine A_st (σ' := σ3) eσ3.symm ?_
  have wσ3 : wfh σ3 := by rw [eσ3]; exact wσ2.put fσ2_0
  have fσ3_0 : σ3.1 q = some (.inr (.inl (3, [.null, .null, .null, .null, .null, .int 0, .int c, .int p]))) := by rw [eσ3]; exact if_pos rfl
  have zσ3 : kx q σ σ3 := by rw [eσ3]; exact zσ2.put
  exact A_vret dX4_init_18 rfl (⟨rfl, fσ3_0, zσ3⟩)
theorem cb1 {n : Nat} (h : n ≤ 16) : n * componentBytes .byte ≤ 536870912 := by
  have e : ∀ n, n ≤ 16 → n * componentBytes .byte ≤ 536870912 := by decide
  exact e n h
/-- a String of our own: its bytes are w -/
def NST (σ : AH) (wd va : Nat) (h z : Int32) (w : List Int32) : Prop := σ.1 wd = some (strC va h z) ∧ ∃ f, σ.1 va = some (bytA w.length f) ∧ ∀ i, i < w.length → f i = w.getD i 0
theorem NST.ex {σ τ : AH} {wd va : Nat} {h z : Int32} {w : List Int32} (k : NST σ wd va h z w) (wf : wfh σ) (x : ext σ τ) : NST τ wd va h z w := by
  obtain ⟨k1, f, k2, k3⟩ := k
  exact ⟨x.at wf k1, f, x.at wf k2, k3⟩
theorem NST.kx {σ τ : AH} {wd va A : Nat} {h z : Int32} {w : List Int32} (k : NST σ wd va h z w) (wf : wfh σ) (n1 : ¬ wd = A) (n2 : ¬ va = A) (x : kx A σ τ) : NST τ wd va h z w := by
  obtain ⟨k1, f, k2, k3⟩ := k
  exact ⟨x.at wf k1 n1, f, x.at wf k2 n2, k3⟩
theorem cpyZ {f : AF} {n i : Nat} (h : i < n) : va_cpy f (fun _ => 0) 0 0 n i = f i := by
  unfold va_cpy
  rw [if_pos ⟨Nat.zero_le _, by omega⟩]
  congr 1
  omega
set_option maxHeartbeats 200000 in
theorem c_chkLen {l : Launch} {g : GC} (σ : AH) (n : Nat) (h6 : n ≤ 6) : AMet l g mJ14_checkLength 1 0 [.int 0, .int (nI n)] σ (A_eq none σ) (A_no) := by
  refine A_of rfl (by decide) (Nat.le_of_ble_eq_true rfl) (L0 := [(0, .int 0), (1, .int (nI n))]) rfl ?_
  refine A_iload_n (i := 1) dJ14_checkLength_0 rfl rfl ?_
  refine A_iload_n (i := 0) dJ14_checkLength_1 rfl rfl ?_
  refine A_icmp_ge_t (tgt := 37) dJ14_checkLength_2 (by decide) (Int32.not_lt.mp (nI_pos (by omega))) ?_
  exact A_vret dJ14_checkLength_37 rfl (⟨rfl, rfl⟩)
set_option maxHeartbeats 200000 in
theorem c_copyRB {l : Launch} {g : GC} (σ : AH) (sa cap n : Nat) (f : AF) (hA : σ.1 sa = some (bytA cap f)) (hf : ∀ i, i < cap → fits .byte (.int (f i)) = true) (hc : cap ≤ 70) (h6 : n ≤ 6) (hn : n < cap) : AMet l g mJ14_copyOfRangeByte 2 2 [.ref sa, .int 0, .int (nI n)] σ (fun v τ => v = some (.ref σ.2) ∧ τ.1 σ.2 = some (bytA n (va_cpy f (fun _ => 0) 0 0 n)) ∧ ext σ τ) (A_no) := by
  refine A_of rfl (by decide) (Nat.le_of_ble_eq_true rfl) (L0 := [(0, .ref sa), (1, .int 0), (2, .int (nI n))]) rfl ?_
  refine A_wfh (fun wσ hgσ => ?_)
  have yσ : ext σ σ := ext.rf
  refine A_iload_n (i := 1) dJ14_copyOfRangeByte_0 rfl rfl ?_
  refine A_iload_n (i := 2) dJ14_copyOfRangeByte_1 rfl rfl ?_
  refine A_callS2E (b' := 2) (v := none) (τ := σ) (c_chkLen σ n h6) tJ14_checkLength q562 dJ14_copyOfRangeByte_2 (by decide) (Nat.le_of_ble_eq_true rfl) (Nat.le_of_ble_eq_true rfl) ?_
  refine A_iload_n (i := 2) dJ14_copyOfRangeByte_5 rfl rfl ?_
  refine A_iload_n (i := 1) dJ14_copyOfRangeByte_6 rfl rfl ?_
  refine A_isub dJ14_copyOfRangeByte_7 ?_
  refine A_int (w := (nI n)) (by rw [show (0 : Int32) = nI 0 from rfl]; exact sub0 _) ?_
  refine A_istore_n (i := 3) dJ14_copyOfRangeByte_8 rfl (Nat.le_of_ble_eq_true rfl) ?_
  refine A_iload_n (i := 3) dJ14_copyOfRangeByte_9 rfl rfl ?_
  refine A_newa (b' := 0) (u := 2) (ta := .byte) (atype := .byte) rfl (by decide) q202 (a0 := (n, .inl (fun _ => 0))) (fun _ => rfl) (nI_pos (by omega)) (n' := n) (nI_clamp (by omega)) (cb1 (by omega)) (Nat.le_of_ble_eq_true rfl) ⟨by decide, by omega⟩ dJ14_copyOfRangeByte_10 ?_
  obtain ⟨σ1, eσ1⟩ : ∃ τ, τ = h_new σ (.inl (.byte, n, .inl (fun _ => 0))) := ⟨_, rfl⟩
  refine A_st (σ' := σ1) eσ1.symm ?_
  have wσ1 : wfh σ1 := by rw [eσ1]; exact wσ.new
  have fσ1_0 : σ1.1 sa = some (.inl (.byte, cap, .inl f)) := by rw [eσ1]; exact (hn_ne (Nat.ne_of_lt (wσ _ _ hA))).trans hA
  have fσ1_1 : σ1.1 σ.2 = some (.inl (.byte, n, .inl (fun _ => 0))) := by rw [eσ1]; exact if_pos rfl
  have xσ1 : ext σ σ1 := by rw [eσ1]; exact ext_new _ _
  have yσ1 : ext σ σ1 := yσ.tr (xσ1)
  refine A_astore dJ14_copyOfRangeByte_12 (Nat.le_of_ble_eq_true rfl) ?_
  refine A_aload_n (i := 0) dJ14_copyOfRangeByte_14 rfl rfl ?_
  refine A_iload_n (i := 1) dJ14_copyOfRangeByte_15 rfl rfl ?_
  refine A_aload dJ14_copyOfRangeByte_16 rfl ?_
  refine A_iconst (v := 0) dJ14_copyOfRangeByte_18 (by decide) ?_
  refine A_aload_n (i := 0) dJ14_copyOfRangeByte_19 rfl rfl ?_
  refine A_alen fσ1_0 (by decide) (v := nI cap) (rfl) dJ14_copyOfRangeByte_20 ?_
  refine A_iload_n (i := 1) dJ14_copyOfRangeByte_21 rfl rfl ?_
  refine A_isub dJ14_copyOfRangeByte_22 ?_
  refine A_int (w := (nI cap)) (sub0 _) ?_
  refine A_iload_n (i := 3) dJ14_copyOfRangeByte_23 rfl rfl ?_
  refine A_mmin q471 q472 q150 q473 dJ14_copyOfRangeByte_24 (by decide) (Nat.le_of_ble_eq_true rfl) ?_
  refine A_int (w := (mn (nI cap) (nI n))) rfl ?_
  refine A_int (w := (nI n)) (mnT2 (Nat.le_of_lt hn) (by omega)) ?_
  refine A_copyi (by decide) rfl fσ1_0 fσ1_1 q474 q476 q475 q152 (by decide) (by decide) (nI_pos (by omega)) (by rw [nI_clamp (by omega)]; show 0 + n ≤ cap; omega) (by rw [nI_clamp (by omega)]; show 0 + n ≤ n; omega) (fun i hi => by rw [show (0 : Int32).toNatClampNeg + i = i from Nat.zero_add i]; rw [nI_clamp (by omega)] at hi; exact hf i (by omega)) (by decide) (Nat.le_of_ble_eq_true rfl) dJ14_copyOfRangeByte_27 ?_
  refine A_st (σ' := h_put σ1 σ.2 (.inl (.byte, n, .inl (va_cpy f (fun _ => 0) 0 0 n)))) (by rw [nI_clamp (by omega)] <;> rfl) ?_
  obtain ⟨σ2, eσ2⟩ : ∃ τ, τ = h_put σ1 σ.2 (.inl (.byte, n, .inl (va_cpy f (fun _ => 0) 0 0 n))) := ⟨_, rfl⟩
  refine A_st (σ' := σ2) eσ2.symm ?_
  have wσ2 : wfh σ2 := by rw [eσ2]; exact wσ1.put fσ1_1
  have fσ2_0 : σ2.1 sa = some (.inl (.byte, cap, .inl f)) := by rw [eσ2]; exact (hp_ne (Nat.ne_of_lt (wσ _ _ hA))).trans fσ1_0
  have fσ2_1 : σ2.1 σ.2 = some (.inl (.byte, n, .inl (va_cpy f (fun _ => 0) 0 0 n))) := by rw [eσ2]; exact if_pos rfl
  have yσ2 : ext σ σ2 := by rw [eσ2]; exact (yσ1.putN yσ.1)
  refine A_aload dJ14_copyOfRangeByte_30 rfl ?_
  exact A_aret dJ14_copyOfRangeByte_32 rfl (Or.inr ⟨_, rfl⟩) (Or.inr ⟨_, rfl⟩) (⟨rfl, fσ2_1, yσ2⟩)
set_option maxHeartbeats 200000 in
theorem c_copyR {l : Launch} {g : GC} (σ : AH) (sa cap n : Nat) (f : AF) (hA : σ.1 sa = some (bytA cap f)) (hf : ∀ i, i < cap → fits .byte (.int (f i)) = true) (hc : cap ≤ 70) (h6 : n ≤ 6) (hn : n < cap) : AMet l g mJ14_copyOfRange 3 2 [.ref sa, .int 0, .int (nI n)] σ (fun v τ => v = some (.ref σ.2) ∧ τ.1 σ.2 = some (bytA n (va_cpy f (fun _ => 0) 0 0 n)) ∧ ext σ τ) (A_no) := by
  refine A_of rfl (by decide) (Nat.le_of_ble_eq_true rfl) (L0 := [(0, .ref sa), (1, .int 0), (2, .int (nI n))]) rfl ?_
  refine A_iload_n (i := 1) dJ14_copyOfRange_0 rfl rfl ?_
  refine A_if_ne_f (tgt := 10) dJ14_copyOfRange_1 (by decide) (rfl) ?_
  refine A_iload_n (i := 2) dJ14_copyOfRange_4 rfl rfl ?_
  refine A_aload_n (i := 0) dJ14_copyOfRange_5 rfl rfl ?_
  refine A_alen hA (by decide) (v := nI cap) (rfl) dJ14_copyOfRange_6 ?_
  refine A_icmp_eq_f (tgt := 17) dJ14_copyOfRange_7 (by decide) ((fun q => by have k := (nI_eqi (by omega) (by omega)).mp q; omega)) ?_
  refine A_aload_n (i := 0) dJ14_copyOfRange_10 rfl rfl ?_
  refine A_iload_n (i := 1) dJ14_copyOfRange_11 rfl rfl ?_
  refine A_iload_n (i := 2) dJ14_copyOfRange_12 rfl rfl ?_
  refine A_callS3 (b' := 0) (c_copyRB σ sa cap n f hA hf hc h6 hn) tJ14_copyOfRangeByte q559 dJ14_copyOfRange_13 (by decide) (Nat.le_of_ble_eq_true rfl) (Nat.le_of_ble_eq_true rfl) (fun w9 τ9 h9 => ?_) (fun E9 q9 τ9 h9 => h9.elim)
  obtain ⟨e9, h9x⟩ := h9
  subst e9
  exact A_aret dJ14_copyOfRange_16 rfl (Or.inr ⟨_, rfl⟩) (Or.inr ⟨_, rfl⟩) (⟨rfl, h9x⟩)
set_option maxHeartbeats 200000 in
theorem c_strNew2 {l : Launch} {g : GC} (σ : AH) (σ0 : AH) (sb sa0 : Nat) (l9 : List Int32) (wd : Nat) (h : SX σ0 sb sa0 σ l9 l9.length) (h6 : l9.length ≤ 6) (hZ : σ.1 wd = some (.inr (.inl (13, [.null, .int 0, .int 0, .int 0])))) : AMet l g mJ4_init_2 4 2 [.ref wd, .ref sb, .null] σ (fun v τ => v = none ∧ (∃ va, NST τ wd va 0 0 l9 ∧ σ.2 ≤ va) ∧ kx wd σ τ) (A_no) := by
  refine A_of rfl (by decide) (Nat.le_of_ble_eq_true rfl) (L0 := [(0, .ref wd), (1, .ref sb), (2, .null)]) rfl ?_
  refine A_wfh (fun wσ hgσ => ?_)
  have zσ : kx wd σ σ := kx.rf
  obtain ⟨sa, cap, ml, f, -, hd0, hfr, h5⟩ := id h
  have hC := hd0.1
  have hA := hd0.2.1
  refine A_aload_n (i := 0) dJ4_init_2_0 rfl rfl ?_
  refine A_objInit q541 q179 q180 dJ4_init_2_1 (by decide) (Nat.le_of_ble_eq_true rfl) ?_
  refine A_aload_n (i := 1) dJ4_init_2_4 rfl rfl ?_
  refine A_callU0E (b' := 2) (v := some (.ref sa)) (τ := σ) (c_sbVal σ sb sa ml (nI l9.length) hC) tU_J2_getValue q542 (Or.inr ⟨_, _, _, hC, rfl, rfl⟩) dJ4_init_2_5 (by decide) (Nat.le_of_ble_eq_true rfl) (Nat.le_of_ble_eq_true rfl) ?_
  refine A_astore_n (i := 3) dJ4_init_2_8 rfl (Nat.le_of_ble_eq_true rfl) ?_
  refine A_aload_n (i := 1) dJ4_init_2_9 rfl rfl ?_
  refine A_callO0E (b' := 2) (v := some (.int (nI l9.length))) (τ := σ) (c_sbLen σ σ0 sb sa0 l9 h) tO_J3_length q547 (Or.inr ⟨_, _, _, hC, rfl, rfl⟩) dJ4_init_2_10 (by decide) (Nat.le_of_ble_eq_true rfl) (Nat.le_of_ble_eq_true rfl) ?_
  refine A_istore dJ4_init_2_13 (Nat.le_of_ble_eq_true rfl) ?_
  refine A_aload_n (i := 1) dJ4_init_2_15 rfl rfl ?_
  refine A_callU0E (b' := 2) (v := some (.int 1)) (τ := σ) (c_sbLat σ sb sa ml (nI l9.length) hC) tU_J2_isLatin1 q555 (Or.inr ⟨_, _, _, hC, rfl, rfl⟩) dJ4_init_2_16 (by decide) (Nat.le_of_ble_eq_true rfl) (Nat.le_of_ble_eq_true rfl) ?_
  refine A_if_eq_f (tgt := 41) dJ4_init_2_19 (by decide) (by decide) ?_
  refine A_aload_n (i := 0) dJ4_init_2_22 rfl rfl ?_
  refine A_iconst (v := 0) dJ4_init_2_23 (by decide) ?_
  refine A_putfF cb_J4 hZ 1 (Nat.le_of_ble_eq_true rfl) q670 rfl rfl rfl rfl rfl rfl (Nat.le_of_ble_eq_true rfl) dJ4_init_2_24 ?_
  obtain ⟨σ1, eσ1⟩ : ∃ τ, τ = h_put σ wd (.inr (.inl (13, [.null, .int 0, .int 0, .int 0]))) := ⟨_, rfl⟩
  refine A_st (σ' := σ1) eσ1.symm ?_
  have wσ1 : wfh σ1 := by rw [eσ1]; exact wσ.put hZ
  have fσ1_0 : σ1.1 wd = some (.inr (.inl (13, [.null, .int 0, .int 0, .int 0]))) := by rw [eσ1]; exact if_pos rfl
  have fσ1_1 : σ1.1 sb = some (.inr (.inl (12, [.ref sa, .int 0, .int ml, .int (nI l9.length)]))) := by rw [eσ1]; exact (hp_ne (ne_of (x := .inr (.inl (12, [.ref sa, .int 0, .int ml, .int (nI l9.length)]))) (y := .inr (.inl (13, [.null, .int 0, .int 0, .int 0]))) hC hZ (fun e8 => by simp at e8))).trans hC
  have fσ1_2 : σ1.1 sa = some (.inl (.byte, cap, .inl f)) := by rw [eσ1]; exact (hp_ne (ne_of (x := .inl (.byte, cap, .inl f)) (y := .inr (.inl (13, [.null, .int 0, .int 0, .int 0]))) hA hZ (fun e8 => by simp at e8))).trans hA
  have zσ1 : kx wd σ σ1 := by rw [eσ1]; exact zσ.put
  refine A_aload_n (i := 0) dJ4_init_2_27 rfl rfl ?_
  refine A_aload_n (i := 3) dJ4_init_2_28 rfl rfl ?_
  refine A_iconst (v := 0) dJ4_init_2_29 (by decide) ?_
  refine A_iload dJ4_init_2_30 rfl ?_
  refine A_callS3 (b' := 0) (c_copyR σ1 sa cap l9.length f fσ1_2 hd0.2.2.2.2.1 (by have k := hd0.2.2.1; omega) h6 (by have k := hd0.2.2.1; omega)) tJ14_copyOfRange q556 dJ4_init_2_32 (by decide) (Nat.le_of_ble_eq_true rfl) (Nat.le_of_ble_eq_true rfl) (fun w9 τ9 h9 => ?_) (fun E9 q9 τ9 h9 => h9.elim)
  obtain ⟨e9, f9, y9⟩ := h9
  subst e9
  refine A_wfh (fun wτ9 hgτ9 => ?_)
  have fz9 : τ9.1 wd = some (.inr (.inl (13, [.null, .int 0, .int 0, .int 0]))) := y9.at wσ1 fσ1_0
  have zτ9 : kx wd σ τ9 := zσ1.ex y9
  refine A_putfF cb_J4 fz9 0 (Nat.le_of_ble_eq_true rfl) q669 rfl rfl rfl rfl rfl rfl (Nat.le_of_ble_eq_true rfl) dJ4_init_2_35 ?_
  obtain ⟨σ2, eσ2⟩ : ∃ τ, τ = h_put τ9 wd (.inr (.inl (13, [.ref σ1.2, .int 0, .int 0, .int 0]))) := ⟨_, rfl⟩
  refine A_st (σ' := σ2) eσ2.symm ?_
  have wσ2 : wfh σ2 := by rw [eσ2]; exact wτ9.put fz9
  have fσ2_0 : σ2.1 wd = some (.inr (.inl (13, [.ref σ1.2, .int 0, .int 0, .int 0]))) := by rw [eσ2]; exact if_pos rfl
  have fσ2_1 : σ2.1 σ1.2 = some (.inl (.byte, l9.length, .inl (va_cpy f (fun _ => 0) 0 0 l9.length))) := by rw [eσ2]; exact (hp_ne (ne_of (x := .inl (.byte, l9.length, .inl (va_cpy f (fun _ => 0) 0 0 l9.length))) (y := .inr (.inl (13, [.null, .int 0, .int 0, .int 0]))) f9 fz9 (fun e8 => by simp at e8))).trans f9
  have zσ2 : kx wd σ σ2 := by rw [eσ2]; exact zτ9.put
  refine A_goto (tgt := 97) dJ4_init_2_38 (by decide) ?_
  exact A_vret dJ4_init_2_97 rfl (⟨rfl, ⟨_, ⟨fσ2_0, _, fσ2_1, fun i hi => by rw [cpyZ hi]; exact hd0.2.2.2.2.2.1 i hi⟩, zσ1.1⟩, zσ2⟩)
set_option maxHeartbeats 200000 in
theorem c_strNew1 {l : Launch} {g : GC} (σ : AH) (σ0 : AH) (sb sa0 : Nat) (l9 : List Int32) (wd : Nat) (h : SX σ0 sb sa0 σ l9 l9.length) (h6 : l9.length ≤ 6) (hZ : σ.1 wd = some (.inr (.inl (13, [.null, .int 0, .int 0, .int 0])))) : AMet l g mJ4_init 6 2 [.ref wd, .ref sb] σ (fun v τ => v = none ∧ (∃ va, NST τ wd va 0 0 l9 ∧ σ.2 ≤ va) ∧ kx wd σ τ) (A_no) := by
  refine A_of rfl (by decide) (Nat.le_of_ble_eq_true rfl) (L0 := [(0, .ref wd), (1, .ref sb)]) rfl ?_
  refine A_aload_n (i := 0) dJ4_init_0 rfl rfl ?_
  refine A_aload_n (i := 1) dJ4_init_1 rfl rfl ?_
  refine A_null dJ4_init_2 ?_
  refine A_callI2 (b' := 0) (c_strNew2 σ σ0 sb sa0 l9 wd h h6 hZ) tJ4_init_2 q538 dJ4_init_3 (by decide) (Nat.le_of_ble_eq_true rfl) (Nat.le_of_ble_eq_true rfl) (fun w9 τ9 h9 => ?_) (fun E9 q9 τ9 h9 => h9.elim)
  obtain ⟨e9, h9x⟩ := h9
  subst e9
  exact A_vret dJ4_init_6 rfl (⟨rfl, h9x⟩)
set_option maxHeartbeats 200000 in
theorem c_sbStr {l : Launch} {g : GC} (σ : AH) (σ0 : AH) (sb sa0 : Nat) (l9 : List Int32) (h : SX σ0 sb sa0 σ l9 l9.length) (h6 : l9.length ≤ 6) : AMet l g mJ3_toString 7 3 [.ref sb] σ (fun v τ => v = some (.ref σ.2) ∧ (∃ va, NST τ σ.2 va 0 0 l9 ∧ σ.2 ≤ va) ∧ ext σ τ) (A_no) := by
  refine A_of rfl (by decide) (Nat.le_of_ble_eq_true rfl) (L0 := [(0, .ref sb)]) rfl ?_
  refine A_wfh (fun wσ hgσ => ?_)
  obtain ⟨sa, cap, ml, f, -, hd0, hfr, h5⟩ := id h
  have hC := hd0.1
  have hA := hd0.2.1
  refine A_new (b' := 2) (u := 1) cb_J4 q534 q367 q138 (fs := [.null, .int 0, .int 0, .int 0]) (by intro j hj; rcases j with _ | j; exact rfl; rcases j with _ | j; exact rfl; rcases j with _ | j; exact rfl; rcases j with _ | j; exact rfl; omega) (Nat.le_of_ble_eq_true rfl) ⟨Nat.le_of_ble_eq_true rfl, Nat.le_of_ble_eq_true rfl⟩ dJ3_toString_0 ?_
  obtain ⟨σ1, eσ1⟩ : ∃ τ, τ = h_new σ (.inr (.inl (13, [.null, .int 0, .int 0, .int 0]))) := ⟨_, rfl⟩
  refine A_st (σ' := σ1) eσ1.symm ?_
  have wσ1 : wfh σ1 := by rw [eσ1]; exact wσ.new
  have fσ1_0 : σ1.1 sb = some (.inr (.inl (12, [.ref sa, .int 0, .int ml, .int (nI l9.length)]))) := by rw [eσ1]; exact (hn_ne (Nat.ne_of_lt (wσ _ _ hC))).trans hC
  have fσ1_1 : σ1.1 σ.2 = some (.inr (.inl (13, [.null, .int 0, .int 0, .int 0]))) := by rw [eσ1]; exact if_pos rfl
  have xσ1 : ext σ σ1 := by rw [eσ1]; exact ext_new _ _
  refine A_dup dJ3_toString_3 rfl ?_
  refine A_aload_n (i := 0) dJ3_toString_4 rfl rfl ?_
  refine A_callI1 (b' := 0) (c_strNew1 σ1 σ0 sb sa0 l9 σ.2 (h.ex wσ xσ1) h6 fσ1_1) tJ4_init q535 dJ3_toString_5 (by decide) (Nat.le_of_ble_eq_true rfl) (Nat.le_of_ble_eq_true rfl) (fun w9 τ9 h9 => ?_) (fun E9 q9 τ9 h9 => h9.elim)
  obtain ⟨e9, ⟨va, n9, l9v⟩, k9⟩ := h9
  subst e9
  exact A_aret dJ3_toString_8 rfl (Or.inl ⟨_, rfl⟩) (Or.inr ⟨_, rfl⟩) (⟨rfl, ⟨va, n9, Nat.le_trans xσ1.1 l9v⟩, xσ1.kxF k9 (Nat.le_refl _)⟩)
theorem o_fld_u {g : GC} {o n d : String} {v v' : Value} {q : Nat} (h : o_fld g o n d v q) (k : o_fld g o n d v' q) : v = v' := by
  obtain ⟨cf, kc, i, f, cell, h1, h2, h3, h4, h5, h6⟩ := h
  obtain ⟨cf', kc', i', f', cell', k1, k2, k3, k4, k5, k6⟩ := k
  rw [h1] at k1
  cases k1
  rw [h3] at k3
  cases k3
  exact Option.some.inj (h5.symm.trans k5)
theorem o_str_len {g : GC} {a : Nat} {w w' : List Int32} (h : o_str g a w) (k : o_str g a w') : Int32.ofNat w.length = Int32.ofNat w'.length := by
  obtain ⟨v, -, -, h3, h4⟩ := h
  obtain ⟨v', -, -, k3, k4⟩ := k
  have e := o_fld_u h3 k3
  cases e
  obtain ⟨c, c1, c2, c3, c4, c5, c6⟩ := h4
  obtain ⟨c', d1, d2, d3, d4, d5, d6⟩ := k4
  rw [c1] at d1
  cases d1
  exact c5.symm.trans d5
theorem o_str_lt {g : GC} {a : Nat} {w : List Int32} (h : o_str g a w) : a < g.1.heap.size := by
  obtain ⟨v, ⟨c, c1, c2, c3, c4⟩, -⟩ := h
  exact (Array.getElem?_eq_some_iff.mp c1).1
theorem list_eq {u w : List Int32} (hl : u.length = w.length) (h : ∀ i, i < u.length → u.getD i 0 = w.getD i 0) : u = w := by
  apply List.ext_getElem hl
  intro i h1 h2
  have k := h i h1
  rw [List.getD_eq_getElem?_getD, List.getD_eq_getElem?_getD, List.getElem?_eq_getElem h1, List.getElem?_eq_getElem h2] at k
  exact k
set_option maxHeartbeats 200000 in
theorem c_latEq {l : Launch} {g : GC} (σ : AH) (a1 b1 : Nat) (u w : List Int32) (f : AF) (hA : σ.1 a1 = some (bytA u.length f)) (hfu : ∀ i, i < u.length → f i = u.getD i 0) (hB : o_arr g .byte b1 w.length (fun j => .int (w.getD j 0))) (hu : u.length < 2 ^ 31) (hw : w.length < 2 ^ 31) : AMet l g mJ15_equals 1 0 [.ref a1, .ref b1] σ (A_eq (some (.int (bi (u = w)))) σ) (A_no) := by
  refine A_of rfl (by decide) (Nat.le_of_ble_eq_true rfl) (L0 := [(0, .ref a1), (1, .ref b1)]) rfl ?_
  refine A_aload_n (i := 0) dJ15_equals_0 rfl rfl ?_
  refine A_alen hA (by decide) (v := nI u.length) (rfl) dJ15_equals_1 ?_
  refine A_aload_n (i := 1) dJ15_equals_2 rfl rfl ?_
  refine A_alenO hB dJ15_equals_3 ?_
  refine A_icmp_ne (tgt := 34) dJ15_equals_4 (by decide) (fun c1 => ?_) (fun c1 => ?_)
  · skip
    refine A_iconst (v := 0) dJ15_equals_34 (by decide) ?_
    exact A_zret dJ15_equals_35 rfl (rfl) (⟨by rw [bi_f (fun e => c1 (by rw [e]))], rfl⟩)
  · skip
    refine A_iconst (v := 0) dJ15_equals_7 (by decide) ?_
    refine A_istore_n (i := 2) dJ15_equals_8 rfl (Nat.le_of_ble_eq_true rfl) ?_
    have hlen : u.length = w.length := (nI_eqi hu hw).mp c1
    refine A_less (b' := (u.length - 0) * 0 + 0) (by omega) ?_
    refine A_sub (L' := [(0, .ref a1), (1, .ref b1), (2, .int (nI 0))]) ⟨rfl, rfl, rfl, trivial⟩ ?_
    refine A_forP (α := AH) u.length (fun i9 _ => (u.length - i9) * 0 + 0) (fun i9 _ => [(0, .ref a1), (1, .ref b1), (2, .int (nI i9))]) (fun _ τ9 => τ9) (fun i9 τ9 => τ9 = σ ∧ ∀ j, j < i9 → u.getD j 0 = w.getD j 0) σ (⟨rfl, fun j hj => absurd hj (Nat.not_lt_zero _)⟩) (fun i9 τ9 hi9 hI9 ih9 => ?_) (fun τ9 hI9 => ?_)
    · skip
      obtain ⟨eτ9, hjτ9⟩ := hI9
      have hAτ9 : τ9.1 a1 = some (bytA u.length f) := by rw [eτ9]; exact hA
      refine A_iload_n (i := 2) dJ15_equals_9 rfl rfl ?_
      refine A_aload_n (i := 0) dJ15_equals_10 rfl rfl ?_
      refine A_alen hAτ9 (by decide) (v := nI u.length) (rfl) dJ15_equals_11 ?_
      refine A_icmp_ge_f (tgt := 32) dJ15_equals_12 (by decide) (br_lt rfl hi9 hu) ?_
      refine A_aload_n (i := 0) dJ15_equals_15 rfl rfl ?_
      refine A_iload_n (i := 2) dJ15_equals_16 rfl rfl ?_
      refine A_bald hAτ9 (vp_in_nI hi9 hu) dJ15_equals_17 ?_
      refine A_int (w := (u.getD i9 0)) (by rw [nI_clamp (by omega)]; exact hfu i9 hi9) ?_
      refine A_aload_n (i := 1) dJ15_equals_18 rfl rfl ?_
      refine A_iload_n (i := 2) dJ15_equals_19 rfl rfl ?_
      refine A_baldO hB (vp_in_nI (Nat.lt_of_lt_of_le hi9 (Nat.le_of_eq hlen)) hw) (v := .int (w.getD i9 0)) (by rw [nI_clamp (by omega)]) dJ15_equals_20 ?_
      refine A_icmp_eq (tgt := 26) dJ15_equals_21 (by decide) (fun c2 => ?_) (fun c2 => ?_)
      · skip
        refine A_iinc (v := nI (i9 + 1)) dJ15_equals_26 rfl (nI_inc _ _) (Nat.le_of_ble_eq_true rfl) ?_
        refine A_goto (tgt := 9) dJ15_equals_29 (by decide) ?_
        refine A_less (b' := (u.length - (i9 + 1)) * 0 + 0) (by omega) ?_
        refine A_sub (L' := [(0, .ref a1), (1, .ref b1), (2, .int (nI (i9 + 1)))]) ⟨rfl, rfl, rfl, trivial⟩ ?_
        exact ih9 τ9 (⟨eτ9, fun j hj => by
      by_cases e : j = i9
      · rw [e]; exact c2
      · exact hjτ9 j (by omega)⟩)
      · skip
        refine A_iconst (v := 0) dJ15_equals_24 (by decide) ?_
        exact A_zret dJ15_equals_25 rfl (rfl) (⟨by rw [bi_f (fun e => c2 (by rw [e]))], eτ9⟩)
    · skip
      refine A_less (b' := 0) (by omega) ?_
      obtain ⟨eτ9, hjτ9⟩ := hI9
      have hAτ9 : τ9.1 a1 = some (bytA u.length f) := by rw [eτ9]; exact hA
      refine A_iload_n (i := 2) dJ15_equals_9 rfl rfl ?_
      refine A_aload_n (i := 0) dJ15_equals_10 rfl rfl ?_
      refine A_alen hAτ9 (by decide) (v := nI u.length) (rfl) dJ15_equals_11 ?_
      refine A_icmp_ge_t (tgt := 32) dJ15_equals_12 (by decide) (br_ge rfl) ?_
      refine A_iconst (v := 1) dJ15_equals_32 (by decide) ?_
      exact A_zret dJ15_equals_33 rfl (rfl) (⟨by rw [bi_t (list_eq hlen hjτ9)], eτ9⟩)
set_option maxHeartbeats 200000 in
theorem c_strEq {l : Launch} {g : GC} (σ : AH) (wd va a : Nat) (hh hz : Int32) (u w : List Int32) (hS : NST σ wd va hh hz u) (hs : o_str g a w) (hu : u.length < 2 ^ 31) (hw : w.length < 2 ^ 31) : AMet l g mJ4_equals 2 0 [.ref wd, .ref a] σ (A_eq (some (.int (bi (u = w)))) σ) (A_no) := by
  refine A_of rfl (by decide) (Nat.le_of_ble_eq_true rfl) (L0 := [(0, .ref wd), (1, .ref a)]) rfl ?_
  refine A_size (fun hg9 hw9 => ?_)
  have hlt := o_str_lt hs
  obtain ⟨v9, hs1, hs2, hs3, hs4⟩ := hs
  obtain ⟨hC, f, hA, hf⟩ := hS
  refine A_gok (fun hgk => ?_)
  refine A_aload_n (i := 0) dJ4_equals_0 rfl rfl ?_
  refine A_aload_n (i := 1) dJ4_equals_1 rfl rfl ?_
  refine A_acmp_ne_t (tgt := 7) (x := (some wd)) (y := (some a)) dJ4_equals_2 (by decide) ((fun q => by have k := (hw9 wd _ hC).1; have k2 := Option.some.inj q; omega)) ?_
  refine A_aload_n (i := 1) dJ4_equals_7 rfl rfl ?_
  refine A_instO hs1 q718 dJ4_equals_8 ?_
  refine A_if_eq_f (tgt := 54) dJ4_equals_11 (by decide) (by decide) ?_
  refine A_aload_n (i := 1) dJ4_equals_14 rfl rfl ?_
  refine A_castO hs1 q718 dJ4_equals_15 ?_
  refine A_astore_n (i := 2) dJ4_equals_18 rfl (Nat.le_of_ble_eq_true rfl) ?_
  refine A_getsO (s_compact hgk) q633 rfl dJ4_equals_19 ?_
  refine A_if_eq_f (tgt := 36) dJ4_equals_22 (by decide) (by decide) ?_
  refine A_aload_n (i := 0) dJ4_equals_25 rfl rfl ?_
  refine A_getf cb_J4 hC 1 (Nat.le_of_ble_eq_true rfl) q670 rfl (v := .int 0) rfl dJ4_equals_26 ?_
  refine A_aload_n (i := 2) dJ4_equals_29 rfl rfl ?_
  refine A_getfO hs2 q670 rfl dJ4_equals_30 ?_
  refine A_icmp_ne_f (tgt := 54) dJ4_equals_33 (by decide) (rfl) ?_
  refine A_aload_n (i := 0) dJ4_equals_36 rfl rfl ?_
  refine A_getf cb_J4 hC 0 (Nat.le_of_ble_eq_true rfl) q669 rfl (v := .ref va) rfl dJ4_equals_37 ?_
  refine A_aload_n (i := 2) dJ4_equals_40 rfl rfl ?_
  refine A_getfO hs3 q669 rfl dJ4_equals_41 ?_
  refine A_callS2E (b' := 0) (v := some (.int (bi (u = w)))) (τ := σ) (c_latEq σ va v9 u w f hA hf hs4 hu hw) tJ15_equals q719 dJ4_equals_44 (by decide) (Nat.le_of_ble_eq_true rfl) (Nat.le_of_ble_eq_true rfl) ?_
  refine A_if_eq (tgt := 54) dJ4_equals_47 (by decide) (fun c1 => ?_) (fun c1 => ?_)
  · skip
    have c1 := bi_eq0.mp c1
    refine A_iconst (v := 0) dJ4_equals_54 (by decide) ?_
    exact A_zret dJ4_equals_55 rfl (rfl) (⟨by rw [bi_f c1], rfl⟩)
  · skip
    have c1 := bi_ne0.mp c1
    refine A_iconst (v := 1) dJ4_equals_50 (by decide) ?_
    refine A_goto (tgt := 55) dJ4_equals_51 (by decide) ?_
    exact A_zret dJ4_equals_55 rfl (rfl) (⟨by rw [bi_t c1], rfl⟩)
set_option maxHeartbeats 200000 in
theorem c_latNo {l : Launch} {g : GC} (σ : AH) (a1 b1 : Nat) (u w : List Int32) (hA : o_arr g .byte a1 u.length (fun j => .int (u.getD j 0))) (hB : o_arr g .byte b1 w.length (fun j => .int (w.getD j 0))) (hn : ¬ nI u.length = nI w.length) : AMet l g mJ15_equals 1 0 [.ref a1, .ref b1] σ (A_eq (some (.int 0)) σ) (A_no) := by
  refine A_of rfl (by decide) (Nat.le_of_ble_eq_true rfl) (L0 := [(0, .ref a1), (1, .ref b1)]) rfl ?_
  refine A_aload_n (i := 0) dJ15_equals_0 rfl rfl ?_
  refine A_alenO hA dJ15_equals_1 ?_
  refine A_aload_n (i := 1) dJ15_equals_2 rfl rfl ?_
  refine A_alenO hB dJ15_equals_3 ?_
  refine A_icmp_ne_t (tgt := 34) dJ15_equals_4 (by decide) (hn) ?_
  refine A_iconst (v := 0) dJ15_equals_34 (by decide) ?_
  exact A_zret dJ15_equals_35 rfl (rfl) (⟨rfl, rfl⟩)
set_option maxHeartbeats 200000 in
theorem c_strNo {l : Launch} {g : GC} (σ : AH) (a0 a : Nat) (u w : List Int32) (ht : o_str g a0 u) (hs : o_str g a w) (hn : ¬ nI u.length = nI w.length) : AMet l g mJ4_equals 2 0 [.ref a0, .ref a] σ (A_eq (some (.int 0)) σ) (A_no) := by
  refine A_of rfl (by decide) (Nat.le_of_ble_eq_true rfl) (L0 := [(0, .ref a0), (1, .ref a)]) rfl ?_
  have hne : ¬ some a0 = some a := fun e => hn (by rw [Option.some.inj e] at ht; exact o_str_len ht hs)
  obtain ⟨v9, hs1, hs2, hs3, hs4⟩ := hs
  obtain ⟨u9, ht1, ht2, ht3, ht4⟩ := ht
  refine A_gok (fun hgk => ?_)
  refine A_aload_n (i := 0) dJ4_equals_0 rfl rfl ?_
  refine A_aload_n (i := 1) dJ4_equals_1 rfl rfl ?_
  refine A_acmp_ne_t (tgt := 7) (x := (some a0)) (y := (some a)) dJ4_equals_2 (by decide) (hne) ?_
  refine A_aload_n (i := 1) dJ4_equals_7 rfl rfl ?_
  refine A_instO hs1 q718 dJ4_equals_8 ?_
  refine A_if_eq_f (tgt := 54) dJ4_equals_11 (by decide) (by decide) ?_
  refine A_aload_n (i := 1) dJ4_equals_14 rfl rfl ?_
  refine A_castO hs1 q718 dJ4_equals_15 ?_
  refine A_astore_n (i := 2) dJ4_equals_18 rfl (Nat.le_of_ble_eq_true rfl) ?_
  refine A_getsO (s_compact hgk) q633 rfl dJ4_equals_19 ?_
  refine A_if_eq_f (tgt := 36) dJ4_equals_22 (by decide) (by decide) ?_
  refine A_aload_n (i := 0) dJ4_equals_25 rfl rfl ?_
  refine A_getfO ht2 q670 rfl dJ4_equals_26 ?_
  refine A_aload_n (i := 2) dJ4_equals_29 rfl rfl ?_
  refine A_getfO hs2 q670 rfl dJ4_equals_30 ?_
  refine A_icmp_ne_f (tgt := 54) dJ4_equals_33 (by decide) (rfl) ?_
  refine A_aload_n (i := 0) dJ4_equals_36 rfl rfl ?_
  refine A_getfO ht3 q669 rfl dJ4_equals_37 ?_
  refine A_aload_n (i := 2) dJ4_equals_40 rfl rfl ?_
  refine A_getfO hs3 q669 rfl dJ4_equals_41 ?_
  refine A_callS2E (b' := 0) (v := some (.int 0)) (τ := σ) (c_latNo σ u9 v9 u w ht4 hs4 hn) tJ15_equals q719 dJ4_equals_44 (by decide) (Nat.le_of_ble_eq_true rfl) (Nat.le_of_ble_eq_true rfl) ?_
  refine A_if_eq_t (tgt := 54) dJ4_equals_47 (by decide) (by decide) ?_
  refine A_iconst (v := 0) dJ4_equals_54 (by decide) ?_
  exact A_zret dJ4_equals_55 rfl (rfl) (⟨rfl, rfl⟩)
def hsU (w : List Int32) : Nat → Int32
  | 0 => 0
  | k + 1 => 31 * hsU w k + (w.getD k 0 &&& 255)
theorem hsU_s (w : List Int32) (k : Nat) : hsU w (k + 1) = 31 * hsU w k + (w.getD k 0 &&& 255) := rfl
set_option maxHeartbeats 200000 in
theorem c_sgnHash {l : Launch} {g : GC} (σ : AH) (a1 : Nat) (u : List Int32) (f : AF) (hA : σ.1 a1 = some (bytA u.length f)) (hfu : ∀ i, i < u.length → f i = u.getD i 0) (h6 : u.length ≤ 6) : AMet l g mJ12_signedHashCode 1 0 [.int 0, .ref a1, .int 0, .int (nI u.length)] σ (A_eq (some (.int (hsU u u.length))) σ) (A_no) := by
  refine A_of rfl (by decide) (Nat.le_of_ble_eq_true rfl) (L0 := [(0, .int 0), (1, .ref a1), (2, .int 0), (3, .int (nI u.length))]) rfl ?_
  refine A_iload_n (i := 2) dJ12_signedHashCode_0 rfl rfl ?_
  refine A_iload_n (i := 3) dJ12_signedHashCode_1 rfl rfl ?_
  refine A_iadd dJ12_signedHashCode_2 ?_
  refine A_int (w := (nI u.length)) (Int32.zero_add _) ?_
  refine A_istore dJ12_signedHashCode_3 (Nat.le_of_ble_eq_true rfl) ?_
  refine A_iload_n (i := 2) dJ12_signedHashCode_5 rfl rfl ?_
  refine A_istore dJ12_signedHashCode_6 (Nat.le_of_ble_eq_true rfl) ?_
  refine A_sub (L' := [(0, .int (hsU u 0)), (1, .ref a1), (2, .int 0), (3, .int (nI u.length)), (4, .int (nI u.length)), (5, .int (nI 0))]) ⟨rfl, rfl, rfl, rfl, rfl, rfl, trivial⟩ ?_
  refine A_for u.length (fun i8 => 0) (fun i8 => [(0, .int (hsU u i8)), (1, .ref a1), (2, .int 0), (3, .int (nI u.length)), (4, .int (nI u.length)), (5, .int (nI i8))]) (fun i8 => σ) (fun i8 => True) trivial (fun i8 hi8 hI8 ih8 => ?_) (fun hI8 => ?_)
  · skip
    refine A_iload dJ12_signedHashCode_8 rfl ?_
    refine A_iload dJ12_signedHashCode_10 rfl ?_
    refine A_icmp_ge_f (tgt := 35) dJ12_signedHashCode_12 (by decide) (br_lt rfl hi8 (by omega)) ?_
    refine A_bipush (v := 31) dJ12_signedHashCode_15 (by decide) ?_
    refine A_iload_n (i := 0) dJ12_signedHashCode_17 rfl rfl ?_
    refine A_imul dJ12_signedHashCode_18 ?_
    refine A_aload_n (i := 1) dJ12_signedHashCode_19 rfl rfl ?_
    refine A_iload dJ12_signedHashCode_20 rfl ?_
    refine A_bald hA (vp_in_nI hi8 (by omega)) dJ12_signedHashCode_22 ?_
    refine A_int (w := (u.getD i8 0)) (by rw [nI_clamp (by omega)]; exact hfu i8 hi8) ?_
    refine A_sipush (v := 255) dJ12_signedHashCode_23 (by decide) ?_
    refine A_iand dJ12_signedHashCode_26 ?_
    refine A_iadd dJ12_signedHashCode_27 ?_
    refine A_istore_n (i := 0) dJ12_signedHashCode_28 rfl (Nat.le_of_ble_eq_true rfl) ?_
    refine A_iinc (v := nI (i8 + 1)) dJ12_signedHashCode_29 rfl (nI_inc _ _) (Nat.le_of_ble_eq_true rfl) ?_
    refine A_goto (tgt := 8) dJ12_signedHashCode_32 (by decide) ?_
    refine A_sub (L' := [(0, .int (hsU u (i8 + 1))), (1, .ref a1), (2, .int 0), (3, .int (nI u.length)), (4, .int (nI u.length)), (5, .int (nI (i8 + 1)))]) ⟨rfl, rfl, rfl, rfl, rfl, rfl, trivial⟩ ?_
    exact ih8 trivial
  · skip
    refine A_iload dJ12_signedHashCode_8 rfl ?_
    refine A_iload dJ12_signedHashCode_10 rfl ?_
    refine A_icmp_ge_t (tgt := 35) dJ12_signedHashCode_12 (by decide) (br_ge rfl) ?_
    refine A_iload_n (i := 0) dJ12_signedHashCode_35 rfl rfl ?_
    exact A_iret dJ12_signedHashCode_36 rfl (⟨rfl, rfl⟩)
set_option maxHeartbeats 200000 in
theorem c_vecHash {l : Launch} {g : GC} (σ : AH) (a1 : Nat) (u : List Int32) (f : AF) (hA : σ.1 a1 = some (bytA u.length f)) (hfu : ∀ i, i < u.length → f i = u.getD i 0) (h6 : u.length ≤ 6) : AMet l g mJ12_vectorizedHashCode 2 0 [.ref a1, .int 0, .int (nI u.length), .int 0, .int 4] σ (A_eq (some (.int (hsU u u.length))) σ) (A_no) := by
  refine A_of rfl (by decide) (Nat.le_of_ble_eq_true rfl) (L0 := [(0, .ref a1), (1, .int 0), (2, .int (nI u.length)), (3, .int 0), (4, .int 4)]) rfl ?_
  refine A_iload dJ12_vectorizedHashCode_0 rfl ?_
  refine A_tableIn (tgt := 44) dJ12_vectorizedHashCode_2 (by decide) (by decide) rfl (by decide) ?_
  refine A_iload_n (i := 3) dJ12_vectorizedHashCode_44 rfl rfl ?_
  refine A_aload_n (i := 0) dJ12_vectorizedHashCode_45 rfl rfl ?_
  refine A_castB hA q907 dJ12_vectorizedHashCode_46 ?_
  refine A_iload_n (i := 1) dJ12_vectorizedHashCode_49 rfl rfl ?_
  refine A_iload_n (i := 2) dJ12_vectorizedHashCode_50 rfl rfl ?_
  refine A_callS4E (b' := 0) (v := some (.int (hsU u u.length))) (τ := σ) (c_sgnHash σ a1 u f hA hfu h6) tJ12_signedHashCode q908 dJ12_vectorizedHashCode_51 (by decide) (Nat.le_of_ble_eq_true rfl) (Nat.le_of_ble_eq_true rfl) ?_
  refine A_goto (tgt := 157) dJ12_vectorizedHashCode_54 (by decide) ?_
  exact A_iret dJ12_vectorizedHashCode_157 rfl (⟨rfl, rfl⟩)
theorem hs1_ (u : List Int32) : hsU u 1 = u.getD 0 0 &&& 255 := by
  rw [hsU_s, show hsU u 0 = 0 from rfl, show (31 : Int32) * 0 = 0 by decide, Int32.zero_add]
set_option maxHeartbeats 200000 in
theorem c_latHash1 {l : Launch} {g : GC} (σ : AH) (a1 : Nat) (u : List Int32) (f : AF) (hA : σ.1 a1 = some (bytA u.length f)) (hfu : ∀ i, i < u.length → f i = u.getD i 0) (h6 : u.length ≤ 6) (h1 : u.length = 1) : AMet l g mJ15_hashCode 3 0 [.ref a1] σ (A_eq (some (.int (hsU u u.length))) σ) (A_no) := by
  refine A_of rfl (by decide) (Nat.le_of_ble_eq_true rfl) (L0 := [(0, .ref a1)]) rfl ?_
  refine A_aload_n (i := 0) dJ15_hashCode_0 rfl rfl ?_
  refine A_alen hA (by decide) (v := 1) (by rw [h1]; rfl) dJ15_hashCode_1 ?_
  refine A_lookup (off := 30) (tgt := 32) dJ15_hashCode_2 (by decide +kernel) (by decide +kernel) (by decide) ?_
  refine A_aload_n (i := 0) dJ15_hashCode_32 rfl rfl ?_
  refine A_iconst (v := 0) dJ15_hashCode_33 (by decide) ?_
  refine A_bald hA (by rw [h1]; unfold vp_in; decide) dJ15_hashCode_34 ?_
  refine A_int (w := (u.getD 0 0)) (hfu 0 (by omega)) ?_
  refine A_sipush (v := 255) dJ15_hashCode_35 (by decide) ?_
  refine A_iand dJ15_hashCode_38 ?_
  refine A_goto (tgt := 51) dJ15_hashCode_39 (by decide) ?_
  exact A_iret dJ15_hashCode_51 rfl (⟨by rw [h1, hs1_], rfl⟩)
set_option maxHeartbeats 200000 in
theorem c_latHash2 {l : Launch} {g : GC} (σ : AH) (a1 : Nat) (u : List Int32) (f : AF) (hA : σ.1 a1 = some (bytA u.length f)) (hfu : ∀ i, i < u.length → f i = u.getD i 0) (h6 : u.length ≤ 6) (h2 : 2 ≤ u.length) : AMet l g mJ15_hashCode 3 0 [.ref a1] σ (A_eq (some (.int (hsU u u.length))) σ) (A_no) := by
  refine A_of rfl (by decide) (Nat.le_of_ble_eq_true rfl) (L0 := [(0, .ref a1)]) rfl ?_
  refine A_aload_n (i := 0) dJ15_hashCode_0 rfl rfl ?_
  refine A_alen hA (by decide) (v := nI u.length) (rfl) dJ15_hashCode_1 ?_
  refine A_lookup (off := 40) (tgt := 42) dJ15_hashCode_2 (by decide +kernel) ((lv_osw (k := 0) (fun q => by have k := (nI_eqi (b := 0) (by omega) (by decide)).mp q; omega) (by decide)).trans ((lv_osw (k := 1) (fun q => by have k := (nI_eqi (b := 1) (by omega) (by decide)).mp q; omega) (by decide)).trans (rfl))) (by decide) ?_
  refine A_aload_n (i := 0) dJ15_hashCode_42 rfl rfl ?_
  refine A_iconst (v := 0) dJ15_hashCode_43 (by decide) ?_
  refine A_aload_n (i := 0) dJ15_hashCode_44 rfl rfl ?_
  refine A_alen hA (by decide) (v := nI u.length) (rfl) dJ15_hashCode_45 ?_
  refine A_iconst (v := 0) dJ15_hashCode_46 (by decide) ?_
  refine A_iconst (v := 4) dJ15_hashCode_47 (by decide) ?_
  refine A_callS5E (b' := 0) (v := some (.int (hsU u u.length))) (τ := σ) (c_vecHash σ a1 u f hA hfu h6) tJ12_vectorizedHashCode q904 dJ15_hashCode_48 (by decide) (Nat.le_of_ble_eq_true rfl) (Nat.le_of_ble_eq_true rfl) ?_
  exact A_iret dJ15_hashCode_51 rfl (⟨rfl, rfl⟩)
theorem c_latHash {l : Launch} {g : GC} (σ : AH) (a1 : Nat) (u : List Int32) (f : AF) (hA : σ.1 a1 = some (.inl (.byte, u.length, .inl f))) (hfu : ∀ i, i < u.length → f i = u.getD i 0) (h6 : u.length ≤ 6) (h0 : 0 < u.length) : AMet l g mJ15_hashCode 3 0 [.ref a1] σ (A_eq (some (.int (hsU u u.length))) σ) A_no := by
  by_cases c : u.length = 1
  · exact c_latHash1 σ a1 u f hA hfu h6 c
  · exact c_latHash2 σ a1 u f hA hfu h6 (by omega)
set_option maxHeartbeats 200000 in
theorem c_strLatN {l : Launch} {g : GC} (σ : AH) (wd va : Nat) (h z : Int32) (hC : σ.1 wd = some (strC va h z)) : AMet l g mJ4_isLatin1 1 0 [.ref wd] σ (A_eq (some (.int 1)) σ) (A_no) := by
  refine A_of rfl (by decide) (Nat.le_of_ble_eq_true rfl) (L0 := [(0, .ref wd)]) rfl ?_
  refine A_gok (fun hgk => ?_)
  refine A_getsO (s_compact hgk) q633 rfl dJ4_isLatin1_0 ?_
  refine A_if_eq_f (tgt := 17) dJ4_isLatin1_3 (by decide) (by decide) ?_
  refine A_aload_n (i := 0) dJ4_isLatin1_6 rfl rfl ?_
  refine A_getf cb_J4 hC 1 (Nat.le_of_ble_eq_true rfl) q670 rfl (v := .int 0) rfl dJ4_isLatin1_7 ?_
  refine A_if_ne_f (tgt := 17) dJ4_isLatin1_10 (by decide) (by decide) ?_
  refine A_iconst (v := 1) dJ4_isLatin1_13 (by decide) ?_
  refine A_goto (tgt := 18) dJ4_isLatin1_14 (by decide) ?_
  exact A_zret dJ4_isLatin1_18 rfl (rfl) (⟨rfl, rfl⟩)
set_option maxHeartbeats 200000 in
theorem c_strHash {l : Launch} {g : GC} (σ : AH) (wd va : Nat) (u : List Int32) (hS : NST σ wd va 0 0 u) (h6 : u.length ≤ 6) (h0 : 0 < u.length) : AMet l g mJ4_hashCode 4 0 [.ref wd] σ (fun v τ => v = some (.int (hsU u u.length)) ∧ (∃ h z, NST τ wd va h z u) ∧ kx wd σ τ) (A_no) := by
  refine A_of rfl (by decide) (Nat.le_of_ble_eq_true rfl) (L0 := [(0, .ref wd)]) rfl ?_
  refine A_wfh (fun wσ hgσ => ?_)
  have zσ : kx wd σ σ := kx.rf
  obtain ⟨hC, f, hA, hf⟩ := hS
  refine A_aload_n (i := 0) dJ4_hashCode_0 rfl rfl ?_
  refine A_getf cb_J4 hC 2 (Nat.le_of_ble_eq_true rfl) q671 rfl (v := .int 0) rfl dJ4_hashCode_1 ?_
  refine A_istore_n (i := 1) dJ4_hashCode_4 rfl (Nat.le_of_ble_eq_true rfl) ?_
  refine A_iload_n (i := 1) dJ4_hashCode_5 rfl rfl ?_
  refine A_if_ne_f (tgt := 58) dJ4_hashCode_6 (by decide) (by decide) ?_
  refine A_aload_n (i := 0) dJ4_hashCode_9 rfl rfl ?_
  refine A_getf cb_J4 hC 3 (Nat.le_of_ble_eq_true rfl) q672 rfl (v := .int 0) rfl dJ4_hashCode_10 ?_
  refine A_if_ne_f (tgt := 58) dJ4_hashCode_13 (by decide) (by decide) ?_
  refine A_aload_n (i := 0) dJ4_hashCode_16 rfl rfl ?_
  refine A_callV0E (b' := 0) (v := some (.int 1)) (τ := σ) (c_strLatN σ wd va 0 0 hC) tJ4_isLatin1 q897 hC rfl rfl dJ4_hashCode_17 (by decide) (Nat.le_of_ble_eq_true rfl) (Nat.le_of_ble_eq_true rfl) ?_
  refine A_if_eq_f (tgt := 33) dJ4_hashCode_20 (by decide) (by decide) ?_
  refine A_aload_n (i := 0) dJ4_hashCode_23 rfl rfl ?_
  refine A_getf cb_J4 hC 0 (Nat.le_of_ble_eq_true rfl) q669 rfl (v := .ref va) rfl dJ4_hashCode_24 ?_
  refine A_callS1E (b' := 0) (v := some (.int (hsU u u.length))) (τ := σ) (c_latHash σ va u f hA hf h6 h0) tJ15_hashCode q901 dJ4_hashCode_27 (by decide) (Nat.le_of_ble_eq_true rfl) (Nat.le_of_ble_eq_true rfl) ?_
  refine A_goto (tgt := 40) dJ4_hashCode_30 (by decide) ?_
  refine A_istore_n (i := 1) dJ4_hashCode_40 rfl (Nat.le_of_ble_eq_true rfl) ?_
  refine A_iload_n (i := 1) dJ4_hashCode_41 rfl rfl ?_
  refine A_if_ne (tgt := 53) dJ4_hashCode_42 (by decide) (fun c1 => ?_) (fun c1 => ?_)
  · skip
    refine A_aload_n (i := 0) dJ4_hashCode_53 rfl rfl ?_
    refine A_iload_n (i := 1) dJ4_hashCode_54 rfl rfl ?_
    refine A_putf cb_J4 hC 2 (Nat.le_of_ble_eq_true rfl) q671 rfl rfl rfl rfl (Nat.le_of_ble_eq_true rfl) dJ4_hashCode_55 ?_
    obtain ⟨σ1, eσ1⟩ : ∃ τ, τ = h_put σ wd (.inr (.inl (13, [.ref va, .int 0, .int (hsU u u.length), .int 0]))) := ⟨_, rfl⟩
    refine A_st (σ' := σ1) eσ1.symm ?_
    have wσ1 : wfh σ1 := by rw [eσ1]; exact wσ.put hC
    have fσ1_0 : σ1.1 wd = some (.inr (.inl (13, [.ref va, .int 0, .int (hsU u u.length), .int 0]))) := by rw [eσ1]; exact if_pos rfl
    have fσ1_1 : σ1.1 va = some (.inl (.byte, u.length, .inl f)) := by rw [eσ1]; exact (hp_ne (ne_of (x := .inl (.byte, u.length, .inl f)) (y := .inr (.inl (13, [.ref va, .int 0, .int 0, .int 0]))) hA hC (fun e8 => by simp at e8))).trans hA
    have zσ1 : kx wd σ σ1 := by rw [eσ1]; exact zσ.put
    refine A_iload_n (i := 1) dJ4_hashCode_58 rfl rfl ?_
    exact A_iret dJ4_hashCode_59 rfl (⟨rfl, ⟨_, _, fσ1_0, _, fσ1_1, hf⟩, zσ1⟩)
  · skip
    refine A_aload_n (i := 0) dJ4_hashCode_45 rfl rfl ?_
    refine A_iconst (v := 1) dJ4_hashCode_46 (by decide) ?_
    refine A_putf cb_J4 hC 3 (Nat.le_of_ble_eq_true rfl) q672 rfl rfl rfl rfl (Nat.le_of_ble_eq_true rfl) dJ4_hashCode_47 ?_
    obtain ⟨σ2, eσ2⟩ : ∃ τ, τ = h_put σ wd (.inr (.inl (13, [.ref va, .int 0, .int 0, .int 1]))) := ⟨_, rfl⟩
    refine A_st (σ' := σ2) eσ2.symm ?_
    have wσ2 : wfh σ2 := by rw [eσ2]; exact wσ.put hC
    have fσ2_0 : σ2.1 wd = some (.inr (.inl (13, [.ref va, .int 0, .int 0, .int 1]))) := by rw [eσ2]; exact if_pos rfl
    have fσ2_1 : σ2.1 va = some (.inl (.byte, u.length, .inl f)) := by rw [eσ2]; exact (hp_ne (ne_of (x := .inl (.byte, u.length, .inl f)) (y := .inr (.inl (13, [.ref va, .int 0, .int 0, .int 0]))) hA hC (fun e8 => by simp at e8))).trans hA
    have zσ2 : kx wd σ σ2 := by rw [eσ2]; exact zσ.put
    refine A_goto (tgt := 58) dJ4_hashCode_50 (by decide) ?_
    refine A_iload_n (i := 1) dJ4_hashCode_58 rfl rfl ?_
    exact A_iret dJ4_hashCode_59 rfl (⟨rfl, ⟨_, _, fσ2_0, _, fσ2_1, hf⟩, zσ2⟩)
set_option maxHeartbeats 200000 in
theorem c_ens16 {l : Launch} {g : GC} (σ : AH) (σ0 : AH) (sb sa0 n : Nat) (l9 : List Int32) (h : SX σ0 sb sa0 σ l9 l9.length) (h1 : n ≤ 16) : AMet l g mJ2_ensureCapacityInternal 1 0 [.ref sb, .int (nI n)] σ (fun v τ => v = none ∧ SX σ0 sb sa0 τ l9 n) (A_no) := by
  obtain ⟨sa, cap, ml, f, -, hd0, hfr, h5⟩ := id h
  have hd := id hd0
  obtain ⟨hC, hA, hcp, hlc, hfx⟩ := hd
  have c : n ≤ cap := by omega
  refine A_of rfl (by decide) (Nat.le_of_ble_eq_true rfl) (L0 := [(0, .ref sb), (1, .int (nI n))]) rfl ?_
  refine A_wfh (fun wσ hgσ => ?_)
  refine A_aload_n (i := 0) dJ2_ensureCapacityInternal_0 rfl rfl ?_
  refine A_getf cb_J3 hC 0 (Nat.le_of_ble_eq_true rfl) q223 rfl (v := .ref sa) rfl dJ2_ensureCapacityInternal_1 ?_
  refine A_alen hA (by decide) (v := nI cap) (rfl) dJ2_ensureCapacityInternal_4 ?_
  refine A_aload_n (i := 0) dJ2_ensureCapacityInternal_5 rfl rfl ?_
  refine A_getf cb_J3 hC 1 (Nat.le_of_ble_eq_true rfl) q224 rfl (v := .int 0) rfl dJ2_ensureCapacityInternal_6 ?_
  refine A_ishr dJ2_ensureCapacityInternal_9 ?_
  refine A_int (w := (nI cap)) (sh0) ?_
  refine A_istore_n (i := 2) dJ2_ensureCapacityInternal_10 rfl (Nat.le_of_ble_eq_true rfl) ?_
  refine A_iload_n (i := 1) dJ2_ensureCapacityInternal_11 rfl rfl ?_
  refine A_iload_n (i := 2) dJ2_ensureCapacityInternal_12 rfl rfl ?_
  refine A_isub dJ2_ensureCapacityInternal_13 ?_
  refine A_if_le_t (tgt := 38) dJ2_ensureCapacityInternal_14 (by decide) ((nsub_t n (by omega) cap (by omega)).1 c) ?_
  exact A_vret dJ2_ensureCapacityInternal_38 rfl (⟨rfl, SX.of hfr h5 fra.rf (Or.inl rfl) c hd0⟩)
set_option maxHeartbeats 200000 in
theorem c_sbAp16a {l : Launch} {g : GC} (σ : AH) (σ0 : AH) (sb sa0 k : Nat) (l9 : List Int32) (h : SX σ0 sb sa0 σ l9 l9.length) (hk : k < 128) (hl : l9.length + 1 ≤ 16) : AMet l g mJ2_append 2 0 [.ref sb, .int (nI k)] σ (fun v τ => v = some (.ref sb) ∧ SX σ0 sb sa0 τ (l9 ++ [nI k]) (l9 ++ [nI k]).length) (A_no) := by
  refine A_of rfl (by decide) (Nat.le_of_ble_eq_true rfl) (L0 := [(0, .ref sb), (1, .int (nI k))]) rfl ?_
  refine A_wfh (fun wσ hgσ => ?_)
  obtain ⟨sa, cap, ml, f, -, hd0, hfr, h5⟩ := id h
  have hC := hd0.1
  refine A_aload_n (i := 0) dJ2_append_0 rfl rfl ?_
  refine A_aload_n (i := 0) dJ2_append_1 rfl rfl ?_
  refine A_getf cb_J3 hC 3 (Nat.le_of_ble_eq_true rfl) q227 rfl (v := .int (nI l9.length)) rfl dJ2_append_2 ?_
  refine A_iconst (v := 1) dJ2_append_5 (by decide) ?_
  refine A_iadd dJ2_append_6 ?_
  refine A_int (w := nI (l9.length + 1)) (nI_add l9.length 1) ?_
  refine A_callP1 (b' := 0) (c_ens16 σ σ0 sb sa0 (l9.length + 1) l9 h hl) tP_J2_ensureCapacityInternal q442 (Or.inr ⟨_, _, _, hC, rfl, rfl⟩) dJ2_append_7 (by decide) (Nat.le_of_ble_eq_true rfl) (Nat.le_of_ble_eq_true rfl) (fun w9 τ9 h9 => ?_) (fun E9 q9 τ9 h9 => h9.elim)
  obtain ⟨e9, h9x⟩ := h9
  subst e9
  refine A_wfh (fun wτ9 hgτ9 => ?_)
  obtain ⟨sa1, cap1, ml1, f1, hn1, hd1, hfr1, h51⟩ := h9x
  refine A_aload_n (i := 0) dJ2_append_10 rfl rfl ?_
  refine A_callU0E (b' := 0) (v := some (.int 1)) (τ := τ9) (c_sbLat τ9 sb sa1 ml1 (nI l9.length) hd1.1) tU_J2_isLatin1 q477 (Or.inr ⟨_, _, _, hd1.1, rfl, rfl⟩) dJ2_append_11 (by decide) (Nat.le_of_ble_eq_true rfl) (Nat.le_of_ble_eq_true rfl) ?_
  refine A_if_eq_f (tgt := 45) dJ2_append_14 (by decide) (by decide) ?_
  refine A_iload_n (i := 1) dJ2_append_17 rfl rfl ?_
  refine A_callS1E (b' := 0) (v := some (.int 1)) (τ := τ9) (c_canEnc τ9 k hk) tJ15_canEncode q482 dJ2_append_18 (by decide) (Nat.le_of_ble_eq_true rfl) (Nat.le_of_ble_eq_true rfl) ?_
  refine A_if_eq_f (tgt := 45) dJ2_append_21 (by decide) (by decide) ?_
  refine A_aload_n (i := 0) dJ2_append_24 rfl rfl ?_
  refine A_getf cb_J3 hd1.1 0 (Nat.le_of_ble_eq_true rfl) q223 rfl (v := .ref sa1) rfl dJ2_append_25 ?_
  refine A_aload_n (i := 0) dJ2_append_28 rfl rfl ?_
  refine A_dup dJ2_append_29 rfl ?_
  refine A_getf cb_J3 hd1.1 3 (Nat.le_of_ble_eq_true rfl) q227 rfl (v := .int (nI l9.length)) rfl dJ2_append_30 ?_
  refine A_dup_x1 dJ2_append_33 rfl rfl ?_
  refine A_iconst (v := 1) dJ2_append_34 (by decide) ?_
  refine A_iadd dJ2_append_35 ?_
  refine A_int (w := nI (l9.length + 1)) (nI_add l9.length 1) ?_
  refine A_putf cb_J3 hd1.1 3 (Nat.le_of_ble_eq_true rfl) q227 rfl rfl rfl rfl (Nat.le_of_ble_eq_true rfl) dJ2_append_36 ?_
  obtain ⟨σ1, eσ1⟩ : ∃ τ, τ = h_put τ9 sb (.inr (.inl (12, [.ref sa1, .int 0, .int ml1, .int (nI (l9.length + 1))]))) := ⟨_, rfl⟩
  refine A_st (σ' := σ1) eσ1.symm ?_
  have wσ1 : wfh σ1 := by rw [eσ1]; exact wτ9.put hd1.1
  have fσ1_0 : σ1.1 sb = some (.inr (.inl (12, [.ref sa1, .int 0, .int ml1, .int (nI (l9.length + 1))]))) := by rw [eσ1]; exact if_pos rfl
  have fσ1_1 : σ1.1 sa1 = some (.inl (.byte, cap1, .inl f1)) := by rw [eσ1]; exact (hp_ne (ne_of (x := .inl (.byte, cap1, .inl f1)) (y := .inr (.inl (12, [.ref sa1, .int 0, .int ml1, .int (nI l9.length)]))) hd1.2.1 hd1.1 (fun e8 => by simp at e8))).trans hd1.2.1
  refine A_iload_n (i := 1) dJ2_append_39 rfl rfl ?_
  refine A_i2b (v := (nI k)) dJ2_append_40 (i2bN hk) ?_
  refine A_bast fσ1_1 (vp_in_nI (by omega : l9.length < cap1) (by have k := hd1.2.2.1; omega)) dJ2_append_41 ?_
  refine A_st (σ' := h_put σ1 sa1 (.inl (.byte, cap1, .inl (va_up f1 l9.length (nI k))))) (by rw [nI_clamp (by omega), narB hk] <;> rfl) ?_
  obtain ⟨σ2, eσ2⟩ : ∃ τ, τ = h_put σ1 sa1 (.inl (.byte, cap1, .inl (va_up f1 l9.length (nI k)))) := ⟨_, rfl⟩
  refine A_st (σ' := σ2) eσ2.symm ?_
  have wσ2 : wfh σ2 := by rw [eσ2]; exact wσ1.put fσ1_1
  have fσ2_0 : σ2.1 sb = some (.inr (.inl (12, [.ref sa1, .int 0, .int ml1, .int (nI (l9.length + 1))]))) := by rw [eσ2]; exact (hp_ne (ne_of (x := .inr (.inl (12, [.ref sa1, .int 0, .int ml1, .int (nI (l9.length + 1))]))) (y := .inl (.byte, cap1, .inl f1)) fσ1_0 fσ1_1 (fun e8 => by simp at e8))).trans fσ1_0
  have fσ2_1 : σ2.1 sa1 = some (.inl (.byte, cap1, .inl (va_up f1 l9.length (nI k)))) := by rw [eσ2]; exact if_pos rfl
  refine A_goto (tgt := 75) dJ2_append_42 (by decide) ?_
  refine A_aload_n (i := 0) dJ2_append_75 rfl rfl ?_
  exact A_aret dJ2_append_76 rfl (Or.inl ⟨_, rfl⟩) (Or.inr ⟨_, rfl⟩) (⟨rfl, SX.room (SX.of (n := 0) hfr1 h51 ((fra.rf.kx m2a (show kx sb τ9 σ1 by rw [eσ1]; exact kx.rf.put)).kx m2b (show kx sa1 σ1 σ2 by rw [eσ2]; exact kx.rf.put)) (Or.inl rfl) (Nat.zero_le _) (SBd.put1 hd1.2.2.2.2 hd1.2.2.1 fσ2_0 fσ2_1 hk hn1))⟩)
set_option maxHeartbeats 200000 in
theorem c_sbAp16b {l : Launch} {g : GC} (σ : AH) (σ0 : AH) (sb sa0 k : Nat) (l9 : List Int32) (h : SX σ0 sb sa0 σ l9 l9.length) (hk : k < 128) (hl : l9.length + 1 ≤ 16) : AMet l g mJ3_append 3 0 [.ref sb, .int (nI k)] σ (fun v τ => v = some (.ref sb) ∧ SX σ0 sb sa0 τ (l9 ++ [nI k]) (l9 ++ [nI k]).length) (A_no) := by
  refine A_of rfl (by decide) (Nat.le_of_ble_eq_true rfl) (L0 := [(0, .ref sb), (1, .int (nI k))]) rfl ?_
  obtain ⟨sa, cap, ml, f, -, hd0, hfr, h5⟩ := id h
  have hC := hd0.1
  refine A_aload_n (i := 0) dJ3_append_0 rfl rfl ?_
  refine A_iload_n (i := 1) dJ3_append_1 rfl rfl ?_
  refine A_callSp1 (b' := 0) (c_sbAp16a σ σ0 sb sa0 k l9 h hk hl) tSp_J2_append q439 hC rfl dJ3_append_2 (by decide) (Nat.le_of_ble_eq_true rfl) (Nat.le_of_ble_eq_true rfl) (fun w9 τ9 h9 => ?_) (fun E9 q9 τ9 h9 => h9.elim)
  obtain ⟨e9, h9x⟩ := h9
  subst e9
  refine A_pop dJ3_append_5 rfl ?_
  refine A_aload_n (i := 0) dJ3_append_6 rfl rfl ?_
  exact A_aret dJ3_append_7 rfl (Or.inl ⟨_, rfl⟩) (Or.inr ⟨_, rfl⟩) (⟨rfl, h9x⟩)
theorem c_sbAp16 {l : Launch} {g : GC} (σ : AH) (σ0 : AH) (sb sa0 : Nat) (v : Int32) (l9 : List Int32) (h : SX σ0 sb sa0 σ l9 l9.length) (hv : ∃ k, k < 128 ∧ v = nI k) (hl : l9.length + 1 ≤ 16) : AMet l g mJ3_append 3 0 [.ref sb, .int v] σ (fun w τ => w = some (.ref sb) ∧ SX σ0 sb sa0 τ (l9 ++ [v]) (l9 ++ [v]).length) (A_no) := by
  obtain ⟨k, hk, rfl⟩ := hv
  exact c_sbAp16b σ σ0 sb sa0 k l9 h hk hl
