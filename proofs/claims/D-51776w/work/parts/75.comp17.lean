/-! FLAGLAUNDRY 6: mean dirt, groups, the first that is safe -/
theorem isW_ia {n : Nat} {x : (Nat → Int32) ⊕ (Nat → Int64) ⊕ (Nat → UInt32) ⊕ (Nat → UInt64) ⊕ (Nat → Option Nat)} (h : ¬ (n = 6 ∨ n = 3)) : ¬ isW (.inl (.int, n, x)) := by
  rintro (⟨c', vs', e, h'⟩ | ⟨n, f, e, h'⟩ | ⟨n, f, e, h'⟩ | ⟨f, e⟩)
  · cases e
  · injection e with e; injection e with e1 e2; injection e2 with e2 e3; subst e2; exact h h'
  · injection e with e; injection e with e1 e2; cases e1
  · injection e with e; injection e with e1 e2; cases e1
def mixV (N : AF) (f o : Nat) (h : Int32) : Int32 := bi (¬ newS N o (runFrom N f h) = 0) + (2 * bi (¬ newS N f (runFrom N o h) = 0))
theorem mix0 (N : AF) {i j : Nat} (h : Int32) (hij : ¬ j = i) : mixV N i j h = 0 ↔ mixN N j i h = 0 := by
  unfold mixV mixN
  rw [if_neg hij]
  by_cases a : newS N j (runFrom N i h) = 0 <;> by_cases b : newS N i (runFrom N j h) = 0
  · rw [bi_f (not_not_intro a), bi_f (not_not_intro b)]
  · rw [bi_f (not_not_intro a), bi_t b]; exact ⟨fun q => absurd q (by decide), fun q => absurd q (by decide)⟩
  · rw [bi_t a, bi_f (not_not_intro b)]; exact ⟨fun q => absurd q (by decide), fun q => absurd q (by decide)⟩
  · rw [bi_t a, bi_t b]
abbrev grI (N : AF) (h : Int32) (i : Nat) (G : Nat → Int32) : Prop := ∀ j, j < 12 → G j = if j < i then (gU N h i).1 j + 1 else 0
theorem fit_join {N : AF} {h : Int32} {G : Nat → Int32} {i q : Nat} (hi : i < nF N) (hF : nF N ≤ 12) (hg : grI N h i G) (hq : q < 2000) : (∀ j, j < nF N → ¬ (G j = nI (q + 1) ∧ ¬ mixV N i j h = 0)) ↔ joinP N (gU N h i).1 i (nI q) h := by
  constructor
  · intro w j hj e
    refine w j (by omega) ⟨?_, fun z => e.2 ((mix0 N h (by omega)).mp z)⟩
    rw [hg j (by omega), if_pos hj, e.1]
    exact nI_add q 1
  · intro w j hj e
    have e1 := e.1
    rw [hg j (by omega)] at e1
    by_cases c : j < i
    · rw [if_pos c] at e1
      refine w j c ⟨?_, fun z => e.2 ((mix0 N h (by omega)).mpr z)⟩
      have e2 : (gU N h i).1 j + 1 = nI q + 1 := e1.trans (nI_add q 1).symm
      exact (Int32.add_left_inj 1).mp e2
    · rw [if_neg c] at e1
      have := (nI_eqi (by omega : 0 < 2 ^ 31) (by omega : q + 1 < 2 ^ 31)).mp e1
      omega
theorem gr_take {N : AF} {h : Int32} {G : Nat → Int32} {i : Nat} (hp : gP N h i) (hg : grI N h i G) : grI N h (i + 1) (va_up G i (nI (gJ N (gU N h i).1 h (gU N h i).2 i + 1))) := by
  intro j hj
  rw [gU_s, if_pos hp]
  by_cases c : j = i
  · subst c
    rw [if_pos (by omega)]
    show (if j = j then _ else _) = (if j = j then _ else _) + 1
    rw [if_pos rfl, if_pos rfl]
    exact (nI_add _ 1).symm
  · rw [va_up_ne _ _ c, hg j hj]
    by_cases d : j < i
    · rw [if_pos d, if_pos (by omega)]
      show _ = va_up (gU N h i).1 i _ j + 1
      rw [va_up_ne _ _ c]
    · rw [if_neg d, if_neg (by omega)]
theorem gr_skip {N : AF} {h : Int32} {G : Nat → Int32} {i : Nat} (hp : ¬ gP N h i) (hg : grI N h i G) : grI N h (i + 1) G := by
  intro j hj
  rw [hg j hj, gU_s, if_neg hp]
  by_cases c : j = i
  · subst c
    rw [if_neg (by omega), if_pos (by omega)]
    show 0 = (if j = j then _ else _) + 1
    rw [if_pos rfl]
    decide
  · by_cases d : j < i
    · rw [if_pos d, if_pos (by omega)]
      show _ = va_up (gU N h i).1 i _ j + 1
      rw [va_up_ne _ _ c]
    · rw [if_neg d, if_neg (by omega)]
theorem kx.back {A : Nat} {σ τ : AH} {c : AE} (k : kx A σ τ) (h : σ.1 A = some c) (h' : τ.1 A = some c) : ext σ τ := ⟨k.1, fun a ha => by
  by_cases e : a = A
  · rw [e, h, h']
  · exact k.2 a ha e⟩
/-- a flag put into a tub, but not counted -/
def put1 (N : AF) (f : Nat) (t : Int32) : AF := setFl (goTo N f 1 t) f 10 (N 11)
theorem put1_in (N : AF) (f : Nat) (t : Int32) : putIn N f t = va_up (put1 N f t) 11 (N 11 + 1) := by
  have e : goTo N f 1 t 11 = N 11 := hdr_goTo N f 1 t 11 (by decide)
  have e2 : setFl (goTo N f 1 t) f 10 (N 11) 11 = N 11 := (va_up_ne _ _ (by omega)).trans e
  unfold putIn put1
  rw [e, e2]
theorem upF_put1 (N : AF) (f : Nat) (t : Int32) : upF N (put1 N f t) f (plF (fl N f) 1 t (N 11)) := by
  have e : goTo N f 1 t 11 = N 11 := hdr_goTo N f 1 t 11 (by decide)
  have h := upF_put N f t
  rw [e] at h
  exact h
theorem many_va (M : AF) (v t : Int32) : manyT (va_up M 11 v) t = manyT M t := by
  unfold manyT inTub
  rw [show nF (va_up M 11 v) = nF M from rfl]
  simp only [fl_va M (by decide : 11 < 41)]
theorem lc_va (M : AF) (v t : Int32) : ∀ n, lcF (va_up M 11 v) t n = lcF M t n
  | 0 => rfl
  | n + 1 => by
    rw [lcF_s, lcF_s, lc_va M v t n]
    unfold inTub
    rw [fl_va M (by decide : 11 < 41), fl_va M (by decide : 11 < 41), fl_va M (by decide : 11 < 41)]
theorem wash_va (M : AF) (v t h : Int32) : whyWashN (va_up M 11 v) t h = whyWashN M t h := by
  unfold whyWashN leastN
  rw [many_va, show nF (va_up M 11 v) = nF M from rfl, lc_va]
theorem runOf_va (M : AF) (v c h : Int32) : runOf (va_up M 11 v) c h = runOf M c h := by
  have e1 : nC (va_up M 11 v) = nC M := by unfold nC; rw [va_up_ne _ _ (by decide)]
  have e : ∀ k, va_up M 11 v (12 + k) = M (12 + k) := fun k => va_up_ne _ _ (by omega)
  unfold runOf
  rw [e1]
  simp only [e]
theorem stain_va (M : AF) (v t h : Int32) : stainBy (va_up M 11 v) t h = stainBy M t h := by
  have e : runIn (va_up M 11 v) t h = runIn M t h := by
    unfold runIn runFrom inTub
    rw [show nF (va_up M 11 v) = nF M from rfl]
    simp only [fl_va M (by decide : 11 < 41), runOf_va M v _ h]
  unfold stainBy newS inTub
  rw [e, show nF (va_up M 11 v) = nF M from rfl]
  simp only [fl_va M (by decide : 11 < 41)]
theorem safe_iff {N : AF} {f t : Nat} {h : Int32} (hF : nF N ≤ 12) : safeN N f t h ↔ whyPutN N f t = 0 ∧ whyWashN (put1 N f (nI t)) (nI t) h = 0 ∧ stainBy (put1 N f (nI t)) (nI t) h = 0 := by
  have hc := (upF_put1 N f (nI t)).cnt
  unfold safeN
  rw [put1_in, wash_va, stain_va]
  obtain ⟨b, hb, eb⟩ := sm_ex (p := fun q => inTub (put1 N f (nI t)) q (nI t) ∧ ¬ newS (put1 N f (nI t)) q (runIn (put1 N f (nI t)) (nI t) h) = 0) (nF (put1 N f (nI t)))
  have hb12 : b ≤ 12 := by rw [hc.2.2.2.2] at hb; omega
  have es : stainBy (put1 N f (nI t)) (nI t) h = nI b := eb
  have ew : ∃ a, a ≤ 2 ∧ whyWashN (put1 N f (nI t)) (nI t) h = nI a := by
    unfold whyWashN
    split
    · exact ⟨1, by decide, rfl⟩
    · split
      · exact ⟨2, by decide, rfl⟩
      · exact ⟨0, by decide, rfl⟩
  obtain ⟨a, ha, ea⟩ := ew
  rw [es, ea, nI_add]
  have k0 : ∀ n, n < 2 ^ 31 → (nI n = 0 ↔ n = 0) := fun n hn => nI_eqi hn (by decide)
  rw [k0 _ (by omega), k0 a (by omega), k0 b (by omega)]
  constructor
  · rintro ⟨p, q⟩; exact ⟨p, by omega, by omega⟩
  · rintro ⟨p, q, r⟩; exact ⟨p, by omega⟩
theorem q_meanDirt {l : Launch} {g : GC} (σ : AH) (x bf dq sv ou : Nat) (bd pe ep : Int32) (is : Int32) (nv : Value) (W : WA) (N : AF) (hL : LD g σ is nv W N) (hX : σ.1 x = some (lauC bf bd pe ep nv dq sv ou)) : AMet l g mX1_meanDirt 9 4 [.ref x] σ (A_val (mayT is 1 1) (.double (meanN 0 N)) σ) (A_thr ["java/lang/IllegalStateException"] (mayT is 1 1) σ) := by
  rcases hL with ⟨h0, hn⟩ | ⟨hs, hn, hR, hD, hw, hh⟩
  · subst hn
    refine A_of rfl (by decide) (Nat.le_of_ble_eq_true rfl) (L0 := [(0, .ref x)]) rfl ?_
    refine A_wfh (fun wσ hgσ => ?_)
    have yσ : ext σ σ := ext.rf
    refine A_aload_n (i := 0) dX1_meanDirt_0 rfl rfl ?_
    refine A_callV0 (b' := 0) (u_loaded σ x bf dq sv ou bd pe ep  hX) tX1_loaded q1383 hX rfl rfl dX1_meanDirt_1 (by decide) (Nat.le_of_ble_eq_true rfl) (Nat.le_of_ble_eq_true rfl) (fun w9 τ9 h9 => h9.elim) (fun E9 q9 τ9 h9 => A_out rfl (⟨yσ.tr h9.2, 0, by rw [h9.1]; rfl, by rw [(mayQ_1 h0)]; rfl⟩))
  · subst hn
    have hW := hD.1
    have hR9 := hR
    obtain ⟨h1, ⟨fr, h2, h2p⟩, ⟨fm, h3, h3p⟩, ⟨mcn, fnA, h4, h4p, h4q⟩, ⟨mcf, ffA, h5, h5p, h5q⟩, ⟨fu, h6, h6p⟩, h7, h8, h9, h10, h11⟩ := hR
    have hF12 : nF N ≤ 12 := hW.2.2.2.2.2
    have hN4 : nN N ≤ 4 := hW.2.1.2
    have hC6 : nC N ≤ 6 := hW.1.2
    have hT3 : nT N ≤ 3 := hW.2.2.1.2
    have hP8 : nP N ≤ 8 := hW.2.2.2.1.2
    refine A_of rfl (by decide) (Nat.le_of_ble_eq_true rfl) (L0 := [(0, .ref x)]) rfl ?_
    refine A_wfh (fun wσ hgσ => ?_)
    have yσ : ext σ σ := ext.rf
    refine A_aload_n (i := 0) dX1_meanDirt_0 rfl rfl ?_
    refine A_callV0E (b' := 4) (v := some (.ref (wW W))) (τ := σ) (c_loaded σ x bf dq sv ou bd pe ep W N hX hR9 hD) tX1_loaded q1383 hX rfl rfl dX1_meanDirt_1 (by decide) (Nat.le_of_ble_eq_true rfl) (Nat.le_of_ble_eq_true rfl) ?_
    refine A_astore_n (i := 1) dX1_meanDirt_4 rfl (Nat.le_of_ble_eq_true rfl) ?_
    refine A_iconst (v := 0) dX1_meanDirt_5 (by decide) ?_
    refine A_istore_n (i := 2) dX1_meanDirt_6 rfl (Nat.le_of_ble_eq_true rfl) ?_
    refine A_aload_n (i := 1) dX1_meanDirt_7 rfl rfl ?_
    refine A_getfN cb_X5 h1 4 (Nat.le_of_ble_eq_true rfl) q834 rfl (v := .ref (wFL W)) rfl dX1_meanDirt_8 ?_
    refine A_callF0E (b' := 3) (v := some (.ref σ.2)) (τ := h_put (h_put (h_put (h_new σ (.inr (.inl (15, [.int 0, .int 0, .int 0, .null])))) σ.2 (.inr (.inl (15, [.int 0, .int 0, .int 0, .ref (wFL W)])))) σ.2 (.inr (.inl (15, [.int 0, .int (-1), .int 0, .ref (wFL W)])))) σ.2 (.inr (.inl (15, [.int 0, .int (-1), .int mcf, .ref (wFL W)])))) (c_lIter σ (wFL W) (wFA W) (nF N) mcf h5) tF_iterator q1916 h5 rfl dX1_meanDirt_11 (by decide) (Nat.le_of_ble_eq_true rfl) (Nat.le_of_ble_eq_true rfl) ?_
    obtain ⟨σ1, eσ1⟩ : ∃ τ, τ = h_put (h_put (h_put (h_new σ (.inr (.inl (15, [.int 0, .int 0, .int 0, .null])))) σ.2 (.inr (.inl (15, [.int 0, .int 0, .int 0, .ref (wFL W)])))) σ.2 (.inr (.inl (15, [.int 0, .int (-1), .int 0, .ref (wFL W)])))) σ.2 (.inr (.inl (15, [.int 0, .int (-1), .int mcf, .ref (wFL W)]))) := ⟨_, rfl⟩
    refine A_st (σ' := σ1) eσ1.symm ?_
    have wσ1 : wfh σ1 := by rw [eσ1]; exact ((((wσ.new).put (if_pos rfl)).put (if_pos rfl)).put (if_pos rfl))
    have yσ1 : ext σ σ1 := by rw [eσ1]; exact ((((yσ.tr (ext_new _ _)).putN yσ.1).putN yσ.1).putN yσ.1)
    have xσ1 : ext σ σ1 := by rw [eσ1]; exact ((((ext_new _ _).putN (Nat.le_refl _)).putN (Nat.le_refl _)).putN (Nat.le_refl _))
    have hRσ1 : RW g σ1 W N := hR9.ext wσ xσ1
    have fσ1_0 : σ1.1 (wW W) = some (.inr (.inl (4, [.int (N 9), .ref (wR W), .ref (wM W), .ref (wNL W), .ref (wFL W), .ref (wUN W), .int (N 6), .int (N 8), .int (N 0), .int (N 1), .int (N 2), .int (N 3), .int (N 4), .int (N 5), .int (N 11)]))) := by rw [eσ1]; exact ((hp_ne (Nat.ne_of_lt (wσ _ _ h1))).trans ((hp_ne (Nat.ne_of_lt (wσ _ _ h1))).trans ((hp_ne (Nat.ne_of_lt (wσ _ _ h1))).trans ((hn_ne (by exact Nat.ne_of_lt (wσ _ _ h1))).trans h1))))
    have fσ1_1 : σ1.1 (wFL W) = some (.inr (.inl (14, [.int mcf, .ref (wFA W), .int (nI (nF N))]))) := by rw [eσ1]; exact ((hp_ne (Nat.ne_of_lt (wσ _ _ h5))).trans ((hp_ne (Nat.ne_of_lt (wσ _ _ h5))).trans ((hp_ne (Nat.ne_of_lt (wσ _ _ h5))).trans ((hn_ne (by exact Nat.ne_of_lt (wσ _ _ h5))).trans h5))))
    have fσ1_2 : σ1.1 (wFA W) = some (.inl (.object "java/lang/Object", 12, .inr (.inr (.inr (.inr ffA))))) := by rw [eσ1]; exact ((hp_ne (Nat.ne_of_lt (wσ _ _ h5p))).trans ((hp_ne (Nat.ne_of_lt (wσ _ _ h5p))).trans ((hp_ne (Nat.ne_of_lt (wσ _ _ h5p))).trans ((hn_ne (by exact Nat.ne_of_lt (wσ _ _ h5p))).trans h5p))))
    have fσ1_3 : σ1.1 (wNL W) = some (.inr (.inl (14, [.int mcn, .ref (wNA W), .int (nI (nN N))]))) := by rw [eσ1]; exact ((hp_ne (Nat.ne_of_lt (wσ _ _ h4))).trans ((hp_ne (Nat.ne_of_lt (wσ _ _ h4))).trans ((hp_ne (Nat.ne_of_lt (wσ _ _ h4))).trans ((hn_ne (by exact Nat.ne_of_lt (wσ _ _ h4))).trans h4))))
    have fσ1_4 : σ1.1 (wNA W) = some (.inl (.object "java/lang/Object", 4, .inr (.inr (.inr (.inr fnA))))) := by rw [eσ1]; exact ((hp_ne (Nat.ne_of_lt (wσ _ _ h4p))).trans ((hp_ne (Nat.ne_of_lt (wσ _ _ h4p))).trans ((hp_ne (Nat.ne_of_lt (wσ _ _ h4p))).trans ((hn_ne (by exact Nat.ne_of_lt (wσ _ _ h4p))).trans h4p))))
    have fσ1_5 : σ1.1 (wR W) = some (.inl (.int, 6, .inl fr)) := by rw [eσ1]; exact ((hp_ne (Nat.ne_of_lt (wσ _ _ h2))).trans ((hp_ne (Nat.ne_of_lt (wσ _ _ h2))).trans ((hp_ne (Nat.ne_of_lt (wσ _ _ h2))).trans ((hn_ne (by exact Nat.ne_of_lt (wσ _ _ h2))).trans h2))))
    have fσ1_6 : σ1.1 (wM W) = some (.inl (.int, 3, .inl fm)) := by rw [eσ1]; exact ((hp_ne (Nat.ne_of_lt (wσ _ _ h3))).trans ((hp_ne (Nat.ne_of_lt (wσ _ _ h3))).trans ((hp_ne (Nat.ne_of_lt (wσ _ _ h3))).trans ((hn_ne (by exact Nat.ne_of_lt (wσ _ _ h3))).trans h3))))
    have fσ1_7 : σ1.1 (wUN W) = some (.inl (.object "FlagLaundry$Test", 7, .inr (.inr (.inr (.inr fu))))) := by rw [eσ1]; exact ((hp_ne (Nat.ne_of_lt (wσ _ _ h6))).trans ((hp_ne (Nat.ne_of_lt (wσ _ _ h6))).trans ((hp_ne (Nat.ne_of_lt (wσ _ _ h6))).trans ((hn_ne (by exact Nat.ne_of_lt (wσ _ _ h6))).trans h6))))
    have fσ1_8 : σ1.1 x = some (.inr (.inl (0, [.ref bf, .int bd, .int pe, .int ep, .ref (wW W), .ref dq, .ref sv, .ref ou]))) := by rw [eσ1]; exact ((hp_ne (Nat.ne_of_lt (wσ _ _ hX))).trans ((hp_ne (Nat.ne_of_lt (wσ _ _ hX))).trans ((hp_ne (Nat.ne_of_lt (wσ _ _ hX))).trans ((hn_ne (by exact Nat.ne_of_lt (wσ _ _ hX))).trans hX))))
    have fσ1_9 : σ1.1 σ.2 = some (.inr (.inl (15, [.int 0, .int (-1), .int mcf, .ref (wFL W)]))) := by rw [eσ1]; exact (if_pos rfl)
    refine A_astore_n (i := 3) dX1_meanDirt_16 rfl (Nat.le_of_ble_eq_true rfl) ?_
    refine A_less (b' := ((nF N) - 0) * 0 + 0) (by omega) ?_
    refine A_sub (L' := [(0, .ref x), (1, .ref (wW W)), (2, .int (sm (fun f => fl N f 3) 0)), (3, .ref σ.2)]) ⟨rfl, rfl, rfl, rfl, trivial⟩ ?_
    refine A_forP (α := AH) (nF N) (fun i17 _ => ((nF N) - i17) * 0 + 0) (fun i17 _ => [(0, .ref x), (1, .ref (wW W)), (2, .int (sm (fun f => fl N f 3) i17)), (3, .ref σ.2)]) (fun _ τ17 => τ17) (fun i17 τ17 => ext σ τ17 ∧ ∃ lr, τ17.1 σ.2 = some (.inr (.inl (15, [.int (nI i17), .int lr, .int mcf, .ref (wFL W)])))) σ1 (⟨yσ1, _, fσ1_9⟩) (fun i17 τ17 hi17 hI17 ih17 => ?_) (fun τ17 hI17 => ?_)
    · skip
      obtain ⟨xτ17, lr, fiτ17⟩ := hI17
      refine A_wfh (fun wτ17 hgτ17 => ?_)
      have yτ17 : ext σ τ17 := xτ17
      have hRτ17 : RW g τ17 W N := hR9.ext wσ yτ17
      have fτ17_0 : τ17.1 (wW W) = some (.inr (.inl (4, [.int (N 9), .ref (wR W), .ref (wM W), .ref (wNL W), .ref (wFL W), .ref (wUN W), .int (N 6), .int (N 8), .int (N 0), .int (N 1), .int (N 2), .int (N 3), .int (N 4), .int (N 5), .int (N 11)]))) := xτ17.at wσ h1
      have fτ17_1 : τ17.1 (wFL W) = some (.inr (.inl (14, [.int mcf, .ref (wFA W), .int (nI (nF N))]))) := xτ17.at wσ h5
      have fτ17_2 : τ17.1 (wFA W) = some (.inl (.object "java/lang/Object", 12, .inr (.inr (.inr (.inr ffA))))) := xτ17.at wσ h5p
      have fτ17_3 : τ17.1 (wNL W) = some (.inr (.inl (14, [.int mcn, .ref (wNA W), .int (nI (nN N))]))) := xτ17.at wσ h4
      have fτ17_4 : τ17.1 (wNA W) = some (.inl (.object "java/lang/Object", 4, .inr (.inr (.inr (.inr fnA))))) := xτ17.at wσ h4p
      have fτ17_5 : τ17.1 (wR W) = some (.inl (.int, 6, .inl fr)) := xτ17.at wσ h2
      have fτ17_6 : τ17.1 (wM W) = some (.inl (.int, 3, .inl fm)) := xτ17.at wσ h3
      have fτ17_7 : τ17.1 (wUN W) = some (.inl (.object "FlagLaundry$Test", 7, .inr (.inr (.inr (.inr fu))))) := xτ17.at wσ h6
      refine A_aload_n (i := 3) dX1_meanDirt_17 rfl rfl ?_
      refine A_callF0E (b' := ((nF N) - i17) * 0 + 0 + 0) (v := some (.int (bi (i17 < nF N)))) (τ := τ17) (c_iHas τ17 σ.2 (wFL W) (wFA W) (nF N) i17 mcf lr fiτ17 fτ17_1 (Nat.le_of_lt hi17) (by omega)) tF_hasNext q1918 fiτ17 rfl dX1_meanDirt_18 (by decide) (by omega) (Nat.le_of_ble_eq_true rfl) ?_
      refine A_if_eq_f (tgt := 48) dX1_meanDirt_23 (by decide) (by rw [bi_t hi17]; decide) ?_
      refine A_aload_n (i := 3) dX1_meanDirt_26 rfl rfl ?_
      refine A_callF0E (b' := ((nF N) - i17) * 0 + 0 + 0) (v := some (.ref (wF W i17))) (τ := h_put (h_put τ17 σ.2 (.inr (.inl (15, [.int (nI (i17 + 1)), .int lr, .int mcf, .ref (wFL W)])))) σ.2 (.inr (.inl (15, [.int (nI (i17 + 1)), .int (nI i17), .int mcf, .ref (wFL W)])))) (c_iNext τ17 σ.2 (wFL W) (wFA W) (nF N) 12 i17 (wF W i17) mcf lr ffA fiτ17 fτ17_1 fτ17_2 hi17 (by omega) (by decide) (h5q i17 hi17)) tF_next q1920 fiτ17 rfl dX1_meanDirt_27 (by decide) (by omega) (Nat.le_of_ble_eq_true rfl) ?_
      obtain ⟨σ2, eσ2⟩ : ∃ τ, τ = h_put (h_put τ17 σ.2 (.inr (.inl (15, [.int (nI (i17 + 1)), .int lr, .int mcf, .ref (wFL W)])))) σ.2 (.inr (.inl (15, [.int (nI (i17 + 1)), .int (nI i17), .int mcf, .ref (wFL W)]))) := ⟨_, rfl⟩
      refine A_st (σ' := σ2) eσ2.symm ?_
      have wσ2 : wfh σ2 := by rw [eσ2]; exact ((wτ17.put fiτ17).put (if_pos rfl))
      have yσ2 : ext σ σ2 := by rw [eσ2]; exact ((yτ17.putN yσ.1).putN yσ.1)
      have hRσ2 : RW g σ2 W N := hRτ17.oth wτ17 fiτ17 (isW_no (by decide)) (by rw [eσ2]; exact kx.rf.put.put)
      have fσ2_0 : σ2.1 (wW W) = some (.inr (.inl (4, [.int (N 9), .ref (wR W), .ref (wM W), .ref (wNL W), .ref (wFL W), .ref (wUN W), .int (N 6), .int (N 8), .int (N 0), .int (N 1), .int (N 2), .int (N 3), .int (N 4), .int (N 5), .int (N 11)]))) := by rw [eσ2]; exact ((hp_ne (ne_of (x := .inr (.inl (4, [.int (N 9), .ref (wR W), .ref (wM W), .ref (wNL W), .ref (wFL W), .ref (wUN W), .int (N 6), .int (N 8), .int (N 0), .int (N 1), .int (N 2), .int (N 3), .int (N 4), .int (N 5), .int (N 11)]))) (y := .inr (.inl (15, [.int (nI i17), .int lr, .int mcf, .ref (wFL W)]))) fτ17_0 fiτ17 (fun e8 => by simp at e8))).trans ((hp_ne (ne_of (x := .inr (.inl (4, [.int (N 9), .ref (wR W), .ref (wM W), .ref (wNL W), .ref (wFL W), .ref (wUN W), .int (N 6), .int (N 8), .int (N 0), .int (N 1), .int (N 2), .int (N 3), .int (N 4), .int (N 5), .int (N 11)]))) (y := .inr (.inl (15, [.int (nI i17), .int lr, .int mcf, .ref (wFL W)]))) fτ17_0 fiτ17 (fun e8 => by simp at e8))).trans fτ17_0))
      have fσ2_1 : σ2.1 (wFL W) = some (.inr (.inl (14, [.int mcf, .ref (wFA W), .int (nI (nF N))]))) := by rw [eσ2]; exact ((hp_ne (ne_of (x := .inr (.inl (14, [.int mcf, .ref (wFA W), .int (nI (nF N))]))) (y := .inr (.inl (15, [.int (nI i17), .int lr, .int mcf, .ref (wFL W)]))) fτ17_1 fiτ17 (fun e8 => by simp at e8))).trans ((hp_ne (ne_of (x := .inr (.inl (14, [.int mcf, .ref (wFA W), .int (nI (nF N))]))) (y := .inr (.inl (15, [.int (nI i17), .int lr, .int mcf, .ref (wFL W)]))) fτ17_1 fiτ17 (fun e8 => by simp at e8))).trans fτ17_1))
      have fσ2_2 : σ2.1 (wFA W) = some (.inl (.object "java/lang/Object", 12, .inr (.inr (.inr (.inr ffA))))) := by rw [eσ2]; exact ((hp_ne (ne_of (x := .inl (.object "java/lang/Object", 12, .inr (.inr (.inr (.inr ffA))))) (y := .inr (.inl (15, [.int (nI i17), .int lr, .int mcf, .ref (wFL W)]))) fτ17_2 fiτ17 (fun e8 => by simp at e8))).trans ((hp_ne (ne_of (x := .inl (.object "java/lang/Object", 12, .inr (.inr (.inr (.inr ffA))))) (y := .inr (.inl (15, [.int (nI i17), .int lr, .int mcf, .ref (wFL W)]))) fτ17_2 fiτ17 (fun e8 => by simp at e8))).trans fτ17_2))
      have fσ2_3 : σ2.1 (wNL W) = some (.inr (.inl (14, [.int mcn, .ref (wNA W), .int (nI (nN N))]))) := by rw [eσ2]; exact ((hp_ne (ne_of (x := .inr (.inl (14, [.int mcn, .ref (wNA W), .int (nI (nN N))]))) (y := .inr (.inl (15, [.int (nI i17), .int lr, .int mcf, .ref (wFL W)]))) fτ17_3 fiτ17 (fun e8 => by simp at e8))).trans ((hp_ne (ne_of (x := .inr (.inl (14, [.int mcn, .ref (wNA W), .int (nI (nN N))]))) (y := .inr (.inl (15, [.int (nI i17), .int lr, .int mcf, .ref (wFL W)]))) fτ17_3 fiτ17 (fun e8 => by simp at e8))).trans fτ17_3))
      have fσ2_4 : σ2.1 (wNA W) = some (.inl (.object "java/lang/Object", 4, .inr (.inr (.inr (.inr fnA))))) := by rw [eσ2]; exact ((hp_ne (ne_of (x := .inl (.object "java/lang/Object", 4, .inr (.inr (.inr (.inr fnA))))) (y := .inr (.inl (15, [.int (nI i17), .int lr, .int mcf, .ref (wFL W)]))) fτ17_4 fiτ17 (fun e8 => by simp at e8))).trans ((hp_ne (ne_of (x := .inl (.object "java/lang/Object", 4, .inr (.inr (.inr (.inr fnA))))) (y := .inr (.inl (15, [.int (nI i17), .int lr, .int mcf, .ref (wFL W)]))) fτ17_4 fiτ17 (fun e8 => by simp at e8))).trans fτ17_4))
      have fσ2_5 : σ2.1 (wR W) = some (.inl (.int, 6, .inl fr)) := by rw [eσ2]; exact ((hp_ne (ne_of (x := .inl (.int, 6, .inl fr)) (y := .inr (.inl (15, [.int (nI i17), .int lr, .int mcf, .ref (wFL W)]))) fτ17_5 fiτ17 (fun e8 => by simp at e8))).trans ((hp_ne (ne_of (x := .inl (.int, 6, .inl fr)) (y := .inr (.inl (15, [.int (nI i17), .int lr, .int mcf, .ref (wFL W)]))) fτ17_5 fiτ17 (fun e8 => by simp at e8))).trans fτ17_5))
      have fσ2_6 : σ2.1 (wM W) = some (.inl (.int, 3, .inl fm)) := by rw [eσ2]; exact ((hp_ne (ne_of (x := .inl (.int, 3, .inl fm)) (y := .inr (.inl (15, [.int (nI i17), .int lr, .int mcf, .ref (wFL W)]))) fτ17_6 fiτ17 (fun e8 => by simp at e8))).trans ((hp_ne (ne_of (x := .inl (.int, 3, .inl fm)) (y := .inr (.inl (15, [.int (nI i17), .int lr, .int mcf, .ref (wFL W)]))) fτ17_6 fiτ17 (fun e8 => by simp at e8))).trans fτ17_6))
      have fσ2_7 : σ2.1 (wUN W) = some (.inl (.object "FlagLaundry$Test", 7, .inr (.inr (.inr (.inr fu))))) := by rw [eσ2]; exact ((hp_ne (ne_of (x := .inl (.object "FlagLaundry$Test", 7, .inr (.inr (.inr (.inr fu))))) (y := .inr (.inl (15, [.int (nI i17), .int lr, .int mcf, .ref (wFL W)]))) fτ17_7 fiτ17 (fun e8 => by simp at e8))).trans ((hp_ne (ne_of (x := .inl (.object "FlagLaundry$Test", 7, .inr (.inr (.inr (.inr fu))))) (y := .inr (.inl (15, [.int (nI i17), .int lr, .int mcf, .ref (wFL W)]))) fτ17_7 fiτ17 (fun e8 => by simp at e8))).trans fτ17_7))
      have fσ2_8 : σ2.1 σ.2 = some (.inr (.inl (15, [.int (nI (i17 + 1)), .int (nI i17), .int mcf, .ref (wFL W)]))) := by rw [eσ2]; exact (if_pos rfl)
      have fσ2_9 : σ2.1 (wF W i17) = some (.inr (.inl (6, [.int (fl N i17 0), .int (fl N i17 1), .int (fl N i17 2), .int (fl N i17 3), .int (fl N i17 4), .int (fl N i17 5), .int (fl N i17 6), .int (fl N i17 7), .ref (wP W i17)]))) := by rw [eσ2]; exact ((hp_ne (ne_of (x := .inr (.inl (6, [.int (fl N i17 0), .int (fl N i17 1), .int (fl N i17 2), .int (fl N i17 3), .int (fl N i17 4), .int (fl N i17 5), .int (fl N i17 6), .int (fl N i17 7), .ref (wP W i17)]))) (y := .inr (.inl (15, [.int (nI i17), .int lr, .int mcf, .ref (wFL W)]))) (hRτ17.2.2.2.2.2.2.1 i17 hi17) fiτ17 (fun e8 => by simp at e8))).trans ((hp_ne (ne_of (x := .inr (.inl (6, [.int (fl N i17 0), .int (fl N i17 1), .int (fl N i17 2), .int (fl N i17 3), .int (fl N i17 4), .int (fl N i17 5), .int (fl N i17 6), .int (fl N i17 7), .ref (wP W i17)]))) (y := .inr (.inl (15, [.int (nI i17), .int lr, .int mcf, .ref (wFL W)]))) (hRτ17.2.2.2.2.2.2.1 i17 hi17) fiτ17 (fun e8 => by simp at e8))).trans (hRτ17.2.2.2.2.2.2.1 i17 hi17)))
      refine A_castE fσ2_9 rfl q1886 dX1_meanDirt_32 ?_
      refine A_astore dX1_meanDirt_35 (Nat.le_of_ble_eq_true rfl) ?_
      refine A_iload_n (i := 2) dX1_meanDirt_37 rfl rfl ?_
      refine A_aload dX1_meanDirt_38 rfl ?_
      refine A_getfN cb_X7 fσ2_9 3 (Nat.le_of_ble_eq_true rfl) q1107 rfl (v := .int (fl N i17 3)) rfl dX1_meanDirt_40 ?_
      refine A_iadd dX1_meanDirt_43 ?_
      refine A_int (w := sm (fun f => fl N f 3) (i17 + 1)) (rfl) ?_
      refine A_istore_n (i := 2) dX1_meanDirt_44 rfl (Nat.le_of_ble_eq_true rfl) ?_
      refine A_goto (tgt := 17) dX1_meanDirt_45 (by decide) ?_
      refine A_less (b' := ((nF N) - (i17 + 1)) * 0 + 0) (by omega) ?_
      refine A_sub (L' := [(0, .ref x), (1, .ref (wW W)), (2, .int (sm (fun f => fl N f 3) (i17 + 1))), (3, .ref σ.2)]) ⟨rfl, rfl, rfl, rfl, trivial⟩ ?_
      exact ih17 σ2 (⟨yσ2, _, fσ2_8⟩)
    · skip
      refine A_less (b' := 0) (by omega) ?_
      obtain ⟨xτ17, lr, fiτ17⟩ := hI17
      refine A_wfh (fun wτ17 hgτ17 => ?_)
      have yτ17 : ext σ τ17 := xτ17
      have hRτ17 : RW g τ17 W N := hR9.ext wσ yτ17
      have fτ17_0 : τ17.1 (wW W) = some (.inr (.inl (4, [.int (N 9), .ref (wR W), .ref (wM W), .ref (wNL W), .ref (wFL W), .ref (wUN W), .int (N 6), .int (N 8), .int (N 0), .int (N 1), .int (N 2), .int (N 3), .int (N 4), .int (N 5), .int (N 11)]))) := xτ17.at wσ h1
      have fτ17_1 : τ17.1 (wFL W) = some (.inr (.inl (14, [.int mcf, .ref (wFA W), .int (nI (nF N))]))) := xτ17.at wσ h5
      have fτ17_2 : τ17.1 (wFA W) = some (.inl (.object "java/lang/Object", 12, .inr (.inr (.inr (.inr ffA))))) := xτ17.at wσ h5p
      have fτ17_3 : τ17.1 (wNL W) = some (.inr (.inl (14, [.int mcn, .ref (wNA W), .int (nI (nN N))]))) := xτ17.at wσ h4
      have fτ17_4 : τ17.1 (wNA W) = some (.inl (.object "java/lang/Object", 4, .inr (.inr (.inr (.inr fnA))))) := xτ17.at wσ h4p
      have fτ17_5 : τ17.1 (wR W) = some (.inl (.int, 6, .inl fr)) := xτ17.at wσ h2
      have fτ17_6 : τ17.1 (wM W) = some (.inl (.int, 3, .inl fm)) := xτ17.at wσ h3
      have fτ17_7 : τ17.1 (wUN W) = some (.inl (.object "FlagLaundry$Test", 7, .inr (.inr (.inr (.inr fu))))) := xτ17.at wσ h6
      refine A_aload_n (i := 3) dX1_meanDirt_17 rfl rfl ?_
      refine A_callF0E (b' := 0) (v := some (.int (bi ((nF N) < nF N)))) (τ := τ17) (c_iHas τ17 σ.2 (wFL W) (wFA W) (nF N) (nF N) mcf lr fiτ17 fτ17_1 (Nat.le_refl _) (by omega)) tF_hasNext q1918 fiτ17 rfl dX1_meanDirt_18 (by decide) (Nat.le_of_ble_eq_true rfl) (Nat.le_of_ble_eq_true rfl) ?_
      refine A_if_eq_t (tgt := 48) dX1_meanDirt_23 (by decide) (bi_f (Nat.lt_irrefl _)) ?_
      refine A_aload_n (i := 1) dX1_meanDirt_48 rfl rfl ?_
      refine A_callV0E (b' := 0) (v := some (.int (nI (nF N)))) (τ := τ17) (c_many τ17 W N hRτ17 hW) tX5_many q1369 fτ17_0 rfl rfl dX1_meanDirt_49 (by decide) (Nat.le_of_ble_eq_true rfl) (Nat.le_of_ble_eq_true rfl) ?_
      refine A_if_ne (tgt := 59) dX1_meanDirt_52 (by decide) (fun c1 => ?_) (fun c1 => ?_)
      · skip
        refine A_iload_n (i := 2) dX1_meanDirt_59 rfl rfl ?_
        refine A_i2d dX1_meanDirt_60 ?_
        refine A_aload_n (i := 1) dX1_meanDirt_61 rfl rfl ?_
        refine A_callV0E (b' := 0) (v := some (.int (nI (nF N)))) (τ := τ17) (c_many τ17 W N hRτ17 hW) tX5_many q1369 fτ17_0 rfl rfl dX1_meanDirt_62 (by decide) (Nat.le_of_ble_eq_true rfl) (Nat.le_of_ble_eq_true rfl) ?_
        have hnz : ¬ N 10 ≤ 0 := by rw [hW.2.2.2.2.1]; exact nz_le (Nat.lt_of_le_of_lt hF12 (by decide)) c1
        have hdiv := mean_n9 hD hnz
        rw [hW.2.2.2.2.1] at hdiv
        refine A_i2d dX1_meanDirt_65 ?_
        refine A_ddiv dX1_meanDirt_66 (hdiv) ?_
        exact A_dret dX1_meanDirt_67 rfl ⟨(mayQ_0 hs (by decide) (by decide)), by unfold meanN; rw [if_pos ⟨rfl, hnz⟩, hW.2.2.2.2.1], yτ17⟩
      · skip
        refine A_dconst0 dX1_meanDirt_55 ?_
        refine A_goto (tgt := 67) dX1_meanDirt_56 (by decide) ?_
        exact A_dret dX1_meanDirt_67 rfl ⟨(mayQ_0 hs (by decide) (by decide)), by unfold meanN; rw [if_neg (fun q => q.2 (by rw [hW.2.2.2.2.1, c1]; decide))], yτ17⟩
theorem c_fits {l : Launch} {g : GC} (σ : AH) (x bf dq sv ou : Nat) (bd pe ep : Int32) (W : WA) (N : AF) (f a q : Nat) (G : Nat → Int32) (h : Int32) (hX : σ.1 x = some (lauC bf bd pe ep (.ref (wW W)) dq sv ou)) (hR : RW g σ W N) (hD : WFd N) (ha : σ.1 a = some (intA 12 G)) (hf : f < nF N) : AMet l g mX1_fits 8 0 [.ref x, .ref (wF W f), .ref a, .int (nI q), .int h] σ (A_eq (some (.int (bi (∀ j, j < nF N → ¬ (G j = nI q ∧ ¬ mixV N f j h = 0))))) σ) (A_no) := by
  refine A_of rfl (by decide) (Nat.le_of_ble_eq_true rfl) (L0 := [(0, .ref x), (1, .ref (wF W f)), (2, .ref a), (3, .int (nI q)), (4, .int h)]) rfl ?_
  have hW := hD.1
  have hR9 := hR
  obtain ⟨h1, ⟨fr, h2, h2p⟩, ⟨fm, h3, h3p⟩, ⟨mcn, fnA, h4, h4p, h4q⟩, ⟨mcf, ffA, h5, h5p, h5q⟩, ⟨fu, h6, h6p⟩, h7, h8, h9, h10, h11⟩ := hR
  have hF12 : nF N ≤ 12 := hW.2.2.2.2.2
  have hN4 : nN N ≤ 4 := hW.2.1.2
  have hC6 : nC N ≤ 6 := hW.1.2
  have hT3 : nT N ≤ 3 := hW.2.2.1.2
  have hP8 : nP N ≤ 8 := hW.2.2.2.1.2
  refine A_iconst (v := 0) dX1_fits_0 (by decide) ?_
  refine A_istore dX1_fits_1 (Nat.le_of_ble_eq_true rfl) ?_
  refine A_sub (L' := [(0, .ref x), (1, .ref (wF W f)), (2, .ref a), (3, .int (nI q)), (4, .int h), (5, .int (nI 0))]) ⟨rfl, rfl, rfl, rfl, rfl, rfl, trivial⟩ ?_
  refine A_for (nF N) (fun i3 => 0) (fun i3 => [(0, .ref x), (1, .ref (wF W f)), (2, .ref a), (3, .int (nI q)), (4, .int h), (5, .int (nI i3))]) (fun i3 => σ) (fun i3 => ∀ j, j < i3 → ¬ (G j = nI q ∧ ¬ mixV N f j h = 0)) (fun j hj => absurd hj (Nat.not_lt_zero _)) (fun i3 hi3 hI3 ih3 => ?_) (fun hI3 => ?_)
  · skip
    refine A_iload dX1_fits_3 rfl ?_
    refine A_aload_n (i := 0) dX1_fits_5 rfl rfl ?_
    refine A_getf cb_X1 hX 4 (Nat.le_of_ble_eq_true rfl) q242 rfl (v := .ref (wW W)) rfl dX1_fits_6 ?_
    refine A_callV0E (b' := 0) (v := some (.int (nI (nF N)))) (τ := σ) (c_many σ W N hR9 hW) tX5_many q1369 h1 rfl rfl dX1_fits_9 (by decide) (Nat.le_of_ble_eq_true rfl) (Nat.le_of_ble_eq_true rfl) ?_
    refine A_icmp_ge_f (tgt := 53) dX1_fits_12 (by decide) (br_lt rfl hi3 (by omega)) ?_
    refine A_aload_n (i := 2) dX1_fits_15 rfl rfl ?_
    refine A_iload dX1_fits_16 rfl ?_
    refine A_iald ha (vp_in_nI (Nat.lt_of_lt_of_le hi3 hF12) (by decide)) dX1_fits_18 ?_
    refine A_int (w := G i3) (by rw [nI_clamp (by omega)]) ?_
    refine A_iload_n (i := 3) dX1_fits_19 rfl rfl ?_
    refine A_icmp_ne (tgt := 47) dX1_fits_20 (by decide) (fun c1 => ?_) (fun c1 => ?_)
    · skip
      refine A_iinc (v := nI (i3 + 1)) dX1_fits_47 rfl (nI_inc _ _) (Nat.le_of_ble_eq_true rfl) ?_
      refine A_goto (tgt := 3) dX1_fits_50 (by decide) ?_
      refine A_sub (L' := [(0, .ref x), (1, .ref (wF W f)), (2, .ref a), (3, .int (nI q)), (4, .int h), (5, .int (nI (i3 + 1)))]) ⟨rfl, rfl, rfl, rfl, rfl, rfl, trivial⟩ ?_
      exact ih3 (fun j hj => by
        rcases Nat.lt_succ_iff_lt_or_eq.mp hj with k | k
        · exact hI3 j k
        · subst k; exact (fun z => c1 z.1))
    · skip
      refine A_aload_n (i := 0) dX1_fits_23 rfl rfl ?_
      refine A_getf cb_X1 hX 4 (Nat.le_of_ble_eq_true rfl) q242 rfl (v := .ref (wW W)) rfl dX1_fits_24 ?_
      refine A_aload_n (i := 1) dX1_fits_27 rfl rfl ?_
      refine A_aload_n (i := 0) dX1_fits_28 rfl rfl ?_
      refine A_getf cb_X1 hX 4 (Nat.le_of_ble_eq_true rfl) q242 rfl (v := .ref (wW W)) rfl dX1_fits_29 ?_
      refine A_iload dX1_fits_32 rfl ?_
      refine A_callV1E (b' := 0) (v := some (.ref (wF W i3))) (τ := σ) (c_flagOf σ W N i3 hR9 hW hi3) tX5_flagOf q1153 h1 rfl rfl dX1_fits_34 (by decide) (Nat.le_of_ble_eq_true rfl) (Nat.le_of_ble_eq_true rfl) ?_
      refine A_iload dX1_fits_37 rfl ?_
      refine A_callV3E (b' := 0) (v := some (.int (bi (¬ newS N i3 (runFrom N f h) = 0) + (2 * bi (¬ newS N f (runFrom N i3 h) = 0))))) (τ := σ) (c_mixes5 σ W N f i3 h hR9 hD hf hi3) tX5_mixes q1771 h1 rfl rfl dX1_fits_39 (by decide) (Nat.le_of_ble_eq_true rfl) (Nat.le_of_ble_eq_true rfl) ?_
      refine A_if_eq (tgt := 47) dX1_fits_42 (by decide) (fun c2 => ?_) (fun c2 => ?_)
      · skip
        refine A_iinc (v := nI (i3 + 1)) dX1_fits_47 rfl (nI_inc _ _) (Nat.le_of_ble_eq_true rfl) ?_
        refine A_goto (tgt := 3) dX1_fits_50 (by decide) ?_
        refine A_sub (L' := [(0, .ref x), (1, .ref (wF W f)), (2, .ref a), (3, .int (nI q)), (4, .int h), (5, .int (nI (i3 + 1)))]) ⟨rfl, rfl, rfl, rfl, rfl, rfl, trivial⟩ ?_
        exact ih3 (fun j hj => by
        rcases Nat.lt_succ_iff_lt_or_eq.mp hj with k | k
        · exact hI3 j k
        · subst k; exact (fun z => z.2 c2))
      · skip
        refine A_iconst (v := 0) dX1_fits_45 (by decide) ?_
        exact A_zret dX1_fits_46 rfl (rfl) (⟨by rw [bi_f (fun z => z i3 hi3 ⟨c1, c2⟩)], rfl⟩)
  · skip
    refine A_iload dX1_fits_3 rfl ?_
    refine A_aload_n (i := 0) dX1_fits_5 rfl rfl ?_
    refine A_getf cb_X1 hX 4 (Nat.le_of_ble_eq_true rfl) q242 rfl (v := .ref (wW W)) rfl dX1_fits_6 ?_
    refine A_callV0E (b' := 0) (v := some (.int (nI (nF N)))) (τ := σ) (c_many σ W N hR9 hW) tX5_many q1369 h1 rfl rfl dX1_fits_9 (by decide) (Nat.le_of_ble_eq_true rfl) (Nat.le_of_ble_eq_true rfl) ?_
    refine A_icmp_ge_t (tgt := 53) dX1_fits_12 (by decide) (br_ge rfl) ?_
    refine A_iconst (v := 1) dX1_fits_53 (by decide) ?_
    exact A_zret dX1_fits_54 rfl (rfl) (⟨by rw [bi_t hI3], rfl⟩)
theorem nI_nlt9 {m n : Nat} (h : n ≤ m) (hm : m < 2 ^ 31) : ¬ nI m < nI n := fun e => by
  have := (nI_lti hm (by omega)).mp e
  omega
theorem gj_lt {m n : Nat} (hm : m < 2000) (hn : n < 2000) (h : ¬ nI n < nI (m + 1)) : m < n := by
  by_cases c : m < n
  · exact c
  · exact absurd ((nI_lti (by omega) (by omega)).mpr (by omega)) h
theorem q_groups {l : Launch} {g : GC} (σ : AH) (x bf dq sv ou : Nat) (bd pe ep : Int32) (is : Int32) (nv : Value) (W : WA) (N : AF) (h : Int32) (hL : LD g σ is nv W N) (hX : σ.1 x = some (lauC bf bd pe ep nv dq sv ou)) : AMet l g mX1_groups 11 5 [.ref x, .int h] σ (A_val (mayT is (bi (inR h 0 3)) 1) (.int (nI (gU N h (nF N)).2)) σ) (A_thr ["java/lang/IllegalStateException", "java/lang/IllegalArgumentException"] (mayT is (bi (inR h 0 3)) 1) σ) := by
  rcases hL with ⟨h0, hn⟩ | ⟨hs, hn, hR, hD, hw, hh⟩
  · subst hn
    refine A_of rfl (by decide) (Nat.le_of_ble_eq_true rfl) (L0 := [(0, .ref x), (1, .int h)]) rfl ?_
    refine A_wfh (fun wσ hgσ => ?_)
    have yσ : ext σ σ := ext.rf
    refine A_aload_n (i := 0) dX1_groups_0 rfl rfl ?_
    refine A_callV0 (b' := 0) (u_loaded σ x bf dq sv ou bd pe ep  hX) tX1_loaded q1383 hX rfl rfl dX1_groups_1 (by decide) (Nat.le_of_ble_eq_true rfl) (Nat.le_of_ble_eq_true rfl) (fun w9 τ9 h9 => h9.elim) (fun E9 q9 τ9 h9 => A_out rfl (⟨yσ.tr h9.2, 0, by rw [h9.1]; rfl, by rw [(mayQ_1 h0)]; rfl⟩))
  · subst hn
    have hW := hD.1
    have hR9 := hR
    obtain ⟨h1, ⟨fr, h2, h2p⟩, ⟨fm, h3, h3p⟩, ⟨mcn, fnA, h4, h4p, h4q⟩, ⟨mcf, ffA, h5, h5p, h5q⟩, ⟨fu, h6, h6p⟩, h7, h8, h9, h10, h11⟩ := hR
    have hF12 : nF N ≤ 12 := hW.2.2.2.2.2
    have hN4 : nN N ≤ 4 := hW.2.1.2
    have hC6 : nC N ≤ 6 := hW.1.2
    have hT3 : nT N ≤ 3 := hW.2.2.1.2
    have hP8 : nP N ≤ 8 := hW.2.2.2.1.2
    by_cases ck1 : inR h 0 3
    · skip
      obtain ⟨jh, hjh, rfl⟩ := hk_ex ck1
      have bjh : jh < 2000 := Nat.lt_of_le_of_lt hjh (by decide)
      refine A_of rfl (by decide) (Nat.le_of_ble_eq_true rfl) (L0 := [(0, .ref x), (1, .int (nI jh))]) rfl ?_
      refine A_wfh (fun wσ hgσ => ?_)
      have yσ : ext σ σ := ext.rf
      refine A_aload_n (i := 0) dX1_groups_0 rfl rfl ?_
      refine A_callV0E (b' := 5) (v := some (.ref (wW W))) (τ := σ) (c_loaded σ x bf dq sv ou bd pe ep W N hX hR9 hD) tX1_loaded q1383 hX rfl rfl dX1_groups_1 (by decide) (Nat.le_of_ble_eq_true rfl) (Nat.le_of_ble_eq_true rfl) ?_
      refine A_astore_n (i := 2) dX1_groups_4 rfl (Nat.le_of_ble_eq_true rfl) ?_
      refine A_iload_n (i := 1) dX1_groups_5 rfl rfl ?_
      refine A_callS1E (b' := 5) (v := none) (τ := σ) (c_checkHeat σ jh hjh) tX1_checkHeat q1672 dX1_groups_6 (by decide) (Nat.le_of_ble_eq_true rfl) (Nat.le_of_ble_eq_true rfl) ?_
      refine A_bipush (v := 12) dX1_groups_9 (by decide) ?_
      refine A_newa (b' := 2) (u := 3) (ta := .int) (atype := .int) rfl (by decide) q267 (a0 := (12, .inl (fun _ => 0))) (fun _ => rfl) (by decide) (n' := 12) (by decide) (by decide) (Nat.le_of_ble_eq_true rfl) ⟨Nat.le_of_ble_eq_true rfl, Nat.le_of_ble_eq_true rfl⟩ dX1_groups_11 ?_
      obtain ⟨σ1, eσ1⟩ : ∃ τ, τ = h_new σ (.inl (.int, 12, .inl (fun _ => 0))) := ⟨_, rfl⟩
      refine A_st (σ' := σ1) eσ1.symm ?_
      have wσ1 : wfh σ1 := by rw [eσ1]; exact wσ.new
      have fσ1_0 : σ1.1 (wW W) = some (.inr (.inl (4, [.int (N 9), .ref (wR W), .ref (wM W), .ref (wNL W), .ref (wFL W), .ref (wUN W), .int (N 6), .int (N 8), .int (N 0), .int (N 1), .int (N 2), .int (N 3), .int (N 4), .int (N 5), .int (N 11)]))) := by rw [eσ1]; exact (hn_ne (Nat.ne_of_lt (wσ _ _ h1))).trans h1
      have fσ1_1 : σ1.1 (wFL W) = some (.inr (.inl (14, [.int mcf, .ref (wFA W), .int (nI (nF N))]))) := by rw [eσ1]; exact (hn_ne (Nat.ne_of_lt (wσ _ _ h5))).trans h5
      have fσ1_2 : σ1.1 (wFA W) = some (.inl (.object "java/lang/Object", 12, .inr (.inr (.inr (.inr ffA))))) := by rw [eσ1]; exact (hn_ne (Nat.ne_of_lt (wσ _ _ h5p))).trans h5p
      have fσ1_3 : σ1.1 (wNL W) = some (.inr (.inl (14, [.int mcn, .ref (wNA W), .int (nI (nN N))]))) := by rw [eσ1]; exact (hn_ne (Nat.ne_of_lt (wσ _ _ h4))).trans h4
      have fσ1_4 : σ1.1 (wNA W) = some (.inl (.object "java/lang/Object", 4, .inr (.inr (.inr (.inr fnA))))) := by rw [eσ1]; exact (hn_ne (Nat.ne_of_lt (wσ _ _ h4p))).trans h4p
      have fσ1_5 : σ1.1 (wR W) = some (.inl (.int, 6, .inl fr)) := by rw [eσ1]; exact (hn_ne (Nat.ne_of_lt (wσ _ _ h2))).trans h2
      have fσ1_6 : σ1.1 (wM W) = some (.inl (.int, 3, .inl fm)) := by rw [eσ1]; exact (hn_ne (Nat.ne_of_lt (wσ _ _ h3))).trans h3
      have fσ1_7 : σ1.1 (wUN W) = some (.inl (.object "FlagLaundry$Test", 7, .inr (.inr (.inr (.inr fu))))) := by rw [eσ1]; exact (hn_ne (Nat.ne_of_lt (wσ _ _ h6))).trans h6
      have fσ1_8 : σ1.1 x = some (.inr (.inl (0, [.ref bf, .int bd, .int pe, .int ep, .ref (wW W), .ref dq, .ref sv, .ref ou]))) := by rw [eσ1]; exact (hn_ne (Nat.ne_of_lt (wσ _ _ hX))).trans hX
      have fσ1_9 : σ1.1 σ.2 = some (.inl (.int, 12, .inl (fun _ => 0))) := by rw [eσ1]; exact if_pos rfl
      have xσ1 : ext σ σ1 := by rw [eσ1]; exact ext_new _ _
      have yσ1 : ext σ σ1 := yσ.tr (xσ1)
      have hRσ1 : RW g σ1 W N := hR9.ext wσ xσ1
      refine A_astore_n (i := 3) dX1_groups_13 rfl (Nat.le_of_ble_eq_true rfl) ?_
      refine A_iconst (v := 0) dX1_groups_14 (by decide) ?_
      refine A_istore dX1_groups_15 (Nat.le_of_ble_eq_true rfl) ?_
      refine A_iconst (v := 0) dX1_groups_17 (by decide) ?_
      refine A_istore dX1_groups_18 (Nat.le_of_ble_eq_true rfl) ?_
      refine A_less (b' := ((nF N) - 0) * 0 + 0) (by omega) ?_
      refine A_sub (L' := [(0, .ref x), (1, .int (nI jh)), (2, .ref (wW W)), (3, .ref σ.2), (4, .int (nI (gU N (nI jh) 0).2)), (5, .int (nI 0))]) ⟨rfl, rfl, rfl, rfl, rfl, rfl, trivial⟩ ?_
      refine A_forP (α := AH) (nF N) (fun i20 _ => ((nF N) - i20) * 0 + 0) (fun i20 _ => [(0, .ref x), (1, .int (nI jh)), (2, .ref (wW W)), (3, .ref σ.2), (4, .int (nI (gU N (nI jh) i20).2)), (5, .int (nI i20))]) (fun _ τ20 => τ20) (fun i20 τ20 => ext σ τ20 ∧ ∃ G, τ20.1 σ.2 = some (intA 12 G) ∧ grI N (nI jh) i20 G) σ1 (⟨yσ1, _, fσ1_9, fun j hj => rfl⟩) (fun i20 τ20 hi20 hI20 ih20 => ?_) (fun τ20 hI20 => ?_)
      · skip
        obtain ⟨xτ20, G, gaτ20, hGτ20⟩ := hI20
        refine A_wfh (fun wτ20 hgτ20 => ?_)
        have yτ20 : ext σ τ20 := xτ20
        have hRτ20 : RW g τ20 W N := hR9.ext wσ yτ20
        have fτ20_0 : τ20.1 (wW W) = some (.inr (.inl (4, [.int (N 9), .ref (wR W), .ref (wM W), .ref (wNL W), .ref (wFL W), .ref (wUN W), .int (N 6), .int (N 8), .int (N 0), .int (N 1), .int (N 2), .int (N 3), .int (N 4), .int (N 5), .int (N 11)]))) := xτ20.at wσ h1
        have fτ20_1 : τ20.1 (wFL W) = some (.inr (.inl (14, [.int mcf, .ref (wFA W), .int (nI (nF N))]))) := xτ20.at wσ h5
        have fτ20_2 : τ20.1 (wFA W) = some (.inl (.object "java/lang/Object", 12, .inr (.inr (.inr (.inr ffA))))) := xτ20.at wσ h5p
        have fτ20_3 : τ20.1 (wNL W) = some (.inr (.inl (14, [.int mcn, .ref (wNA W), .int (nI (nN N))]))) := xτ20.at wσ h4
        have fτ20_4 : τ20.1 (wNA W) = some (.inl (.object "java/lang/Object", 4, .inr (.inr (.inr (.inr fnA))))) := xτ20.at wσ h4p
        have fτ20_5 : τ20.1 (wR W) = some (.inl (.int, 6, .inl fr)) := xτ20.at wσ h2
        have fτ20_6 : τ20.1 (wM W) = some (.inl (.int, 3, .inl fm)) := xτ20.at wσ h3
        have fτ20_7 : τ20.1 (wUN W) = some (.inl (.object "FlagLaundry$Test", 7, .inr (.inr (.inr (.inr fu))))) := xτ20.at wσ h6
        have fτ20_8 : τ20.1 x = some (.inr (.inl (0, [.ref bf, .int bd, .int pe, .int ep, .ref (wW W), .ref dq, .ref sv, .ref ou]))) := xτ20.at wσ hX
        have hle := gU_le N (nI jh) i20
        have hJ := gJ_le N (gU N (nI jh) i20).1 (nI jh) (gU N (nI jh) i20).2 i20
        refine A_iload dX1_groups_20 rfl ?_
        refine A_aload_n (i := 2) dX1_groups_22 rfl rfl ?_
        refine A_callV0E (b' := ((nF N) - i20) * 0 + 0 + 0) (v := some (.int (nI (nF N)))) (τ := τ20) (c_many τ20 W N hRτ20 hW) tX5_many q1369 fτ20_0 rfl rfl dX1_groups_23 (by decide) (by omega) (Nat.le_of_ble_eq_true rfl) ?_
        refine A_icmp_ge_f (tgt := 115) dX1_groups_26 (by decide) (br_lt rfl hi20 (by omega)) ?_
        refine A_aload_n (i := 2) dX1_groups_29 rfl rfl ?_
        refine A_iload dX1_groups_30 rfl ?_
        refine A_callV1E (b' := ((nF N) - i20) * 0 + 0 + 0) (v := some (.ref (wF W i20))) (τ := τ20) (c_flagOf τ20 W N i20 hRτ20 hW hi20) tX5_flagOf q1153 fτ20_0 rfl rfl dX1_groups_32 (by decide) (by omega) (Nat.le_of_ble_eq_true rfl) ?_
        refine A_astore dX1_groups_35 (Nat.le_of_ble_eq_true rfl) ?_
        refine A_aload dX1_groups_37 rfl ?_
        refine A_callV0E (b' := ((nF N) - i20) * 0 + 0 + 0) (v := some (.int (bi (inBasket N i20)))) (τ := τ20) (c_fHere τ20 (wF W i20) (wP W i20) (fl N i20) (hRτ20.2.2.2.2.2.2.1 i20 hi20) (hRτ20.2.2.2.2.2.2.2.1 i20 hi20) (flok_k hD hi20)) tX7_isHere q1178 (hRτ20.2.2.2.2.2.2.1 i20 hi20) rfl rfl dX1_groups_39 (by decide) (by omega) (Nat.le_of_ble_eq_true rfl) ?_
        refine A_if_eq (tgt := 109) dX1_groups_42 (by decide) (fun c1 => ?_) (fun c1 => ?_)
        · skip
          have c1 := bi_eq0.mp c1
          refine A_iinc (v := nI (i20 + 1)) dX1_groups_109 rfl (nI_inc _ _) (Nat.le_of_ble_eq_true rfl) ?_
          refine A_goto (tgt := 20) dX1_groups_112 (by decide) ?_
          refine A_less (b' := ((nF N) - (i20 + 1)) * 0 + 0) (by omega) ?_
          refine A_sub (L' := [(0, .ref x), (1, .int (nI jh)), (2, .ref (wW W)), (3, .ref σ.2), (4, .int (nI (gU N (nI jh) (i20 + 1)).2)), (5, .int (nI (i20 + 1)))]) ⟨rfl, rfl, rfl, rfl, (by rw [gU_s, if_neg (fun h9 => c1 h9.1)] <;> rfl), rfl, trivial⟩ ?_
          exact ih20 τ20 (⟨yτ20, _, gaτ20, gr_skip (fun h9 => c1 h9.1) hGτ20⟩)
        · skip
          have c1 := bi_ne0.mp c1
          refine A_aload dX1_groups_45 rfl ?_
          refine A_getfN cb_X7 (hRτ20.2.2.2.2.2.2.1 i20 hi20) 3 (Nat.le_of_ble_eq_true rfl) q1107 rfl (v := .int (fl N i20 3)) rfl dX1_groups_47 ?_
          refine A_if_eq (tgt := 109) dX1_groups_50 (by decide) (fun c2 => ?_) (fun c2 => ?_)
          · skip
            refine A_iinc (v := nI (i20 + 1)) dX1_groups_109 rfl (nI_inc _ _) (Nat.le_of_ble_eq_true rfl) ?_
            refine A_goto (tgt := 20) dX1_groups_112 (by decide) ?_
            refine A_less (b' := ((nF N) - (i20 + 1)) * 0 + 0) (by omega) ?_
            refine A_sub (L' := [(0, .ref x), (1, .int (nI jh)), (2, .ref (wW W)), (3, .ref σ.2), (4, .int (nI (gU N (nI jh) (i20 + 1)).2)), (5, .int (nI (i20 + 1)))]) ⟨rfl, rfl, rfl, rfl, (by rw [gU_s, if_neg (fun h9 => h9.2.1 c2)] <;> rfl), rfl, trivial⟩ ?_
            exact ih20 τ20 (⟨yτ20, _, gaτ20, gr_skip (fun h9 => h9.2.1 c2) hGτ20⟩)
          · skip
            refine A_iload_n (i := 1) dX1_groups_53 rfl rfl ?_
            refine A_aload dX1_groups_54 rfl ?_
            refine A_getfN cb_X7 (hRτ20.2.2.2.2.2.2.1 i20 hi20) 2 (Nat.le_of_ble_eq_true rfl) q1104 rfl (v := .int (fl N i20 2)) rfl dX1_groups_56 ?_
            refine A_icmp_le (tgt := 65) dX1_groups_59 (by decide) (fun c3 => ?_) (fun c3 => ?_)
            · skip
              refine A_iconst (v := 1) dX1_groups_65 (by decide) ?_
              refine A_istore dX1_groups_66 (Nat.le_of_ble_eq_true rfl) ?_
              refine A_less (b' := 0) (Nat.zero_le _) ?_
              refine A_sub (L' := [(0, .ref x), (1, .int (nI jh)), (2, .ref (wW W)), (3, .ref σ.2), (4, .int (nI (gU N (nI jh) i20).2)), (5, .int (nI i20)), (6, .ref (wF W i20)), (7, .int (nI (0 + 1)))]) ⟨rfl, rfl, rfl, rfl, rfl, rfl, rfl, rfl, trivial⟩ ?_
              refine A_for (gJ N (gU N (nI jh) i20).1 (nI jh) (gU N (nI jh) i20).2 i20) (fun i68 => 0) (fun i68 => [(0, .ref x), (1, .int (nI jh)), (2, .ref (wW W)), (3, .ref σ.2), (4, .int (nI (gU N (nI jh) i20).2)), (5, .int (nI i20)), (6, .ref (wF W i20)), (7, .int (nI (i68 + 1)))]) (fun i68 => τ20) (fun i68 => True) trivial (fun i68 hi68 hI68 ih68 => ?_) (fun hI68 => ?_)
              · skip
                refine A_iload dX1_groups_68 rfl ?_
                refine A_iload dX1_groups_70 rfl ?_
                refine A_icmp_gt_f (tgt := 94) dX1_groups_72 (by decide) (nI_nlt9 (by omega) (by omega)) ?_
                refine A_aload_n (i := 0) dX1_groups_75 rfl rfl ?_
                refine A_aload dX1_groups_76 rfl ?_
                refine A_aload_n (i := 3) dX1_groups_78 rfl rfl ?_
                refine A_iload dX1_groups_79 rfl ?_
                refine A_iload_n (i := 1) dX1_groups_81 rfl rfl ?_
                refine A_callV4E (b' := 0) (v := some (.int (bi (∀ j, j < nF N → ¬ (G j = nI (i68 + 1) ∧ ¬ mixV N i20 j (nI jh) = 0))))) (τ := τ20) (c_fits τ20 x bf dq sv ou bd pe ep W N i20 σ.2 (i68 + 1) G (nI jh) fτ20_8 hRτ20 hD gaτ20 hi20) tX1_fits q1786 fτ20_8 rfl rfl dX1_groups_82 (by decide) (Nat.le_of_ble_eq_true rfl) (Nat.le_of_ble_eq_true rfl) ?_
                refine A_if_ne_f (tgt := 94) dX1_groups_85 (by decide) (bi_f (fun w => gJ_not hi68 ((fit_join hi20 hF12 hGτ20 (by omega)).mp w))) ?_
                refine A_iinc (v := nI ((i68 + 1) + 1)) dX1_groups_88 rfl (nI_inc _ _) (Nat.le_of_ble_eq_true rfl) ?_
                refine A_goto (tgt := 68) dX1_groups_91 (by decide) ?_
                refine A_sub (L' := [(0, .ref x), (1, .int (nI jh)), (2, .ref (wW W)), (3, .ref σ.2), (4, .int (nI (gU N (nI jh) i20).2)), (5, .int (nI i20)), (6, .ref (wF W i20)), (7, .int (nI ((i68 + 1) + 1)))]) ⟨rfl, rfl, rfl, rfl, rfl, rfl, rfl, rfl, trivial⟩ ?_
                exact ih68 trivial
              · skip
                refine A_iload dX1_groups_68 rfl ?_
                refine A_iload dX1_groups_70 rfl ?_
                refine A_icmp_gt (tgt := 94) dX1_groups_72 (by decide) (fun c4 => ?_) (fun c4 => ?_)
                · skip
                  refine A_aload_n (i := 3) dX1_groups_94 rfl rfl ?_
                  refine A_iload dX1_groups_95 rfl ?_
                  refine A_iload dX1_groups_97 rfl ?_
                  refine A_iast gaτ20 (vp_in_nI (Nat.lt_of_lt_of_le hi20 hF12) (by decide)) dX1_groups_99 ?_
                  refine A_st (σ' := h_put τ20 σ.2 (.inl (.int, 12, .inl (va_up G i20 (nI ((gJ N (gU N (nI jh) i20).1 (nI jh) (gU N (nI jh) i20).2 i20) + 1)))))) (by rw [nI_clamp (Nat.lt_trans (Nat.lt_of_lt_of_le hi20 hF12) (by decide))]) ?_
                  obtain ⟨σ2, eσ2⟩ : ∃ τ, τ = h_put τ20 σ.2 (.inl (.int, 12, .inl (va_up G i20 (nI ((gJ N (gU N (nI jh) i20).1 (nI jh) (gU N (nI jh) i20).2 i20) + 1))))) := ⟨_, rfl⟩
                  refine A_st (σ' := σ2) eσ2.symm ?_
                  have wσ2 : wfh σ2 := by rw [eσ2]; exact wτ20.put gaτ20
                  have fσ2_0 : σ2.1 (wW W) = some (.inr (.inl (4, [.int (N 9), .ref (wR W), .ref (wM W), .ref (wNL W), .ref (wFL W), .ref (wUN W), .int (N 6), .int (N 8), .int (N 0), .int (N 1), .int (N 2), .int (N 3), .int (N 4), .int (N 5), .int (N 11)]))) := by rw [eσ2]; exact (hp_ne (ne_of (x := .inr (.inl (4, [.int (N 9), .ref (wR W), .ref (wM W), .ref (wNL W), .ref (wFL W), .ref (wUN W), .int (N 6), .int (N 8), .int (N 0), .int (N 1), .int (N 2), .int (N 3), .int (N 4), .int (N 5), .int (N 11)]))) (y := .inl (.int, 12, .inl G)) fτ20_0 gaτ20 (fun e8 => by simp at e8))).trans fτ20_0
                  have fσ2_1 : σ2.1 (wFL W) = some (.inr (.inl (14, [.int mcf, .ref (wFA W), .int (nI (nF N))]))) := by rw [eσ2]; exact (hp_ne (ne_of (x := .inr (.inl (14, [.int mcf, .ref (wFA W), .int (nI (nF N))]))) (y := .inl (.int, 12, .inl G)) fτ20_1 gaτ20 (fun e8 => by simp at e8))).trans fτ20_1
                  have fσ2_2 : σ2.1 (wFA W) = some (.inl (.object "java/lang/Object", 12, .inr (.inr (.inr (.inr ffA))))) := by rw [eσ2]; exact (hp_ne (ne_of (x := .inl (.object "java/lang/Object", 12, .inr (.inr (.inr (.inr ffA))))) (y := .inl (.int, 12, .inl G)) fτ20_2 gaτ20 (fun e8 => by simp at e8))).trans fτ20_2
                  have fσ2_3 : σ2.1 (wNL W) = some (.inr (.inl (14, [.int mcn, .ref (wNA W), .int (nI (nN N))]))) := by rw [eσ2]; exact (hp_ne (ne_of (x := .inr (.inl (14, [.int mcn, .ref (wNA W), .int (nI (nN N))]))) (y := .inl (.int, 12, .inl G)) fτ20_3 gaτ20 (fun e8 => by simp at e8))).trans fτ20_3
                  have fσ2_4 : σ2.1 (wNA W) = some (.inl (.object "java/lang/Object", 4, .inr (.inr (.inr (.inr fnA))))) := by rw [eσ2]; exact (hp_ne (ne_of (x := .inl (.object "java/lang/Object", 4, .inr (.inr (.inr (.inr fnA))))) (y := .inl (.int, 12, .inl G)) fτ20_4 gaτ20 (fun e8 => by simp at e8))).trans fτ20_4
                  have fσ2_5 : σ2.1 (wR W) = some (.inl (.int, 6, .inl fr)) := by rw [eσ2]; exact (hp_ne (ne_of (x := .inl (.int, 6, .inl fr)) (y := .inl (.int, 12, .inl G)) fτ20_5 gaτ20 (fun e8 => by simp at e8))).trans fτ20_5
                  have fσ2_6 : σ2.1 (wM W) = some (.inl (.int, 3, .inl fm)) := by rw [eσ2]; exact (hp_ne (ne_of (x := .inl (.int, 3, .inl fm)) (y := .inl (.int, 12, .inl G)) fτ20_6 gaτ20 (fun e8 => by simp at e8))).trans fτ20_6
                  have fσ2_7 : σ2.1 (wUN W) = some (.inl (.object "FlagLaundry$Test", 7, .inr (.inr (.inr (.inr fu))))) := by rw [eσ2]; exact (hp_ne (ne_of (x := .inl (.object "FlagLaundry$Test", 7, .inr (.inr (.inr (.inr fu))))) (y := .inl (.int, 12, .inl G)) fτ20_7 gaτ20 (fun e8 => by simp at e8))).trans fτ20_7
                  have fσ2_8 : σ2.1 x = some (.inr (.inl (0, [.ref bf, .int bd, .int pe, .int ep, .ref (wW W), .ref dq, .ref sv, .ref ou]))) := by rw [eσ2]; exact (hp_ne (ne_of (x := .inr (.inl (0, [.ref bf, .int bd, .int pe, .int ep, .ref (wW W), .ref dq, .ref sv, .ref ou]))) (y := .inl (.int, 12, .inl G)) fτ20_8 gaτ20 (fun e8 => by simp at e8))).trans fτ20_8
                  have fσ2_9 : σ2.1 σ.2 = some (.inl (.int, 12, .inl (va_up G i20 (nI ((gJ N (gU N (nI jh) i20).1 (nI jh) (gU N (nI jh) i20).2 i20) + 1))))) := by rw [eσ2]; exact if_pos rfl
                  have fσ2_10 : σ2.1 (wF W i20) = some (.inr (.inl (6, [.int (fl N i20 0), .int (fl N i20 1), .int (fl N i20 2), .int (fl N i20 3), .int (fl N i20 4), .int (fl N i20 5), .int (fl N i20 6), .int (fl N i20 7), .ref (wP W i20)]))) := by rw [eσ2]; exact (hp_ne (ne_of (x := .inr (.inl (6, [.int (fl N i20 0), .int (fl N i20 1), .int (fl N i20 2), .int (fl N i20 3), .int (fl N i20 4), .int (fl N i20 5), .int (fl N i20 6), .int (fl N i20 7), .ref (wP W i20)]))) (y := .inl (.int, 12, .inl G)) (hRτ20.2.2.2.2.2.2.1 i20 hi20) gaτ20 (fun e8 => by simp at e8))).trans (hRτ20.2.2.2.2.2.2.1 i20 hi20)
                  have yσ2 : ext σ σ2 := by rw [eσ2]; exact (yτ20.putN yσ.1)
                  have hRσ2 : RW g σ2 W N := hRτ20.oth wτ20 gaτ20 (isW_ia (by decide)) (by rw [eσ2]; exact kx.rf.put)
                  refine A_iload dX1_groups_100 rfl ?_
                  refine A_iload dX1_groups_102 rfl ?_
                  refine A_mmax q1790 q454 q150 q455 dX1_groups_104 (by decide) (Nat.le_of_ble_eq_true rfl) ?_
                  refine A_int (w := (mx (nI (gU N (nI jh) i20).2) (nI ((gJ N (gU N (nI jh) i20).1 (nI jh) (gU N (nI jh) i20).2 i20) + 1)))) rfl ?_
                  refine A_int (w := nI (max (gU N (nI jh) i20).2 ((gJ N (gU N (nI jh) i20).1 (nI jh) (gU N (nI jh) i20).2 i20) + 1))) (mx_nI (by omega) (by omega)) ?_
                  refine A_istore dX1_groups_107 (Nat.le_of_ble_eq_true rfl) ?_
                  refine A_iinc (v := nI (i20 + 1)) dX1_groups_109 rfl (nI_inc _ _) (Nat.le_of_ble_eq_true rfl) ?_
                  refine A_goto (tgt := 20) dX1_groups_112 (by decide) ?_
                  refine A_less (b' := ((nF N) - (i20 + 1)) * 0 + 0) (by omega) ?_
                  refine A_sub (L' := [(0, .ref x), (1, .int (nI jh)), (2, .ref (wW W)), (3, .ref σ.2), (4, .int (nI (gU N (nI jh) (i20 + 1)).2)), (5, .int (nI (i20 + 1)))]) ⟨rfl, rfl, rfl, rfl, (by rw [gU_s, if_pos ⟨c1, c2, c3⟩] <;> rfl), rfl, trivial⟩ ?_
                  exact ih20 σ2 (⟨yσ2, _, fσ2_9, gr_take ⟨c1, c2, c3⟩ hGτ20⟩)
                · skip
                  refine A_aload_n (i := 0) dX1_groups_75 rfl rfl ?_
                  refine A_aload dX1_groups_76 rfl ?_
                  refine A_aload_n (i := 3) dX1_groups_78 rfl rfl ?_
                  refine A_iload dX1_groups_79 rfl ?_
                  refine A_iload_n (i := 1) dX1_groups_81 rfl rfl ?_
                  refine A_callV4E (b' := 0) (v := some (.int (bi (∀ j, j < nF N → ¬ (G j = nI ((gJ N (gU N (nI jh) i20).1 (nI jh) (gU N (nI jh) i20).2 i20) + 1) ∧ ¬ mixV N i20 j (nI jh) = 0))))) (τ := τ20) (c_fits τ20 x bf dq sv ou bd pe ep W N i20 σ.2 ((gJ N (gU N (nI jh) i20).1 (nI jh) (gU N (nI jh) i20).2 i20) + 1) G (nI jh) fτ20_8 hRτ20 hD gaτ20 hi20) tX1_fits q1786 fτ20_8 rfl rfl dX1_groups_82 (by decide) (Nat.le_of_ble_eq_true rfl) (Nat.le_of_ble_eq_true rfl) ?_
                  refine A_if_ne_t (tgt := 94) dX1_groups_85 (by decide) (bi_n ((fit_join hi20 hF12 hGτ20 (by omega)).mpr (gJ_at (gj_lt (by omega) (by omega) c4)))) ?_
                  refine A_aload_n (i := 3) dX1_groups_94 rfl rfl ?_
                  refine A_iload dX1_groups_95 rfl ?_
                  refine A_iload dX1_groups_97 rfl ?_
                  refine A_iast gaτ20 (vp_in_nI (Nat.lt_of_lt_of_le hi20 hF12) (by decide)) dX1_groups_99 ?_
                  refine A_st (σ' := h_put τ20 σ.2 (.inl (.int, 12, .inl (va_up G i20 (nI ((gJ N (gU N (nI jh) i20).1 (nI jh) (gU N (nI jh) i20).2 i20) + 1)))))) (by rw [nI_clamp (Nat.lt_trans (Nat.lt_of_lt_of_le hi20 hF12) (by decide))]) ?_
                  obtain ⟨σ3, eσ3⟩ : ∃ τ, τ = h_put τ20 σ.2 (.inl (.int, 12, .inl (va_up G i20 (nI ((gJ N (gU N (nI jh) i20).1 (nI jh) (gU N (nI jh) i20).2 i20) + 1))))) := ⟨_, rfl⟩
                  refine A_st (σ' := σ3) eσ3.symm ?_
                  have wσ3 : wfh σ3 := by rw [eσ3]; exact wτ20.put gaτ20
                  have fσ3_0 : σ3.1 (wW W) = some (.inr (.inl (4, [.int (N 9), .ref (wR W), .ref (wM W), .ref (wNL W), .ref (wFL W), .ref (wUN W), .int (N 6), .int (N 8), .int (N 0), .int (N 1), .int (N 2), .int (N 3), .int (N 4), .int (N 5), .int (N 11)]))) := by rw [eσ3]; exact (hp_ne (ne_of (x := .inr (.inl (4, [.int (N 9), .ref (wR W), .ref (wM W), .ref (wNL W), .ref (wFL W), .ref (wUN W), .int (N 6), .int (N 8), .int (N 0), .int (N 1), .int (N 2), .int (N 3), .int (N 4), .int (N 5), .int (N 11)]))) (y := .inl (.int, 12, .inl G)) fτ20_0 gaτ20 (fun e8 => by simp at e8))).trans fτ20_0
                  have fσ3_1 : σ3.1 (wFL W) = some (.inr (.inl (14, [.int mcf, .ref (wFA W), .int (nI (nF N))]))) := by rw [eσ3]; exact (hp_ne (ne_of (x := .inr (.inl (14, [.int mcf, .ref (wFA W), .int (nI (nF N))]))) (y := .inl (.int, 12, .inl G)) fτ20_1 gaτ20 (fun e8 => by simp at e8))).trans fτ20_1
                  have fσ3_2 : σ3.1 (wFA W) = some (.inl (.object "java/lang/Object", 12, .inr (.inr (.inr (.inr ffA))))) := by rw [eσ3]; exact (hp_ne (ne_of (x := .inl (.object "java/lang/Object", 12, .inr (.inr (.inr (.inr ffA))))) (y := .inl (.int, 12, .inl G)) fτ20_2 gaτ20 (fun e8 => by simp at e8))).trans fτ20_2
                  have fσ3_3 : σ3.1 (wNL W) = some (.inr (.inl (14, [.int mcn, .ref (wNA W), .int (nI (nN N))]))) := by rw [eσ3]; exact (hp_ne (ne_of (x := .inr (.inl (14, [.int mcn, .ref (wNA W), .int (nI (nN N))]))) (y := .inl (.int, 12, .inl G)) fτ20_3 gaτ20 (fun e8 => by simp at e8))).trans fτ20_3
                  have fσ3_4 : σ3.1 (wNA W) = some (.inl (.object "java/lang/Object", 4, .inr (.inr (.inr (.inr fnA))))) := by rw [eσ3]; exact (hp_ne (ne_of (x := .inl (.object "java/lang/Object", 4, .inr (.inr (.inr (.inr fnA))))) (y := .inl (.int, 12, .inl G)) fτ20_4 gaτ20 (fun e8 => by simp at e8))).trans fτ20_4
                  have fσ3_5 : σ3.1 (wR W) = some (.inl (.int, 6, .inl fr)) := by rw [eσ3]; exact (hp_ne (ne_of (x := .inl (.int, 6, .inl fr)) (y := .inl (.int, 12, .inl G)) fτ20_5 gaτ20 (fun e8 => by simp at e8))).trans fτ20_5
                  have fσ3_6 : σ3.1 (wM W) = some (.inl (.int, 3, .inl fm)) := by rw [eσ3]; exact (hp_ne (ne_of (x := .inl (.int, 3, .inl fm)) (y := .inl (.int, 12, .inl G)) fτ20_6 gaτ20 (fun e8 => by simp at e8))).trans fτ20_6
                  have fσ3_7 : σ3.1 (wUN W) = some (.inl (.object "FlagLaundry$Test", 7, .inr (.inr (.inr (.inr fu))))) := by rw [eσ3]; exact (hp_ne (ne_of (x := .inl (.object "FlagLaundry$Test", 7, .inr (.inr (.inr (.inr fu))))) (y := .inl (.int, 12, .inl G)) fτ20_7 gaτ20 (fun e8 => by simp at e8))).trans fτ20_7
                  have fσ3_8 : σ3.1 x = some (.inr (.inl (0, [.ref bf, .int bd, .int pe, .int ep, .ref (wW W), .ref dq, .ref sv, .ref ou]))) := by rw [eσ3]; exact (hp_ne (ne_of (x := .inr (.inl (0, [.ref bf, .int bd, .int pe, .int ep, .ref (wW W), .ref dq, .ref sv, .ref ou]))) (y := .inl (.int, 12, .inl G)) fτ20_8 gaτ20 (fun e8 => by simp at e8))).trans fτ20_8
                  have fσ3_9 : σ3.1 σ.2 = some (.inl (.int, 12, .inl (va_up G i20 (nI ((gJ N (gU N (nI jh) i20).1 (nI jh) (gU N (nI jh) i20).2 i20) + 1))))) := by rw [eσ3]; exact if_pos rfl
                  have fσ3_10 : σ3.1 (wF W i20) = some (.inr (.inl (6, [.int (fl N i20 0), .int (fl N i20 1), .int (fl N i20 2), .int (fl N i20 3), .int (fl N i20 4), .int (fl N i20 5), .int (fl N i20 6), .int (fl N i20 7), .ref (wP W i20)]))) := by rw [eσ3]; exact (hp_ne (ne_of (x := .inr (.inl (6, [.int (fl N i20 0), .int (fl N i20 1), .int (fl N i20 2), .int (fl N i20 3), .int (fl N i20 4), .int (fl N i20 5), .int (fl N i20 6), .int (fl N i20 7), .ref (wP W i20)]))) (y := .inl (.int, 12, .inl G)) (hRτ20.2.2.2.2.2.2.1 i20 hi20) gaτ20 (fun e8 => by simp at e8))).trans (hRτ20.2.2.2.2.2.2.1 i20 hi20)
                  have yσ3 : ext σ σ3 := by rw [eσ3]; exact (yτ20.putN yσ.1)
                  have hRσ3 : RW g σ3 W N := hRτ20.oth wτ20 gaτ20 (isW_ia (by decide)) (by rw [eσ3]; exact kx.rf.put)
                  refine A_iload dX1_groups_100 rfl ?_
                  refine A_iload dX1_groups_102 rfl ?_
                  refine A_mmax q1790 q454 q150 q455 dX1_groups_104 (by decide) (Nat.le_of_ble_eq_true rfl) ?_
                  refine A_int (w := (mx (nI (gU N (nI jh) i20).2) (nI ((gJ N (gU N (nI jh) i20).1 (nI jh) (gU N (nI jh) i20).2 i20) + 1)))) rfl ?_
                  refine A_int (w := nI (max (gU N (nI jh) i20).2 ((gJ N (gU N (nI jh) i20).1 (nI jh) (gU N (nI jh) i20).2 i20) + 1))) (mx_nI (by omega) (by omega)) ?_
                  refine A_istore dX1_groups_107 (Nat.le_of_ble_eq_true rfl) ?_
                  refine A_iinc (v := nI (i20 + 1)) dX1_groups_109 rfl (nI_inc _ _) (Nat.le_of_ble_eq_true rfl) ?_
                  refine A_goto (tgt := 20) dX1_groups_112 (by decide) ?_
                  refine A_less (b' := ((nF N) - (i20 + 1)) * 0 + 0) (by omega) ?_
                  refine A_sub (L' := [(0, .ref x), (1, .int (nI jh)), (2, .ref (wW W)), (3, .ref σ.2), (4, .int (nI (gU N (nI jh) (i20 + 1)).2)), (5, .int (nI (i20 + 1)))]) ⟨rfl, rfl, rfl, rfl, (by rw [gU_s, if_pos ⟨c1, c2, c3⟩] <;> rfl), rfl, trivial⟩ ?_
                  exact ih20 σ3 (⟨yσ3, _, fσ3_9, gr_take ⟨c1, c2, c3⟩ hGτ20⟩)
            · skip
              refine A_goto (tgt := 109) dX1_groups_62 (by decide) ?_
              refine A_iinc (v := nI (i20 + 1)) dX1_groups_109 rfl (nI_inc _ _) (Nat.le_of_ble_eq_true rfl) ?_
              refine A_goto (tgt := 20) dX1_groups_112 (by decide) ?_
              refine A_less (b' := ((nF N) - (i20 + 1)) * 0 + 0) (by omega) ?_
              refine A_sub (L' := [(0, .ref x), (1, .int (nI jh)), (2, .ref (wW W)), (3, .ref σ.2), (4, .int (nI (gU N (nI jh) (i20 + 1)).2)), (5, .int (nI (i20 + 1)))]) ⟨rfl, rfl, rfl, rfl, (by rw [gU_s, if_neg (fun h9 => c3 h9.2.2)] <;> rfl), rfl, trivial⟩ ?_
              exact ih20 τ20 (⟨yτ20, _, gaτ20, gr_skip (fun h9 => c3 h9.2.2) hGτ20⟩)
      · skip
        refine A_less (b' := 0) (by omega) ?_
        obtain ⟨xτ20, G, gaτ20, hGτ20⟩ := hI20
        refine A_wfh (fun wτ20 hgτ20 => ?_)
        have yτ20 : ext σ τ20 := xτ20
        have hRτ20 : RW g τ20 W N := hR9.ext wσ yτ20
        have fτ20_0 : τ20.1 (wW W) = some (.inr (.inl (4, [.int (N 9), .ref (wR W), .ref (wM W), .ref (wNL W), .ref (wFL W), .ref (wUN W), .int (N 6), .int (N 8), .int (N 0), .int (N 1), .int (N 2), .int (N 3), .int (N 4), .int (N 5), .int (N 11)]))) := xτ20.at wσ h1
        have fτ20_1 : τ20.1 (wFL W) = some (.inr (.inl (14, [.int mcf, .ref (wFA W), .int (nI (nF N))]))) := xτ20.at wσ h5
        have fτ20_2 : τ20.1 (wFA W) = some (.inl (.object "java/lang/Object", 12, .inr (.inr (.inr (.inr ffA))))) := xτ20.at wσ h5p
        have fτ20_3 : τ20.1 (wNL W) = some (.inr (.inl (14, [.int mcn, .ref (wNA W), .int (nI (nN N))]))) := xτ20.at wσ h4
        have fτ20_4 : τ20.1 (wNA W) = some (.inl (.object "java/lang/Object", 4, .inr (.inr (.inr (.inr fnA))))) := xτ20.at wσ h4p
        have fτ20_5 : τ20.1 (wR W) = some (.inl (.int, 6, .inl fr)) := xτ20.at wσ h2
        have fτ20_6 : τ20.1 (wM W) = some (.inl (.int, 3, .inl fm)) := xτ20.at wσ h3
        have fτ20_7 : τ20.1 (wUN W) = some (.inl (.object "FlagLaundry$Test", 7, .inr (.inr (.inr (.inr fu))))) := xτ20.at wσ h6
        have fτ20_8 : τ20.1 x = some (.inr (.inl (0, [.ref bf, .int bd, .int pe, .int ep, .ref (wW W), .ref dq, .ref sv, .ref ou]))) := xτ20.at wσ hX
        refine A_iload dX1_groups_20 rfl ?_
        refine A_aload_n (i := 2) dX1_groups_22 rfl rfl ?_
        refine A_callV0E (b' := 0) (v := some (.int (nI (nF N)))) (τ := τ20) (c_many τ20 W N hRτ20 hW) tX5_many q1369 fτ20_0 rfl rfl dX1_groups_23 (by decide) (Nat.le_of_ble_eq_true rfl) (Nat.le_of_ble_eq_true rfl) ?_
        refine A_icmp_ge_t (tgt := 115) dX1_groups_26 (by decide) (br_ge rfl) ?_
        refine A_iload dX1_groups_115 rfl ?_
        exact A_iret dX1_groups_117 rfl (⟨(mayQ_0 hs (bi_n ck1) (by decide)), rfl, yτ20⟩)
    · skip
      refine A_of rfl (by decide) (Nat.le_of_ble_eq_true rfl) (L0 := [(0, .ref x), (1, .int h)]) rfl ?_
      refine A_wfh (fun wσ hgσ => ?_)
      have yσ : ext σ σ := ext.rf
      refine A_aload_n (i := 0) dX1_groups_0 rfl rfl ?_
      refine A_callV0E (b' := 5) (v := some (.ref (wW W))) (τ := σ) (c_loaded σ x bf dq sv ou bd pe ep W N hX hR9 hD) tX1_loaded q1383 hX rfl rfl dX1_groups_1 (by decide) (Nat.le_of_ble_eq_true rfl) (Nat.le_of_ble_eq_true rfl) ?_
      refine A_astore_n (i := 2) dX1_groups_4 rfl (Nat.le_of_ble_eq_true rfl) ?_
      refine A_iload_n (i := 1) dX1_groups_5 rfl rfl ?_
      refine A_callS1 (b' := 0) (c_checkHeat_no σ h ck1) tX1_checkHeat q1672 dX1_groups_6 (by decide) (Nat.le_of_ble_eq_true rfl) (Nat.le_of_ble_eq_true rfl) (fun w9 τ9 h9 => h9.elim) (fun E9 q9 τ9 h9 => A_out rfl (⟨yσ.tr h9.2, 1, by rw [h9.1]; rfl, by rw [(mayQ_2 hs (bi_f (fun h => ck1 h)))]; rfl⟩))
