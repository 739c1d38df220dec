/-! THE PARSER 2: numbers -/
theorem c_pStep {l : Launch} {g : GC} (σ : AH) (y x bf n : Nat) (S : Int32 → Nat) (mv : Value) (B : AF) (p : PT) (h : PR σ y x bf S B n mv p) (hS : SRT g S) (h0 : p.2.2.2.2.2.1 = 0) : AMet l g mX3_step 8 8 [.ref y] σ (fun w τ => w = none ∧ PRW g τ y x bf S B n mv (goesS B n p) ∧ kx y σ τ) A_no := by
  obtain ⟨v, wd, hC, hP, hv, h5, hcn, hsc⟩ := h
  rw [goes_0 (by rw [h0]; exact Int32.le_refl _)]
  obtain ⟨N, c, s, tk, to, cd, at9⟩ := p
  exact c_pStep0 σ y x bf n c s _ v tk to cd at9 S wd mv B N hC hP (spN_ge B n (N, c, s, tk, to, cd, at9)) (spN_le (p := (N, c, s, tk, to, cd, at9)) hcn) (fun k a b => spN_in (p := (N, c, s, tk, to, cd, at9)) a b) (spN_out B n (N, c, s, tk, to, cd, at9)) hS
/-- a flaw of this state -/
def FX (p' : PT) (y : Nat) (σ : AH) : String → Nat → AH → Prop := fun E q τ => E = "FlagLaundry$Flaw" ∧ ¬ p'.2.2.2.2.2.1 ≤ 0 ∧ τ.1 q = some (flwC p'.2.2.2.2.2.1 p'.2.2.2.2.2.2) ∧ kx y σ τ
theorem FX.of {p' p : PT} {y : Nat} {σ τ : AH} {E : String} {q : Nat} {c : Int32} (h : A_fl c (nI p.2.2.1) y σ E q τ) (h0 : p.2.2.2.2.2.1 = 0) (hc : ¬ c ≤ 0) (e : p' = fltS c p) : FX p' y σ E q τ := by
  rw [flt_0 (by rw [h0]; exact Int32.le_refl _)] at e
  subst e
  exact ⟨h.1, hc, h.2.1, h.2.2⟩
theorem FX.eq {p' p : PT} {y : Nat} {σ τ : AH} {E : String} {q : Nat} (h : FX p y σ E q τ) (e : p'.2.2.2.2.2 = p.2.2.2.2.2) : FX p' y σ E q τ := by
  obtain ⟨h1, h2, h3, h4⟩ := h
  exact ⟨h1, by rw [e]; exact h2, by rw [e]; exact h3, h4⟩
theorem FX.tr {p : PT} {y : Nat} {σ σ' τ : AH} {E : String} {q : Nat} (k : kx y σ σ') (h : FX p y σ' E q τ) : FX p y σ E q τ := ⟨h.1, h.2.1, h.2.2.1, k.trx h.2.2.2⟩
theorem nhS_1 {lo hi : Int32} {p : PT} (h0 : p.2.2.2.2.2.1 = 0) (h : ¬ p.2.2.2.1 = 3) : nhS lo hi p = fltS 1 p := by rw [nhS, if_neg (fun q => h q.2)]
theorem nhS_2 {lo hi : Int32} {p : PT} (h0 : p.2.2.2.2.2.1 = 0) (h : p.2.2.2.1 = 3) (h2 : ¬ inR p.2.2.2.2.1 lo hi) : nhS lo hi p = fltS 2 p := by rw [nhS, if_pos ⟨h0, h⟩, if_neg h2]
theorem nhS_0 {lo hi : Int32} {p : PT} (h0 : p.2.2.2.2.2.1 = 0) (h : p.2.2.2.1 = 3) (h2 : inR p.2.2.2.2.1 lo hi) : nhS lo hi p = p ∧ nhV lo hi p = p.2.2.2.2.1 := by
  have e : nhS lo hi p = p := by rw [nhS, if_pos ⟨h0, h⟩, if_pos h2]
  exact ⟨e, by rw [nhV, e, if_pos (by rw [h0]; exact Int32.le_refl _)]⟩
theorem PR.kx {σ τ : AH} {y x bf n A : Nat} {S : Int32 → Nat} {B : AF} {mv : Value} {p : PT} {vs : List Value} (h : PR σ y x bf S B n mv p) (w : wfh σ) (k : ext σ τ) : PR τ y x bf S B n mv p := by
  obtain ⟨v, wd, h1, h2, h3⟩ := h
  exact ⟨v, wd, k.at w h1, h2.ex w k, h3⟩
set_option maxHeartbeats 400000 in
theorem c_pLook {l : Launch} {g : GC} (σ : AH) (y x bf n : Nat) (S : Int32 → Nat) (mv : Value) (B : AF) (p : PT) (lo hi : Int32) (h : PR σ y x bf S B n mv p) (hS : SRT g S) (h0 : p.2.2.2.2.2.1 = 0) : AMet l g mX3_look 6 2 [.ref y, .int lo, .int hi] σ (fun w τ => (nhS lo hi p).2.2.2.2.2.1 = 0 ∧ w = some (.int (nhV lo hi p)) ∧ τ = σ) (FX (nhS lo hi p) y σ) := by
  obtain ⟨v, wd, hC, hP, hv, h5, hcn, hsc⟩ := id h
  by_cases hk : p.2.2.2.1 = 3
  · skip
    have ev := hv hk
    rw [ev] at hC
    by_cases hr : inR p.2.2.2.2.1 lo hi
    · skip
      refine A_of rfl (by decide) (Nat.le_of_ble_eq_true rfl) (L0 := [(0, .ref y), (1, .int lo), (2, .int hi)]) rfl ?_
      refine A_wfh (fun wσ hgσ => ?_)
      refine A_aload_n (i := 0) dX3_look_0 rfl rfl ?_
      refine A_aload_n (i := 0) dX3_look_1 rfl rfl ?_
      refine A_getf cb_X3 hC 4 (Nat.le_of_ble_eq_true rfl) q688 rfl (v := .ref (S p.2.2.2.1)) rfl dX3_look_2 ?_
      refine A_getsO hS.2.2.2.1 q680 rfl dX3_look_5 ?_
      refine A_acmp_ne_f (tgt := 15) (x := (some (S p.2.2.2.1))) (y := (some (S 3))) dX3_look_8 (by decide) (by rw [hk]) ?_
      refine A_iconst (v := 1) dX3_look_11 (by decide) ?_
      refine A_goto (tgt := 16) dX3_look_12 (by decide) ?_
      refine A_iconst (v := 1) dX3_look_16 (by decide) ?_
      refine A_callV2E (b' := 2) (v := none) (τ := σ) (c_pChk σ y 1) tX3_check q722 hC rfl rfl dX3_look_17 (by decide) (Nat.le_of_ble_eq_true rfl) (Nat.le_of_ble_eq_true rfl) ?_
      refine A_aload_n (i := 0) dX3_look_20 rfl rfl ?_
      refine A_aload_n (i := 0) dX3_look_21 rfl rfl ?_
      refine A_getf cb_X3 hC 3 (Nat.le_of_ble_eq_true rfl) q687 rfl (v := .int p.2.2.2.2.1) rfl dX3_look_22 ?_
      refine A_i2l dX3_look_25 rfl ?_
      refine A_iload_n (i := 1) dX3_look_26 rfl rfl ?_
      refine A_i2l dX3_look_27 rfl ?_
      refine A_iload_n (i := 2) dX3_look_28 rfl rfl ?_
      refine A_i2l dX3_look_29 rfl ?_
      refine A_callSN3E (b' := 2) (v := some (.int (bi (inR p.2.2.2.2.1 lo hi)))) (τ := σ) (c_in1 σ _ _ _ p.2.2.2.2.1 lo hi rfl rfl rfl) tX1_in q424 dX3_look_30 (by decide) (Nat.le_of_ble_eq_true rfl) (Nat.le_of_ble_eq_true rfl) ?_
      refine A_int (w := 1) (bi_t hr) ?_
      refine A_iconst (v := 2) dX3_look_33 (by decide) ?_
      refine A_callV2E (b' := 2) (v := none) (τ := σ) (c_pChk σ y 2) tX3_check q722 hC rfl rfl dX3_look_34 (by decide) (Nat.le_of_ble_eq_true rfl) (Nat.le_of_ble_eq_true rfl) ?_
      refine A_aload_n (i := 0) dX3_look_37 rfl rfl ?_
      refine A_getf cb_X3 hC 3 (Nat.le_of_ble_eq_true rfl) q687 rfl (v := .int p.2.2.2.2.1) rfl dX3_look_38 ?_
      exact A_iret dX3_look_41 rfl (⟨by rw [(nhS_0 h0 hk hr).1]; exact h0, by rw [(nhS_0 h0 hk hr).2], rfl⟩)
    · skip
      refine A_of rfl (by decide) (Nat.le_of_ble_eq_true rfl) (L0 := [(0, .ref y), (1, .int lo), (2, .int hi)]) rfl ?_
      refine A_wfh (fun wσ hgσ => ?_)
      refine A_aload_n (i := 0) dX3_look_0 rfl rfl ?_
      refine A_aload_n (i := 0) dX3_look_1 rfl rfl ?_
      refine A_getf cb_X3 hC 4 (Nat.le_of_ble_eq_true rfl) q688 rfl (v := .ref (S p.2.2.2.1)) rfl dX3_look_2 ?_
      refine A_getsO hS.2.2.2.1 q680 rfl dX3_look_5 ?_
      refine A_acmp_ne_f (tgt := 15) (x := (some (S p.2.2.2.1))) (y := (some (S 3))) dX3_look_8 (by decide) (by rw [hk]) ?_
      refine A_iconst (v := 1) dX3_look_11 (by decide) ?_
      refine A_goto (tgt := 16) dX3_look_12 (by decide) ?_
      refine A_iconst (v := 1) dX3_look_16 (by decide) ?_
      refine A_callV2E (b' := 2) (v := none) (τ := σ) (c_pChk σ y 1) tX3_check q722 hC rfl rfl dX3_look_17 (by decide) (Nat.le_of_ble_eq_true rfl) (Nat.le_of_ble_eq_true rfl) ?_
      refine A_aload_n (i := 0) dX3_look_20 rfl rfl ?_
      refine A_aload_n (i := 0) dX3_look_21 rfl rfl ?_
      refine A_getf cb_X3 hC 3 (Nat.le_of_ble_eq_true rfl) q687 rfl (v := .int p.2.2.2.2.1) rfl dX3_look_22 ?_
      refine A_i2l dX3_look_25 rfl ?_
      refine A_iload_n (i := 1) dX3_look_26 rfl rfl ?_
      refine A_i2l dX3_look_27 rfl ?_
      refine A_iload_n (i := 2) dX3_look_28 rfl rfl ?_
      refine A_i2l dX3_look_29 rfl ?_
      refine A_callSN3E (b' := 2) (v := some (.int (bi (inR p.2.2.2.2.1 lo hi)))) (τ := σ) (c_in1 σ _ _ _ p.2.2.2.2.1 lo hi rfl rfl rfl) tX1_in q424 dX3_look_30 (by decide) (Nat.le_of_ble_eq_true rfl) (Nat.le_of_ble_eq_true rfl) ?_
      refine A_int (w := 0) (bi_f hr) ?_
      refine A_iconst (v := 2) dX3_look_33 (by decide) ?_
      refine A_callV2 (b' := 0) (c_pChkNo σ y n p.2.1 p.2.2.1 x p.2.2.2.2.1 (S p.2.2.2.1) wd mv 2 hC) tX3_check q722 hC rfl rfl dX3_look_34 (by decide) (Nat.le_of_ble_eq_true rfl) (Nat.le_of_ble_eq_true rfl) (fun w9 τ9 h9 => h9.elim) (fun E9 q9 τ9 h9 => A_out rfl (FX.of h9 h0 (by decide) (nhS_2 h0 hk hr)))
  · skip
    · skip
      refine A_of rfl (by decide) (Nat.le_of_ble_eq_true rfl) (L0 := [(0, .ref y), (1, .int lo), (2, .int hi)]) rfl ?_
      refine A_wfh (fun wσ hgσ => ?_)
      refine A_aload_n (i := 0) dX3_look_0 rfl rfl ?_
      refine A_aload_n (i := 0) dX3_look_1 rfl rfl ?_
      refine A_getf cb_X3 hC 4 (Nat.le_of_ble_eq_true rfl) q688 rfl (v := .ref (S p.2.2.2.1)) rfl dX3_look_2 ?_
      refine A_getsO hS.2.2.2.1 q680 rfl dX3_look_5 ?_
      refine A_acmp_ne_t (tgt := 15) (x := (some (S p.2.2.2.1))) (y := (some (S 3))) dX3_look_8 (by decide) ((hS.ne h5 (Or.inr (Or.inr (Or.inr (Or.inl rfl)))) hk)) ?_
      refine A_iconst (v := 0) dX3_look_15 (by decide) ?_
      refine A_iconst (v := 1) dX3_look_16 (by decide) ?_
      refine A_callV2 (b' := 0) (c_pChkNo σ y n p.2.1 p.2.2.1 x v (S p.2.2.2.1) wd mv 1 hC) tX3_check q722 hC rfl rfl dX3_look_17 (by decide) (Nat.le_of_ble_eq_true rfl) (Nat.le_of_ble_eq_true rfl) (fun w9 τ9 h9 => h9.elim) (fun E9 q9 τ9 h9 => A_out rfl (FX.of h9 h0 (by decide) (nhS_1 h0 hk)))
theorem nh_ok0 {lo hi : Int32} {p : PT} (h : (nhS lo hi p).2.2.2.2.2.1 = 0) : nhS lo hi p = p := (nh_in (by rw [h]; exact Int32.le_refl _)).2.1
set_option maxHeartbeats 400000 in
theorem c_pNum {l : Launch} {g : GC} (σ : AH) (y x bf n : Nat) (S : Int32 → Nat) (mv : Value) (B : AF) (p : PT) (lo hi : Int32) (h : PR σ y x bf S B n mv p) (hS : SRT g S) (h0 : p.2.2.2.2.2.1 = 0) : AMet l g mX3_number 9 10 [.ref y, .int lo, .int hi] σ (fun w τ => (nuS B n lo hi p).2.2.2.2.2.1 = 0 ∧ w = some (.int (nhV lo hi p)) ∧ PRW g τ y x bf S B n mv (nuS B n lo hi p) ∧ kx y σ τ) (FX (nuS B n lo hi p) y σ) := by
  refine A_of rfl (by decide) (Nat.le_of_ble_eq_true rfl) (L0 := [(0, .ref y), (1, .int lo), (2, .int hi)]) rfl ?_
  obtain ⟨v, wd, hC, hP, hv, h5, hcn, hsc⟩ := id h
  refine A_aload_n (i := 0) dX3_number_0 rfl rfl ?_
  refine A_iload_n (i := 1) dX3_number_1 rfl rfl ?_
  refine A_iload_n (i := 2) dX3_number_2 rfl rfl ?_
  refine A_callV2 (b' := 8) (c_pLook σ y x bf n S mv B p lo hi h hS h0) tX3_look q760 hC rfl rfl dX3_number_3 (by decide) (Nat.le_of_ble_eq_true rfl) (Nat.le_of_ble_eq_true rfl) (fun w9 τ9 h9 => ?_) (fun E9 q9 τ9 h9 => A_out rfl (h9.eq (nu_pc B n lo hi p)))
  obtain ⟨hc9, e9, et9⟩ := h9
  subst e9
  rw [et9]
  refine A_istore_n (i := 3) dX3_number_6 rfl (Nat.le_of_ble_eq_true rfl) ?_
  refine A_aload_n (i := 0) dX3_number_7 rfl rfl ?_
  refine A_callV0 (b' := 0) (c_pStep σ y x bf n S mv B p h hS h0) tX3_step q414 hC rfl rfl dX3_number_8 (by decide) (Nat.le_of_ble_eq_true rfl) (Nat.le_of_ble_eq_true rfl) (fun w9 τ8 h8 => ?_) (fun E9 q9 τ9 h9 => h9.elim)
  obtain ⟨e8, hW8, k8⟩ := h8
  subst e8
  refine A_iload_n (i := 3) dX3_number_11 rfl rfl ?_
  exact A_iret dX3_number_12 rfl (⟨by rw [congrArg (fun z : Int32 × Int32 => z.1) (nu_pc B n lo hi p)]; exact hc9, rfl, by rw [nuS, nh_ok0 hc9]; exact hW8, k8⟩)
theorem bg_0 {B : AF} {n k : Nat} {m : Int32} {p : PT} (h : ¬ p.1 k = m) : bgS B n k m p = goesS B n p := by rw [bgS, if_neg h]
theorem bg_4 {B : AF} {n k : Nat} {m : Int32} {p : PT} (h : p.1 k = m) : (bgS B n k m p).2.2.2.2.2 = (fltS 4 p).2.2.2.2.2 := by rw [bgS, if_pos h]; exact goes_pc _ _ _
set_option maxHeartbeats 400000 in
theorem c_pBeg {l : Launch} {g : GC} (σ : AH) (y x bf n : Nat) (S : Int32 → Nat) (mv : Value) (B : AF) (p : PT) (k : Nat) (a m : Int32) (h : PR σ y x bf S B n mv p) (hS : SRT g S) (h0 : p.2.2.2.2.2.1 = 0) (hlt : a < m ↔ ¬ p.1 k = m) : AMet l g mX3_begins 9 8 [.ref y, .int a, .int m] σ (fun w τ => (bgS B n k m p).2.2.2.2.2.1 = 0 ∧ w = none ∧ PRW g τ y x bf S B n mv (bgS B n k m p) ∧ kx y σ τ) (FX (bgS B n k m p) y σ) := by
  obtain ⟨v, wd, hC, hP, hv, h5, hcn, hsc⟩ := id h
  by_cases hk : ¬ p.1 k = m
  · skip
    refine A_of rfl (by decide) (Nat.le_of_ble_eq_true rfl) (L0 := [(0, .ref y), (1, .int a), (2, .int m)]) rfl ?_
    refine A_wfh (fun wσ hgσ => ?_)
    refine A_aload_n (i := 0) dX3_begins_0 rfl rfl ?_
    refine A_iload_n (i := 1) dX3_begins_1 rfl rfl ?_
    refine A_iload_n (i := 2) dX3_begins_2 rfl rfl ?_
    refine A_icmp_ge_f (tgt := 10) dX3_begins_3 (by decide) ((Int32.not_le.mpr (hlt.mpr hk))) ?_
    refine A_iconst (v := 1) dX3_begins_6 (by decide) ?_
    refine A_goto (tgt := 11) dX3_begins_7 (by decide) ?_
    refine A_iconst (v := 4) dX3_begins_11 (by decide) ?_
    refine A_callV2E (b' := 8) (v := none) (τ := σ) (c_pChk σ y 4) tX3_check q722 hC rfl rfl dX3_begins_12 (by decide) (Nat.le_of_ble_eq_true rfl) (Nat.le_of_ble_eq_true rfl) ?_
    refine A_aload_n (i := 0) dX3_begins_15 rfl rfl ?_
    refine A_callV0 (b' := 0) (c_pStep σ y x bf n S mv B p h hS h0) tX3_step q414 hC rfl rfl dX3_begins_16 (by decide) (Nat.le_of_ble_eq_true rfl) (Nat.le_of_ble_eq_true rfl) (fun w9 τ8 h8 => ?_) (fun E9 q9 τ9 h9 => h9.elim)
    obtain ⟨e8, hW8, k8⟩ := h8
    subst e8
    exact A_vret dX3_begins_19 rfl (⟨by rw [bg_0 hk, congrArg (fun z : Int32 × Int32 => z.1) (goes_pc B n p)]; exact h0, rfl, by rw [bg_0 hk]; exact hW8, k8⟩)
  · skip
    refine A_of rfl (by decide) (Nat.le_of_ble_eq_true rfl) (L0 := [(0, .ref y), (1, .int a), (2, .int m)]) rfl ?_
    refine A_wfh (fun wσ hgσ => ?_)
    refine A_aload_n (i := 0) dX3_begins_0 rfl rfl ?_
    refine A_iload_n (i := 1) dX3_begins_1 rfl rfl ?_
    refine A_iload_n (i := 2) dX3_begins_2 rfl rfl ?_
    refine A_icmp_ge_t (tgt := 10) dX3_begins_3 (by decide) ((Int32.not_lt.mp (fun q => hk (hlt.mp q)))) ?_
    refine A_iconst (v := 0) dX3_begins_10 (by decide) ?_
    refine A_iconst (v := 4) dX3_begins_11 (by decide) ?_
    refine A_callV2 (b' := 0) (c_pChkNo σ y n p.2.1 p.2.2.1 x v (S p.2.2.2.1) wd mv 4 hC) tX3_check q722 hC rfl rfl dX3_begins_12 (by decide) (Nat.le_of_ble_eq_true rfl) (Nat.le_of_ble_eq_true rfl) (fun w9 τ9 h9 => h9.elim) (fun E9 q9 τ9 h9 => A_out rfl ((FX.of (p' := fltS 4 p) h9 h0 (by decide) rfl).eq (bg_4 (Classical.byContradiction hk))))
