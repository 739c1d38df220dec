/-! FLAGLAUNDRY 12: restore; append; small answers -/
theorem q_restore {l : Launch} {g : GC} (σ : AH) (x bf dq sv ou : Nat) (bd pe ep : Int32) (nv : Value) (da hq u : Nat) (e : Nat → Nat) (fs : Nat → Option Nat) (isv S : AF) (Vs : Nat → WA) (h : Int32) (hX : σ.1 x = some (lauC bf bd pe ep nv dq sv ou)) (hQ : DQ σ dq da hq u e) (hS : σ.1 sv = some (.inl (.object "FlagLaundry$World", 2, .inr (.inr (.inr (.inr fs)))))) (hV : ∀ s, s < 2 → (isv s = 0 ∧ fs s = none) ∨ (¬ isv s = 0 ∧ fs s = some (wW (Vs s)) ∧ σ.1 (wW (Vs s)) = some (wldC (Vs s) (wld S s)))) : AMet l g mX1_restore 8 2 [.ref x, .int h] σ (fun w τ => (mayT (bi (inR h 0 1)) (bi (inR h 0 1 ∧ ¬ isv (ix h) = 0)) 1) = 0 ∧ w = some (.int (wld S (ix h) 0)) ∧ ∃ h', τ.1 x = some (lauC bf bd pe ep (.ref (wW (Vs (ix h)))) dq sv ou) ∧ DQ τ dq da h' 0 e ∧ fra [x, dq, da] σ τ ∧ nw σ τ) (A_thr ["java/lang/IndexOutOfBoundsException", "java/lang/IllegalStateException"] (mayT (bi (inR h 0 1)) (bi (inR h 0 1 ∧ ¬ isv (ix h) = 0)) 1) σ) := by
  have hxq : ¬ x = dq := ne_of hX hQ.2.2.1 (fun q => by simp at q)
  have hxa : ¬ x = da := by obtain ⟨_, _, _, f, hA, _⟩ := hQ; exact ne_of hX hA (fun q => by simp at q)
  by_cases ck1 : inR h 0 1
  · refine id ?_
    obtain ⟨jh, hjh, rfl⟩ := in6_ex (n := 1) (by decide) ck1
    have bjh : jh < 2000 := Nat.lt_of_le_of_lt hjh (by decide)
    rcases hV jh (Nat.lt_succ_of_le hjh) with ⟨hi, hf⟩ | ⟨hi, hf, hC⟩
    · skip
      refine A_of rfl (by decide) (Nat.le_of_ble_eq_true rfl) (L0 := [(0, .ref x), (1, .int (nI jh))]) rfl ?_
      refine A_wfh (fun wσ hgσ => ?_)
      have yσ : ext σ σ := ext.rf
      refine A_iload_n (i := 1) dX1_restore_0 rfl rfl ?_
      refine A_iconst (v := 2) dX1_restore_1 (by decide) ?_
      refine A_callS2E (b' := 2) (v := none) (τ := σ) (c_cIdx σ (nI jh) 2 ck1) tX1_checkIndex q378 dX1_restore_2 (by decide) (Nat.le_of_ble_eq_true rfl) (Nat.le_of_ble_eq_true rfl) ?_
      refine A_aload_n (i := 0) dX1_restore_5 rfl rfl ?_
      refine A_getf cb_X1 hX 6 (Nat.le_of_ble_eq_true rfl) q244 rfl (v := .ref sv) rfl dX1_restore_6 ?_
      refine A_iload_n (i := 1) dX1_restore_9 rfl rfl ?_
      refine A_aald hS (by decide) (vp_in_nI (Nat.lt_succ_of_le hjh) (by decide)) (v := .null) (by rw [nI_clamp (Nat.lt_trans bjh (by decide)), hf]; rfl) dX1_restore_10 ?_
      refine A_ifnullN (tgt := 18) dX1_restore_11 (by decide) ?_
      refine A_iconst (v := 0) dX1_restore_18 (by decide) ?_
      refine A_callS1 (b' := 0) (c_cSta_no σ 0 rfl) tX1_checkState q1387 dX1_restore_19 (by decide) (Nat.le_of_ble_eq_true rfl) (Nat.le_of_ble_eq_true rfl) (fun w9 τ9 h9 => h9.elim) (fun E9 q9 τ9 h9 => A_out rfl (⟨yσ.tr h9.2, 1, by rw [h9.1]; rfl, by rw [mayQ_2 (bi_n ck1) (bi_f (fun q => q.2 (by rw [ixn bjh]; exact hi)))]; rfl⟩))
    · skip
      refine A_of rfl (by decide) (Nat.le_of_ble_eq_true rfl) (L0 := [(0, .ref x), (1, .int (nI jh))]) rfl ?_
      refine A_wfh (fun wσ hgσ => ?_)
      have yσ : ext σ σ := ext.rf
      refine A_iload_n (i := 1) dX1_restore_0 rfl rfl ?_
      refine A_iconst (v := 2) dX1_restore_1 (by decide) ?_
      refine A_callS2E (b' := 2) (v := none) (τ := σ) (c_cIdx σ (nI jh) 2 ck1) tX1_checkIndex q378 dX1_restore_2 (by decide) (Nat.le_of_ble_eq_true rfl) (Nat.le_of_ble_eq_true rfl) ?_
      refine A_aload_n (i := 0) dX1_restore_5 rfl rfl ?_
      refine A_getf cb_X1 hX 6 (Nat.le_of_ble_eq_true rfl) q244 rfl (v := .ref sv) rfl dX1_restore_6 ?_
      refine A_iload_n (i := 1) dX1_restore_9 rfl rfl ?_
      refine A_aald hS (by decide) (vp_in_nI (Nat.lt_succ_of_le hjh) (by decide)) (v := .ref (wW (Vs jh))) (by rw [nI_clamp (Nat.lt_trans bjh (by decide)), hf]; rfl) dX1_restore_10 ?_
      refine A_ifnull dX1_restore_11 ?_
      refine A_iconst (v := 1) dX1_restore_14 (by decide) ?_
      refine A_goto (tgt := 19) dX1_restore_15 (by decide) ?_
      refine A_callS1E (b' := 2) (v := none) (τ := σ) (c_cSta σ 1 (by decide)) tX1_checkState q1387 dX1_restore_19 (by decide) (Nat.le_of_ble_eq_true rfl) (Nat.le_of_ble_eq_true rfl) ?_
      refine A_aload_n (i := 0) dX1_restore_22 rfl rfl ?_
      refine A_aload_n (i := 0) dX1_restore_23 rfl rfl ?_
      refine A_getf cb_X1 hX 6 (Nat.le_of_ble_eq_true rfl) q244 rfl (v := .ref sv) rfl dX1_restore_24 ?_
      refine A_iload_n (i := 1) dX1_restore_27 rfl rfl ?_
      refine A_aald hS (by decide) (vp_in_nI (Nat.lt_succ_of_le hjh) (by decide)) (v := .ref (wW (Vs jh))) (by rw [nI_clamp (Nat.lt_trans bjh (by decide)), hf]; rfl) dX1_restore_28 ?_
      refine A_putf cb_X1 hX 4 (Nat.le_of_ble_eq_true rfl) q242 rfl rfl rfl rfl (Nat.le_of_ble_eq_true rfl) dX1_restore_29 ?_
      obtain ⟨σ1, eσ1⟩ : ∃ τ, τ = h_put σ x (.inr (.inl (0, [.ref bf, .int bd, .int pe, .int ep, .ref (wW (Vs jh)), .ref dq, .ref sv, .ref ou]))) := ⟨_, rfl⟩
      refine A_st (σ' := σ1) eσ1.symm ?_
      have wσ1 : wfh σ1 := by rw [eσ1]; exact wσ.put hX
      have fσ1_0 : σ1.1 x = some (.inr (.inl (0, [.ref bf, .int bd, .int pe, .int ep, .ref (wW (Vs jh)), .ref dq, .ref sv, .ref ou]))) := by rw [eσ1]; exact if_pos rfl
      have fσ1_1 : σ1.1 dq = some (dqC da hq u) := by rw [eσ1]; exact (hp_ne (ne_of (x := dqC da hq u) (y := .inr (.inl (0, [.ref bf, .int bd, .int pe, .int ep, nv, .ref dq, .ref sv, .ref ou]))) hQ.2.2.1 hX (fun e8 => by simp at e8))).trans hQ.2.2.1
      have fσ1_2 : σ1.1 sv = some (.inl (.object "FlagLaundry$World", 2, .inr (.inr (.inr (.inr fs))))) := by rw [eσ1]; exact (hp_ne (ne_of (x := .inl (.object "FlagLaundry$World", 2, .inr (.inr (.inr (.inr fs))))) (y := .inr (.inl (0, [.ref bf, .int bd, .int pe, .int ep, nv, .ref dq, .ref sv, .ref ou]))) hS hX (fun e8 => by simp at e8))).trans hS
      have fσ1_3 : σ1.1 (wW (Vs jh)) = some (.inr (.inl (4, [.int (wld S jh 9), .ref (wR (Vs jh)), .ref (wM (Vs jh)), .ref (wNL (Vs jh)), .ref (wFL (Vs jh)), .ref (wUN (Vs jh)), .int (wld S jh 6), .int (wld S jh 8), .int (wld S jh 0), .int (wld S jh 1), .int (wld S jh 2), .int (wld S jh 3), .int (wld S jh 4), .int (wld S jh 5), .int (wld S jh 11)]))) := by rw [eσ1]; exact (hp_ne (ne_of (x := .inr (.inl (4, [.int (wld S jh 9), .ref (wR (Vs jh)), .ref (wM (Vs jh)), .ref (wNL (Vs jh)), .ref (wFL (Vs jh)), .ref (wUN (Vs jh)), .int (wld S jh 6), .int (wld S jh 8), .int (wld S jh 0), .int (wld S jh 1), .int (wld S jh 2), .int (wld S jh 3), .int (wld S jh 4), .int (wld S jh 5), .int (wld S jh 11)]))) (y := .inr (.inl (0, [.ref bf, .int bd, .int pe, .int ep, nv, .ref dq, .ref sv, .ref ou]))) hC hX (fun e8 => by simp at e8))).trans hC
      have kx9 : kx x σ σ1 := by rw [eσ1]; exact kx.rf.put
      have hQv := hQ.kx wσ hX (fun vs q => by simp at q) (fun v q => by simp at q) kx9
      have nσ1 : nw σ σ1 := nw.rf.kx wσ hX (isW_no (by decide)) kx9
      refine A_aload_n (i := 0) dX1_restore_32 rfl rfl ?_
      refine A_getf cb_X1 fσ1_0 5 (Nat.le_of_ble_eq_true rfl) q243 rfl (v := .ref dq) rfl dX1_restore_33 ?_
      refine A_callV0 (b' := 2) (c_dqClear σ1 dq da hq u e hQv) tJ1_clear q1362 fσ1_1 rfl rfl dX1_restore_36 (by decide) (Nat.le_of_ble_eq_true rfl) (Nat.le_of_ble_eq_true rfl) (fun w9 τ9 h9 => ?_) (fun E9 q9 τ9 h9 => h9.elim)
      obtain ⟨e9, hd9, k9⟩ := h9
      subst e9
      refine A_wfh (fun wτ9 hgτ9 => ?_)
      have fx9 : τ9.1 x = some (.inr (.inl (0, [.ref bf, .int bd, .int pe, .int ep, .ref (wW (Vs jh)), .ref dq, .ref sv, .ref ou]))) := k9.at wσ1 fσ1_0 hxq hxa
      have n9 : nw σ τ9 := (hQv.nw nσ1 wσ1 k9)
      have fc9 : τ9.1 (wW (Vs jh)) = some (.inr (.inl (4, [.int (wld S jh 9), .ref (wR (Vs jh)), .ref (wM (Vs jh)), .ref (wNL (Vs jh)), .ref (wFL (Vs jh)), .ref (wUN (Vs jh)), .int (wld S jh 6), .int (wld S jh 8), .int (wld S jh 0), .int (wld S jh 1), .int (wld S jh 2), .int (wld S jh 3), .int (wld S jh 4), .int (wld S jh 5), .int (wld S jh 11)]))) := n9.2 _ _ hC (Or.inl ⟨_, _, rfl, by decide⟩)
      have fr9 : fra [x, dq, da] σ τ9 := (fra.rf.kx (by simp) kx9).k2 (by simp) (by simp) k9
      refine A_aload_n (i := 0) dX1_restore_39 rfl rfl ?_
      refine A_getf cb_X1 fx9 4 (Nat.le_of_ble_eq_true rfl) q242 rfl (v := .ref (wW (Vs jh))) rfl dX1_restore_40 ?_
      refine A_getfN cb_X5 fc9 8 (Nat.le_of_ble_eq_true rfl) q844 rfl (v := .int (wld S jh 0)) rfl dX1_restore_43 ?_
      exact A_iret dX1_restore_46 rfl (⟨mayQ_0 (bi_n ck1) (bi_n ⟨ck1, by rw [ixn bjh]; exact hi⟩) (by decide), by rw [ixn bjh], _, by rw [ixn bjh]; exact fx9, hd9, fr9, n9⟩)
  · refine id ?_
    · skip
      refine A_of rfl (by decide) (Nat.le_of_ble_eq_true rfl) (L0 := [(0, .ref x), (1, .int h)]) rfl ?_
      refine A_wfh (fun wσ hgσ => ?_)
      have yσ : ext σ σ := ext.rf
      refine A_iload_n (i := 1) dX1_restore_0 rfl rfl ?_
      refine A_iconst (v := 2) dX1_restore_1 (by decide) ?_
      refine A_callS2 (b' := 0) (c_cIdx_no σ h 2 ck1) tX1_checkIndex q378 dX1_restore_2 (by decide) (Nat.le_of_ble_eq_true rfl) (Nat.le_of_ble_eq_true rfl) (fun w9 τ9 h9 => h9.elim) (fun E9 q9 τ9 h9 => A_out rfl (⟨yσ.tr h9.2, 0, by rw [h9.1]; rfl, by rw [mayQ_1 (bi_f ck1)]; rfl⟩))
theorem q_parseError {l : Launch} {g : GC} (σ : AH) (x bf dq sv ou : Nat) (bd pe ep : Int32) (nv : Value) (hX : σ.1 x = some (lauC bf bd pe ep nv dq sv ou)) : AMet l g mX1_parseError 1 0 [.ref x] σ (A_eq (some (.int pe)) σ) (A_no) := by
  refine A_of rfl (by decide) (Nat.le_of_ble_eq_true rfl) (L0 := [(0, .ref x)]) rfl ?_
  refine A_aload_n (i := 0) dX1_parseError_0 rfl rfl ?_
  refine A_getf cb_X1 hX 2 (Nat.le_of_ble_eq_true rfl) q240 rfl (v := .int pe) rfl dX1_parseError_1 ?_
  exact A_iret dX1_parseError_4 rfl (⟨rfl, rfl⟩)
theorem q_errorPosition {l : Launch} {g : GC} (σ : AH) (x bf dq sv ou : Nat) (bd pe ep : Int32) (nv : Value) (hX : σ.1 x = some (lauC bf bd pe ep nv dq sv ou)) : AMet l g mX1_errorPosition 1 0 [.ref x] σ (A_eq (some (.int ep)) σ) (A_no) := by
  refine A_of rfl (by decide) (Nat.le_of_ble_eq_true rfl) (L0 := [(0, .ref x)]) rfl ?_
  refine A_aload_n (i := 0) dX1_errorPosition_0 rfl rfl ?_
  refine A_getf cb_X1 hX 3 (Nat.le_of_ble_eq_true rfl) q241 rfl (v := .int ep) rfl dX1_errorPosition_1 ?_
  exact A_iret dX1_errorPosition_4 rfl (⟨rfl, rfl⟩)
theorem q_buffered {l : Launch} {g : GC} (σ : AH) (x bf dq sv ou : Nat) (bd pe ep : Int32) (nv : Value) (hX : σ.1 x = some (lauC bf bd pe ep nv dq sv ou)) : AMet l g mX1_buffered 1 0 [.ref x] σ (A_eq (some (.int bd)) σ) (A_no) := by
  refine A_of rfl (by decide) (Nat.le_of_ble_eq_true rfl) (L0 := [(0, .ref x)]) rfl ?_
  refine A_aload_n (i := 0) dX1_buffered_0 rfl rfl ?_
  refine A_getf cb_X1 hX 1 (Nat.le_of_ble_eq_true rfl) q239 rfl (v := .int bd) rfl dX1_buffered_1 ?_
  exact A_iret dX1_buffered_4 rfl (⟨rfl, rfl⟩)
theorem fra.new {l : List Nat} {σ τ : AH} {c : AE} (h : fra l σ τ) : fra l σ (h_new τ c) := h.ex (ext_new _ _)
theorem fra.put {l : List Nat} {σ τ : AH} {a : Nat} {c : AE} (h : fra l σ τ) (ha : a ∈ l) : fra l σ (h_put τ a c) := h.kx ha kx.rf.put
theorem fra.putF {l : List Nat} {σ τ : AH} {a : Nat} {c : AE} (h : fra l σ τ) (ha : σ.2 ≤ a) : fra l σ (h_put τ a c) := ⟨h.1, fun b hb hl => (hp_ne (Nat.ne_of_lt (Nat.lt_of_lt_of_le hb ha))).trans (h.2 b hb hl)⟩
theorem le480' {k : Nat} (hk : k ≤ 500) : nI k + 20 ≤ 500 ↔ k ≤ 480 := by
  rw [show (20 : Int32) = nI 20 from rfl, nI_add]
  have := nI_lei (by omega : k + 20 < 2 ^ 31) (by decide : 500 < 2 ^ 31)
  exact this.trans ⟨fun h => by omega, fun h => by omega⟩
theorem q_append0 {l : Launch} {g : GC} (σ : AH) (x bf dq sv ou k : Nat) (pe ep : Int32) (nv : Value) (B : AF) (a b c d e : Int32) (hX : σ.1 x = some (lauC bf (nI k) pe ep nv dq sv ou)) (hB : σ.1 bf = some (.inl (.byte, 500, .inl B))) (hk : ¬ k ≤ 480) (hk5 : k ≤ 500) : AMet l g mX1_append 1 0 [.ref x, .int a, .int b, .int c, .int d, .int e] σ (A_eq (some (.int (-1))) σ) (A_no) := by
  refine A_of rfl (by decide) (Nat.le_of_ble_eq_true rfl) (L0 := [(0, .ref x), (1, .int a), (2, .int b), (3, .int c), (4, .int d), (5, .int e)]) rfl ?_
  refine A_aload_n (i := 0) dX1_append_0 rfl rfl ?_
  refine A_getf cb_X1 hX 1 (Nat.le_of_ble_eq_true rfl) q239 rfl (v := .int (nI k)) rfl dX1_append_1 ?_
  refine A_bipush (v := 20) dX1_append_4 (by decide) ?_
  refine A_iadd dX1_append_6 ?_
  refine A_int (w := (nI k + 20)) (rfl) ?_
  refine A_sipush (v := 500) dX1_append_7 (by decide) ?_
  refine A_icmp_le_f (tgt := 15) dX1_append_10 (by decide) ((fun q => hk ((le480' hk5).mp q))) ?_
  refine A_iconst (v := (-1)) dX1_append_13 (by decide) ?_
  exact A_iret dX1_append_14 rfl (⟨rfl, rfl⟩)
theorem q_append1 {l : Launch} {g : GC} (σ : AH) (x bf dq sv ou k : Nat) (pe ep : Int32) (nv : Value) (B : AF) (a b c d e : Int32) (hX : σ.1 x = some (lauC bf (nI k) pe ep nv dq sv ou)) (hB : σ.1 bf = some (.inl (.byte, 500, .inl B))) (hk : k ≤ 480) : AMet l g mX1_append 1 2 [.ref x, .int a, .int b, .int c, .int d, .int e] σ (fun w τ => w = some (.int (nI (k + 20))) ∧ τ.1 x = some (lauC bf (nI (k + 20)) pe ep nv dq sv ou) ∧ τ.1 bf = some (.inl (.byte, 500, .inl (app5 B k a b c d e))) ∧ fra [x, bf] σ τ ∧ nw σ τ) (A_no) := by
  refine A_of rfl (by decide) (Nat.le_of_ble_eq_true rfl) (L0 := [(0, .ref x), (1, .int a), (2, .int b), (3, .int c), (4, .int d), (5, .int e)]) rfl ?_
  refine A_wfh (fun wσ hgσ => ?_)
  have nσ : nw σ σ := nw.rf
  refine A_aload_n (i := 0) dX1_append_0 rfl rfl ?_
  refine A_getf cb_X1 hX 1 (Nat.le_of_ble_eq_true rfl) q239 rfl (v := .int (nI k)) rfl dX1_append_1 ?_
  refine A_bipush (v := 20) dX1_append_4 (by decide) ?_
  refine A_iadd dX1_append_6 ?_
  refine A_int (w := (nI k + 20)) (rfl) ?_
  refine A_sipush (v := 500) dX1_append_7 (by decide) ?_
  refine A_icmp_le_t (tgt := 15) dX1_append_10 (by decide) (((le480' (by omega)).mpr hk)) ?_
  refine A_iconst (v := 5) dX1_append_15 (by decide) ?_
  refine A_newa (b' := 0) (u := 2) (ta := .int) (atype := .int) rfl (by decide) q267 (a0 := (5, .inl (fun _ => 0))) (fun _ => rfl) (by decide) (n' := 5) (by decide) (by decide) (Nat.le_of_ble_eq_true rfl) ⟨Nat.le_of_ble_eq_true rfl, Nat.le_of_ble_eq_true rfl⟩ dX1_append_16 ?_
  obtain ⟨σ1, eσ1⟩ : ∃ τ, τ = h_new σ (.inl (.int, 5, .inl (fun _ => 0))) := ⟨_, rfl⟩
  refine A_st (σ' := σ1) eσ1.symm ?_
  have wσ1 : wfh σ1 := by rw [eσ1]; exact wσ.new
  have fσ1_0 : σ1.1 x = some (.inr (.inl (0, [.ref bf, .int (nI k), .int pe, .int ep, nv, .ref dq, .ref sv, .ref ou]))) := by rw [eσ1]; exact (hn_ne (Nat.ne_of_lt (wσ _ _ hX))).trans hX
  have fσ1_1 : σ1.1 bf = some (.inl (.byte, 500, .inl B)) := by rw [eσ1]; exact (hn_ne (Nat.ne_of_lt (wσ _ _ hB))).trans hB
  have fσ1_2 : σ1.1 σ.2 = some (.inl (.int, 5, .inl (fun _ => 0))) := by rw [eσ1]; exact if_pos rfl
  have xσ1 : ext σ σ1 := by rw [eσ1]; exact ext_new _ _
  have nσ1 : nw σ σ1 := by rw [eσ1]; exact nσ.new wσ
  refine A_dup dX1_append_18 rfl ?_
  refine A_iconst (v := 0) dX1_append_19 (by decide) ?_
  refine A_iload_n (i := 1) dX1_append_20 rfl rfl ?_
  refine A_iast fσ1_2 (by unfold vp_in; decide) dX1_append_21 ?_
  refine A_st (σ' := h_put σ1 σ.2 (.inl (.int, 5, .inl (va_up (fun _ => 0) 0 a)))) (by rw [show ((0 : Int32)).toNatClampNeg = 0 from rfl] <;> rfl) ?_
  obtain ⟨σ2, eσ2⟩ : ∃ τ, τ = h_put σ1 σ.2 (.inl (.int, 5, .inl (va_up (fun _ => 0) 0 a))) := ⟨_, rfl⟩
  refine A_st (σ' := σ2) eσ2.symm ?_
  have wσ2 : wfh σ2 := by rw [eσ2]; exact wσ1.put fσ1_2
  have fσ2_0 : σ2.1 x = some (.inr (.inl (0, [.ref bf, .int (nI k), .int pe, .int ep, nv, .ref dq, .ref sv, .ref ou]))) := by rw [eσ2]; exact (hp_ne (ne_of (x := .inr (.inl (0, [.ref bf, .int (nI k), .int pe, .int ep, nv, .ref dq, .ref sv, .ref ou]))) (y := .inl (.int, 5, .inl (fun _ => 0))) fσ1_0 fσ1_2 (fun e8 => by simp at e8))).trans fσ1_0
  have fσ2_1 : σ2.1 bf = some (.inl (.byte, 500, .inl B)) := by rw [eσ2]; exact (hp_ne (ne_of (x := .inl (.byte, 500, .inl B)) (y := .inl (.int, 5, .inl (fun _ => 0))) fσ1_1 fσ1_2 (fun e8 => by simp at e8))).trans fσ1_1
  have fσ2_2 : σ2.1 σ.2 = some (.inl (.int, 5, .inl (va_up (fun _ => 0) 0 a))) := by rw [eσ2]; exact if_pos rfl
  have nσ2 : nw σ σ2 := by rw [eσ2]; exact nσ1.putF wσ nσ.1
  refine A_dup dX1_append_22 rfl ?_
  refine A_iconst (v := 1) dX1_append_23 (by decide) ?_
  refine A_iload_n (i := 2) dX1_append_24 rfl rfl ?_
  refine A_iast fσ2_2 (by unfold vp_in; decide) dX1_append_25 ?_
  refine A_st (σ' := h_put σ2 σ.2 (.inl (.int, 5, .inl (va_up (va_up (fun _ => 0) 0 a) 1 b)))) (by rw [show ((1 : Int32)).toNatClampNeg = 1 from rfl] <;> rfl) ?_
  obtain ⟨σ3, eσ3⟩ : ∃ τ, τ = h_put σ2 σ.2 (.inl (.int, 5, .inl (va_up (va_up (fun _ => 0) 0 a) 1 b))) := ⟨_, rfl⟩
  refine A_st (σ' := σ3) eσ3.symm ?_
  have wσ3 : wfh σ3 := by rw [eσ3]; exact wσ2.put fσ2_2
  have fσ3_0 : σ3.1 x = some (.inr (.inl (0, [.ref bf, .int (nI k), .int pe, .int ep, nv, .ref dq, .ref sv, .ref ou]))) := by rw [eσ3]; exact (hp_ne (ne_of (x := .inr (.inl (0, [.ref bf, .int (nI k), .int pe, .int ep, nv, .ref dq, .ref sv, .ref ou]))) (y := .inl (.int, 5, .inl (va_up (fun _ => 0) 0 a))) fσ2_0 fσ2_2 (fun e8 => by simp at e8))).trans fσ2_0
  have fσ3_1 : σ3.1 bf = some (.inl (.byte, 500, .inl B)) := by rw [eσ3]; exact (hp_ne (ne_of (x := .inl (.byte, 500, .inl B)) (y := .inl (.int, 5, .inl (va_up (fun _ => 0) 0 a))) fσ2_1 fσ2_2 (fun e8 => by simp at e8))).trans fσ2_1
  have fσ3_2 : σ3.1 σ.2 = some (.inl (.int, 5, .inl (va_up (va_up (fun _ => 0) 0 a) 1 b))) := by rw [eσ3]; exact if_pos rfl
  have nσ3 : nw σ σ3 := by rw [eσ3]; exact nσ2.putF wσ nσ.1
  refine A_dup dX1_append_26 rfl ?_
  refine A_iconst (v := 2) dX1_append_27 (by decide) ?_
  refine A_iload_n (i := 3) dX1_append_28 rfl rfl ?_
  refine A_iast fσ3_2 (by unfold vp_in; decide) dX1_append_29 ?_
  refine A_st (σ' := h_put σ3 σ.2 (.inl (.int, 5, .inl (va_up (va_up (va_up (fun _ => 0) 0 a) 1 b) 2 c)))) (by rw [show ((2 : Int32)).toNatClampNeg = 2 from rfl] <;> rfl) ?_
  obtain ⟨σ4, eσ4⟩ : ∃ τ, τ = h_put σ3 σ.2 (.inl (.int, 5, .inl (va_up (va_up (va_up (fun _ => 0) 0 a) 1 b) 2 c))) := ⟨_, rfl⟩
  refine A_st (σ' := σ4) eσ4.symm ?_
  have wσ4 : wfh σ4 := by rw [eσ4]; exact wσ3.put fσ3_2
  have fσ4_0 : σ4.1 x = some (.inr (.inl (0, [.ref bf, .int (nI k), .int pe, .int ep, nv, .ref dq, .ref sv, .ref ou]))) := by rw [eσ4]; exact (hp_ne (ne_of (x := .inr (.inl (0, [.ref bf, .int (nI k), .int pe, .int ep, nv, .ref dq, .ref sv, .ref ou]))) (y := .inl (.int, 5, .inl (va_up (va_up (fun _ => 0) 0 a) 1 b))) fσ3_0 fσ3_2 (fun e8 => by simp at e8))).trans fσ3_0
  have fσ4_1 : σ4.1 bf = some (.inl (.byte, 500, .inl B)) := by rw [eσ4]; exact (hp_ne (ne_of (x := .inl (.byte, 500, .inl B)) (y := .inl (.int, 5, .inl (va_up (va_up (fun _ => 0) 0 a) 1 b))) fσ3_1 fσ3_2 (fun e8 => by simp at e8))).trans fσ3_1
  have fσ4_2 : σ4.1 σ.2 = some (.inl (.int, 5, .inl (va_up (va_up (va_up (fun _ => 0) 0 a) 1 b) 2 c))) := by rw [eσ4]; exact if_pos rfl
  have nσ4 : nw σ σ4 := by rw [eσ4]; exact nσ3.putF wσ nσ.1
  refine A_dup dX1_append_30 rfl ?_
  refine A_iconst (v := 3) dX1_append_31 (by decide) ?_
  refine A_iload dX1_append_32 rfl ?_
  refine A_iast fσ4_2 (by unfold vp_in; decide) dX1_append_34 ?_
  refine A_st (σ' := h_put σ4 σ.2 (.inl (.int, 5, .inl (va_up (va_up (va_up (va_up (fun _ => 0) 0 a) 1 b) 2 c) 3 d)))) (by rw [show ((3 : Int32)).toNatClampNeg = 3 from rfl] <;> rfl) ?_
  obtain ⟨σ5, eσ5⟩ : ∃ τ, τ = h_put σ4 σ.2 (.inl (.int, 5, .inl (va_up (va_up (va_up (va_up (fun _ => 0) 0 a) 1 b) 2 c) 3 d))) := ⟨_, rfl⟩
  refine A_st (σ' := σ5) eσ5.symm ?_
  have wσ5 : wfh σ5 := by rw [eσ5]; exact wσ4.put fσ4_2
  have fσ5_0 : σ5.1 x = some (.inr (.inl (0, [.ref bf, .int (nI k), .int pe, .int ep, nv, .ref dq, .ref sv, .ref ou]))) := by rw [eσ5]; exact (hp_ne (ne_of (x := .inr (.inl (0, [.ref bf, .int (nI k), .int pe, .int ep, nv, .ref dq, .ref sv, .ref ou]))) (y := .inl (.int, 5, .inl (va_up (va_up (va_up (fun _ => 0) 0 a) 1 b) 2 c))) fσ4_0 fσ4_2 (fun e8 => by simp at e8))).trans fσ4_0
  have fσ5_1 : σ5.1 bf = some (.inl (.byte, 500, .inl B)) := by rw [eσ5]; exact (hp_ne (ne_of (x := .inl (.byte, 500, .inl B)) (y := .inl (.int, 5, .inl (va_up (va_up (va_up (fun _ => 0) 0 a) 1 b) 2 c))) fσ4_1 fσ4_2 (fun e8 => by simp at e8))).trans fσ4_1
  have fσ5_2 : σ5.1 σ.2 = some (.inl (.int, 5, .inl (va_up (va_up (va_up (va_up (fun _ => 0) 0 a) 1 b) 2 c) 3 d))) := by rw [eσ5]; exact if_pos rfl
  have nσ5 : nw σ σ5 := by rw [eσ5]; exact nσ4.putF wσ nσ.1
  refine A_dup dX1_append_35 rfl ?_
  refine A_iconst (v := 4) dX1_append_36 (by decide) ?_
  refine A_iload dX1_append_37 rfl ?_
  refine A_iast fσ5_2 (by unfold vp_in; decide) dX1_append_39 ?_
  refine A_st (σ' := h_put σ5 σ.2 (.inl (.int, 5, .inl (va_up (va_up (va_up (va_up (va_up (fun _ => 0) 0 a) 1 b) 2 c) 3 d) 4 e)))) (by rw [show ((4 : Int32)).toNatClampNeg = 4 from rfl] <;> rfl) ?_
  obtain ⟨σ6, eσ6⟩ : ∃ τ, τ = h_put σ5 σ.2 (.inl (.int, 5, .inl (va_up (va_up (va_up (va_up (va_up (fun _ => 0) 0 a) 1 b) 2 c) 3 d) 4 e))) := ⟨_, rfl⟩
  refine A_st (σ' := σ6) eσ6.symm ?_
  have wσ6 : wfh σ6 := by rw [eσ6]; exact wσ5.put fσ5_2
  have fσ6_0 : σ6.1 x = some (.inr (.inl (0, [.ref bf, .int (nI k), .int pe, .int ep, nv, .ref dq, .ref sv, .ref ou]))) := by rw [eσ6]; exact (hp_ne (ne_of (x := .inr (.inl (0, [.ref bf, .int (nI k), .int pe, .int ep, nv, .ref dq, .ref sv, .ref ou]))) (y := .inl (.int, 5, .inl (va_up (va_up (va_up (va_up (fun _ => 0) 0 a) 1 b) 2 c) 3 d))) fσ5_0 fσ5_2 (fun e8 => by simp at e8))).trans fσ5_0
  have fσ6_1 : σ6.1 bf = some (.inl (.byte, 500, .inl B)) := by rw [eσ6]; exact (hp_ne (ne_of (x := .inl (.byte, 500, .inl B)) (y := .inl (.int, 5, .inl (va_up (va_up (va_up (va_up (fun _ => 0) 0 a) 1 b) 2 c) 3 d))) fσ5_1 fσ5_2 (fun e8 => by simp at e8))).trans fσ5_1
  have fσ6_2 : σ6.1 σ.2 = some (.inl (.int, 5, .inl (va_up (va_up (va_up (va_up (va_up (fun _ => 0) 0 a) 1 b) 2 c) 3 d) 4 e))) := by rw [eσ6]; exact if_pos rfl
  have nσ6 : nw σ σ6 := by rw [eσ6]; exact nσ5.putF wσ nσ.1
  refine A_astore dX1_append_40 (Nat.le_of_ble_eq_true rfl) ?_
  refine A_aload dX1_append_42 rfl ?_
  refine A_alen fσ6_2 (by decide) (v := 5) (rfl) dX1_append_44 ?_
  refine A_istore dX1_append_45 (Nat.le_of_ble_eq_true rfl) ?_
  refine A_iconst (v := 0) dX1_append_47 (by decide) ?_
  refine A_istore dX1_append_48 (Nat.le_of_ble_eq_true rfl) ?_
  refine A_iload dX1_append_50 rfl ?_
  refine A_iload dX1_append_52 rfl ?_
  refine A_icmp_ge_f (tgt := 110) dX1_append_54 (by decide) (by decide) ?_
  refine A_aload dX1_append_57 rfl ?_
  refine A_iload dX1_append_59 rfl ?_
  refine A_iald fσ6_2 (by unfold vp_in; decide) dX1_append_61 ?_
  refine A_int (w := a) (rfl) ?_
  refine A_istore dX1_append_62 (Nat.le_of_ble_eq_true rfl) ?_
  refine A_bipush (v := 24) dX1_append_64 (by decide) ?_
  refine A_istore dX1_append_66 (Nat.le_of_ble_eq_true rfl) ?_
  refine A_iload dX1_append_68 rfl ?_
  refine A_if_lt_f (tgt := 104) dX1_append_70 (by decide) (by decide) ?_
  refine A_aload_n (i := 0) dX1_append_73 rfl rfl ?_
  refine A_getf cb_X1 fσ6_0 0 (Nat.le_of_ble_eq_true rfl) q238 rfl (v := .ref bf) rfl dX1_append_74 ?_
  refine A_aload_n (i := 0) dX1_append_77 rfl rfl ?_
  refine A_getf cb_X1 fσ6_0 1 (Nat.le_of_ble_eq_true rfl) q239 rfl (v := .int (nI k)) rfl dX1_append_78 ?_
  refine A_iload dX1_append_81 rfl ?_
  refine A_iload dX1_append_83 rfl ?_
  refine A_ishr dX1_append_85 ?_
  refine A_i2b dX1_append_86 rfl ?_
  refine A_int (w := (b8 (a >>> ((24 : Int32) &&& 31)))) (rfl) ?_
  refine A_bast fσ6_1 (vp_in_nI (by omega : k + 0 < 500) (by decide)) dX1_append_87 ?_
  refine A_st (σ' := h_put σ6 bf (.inl (.byte, 500, .inl (fo1 B k a)))) (by rw [nI_clamp (by omega), nar_b8] <;> rfl) ?_
  obtain ⟨σ7, eσ7⟩ : ∃ τ, τ = h_put σ6 bf (.inl (.byte, 500, .inl (fo1 B k a))) := ⟨_, rfl⟩
  refine A_st (σ' := σ7) eσ7.symm ?_
  have wσ7 : wfh σ7 := by rw [eσ7]; exact wσ6.put fσ6_1
  have fσ7_0 : σ7.1 x = some (.inr (.inl (0, [.ref bf, .int (nI k), .int pe, .int ep, nv, .ref dq, .ref sv, .ref ou]))) := by rw [eσ7]; exact (hp_ne (ne_of (x := .inr (.inl (0, [.ref bf, .int (nI k), .int pe, .int ep, nv, .ref dq, .ref sv, .ref ou]))) (y := .inl (.byte, 500, .inl B)) fσ6_0 fσ6_1 (fun e8 => by simp at e8))).trans fσ6_0
  have fσ7_1 : σ7.1 bf = some (.inl (.byte, 500, .inl (fo1 B k a))) := by rw [eσ7]; exact if_pos rfl
  have fσ7_2 : σ7.1 σ.2 = some (.inl (.int, 5, .inl (va_up (va_up (va_up (va_up (va_up (fun _ => 0) 0 a) 1 b) 2 c) 3 d) 4 e))) := by rw [eσ7]; exact (hp_ne (ne_of (x := .inl (.int, 5, .inl (va_up (va_up (va_up (va_up (va_up (fun _ => 0) 0 a) 1 b) 2 c) 3 d) 4 e))) (y := .inl (.byte, 500, .inl B)) fσ6_2 fσ6_1 (fun e8 => by simp at e8))).trans fσ6_2
  have nσ7 : nw σ σ7 := by rw [eσ7]; exact nσ6.put fσ6_1 (isW_ty ⟨by decide, by decide, by decide⟩)
  refine A_aload_n (i := 0) dX1_append_88 rfl rfl ?_
  refine A_dup dX1_append_89 rfl ?_
  refine A_getf cb_X1 fσ7_0 1 (Nat.le_of_ble_eq_true rfl) q239 rfl (v := .int (nI k)) rfl dX1_append_90 ?_
  refine A_iconst (v := 1) dX1_append_93 (by decide) ?_
  refine A_iadd dX1_append_94 ?_
  refine A_int (w := nI (k + 1)) (by rw [show (1 : Int32) = nI 1 from rfl, nI_add]) ?_
  refine A_putf cb_X1 fσ7_0 1 (Nat.le_of_ble_eq_true rfl) q239 rfl rfl rfl rfl (Nat.le_of_ble_eq_true rfl) dX1_append_95 ?_
  obtain ⟨σ8, eσ8⟩ : ∃ τ, τ = h_put σ7 x (.inr (.inl (0, [.ref bf, .int (nI (k + 1)), .int pe, .int ep, nv, .ref dq, .ref sv, .ref ou]))) := ⟨_, rfl⟩
  refine A_st (σ' := σ8) eσ8.symm ?_
  have wσ8 : wfh σ8 := by rw [eσ8]; exact wσ7.put fσ7_0
  have fσ8_0 : σ8.1 x = some (.inr (.inl (0, [.ref bf, .int (nI (k + 1)), .int pe, .int ep, nv, .ref dq, .ref sv, .ref ou]))) := by rw [eσ8]; exact if_pos rfl
  have fσ8_1 : σ8.1 bf = some (.inl (.byte, 500, .inl (fo1 B k a))) := by rw [eσ8]; exact (hp_ne (ne_of (x := .inl (.byte, 500, .inl (fo1 B k a))) (y := .inr (.inl (0, [.ref bf, .int (nI k), .int pe, .int ep, nv, .ref dq, .ref sv, .ref ou]))) fσ7_1 fσ7_0 (fun e8 => by simp at e8))).trans fσ7_1
  have fσ8_2 : σ8.1 σ.2 = some (.inl (.int, 5, .inl (va_up (va_up (va_up (va_up (va_up (fun _ => 0) 0 a) 1 b) 2 c) 3 d) 4 e))) := by rw [eσ8]; exact (hp_ne (ne_of (x := .inl (.int, 5, .inl (va_up (va_up (va_up (va_up (va_up (fun _ => 0) 0 a) 1 b) 2 c) 3 d) 4 e))) (y := .inr (.inl (0, [.ref bf, .int (nI k), .int pe, .int ep, nv, .ref dq, .ref sv, .ref ou]))) fσ7_2 fσ7_0 (fun e8 => by simp at e8))).trans fσ7_2
  have nσ8 : nw σ σ8 := by rw [eσ8]; exact nσ7.put fσ7_0 (isW_no (by decide))
  refine A_iinc (v := 16) dX1_append_98 rfl (by decide) (Nat.le_of_ble_eq_true rfl) ?_
  refine A_goto (tgt := 68) dX1_append_101 (by decide) ?_
  refine A_sub (L' := [(0, .ref x), (1, .int a), (2, .int b), (3, .int c), (4, .int d), (5, .int e), (6, .ref σ.2), (7, .int 5), (8, .int 0), (9, .int a), (10, .int 16)]) ⟨rfl, rfl, rfl, rfl, rfl, rfl, rfl, rfl, rfl, rfl, rfl, trivial⟩ ?_
  refine A_iload dX1_append_68 rfl ?_
  refine A_if_lt_f (tgt := 104) dX1_append_70 (by decide) (by decide) ?_
  refine A_aload_n (i := 0) dX1_append_73 rfl rfl ?_
  refine A_getf cb_X1 fσ8_0 0 (Nat.le_of_ble_eq_true rfl) q238 rfl (v := .ref bf) rfl dX1_append_74 ?_
  refine A_aload_n (i := 0) dX1_append_77 rfl rfl ?_
  refine A_getf cb_X1 fσ8_0 1 (Nat.le_of_ble_eq_true rfl) q239 rfl (v := .int (nI (k + 1))) rfl dX1_append_78 ?_
  refine A_iload dX1_append_81 rfl ?_
  refine A_iload dX1_append_83 rfl ?_
  refine A_ishr dX1_append_85 ?_
  refine A_i2b dX1_append_86 rfl ?_
  refine A_int (w := (b8 (a >>> ((16 : Int32) &&& 31)))) (rfl) ?_
  refine A_bast fσ8_1 (vp_in_nI (by omega : k + 1 < 500) (by decide)) dX1_append_87 ?_
  refine A_st (σ' := h_put σ8 bf (.inl (.byte, 500, .inl (fo2 B k a)))) (by rw [nI_clamp (by omega), nar_b8] <;> rfl) ?_
  obtain ⟨σ9, eσ9⟩ : ∃ τ, τ = h_put σ8 bf (.inl (.byte, 500, .inl (fo2 B k a))) := ⟨_, rfl⟩
  refine A_st (σ' := σ9) eσ9.symm ?_
  have wσ9 : wfh σ9 := by rw [eσ9]; exact wσ8.put fσ8_1
  have fσ9_0 : σ9.1 x = some (.inr (.inl (0, [.ref bf, .int (nI (k + 1)), .int pe, .int ep, nv, .ref dq, .ref sv, .ref ou]))) := by rw [eσ9]; exact (hp_ne (ne_of (x := .inr (.inl (0, [.ref bf, .int (nI (k + 1)), .int pe, .int ep, nv, .ref dq, .ref sv, .ref ou]))) (y := .inl (.byte, 500, .inl (fo1 B k a))) fσ8_0 fσ8_1 (fun e8 => by simp at e8))).trans fσ8_0
  have fσ9_1 : σ9.1 bf = some (.inl (.byte, 500, .inl (fo2 B k a))) := by rw [eσ9]; exact if_pos rfl
  have fσ9_2 : σ9.1 σ.2 = some (.inl (.int, 5, .inl (va_up (va_up (va_up (va_up (va_up (fun _ => 0) 0 a) 1 b) 2 c) 3 d) 4 e))) := by rw [eσ9]; exact (hp_ne (ne_of (x := .inl (.int, 5, .inl (va_up (va_up (va_up (va_up (va_up (fun _ => 0) 0 a) 1 b) 2 c) 3 d) 4 e))) (y := .inl (.byte, 500, .inl (fo1 B k a))) fσ8_2 fσ8_1 (fun e8 => by simp at e8))).trans fσ8_2
  have nσ9 : nw σ σ9 := by rw [eσ9]; exact nσ8.put fσ8_1 (isW_ty ⟨by decide, by decide, by decide⟩)
  refine A_aload_n (i := 0) dX1_append_88 rfl rfl ?_
  refine A_dup dX1_append_89 rfl ?_
  refine A_getf cb_X1 fσ9_0 1 (Nat.le_of_ble_eq_true rfl) q239 rfl (v := .int (nI (k + 1))) rfl dX1_append_90 ?_
  refine A_iconst (v := 1) dX1_append_93 (by decide) ?_
  refine A_iadd dX1_append_94 ?_
  refine A_int (w := nI (k + 2)) (by rw [show (1 : Int32) = nI 1 from rfl, nI_add]) ?_
  refine A_putf cb_X1 fσ9_0 1 (Nat.le_of_ble_eq_true rfl) q239 rfl rfl rfl rfl (Nat.le_of_ble_eq_true rfl) dX1_append_95 ?_
  obtain ⟨σ10, eσ10⟩ : ∃ τ, τ = h_put σ9 x (.inr (.inl (0, [.ref bf, .int (nI (k + 2)), .int pe, .int ep, nv, .ref dq, .ref sv, .ref ou]))) := ⟨_, rfl⟩
  refine A_st (σ' := σ10) eσ10.symm ?_
  have wσ10 : wfh σ10 := by rw [eσ10]; exact wσ9.put fσ9_0
  have fσ10_0 : σ10.1 x = some (.inr (.inl (0, [.ref bf, .int (nI (k + 2)), .int pe, .int ep, nv, .ref dq, .ref sv, .ref ou]))) := by rw [eσ10]; exact if_pos rfl
  have fσ10_1 : σ10.1 bf = some (.inl (.byte, 500, .inl (fo2 B k a))) := by rw [eσ10]; exact (hp_ne (ne_of (x := .inl (.byte, 500, .inl (fo2 B k a))) (y := .inr (.inl (0, [.ref bf, .int (nI (k + 1)), .int pe, .int ep, nv, .ref dq, .ref sv, .ref ou]))) fσ9_1 fσ9_0 (fun e8 => by simp at e8))).trans fσ9_1
  have fσ10_2 : σ10.1 σ.2 = some (.inl (.int, 5, .inl (va_up (va_up (va_up (va_up (va_up (fun _ => 0) 0 a) 1 b) 2 c) 3 d) 4 e))) := by rw [eσ10]; exact (hp_ne (ne_of (x := .inl (.int, 5, .inl (va_up (va_up (va_up (va_up (va_up (fun _ => 0) 0 a) 1 b) 2 c) 3 d) 4 e))) (y := .inr (.inl (0, [.ref bf, .int (nI (k + 1)), .int pe, .int ep, nv, .ref dq, .ref sv, .ref ou]))) fσ9_2 fσ9_0 (fun e8 => by simp at e8))).trans fσ9_2
  have nσ10 : nw σ σ10 := by rw [eσ10]; exact nσ9.put fσ9_0 (isW_no (by decide))
  refine A_iinc (v := 8) dX1_append_98 rfl (by decide) (Nat.le_of_ble_eq_true rfl) ?_
  refine A_goto (tgt := 68) dX1_append_101 (by decide) ?_
  refine A_sub (L' := [(0, .ref x), (1, .int a), (2, .int b), (3, .int c), (4, .int d), (5, .int e), (6, .ref σ.2), (7, .int 5), (8, .int 0), (9, .int a), (10, .int 8)]) ⟨rfl, rfl, rfl, rfl, rfl, rfl, rfl, rfl, rfl, rfl, rfl, trivial⟩ ?_
  refine A_iload dX1_append_68 rfl ?_
  refine A_if_lt_f (tgt := 104) dX1_append_70 (by decide) (by decide) ?_
  refine A_aload_n (i := 0) dX1_append_73 rfl rfl ?_
  refine A_getf cb_X1 fσ10_0 0 (Nat.le_of_ble_eq_true rfl) q238 rfl (v := .ref bf) rfl dX1_append_74 ?_
  refine A_aload_n (i := 0) dX1_append_77 rfl rfl ?_
  refine A_getf cb_X1 fσ10_0 1 (Nat.le_of_ble_eq_true rfl) q239 rfl (v := .int (nI (k + 2))) rfl dX1_append_78 ?_
  refine A_iload dX1_append_81 rfl ?_
  refine A_iload dX1_append_83 rfl ?_
  refine A_ishr dX1_append_85 ?_
  refine A_i2b dX1_append_86 rfl ?_
  refine A_int (w := (b8 (a >>> ((8 : Int32) &&& 31)))) (rfl) ?_
  refine A_bast fσ10_1 (vp_in_nI (by omega : k + 2 < 500) (by decide)) dX1_append_87 ?_
  refine A_st (σ' := h_put σ10 bf (.inl (.byte, 500, .inl (fo3 B k a)))) (by rw [nI_clamp (by omega), nar_b8] <;> rfl) ?_
  obtain ⟨σ11, eσ11⟩ : ∃ τ, τ = h_put σ10 bf (.inl (.byte, 500, .inl (fo3 B k a))) := ⟨_, rfl⟩
  refine A_st (σ' := σ11) eσ11.symm ?_
  have wσ11 : wfh σ11 := by rw [eσ11]; exact wσ10.put fσ10_1
  have fσ11_0 : σ11.1 x = some (.inr (.inl (0, [.ref bf, .int (nI (k + 2)), .int pe, .int ep, nv, .ref dq, .ref sv, .ref ou]))) := by rw [eσ11]; exact (hp_ne (ne_of (x := .inr (.inl (0, [.ref bf, .int (nI (k + 2)), .int pe, .int ep, nv, .ref dq, .ref sv, .ref ou]))) (y := .inl (.byte, 500, .inl (fo2 B k a))) fσ10_0 fσ10_1 (fun e8 => by simp at e8))).trans fσ10_0
  have fσ11_1 : σ11.1 bf = some (.inl (.byte, 500, .inl (fo3 B k a))) := by rw [eσ11]; exact if_pos rfl
  have fσ11_2 : σ11.1 σ.2 = some (.inl (.int, 5, .inl (va_up (va_up (va_up (va_up (va_up (fun _ => 0) 0 a) 1 b) 2 c) 3 d) 4 e))) := by rw [eσ11]; exact (hp_ne (ne_of (x := .inl (.int, 5, .inl (va_up (va_up (va_up (va_up (va_up (fun _ => 0) 0 a) 1 b) 2 c) 3 d) 4 e))) (y := .inl (.byte, 500, .inl (fo2 B k a))) fσ10_2 fσ10_1 (fun e8 => by simp at e8))).trans fσ10_2
  have nσ11 : nw σ σ11 := by rw [eσ11]; exact nσ10.put fσ10_1 (isW_ty ⟨by decide, by decide, by decide⟩)
  refine A_aload_n (i := 0) dX1_append_88 rfl rfl ?_
  refine A_dup dX1_append_89 rfl ?_
  refine A_getf cb_X1 fσ11_0 1 (Nat.le_of_ble_eq_true rfl) q239 rfl (v := .int (nI (k + 2))) rfl dX1_append_90 ?_
  refine A_iconst (v := 1) dX1_append_93 (by decide) ?_
  refine A_iadd dX1_append_94 ?_
  refine A_int (w := nI (k + 3)) (by rw [show (1 : Int32) = nI 1 from rfl, nI_add]) ?_
  refine A_putf cb_X1 fσ11_0 1 (Nat.le_of_ble_eq_true rfl) q239 rfl rfl rfl rfl (Nat.le_of_ble_eq_true rfl) dX1_append_95 ?_
  obtain ⟨σ12, eσ12⟩ : ∃ τ, τ = h_put σ11 x (.inr (.inl (0, [.ref bf, .int (nI (k + 3)), .int pe, .int ep, nv, .ref dq, .ref sv, .ref ou]))) := ⟨_, rfl⟩
  refine A_st (σ' := σ12) eσ12.symm ?_
  have wσ12 : wfh σ12 := by rw [eσ12]; exact wσ11.put fσ11_0
  have fσ12_0 : σ12.1 x = some (.inr (.inl (0, [.ref bf, .int (nI (k + 3)), .int pe, .int ep, nv, .ref dq, .ref sv, .ref ou]))) := by rw [eσ12]; exact if_pos rfl
  have fσ12_1 : σ12.1 bf = some (.inl (.byte, 500, .inl (fo3 B k a))) := by rw [eσ12]; exact (hp_ne (ne_of (x := .inl (.byte, 500, .inl (fo3 B k a))) (y := .inr (.inl (0, [.ref bf, .int (nI (k + 2)), .int pe, .int ep, nv, .ref dq, .ref sv, .ref ou]))) fσ11_1 fσ11_0 (fun e8 => by simp at e8))).trans fσ11_1
  have fσ12_2 : σ12.1 σ.2 = some (.inl (.int, 5, .inl (va_up (va_up (va_up (va_up (va_up (fun _ => 0) 0 a) 1 b) 2 c) 3 d) 4 e))) := by rw [eσ12]; exact (hp_ne (ne_of (x := .inl (.int, 5, .inl (va_up (va_up (va_up (va_up (va_up (fun _ => 0) 0 a) 1 b) 2 c) 3 d) 4 e))) (y := .inr (.inl (0, [.ref bf, .int (nI (k + 2)), .int pe, .int ep, nv, .ref dq, .ref sv, .ref ou]))) fσ11_2 fσ11_0 (fun e8 => by simp at e8))).trans fσ11_2
  have nσ12 : nw σ σ12 := by rw [eσ12]; exact nσ11.put fσ11_0 (isW_no (by decide))
  refine A_iinc (v := 0) dX1_append_98 rfl (by decide) (Nat.le_of_ble_eq_true rfl) ?_
  refine A_goto (tgt := 68) dX1_append_101 (by decide) ?_
  refine A_sub (L' := [(0, .ref x), (1, .int a), (2, .int b), (3, .int c), (4, .int d), (5, .int e), (6, .ref σ.2), (7, .int 5), (8, .int 0), (9, .int a), (10, .int 0)]) ⟨rfl, rfl, rfl, rfl, rfl, rfl, rfl, rfl, rfl, rfl, rfl, trivial⟩ ?_
  refine A_iload dX1_append_68 rfl ?_
  refine A_if_lt_f (tgt := 104) dX1_append_70 (by decide) (by decide) ?_
  refine A_aload_n (i := 0) dX1_append_73 rfl rfl ?_
  refine A_getf cb_X1 fσ12_0 0 (Nat.le_of_ble_eq_true rfl) q238 rfl (v := .ref bf) rfl dX1_append_74 ?_
  refine A_aload_n (i := 0) dX1_append_77 rfl rfl ?_
  refine A_getf cb_X1 fσ12_0 1 (Nat.le_of_ble_eq_true rfl) q239 rfl (v := .int (nI (k + 3))) rfl dX1_append_78 ?_
  refine A_iload dX1_append_81 rfl ?_
  refine A_iload dX1_append_83 rfl ?_
  refine A_ishr dX1_append_85 ?_
  refine A_i2b dX1_append_86 rfl ?_
  refine A_int (w := (b8 (a >>> ((0 : Int32) &&& 31)))) (rfl) ?_
  refine A_bast fσ12_1 (vp_in_nI (by omega : k + 3 < 500) (by decide)) dX1_append_87 ?_
  refine A_st (σ' := h_put σ12 bf (.inl (.byte, 500, .inl (fo4 B k a)))) (by rw [nI_clamp (by omega), nar_b8] <;> rfl) ?_
  obtain ⟨σ13, eσ13⟩ : ∃ τ, τ = h_put σ12 bf (.inl (.byte, 500, .inl (fo4 B k a))) := ⟨_, rfl⟩
  refine A_st (σ' := σ13) eσ13.symm ?_
  have wσ13 : wfh σ13 := by rw [eσ13]; exact wσ12.put fσ12_1
  have fσ13_0 : σ13.1 x = some (.inr (.inl (0, [.ref bf, .int (nI (k + 3)), .int pe, .int ep, nv, .ref dq, .ref sv, .ref ou]))) := by rw [eσ13]; exact (hp_ne (ne_of (x := .inr (.inl (0, [.ref bf, .int (nI (k + 3)), .int pe, .int ep, nv, .ref dq, .ref sv, .ref ou]))) (y := .inl (.byte, 500, .inl (fo3 B k a))) fσ12_0 fσ12_1 (fun e8 => by simp at e8))).trans fσ12_0
  have fσ13_1 : σ13.1 bf = some (.inl (.byte, 500, .inl (fo4 B k a))) := by rw [eσ13]; exact if_pos rfl
  have fσ13_2 : σ13.1 σ.2 = some (.inl (.int, 5, .inl (va_up (va_up (va_up (va_up (va_up (fun _ => 0) 0 a) 1 b) 2 c) 3 d) 4 e))) := by rw [eσ13]; exact (hp_ne (ne_of (x := .inl (.int, 5, .inl (va_up (va_up (va_up (va_up (va_up (fun _ => 0) 0 a) 1 b) 2 c) 3 d) 4 e))) (y := .inl (.byte, 500, .inl (fo3 B k a))) fσ12_2 fσ12_1 (fun e8 => by simp at e8))).trans fσ12_2
  have nσ13 : nw σ σ13 := by rw [eσ13]; exact nσ12.put fσ12_1 (isW_ty ⟨by decide, by decide, by decide⟩)
  refine A_aload_n (i := 0) dX1_append_88 rfl rfl ?_
  refine A_dup dX1_append_89 rfl ?_
  refine A_getf cb_X1 fσ13_0 1 (Nat.le_of_ble_eq_true rfl) q239 rfl (v := .int (nI (k + 3))) rfl dX1_append_90 ?_
  refine A_iconst (v := 1) dX1_append_93 (by decide) ?_
  refine A_iadd dX1_append_94 ?_
  refine A_int (w := nI (k + 4)) (by rw [show (1 : Int32) = nI 1 from rfl, nI_add]) ?_
  refine A_putf cb_X1 fσ13_0 1 (Nat.le_of_ble_eq_true rfl) q239 rfl rfl rfl rfl (Nat.le_of_ble_eq_true rfl) dX1_append_95 ?_
  obtain ⟨σ14, eσ14⟩ : ∃ τ, τ = h_put σ13 x (.inr (.inl (0, [.ref bf, .int (nI (k + 4)), .int pe, .int ep, nv, .ref dq, .ref sv, .ref ou]))) := ⟨_, rfl⟩
  refine A_st (σ' := σ14) eσ14.symm ?_
  have wσ14 : wfh σ14 := by rw [eσ14]; exact wσ13.put fσ13_0
  have fσ14_0 : σ14.1 x = some (.inr (.inl (0, [.ref bf, .int (nI (k + 4)), .int pe, .int ep, nv, .ref dq, .ref sv, .ref ou]))) := by rw [eσ14]; exact if_pos rfl
  have fσ14_1 : σ14.1 bf = some (.inl (.byte, 500, .inl (fo4 B k a))) := by rw [eσ14]; exact (hp_ne (ne_of (x := .inl (.byte, 500, .inl (fo4 B k a))) (y := .inr (.inl (0, [.ref bf, .int (nI (k + 3)), .int pe, .int ep, nv, .ref dq, .ref sv, .ref ou]))) fσ13_1 fσ13_0 (fun e8 => by simp at e8))).trans fσ13_1
  have fσ14_2 : σ14.1 σ.2 = some (.inl (.int, 5, .inl (va_up (va_up (va_up (va_up (va_up (fun _ => 0) 0 a) 1 b) 2 c) 3 d) 4 e))) := by rw [eσ14]; exact (hp_ne (ne_of (x := .inl (.int, 5, .inl (va_up (va_up (va_up (va_up (va_up (fun _ => 0) 0 a) 1 b) 2 c) 3 d) 4 e))) (y := .inr (.inl (0, [.ref bf, .int (nI (k + 3)), .int pe, .int ep, nv, .ref dq, .ref sv, .ref ou]))) fσ13_2 fσ13_0 (fun e8 => by simp at e8))).trans fσ13_2
  have nσ14 : nw σ σ14 := by rw [eσ14]; exact nσ13.put fσ13_0 (isW_no (by decide))
  refine A_iinc (v := (-8)) dX1_append_98 rfl (by decide) (Nat.le_of_ble_eq_true rfl) ?_
  refine A_goto (tgt := 68) dX1_append_101 (by decide) ?_
  refine A_sub (L' := [(0, .ref x), (1, .int a), (2, .int b), (3, .int c), (4, .int d), (5, .int e), (6, .ref σ.2), (7, .int 5), (8, .int 0), (9, .int a), (10, .int (-8))]) ⟨rfl, rfl, rfl, rfl, rfl, rfl, rfl, rfl, rfl, rfl, rfl, trivial⟩ ?_
  refine A_iload dX1_append_68 rfl ?_
  refine A_if_lt_t (tgt := 104) dX1_append_70 (by decide) (by decide) ?_
  refine A_iinc (v := 1) dX1_append_104 rfl (by decide) (Nat.le_of_ble_eq_true rfl) ?_
  refine A_goto (tgt := 50) dX1_append_107 (by decide) ?_
  refine A_sub (L' := [(0, .ref x), (1, .int a), (2, .int b), (3, .int c), (4, .int d), (5, .int e), (6, .ref σ.2), (7, .int 5), (8, .int 1), (9, .int a), (10, .int (-8))]) ⟨rfl, rfl, rfl, rfl, rfl, rfl, rfl, rfl, rfl, rfl, rfl, trivial⟩ ?_
  refine A_iload dX1_append_50 rfl ?_
  refine A_iload dX1_append_52 rfl ?_
  refine A_icmp_ge_f (tgt := 110) dX1_append_54 (by decide) (by decide) ?_
  refine A_aload dX1_append_57 rfl ?_
  refine A_iload dX1_append_59 rfl ?_
  refine A_iald fσ14_2 (by unfold vp_in; decide) dX1_append_61 ?_
  refine A_int (w := b) (rfl) ?_
  refine A_istore dX1_append_62 (Nat.le_of_ble_eq_true rfl) ?_
  refine A_bipush (v := 24) dX1_append_64 (by decide) ?_
  refine A_istore dX1_append_66 (Nat.le_of_ble_eq_true rfl) ?_
  refine A_iload dX1_append_68 rfl ?_
  refine A_if_lt_f (tgt := 104) dX1_append_70 (by decide) (by decide) ?_
  refine A_aload_n (i := 0) dX1_append_73 rfl rfl ?_
  refine A_getf cb_X1 fσ14_0 0 (Nat.le_of_ble_eq_true rfl) q238 rfl (v := .ref bf) rfl dX1_append_74 ?_
  refine A_aload_n (i := 0) dX1_append_77 rfl rfl ?_
  refine A_getf cb_X1 fσ14_0 1 (Nat.le_of_ble_eq_true rfl) q239 rfl (v := .int (nI (k + 4))) rfl dX1_append_78 ?_
  refine A_iload dX1_append_81 rfl ?_
  refine A_iload dX1_append_83 rfl ?_
  refine A_ishr dX1_append_85 ?_
  refine A_i2b dX1_append_86 rfl ?_
  refine A_int (w := (b8 (b >>> ((24 : Int32) &&& 31)))) (rfl) ?_
  refine A_bast fσ14_1 (vp_in_nI (by omega : k + 4 < 500) (by decide)) dX1_append_87 ?_
  refine A_st (σ' := h_put σ14 bf (.inl (.byte, 500, .inl (fo1 (fo4 B k a) (k + 4) b)))) (by rw [nI_clamp (by omega), nar_b8] <;> rfl) ?_
  obtain ⟨σ15, eσ15⟩ : ∃ τ, τ = h_put σ14 bf (.inl (.byte, 500, .inl (fo1 (fo4 B k a) (k + 4) b))) := ⟨_, rfl⟩
  refine A_st (σ' := σ15) eσ15.symm ?_
  have wσ15 : wfh σ15 := by rw [eσ15]; exact wσ14.put fσ14_1
  have fσ15_0 : σ15.1 x = some (.inr (.inl (0, [.ref bf, .int (nI (k + 4)), .int pe, .int ep, nv, .ref dq, .ref sv, .ref ou]))) := by rw [eσ15]; exact (hp_ne (ne_of (x := .inr (.inl (0, [.ref bf, .int (nI (k + 4)), .int pe, .int ep, nv, .ref dq, .ref sv, .ref ou]))) (y := .inl (.byte, 500, .inl (fo4 B k a))) fσ14_0 fσ14_1 (fun e8 => by simp at e8))).trans fσ14_0
  have fσ15_1 : σ15.1 bf = some (.inl (.byte, 500, .inl (fo1 (fo4 B k a) (k + 4) b))) := by rw [eσ15]; exact if_pos rfl
  have fσ15_2 : σ15.1 σ.2 = some (.inl (.int, 5, .inl (va_up (va_up (va_up (va_up (va_up (fun _ => 0) 0 a) 1 b) 2 c) 3 d) 4 e))) := by rw [eσ15]; exact (hp_ne (ne_of (x := .inl (.int, 5, .inl (va_up (va_up (va_up (va_up (va_up (fun _ => 0) 0 a) 1 b) 2 c) 3 d) 4 e))) (y := .inl (.byte, 500, .inl (fo4 B k a))) fσ14_2 fσ14_1 (fun e8 => by simp at e8))).trans fσ14_2
  have nσ15 : nw σ σ15 := by rw [eσ15]; exact nσ14.put fσ14_1 (isW_ty ⟨by decide, by decide, by decide⟩)
  refine A_aload_n (i := 0) dX1_append_88 rfl rfl ?_
  refine A_dup dX1_append_89 rfl ?_
  refine A_getf cb_X1 fσ15_0 1 (Nat.le_of_ble_eq_true rfl) q239 rfl (v := .int (nI (k + 4))) rfl dX1_append_90 ?_
  refine A_iconst (v := 1) dX1_append_93 (by decide) ?_
  refine A_iadd dX1_append_94 ?_
  refine A_int (w := nI (k + 5)) (by rw [show (1 : Int32) = nI 1 from rfl, nI_add]) ?_
  refine A_putf cb_X1 fσ15_0 1 (Nat.le_of_ble_eq_true rfl) q239 rfl rfl rfl rfl (Nat.le_of_ble_eq_true rfl) dX1_append_95 ?_
  obtain ⟨σ16, eσ16⟩ : ∃ τ, τ = h_put σ15 x (.inr (.inl (0, [.ref bf, .int (nI (k + 5)), .int pe, .int ep, nv, .ref dq, .ref sv, .ref ou]))) := ⟨_, rfl⟩
  refine A_st (σ' := σ16) eσ16.symm ?_
  have wσ16 : wfh σ16 := by rw [eσ16]; exact wσ15.put fσ15_0
  have fσ16_0 : σ16.1 x = some (.inr (.inl (0, [.ref bf, .int (nI (k + 5)), .int pe, .int ep, nv, .ref dq, .ref sv, .ref ou]))) := by rw [eσ16]; exact if_pos rfl
  have fσ16_1 : σ16.1 bf = some (.inl (.byte, 500, .inl (fo1 (fo4 B k a) (k + 4) b))) := by rw [eσ16]; exact (hp_ne (ne_of (x := .inl (.byte, 500, .inl (fo1 (fo4 B k a) (k + 4) b))) (y := .inr (.inl (0, [.ref bf, .int (nI (k + 4)), .int pe, .int ep, nv, .ref dq, .ref sv, .ref ou]))) fσ15_1 fσ15_0 (fun e8 => by simp at e8))).trans fσ15_1
  have fσ16_2 : σ16.1 σ.2 = some (.inl (.int, 5, .inl (va_up (va_up (va_up (va_up (va_up (fun _ => 0) 0 a) 1 b) 2 c) 3 d) 4 e))) := by rw [eσ16]; exact (hp_ne (ne_of (x := .inl (.int, 5, .inl (va_up (va_up (va_up (va_up (va_up (fun _ => 0) 0 a) 1 b) 2 c) 3 d) 4 e))) (y := .inr (.inl (0, [.ref bf, .int (nI (k + 4)), .int pe, .int ep, nv, .ref dq, .ref sv, .ref ou]))) fσ15_2 fσ15_0 (fun e8 => by simp at e8))).trans fσ15_2
  have nσ16 : nw σ σ16 := by rw [eσ16]; exact nσ15.put fσ15_0 (isW_no (by decide))
  refine A_iinc (v := 16) dX1_append_98 rfl (by decide) (Nat.le_of_ble_eq_true rfl) ?_
  refine A_goto (tgt := 68) dX1_append_101 (by decide) ?_
  refine A_sub (L' := [(0, .ref x), (1, .int a), (2, .int b), (3, .int c), (4, .int d), (5, .int e), (6, .ref σ.2), (7, .int 5), (8, .int 1), (9, .int b), (10, .int 16)]) ⟨rfl, rfl, rfl, rfl, rfl, rfl, rfl, rfl, rfl, rfl, rfl, trivial⟩ ?_
  refine A_iload dX1_append_68 rfl ?_
  refine A_if_lt_f (tgt := 104) dX1_append_70 (by decide) (by decide) ?_
  refine A_aload_n (i := 0) dX1_append_73 rfl rfl ?_
  refine A_getf cb_X1 fσ16_0 0 (Nat.le_of_ble_eq_true rfl) q238 rfl (v := .ref bf) rfl dX1_append_74 ?_
  refine A_aload_n (i := 0) dX1_append_77 rfl rfl ?_
  refine A_getf cb_X1 fσ16_0 1 (Nat.le_of_ble_eq_true rfl) q239 rfl (v := .int (nI (k + 5))) rfl dX1_append_78 ?_
  refine A_iload dX1_append_81 rfl ?_
  refine A_iload dX1_append_83 rfl ?_
  refine A_ishr dX1_append_85 ?_
  refine A_i2b dX1_append_86 rfl ?_
  refine A_int (w := (b8 (b >>> ((16 : Int32) &&& 31)))) (rfl) ?_
  refine A_bast fσ16_1 (vp_in_nI (by omega : k + 5 < 500) (by decide)) dX1_append_87 ?_
  refine A_st (σ' := h_put σ16 bf (.inl (.byte, 500, .inl (fo2 (fo4 B k a) (k + 4) b)))) (by rw [nI_clamp (by omega), nar_b8] <;> rfl) ?_
  obtain ⟨σ17, eσ17⟩ : ∃ τ, τ = h_put σ16 bf (.inl (.byte, 500, .inl (fo2 (fo4 B k a) (k + 4) b))) := ⟨_, rfl⟩
  refine A_st (σ' := σ17) eσ17.symm ?_
  have wσ17 : wfh σ17 := by rw [eσ17]; exact wσ16.put fσ16_1
  have fσ17_0 : σ17.1 x = some (.inr (.inl (0, [.ref bf, .int (nI (k + 5)), .int pe, .int ep, nv, .ref dq, .ref sv, .ref ou]))) := by rw [eσ17]; exact (hp_ne (ne_of (x := .inr (.inl (0, [.ref bf, .int (nI (k + 5)), .int pe, .int ep, nv, .ref dq, .ref sv, .ref ou]))) (y := .inl (.byte, 500, .inl (fo1 (fo4 B k a) (k + 4) b))) fσ16_0 fσ16_1 (fun e8 => by simp at e8))).trans fσ16_0
  have fσ17_1 : σ17.1 bf = some (.inl (.byte, 500, .inl (fo2 (fo4 B k a) (k + 4) b))) := by rw [eσ17]; exact if_pos rfl
  have fσ17_2 : σ17.1 σ.2 = some (.inl (.int, 5, .inl (va_up (va_up (va_up (va_up (va_up (fun _ => 0) 0 a) 1 b) 2 c) 3 d) 4 e))) := by rw [eσ17]; exact (hp_ne (ne_of (x := .inl (.int, 5, .inl (va_up (va_up (va_up (va_up (va_up (fun _ => 0) 0 a) 1 b) 2 c) 3 d) 4 e))) (y := .inl (.byte, 500, .inl (fo1 (fo4 B k a) (k + 4) b))) fσ16_2 fσ16_1 (fun e8 => by simp at e8))).trans fσ16_2
  have nσ17 : nw σ σ17 := by rw [eσ17]; exact nσ16.put fσ16_1 (isW_ty ⟨by decide, by decide, by decide⟩)
  refine A_aload_n (i := 0) dX1_append_88 rfl rfl ?_
  refine A_dup dX1_append_89 rfl ?_
  refine A_getf cb_X1 fσ17_0 1 (Nat.le_of_ble_eq_true rfl) q239 rfl (v := .int (nI (k + 5))) rfl dX1_append_90 ?_
  refine A_iconst (v := 1) dX1_append_93 (by decide) ?_
  refine A_iadd dX1_append_94 ?_
  refine A_int (w := nI (k + 6)) (by rw [show (1 : Int32) = nI 1 from rfl, nI_add]) ?_
  refine A_putf cb_X1 fσ17_0 1 (Nat.le_of_ble_eq_true rfl) q239 rfl rfl rfl rfl (Nat.le_of_ble_eq_true rfl) dX1_append_95 ?_
  obtain ⟨σ18, eσ18⟩ : ∃ τ, τ = h_put σ17 x (.inr (.inl (0, [.ref bf, .int (nI (k + 6)), .int pe, .int ep, nv, .ref dq, .ref sv, .ref ou]))) := ⟨_, rfl⟩
  refine A_st (σ' := σ18) eσ18.symm ?_
  have wσ18 : wfh σ18 := by rw [eσ18]; exact wσ17.put fσ17_0
  have fσ18_0 : σ18.1 x = some (.inr (.inl (0, [.ref bf, .int (nI (k + 6)), .int pe, .int ep, nv, .ref dq, .ref sv, .ref ou]))) := by rw [eσ18]; exact if_pos rfl
  have fσ18_1 : σ18.1 bf = some (.inl (.byte, 500, .inl (fo2 (fo4 B k a) (k + 4) b))) := by rw [eσ18]; exact (hp_ne (ne_of (x := .inl (.byte, 500, .inl (fo2 (fo4 B k a) (k + 4) b))) (y := .inr (.inl (0, [.ref bf, .int (nI (k + 5)), .int pe, .int ep, nv, .ref dq, .ref sv, .ref ou]))) fσ17_1 fσ17_0 (fun e8 => by simp at e8))).trans fσ17_1
  have fσ18_2 : σ18.1 σ.2 = some (.inl (.int, 5, .inl (va_up (va_up (va_up (va_up (va_up (fun _ => 0) 0 a) 1 b) 2 c) 3 d) 4 e))) := by rw [eσ18]; exact (hp_ne (ne_of (x := .inl (.int, 5, .inl (va_up (va_up (va_up (va_up (va_up (fun _ => 0) 0 a) 1 b) 2 c) 3 d) 4 e))) (y := .inr (.inl (0, [.ref bf, .int (nI (k + 5)), .int pe, .int ep, nv, .ref dq, .ref sv, .ref ou]))) fσ17_2 fσ17_0 (fun e8 => by simp at e8))).trans fσ17_2
  have nσ18 : nw σ σ18 := by rw [eσ18]; exact nσ17.put fσ17_0 (isW_no (by decide))
  refine A_iinc (v := 8) dX1_append_98 rfl (by decide) (Nat.le_of_ble_eq_true rfl) ?_
  refine A_goto (tgt := 68) dX1_append_101 (by decide) ?_
  refine A_sub (L' := [(0, .ref x), (1, .int a), (2, .int b), (3, .int c), (4, .int d), (5, .int e), (6, .ref σ.2), (7, .int 5), (8, .int 1), (9, .int b), (10, .int 8)]) ⟨rfl, rfl, rfl, rfl, rfl, rfl, rfl, rfl, rfl, rfl, rfl, trivial⟩ ?_
  refine A_iload dX1_append_68 rfl ?_
  refine A_if_lt_f (tgt := 104) dX1_append_70 (by decide) (by decide) ?_
  refine A_aload_n (i := 0) dX1_append_73 rfl rfl ?_
  refine A_getf cb_X1 fσ18_0 0 (Nat.le_of_ble_eq_true rfl) q238 rfl (v := .ref bf) rfl dX1_append_74 ?_
  refine A_aload_n (i := 0) dX1_append_77 rfl rfl ?_
  refine A_getf cb_X1 fσ18_0 1 (Nat.le_of_ble_eq_true rfl) q239 rfl (v := .int (nI (k + 6))) rfl dX1_append_78 ?_
  refine A_iload dX1_append_81 rfl ?_
  refine A_iload dX1_append_83 rfl ?_
  refine A_ishr dX1_append_85 ?_
  refine A_i2b dX1_append_86 rfl ?_
  refine A_int (w := (b8 (b >>> ((8 : Int32) &&& 31)))) (rfl) ?_
  refine A_bast fσ18_1 (vp_in_nI (by omega : k + 6 < 500) (by decide)) dX1_append_87 ?_
  refine A_st (σ' := h_put σ18 bf (.inl (.byte, 500, .inl (fo3 (fo4 B k a) (k + 4) b)))) (by rw [nI_clamp (by omega), nar_b8] <;> rfl) ?_
  obtain ⟨σ19, eσ19⟩ : ∃ τ, τ = h_put σ18 bf (.inl (.byte, 500, .inl (fo3 (fo4 B k a) (k + 4) b))) := ⟨_, rfl⟩
  refine A_st (σ' := σ19) eσ19.symm ?_
  have wσ19 : wfh σ19 := by rw [eσ19]; exact wσ18.put fσ18_1
  have fσ19_0 : σ19.1 x = some (.inr (.inl (0, [.ref bf, .int (nI (k + 6)), .int pe, .int ep, nv, .ref dq, .ref sv, .ref ou]))) := by rw [eσ19]; exact (hp_ne (ne_of (x := .inr (.inl (0, [.ref bf, .int (nI (k + 6)), .int pe, .int ep, nv, .ref dq, .ref sv, .ref ou]))) (y := .inl (.byte, 500, .inl (fo2 (fo4 B k a) (k + 4) b))) fσ18_0 fσ18_1 (fun e8 => by simp at e8))).trans fσ18_0
  have fσ19_1 : σ19.1 bf = some (.inl (.byte, 500, .inl (fo3 (fo4 B k a) (k + 4) b))) := by rw [eσ19]; exact if_pos rfl
  have fσ19_2 : σ19.1 σ.2 = some (.inl (.int, 5, .inl (va_up (va_up (va_up (va_up (va_up (fun _ => 0) 0 a) 1 b) 2 c) 3 d) 4 e))) := by rw [eσ19]; exact (hp_ne (ne_of (x := .inl (.int, 5, .inl (va_up (va_up (va_up (va_up (va_up (fun _ => 0) 0 a) 1 b) 2 c) 3 d) 4 e))) (y := .inl (.byte, 500, .inl (fo2 (fo4 B k a) (k + 4) b))) fσ18_2 fσ18_1 (fun e8 => by simp at e8))).trans fσ18_2
  have nσ19 : nw σ σ19 := by rw [eσ19]; exact nσ18.put fσ18_1 (isW_ty ⟨by decide, by decide, by decide⟩)
  refine A_aload_n (i := 0) dX1_append_88 rfl rfl ?_
  refine A_dup dX1_append_89 rfl ?_
  refine A_getf cb_X1 fσ19_0 1 (Nat.le_of_ble_eq_true rfl) q239 rfl (v := .int (nI (k + 6))) rfl dX1_append_90 ?_
  refine A_iconst (v := 1) dX1_append_93 (by decide) ?_
  refine A_iadd dX1_append_94 ?_
  refine A_int (w := nI (k + 7)) (by rw [show (1 : Int32) = nI 1 from rfl, nI_add]) ?_
  refine A_putf cb_X1 fσ19_0 1 (Nat.le_of_ble_eq_true rfl) q239 rfl rfl rfl rfl (Nat.le_of_ble_eq_true rfl) dX1_append_95 ?_
  obtain ⟨σ20, eσ20⟩ : ∃ τ, τ = h_put σ19 x (.inr (.inl (0, [.ref bf, .int (nI (k + 7)), .int pe, .int ep, nv, .ref dq, .ref sv, .ref ou]))) := ⟨_, rfl⟩
  refine A_st (σ' := σ20) eσ20.symm ?_
  have wσ20 : wfh σ20 := by rw [eσ20]; exact wσ19.put fσ19_0
  have fσ20_0 : σ20.1 x = some (.inr (.inl (0, [.ref bf, .int (nI (k + 7)), .int pe, .int ep, nv, .ref dq, .ref sv, .ref ou]))) := by rw [eσ20]; exact if_pos rfl
  have fσ20_1 : σ20.1 bf = some (.inl (.byte, 500, .inl (fo3 (fo4 B k a) (k + 4) b))) := by rw [eσ20]; exact (hp_ne (ne_of (x := .inl (.byte, 500, .inl (fo3 (fo4 B k a) (k + 4) b))) (y := .inr (.inl (0, [.ref bf, .int (nI (k + 6)), .int pe, .int ep, nv, .ref dq, .ref sv, .ref ou]))) fσ19_1 fσ19_0 (fun e8 => by simp at e8))).trans fσ19_1
  have fσ20_2 : σ20.1 σ.2 = some (.inl (.int, 5, .inl (va_up (va_up (va_up (va_up (va_up (fun _ => 0) 0 a) 1 b) 2 c) 3 d) 4 e))) := by rw [eσ20]; exact (hp_ne (ne_of (x := .inl (.int, 5, .inl (va_up (va_up (va_up (va_up (va_up (fun _ => 0) 0 a) 1 b) 2 c) 3 d) 4 e))) (y := .inr (.inl (0, [.ref bf, .int (nI (k + 6)), .int pe, .int ep, nv, .ref dq, .ref sv, .ref ou]))) fσ19_2 fσ19_0 (fun e8 => by simp at e8))).trans fσ19_2
  have nσ20 : nw σ σ20 := by rw [eσ20]; exact nσ19.put fσ19_0 (isW_no (by decide))
  refine A_iinc (v := 0) dX1_append_98 rfl (by decide) (Nat.le_of_ble_eq_true rfl) ?_
  refine A_goto (tgt := 68) dX1_append_101 (by decide) ?_
  refine A_sub (L' := [(0, .ref x), (1, .int a), (2, .int b), (3, .int c), (4, .int d), (5, .int e), (6, .ref σ.2), (7, .int 5), (8, .int 1), (9, .int b), (10, .int 0)]) ⟨rfl, rfl, rfl, rfl, rfl, rfl, rfl, rfl, rfl, rfl, rfl, trivial⟩ ?_
  refine A_iload dX1_append_68 rfl ?_
  refine A_if_lt_f (tgt := 104) dX1_append_70 (by decide) (by decide) ?_
  refine A_aload_n (i := 0) dX1_append_73 rfl rfl ?_
  refine A_getf cb_X1 fσ20_0 0 (Nat.le_of_ble_eq_true rfl) q238 rfl (v := .ref bf) rfl dX1_append_74 ?_
  refine A_aload_n (i := 0) dX1_append_77 rfl rfl ?_
  refine A_getf cb_X1 fσ20_0 1 (Nat.le_of_ble_eq_true rfl) q239 rfl (v := .int (nI (k + 7))) rfl dX1_append_78 ?_
  refine A_iload dX1_append_81 rfl ?_
  refine A_iload dX1_append_83 rfl ?_
  refine A_ishr dX1_append_85 ?_
  refine A_i2b dX1_append_86 rfl ?_
  refine A_int (w := (b8 (b >>> ((0 : Int32) &&& 31)))) (rfl) ?_
  refine A_bast fσ20_1 (vp_in_nI (by omega : k + 7 < 500) (by decide)) dX1_append_87 ?_
  refine A_st (σ' := h_put σ20 bf (.inl (.byte, 500, .inl (fo4 (fo4 B k a) (k + 4) b)))) (by rw [nI_clamp (by omega), nar_b8] <;> rfl) ?_
  obtain ⟨σ21, eσ21⟩ : ∃ τ, τ = h_put σ20 bf (.inl (.byte, 500, .inl (fo4 (fo4 B k a) (k + 4) b))) := ⟨_, rfl⟩
  refine A_st (σ' := σ21) eσ21.symm ?_
  have wσ21 : wfh σ21 := by rw [eσ21]; exact wσ20.put fσ20_1
  have fσ21_0 : σ21.1 x = some (.inr (.inl (0, [.ref bf, .int (nI (k + 7)), .int pe, .int ep, nv, .ref dq, .ref sv, .ref ou]))) := by rw [eσ21]; exact (hp_ne (ne_of (x := .inr (.inl (0, [.ref bf, .int (nI (k + 7)), .int pe, .int ep, nv, .ref dq, .ref sv, .ref ou]))) (y := .inl (.byte, 500, .inl (fo3 (fo4 B k a) (k + 4) b))) fσ20_0 fσ20_1 (fun e8 => by simp at e8))).trans fσ20_0
  have fσ21_1 : σ21.1 bf = some (.inl (.byte, 500, .inl (fo4 (fo4 B k a) (k + 4) b))) := by rw [eσ21]; exact if_pos rfl
  have fσ21_2 : σ21.1 σ.2 = some (.inl (.int, 5, .inl (va_up (va_up (va_up (va_up (va_up (fun _ => 0) 0 a) 1 b) 2 c) 3 d) 4 e))) := by rw [eσ21]; exact (hp_ne (ne_of (x := .inl (.int, 5, .inl (va_up (va_up (va_up (va_up (va_up (fun _ => 0) 0 a) 1 b) 2 c) 3 d) 4 e))) (y := .inl (.byte, 500, .inl (fo3 (fo4 B k a) (k + 4) b))) fσ20_2 fσ20_1 (fun e8 => by simp at e8))).trans fσ20_2
  have nσ21 : nw σ σ21 := by rw [eσ21]; exact nσ20.put fσ20_1 (isW_ty ⟨by decide, by decide, by decide⟩)
  refine A_aload_n (i := 0) dX1_append_88 rfl rfl ?_
  refine A_dup dX1_append_89 rfl ?_
  refine A_getf cb_X1 fσ21_0 1 (Nat.le_of_ble_eq_true rfl) q239 rfl (v := .int (nI (k + 7))) rfl dX1_append_90 ?_
  refine A_iconst (v := 1) dX1_append_93 (by decide) ?_
  refine A_iadd dX1_append_94 ?_
  refine A_int (w := nI (k + 8)) (by rw [show (1 : Int32) = nI 1 from rfl, nI_add]) ?_
  refine A_putf cb_X1 fσ21_0 1 (Nat.le_of_ble_eq_true rfl) q239 rfl rfl rfl rfl (Nat.le_of_ble_eq_true rfl) dX1_append_95 ?_
  obtain ⟨σ22, eσ22⟩ : ∃ τ, τ = h_put σ21 x (.inr (.inl (0, [.ref bf, .int (nI (k + 8)), .int pe, .int ep, nv, .ref dq, .ref sv, .ref ou]))) := ⟨_, rfl⟩
  refine A_st (σ' := σ22) eσ22.symm ?_
  have wσ22 : wfh σ22 := by rw [eσ22]; exact wσ21.put fσ21_0
  have fσ22_0 : σ22.1 x = some (.inr (.inl (0, [.ref bf, .int (nI (k + 8)), .int pe, .int ep, nv, .ref dq, .ref sv, .ref ou]))) := by rw [eσ22]; exact if_pos rfl
  have fσ22_1 : σ22.1 bf = some (.inl (.byte, 500, .inl (fo4 (fo4 B k a) (k + 4) b))) := by rw [eσ22]; exact (hp_ne (ne_of (x := .inl (.byte, 500, .inl (fo4 (fo4 B k a) (k + 4) b))) (y := .inr (.inl (0, [.ref bf, .int (nI (k + 7)), .int pe, .int ep, nv, .ref dq, .ref sv, .ref ou]))) fσ21_1 fσ21_0 (fun e8 => by simp at e8))).trans fσ21_1
  have fσ22_2 : σ22.1 σ.2 = some (.inl (.int, 5, .inl (va_up (va_up (va_up (va_up (va_up (fun _ => 0) 0 a) 1 b) 2 c) 3 d) 4 e))) := by rw [eσ22]; exact (hp_ne (ne_of (x := .inl (.int, 5, .inl (va_up (va_up (va_up (va_up (va_up (fun _ => 0) 0 a) 1 b) 2 c) 3 d) 4 e))) (y := .inr (.inl (0, [.ref bf, .int (nI (k + 7)), .int pe, .int ep, nv, .ref dq, .ref sv, .ref ou]))) fσ21_2 fσ21_0 (fun e8 => by simp at e8))).trans fσ21_2
  have nσ22 : nw σ σ22 := by rw [eσ22]; exact nσ21.put fσ21_0 (isW_no (by decide))
  refine A_iinc (v := (-8)) dX1_append_98 rfl (by decide) (Nat.le_of_ble_eq_true rfl) ?_
  refine A_goto (tgt := 68) dX1_append_101 (by decide) ?_
  refine A_sub (L' := [(0, .ref x), (1, .int a), (2, .int b), (3, .int c), (4, .int d), (5, .int e), (6, .ref σ.2), (7, .int 5), (8, .int 1), (9, .int b), (10, .int (-8))]) ⟨rfl, rfl, rfl, rfl, rfl, rfl, rfl, rfl, rfl, rfl, rfl, trivial⟩ ?_
  refine A_iload dX1_append_68 rfl ?_
  refine A_if_lt_t (tgt := 104) dX1_append_70 (by decide) (by decide) ?_
  refine A_iinc (v := 2) dX1_append_104 rfl (by decide) (Nat.le_of_ble_eq_true rfl) ?_
  refine A_goto (tgt := 50) dX1_append_107 (by decide) ?_
  refine A_sub (L' := [(0, .ref x), (1, .int a), (2, .int b), (3, .int c), (4, .int d), (5, .int e), (6, .ref σ.2), (7, .int 5), (8, .int 2), (9, .int b), (10, .int (-8))]) ⟨rfl, rfl, rfl, rfl, rfl, rfl, rfl, rfl, rfl, rfl, rfl, trivial⟩ ?_
  refine A_iload dX1_append_50 rfl ?_
  refine A_iload dX1_append_52 rfl ?_
  refine A_icmp_ge_f (tgt := 110) dX1_append_54 (by decide) (by decide) ?_
  refine A_aload dX1_append_57 rfl ?_
  refine A_iload dX1_append_59 rfl ?_
  refine A_iald fσ22_2 (by unfold vp_in; decide) dX1_append_61 ?_
  refine A_int (w := c) (rfl) ?_
  refine A_istore dX1_append_62 (Nat.le_of_ble_eq_true rfl) ?_
  refine A_bipush (v := 24) dX1_append_64 (by decide) ?_
  refine A_istore dX1_append_66 (Nat.le_of_ble_eq_true rfl) ?_
  refine A_iload dX1_append_68 rfl ?_
  refine A_if_lt_f (tgt := 104) dX1_append_70 (by decide) (by decide) ?_
  refine A_aload_n (i := 0) dX1_append_73 rfl rfl ?_
  refine A_getf cb_X1 fσ22_0 0 (Nat.le_of_ble_eq_true rfl) q238 rfl (v := .ref bf) rfl dX1_append_74 ?_
  refine A_aload_n (i := 0) dX1_append_77 rfl rfl ?_
  refine A_getf cb_X1 fσ22_0 1 (Nat.le_of_ble_eq_true rfl) q239 rfl (v := .int (nI (k + 8))) rfl dX1_append_78 ?_
  refine A_iload dX1_append_81 rfl ?_
  refine A_iload dX1_append_83 rfl ?_
  refine A_ishr dX1_append_85 ?_
  refine A_i2b dX1_append_86 rfl ?_
  refine A_int (w := (b8 (c >>> ((24 : Int32) &&& 31)))) (rfl) ?_
  refine A_bast fσ22_1 (vp_in_nI (by omega : k + 8 < 500) (by decide)) dX1_append_87 ?_
  refine A_st (σ' := h_put σ22 bf (.inl (.byte, 500, .inl (fo1 (fo4 (fo4 B k a) (k + 4) b) (k + 8) c)))) (by rw [nI_clamp (by omega), nar_b8] <;> rfl) ?_
  obtain ⟨σ23, eσ23⟩ : ∃ τ, τ = h_put σ22 bf (.inl (.byte, 500, .inl (fo1 (fo4 (fo4 B k a) (k + 4) b) (k + 8) c))) := ⟨_, rfl⟩
  refine A_st (σ' := σ23) eσ23.symm ?_
  have wσ23 : wfh σ23 := by rw [eσ23]; exact wσ22.put fσ22_1
  have fσ23_0 : σ23.1 x = some (.inr (.inl (0, [.ref bf, .int (nI (k + 8)), .int pe, .int ep, nv, .ref dq, .ref sv, .ref ou]))) := by rw [eσ23]; exact (hp_ne (ne_of (x := .inr (.inl (0, [.ref bf, .int (nI (k + 8)), .int pe, .int ep, nv, .ref dq, .ref sv, .ref ou]))) (y := .inl (.byte, 500, .inl (fo4 (fo4 B k a) (k + 4) b))) fσ22_0 fσ22_1 (fun e8 => by simp at e8))).trans fσ22_0
  have fσ23_1 : σ23.1 bf = some (.inl (.byte, 500, .inl (fo1 (fo4 (fo4 B k a) (k + 4) b) (k + 8) c))) := by rw [eσ23]; exact if_pos rfl
  have fσ23_2 : σ23.1 σ.2 = some (.inl (.int, 5, .inl (va_up (va_up (va_up (va_up (va_up (fun _ => 0) 0 a) 1 b) 2 c) 3 d) 4 e))) := by rw [eσ23]; exact (hp_ne (ne_of (x := .inl (.int, 5, .inl (va_up (va_up (va_up (va_up (va_up (fun _ => 0) 0 a) 1 b) 2 c) 3 d) 4 e))) (y := .inl (.byte, 500, .inl (fo4 (fo4 B k a) (k + 4) b))) fσ22_2 fσ22_1 (fun e8 => by simp at e8))).trans fσ22_2
  have nσ23 : nw σ σ23 := by rw [eσ23]; exact nσ22.put fσ22_1 (isW_ty ⟨by decide, by decide, by decide⟩)
  refine A_aload_n (i := 0) dX1_append_88 rfl rfl ?_
  refine A_dup dX1_append_89 rfl ?_
  refine A_getf cb_X1 fσ23_0 1 (Nat.le_of_ble_eq_true rfl) q239 rfl (v := .int (nI (k + 8))) rfl dX1_append_90 ?_
  refine A_iconst (v := 1) dX1_append_93 (by decide) ?_
  refine A_iadd dX1_append_94 ?_
  refine A_int (w := nI (k + 9)) (by rw [show (1 : Int32) = nI 1 from rfl, nI_add]) ?_
  refine A_putf cb_X1 fσ23_0 1 (Nat.le_of_ble_eq_true rfl) q239 rfl rfl rfl rfl (Nat.le_of_ble_eq_true rfl) dX1_append_95 ?_
  obtain ⟨σ24, eσ24⟩ : ∃ τ, τ = h_put σ23 x (.inr (.inl (0, [.ref bf, .int (nI (k + 9)), .int pe, .int ep, nv, .ref dq, .ref sv, .ref ou]))) := ⟨_, rfl⟩
  refine A_st (σ' := σ24) eσ24.symm ?_
  have wσ24 : wfh σ24 := by rw [eσ24]; exact wσ23.put fσ23_0
  have fσ24_0 : σ24.1 x = some (.inr (.inl (0, [.ref bf, .int (nI (k + 9)), .int pe, .int ep, nv, .ref dq, .ref sv, .ref ou]))) := by rw [eσ24]; exact if_pos rfl
  have fσ24_1 : σ24.1 bf = some (.inl (.byte, 500, .inl (fo1 (fo4 (fo4 B k a) (k + 4) b) (k + 8) c))) := by rw [eσ24]; exact (hp_ne (ne_of (x := .inl (.byte, 500, .inl (fo1 (fo4 (fo4 B k a) (k + 4) b) (k + 8) c))) (y := .inr (.inl (0, [.ref bf, .int (nI (k + 8)), .int pe, .int ep, nv, .ref dq, .ref sv, .ref ou]))) fσ23_1 fσ23_0 (fun e8 => by simp at e8))).trans fσ23_1
  have fσ24_2 : σ24.1 σ.2 = some (.inl (.int, 5, .inl (va_up (va_up (va_up (va_up (va_up (fun _ => 0) 0 a) 1 b) 2 c) 3 d) 4 e))) := by rw [eσ24]; exact (hp_ne (ne_of (x := .inl (.int, 5, .inl (va_up (va_up (va_up (va_up (va_up (fun _ => 0) 0 a) 1 b) 2 c) 3 d) 4 e))) (y := .inr (.inl (0, [.ref bf, .int (nI (k + 8)), .int pe, .int ep, nv, .ref dq, .ref sv, .ref ou]))) fσ23_2 fσ23_0 (fun e8 => by simp at e8))).trans fσ23_2
  have nσ24 : nw σ σ24 := by rw [eσ24]; exact nσ23.put fσ23_0 (isW_no (by decide))
  refine A_iinc (v := 16) dX1_append_98 rfl (by decide) (Nat.le_of_ble_eq_true rfl) ?_
  refine A_goto (tgt := 68) dX1_append_101 (by decide) ?_
  refine A_sub (L' := [(0, .ref x), (1, .int a), (2, .int b), (3, .int c), (4, .int d), (5, .int e), (6, .ref σ.2), (7, .int 5), (8, .int 2), (9, .int c), (10, .int 16)]) ⟨rfl, rfl, rfl, rfl, rfl, rfl, rfl, rfl, rfl, rfl, rfl, trivial⟩ ?_
  refine A_iload dX1_append_68 rfl ?_
  refine A_if_lt_f (tgt := 104) dX1_append_70 (by decide) (by decide) ?_
  refine A_aload_n (i := 0) dX1_append_73 rfl rfl ?_
  refine A_getf cb_X1 fσ24_0 0 (Nat.le_of_ble_eq_true rfl) q238 rfl (v := .ref bf) rfl dX1_append_74 ?_
  refine A_aload_n (i := 0) dX1_append_77 rfl rfl ?_
  refine A_getf cb_X1 fσ24_0 1 (Nat.le_of_ble_eq_true rfl) q239 rfl (v := .int (nI (k + 9))) rfl dX1_append_78 ?_
  refine A_iload dX1_append_81 rfl ?_
  refine A_iload dX1_append_83 rfl ?_
  refine A_ishr dX1_append_85 ?_
  refine A_i2b dX1_append_86 rfl ?_
  refine A_int (w := (b8 (c >>> ((16 : Int32) &&& 31)))) (rfl) ?_
  refine A_bast fσ24_1 (vp_in_nI (by omega : k + 9 < 500) (by decide)) dX1_append_87 ?_
  refine A_st (σ' := h_put σ24 bf (.inl (.byte, 500, .inl (fo2 (fo4 (fo4 B k a) (k + 4) b) (k + 8) c)))) (by rw [nI_clamp (by omega), nar_b8] <;> rfl) ?_
  obtain ⟨σ25, eσ25⟩ : ∃ τ, τ = h_put σ24 bf (.inl (.byte, 500, .inl (fo2 (fo4 (fo4 B k a) (k + 4) b) (k + 8) c))) := ⟨_, rfl⟩
  refine A_st (σ' := σ25) eσ25.symm ?_
  have wσ25 : wfh σ25 := by rw [eσ25]; exact wσ24.put fσ24_1
  have fσ25_0 : σ25.1 x = some (.inr (.inl (0, [.ref bf, .int (nI (k + 9)), .int pe, .int ep, nv, .ref dq, .ref sv, .ref ou]))) := by rw [eσ25]; exact (hp_ne (ne_of (x := .inr (.inl (0, [.ref bf, .int (nI (k + 9)), .int pe, .int ep, nv, .ref dq, .ref sv, .ref ou]))) (y := .inl (.byte, 500, .inl (fo1 (fo4 (fo4 B k a) (k + 4) b) (k + 8) c))) fσ24_0 fσ24_1 (fun e8 => by simp at e8))).trans fσ24_0
  have fσ25_1 : σ25.1 bf = some (.inl (.byte, 500, .inl (fo2 (fo4 (fo4 B k a) (k + 4) b) (k + 8) c))) := by rw [eσ25]; exact if_pos rfl
  have fσ25_2 : σ25.1 σ.2 = some (.inl (.int, 5, .inl (va_up (va_up (va_up (va_up (va_up (fun _ => 0) 0 a) 1 b) 2 c) 3 d) 4 e))) := by rw [eσ25]; exact (hp_ne (ne_of (x := .inl (.int, 5, .inl (va_up (va_up (va_up (va_up (va_up (fun _ => 0) 0 a) 1 b) 2 c) 3 d) 4 e))) (y := .inl (.byte, 500, .inl (fo1 (fo4 (fo4 B k a) (k + 4) b) (k + 8) c))) fσ24_2 fσ24_1 (fun e8 => by simp at e8))).trans fσ24_2
  have nσ25 : nw σ σ25 := by rw [eσ25]; exact nσ24.put fσ24_1 (isW_ty ⟨by decide, by decide, by decide⟩)
  refine A_aload_n (i := 0) dX1_append_88 rfl rfl ?_
  refine A_dup dX1_append_89 rfl ?_
  refine A_getf cb_X1 fσ25_0 1 (Nat.le_of_ble_eq_true rfl) q239 rfl (v := .int (nI (k + 9))) rfl dX1_append_90 ?_
  refine A_iconst (v := 1) dX1_append_93 (by decide) ?_
  refine A_iadd dX1_append_94 ?_
  refine A_int (w := nI (k + 10)) (by rw [show (1 : Int32) = nI 1 from rfl, nI_add]) ?_
  refine A_putf cb_X1 fσ25_0 1 (Nat.le_of_ble_eq_true rfl) q239 rfl rfl rfl rfl (Nat.le_of_ble_eq_true rfl) dX1_append_95 ?_
  obtain ⟨σ26, eσ26⟩ : ∃ τ, τ = h_put σ25 x (.inr (.inl (0, [.ref bf, .int (nI (k + 10)), .int pe, .int ep, nv, .ref dq, .ref sv, .ref ou]))) := ⟨_, rfl⟩
  refine A_st (σ' := σ26) eσ26.symm ?_
  have wσ26 : wfh σ26 := by rw [eσ26]; exact wσ25.put fσ25_0
  have fσ26_0 : σ26.1 x = some (.inr (.inl (0, [.ref bf, .int (nI (k + 10)), .int pe, .int ep, nv, .ref dq, .ref sv, .ref ou]))) := by rw [eσ26]; exact if_pos rfl
  have fσ26_1 : σ26.1 bf = some (.inl (.byte, 500, .inl (fo2 (fo4 (fo4 B k a) (k + 4) b) (k + 8) c))) := by rw [eσ26]; exact (hp_ne (ne_of (x := .inl (.byte, 500, .inl (fo2 (fo4 (fo4 B k a) (k + 4) b) (k + 8) c))) (y := .inr (.inl (0, [.ref bf, .int (nI (k + 9)), .int pe, .int ep, nv, .ref dq, .ref sv, .ref ou]))) fσ25_1 fσ25_0 (fun e8 => by simp at e8))).trans fσ25_1
  have fσ26_2 : σ26.1 σ.2 = some (.inl (.int, 5, .inl (va_up (va_up (va_up (va_up (va_up (fun _ => 0) 0 a) 1 b) 2 c) 3 d) 4 e))) := by rw [eσ26]; exact (hp_ne (ne_of (x := .inl (.int, 5, .inl (va_up (va_up (va_up (va_up (va_up (fun _ => 0) 0 a) 1 b) 2 c) 3 d) 4 e))) (y := .inr (.inl (0, [.ref bf, .int (nI (k + 9)), .int pe, .int ep, nv, .ref dq, .ref sv, .ref ou]))) fσ25_2 fσ25_0 (fun e8 => by simp at e8))).trans fσ25_2
  have nσ26 : nw σ σ26 := by rw [eσ26]; exact nσ25.put fσ25_0 (isW_no (by decide))
  refine A_iinc (v := 8) dX1_append_98 rfl (by decide) (Nat.le_of_ble_eq_true rfl) ?_
  refine A_goto (tgt := 68) dX1_append_101 (by decide) ?_
  refine A_sub (L' := [(0, .ref x), (1, .int a), (2, .int b), (3, .int c), (4, .int d), (5, .int e), (6, .ref σ.2), (7, .int 5), (8, .int 2), (9, .int c), (10, .int 8)]) ⟨rfl, rfl, rfl, rfl, rfl, rfl, rfl, rfl, rfl, rfl, rfl, trivial⟩ ?_
  refine A_iload dX1_append_68 rfl ?_
  refine A_if_lt_f (tgt := 104) dX1_append_70 (by decide) (by decide) ?_
  refine A_aload_n (i := 0) dX1_append_73 rfl rfl ?_
  refine A_getf cb_X1 fσ26_0 0 (Nat.le_of_ble_eq_true rfl) q238 rfl (v := .ref bf) rfl dX1_append_74 ?_
  refine A_aload_n (i := 0) dX1_append_77 rfl rfl ?_
  refine A_getf cb_X1 fσ26_0 1 (Nat.le_of_ble_eq_true rfl) q239 rfl (v := .int (nI (k + 10))) rfl dX1_append_78 ?_
  refine A_iload dX1_append_81 rfl ?_
  refine A_iload dX1_append_83 rfl ?_
  refine A_ishr dX1_append_85 ?_
  refine A_i2b dX1_append_86 rfl ?_
  refine A_int (w := (b8 (c >>> ((8 : Int32) &&& 31)))) (rfl) ?_
  refine A_bast fσ26_1 (vp_in_nI (by omega : k + 10 < 500) (by decide)) dX1_append_87 ?_
  refine A_st (σ' := h_put σ26 bf (.inl (.byte, 500, .inl (fo3 (fo4 (fo4 B k a) (k + 4) b) (k + 8) c)))) (by rw [nI_clamp (by omega), nar_b8] <;> rfl) ?_
  obtain ⟨σ27, eσ27⟩ : ∃ τ, τ = h_put σ26 bf (.inl (.byte, 500, .inl (fo3 (fo4 (fo4 B k a) (k + 4) b) (k + 8) c))) := ⟨_, rfl⟩
  refine A_st (σ' := σ27) eσ27.symm ?_
  have wσ27 : wfh σ27 := by rw [eσ27]; exact wσ26.put fσ26_1
  have fσ27_0 : σ27.1 x = some (.inr (.inl (0, [.ref bf, .int (nI (k + 10)), .int pe, .int ep, nv, .ref dq, .ref sv, .ref ou]))) := by rw [eσ27]; exact (hp_ne (ne_of (x := .inr (.inl (0, [.ref bf, .int (nI (k + 10)), .int pe, .int ep, nv, .ref dq, .ref sv, .ref ou]))) (y := .inl (.byte, 500, .inl (fo2 (fo4 (fo4 B k a) (k + 4) b) (k + 8) c))) fσ26_0 fσ26_1 (fun e8 => by simp at e8))).trans fσ26_0
  have fσ27_1 : σ27.1 bf = some (.inl (.byte, 500, .inl (fo3 (fo4 (fo4 B k a) (k + 4) b) (k + 8) c))) := by rw [eσ27]; exact if_pos rfl
  have fσ27_2 : σ27.1 σ.2 = some (.inl (.int, 5, .inl (va_up (va_up (va_up (va_up (va_up (fun _ => 0) 0 a) 1 b) 2 c) 3 d) 4 e))) := by rw [eσ27]; exact (hp_ne (ne_of (x := .inl (.int, 5, .inl (va_up (va_up (va_up (va_up (va_up (fun _ => 0) 0 a) 1 b) 2 c) 3 d) 4 e))) (y := .inl (.byte, 500, .inl (fo2 (fo4 (fo4 B k a) (k + 4) b) (k + 8) c))) fσ26_2 fσ26_1 (fun e8 => by simp at e8))).trans fσ26_2
  have nσ27 : nw σ σ27 := by rw [eσ27]; exact nσ26.put fσ26_1 (isW_ty ⟨by decide, by decide, by decide⟩)
  refine A_aload_n (i := 0) dX1_append_88 rfl rfl ?_
  refine A_dup dX1_append_89 rfl ?_
  refine A_getf cb_X1 fσ27_0 1 (Nat.le_of_ble_eq_true rfl) q239 rfl (v := .int (nI (k + 10))) rfl dX1_append_90 ?_
  refine A_iconst (v := 1) dX1_append_93 (by decide) ?_
  refine A_iadd dX1_append_94 ?_
  refine A_int (w := nI (k + 11)) (by rw [show (1 : Int32) = nI 1 from rfl, nI_add]) ?_
  refine A_putf cb_X1 fσ27_0 1 (Nat.le_of_ble_eq_true rfl) q239 rfl rfl rfl rfl (Nat.le_of_ble_eq_true rfl) dX1_append_95 ?_
  obtain ⟨σ28, eσ28⟩ : ∃ τ, τ = h_put σ27 x (.inr (.inl (0, [.ref bf, .int (nI (k + 11)), .int pe, .int ep, nv, .ref dq, .ref sv, .ref ou]))) := ⟨_, rfl⟩
  refine A_st (σ' := σ28) eσ28.symm ?_
  have wσ28 : wfh σ28 := by rw [eσ28]; exact wσ27.put fσ27_0
  have fσ28_0 : σ28.1 x = some (.inr (.inl (0, [.ref bf, .int (nI (k + 11)), .int pe, .int ep, nv, .ref dq, .ref sv, .ref ou]))) := by rw [eσ28]; exact if_pos rfl
  have fσ28_1 : σ28.1 bf = some (.inl (.byte, 500, .inl (fo3 (fo4 (fo4 B k a) (k + 4) b) (k + 8) c))) := by rw [eσ28]; exact (hp_ne (ne_of (x := .inl (.byte, 500, .inl (fo3 (fo4 (fo4 B k a) (k + 4) b) (k + 8) c))) (y := .inr (.inl (0, [.ref bf, .int (nI (k + 10)), .int pe, .int ep, nv, .ref dq, .ref sv, .ref ou]))) fσ27_1 fσ27_0 (fun e8 => by simp at e8))).trans fσ27_1
  have fσ28_2 : σ28.1 σ.2 = some (.inl (.int, 5, .inl (va_up (va_up (va_up (va_up (va_up (fun _ => 0) 0 a) 1 b) 2 c) 3 d) 4 e))) := by rw [eσ28]; exact (hp_ne (ne_of (x := .inl (.int, 5, .inl (va_up (va_up (va_up (va_up (va_up (fun _ => 0) 0 a) 1 b) 2 c) 3 d) 4 e))) (y := .inr (.inl (0, [.ref bf, .int (nI (k + 10)), .int pe, .int ep, nv, .ref dq, .ref sv, .ref ou]))) fσ27_2 fσ27_0 (fun e8 => by simp at e8))).trans fσ27_2
  have nσ28 : nw σ σ28 := by rw [eσ28]; exact nσ27.put fσ27_0 (isW_no (by decide))
  refine A_iinc (v := 0) dX1_append_98 rfl (by decide) (Nat.le_of_ble_eq_true rfl) ?_
  refine A_goto (tgt := 68) dX1_append_101 (by decide) ?_
  refine A_sub (L' := [(0, .ref x), (1, .int a), (2, .int b), (3, .int c), (4, .int d), (5, .int e), (6, .ref σ.2), (7, .int 5), (8, .int 2), (9, .int c), (10, .int 0)]) ⟨rfl, rfl, rfl, rfl, rfl, rfl, rfl, rfl, rfl, rfl, rfl, trivial⟩ ?_
  refine A_iload dX1_append_68 rfl ?_
  refine A_if_lt_f (tgt := 104) dX1_append_70 (by decide) (by decide) ?_
  refine A_aload_n (i := 0) dX1_append_73 rfl rfl ?_
  refine A_getf cb_X1 fσ28_0 0 (Nat.le_of_ble_eq_true rfl) q238 rfl (v := .ref bf) rfl dX1_append_74 ?_
  refine A_aload_n (i := 0) dX1_append_77 rfl rfl ?_
  refine A_getf cb_X1 fσ28_0 1 (Nat.le_of_ble_eq_true rfl) q239 rfl (v := .int (nI (k + 11))) rfl dX1_append_78 ?_
  refine A_iload dX1_append_81 rfl ?_
  refine A_iload dX1_append_83 rfl ?_
  refine A_ishr dX1_append_85 ?_
  refine A_i2b dX1_append_86 rfl ?_
  refine A_int (w := (b8 (c >>> ((0 : Int32) &&& 31)))) (rfl) ?_
  refine A_bast fσ28_1 (vp_in_nI (by omega : k + 11 < 500) (by decide)) dX1_append_87 ?_
  refine A_st (σ' := h_put σ28 bf (.inl (.byte, 500, .inl (fo4 (fo4 (fo4 B k a) (k + 4) b) (k + 8) c)))) (by rw [nI_clamp (by omega), nar_b8] <;> rfl) ?_
  obtain ⟨σ29, eσ29⟩ : ∃ τ, τ = h_put σ28 bf (.inl (.byte, 500, .inl (fo4 (fo4 (fo4 B k a) (k + 4) b) (k + 8) c))) := ⟨_, rfl⟩
  refine A_st (σ' := σ29) eσ29.symm ?_
  have wσ29 : wfh σ29 := by rw [eσ29]; exact wσ28.put fσ28_1
  have fσ29_0 : σ29.1 x = some (.inr (.inl (0, [.ref bf, .int (nI (k + 11)), .int pe, .int ep, nv, .ref dq, .ref sv, .ref ou]))) := by rw [eσ29]; exact (hp_ne (ne_of (x := .inr (.inl (0, [.ref bf, .int (nI (k + 11)), .int pe, .int ep, nv, .ref dq, .ref sv, .ref ou]))) (y := .inl (.byte, 500, .inl (fo3 (fo4 (fo4 B k a) (k + 4) b) (k + 8) c))) fσ28_0 fσ28_1 (fun e8 => by simp at e8))).trans fσ28_0
  have fσ29_1 : σ29.1 bf = some (.inl (.byte, 500, .inl (fo4 (fo4 (fo4 B k a) (k + 4) b) (k + 8) c))) := by rw [eσ29]; exact if_pos rfl
  have fσ29_2 : σ29.1 σ.2 = some (.inl (.int, 5, .inl (va_up (va_up (va_up (va_up (va_up (fun _ => 0) 0 a) 1 b) 2 c) 3 d) 4 e))) := by rw [eσ29]; exact (hp_ne (ne_of (x := .inl (.int, 5, .inl (va_up (va_up (va_up (va_up (va_up (fun _ => 0) 0 a) 1 b) 2 c) 3 d) 4 e))) (y := .inl (.byte, 500, .inl (fo3 (fo4 (fo4 B k a) (k + 4) b) (k + 8) c))) fσ28_2 fσ28_1 (fun e8 => by simp at e8))).trans fσ28_2
  have nσ29 : nw σ σ29 := by rw [eσ29]; exact nσ28.put fσ28_1 (isW_ty ⟨by decide, by decide, by decide⟩)
  refine A_aload_n (i := 0) dX1_append_88 rfl rfl ?_
  refine A_dup dX1_append_89 rfl ?_
  refine A_getf cb_X1 fσ29_0 1 (Nat.le_of_ble_eq_true rfl) q239 rfl (v := .int (nI (k + 11))) rfl dX1_append_90 ?_
  refine A_iconst (v := 1) dX1_append_93 (by decide) ?_
  refine A_iadd dX1_append_94 ?_
  refine A_int (w := nI (k + 12)) (by rw [show (1 : Int32) = nI 1 from rfl, nI_add]) ?_
  refine A_putf cb_X1 fσ29_0 1 (Nat.le_of_ble_eq_true rfl) q239 rfl rfl rfl rfl (Nat.le_of_ble_eq_true rfl) dX1_append_95 ?_
  obtain ⟨σ30, eσ30⟩ : ∃ τ, τ = h_put σ29 x (.inr (.inl (0, [.ref bf, .int (nI (k + 12)), .int pe, .int ep, nv, .ref dq, .ref sv, .ref ou]))) := ⟨_, rfl⟩
  refine A_st (σ' := σ30) eσ30.symm ?_
  have wσ30 : wfh σ30 := by rw [eσ30]; exact wσ29.put fσ29_0
  have fσ30_0 : σ30.1 x = some (.inr (.inl (0, [.ref bf, .int (nI (k + 12)), .int pe, .int ep, nv, .ref dq, .ref sv, .ref ou]))) := by rw [eσ30]; exact if_pos rfl
  have fσ30_1 : σ30.1 bf = some (.inl (.byte, 500, .inl (fo4 (fo4 (fo4 B k a) (k + 4) b) (k + 8) c))) := by rw [eσ30]; exact (hp_ne (ne_of (x := .inl (.byte, 500, .inl (fo4 (fo4 (fo4 B k a) (k + 4) b) (k + 8) c))) (y := .inr (.inl (0, [.ref bf, .int (nI (k + 11)), .int pe, .int ep, nv, .ref dq, .ref sv, .ref ou]))) fσ29_1 fσ29_0 (fun e8 => by simp at e8))).trans fσ29_1
  have fσ30_2 : σ30.1 σ.2 = some (.inl (.int, 5, .inl (va_up (va_up (va_up (va_up (va_up (fun _ => 0) 0 a) 1 b) 2 c) 3 d) 4 e))) := by rw [eσ30]; exact (hp_ne (ne_of (x := .inl (.int, 5, .inl (va_up (va_up (va_up (va_up (va_up (fun _ => 0) 0 a) 1 b) 2 c) 3 d) 4 e))) (y := .inr (.inl (0, [.ref bf, .int (nI (k + 11)), .int pe, .int ep, nv, .ref dq, .ref sv, .ref ou]))) fσ29_2 fσ29_0 (fun e8 => by simp at e8))).trans fσ29_2
  have nσ30 : nw σ σ30 := by rw [eσ30]; exact nσ29.put fσ29_0 (isW_no (by decide))
  refine A_iinc (v := (-8)) dX1_append_98 rfl (by decide) (Nat.le_of_ble_eq_true rfl) ?_
  refine A_goto (tgt := 68) dX1_append_101 (by decide) ?_
  refine A_sub (L' := [(0, .ref x), (1, .int a), (2, .int b), (3, .int c), (4, .int d), (5, .int e), (6, .ref σ.2), (7, .int 5), (8, .int 2), (9, .int c), (10, .int (-8))]) ⟨rfl, rfl, rfl, rfl, rfl, rfl, rfl, rfl, rfl, rfl, rfl, trivial⟩ ?_
  refine A_iload dX1_append_68 rfl ?_
  refine A_if_lt_t (tgt := 104) dX1_append_70 (by decide) (by decide) ?_
  refine A_iinc (v := 3) dX1_append_104 rfl (by decide) (Nat.le_of_ble_eq_true rfl) ?_
  refine A_goto (tgt := 50) dX1_append_107 (by decide) ?_
  refine A_sub (L' := [(0, .ref x), (1, .int a), (2, .int b), (3, .int c), (4, .int d), (5, .int e), (6, .ref σ.2), (7, .int 5), (8, .int 3), (9, .int c), (10, .int (-8))]) ⟨rfl, rfl, rfl, rfl, rfl, rfl, rfl, rfl, rfl, rfl, rfl, trivial⟩ ?_
  refine A_iload dX1_append_50 rfl ?_
  refine A_iload dX1_append_52 rfl ?_
  refine A_icmp_ge_f (tgt := 110) dX1_append_54 (by decide) (by decide) ?_
  refine A_aload dX1_append_57 rfl ?_
  refine A_iload dX1_append_59 rfl ?_
  refine A_iald fσ30_2 (by unfold vp_in; decide) dX1_append_61 ?_
  refine A_int (w := d) (rfl) ?_
  refine A_istore dX1_append_62 (Nat.le_of_ble_eq_true rfl) ?_
  refine A_bipush (v := 24) dX1_append_64 (by decide) ?_
  refine A_istore dX1_append_66 (Nat.le_of_ble_eq_true rfl) ?_
  refine A_iload dX1_append_68 rfl ?_
  refine A_if_lt_f (tgt := 104) dX1_append_70 (by decide) (by decide) ?_
  refine A_aload_n (i := 0) dX1_append_73 rfl rfl ?_
  refine A_getf cb_X1 fσ30_0 0 (Nat.le_of_ble_eq_true rfl) q238 rfl (v := .ref bf) rfl dX1_append_74 ?_
  refine A_aload_n (i := 0) dX1_append_77 rfl rfl ?_
  refine A_getf cb_X1 fσ30_0 1 (Nat.le_of_ble_eq_true rfl) q239 rfl (v := .int (nI (k + 12))) rfl dX1_append_78 ?_
  refine A_iload dX1_append_81 rfl ?_
  refine A_iload dX1_append_83 rfl ?_
  refine A_ishr dX1_append_85 ?_
  refine A_i2b dX1_append_86 rfl ?_
  refine A_int (w := (b8 (d >>> ((24 : Int32) &&& 31)))) (rfl) ?_
  refine A_bast fσ30_1 (vp_in_nI (by omega : k + 12 < 500) (by decide)) dX1_append_87 ?_
  refine A_st (σ' := h_put σ30 bf (.inl (.byte, 500, .inl (fo1 (fo4 (fo4 (fo4 B k a) (k + 4) b) (k + 8) c) (k + 12) d)))) (by rw [nI_clamp (by omega), nar_b8] <;> rfl) ?_
  obtain ⟨σ31, eσ31⟩ : ∃ τ, τ = h_put σ30 bf (.inl (.byte, 500, .inl (fo1 (fo4 (fo4 (fo4 B k a) (k + 4) b) (k + 8) c) (k + 12) d))) := ⟨_, rfl⟩
  refine A_st (σ' := σ31) eσ31.symm ?_
  have wσ31 : wfh σ31 := by rw [eσ31]; exact wσ30.put fσ30_1
  have fσ31_0 : σ31.1 x = some (.inr (.inl (0, [.ref bf, .int (nI (k + 12)), .int pe, .int ep, nv, .ref dq, .ref sv, .ref ou]))) := by rw [eσ31]; exact (hp_ne (ne_of (x := .inr (.inl (0, [.ref bf, .int (nI (k + 12)), .int pe, .int ep, nv, .ref dq, .ref sv, .ref ou]))) (y := .inl (.byte, 500, .inl (fo4 (fo4 (fo4 B k a) (k + 4) b) (k + 8) c))) fσ30_0 fσ30_1 (fun e8 => by simp at e8))).trans fσ30_0
  have fσ31_1 : σ31.1 bf = some (.inl (.byte, 500, .inl (fo1 (fo4 (fo4 (fo4 B k a) (k + 4) b) (k + 8) c) (k + 12) d))) := by rw [eσ31]; exact if_pos rfl
  have fσ31_2 : σ31.1 σ.2 = some (.inl (.int, 5, .inl (va_up (va_up (va_up (va_up (va_up (fun _ => 0) 0 a) 1 b) 2 c) 3 d) 4 e))) := by rw [eσ31]; exact (hp_ne (ne_of (x := .inl (.int, 5, .inl (va_up (va_up (va_up (va_up (va_up (fun _ => 0) 0 a) 1 b) 2 c) 3 d) 4 e))) (y := .inl (.byte, 500, .inl (fo4 (fo4 (fo4 B k a) (k + 4) b) (k + 8) c))) fσ30_2 fσ30_1 (fun e8 => by simp at e8))).trans fσ30_2
  have nσ31 : nw σ σ31 := by rw [eσ31]; exact nσ30.put fσ30_1 (isW_ty ⟨by decide, by decide, by decide⟩)
  refine A_aload_n (i := 0) dX1_append_88 rfl rfl ?_
  refine A_dup dX1_append_89 rfl ?_
  refine A_getf cb_X1 fσ31_0 1 (Nat.le_of_ble_eq_true rfl) q239 rfl (v := .int (nI (k + 12))) rfl dX1_append_90 ?_
  refine A_iconst (v := 1) dX1_append_93 (by decide) ?_
  refine A_iadd dX1_append_94 ?_
  refine A_int (w := nI (k + 13)) (by rw [show (1 : Int32) = nI 1 from rfl, nI_add]) ?_
  refine A_putf cb_X1 fσ31_0 1 (Nat.le_of_ble_eq_true rfl) q239 rfl rfl rfl rfl (Nat.le_of_ble_eq_true rfl) dX1_append_95 ?_
  obtain ⟨σ32, eσ32⟩ : ∃ τ, τ = h_put σ31 x (.inr (.inl (0, [.ref bf, .int (nI (k + 13)), .int pe, .int ep, nv, .ref dq, .ref sv, .ref ou]))) := ⟨_, rfl⟩
  refine A_st (σ' := σ32) eσ32.symm ?_
  have wσ32 : wfh σ32 := by rw [eσ32]; exact wσ31.put fσ31_0
  have fσ32_0 : σ32.1 x = some (.inr (.inl (0, [.ref bf, .int (nI (k + 13)), .int pe, .int ep, nv, .ref dq, .ref sv, .ref ou]))) := by rw [eσ32]; exact if_pos rfl
  have fσ32_1 : σ32.1 bf = some (.inl (.byte, 500, .inl (fo1 (fo4 (fo4 (fo4 B k a) (k + 4) b) (k + 8) c) (k + 12) d))) := by rw [eσ32]; exact (hp_ne (ne_of (x := .inl (.byte, 500, .inl (fo1 (fo4 (fo4 (fo4 B k a) (k + 4) b) (k + 8) c) (k + 12) d))) (y := .inr (.inl (0, [.ref bf, .int (nI (k + 12)), .int pe, .int ep, nv, .ref dq, .ref sv, .ref ou]))) fσ31_1 fσ31_0 (fun e8 => by simp at e8))).trans fσ31_1
  have fσ32_2 : σ32.1 σ.2 = some (.inl (.int, 5, .inl (va_up (va_up (va_up (va_up (va_up (fun _ => 0) 0 a) 1 b) 2 c) 3 d) 4 e))) := by rw [eσ32]; exact (hp_ne (ne_of (x := .inl (.int, 5, .inl (va_up (va_up (va_up (va_up (va_up (fun _ => 0) 0 a) 1 b) 2 c) 3 d) 4 e))) (y := .inr (.inl (0, [.ref bf, .int (nI (k + 12)), .int pe, .int ep, nv, .ref dq, .ref sv, .ref ou]))) fσ31_2 fσ31_0 (fun e8 => by simp at e8))).trans fσ31_2
  have nσ32 : nw σ σ32 := by rw [eσ32]; exact nσ31.put fσ31_0 (isW_no (by decide))
  refine A_iinc (v := 16) dX1_append_98 rfl (by decide) (Nat.le_of_ble_eq_true rfl) ?_
  refine A_goto (tgt := 68) dX1_append_101 (by decide) ?_
  refine A_sub (L' := [(0, .ref x), (1, .int a), (2, .int b), (3, .int c), (4, .int d), (5, .int e), (6, .ref σ.2), (7, .int 5), (8, .int 3), (9, .int d), (10, .int 16)]) ⟨rfl, rfl, rfl, rfl, rfl, rfl, rfl, rfl, rfl, rfl, rfl, trivial⟩ ?_
  refine A_iload dX1_append_68 rfl ?_
  refine A_if_lt_f (tgt := 104) dX1_append_70 (by decide) (by decide) ?_
  refine A_aload_n (i := 0) dX1_append_73 rfl rfl ?_
  refine A_getf cb_X1 fσ32_0 0 (Nat.le_of_ble_eq_true rfl) q238 rfl (v := .ref bf) rfl dX1_append_74 ?_
  refine A_aload_n (i := 0) dX1_append_77 rfl rfl ?_
  refine A_getf cb_X1 fσ32_0 1 (Nat.le_of_ble_eq_true rfl) q239 rfl (v := .int (nI (k + 13))) rfl dX1_append_78 ?_
  refine A_iload dX1_append_81 rfl ?_
  refine A_iload dX1_append_83 rfl ?_
  refine A_ishr dX1_append_85 ?_
  refine A_i2b dX1_append_86 rfl ?_
  refine A_int (w := (b8 (d >>> ((16 : Int32) &&& 31)))) (rfl) ?_
  refine A_bast fσ32_1 (vp_in_nI (by omega : k + 13 < 500) (by decide)) dX1_append_87 ?_
  refine A_st (σ' := h_put σ32 bf (.inl (.byte, 500, .inl (fo2 (fo4 (fo4 (fo4 B k a) (k + 4) b) (k + 8) c) (k + 12) d)))) (by rw [nI_clamp (by omega), nar_b8] <;> rfl) ?_
  obtain ⟨σ33, eσ33⟩ : ∃ τ, τ = h_put σ32 bf (.inl (.byte, 500, .inl (fo2 (fo4 (fo4 (fo4 B k a) (k + 4) b) (k + 8) c) (k + 12) d))) := ⟨_, rfl⟩
  refine A_st (σ' := σ33) eσ33.symm ?_
  have wσ33 : wfh σ33 := by rw [eσ33]; exact wσ32.put fσ32_1
  have fσ33_0 : σ33.1 x = some (.inr (.inl (0, [.ref bf, .int (nI (k + 13)), .int pe, .int ep, nv, .ref dq, .ref sv, .ref ou]))) := by rw [eσ33]; exact (hp_ne (ne_of (x := .inr (.inl (0, [.ref bf, .int (nI (k + 13)), .int pe, .int ep, nv, .ref dq, .ref sv, .ref ou]))) (y := .inl (.byte, 500, .inl (fo1 (fo4 (fo4 (fo4 B k a) (k + 4) b) (k + 8) c) (k + 12) d))) fσ32_0 fσ32_1 (fun e8 => by simp at e8))).trans fσ32_0
  have fσ33_1 : σ33.1 bf = some (.inl (.byte, 500, .inl (fo2 (fo4 (fo4 (fo4 B k a) (k + 4) b) (k + 8) c) (k + 12) d))) := by rw [eσ33]; exact if_pos rfl
  have fσ33_2 : σ33.1 σ.2 = some (.inl (.int, 5, .inl (va_up (va_up (va_up (va_up (va_up (fun _ => 0) 0 a) 1 b) 2 c) 3 d) 4 e))) := by rw [eσ33]; exact (hp_ne (ne_of (x := .inl (.int, 5, .inl (va_up (va_up (va_up (va_up (va_up (fun _ => 0) 0 a) 1 b) 2 c) 3 d) 4 e))) (y := .inl (.byte, 500, .inl (fo1 (fo4 (fo4 (fo4 B k a) (k + 4) b) (k + 8) c) (k + 12) d))) fσ32_2 fσ32_1 (fun e8 => by simp at e8))).trans fσ32_2
  have nσ33 : nw σ σ33 := by rw [eσ33]; exact nσ32.put fσ32_1 (isW_ty ⟨by decide, by decide, by decide⟩)
  refine A_aload_n (i := 0) dX1_append_88 rfl rfl ?_
  refine A_dup dX1_append_89 rfl ?_
  refine A_getf cb_X1 fσ33_0 1 (Nat.le_of_ble_eq_true rfl) q239 rfl (v := .int (nI (k + 13))) rfl dX1_append_90 ?_
  refine A_iconst (v := 1) dX1_append_93 (by decide) ?_
  refine A_iadd dX1_append_94 ?_
  refine A_int (w := nI (k + 14)) (by rw [show (1 : Int32) = nI 1 from rfl, nI_add]) ?_
  refine A_putf cb_X1 fσ33_0 1 (Nat.le_of_ble_eq_true rfl) q239 rfl rfl rfl rfl (Nat.le_of_ble_eq_true rfl) dX1_append_95 ?_
  obtain ⟨σ34, eσ34⟩ : ∃ τ, τ = h_put σ33 x (.inr (.inl (0, [.ref bf, .int (nI (k + 14)), .int pe, .int ep, nv, .ref dq, .ref sv, .ref ou]))) := ⟨_, rfl⟩
  refine A_st (σ' := σ34) eσ34.symm ?_
  have wσ34 : wfh σ34 := by rw [eσ34]; exact wσ33.put fσ33_0
  have fσ34_0 : σ34.1 x = some (.inr (.inl (0, [.ref bf, .int (nI (k + 14)), .int pe, .int ep, nv, .ref dq, .ref sv, .ref ou]))) := by rw [eσ34]; exact if_pos rfl
  have fσ34_1 : σ34.1 bf = some (.inl (.byte, 500, .inl (fo2 (fo4 (fo4 (fo4 B k a) (k + 4) b) (k + 8) c) (k + 12) d))) := by rw [eσ34]; exact (hp_ne (ne_of (x := .inl (.byte, 500, .inl (fo2 (fo4 (fo4 (fo4 B k a) (k + 4) b) (k + 8) c) (k + 12) d))) (y := .inr (.inl (0, [.ref bf, .int (nI (k + 13)), .int pe, .int ep, nv, .ref dq, .ref sv, .ref ou]))) fσ33_1 fσ33_0 (fun e8 => by simp at e8))).trans fσ33_1
  have fσ34_2 : σ34.1 σ.2 = some (.inl (.int, 5, .inl (va_up (va_up (va_up (va_up (va_up (fun _ => 0) 0 a) 1 b) 2 c) 3 d) 4 e))) := by rw [eσ34]; exact (hp_ne (ne_of (x := .inl (.int, 5, .inl (va_up (va_up (va_up (va_up (va_up (fun _ => 0) 0 a) 1 b) 2 c) 3 d) 4 e))) (y := .inr (.inl (0, [.ref bf, .int (nI (k + 13)), .int pe, .int ep, nv, .ref dq, .ref sv, .ref ou]))) fσ33_2 fσ33_0 (fun e8 => by simp at e8))).trans fσ33_2
  have nσ34 : nw σ σ34 := by rw [eσ34]; exact nσ33.put fσ33_0 (isW_no (by decide))
  refine A_iinc (v := 8) dX1_append_98 rfl (by decide) (Nat.le_of_ble_eq_true rfl) ?_
  refine A_goto (tgt := 68) dX1_append_101 (by decide) ?_
  refine A_sub (L' := [(0, .ref x), (1, .int a), (2, .int b), (3, .int c), (4, .int d), (5, .int e), (6, .ref σ.2), (7, .int 5), (8, .int 3), (9, .int d), (10, .int 8)]) ⟨rfl, rfl, rfl, rfl, rfl, rfl, rfl, rfl, rfl, rfl, rfl, trivial⟩ ?_
  refine A_iload dX1_append_68 rfl ?_
  refine A_if_lt_f (tgt := 104) dX1_append_70 (by decide) (by decide) ?_
  refine A_aload_n (i := 0) dX1_append_73 rfl rfl ?_
  refine A_getf cb_X1 fσ34_0 0 (Nat.le_of_ble_eq_true rfl) q238 rfl (v := .ref bf) rfl dX1_append_74 ?_
  refine A_aload_n (i := 0) dX1_append_77 rfl rfl ?_
  refine A_getf cb_X1 fσ34_0 1 (Nat.le_of_ble_eq_true rfl) q239 rfl (v := .int (nI (k + 14))) rfl dX1_append_78 ?_
  refine A_iload dX1_append_81 rfl ?_
  refine A_iload dX1_append_83 rfl ?_
  refine A_ishr dX1_append_85 ?_
  refine A_i2b dX1_append_86 rfl ?_
  refine A_int (w := (b8 (d >>> ((8 : Int32) &&& 31)))) (rfl) ?_
  refine A_bast fσ34_1 (vp_in_nI (by omega : k + 14 < 500) (by decide)) dX1_append_87 ?_
  refine A_st (σ' := h_put σ34 bf (.inl (.byte, 500, .inl (fo3 (fo4 (fo4 (fo4 B k a) (k + 4) b) (k + 8) c) (k + 12) d)))) (by rw [nI_clamp (by omega), nar_b8] <;> rfl) ?_
  obtain ⟨σ35, eσ35⟩ : ∃ τ, τ = h_put σ34 bf (.inl (.byte, 500, .inl (fo3 (fo4 (fo4 (fo4 B k a) (k + 4) b) (k + 8) c) (k + 12) d))) := ⟨_, rfl⟩
  refine A_st (σ' := σ35) eσ35.symm ?_
  have wσ35 : wfh σ35 := by rw [eσ35]; exact wσ34.put fσ34_1
  have fσ35_0 : σ35.1 x = some (.inr (.inl (0, [.ref bf, .int (nI (k + 14)), .int pe, .int ep, nv, .ref dq, .ref sv, .ref ou]))) := by rw [eσ35]; exact (hp_ne (ne_of (x := .inr (.inl (0, [.ref bf, .int (nI (k + 14)), .int pe, .int ep, nv, .ref dq, .ref sv, .ref ou]))) (y := .inl (.byte, 500, .inl (fo2 (fo4 (fo4 (fo4 B k a) (k + 4) b) (k + 8) c) (k + 12) d))) fσ34_0 fσ34_1 (fun e8 => by simp at e8))).trans fσ34_0
  have fσ35_1 : σ35.1 bf = some (.inl (.byte, 500, .inl (fo3 (fo4 (fo4 (fo4 B k a) (k + 4) b) (k + 8) c) (k + 12) d))) := by rw [eσ35]; exact if_pos rfl
  have fσ35_2 : σ35.1 σ.2 = some (.inl (.int, 5, .inl (va_up (va_up (va_up (va_up (va_up (fun _ => 0) 0 a) 1 b) 2 c) 3 d) 4 e))) := by rw [eσ35]; exact (hp_ne (ne_of (x := .inl (.int, 5, .inl (va_up (va_up (va_up (va_up (va_up (fun _ => 0) 0 a) 1 b) 2 c) 3 d) 4 e))) (y := .inl (.byte, 500, .inl (fo2 (fo4 (fo4 (fo4 B k a) (k + 4) b) (k + 8) c) (k + 12) d))) fσ34_2 fσ34_1 (fun e8 => by simp at e8))).trans fσ34_2
  have nσ35 : nw σ σ35 := by rw [eσ35]; exact nσ34.put fσ34_1 (isW_ty ⟨by decide, by decide, by decide⟩)
  refine A_aload_n (i := 0) dX1_append_88 rfl rfl ?_
  refine A_dup dX1_append_89 rfl ?_
  refine A_getf cb_X1 fσ35_0 1 (Nat.le_of_ble_eq_true rfl) q239 rfl (v := .int (nI (k + 14))) rfl dX1_append_90 ?_
  refine A_iconst (v := 1) dX1_append_93 (by decide) ?_
  refine A_iadd dX1_append_94 ?_
  refine A_int (w := nI (k + 15)) (by rw [show (1 : Int32) = nI 1 from rfl, nI_add]) ?_
  refine A_putf cb_X1 fσ35_0 1 (Nat.le_of_ble_eq_true rfl) q239 rfl rfl rfl rfl (Nat.le_of_ble_eq_true rfl) dX1_append_95 ?_
  obtain ⟨σ36, eσ36⟩ : ∃ τ, τ = h_put σ35 x (.inr (.inl (0, [.ref bf, .int (nI (k + 15)), .int pe, .int ep, nv, .ref dq, .ref sv, .ref ou]))) := ⟨_, rfl⟩
  refine A_st (σ' := σ36) eσ36.symm ?_
  have wσ36 : wfh σ36 := by rw [eσ36]; exact wσ35.put fσ35_0
  have fσ36_0 : σ36.1 x = some (.inr (.inl (0, [.ref bf, .int (nI (k + 15)), .int pe, .int ep, nv, .ref dq, .ref sv, .ref ou]))) := by rw [eσ36]; exact if_pos rfl
  have fσ36_1 : σ36.1 bf = some (.inl (.byte, 500, .inl (fo3 (fo4 (fo4 (fo4 B k a) (k + 4) b) (k + 8) c) (k + 12) d))) := by rw [eσ36]; exact (hp_ne (ne_of (x := .inl (.byte, 500, .inl (fo3 (fo4 (fo4 (fo4 B k a) (k + 4) b) (k + 8) c) (k + 12) d))) (y := .inr (.inl (0, [.ref bf, .int (nI (k + 14)), .int pe, .int ep, nv, .ref dq, .ref sv, .ref ou]))) fσ35_1 fσ35_0 (fun e8 => by simp at e8))).trans fσ35_1
  have fσ36_2 : σ36.1 σ.2 = some (.inl (.int, 5, .inl (va_up (va_up (va_up (va_up (va_up (fun _ => 0) 0 a) 1 b) 2 c) 3 d) 4 e))) := by rw [eσ36]; exact (hp_ne (ne_of (x := .inl (.int, 5, .inl (va_up (va_up (va_up (va_up (va_up (fun _ => 0) 0 a) 1 b) 2 c) 3 d) 4 e))) (y := .inr (.inl (0, [.ref bf, .int (nI (k + 14)), .int pe, .int ep, nv, .ref dq, .ref sv, .ref ou]))) fσ35_2 fσ35_0 (fun e8 => by simp at e8))).trans fσ35_2
  have nσ36 : nw σ σ36 := by rw [eσ36]; exact nσ35.put fσ35_0 (isW_no (by decide))
  refine A_iinc (v := 0) dX1_append_98 rfl (by decide) (Nat.le_of_ble_eq_true rfl) ?_
  refine A_goto (tgt := 68) dX1_append_101 (by decide) ?_
  refine A_sub (L' := [(0, .ref x), (1, .int a), (2, .int b), (3, .int c), (4, .int d), (5, .int e), (6, .ref σ.2), (7, .int 5), (8, .int 3), (9, .int d), (10, .int 0)]) ⟨rfl, rfl, rfl, rfl, rfl, rfl, rfl, rfl, rfl, rfl, rfl, trivial⟩ ?_
  refine A_iload dX1_append_68 rfl ?_
  refine A_if_lt_f (tgt := 104) dX1_append_70 (by decide) (by decide) ?_
  refine A_aload_n (i := 0) dX1_append_73 rfl rfl ?_
  refine A_getf cb_X1 fσ36_0 0 (Nat.le_of_ble_eq_true rfl) q238 rfl (v := .ref bf) rfl dX1_append_74 ?_
  refine A_aload_n (i := 0) dX1_append_77 rfl rfl ?_
  refine A_getf cb_X1 fσ36_0 1 (Nat.le_of_ble_eq_true rfl) q239 rfl (v := .int (nI (k + 15))) rfl dX1_append_78 ?_
  refine A_iload dX1_append_81 rfl ?_
  refine A_iload dX1_append_83 rfl ?_
  refine A_ishr dX1_append_85 ?_
  refine A_i2b dX1_append_86 rfl ?_
  refine A_int (w := (b8 (d >>> ((0 : Int32) &&& 31)))) (rfl) ?_
  refine A_bast fσ36_1 (vp_in_nI (by omega : k + 15 < 500) (by decide)) dX1_append_87 ?_
  refine A_st (σ' := h_put σ36 bf (.inl (.byte, 500, .inl (fo4 (fo4 (fo4 (fo4 B k a) (k + 4) b) (k + 8) c) (k + 12) d)))) (by rw [nI_clamp (by omega), nar_b8] <;> rfl) ?_
  obtain ⟨σ37, eσ37⟩ : ∃ τ, τ = h_put σ36 bf (.inl (.byte, 500, .inl (fo4 (fo4 (fo4 (fo4 B k a) (k + 4) b) (k + 8) c) (k + 12) d))) := ⟨_, rfl⟩
  refine A_st (σ' := σ37) eσ37.symm ?_
  have wσ37 : wfh σ37 := by rw [eσ37]; exact wσ36.put fσ36_1
  have fσ37_0 : σ37.1 x = some (.inr (.inl (0, [.ref bf, .int (nI (k + 15)), .int pe, .int ep, nv, .ref dq, .ref sv, .ref ou]))) := by rw [eσ37]; exact (hp_ne (ne_of (x := .inr (.inl (0, [.ref bf, .int (nI (k + 15)), .int pe, .int ep, nv, .ref dq, .ref sv, .ref ou]))) (y := .inl (.byte, 500, .inl (fo3 (fo4 (fo4 (fo4 B k a) (k + 4) b) (k + 8) c) (k + 12) d))) fσ36_0 fσ36_1 (fun e8 => by simp at e8))).trans fσ36_0
  have fσ37_1 : σ37.1 bf = some (.inl (.byte, 500, .inl (fo4 (fo4 (fo4 (fo4 B k a) (k + 4) b) (k + 8) c) (k + 12) d))) := by rw [eσ37]; exact if_pos rfl
  have fσ37_2 : σ37.1 σ.2 = some (.inl (.int, 5, .inl (va_up (va_up (va_up (va_up (va_up (fun _ => 0) 0 a) 1 b) 2 c) 3 d) 4 e))) := by rw [eσ37]; exact (hp_ne (ne_of (x := .inl (.int, 5, .inl (va_up (va_up (va_up (va_up (va_up (fun _ => 0) 0 a) 1 b) 2 c) 3 d) 4 e))) (y := .inl (.byte, 500, .inl (fo3 (fo4 (fo4 (fo4 B k a) (k + 4) b) (k + 8) c) (k + 12) d))) fσ36_2 fσ36_1 (fun e8 => by simp at e8))).trans fσ36_2
  have nσ37 : nw σ σ37 := by rw [eσ37]; exact nσ36.put fσ36_1 (isW_ty ⟨by decide, by decide, by decide⟩)
  refine A_aload_n (i := 0) dX1_append_88 rfl rfl ?_
  refine A_dup dX1_append_89 rfl ?_
  refine A_getf cb_X1 fσ37_0 1 (Nat.le_of_ble_eq_true rfl) q239 rfl (v := .int (nI (k + 15))) rfl dX1_append_90 ?_
  refine A_iconst (v := 1) dX1_append_93 (by decide) ?_
  refine A_iadd dX1_append_94 ?_
  refine A_int (w := nI (k + 16)) (by rw [show (1 : Int32) = nI 1 from rfl, nI_add]) ?_
  refine A_putf cb_X1 fσ37_0 1 (Nat.le_of_ble_eq_true rfl) q239 rfl rfl rfl rfl (Nat.le_of_ble_eq_true rfl) dX1_append_95 ?_
  obtain ⟨σ38, eσ38⟩ : ∃ τ, τ = h_put σ37 x (.inr (.inl (0, [.ref bf, .int (nI (k + 16)), .int pe, .int ep, nv, .ref dq, .ref sv, .ref ou]))) := ⟨_, rfl⟩
  refine A_st (σ' := σ38) eσ38.symm ?_
  have wσ38 : wfh σ38 := by rw [eσ38]; exact wσ37.put fσ37_0
  have fσ38_0 : σ38.1 x = some (.inr (.inl (0, [.ref bf, .int (nI (k + 16)), .int pe, .int ep, nv, .ref dq, .ref sv, .ref ou]))) := by rw [eσ38]; exact if_pos rfl
  have fσ38_1 : σ38.1 bf = some (.inl (.byte, 500, .inl (fo4 (fo4 (fo4 (fo4 B k a) (k + 4) b) (k + 8) c) (k + 12) d))) := by rw [eσ38]; exact (hp_ne (ne_of (x := .inl (.byte, 500, .inl (fo4 (fo4 (fo4 (fo4 B k a) (k + 4) b) (k + 8) c) (k + 12) d))) (y := .inr (.inl (0, [.ref bf, .int (nI (k + 15)), .int pe, .int ep, nv, .ref dq, .ref sv, .ref ou]))) fσ37_1 fσ37_0 (fun e8 => by simp at e8))).trans fσ37_1
  have fσ38_2 : σ38.1 σ.2 = some (.inl (.int, 5, .inl (va_up (va_up (va_up (va_up (va_up (fun _ => 0) 0 a) 1 b) 2 c) 3 d) 4 e))) := by rw [eσ38]; exact (hp_ne (ne_of (x := .inl (.int, 5, .inl (va_up (va_up (va_up (va_up (va_up (fun _ => 0) 0 a) 1 b) 2 c) 3 d) 4 e))) (y := .inr (.inl (0, [.ref bf, .int (nI (k + 15)), .int pe, .int ep, nv, .ref dq, .ref sv, .ref ou]))) fσ37_2 fσ37_0 (fun e8 => by simp at e8))).trans fσ37_2
  have nσ38 : nw σ σ38 := by rw [eσ38]; exact nσ37.put fσ37_0 (isW_no (by decide))
  refine A_iinc (v := (-8)) dX1_append_98 rfl (by decide) (Nat.le_of_ble_eq_true rfl) ?_
  refine A_goto (tgt := 68) dX1_append_101 (by decide) ?_
  refine A_sub (L' := [(0, .ref x), (1, .int a), (2, .int b), (3, .int c), (4, .int d), (5, .int e), (6, .ref σ.2), (7, .int 5), (8, .int 3), (9, .int d), (10, .int (-8))]) ⟨rfl, rfl, rfl, rfl, rfl, rfl, rfl, rfl, rfl, rfl, rfl, trivial⟩ ?_
  refine A_iload dX1_append_68 rfl ?_
  refine A_if_lt_t (tgt := 104) dX1_append_70 (by decide) (by decide) ?_
  refine A_iinc (v := 4) dX1_append_104 rfl (by decide) (Nat.le_of_ble_eq_true rfl) ?_
  refine A_goto (tgt := 50) dX1_append_107 (by decide) ?_
  refine A_sub (L' := [(0, .ref x), (1, .int a), (2, .int b), (3, .int c), (4, .int d), (5, .int e), (6, .ref σ.2), (7, .int 5), (8, .int 4), (9, .int d), (10, .int (-8))]) ⟨rfl, rfl, rfl, rfl, rfl, rfl, rfl, rfl, rfl, rfl, rfl, trivial⟩ ?_
  refine A_iload dX1_append_50 rfl ?_
  refine A_iload dX1_append_52 rfl ?_
  refine A_icmp_ge_f (tgt := 110) dX1_append_54 (by decide) (by decide) ?_
  refine A_aload dX1_append_57 rfl ?_
  refine A_iload dX1_append_59 rfl ?_
  refine A_iald fσ38_2 (by unfold vp_in; decide) dX1_append_61 ?_
  refine A_int (w := e) (rfl) ?_
  refine A_istore dX1_append_62 (Nat.le_of_ble_eq_true rfl) ?_
  refine A_bipush (v := 24) dX1_append_64 (by decide) ?_
  refine A_istore dX1_append_66 (Nat.le_of_ble_eq_true rfl) ?_
  refine A_iload dX1_append_68 rfl ?_
  refine A_if_lt_f (tgt := 104) dX1_append_70 (by decide) (by decide) ?_
  refine A_aload_n (i := 0) dX1_append_73 rfl rfl ?_
  refine A_getf cb_X1 fσ38_0 0 (Nat.le_of_ble_eq_true rfl) q238 rfl (v := .ref bf) rfl dX1_append_74 ?_
  refine A_aload_n (i := 0) dX1_append_77 rfl rfl ?_
  refine A_getf cb_X1 fσ38_0 1 (Nat.le_of_ble_eq_true rfl) q239 rfl (v := .int (nI (k + 16))) rfl dX1_append_78 ?_
  refine A_iload dX1_append_81 rfl ?_
  refine A_iload dX1_append_83 rfl ?_
  refine A_ishr dX1_append_85 ?_
  refine A_i2b dX1_append_86 rfl ?_
  refine A_int (w := (b8 (e >>> ((24 : Int32) &&& 31)))) (rfl) ?_
  refine A_bast fσ38_1 (vp_in_nI (by omega : k + 16 < 500) (by decide)) dX1_append_87 ?_
  refine A_st (σ' := h_put σ38 bf (.inl (.byte, 500, .inl (fo1 (fo4 (fo4 (fo4 (fo4 B k a) (k + 4) b) (k + 8) c) (k + 12) d) (k + 16) e)))) (by rw [nI_clamp (by omega), nar_b8] <;> rfl) ?_
  obtain ⟨σ39, eσ39⟩ : ∃ τ, τ = h_put σ38 bf (.inl (.byte, 500, .inl (fo1 (fo4 (fo4 (fo4 (fo4 B k a) (k + 4) b) (k + 8) c) (k + 12) d) (k + 16) e))) := ⟨_, rfl⟩
  refine A_st (σ' := σ39) eσ39.symm ?_
  have wσ39 : wfh σ39 := by rw [eσ39]; exact wσ38.put fσ38_1
  have fσ39_0 : σ39.1 x = some (.inr (.inl (0, [.ref bf, .int (nI (k + 16)), .int pe, .int ep, nv, .ref dq, .ref sv, .ref ou]))) := by rw [eσ39]; exact (hp_ne (ne_of (x := .inr (.inl (0, [.ref bf, .int (nI (k + 16)), .int pe, .int ep, nv, .ref dq, .ref sv, .ref ou]))) (y := .inl (.byte, 500, .inl (fo4 (fo4 (fo4 (fo4 B k a) (k + 4) b) (k + 8) c) (k + 12) d))) fσ38_0 fσ38_1 (fun e8 => by simp at e8))).trans fσ38_0
  have fσ39_1 : σ39.1 bf = some (.inl (.byte, 500, .inl (fo1 (fo4 (fo4 (fo4 (fo4 B k a) (k + 4) b) (k + 8) c) (k + 12) d) (k + 16) e))) := by rw [eσ39]; exact if_pos rfl
  have fσ39_2 : σ39.1 σ.2 = some (.inl (.int, 5, .inl (va_up (va_up (va_up (va_up (va_up (fun _ => 0) 0 a) 1 b) 2 c) 3 d) 4 e))) := by rw [eσ39]; exact (hp_ne (ne_of (x := .inl (.int, 5, .inl (va_up (va_up (va_up (va_up (va_up (fun _ => 0) 0 a) 1 b) 2 c) 3 d) 4 e))) (y := .inl (.byte, 500, .inl (fo4 (fo4 (fo4 (fo4 B k a) (k + 4) b) (k + 8) c) (k + 12) d))) fσ38_2 fσ38_1 (fun e8 => by simp at e8))).trans fσ38_2
  have nσ39 : nw σ σ39 := by rw [eσ39]; exact nσ38.put fσ38_1 (isW_ty ⟨by decide, by decide, by decide⟩)
  refine A_aload_n (i := 0) dX1_append_88 rfl rfl ?_
  refine A_dup dX1_append_89 rfl ?_
  refine A_getf cb_X1 fσ39_0 1 (Nat.le_of_ble_eq_true rfl) q239 rfl (v := .int (nI (k + 16))) rfl dX1_append_90 ?_
  refine A_iconst (v := 1) dX1_append_93 (by decide) ?_
  refine A_iadd dX1_append_94 ?_
  refine A_int (w := nI (k + 17)) (by rw [show (1 : Int32) = nI 1 from rfl, nI_add]) ?_
  refine A_putf cb_X1 fσ39_0 1 (Nat.le_of_ble_eq_true rfl) q239 rfl rfl rfl rfl (Nat.le_of_ble_eq_true rfl) dX1_append_95 ?_
  obtain ⟨σ40, eσ40⟩ : ∃ τ, τ = h_put σ39 x (.inr (.inl (0, [.ref bf, .int (nI (k + 17)), .int pe, .int ep, nv, .ref dq, .ref sv, .ref ou]))) := ⟨_, rfl⟩
  refine A_st (σ' := σ40) eσ40.symm ?_
  have wσ40 : wfh σ40 := by rw [eσ40]; exact wσ39.put fσ39_0
  have fσ40_0 : σ40.1 x = some (.inr (.inl (0, [.ref bf, .int (nI (k + 17)), .int pe, .int ep, nv, .ref dq, .ref sv, .ref ou]))) := by rw [eσ40]; exact if_pos rfl
  have fσ40_1 : σ40.1 bf = some (.inl (.byte, 500, .inl (fo1 (fo4 (fo4 (fo4 (fo4 B k a) (k + 4) b) (k + 8) c) (k + 12) d) (k + 16) e))) := by rw [eσ40]; exact (hp_ne (ne_of (x := .inl (.byte, 500, .inl (fo1 (fo4 (fo4 (fo4 (fo4 B k a) (k + 4) b) (k + 8) c) (k + 12) d) (k + 16) e))) (y := .inr (.inl (0, [.ref bf, .int (nI (k + 16)), .int pe, .int ep, nv, .ref dq, .ref sv, .ref ou]))) fσ39_1 fσ39_0 (fun e8 => by simp at e8))).trans fσ39_1
  have fσ40_2 : σ40.1 σ.2 = some (.inl (.int, 5, .inl (va_up (va_up (va_up (va_up (va_up (fun _ => 0) 0 a) 1 b) 2 c) 3 d) 4 e))) := by rw [eσ40]; exact (hp_ne (ne_of (x := .inl (.int, 5, .inl (va_up (va_up (va_up (va_up (va_up (fun _ => 0) 0 a) 1 b) 2 c) 3 d) 4 e))) (y := .inr (.inl (0, [.ref bf, .int (nI (k + 16)), .int pe, .int ep, nv, .ref dq, .ref sv, .ref ou]))) fσ39_2 fσ39_0 (fun e8 => by simp at e8))).trans fσ39_2
  have nσ40 : nw σ σ40 := by rw [eσ40]; exact nσ39.put fσ39_0 (isW_no (by decide))
  refine A_iinc (v := 16) dX1_append_98 rfl (by decide) (Nat.le_of_ble_eq_true rfl) ?_
  refine A_goto (tgt := 68) dX1_append_101 (by decide) ?_
  refine A_sub (L' := [(0, .ref x), (1, .int a), (2, .int b), (3, .int c), (4, .int d), (5, .int e), (6, .ref σ.2), (7, .int 5), (8, .int 4), (9, .int e), (10, .int 16)]) ⟨rfl, rfl, rfl, rfl, rfl, rfl, rfl, rfl, rfl, rfl, rfl, trivial⟩ ?_
  refine A_iload dX1_append_68 rfl ?_
  refine A_if_lt_f (tgt := 104) dX1_append_70 (by decide) (by decide) ?_
  refine A_aload_n (i := 0) dX1_append_73 rfl rfl ?_
  refine A_getf cb_X1 fσ40_0 0 (Nat.le_of_ble_eq_true rfl) q238 rfl (v := .ref bf) rfl dX1_append_74 ?_
  refine A_aload_n (i := 0) dX1_append_77 rfl rfl ?_
  refine A_getf cb_X1 fσ40_0 1 (Nat.le_of_ble_eq_true rfl) q239 rfl (v := .int (nI (k + 17))) rfl dX1_append_78 ?_
  refine A_iload dX1_append_81 rfl ?_
  refine A_iload dX1_append_83 rfl ?_
  refine A_ishr dX1_append_85 ?_
  refine A_i2b dX1_append_86 rfl ?_
  refine A_int (w := (b8 (e >>> ((16 : Int32) &&& 31)))) (rfl) ?_
  refine A_bast fσ40_1 (vp_in_nI (by omega : k + 17 < 500) (by decide)) dX1_append_87 ?_
  refine A_st (σ' := h_put σ40 bf (.inl (.byte, 500, .inl (fo2 (fo4 (fo4 (fo4 (fo4 B k a) (k + 4) b) (k + 8) c) (k + 12) d) (k + 16) e)))) (by rw [nI_clamp (by omega), nar_b8] <;> rfl) ?_
  obtain ⟨σ41, eσ41⟩ : ∃ τ, τ = h_put σ40 bf (.inl (.byte, 500, .inl (fo2 (fo4 (fo4 (fo4 (fo4 B k a) (k + 4) b) (k + 8) c) (k + 12) d) (k + 16) e))) := ⟨_, rfl⟩
  refine A_st (σ' := σ41) eσ41.symm ?_
  have wσ41 : wfh σ41 := by rw [eσ41]; exact wσ40.put fσ40_1
  have fσ41_0 : σ41.1 x = some (.inr (.inl (0, [.ref bf, .int (nI (k + 17)), .int pe, .int ep, nv, .ref dq, .ref sv, .ref ou]))) := by rw [eσ41]; exact (hp_ne (ne_of (x := .inr (.inl (0, [.ref bf, .int (nI (k + 17)), .int pe, .int ep, nv, .ref dq, .ref sv, .ref ou]))) (y := .inl (.byte, 500, .inl (fo1 (fo4 (fo4 (fo4 (fo4 B k a) (k + 4) b) (k + 8) c) (k + 12) d) (k + 16) e))) fσ40_0 fσ40_1 (fun e8 => by simp at e8))).trans fσ40_0
  have fσ41_1 : σ41.1 bf = some (.inl (.byte, 500, .inl (fo2 (fo4 (fo4 (fo4 (fo4 B k a) (k + 4) b) (k + 8) c) (k + 12) d) (k + 16) e))) := by rw [eσ41]; exact if_pos rfl
  have fσ41_2 : σ41.1 σ.2 = some (.inl (.int, 5, .inl (va_up (va_up (va_up (va_up (va_up (fun _ => 0) 0 a) 1 b) 2 c) 3 d) 4 e))) := by rw [eσ41]; exact (hp_ne (ne_of (x := .inl (.int, 5, .inl (va_up (va_up (va_up (va_up (va_up (fun _ => 0) 0 a) 1 b) 2 c) 3 d) 4 e))) (y := .inl (.byte, 500, .inl (fo1 (fo4 (fo4 (fo4 (fo4 B k a) (k + 4) b) (k + 8) c) (k + 12) d) (k + 16) e))) fσ40_2 fσ40_1 (fun e8 => by simp at e8))).trans fσ40_2
  have nσ41 : nw σ σ41 := by rw [eσ41]; exact nσ40.put fσ40_1 (isW_ty ⟨by decide, by decide, by decide⟩)
  refine A_aload_n (i := 0) dX1_append_88 rfl rfl ?_
  refine A_dup dX1_append_89 rfl ?_
  refine A_getf cb_X1 fσ41_0 1 (Nat.le_of_ble_eq_true rfl) q239 rfl (v := .int (nI (k + 17))) rfl dX1_append_90 ?_
  refine A_iconst (v := 1) dX1_append_93 (by decide) ?_
  refine A_iadd dX1_append_94 ?_
  refine A_int (w := nI (k + 18)) (by rw [show (1 : Int32) = nI 1 from rfl, nI_add]) ?_
  refine A_putf cb_X1 fσ41_0 1 (Nat.le_of_ble_eq_true rfl) q239 rfl rfl rfl rfl (Nat.le_of_ble_eq_true rfl) dX1_append_95 ?_
  obtain ⟨σ42, eσ42⟩ : ∃ τ, τ = h_put σ41 x (.inr (.inl (0, [.ref bf, .int (nI (k + 18)), .int pe, .int ep, nv, .ref dq, .ref sv, .ref ou]))) := ⟨_, rfl⟩
  refine A_st (σ' := σ42) eσ42.symm ?_
  have wσ42 : wfh σ42 := by rw [eσ42]; exact wσ41.put fσ41_0
  have fσ42_0 : σ42.1 x = some (.inr (.inl (0, [.ref bf, .int (nI (k + 18)), .int pe, .int ep, nv, .ref dq, .ref sv, .ref ou]))) := by rw [eσ42]; exact if_pos rfl
  have fσ42_1 : σ42.1 bf = some (.inl (.byte, 500, .inl (fo2 (fo4 (fo4 (fo4 (fo4 B k a) (k + 4) b) (k + 8) c) (k + 12) d) (k + 16) e))) := by rw [eσ42]; exact (hp_ne (ne_of (x := .inl (.byte, 500, .inl (fo2 (fo4 (fo4 (fo4 (fo4 B k a) (k + 4) b) (k + 8) c) (k + 12) d) (k + 16) e))) (y := .inr (.inl (0, [.ref bf, .int (nI (k + 17)), .int pe, .int ep, nv, .ref dq, .ref sv, .ref ou]))) fσ41_1 fσ41_0 (fun e8 => by simp at e8))).trans fσ41_1
  have fσ42_2 : σ42.1 σ.2 = some (.inl (.int, 5, .inl (va_up (va_up (va_up (va_up (va_up (fun _ => 0) 0 a) 1 b) 2 c) 3 d) 4 e))) := by rw [eσ42]; exact (hp_ne (ne_of (x := .inl (.int, 5, .inl (va_up (va_up (va_up (va_up (va_up (fun _ => 0) 0 a) 1 b) 2 c) 3 d) 4 e))) (y := .inr (.inl (0, [.ref bf, .int (nI (k + 17)), .int pe, .int ep, nv, .ref dq, .ref sv, .ref ou]))) fσ41_2 fσ41_0 (fun e8 => by simp at e8))).trans fσ41_2
  have nσ42 : nw σ σ42 := by rw [eσ42]; exact nσ41.put fσ41_0 (isW_no (by decide))
  refine A_iinc (v := 8) dX1_append_98 rfl (by decide) (Nat.le_of_ble_eq_true rfl) ?_
  refine A_goto (tgt := 68) dX1_append_101 (by decide) ?_
  refine A_sub (L' := [(0, .ref x), (1, .int a), (2, .int b), (3, .int c), (4, .int d), (5, .int e), (6, .ref σ.2), (7, .int 5), (8, .int 4), (9, .int e), (10, .int 8)]) ⟨rfl, rfl, rfl, rfl, rfl, rfl, rfl, rfl, rfl, rfl, rfl, trivial⟩ ?_
  refine A_iload dX1_append_68 rfl ?_
  refine A_if_lt_f (tgt := 104) dX1_append_70 (by decide) (by decide) ?_
  refine A_aload_n (i := 0) dX1_append_73 rfl rfl ?_
  refine A_getf cb_X1 fσ42_0 0 (Nat.le_of_ble_eq_true rfl) q238 rfl (v := .ref bf) rfl dX1_append_74 ?_
  refine A_aload_n (i := 0) dX1_append_77 rfl rfl ?_
  refine A_getf cb_X1 fσ42_0 1 (Nat.le_of_ble_eq_true rfl) q239 rfl (v := .int (nI (k + 18))) rfl dX1_append_78 ?_
  refine A_iload dX1_append_81 rfl ?_
  refine A_iload dX1_append_83 rfl ?_
  refine A_ishr dX1_append_85 ?_
  refine A_i2b dX1_append_86 rfl ?_
  refine A_int (w := (b8 (e >>> ((8 : Int32) &&& 31)))) (rfl) ?_
  refine A_bast fσ42_1 (vp_in_nI (by omega : k + 18 < 500) (by decide)) dX1_append_87 ?_
  refine A_st (σ' := h_put σ42 bf (.inl (.byte, 500, .inl (fo3 (fo4 (fo4 (fo4 (fo4 B k a) (k + 4) b) (k + 8) c) (k + 12) d) (k + 16) e)))) (by rw [nI_clamp (by omega), nar_b8] <;> rfl) ?_
  obtain ⟨σ43, eσ43⟩ : ∃ τ, τ = h_put σ42 bf (.inl (.byte, 500, .inl (fo3 (fo4 (fo4 (fo4 (fo4 B k a) (k + 4) b) (k + 8) c) (k + 12) d) (k + 16) e))) := ⟨_, rfl⟩
  refine A_st (σ' := σ43) eσ43.symm ?_
  have wσ43 : wfh σ43 := by rw [eσ43]; exact wσ42.put fσ42_1
  have fσ43_0 : σ43.1 x = some (.inr (.inl (0, [.ref bf, .int (nI (k + 18)), .int pe, .int ep, nv, .ref dq, .ref sv, .ref ou]))) := by rw [eσ43]; exact (hp_ne (ne_of (x := .inr (.inl (0, [.ref bf, .int (nI (k + 18)), .int pe, .int ep, nv, .ref dq, .ref sv, .ref ou]))) (y := .inl (.byte, 500, .inl (fo2 (fo4 (fo4 (fo4 (fo4 B k a) (k + 4) b) (k + 8) c) (k + 12) d) (k + 16) e))) fσ42_0 fσ42_1 (fun e8 => by simp at e8))).trans fσ42_0
  have fσ43_1 : σ43.1 bf = some (.inl (.byte, 500, .inl (fo3 (fo4 (fo4 (fo4 (fo4 B k a) (k + 4) b) (k + 8) c) (k + 12) d) (k + 16) e))) := by rw [eσ43]; exact if_pos rfl
  have fσ43_2 : σ43.1 σ.2 = some (.inl (.int, 5, .inl (va_up (va_up (va_up (va_up (va_up (fun _ => 0) 0 a) 1 b) 2 c) 3 d) 4 e))) := by rw [eσ43]; exact (hp_ne (ne_of (x := .inl (.int, 5, .inl (va_up (va_up (va_up (va_up (va_up (fun _ => 0) 0 a) 1 b) 2 c) 3 d) 4 e))) (y := .inl (.byte, 500, .inl (fo2 (fo4 (fo4 (fo4 (fo4 B k a) (k + 4) b) (k + 8) c) (k + 12) d) (k + 16) e))) fσ42_2 fσ42_1 (fun e8 => by simp at e8))).trans fσ42_2
  have nσ43 : nw σ σ43 := by rw [eσ43]; exact nσ42.put fσ42_1 (isW_ty ⟨by decide, by decide, by decide⟩)
  refine A_aload_n (i := 0) dX1_append_88 rfl rfl ?_
  refine A_dup dX1_append_89 rfl ?_
  refine A_getf cb_X1 fσ43_0 1 (Nat.le_of_ble_eq_true rfl) q239 rfl (v := .int (nI (k + 18))) rfl dX1_append_90 ?_
  refine A_iconst (v := 1) dX1_append_93 (by decide) ?_
  refine A_iadd dX1_append_94 ?_
  refine A_int (w := nI (k + 19)) (by rw [show (1 : Int32) = nI 1 from rfl, nI_add]) ?_
  refine A_putf cb_X1 fσ43_0 1 (Nat.le_of_ble_eq_true rfl) q239 rfl rfl rfl rfl (Nat.le_of_ble_eq_true rfl) dX1_append_95 ?_
  obtain ⟨σ44, eσ44⟩ : ∃ τ, τ = h_put σ43 x (.inr (.inl (0, [.ref bf, .int (nI (k + 19)), .int pe, .int ep, nv, .ref dq, .ref sv, .ref ou]))) := ⟨_, rfl⟩
  refine A_st (σ' := σ44) eσ44.symm ?_
  have wσ44 : wfh σ44 := by rw [eσ44]; exact wσ43.put fσ43_0
  have fσ44_0 : σ44.1 x = some (.inr (.inl (0, [.ref bf, .int (nI (k + 19)), .int pe, .int ep, nv, .ref dq, .ref sv, .ref ou]))) := by rw [eσ44]; exact if_pos rfl
  have fσ44_1 : σ44.1 bf = some (.inl (.byte, 500, .inl (fo3 (fo4 (fo4 (fo4 (fo4 B k a) (k + 4) b) (k + 8) c) (k + 12) d) (k + 16) e))) := by rw [eσ44]; exact (hp_ne (ne_of (x := .inl (.byte, 500, .inl (fo3 (fo4 (fo4 (fo4 (fo4 B k a) (k + 4) b) (k + 8) c) (k + 12) d) (k + 16) e))) (y := .inr (.inl (0, [.ref bf, .int (nI (k + 18)), .int pe, .int ep, nv, .ref dq, .ref sv, .ref ou]))) fσ43_1 fσ43_0 (fun e8 => by simp at e8))).trans fσ43_1
  have fσ44_2 : σ44.1 σ.2 = some (.inl (.int, 5, .inl (va_up (va_up (va_up (va_up (va_up (fun _ => 0) 0 a) 1 b) 2 c) 3 d) 4 e))) := by rw [eσ44]; exact (hp_ne (ne_of (x := .inl (.int, 5, .inl (va_up (va_up (va_up (va_up (va_up (fun _ => 0) 0 a) 1 b) 2 c) 3 d) 4 e))) (y := .inr (.inl (0, [.ref bf, .int (nI (k + 18)), .int pe, .int ep, nv, .ref dq, .ref sv, .ref ou]))) fσ43_2 fσ43_0 (fun e8 => by simp at e8))).trans fσ43_2
  have nσ44 : nw σ σ44 := by rw [eσ44]; exact nσ43.put fσ43_0 (isW_no (by decide))
  refine A_iinc (v := 0) dX1_append_98 rfl (by decide) (Nat.le_of_ble_eq_true rfl) ?_
  refine A_goto (tgt := 68) dX1_append_101 (by decide) ?_
  refine A_sub (L' := [(0, .ref x), (1, .int a), (2, .int b), (3, .int c), (4, .int d), (5, .int e), (6, .ref σ.2), (7, .int 5), (8, .int 4), (9, .int e), (10, .int 0)]) ⟨rfl, rfl, rfl, rfl, rfl, rfl, rfl, rfl, rfl, rfl, rfl, trivial⟩ ?_
  refine A_iload dX1_append_68 rfl ?_
  refine A_if_lt_f (tgt := 104) dX1_append_70 (by decide) (by decide) ?_
  refine A_aload_n (i := 0) dX1_append_73 rfl rfl ?_
  refine A_getf cb_X1 fσ44_0 0 (Nat.le_of_ble_eq_true rfl) q238 rfl (v := .ref bf) rfl dX1_append_74 ?_
  refine A_aload_n (i := 0) dX1_append_77 rfl rfl ?_
  refine A_getf cb_X1 fσ44_0 1 (Nat.le_of_ble_eq_true rfl) q239 rfl (v := .int (nI (k + 19))) rfl dX1_append_78 ?_
  refine A_iload dX1_append_81 rfl ?_
  refine A_iload dX1_append_83 rfl ?_
  refine A_ishr dX1_append_85 ?_
  refine A_i2b dX1_append_86 rfl ?_
  refine A_int (w := (b8 (e >>> ((0 : Int32) &&& 31)))) (rfl) ?_
  refine A_bast fσ44_1 (vp_in_nI (by omega : k + 19 < 500) (by decide)) dX1_append_87 ?_
  refine A_st (σ' := h_put σ44 bf (.inl (.byte, 500, .inl (fo4 (fo4 (fo4 (fo4 (fo4 B k a) (k + 4) b) (k + 8) c) (k + 12) d) (k + 16) e)))) (by rw [nI_clamp (by omega), nar_b8] <;> rfl) ?_
  obtain ⟨σ45, eσ45⟩ : ∃ τ, τ = h_put σ44 bf (.inl (.byte, 500, .inl (fo4 (fo4 (fo4 (fo4 (fo4 B k a) (k + 4) b) (k + 8) c) (k + 12) d) (k + 16) e))) := ⟨_, rfl⟩
  refine A_st (σ' := σ45) eσ45.symm ?_
  have wσ45 : wfh σ45 := by rw [eσ45]; exact wσ44.put fσ44_1
  have fσ45_0 : σ45.1 x = some (.inr (.inl (0, [.ref bf, .int (nI (k + 19)), .int pe, .int ep, nv, .ref dq, .ref sv, .ref ou]))) := by rw [eσ45]; exact (hp_ne (ne_of (x := .inr (.inl (0, [.ref bf, .int (nI (k + 19)), .int pe, .int ep, nv, .ref dq, .ref sv, .ref ou]))) (y := .inl (.byte, 500, .inl (fo3 (fo4 (fo4 (fo4 (fo4 B k a) (k + 4) b) (k + 8) c) (k + 12) d) (k + 16) e))) fσ44_0 fσ44_1 (fun e8 => by simp at e8))).trans fσ44_0
  have fσ45_1 : σ45.1 bf = some (.inl (.byte, 500, .inl (fo4 (fo4 (fo4 (fo4 (fo4 B k a) (k + 4) b) (k + 8) c) (k + 12) d) (k + 16) e))) := by rw [eσ45]; exact if_pos rfl
  have fσ45_2 : σ45.1 σ.2 = some (.inl (.int, 5, .inl (va_up (va_up (va_up (va_up (va_up (fun _ => 0) 0 a) 1 b) 2 c) 3 d) 4 e))) := by rw [eσ45]; exact (hp_ne (ne_of (x := .inl (.int, 5, .inl (va_up (va_up (va_up (va_up (va_up (fun _ => 0) 0 a) 1 b) 2 c) 3 d) 4 e))) (y := .inl (.byte, 500, .inl (fo3 (fo4 (fo4 (fo4 (fo4 B k a) (k + 4) b) (k + 8) c) (k + 12) d) (k + 16) e))) fσ44_2 fσ44_1 (fun e8 => by simp at e8))).trans fσ44_2
  have nσ45 : nw σ σ45 := by rw [eσ45]; exact nσ44.put fσ44_1 (isW_ty ⟨by decide, by decide, by decide⟩)
  refine A_aload_n (i := 0) dX1_append_88 rfl rfl ?_
  refine A_dup dX1_append_89 rfl ?_
  refine A_getf cb_X1 fσ45_0 1 (Nat.le_of_ble_eq_true rfl) q239 rfl (v := .int (nI (k + 19))) rfl dX1_append_90 ?_
  refine A_iconst (v := 1) dX1_append_93 (by decide) ?_
  refine A_iadd dX1_append_94 ?_
  refine A_int (w := nI (k + 20)) (by rw [show (1 : Int32) = nI 1 from rfl, nI_add]) ?_
  refine A_putf cb_X1 fσ45_0 1 (Nat.le_of_ble_eq_true rfl) q239 rfl rfl rfl rfl (Nat.le_of_ble_eq_true rfl) dX1_append_95 ?_
  obtain ⟨σ46, eσ46⟩ : ∃ τ, τ = h_put σ45 x (.inr (.inl (0, [.ref bf, .int (nI (k + 20)), .int pe, .int ep, nv, .ref dq, .ref sv, .ref ou]))) := ⟨_, rfl⟩
  refine A_st (σ' := σ46) eσ46.symm ?_
  have wσ46 : wfh σ46 := by rw [eσ46]; exact wσ45.put fσ45_0
  have fσ46_0 : σ46.1 x = some (.inr (.inl (0, [.ref bf, .int (nI (k + 20)), .int pe, .int ep, nv, .ref dq, .ref sv, .ref ou]))) := by rw [eσ46]; exact if_pos rfl
  have fσ46_1 : σ46.1 bf = some (.inl (.byte, 500, .inl (fo4 (fo4 (fo4 (fo4 (fo4 B k a) (k + 4) b) (k + 8) c) (k + 12) d) (k + 16) e))) := by rw [eσ46]; exact (hp_ne (ne_of (x := .inl (.byte, 500, .inl (fo4 (fo4 (fo4 (fo4 (fo4 B k a) (k + 4) b) (k + 8) c) (k + 12) d) (k + 16) e))) (y := .inr (.inl (0, [.ref bf, .int (nI (k + 19)), .int pe, .int ep, nv, .ref dq, .ref sv, .ref ou]))) fσ45_1 fσ45_0 (fun e8 => by simp at e8))).trans fσ45_1
  have fσ46_2 : σ46.1 σ.2 = some (.inl (.int, 5, .inl (va_up (va_up (va_up (va_up (va_up (fun _ => 0) 0 a) 1 b) 2 c) 3 d) 4 e))) := by rw [eσ46]; exact (hp_ne (ne_of (x := .inl (.int, 5, .inl (va_up (va_up (va_up (va_up (va_up (fun _ => 0) 0 a) 1 b) 2 c) 3 d) 4 e))) (y := .inr (.inl (0, [.ref bf, .int (nI (k + 19)), .int pe, .int ep, nv, .ref dq, .ref sv, .ref ou]))) fσ45_2 fσ45_0 (fun e8 => by simp at e8))).trans fσ45_2
  have nσ46 : nw σ σ46 := by rw [eσ46]; exact nσ45.put fσ45_0 (isW_no (by decide))
  refine A_iinc (v := (-8)) dX1_append_98 rfl (by decide) (Nat.le_of_ble_eq_true rfl) ?_
  refine A_goto (tgt := 68) dX1_append_101 (by decide) ?_
  refine A_sub (L' := [(0, .ref x), (1, .int a), (2, .int b), (3, .int c), (4, .int d), (5, .int e), (6, .ref σ.2), (7, .int 5), (8, .int 4), (9, .int e), (10, .int (-8))]) ⟨rfl, rfl, rfl, rfl, rfl, rfl, rfl, rfl, rfl, rfl, rfl, trivial⟩ ?_
  refine A_iload dX1_append_68 rfl ?_
  refine A_if_lt_t (tgt := 104) dX1_append_70 (by decide) (by decide) ?_
  refine A_iinc (v := 5) dX1_append_104 rfl (by decide) (Nat.le_of_ble_eq_true rfl) ?_
  refine A_goto (tgt := 50) dX1_append_107 (by decide) ?_
  refine A_sub (L' := [(0, .ref x), (1, .int a), (2, .int b), (3, .int c), (4, .int d), (5, .int e), (6, .ref σ.2), (7, .int 5), (8, .int 5), (9, .int e), (10, .int (-8))]) ⟨rfl, rfl, rfl, rfl, rfl, rfl, rfl, rfl, rfl, rfl, rfl, trivial⟩ ?_
  refine A_iload dX1_append_50 rfl ?_
  refine A_iload dX1_append_52 rfl ?_
  refine A_icmp_ge_t (tgt := 110) dX1_append_54 (by decide) (by decide) ?_
  refine A_aload_n (i := 0) dX1_append_110 rfl rfl ?_
  refine A_getf cb_X1 fσ46_0 1 (Nat.le_of_ble_eq_true rfl) q239 rfl (v := .int (nI (k + 20))) rfl dX1_append_111 ?_
  have fr0 : fra [x, bf] σ σ46 := by rw [eσ46, eσ45, eσ44, eσ43, eσ42, eσ41, eσ40, eσ39, eσ38, eσ37, eσ36, eσ35, eσ34, eσ33, eσ32, eσ31, eσ30, eσ29, eσ28, eσ27, eσ26, eσ25, eσ24, eσ23, eσ22, eσ21, eσ20, eσ19, eσ18, eσ17, eσ16, eσ15, eσ14, eσ13, eσ12, eσ11, eσ10, eσ9, eσ8, eσ7, eσ6, eσ5, eσ4, eσ3, eσ2, eσ1]; exact ((((((((((((((((((((((((((((((((((((((((((((((fra.rf.new).putF (Nat.le_refl _)).putF (Nat.le_refl _)).putF (Nat.le_refl _)).putF (Nat.le_refl _)).putF (Nat.le_refl _)).put (by simp)).put (by simp)).put (by simp)).put (by simp)).put (by simp)).put (by simp)).put (by simp)).put (by simp)).put (by simp)).put (by simp)).put (by simp)).put (by simp)).put (by simp)).put (by simp)).put (by simp)).put (by simp)).put (by simp)).put (by simp)).put (by simp)).put (by simp)).put (by simp)).put (by simp)).put (by simp)).put (by simp)).put (by simp)).put (by simp)).put (by simp)).put (by simp)).put (by simp)).put (by simp)).put (by simp)).put (by simp)).put (by simp)).put (by simp)).put (by simp)).put (by simp)).put (by simp)).put (by simp)).put (by simp)).put (by simp))
  exact A_iret dX1_append_114 rfl (⟨rfl, fσ46_0, fσ46_1, fr0, nσ46⟩)
