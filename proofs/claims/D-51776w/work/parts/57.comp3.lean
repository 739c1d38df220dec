/-! THE COMPONENT 5: more questions of the world -/
set_option maxHeartbeats 200000 in
theorem c_lready {l : Launch} {g : GC} (σ : AH) (W : WA) (N : AF) (f : Nat) (hR : RW g σ W N) (hD : WFd N) (hf : f < nF N) : AMet l g mX5_lambda_ready_9 14 0 [.ref (wW W), .ref (wF W f)] σ (A_eq (some (.int (bi (whyN N f = 0)))) σ) (A_no) := by
  refine A_of rfl (by decide) (Nat.le_of_ble_eq_true rfl) (L0 := [(0, .ref (wW W)), (1, .ref (wF W f))]) rfl ?_
  have hW := hD.1
  have hR9 := hR
  obtain ⟨h1, ⟨fr, h2, h2'⟩, ⟨fm, h3, h3'⟩, ⟨mcn, fnA, h4, h4', h4''⟩, ⟨mcf, ffA, h5, h5', h5''⟩, ⟨fu, h6, h6'⟩, h7, h8, h9, h10, h11⟩ := hR
  have hF12 : nF N ≤ 12 := hW.2.2.2.2.2
  have hN4 : nN N ≤ 4 := hW.2.1.2
  have hC6 : nC N ≤ 6 := hW.1.2
  have hT3 : nT N ≤ 3 := hW.2.2.1.2
  have hP8 : nP N ≤ 8 := hW.2.2.2.1.2
  refine A_aload_n (i := 0) dX5_lambda_ready_9_0 rfl rfl ?_
  refine A_aload_n (i := 1) dX5_lambda_ready_9_1 rfl rfl ?_
  refine A_callV1E (b' := 0) (v := some (.int (whyN N f))) (τ := σ) (c_why5 σ W N f hR9 hD hf) tX5_why q1430 h1 rfl rfl dX5_lambda_ready_9_2 (by decide) (Nat.le_of_ble_eq_true rfl) (Nat.le_of_ble_eq_true rfl) ?_
  refine A_if_ne (tgt := 12) dX5_lambda_ready_9_5 (by decide) (fun c1 => ?_) (fun c1 => ?_)
  · skip
    refine A_iconst (v := 0) dX5_lambda_ready_9_12 (by decide) ?_
    exact A_zret dX5_lambda_ready_9_13 rfl (rfl) (⟨by simp [bi, c1], rfl⟩)
  · skip
    refine A_iconst (v := 1) dX5_lambda_ready_9_8 (by decide) ?_
    refine A_goto (tgt := 13) dX5_lambda_ready_9_9 (by decide) ?_
    exact A_zret dX5_lambda_ready_9_13 rfl (rfl) (⟨by simp [bi, c1], rfl⟩)
set_option maxHeartbeats 200000 in
theorem c_lreadyOf {l : Launch} {g : GC} (σ : AH) (W : WA) (N : AF) (f : Nat) (n : Int32) (hR : RW g σ W N) (hD : WFd N) (hf : f < nF N) : AMet l g mX5_lambda_readyOf_10 14 0 [.ref (wW W), .int n, .ref (wF W f)] σ (A_eq (some (.int (bi (fl N f 0 = n ∧ whyN N f = 0)))) σ) (A_no) := by
  refine A_of rfl (by decide) (Nat.le_of_ble_eq_true rfl) (L0 := [(0, .ref (wW W)), (1, .int n), (2, .ref (wF W f))]) rfl ?_
  have hW := hD.1
  have hR9 := hR
  obtain ⟨h1, ⟨fr, h2, h2'⟩, ⟨fm, h3, h3'⟩, ⟨mcn, fnA, h4, h4', h4''⟩, ⟨mcf, ffA, h5, h5', h5''⟩, ⟨fu, h6, h6'⟩, h7, h8, h9, h10, h11⟩ := hR
  have hF12 : nF N ≤ 12 := hW.2.2.2.2.2
  have hN4 : nN N ≤ 4 := hW.2.1.2
  have hC6 : nC N ≤ 6 := hW.1.2
  have hT3 : nT N ≤ 3 := hW.2.2.1.2
  have hP8 : nP N ≤ 8 := hW.2.2.2.1.2
  refine A_aload_n (i := 2) dX5_lambda_readyOf_10_0 rfl rfl ?_
  refine A_getfN cb_X7 (h7 f hf) 0 (Nat.le_of_ble_eq_true rfl) q1097 rfl (v := .int (fl N f 0)) rfl dX5_lambda_readyOf_10_1 ?_
  refine A_iload_n (i := 1) dX5_lambda_readyOf_10_4 rfl rfl ?_
  refine A_icmp_ne (tgt := 20) dX5_lambda_readyOf_10_5 (by decide) (fun c1 => ?_) (fun c1 => ?_)
  · skip
    refine A_iconst (v := 0) dX5_lambda_readyOf_10_20 (by decide) ?_
    exact A_zret dX5_lambda_readyOf_10_21 rfl (rfl) (⟨by simp [bi, c1], rfl⟩)
  · skip
    refine A_aload_n (i := 0) dX5_lambda_readyOf_10_8 rfl rfl ?_
    refine A_aload_n (i := 2) dX5_lambda_readyOf_10_9 rfl rfl ?_
    refine A_callV1E (b' := 0) (v := some (.int (whyN N f))) (τ := σ) (c_why5 σ W N f hR9 hD hf) tX5_why q1430 h1 rfl rfl dX5_lambda_readyOf_10_10 (by decide) (Nat.le_of_ble_eq_true rfl) (Nat.le_of_ble_eq_true rfl) ?_
    refine A_if_ne (tgt := 20) dX5_lambda_readyOf_10_13 (by decide) (fun c2 => ?_) (fun c2 => ?_)
    · skip
      refine A_iconst (v := 0) dX5_lambda_readyOf_10_20 (by decide) ?_
      exact A_zret dX5_lambda_readyOf_10_21 rfl (rfl) (⟨by simp [bi, c1, c2], rfl⟩)
    · skip
      refine A_iconst (v := 1) dX5_lambda_readyOf_10_16 (by decide) ?_
      refine A_goto (tgt := 21) dX5_lambda_readyOf_10_17 (by decide) ?_
      exact A_zret dX5_lambda_readyOf_10_21 rfl (rfl) (⟨by simp [bi, c1, c2], rfl⟩)
set_option maxHeartbeats 200000 in
theorem c_ready5 {l : Launch} {g : GC} (σ : AH) (W : WA) (N : AF) (hR : RW g σ W N) (hD : WFd N) : AMet l g mX5_ready 31 1 [.ref (wW W)] σ (A_ext (some (.int (readyN N))) σ) (A_no) := by
  refine A_of rfl (by decide) (Nat.le_of_ble_eq_true rfl) (L0 := [(0, .ref (wW W))]) rfl ?_
  refine A_wfh (fun wσ hgσ => ?_)
  have yσ : ext σ σ := ext.rf
  have hW := hD.1
  have hR9 := hR
  obtain ⟨h1, ⟨fr, h2, h2'⟩, ⟨fm, h3, h3'⟩, ⟨mcn, fnA, h4, h4', h4''⟩, ⟨mcf, ffA, h5, h5', h5''⟩, ⟨fu, h6, h6'⟩, h7, h8, h9, h10, h11⟩ := hR
  have hF12 : nF N ≤ 12 := hW.2.2.2.2.2
  have hN4 : nN N ≤ 4 := hW.2.1.2
  have hC6 : nC N ≤ 6 := hW.1.2
  have hT3 : nT N ≤ 3 := hW.2.2.1.2
  have hP8 : nP N ≤ 8 := hW.2.2.2.1.2
  refine A_aload_n (i := 0) dX5_ready_0 rfl rfl ?_
  refine A_aload_n (i := 0) dX5_ready_1 rfl rfl ?_
  refine A_mk12 (b' := 0) (Nat.le_of_ble_eq_true rfl) (Nat.le_of_ble_eq_true rfl) ?_
  obtain ⟨σ1, eσ1⟩ : ∃ τ, τ = h_new σ (.inr (.inr (11, [.ref (wW W)]))) := ⟨_, rfl⟩
  refine A_st (σ' := σ1) eσ1.symm ?_
  have wσ1 : wfh σ1 := by rw [eσ1]; exact wσ.new
  have fσ1_0 : σ1.1 (wW W) = some (.inr (.inl (4, [.int (N 9), .ref (wR W), .ref (wM W), .ref (wNL W), .ref (wFL W), .ref (wUN W), .int (N 6), .int (N 8), .int (N 0), .int (N 1), .int (N 2), .int (N 3), .int (N 4), .int (N 5), .int (N 11)]))) := by rw [eσ1]; exact (hn_ne (Nat.ne_of_lt (wσ _ _ h1))).trans h1
  have fσ1_1 : σ1.1 (wFL W) = some (.inr (.inl (14, [.int mcf, .ref (wFA W), .int (nI (nF N))]))) := by rw [eσ1]; exact (hn_ne (Nat.ne_of_lt (wσ _ _ h5))).trans h5
  have fσ1_2 : σ1.1 (wFA W) = some (.inl (.object "java/lang/Object", 12, .inr (.inr (.inr (.inr ffA))))) := by rw [eσ1]; exact (hn_ne (Nat.ne_of_lt (wσ _ _ h5'))).trans h5'
  have fσ1_3 : σ1.1 (wNL W) = some (.inr (.inl (14, [.int mcn, .ref (wNA W), .int (nI (nN N))]))) := by rw [eσ1]; exact (hn_ne (Nat.ne_of_lt (wσ _ _ h4))).trans h4
  have fσ1_4 : σ1.1 (wNA W) = some (.inl (.object "java/lang/Object", 4, .inr (.inr (.inr (.inr fnA))))) := by rw [eσ1]; exact (hn_ne (Nat.ne_of_lt (wσ _ _ h4'))).trans h4'
  have fσ1_5 : σ1.1 (wR W) = some (.inl (.int, 6, .inl fr)) := by rw [eσ1]; exact (hn_ne (Nat.ne_of_lt (wσ _ _ h2))).trans h2
  have fσ1_6 : σ1.1 (wM W) = some (.inl (.int, 3, .inl fm)) := by rw [eσ1]; exact (hn_ne (Nat.ne_of_lt (wσ _ _ h3))).trans h3
  have fσ1_7 : σ1.1 (wUN W) = some (.inl (.object "FlagLaundry$Test", 7, .inr (.inr (.inr (.inr fu))))) := by rw [eσ1]; exact (hn_ne (Nat.ne_of_lt (wσ _ _ h6))).trans h6
  have fσ1_8 : σ1.1 σ.2 = some (.inr (.inr (11, [.ref (wW W)]))) := by rw [eσ1]; exact if_pos rfl
  have xσ1 : ext σ σ1 := by rw [eσ1]; exact ext_new _ _
  have yσ1 : ext σ σ1 := yσ.tr (xσ1)
  have hR1 : RW g σ1 W N := hR9.ext wσ yσ1
  refine A_callV1E (b' := 0) (v := some (.int (readyN N))) (τ := σ1) (c_cnt σ1 W N σ.2 (fun f => whyN N f = 0) hR1 hW (cT12 hR1.1 (by decide) (Or.inl fσ1_8) (fun f hf => c_lready σ1 W N f hR1 hD hf))) tX5_count q1195 fσ1_0 rfl rfl dX5_ready_7 (by decide) (Nat.le_of_ble_eq_true rfl) (Nat.le_of_ble_eq_true rfl) ?_
  exact A_iret dX5_ready_10 rfl (⟨rfl, yσ1⟩)
set_option maxHeartbeats 200000 in
theorem c_readyOf5 {l : Launch} {g : GC} (σ : AH) (W : WA) (N : AF) (n : Int32) (hR : RW g σ W N) (hD : WFd N) : AMet l g mX5_readyOf 31 1 [.ref (wW W), .int n] σ (A_ext (some (.int (rdyOf N n))) σ) (A_no) := by
  refine A_of rfl (by decide) (Nat.le_of_ble_eq_true rfl) (L0 := [(0, .ref (wW W)), (1, .int n)]) rfl ?_
  refine A_wfh (fun wσ hgσ => ?_)
  have yσ : ext σ σ := ext.rf
  have hW := hD.1
  have hR9 := hR
  obtain ⟨h1, ⟨fr, h2, h2'⟩, ⟨fm, h3, h3'⟩, ⟨mcn, fnA, h4, h4', h4''⟩, ⟨mcf, ffA, h5, h5', h5''⟩, ⟨fu, h6, h6'⟩, h7, h8, h9, h10, h11⟩ := hR
  have hF12 : nF N ≤ 12 := hW.2.2.2.2.2
  have hN4 : nN N ≤ 4 := hW.2.1.2
  have hC6 : nC N ≤ 6 := hW.1.2
  have hT3 : nT N ≤ 3 := hW.2.2.1.2
  have hP8 : nP N ≤ 8 := hW.2.2.2.1.2
  refine A_aload_n (i := 0) dX5_readyOf_0 rfl rfl ?_
  refine A_aload_n (i := 0) dX5_readyOf_1 rfl rfl ?_
  refine A_iload_n (i := 1) dX5_readyOf_2 rfl rfl ?_
  refine A_mk16 (b' := 0) (Nat.le_of_ble_eq_true rfl) (Nat.le_of_ble_eq_true rfl) ?_
  obtain ⟨σ1, eσ1⟩ : ∃ τ, τ = h_new σ (.inr (.inr (15, [.ref (wW W), .int n]))) := ⟨_, rfl⟩
  refine A_st (σ' := σ1) eσ1.symm ?_
  have wσ1 : wfh σ1 := by rw [eσ1]; exact wσ.new
  have fσ1_0 : σ1.1 (wW W) = some (.inr (.inl (4, [.int (N 9), .ref (wR W), .ref (wM W), .ref (wNL W), .ref (wFL W), .ref (wUN W), .int (N 6), .int (N 8), .int (N 0), .int (N 1), .int (N 2), .int (N 3), .int (N 4), .int (N 5), .int (N 11)]))) := by rw [eσ1]; exact (hn_ne (Nat.ne_of_lt (wσ _ _ h1))).trans h1
  have fσ1_1 : σ1.1 (wFL W) = some (.inr (.inl (14, [.int mcf, .ref (wFA W), .int (nI (nF N))]))) := by rw [eσ1]; exact (hn_ne (Nat.ne_of_lt (wσ _ _ h5))).trans h5
  have fσ1_2 : σ1.1 (wFA W) = some (.inl (.object "java/lang/Object", 12, .inr (.inr (.inr (.inr ffA))))) := by rw [eσ1]; exact (hn_ne (Nat.ne_of_lt (wσ _ _ h5'))).trans h5'
  have fσ1_3 : σ1.1 (wNL W) = some (.inr (.inl (14, [.int mcn, .ref (wNA W), .int (nI (nN N))]))) := by rw [eσ1]; exact (hn_ne (Nat.ne_of_lt (wσ _ _ h4))).trans h4
  have fσ1_4 : σ1.1 (wNA W) = some (.inl (.object "java/lang/Object", 4, .inr (.inr (.inr (.inr fnA))))) := by rw [eσ1]; exact (hn_ne (Nat.ne_of_lt (wσ _ _ h4'))).trans h4'
  have fσ1_5 : σ1.1 (wR W) = some (.inl (.int, 6, .inl fr)) := by rw [eσ1]; exact (hn_ne (Nat.ne_of_lt (wσ _ _ h2))).trans h2
  have fσ1_6 : σ1.1 (wM W) = some (.inl (.int, 3, .inl fm)) := by rw [eσ1]; exact (hn_ne (Nat.ne_of_lt (wσ _ _ h3))).trans h3
  have fσ1_7 : σ1.1 (wUN W) = some (.inl (.object "FlagLaundry$Test", 7, .inr (.inr (.inr (.inr fu))))) := by rw [eσ1]; exact (hn_ne (Nat.ne_of_lt (wσ _ _ h6))).trans h6
  have fσ1_8 : σ1.1 σ.2 = some (.inr (.inr (15, [.ref (wW W), .int n]))) := by rw [eσ1]; exact if_pos rfl
  have xσ1 : ext σ σ1 := by rw [eσ1]; exact ext_new _ _
  have yσ1 : ext σ σ1 := yσ.tr (xσ1)
  have hR1 : RW g σ1 W N := hR9.ext wσ yσ1
  refine A_callV1E (b' := 0) (v := some (.int (rdyOf N n))) (τ := σ1) (c_cnt σ1 W N σ.2 (fun f => fl N f 0 = n ∧ whyN N f = 0) hR1 hW (cT16 hR1.1 (by decide) (Or.inl fσ1_8) (fun f hf => c_lreadyOf σ1 W N f n hR1 hD hf))) tX5_count q1195 fσ1_0 rfl rfl dX5_readyOf_8 (by decide) (Nat.le_of_ble_eq_true rfl) (Nat.le_of_ble_eq_true rfl) ?_
  exact A_iret dX5_readyOf_11 rfl (⟨rfl, yσ1⟩)
set_option maxHeartbeats 200000 in
theorem c_culprit5 {l : Launch} {g : GC} (σ : AH) (W : WA) (N : AF) (n : Int32) (hR : RW g σ W N) (hD : WFd N) : AMet l g mX5_culprit 14 0 [.ref (wW W), .int n] σ (A_eq (some (.int (culpN N n))) σ) (A_no) := by
  refine A_of rfl (by decide) (Nat.le_of_ble_eq_true rfl) (L0 := [(0, .ref (wW W)), (1, .int n)]) rfl ?_
  have hW := hD.1
  have hR9 := hR
  obtain ⟨h1, ⟨fr, h2, h2'⟩, ⟨fm, h3, h3'⟩, ⟨mcn, fnA, h4, h4', h4''⟩, ⟨mcf, ffA, h5, h5', h5''⟩, ⟨fu, h6, h6'⟩, h7, h8, h9, h10, h11⟩ := hR
  have hF12 : nF N ≤ 12 := hW.2.2.2.2.2
  have hN4 : nN N ≤ 4 := hW.2.1.2
  have hC6 : nC N ≤ 6 := hW.1.2
  have hT3 : nT N ≤ 3 := hW.2.2.1.2
  have hP8 : nP N ≤ 8 := hW.2.2.2.1.2
  refine A_iconst (v := 0) dX5_culprit_0 (by decide) ?_
  refine A_istore_n (i := 2) dX5_culprit_1 rfl (Nat.le_of_ble_eq_true rfl) ?_
  refine A_sub (L' := [(0, .ref (wW W)), (1, .int n), (2, .int (nI 0))]) ⟨rfl, rfl, rfl, trivial⟩ ?_
  refine A_for (nF N) (fun i2 => 0) (fun i2 => [(0, .ref (wW W)), (1, .int n), (2, .int (nI i2))]) (fun i2 => σ) (fun i2 => culpN N n = fsr (fun f => fl N f 0 = n ∧ ¬ whyN N f = 0) i2 (nF N - i2)) rfl (fun i2 hi2 hI2 ih2 => ?_) (fun hI2 => ?_)
  · skip
    refine A_iload_n (i := 2) dX5_culprit_2 rfl rfl ?_
    refine A_aload_n (i := 0) dX5_culprit_3 rfl rfl ?_
    refine A_callV0E (b' := 0) (v := some (.int (nI (nF N)))) (τ := σ) (c_many σ W N hR9 hW) tX5_many q1199 h1 rfl rfl dX5_culprit_4 (by decide) (Nat.le_of_ble_eq_true rfl) (Nat.le_of_ble_eq_true rfl) ?_
    refine A_icmp_ge_f (tgt := 42) dX5_culprit_7 (by decide) (br_lt rfl hi2 (by omega)) ?_
    refine A_aload_n (i := 0) dX5_culprit_10 rfl rfl ?_
    refine A_iload_n (i := 2) dX5_culprit_11 rfl rfl ?_
    refine A_callV1E (b' := 0) (v := some (.ref (wF W i2))) (τ := σ) (c_flagOf σ W N i2 hR9 hW hi2) tX5_flagOf q1200 h1 rfl rfl dX5_culprit_12 (by decide) (Nat.le_of_ble_eq_true rfl) (Nat.le_of_ble_eq_true rfl) ?_
    refine A_getfN cb_X7 (hR9.2.2.2.2.2.2.1 i2 hi2) 0 (Nat.le_of_ble_eq_true rfl) q1097 rfl (v := .int (fl N i2 0)) rfl dX5_culprit_15 ?_
    refine A_iload_n (i := 1) dX5_culprit_18 rfl rfl ?_
    refine A_icmp_ne (tgt := 36) dX5_culprit_19 (by decide) (fun c1 => ?_) (fun c1 => ?_)
    · skip
      refine A_iinc (v := nI (i2 + 1)) dX5_culprit_36 rfl (nI_inc _ _) (Nat.le_of_ble_eq_true rfl) ?_
      refine A_goto (tgt := 2) dX5_culprit_39 (by decide) ?_
      refine A_sub (L' := [(0, .ref (wW W)), (1, .int n), (2, .int (nI (i2 + 1)))]) ⟨rfl, rfl, rfl, trivial⟩ ?_
      exact ih2 (by rw [hI2, fsr_s _ hi2, if_neg (by simp [c1])])
    · skip
      refine A_aload_n (i := 0) dX5_culprit_22 rfl rfl ?_
      refine A_aload_n (i := 0) dX5_culprit_23 rfl rfl ?_
      refine A_iload_n (i := 2) dX5_culprit_24 rfl rfl ?_
      refine A_callV1E (b' := 0) (v := some (.ref (wF W i2))) (τ := σ) (c_flagOf σ W N i2 hR9 hW hi2) tX5_flagOf q1200 h1 rfl rfl dX5_culprit_25 (by decide) (Nat.le_of_ble_eq_true rfl) (Nat.le_of_ble_eq_true rfl) ?_
      refine A_callV1E (b' := 0) (v := some (.int (whyN N i2))) (τ := σ) (c_why5 σ W N i2 hR9 hD hi2) tX5_why q1430 h1 rfl rfl dX5_culprit_28 (by decide) (Nat.le_of_ble_eq_true rfl) (Nat.le_of_ble_eq_true rfl) ?_
      refine A_if_eq (tgt := 36) dX5_culprit_31 (by decide) (fun c2 => ?_) (fun c2 => ?_)
      · skip
        refine A_iinc (v := nI (i2 + 1)) dX5_culprit_36 rfl (nI_inc _ _) (Nat.le_of_ble_eq_true rfl) ?_
        refine A_goto (tgt := 2) dX5_culprit_39 (by decide) ?_
        refine A_sub (L' := [(0, .ref (wW W)), (1, .int n), (2, .int (nI (i2 + 1)))]) ⟨rfl, rfl, rfl, trivial⟩ ?_
        exact ih2 (by rw [hI2, fsr_s _ hi2, if_neg (by simp [c1, c2])])
      · skip
        refine A_iload_n (i := 2) dX5_culprit_34 rfl rfl ?_
        exact A_iret dX5_culprit_35 rfl (⟨by rw [hI2, fsr_s _ hi2, if_pos ⟨c1, c2⟩], rfl⟩)
  · skip
    refine A_iload_n (i := 2) dX5_culprit_2 rfl rfl ?_
    refine A_aload_n (i := 0) dX5_culprit_3 rfl rfl ?_
    refine A_callV0E (b' := 0) (v := some (.int (nI (nF N)))) (τ := σ) (c_many σ W N hR9 hW) tX5_many q1199 h1 rfl rfl dX5_culprit_4 (by decide) (Nat.le_of_ble_eq_true rfl) (Nat.le_of_ble_eq_true rfl) ?_
    refine A_icmp_ge_t (tgt := 42) dX5_culprit_7 (by decide) (br_ge rfl) ?_
    refine A_iconst (v := (-1)) dX5_culprit_42 (by decide) ?_
    exact A_iret dX5_culprit_43 rfl (⟨by rw [hI2, fsr_e], rfl⟩)
set_option maxHeartbeats 200000 in
theorem c_bears5 {l : Launch} {g : GC} (σ : AH) (W : WA) (N : AF) (t : Int32) (hR : RW g σ W N) (hD : WFd N) : AMet l g mX5_bears 5 0 [.ref (wW W), .int t] σ (A_eq (some (.int (leastN N t))) σ) (A_no) := by
  refine A_of rfl (by decide) (Nat.le_of_ble_eq_true rfl) (L0 := [(0, .ref (wW W)), (1, .int t)]) rfl ?_
  have hW := hD.1
  have hR9 := hR
  obtain ⟨h1, ⟨fr, h2, h2'⟩, ⟨fm, h3, h3'⟩, ⟨mcn, fnA, h4, h4', h4''⟩, ⟨mcf, ffA, h5, h5', h5''⟩, ⟨fu, h6, h6'⟩, h7, h8, h9, h10, h11⟩ := hR
  have hF12 : nF N ≤ 12 := hW.2.2.2.2.2
  have hN4 : nN N ≤ 4 := hW.2.1.2
  have hC6 : nC N ≤ 6 := hW.1.2
  have hT3 : nT N ≤ 3 := hW.2.2.1.2
  have hP8 : nP N ≤ 8 := hW.2.2.2.1.2
  refine A_iconst (v := 3) dX5_bears_0 (by decide) ?_
  refine A_istore_n (i := 2) dX5_bears_1 rfl (Nat.le_of_ble_eq_true rfl) ?_
  refine A_iconst (v := 0) dX5_bears_2 (by decide) ?_
  refine A_istore_n (i := 3) dX5_bears_3 rfl (Nat.le_of_ble_eq_true rfl) ?_
  refine A_sub (L' := [(0, .ref (wW W)), (1, .int t), (2, .int (lcF N t 0)), (3, .int (nI 0))]) ⟨rfl, rfl, rfl, rfl, trivial⟩ ?_
  refine A_for (nF N) (fun i4 => 0) (fun i4 => [(0, .ref (wW W)), (1, .int t), (2, .int (lcF N t i4)), (3, .int (nI i4))]) (fun i4 => σ) (fun i4 => True) trivial (fun i4 hi4 hI4 ih4 => ?_) (fun hI4 => ?_)
  · skip
    refine A_iload_n (i := 3) dX5_bears_4 rfl rfl ?_
    refine A_aload_n (i := 0) dX5_bears_5 rfl rfl ?_
    refine A_callV0E (b' := 0) (v := some (.int (nI (nF N)))) (τ := σ) (c_many σ W N hR9 hW) tX5_many q1199 h1 rfl rfl dX5_bears_6 (by decide) (Nat.le_of_ble_eq_true rfl) (Nat.le_of_ble_eq_true rfl) ?_
    refine A_icmp_ge_f (tgt := 43) dX5_bears_9 (by decide) (br_lt rfl hi4 (by omega)) ?_
    refine A_aload_n (i := 0) dX5_bears_12 rfl rfl ?_
    refine A_iload_n (i := 3) dX5_bears_13 rfl rfl ?_
    refine A_callV1E (b' := 0) (v := some (.ref (wF W i4))) (τ := σ) (c_flagOf σ W N i4 hR9 hW hi4) tX5_flagOf q1200 h1 rfl rfl dX5_bears_14 (by decide) (Nat.le_of_ble_eq_true rfl) (Nat.le_of_ble_eq_true rfl) ?_
    refine A_iload_n (i := 1) dX5_bears_17 rfl rfl ?_
    refine A_callV1E (b' := 0) (v := some (.int (bi (inTub N i4 t)))) (τ := σ) (c_fIn σ (wF W i4) (wP W i4) (fl N i4) t (hR9.2.2.2.2.2.2.1 i4 hi4) (hR9.2.2.2.2.2.2.2.1 i4 hi4) (flok_k hD hi4)) tX7_isIn q1190 (hR9.2.2.2.2.2.2.1 i4 hi4) rfl rfl dX5_bears_18 (by decide) (Nat.le_of_ble_eq_true rfl) (Nat.le_of_ble_eq_true rfl) ?_
    refine A_if_eq (tgt := 37) dX5_bears_21 (by decide) (fun c1 => ?_) (fun c1 => ?_)
    · skip
      have c1 := bi_eq0.mp c1
      refine A_iinc (v := nI (i4 + 1)) dX5_bears_37 rfl (nI_inc _ _) (Nat.le_of_ble_eq_true rfl) ?_
      refine A_goto (tgt := 4) dX5_bears_40 (by decide) ?_
      refine A_sub (L' := [(0, .ref (wW W)), (1, .int t), (2, .int (lcF N t (i4 + 1))), (3, .int (nI (i4 + 1)))]) ⟨rfl, rfl, (by rw [lcF_s, if_neg c1]; rfl), rfl, trivial⟩ ?_
      exact ih4 trivial
    · skip
      have c1 := bi_ne0.mp c1
      refine A_iload_n (i := 2) dX5_bears_24 rfl rfl ?_
      refine A_aload_n (i := 0) dX5_bears_25 rfl rfl ?_
      refine A_iload_n (i := 3) dX5_bears_26 rfl rfl ?_
      refine A_callV1E (b' := 0) (v := some (.ref (wF W i4))) (τ := σ) (c_flagOf σ W N i4 hR9 hW hi4) tX5_flagOf q1200 h1 rfl rfl dX5_bears_27 (by decide) (Nat.le_of_ble_eq_true rfl) (Nat.le_of_ble_eq_true rfl) ?_
      refine A_getfN cb_X7 (hR9.2.2.2.2.2.2.1 i4 hi4) 2 (Nat.le_of_ble_eq_true rfl) q1103 rfl (v := .int (fl N i4 2)) rfl dX5_bears_30 ?_
      refine A_mmin q1245 q472 q150 q473 dX5_bears_33 (by decide) (Nat.le_of_ble_eq_true rfl) ?_
      refine A_int (w := (mn (lcF N t i4) (fl N i4 2))) rfl ?_
      refine A_istore_n (i := 2) dX5_bears_36 rfl (Nat.le_of_ble_eq_true rfl) ?_
      refine A_iinc (v := nI (i4 + 1)) dX5_bears_37 rfl (nI_inc _ _) (Nat.le_of_ble_eq_true rfl) ?_
      refine A_goto (tgt := 4) dX5_bears_40 (by decide) ?_
      refine A_sub (L' := [(0, .ref (wW W)), (1, .int t), (2, .int (lcF N t (i4 + 1))), (3, .int (nI (i4 + 1)))]) ⟨rfl, rfl, (by rw [lcF_s, if_pos c1]; rfl), rfl, trivial⟩ ?_
      exact ih4 trivial
  · skip
    refine A_iload_n (i := 3) dX5_bears_4 rfl rfl ?_
    refine A_aload_n (i := 0) dX5_bears_5 rfl rfl ?_
    refine A_callV0E (b' := 0) (v := some (.int (nI (nF N)))) (τ := σ) (c_many σ W N hR9 hW) tX5_many q1199 h1 rfl rfl dX5_bears_6 (by decide) (Nat.le_of_ble_eq_true rfl) (Nat.le_of_ble_eq_true rfl) ?_
    refine A_icmp_ge_t (tgt := 43) dX5_bears_9 (by decide) (br_ge rfl) ?_
    refine A_iload_n (i := 2) dX5_bears_43 rfl rfl ?_
    exact A_iret dX5_bears_44 rfl (⟨rfl, rfl⟩)
set_option maxHeartbeats 200000 in
theorem c_colIn5 {l : Launch} {g : GC} (σ : AH) (W : WA) (N : AF) (t : Int32) (hR : RW g σ W N) (hD : WFd N) : AMet l g mX5_coloursIn 5 0 [.ref (wW W), .int t] σ (A_eq (some (.int (orF (fun f => if inTub N f t then fl N f 1 else 0) (nF N)))) σ) (A_no) := by
  refine A_of rfl (by decide) (Nat.le_of_ble_eq_true rfl) (L0 := [(0, .ref (wW W)), (1, .int t)]) rfl ?_
  have hW := hD.1
  have hR9 := hR
  obtain ⟨h1, ⟨fr, h2, h2'⟩, ⟨fm, h3, h3'⟩, ⟨mcn, fnA, h4, h4', h4''⟩, ⟨mcf, ffA, h5, h5', h5''⟩, ⟨fu, h6, h6'⟩, h7, h8, h9, h10, h11⟩ := hR
  have hF12 : nF N ≤ 12 := hW.2.2.2.2.2
  have hN4 : nN N ≤ 4 := hW.2.1.2
  have hC6 : nC N ≤ 6 := hW.1.2
  have hT3 : nT N ≤ 3 := hW.2.2.1.2
  have hP8 : nP N ≤ 8 := hW.2.2.2.1.2
  refine A_iconst (v := 0) dX5_coloursIn_0 (by decide) ?_
  refine A_istore_n (i := 2) dX5_coloursIn_1 rfl (Nat.le_of_ble_eq_true rfl) ?_
  refine A_iconst (v := 0) dX5_coloursIn_2 (by decide) ?_
  refine A_istore_n (i := 3) dX5_coloursIn_3 rfl (Nat.le_of_ble_eq_true rfl) ?_
  refine A_sub (L' := [(0, .ref (wW W)), (1, .int t), (2, .int (orF (fun f => if inTub N f t then fl N f 1 else 0) 0)), (3, .int (nI 0))]) ⟨rfl, rfl, rfl, rfl, trivial⟩ ?_
  refine A_for (nF N) (fun i4 => 0) (fun i4 => [(0, .ref (wW W)), (1, .int t), (2, .int (orF (fun f => if inTub N f t then fl N f 1 else 0) i4)), (3, .int (nI i4))]) (fun i4 => σ) (fun i4 => True) trivial (fun i4 hi4 hI4 ih4 => ?_) (fun hI4 => ?_)
  · skip
    refine A_iload_n (i := 3) dX5_coloursIn_4 rfl rfl ?_
    refine A_aload_n (i := 0) dX5_coloursIn_5 rfl rfl ?_
    refine A_callV0E (b' := 0) (v := some (.int (nI (nF N)))) (τ := σ) (c_many σ W N hR9 hW) tX5_many q1199 h1 rfl rfl dX5_coloursIn_6 (by decide) (Nat.le_of_ble_eq_true rfl) (Nat.le_of_ble_eq_true rfl) ?_
    refine A_icmp_ge_f (tgt := 41) dX5_coloursIn_9 (by decide) (br_lt rfl hi4 (by omega)) ?_
    refine A_aload_n (i := 0) dX5_coloursIn_12 rfl rfl ?_
    refine A_iload_n (i := 3) dX5_coloursIn_13 rfl rfl ?_
    refine A_callV1E (b' := 0) (v := some (.ref (wF W i4))) (τ := σ) (c_flagOf σ W N i4 hR9 hW hi4) tX5_flagOf q1200 h1 rfl rfl dX5_coloursIn_14 (by decide) (Nat.le_of_ble_eq_true rfl) (Nat.le_of_ble_eq_true rfl) ?_
    refine A_iload_n (i := 1) dX5_coloursIn_17 rfl rfl ?_
    refine A_callV1E (b' := 0) (v := some (.int (bi (inTub N i4 t)))) (τ := σ) (c_fIn σ (wF W i4) (wP W i4) (fl N i4) t (hR9.2.2.2.2.2.2.1 i4 hi4) (hR9.2.2.2.2.2.2.2.1 i4 hi4) (flok_k hD hi4)) tX7_isIn q1190 (hR9.2.2.2.2.2.2.1 i4 hi4) rfl rfl dX5_coloursIn_18 (by decide) (Nat.le_of_ble_eq_true rfl) (Nat.le_of_ble_eq_true rfl) ?_
    refine A_if_eq (tgt := 35) dX5_coloursIn_21 (by decide) (fun c1 => ?_) (fun c1 => ?_)
    · skip
      have c1 := bi_eq0.mp c1
      refine A_iinc (v := nI (i4 + 1)) dX5_coloursIn_35 rfl (nI_inc _ _) (Nat.le_of_ble_eq_true rfl) ?_
      refine A_goto (tgt := 4) dX5_coloursIn_38 (by decide) ?_
      refine A_sub (L' := [(0, .ref (wW W)), (1, .int t), (2, .int (orF (fun f => if inTub N f t then fl N f 1 else 0) (i4 + 1))), (3, .int (nI (i4 + 1)))]) ⟨rfl, rfl, (by rw [or_s, if_neg c1, Int32.or_zero]; rfl), rfl, trivial⟩ ?_
      exact ih4 trivial
    · skip
      have c1 := bi_ne0.mp c1
      refine A_iload_n (i := 2) dX5_coloursIn_24 rfl rfl ?_
      refine A_aload_n (i := 0) dX5_coloursIn_25 rfl rfl ?_
      refine A_iload_n (i := 3) dX5_coloursIn_26 rfl rfl ?_
      refine A_callV1E (b' := 0) (v := some (.ref (wF W i4))) (τ := σ) (c_flagOf σ W N i4 hR9 hW hi4) tX5_flagOf q1200 h1 rfl rfl dX5_coloursIn_27 (by decide) (Nat.le_of_ble_eq_true rfl) (Nat.le_of_ble_eq_true rfl) ?_
      refine A_getfN cb_X7 (hR9.2.2.2.2.2.2.1 i4 hi4) 1 (Nat.le_of_ble_eq_true rfl) q1100 rfl (v := .int (fl N i4 1)) rfl dX5_coloursIn_30 ?_
      refine A_ior dX5_coloursIn_33 ?_
      refine A_istore_n (i := 2) dX5_coloursIn_34 rfl (Nat.le_of_ble_eq_true rfl) ?_
      refine A_iinc (v := nI (i4 + 1)) dX5_coloursIn_35 rfl (nI_inc _ _) (Nat.le_of_ble_eq_true rfl) ?_
      refine A_goto (tgt := 4) dX5_coloursIn_38 (by decide) ?_
      refine A_sub (L' := [(0, .ref (wW W)), (1, .int t), (2, .int (orF (fun f => if inTub N f t then fl N f 1 else 0) (i4 + 1))), (3, .int (nI (i4 + 1)))]) ⟨rfl, rfl, (by rw [or_s, if_pos c1]; rfl), rfl, trivial⟩ ?_
      exact ih4 trivial
  · skip
    refine A_iload_n (i := 3) dX5_coloursIn_4 rfl rfl ?_
    refine A_aload_n (i := 0) dX5_coloursIn_5 rfl rfl ?_
    refine A_callV0E (b' := 0) (v := some (.int (nI (nF N)))) (τ := σ) (c_many σ W N hR9 hW) tX5_many q1199 h1 rfl rfl dX5_coloursIn_6 (by decide) (Nat.le_of_ble_eq_true rfl) (Nat.le_of_ble_eq_true rfl) ?_
    refine A_icmp_ge_t (tgt := 41) dX5_coloursIn_9 (by decide) (br_ge rfl) ?_
    refine A_iload_n (i := 2) dX5_coloursIn_41 rfl rfl ?_
    exact A_iret dX5_coloursIn_42 rfl (⟨rfl, rfl⟩)
set_option maxHeartbeats 200000 in
theorem c_dirtIn5 {l : Launch} {g : GC} (σ : AH) (W : WA) (N : AF) (t : Int32) (hR : RW g σ W N) (hD : WFd N) : AMet l g mX5_dirtIn 5 0 [.ref (wW W), .int t] σ (A_eq (some (.int (sm (fun f => if inTub N f t then fl N f 3 else 0) (nF N)))) σ) (A_no) := by
  refine A_of rfl (by decide) (Nat.le_of_ble_eq_true rfl) (L0 := [(0, .ref (wW W)), (1, .int t)]) rfl ?_
  have hW := hD.1
  have hR9 := hR
  obtain ⟨h1, ⟨fr, h2, h2'⟩, ⟨fm, h3, h3'⟩, ⟨mcn, fnA, h4, h4', h4''⟩, ⟨mcf, ffA, h5, h5', h5''⟩, ⟨fu, h6, h6'⟩, h7, h8, h9, h10, h11⟩ := hR
  have hF12 : nF N ≤ 12 := hW.2.2.2.2.2
  have hN4 : nN N ≤ 4 := hW.2.1.2
  have hC6 : nC N ≤ 6 := hW.1.2
  have hT3 : nT N ≤ 3 := hW.2.2.1.2
  have hP8 : nP N ≤ 8 := hW.2.2.2.1.2
  refine A_iconst (v := 0) dX5_dirtIn_0 (by decide) ?_
  refine A_istore_n (i := 2) dX5_dirtIn_1 rfl (Nat.le_of_ble_eq_true rfl) ?_
  refine A_iconst (v := 0) dX5_dirtIn_2 (by decide) ?_
  refine A_istore_n (i := 3) dX5_dirtIn_3 rfl (Nat.le_of_ble_eq_true rfl) ?_
  refine A_sub (L' := [(0, .ref (wW W)), (1, .int t), (2, .int (sm (fun f => if inTub N f t then fl N f 3 else 0) 0)), (3, .int (nI 0))]) ⟨rfl, rfl, rfl, rfl, trivial⟩ ?_
  refine A_for (nF N) (fun i4 => 0) (fun i4 => [(0, .ref (wW W)), (1, .int t), (2, .int (sm (fun f => if inTub N f t then fl N f 3 else 0) i4)), (3, .int (nI i4))]) (fun i4 => σ) (fun i4 => True) trivial (fun i4 hi4 hI4 ih4 => ?_) (fun hI4 => ?_)
  · skip
    refine A_iload_n (i := 3) dX5_dirtIn_4 rfl rfl ?_
    refine A_aload_n (i := 0) dX5_dirtIn_5 rfl rfl ?_
    refine A_callV0E (b' := 0) (v := some (.int (nI (nF N)))) (τ := σ) (c_many σ W N hR9 hW) tX5_many q1199 h1 rfl rfl dX5_dirtIn_6 (by decide) (Nat.le_of_ble_eq_true rfl) (Nat.le_of_ble_eq_true rfl) ?_
    refine A_icmp_ge_f (tgt := 45) dX5_dirtIn_9 (by decide) (br_lt rfl hi4 (by omega)) ?_
    refine A_iload_n (i := 2) dX5_dirtIn_12 rfl rfl ?_
    refine A_aload_n (i := 0) dX5_dirtIn_13 rfl rfl ?_
    refine A_iload_n (i := 3) dX5_dirtIn_14 rfl rfl ?_
    refine A_callV1E (b' := 0) (v := some (.ref (wF W i4))) (τ := σ) (c_flagOf σ W N i4 hR9 hW hi4) tX5_flagOf q1200 h1 rfl rfl dX5_dirtIn_15 (by decide) (Nat.le_of_ble_eq_true rfl) (Nat.le_of_ble_eq_true rfl) ?_
    refine A_iload_n (i := 1) dX5_dirtIn_18 rfl rfl ?_
    refine A_callV1E (b' := 0) (v := some (.int (bi (inTub N i4 t)))) (τ := σ) (c_fIn σ (wF W i4) (wP W i4) (fl N i4) t (hR9.2.2.2.2.2.2.1 i4 hi4) (hR9.2.2.2.2.2.2.2.1 i4 hi4) (flok_k hD hi4)) tX7_isIn q1190 (hR9.2.2.2.2.2.2.1 i4 hi4) rfl rfl dX5_dirtIn_19 (by decide) (Nat.le_of_ble_eq_true rfl) (Nat.le_of_ble_eq_true rfl) ?_
    refine A_if_eq (tgt := 36) dX5_dirtIn_22 (by decide) (fun c1 => ?_) (fun c1 => ?_)
    · skip
      have c1 := bi_eq0.mp c1
      refine A_iconst (v := 0) dX5_dirtIn_36 (by decide) ?_
      refine A_iadd dX5_dirtIn_37 ?_
      refine A_int (w := sm (fun f => if inTub N f t then fl N f 3 else 0) (i4 + 1)) (by rw [sm_s, if_neg c1]) ?_
      refine A_istore_n (i := 2) dX5_dirtIn_38 rfl (Nat.le_of_ble_eq_true rfl) ?_
      refine A_iinc (v := nI (i4 + 1)) dX5_dirtIn_39 rfl (nI_inc _ _) (Nat.le_of_ble_eq_true rfl) ?_
      refine A_goto (tgt := 4) dX5_dirtIn_42 (by decide) ?_
      refine A_sub (L' := [(0, .ref (wW W)), (1, .int t), (2, .int (sm (fun f => if inTub N f t then fl N f 3 else 0) (i4 + 1))), (3, .int (nI (i4 + 1)))]) ⟨rfl, rfl, rfl, rfl, trivial⟩ ?_
      exact ih4 trivial
    · skip
      have c1 := bi_ne0.mp c1
      refine A_aload_n (i := 0) dX5_dirtIn_25 rfl rfl ?_
      refine A_iload_n (i := 3) dX5_dirtIn_26 rfl rfl ?_
      refine A_callV1E (b' := 0) (v := some (.ref (wF W i4))) (τ := σ) (c_flagOf σ W N i4 hR9 hW hi4) tX5_flagOf q1200 h1 rfl rfl dX5_dirtIn_27 (by decide) (Nat.le_of_ble_eq_true rfl) (Nat.le_of_ble_eq_true rfl) ?_
      refine A_getfN cb_X7 (hR9.2.2.2.2.2.2.1 i4 hi4) 3 (Nat.le_of_ble_eq_true rfl) q1106 rfl (v := .int (fl N i4 3)) rfl dX5_dirtIn_30 ?_
      refine A_goto (tgt := 37) dX5_dirtIn_33 (by decide) ?_
      refine A_iadd dX5_dirtIn_37 ?_
      refine A_int (w := sm (fun f => if inTub N f t then fl N f 3 else 0) (i4 + 1)) (by rw [sm_s, if_pos c1]) ?_
      refine A_istore_n (i := 2) dX5_dirtIn_38 rfl (Nat.le_of_ble_eq_true rfl) ?_
      refine A_iinc (v := nI (i4 + 1)) dX5_dirtIn_39 rfl (nI_inc _ _) (Nat.le_of_ble_eq_true rfl) ?_
      refine A_goto (tgt := 4) dX5_dirtIn_42 (by decide) ?_
      refine A_sub (L' := [(0, .ref (wW W)), (1, .int t), (2, .int (sm (fun f => if inTub N f t then fl N f 3 else 0) (i4 + 1))), (3, .int (nI (i4 + 1)))]) ⟨rfl, rfl, rfl, rfl, trivial⟩ ?_
      exact ih4 trivial
  · skip
    refine A_iload_n (i := 3) dX5_dirtIn_4 rfl rfl ?_
    refine A_aload_n (i := 0) dX5_dirtIn_5 rfl rfl ?_
    refine A_callV0E (b' := 0) (v := some (.int (nI (nF N)))) (τ := σ) (c_many σ W N hR9 hW) tX5_many q1199 h1 rfl rfl dX5_dirtIn_6 (by decide) (Nat.le_of_ble_eq_true rfl) (Nat.le_of_ble_eq_true rfl) ?_
    refine A_icmp_ge_t (tgt := 45) dX5_dirtIn_9 (by decide) (br_ge rfl) ?_
    refine A_iload_n (i := 2) dX5_dirtIn_45 rfl rfl ?_
    exact A_iret dX5_dirtIn_46 rfl (⟨rfl, rfl⟩)
/-- the colours that run at this heat -/
def hotN (N : AF) (h : Int32) : Int32 := orF (fun c => if ¬ h < N (12 + c) then (1 : Int32) <<< (nI c &&& 31) else 0) (nC N)
def rnU (N : AF) (t : Int32) : Nat → Int32 := orF (fun f => if inTub N f t then fl N f 1 ||| fl N f 6 else 0)
set_option maxHeartbeats 200000 in
theorem c_hot5 {l : Launch} {g : GC} (σ : AH) (W : WA) (N : AF) (h : Int32) (hR : RW g σ W N) (hD : WFd N) : AMet l g mX5_hot 1 0 [.ref (wW W), .int h] σ (A_eq (some (.int (hotN N h))) σ) (A_no) := by
  refine A_of rfl (by decide) (Nat.le_of_ble_eq_true rfl) (L0 := [(0, .ref (wW W)), (1, .int h)]) rfl ?_
  have hW := hD.1
  have hR9 := hR
  obtain ⟨h1, ⟨fr, h2, h2'⟩, ⟨fm, h3, h3'⟩, ⟨mcn, fnA, h4, h4', h4''⟩, ⟨mcf, ffA, h5, h5', h5''⟩, ⟨fu, h6, h6'⟩, h7, h8, h9, h10, h11⟩ := hR
  have hF12 : nF N ≤ 12 := hW.2.2.2.2.2
  have hN4 : nN N ≤ 4 := hW.2.1.2
  have hC6 : nC N ≤ 6 := hW.1.2
  have hT3 : nT N ≤ 3 := hW.2.2.1.2
  have hP8 : nP N ≤ 8 := hW.2.2.2.1.2
  refine A_iconst (v := 0) dX5_hot_0 (by decide) ?_
  refine A_istore_n (i := 2) dX5_hot_1 rfl (Nat.le_of_ble_eq_true rfl) ?_
  refine A_iconst (v := 0) dX5_hot_2 (by decide) ?_
  refine A_istore_n (i := 3) dX5_hot_3 rfl (Nat.le_of_ble_eq_true rfl) ?_
  refine A_sub (L' := [(0, .ref (wW W)), (1, .int h), (2, .int (orF (fun c => if ¬ h < N (12 + c) then (1 : Int32) <<< (nI c &&& 31) else 0) 0)), (3, .int (nI 0))]) ⟨rfl, rfl, rfl, rfl, trivial⟩ ?_
  refine A_for (nC N) (fun i4 => 0) (fun i4 => [(0, .ref (wW W)), (1, .int h), (2, .int (orF (fun c => if ¬ h < N (12 + c) then (1 : Int32) <<< (nI c &&& 31) else 0) i4)), (3, .int (nI i4))]) (fun i4 => σ) (fun i4 => True) trivial (fun i4 hi4 hI4 ih4 => ?_) (fun hI4 => ?_)
  · skip
    refine A_iload_n (i := 3) dX5_hot_4 rfl rfl ?_
    refine A_aload_n (i := 0) dX5_hot_5 rfl rfl ?_
    refine A_getf cb_X5 h1 6 (Nat.le_of_ble_eq_true rfl) q837 rfl (v := .int (N 6)) rfl dX5_hot_6 ?_
    refine A_icmp_ge_f (tgt := 34) dX5_hot_9 (by decide) (br_lt hW.1.1 hi4 (by omega)) ?_
    refine A_aload_n (i := 0) dX5_hot_12 rfl rfl ?_
    refine A_getf cb_X5 h1 1 (Nat.le_of_ble_eq_true rfl) q824 rfl (v := .ref (wR W)) rfl dX5_hot_13 ?_
    refine A_iload_n (i := 3) dX5_hot_16 rfl rfl ?_
    refine A_iald h2 (vp_in_nI (Nat.lt_of_lt_of_le hi4 hC6) (by decide)) dX5_hot_17 ?_
    refine A_int (w := N (12 + i4)) (by rw [nI_clamp (by omega)]; exact h2' i4 hi4) ?_
    refine A_iload_n (i := 1) dX5_hot_18 rfl rfl ?_
    refine A_icmp_gt (tgt := 28) dX5_hot_19 (by decide) (fun c1 => ?_) (fun c1 => ?_)
    · skip
      refine A_iinc (v := nI (i4 + 1)) dX5_hot_28 rfl (nI_inc _ _) (Nat.le_of_ble_eq_true rfl) ?_
      refine A_goto (tgt := 4) dX5_hot_31 (by decide) ?_
      refine A_sub (L' := [(0, .ref (wW W)), (1, .int h), (2, .int (orF (fun c => if ¬ h < N (12 + c) then (1 : Int32) <<< (nI c &&& 31) else 0) (i4 + 1))), (3, .int (nI (i4 + 1)))]) ⟨rfl, rfl, (by rw [or_s, if_neg (not_not_intro c1), Int32.or_zero]; rfl), rfl, trivial⟩ ?_
      exact ih4 trivial
    · skip
      refine A_iload_n (i := 2) dX5_hot_22 rfl rfl ?_
      refine A_iconst (v := 1) dX5_hot_23 (by decide) ?_
      refine A_iload_n (i := 3) dX5_hot_24 rfl rfl ?_
      refine A_ishl dX5_hot_25 ?_
      refine A_ior dX5_hot_26 ?_
      refine A_istore_n (i := 2) dX5_hot_27 rfl (Nat.le_of_ble_eq_true rfl) ?_
      refine A_iinc (v := nI (i4 + 1)) dX5_hot_28 rfl (nI_inc _ _) (Nat.le_of_ble_eq_true rfl) ?_
      refine A_goto (tgt := 4) dX5_hot_31 (by decide) ?_
      refine A_sub (L' := [(0, .ref (wW W)), (1, .int h), (2, .int (orF (fun c => if ¬ h < N (12 + c) then (1 : Int32) <<< (nI c &&& 31) else 0) (i4 + 1))), (3, .int (nI (i4 + 1)))]) ⟨rfl, rfl, (by rw [or_s, if_pos c1]; rfl), rfl, trivial⟩ ?_
      exact ih4 trivial
  · skip
    refine A_iload_n (i := 3) dX5_hot_4 rfl rfl ?_
    refine A_aload_n (i := 0) dX5_hot_5 rfl rfl ?_
    refine A_getf cb_X5 h1 6 (Nat.le_of_ble_eq_true rfl) q837 rfl (v := .int (N 6)) rfl dX5_hot_6 ?_
    refine A_icmp_ge_t (tgt := 34) dX5_hot_9 (by decide) (br_ge hW.1.1) ?_
    refine A_iload_n (i := 2) dX5_hot_34 rfl rfl ?_
    exact A_iret dX5_hot_35 rfl (⟨rfl, rfl⟩)
set_option maxHeartbeats 200000 in
theorem c_onPeg5 {l : Launch} {g : GC} (σ : AH) (W : WA) (N : AF) (p : Int32) (hR : RW g σ W N) (hD : WFd N) : AMet l g mX5_onPeg 5 0 [.ref (wW W), .int p] σ (A_eq (some (.int (flagOnN N p))) σ) (A_no) := by
  refine A_of rfl (by decide) (Nat.le_of_ble_eq_true rfl) (L0 := [(0, .ref (wW W)), (1, .int p)]) rfl ?_
  have hW := hD.1
  have hR9 := hR
  obtain ⟨h1, ⟨fr, h2, h2'⟩, ⟨fm, h3, h3'⟩, ⟨mcn, fnA, h4, h4', h4''⟩, ⟨mcf, ffA, h5, h5', h5''⟩, ⟨fu, h6, h6'⟩, h7, h8, h9, h10, h11⟩ := hR
  have hF12 : nF N ≤ 12 := hW.2.2.2.2.2
  have hN4 : nN N ≤ 4 := hW.2.1.2
  have hC6 : nC N ≤ 6 := hW.1.2
  have hT3 : nT N ≤ 3 := hW.2.2.1.2
  have hP8 : nP N ≤ 8 := hW.2.2.2.1.2
  refine A_iconst (v := 0) dX5_onPeg_0 (by decide) ?_
  refine A_istore_n (i := 2) dX5_onPeg_1 rfl (Nat.le_of_ble_eq_true rfl) ?_
  refine A_sub (L' := [(0, .ref (wW W)), (1, .int p), (2, .int (nI 0))]) ⟨rfl, rfl, rfl, trivial⟩ ?_
  refine A_for (nF N) (fun i2 => 0) (fun i2 => [(0, .ref (wW W)), (1, .int p), (2, .int (nI i2))]) (fun i2 => σ) (fun i2 => flagOnN N p = fsr (fun f => fl N f 8 = 2 ∧ fl N f 9 = p) i2 (nF N - i2)) rfl (fun i2 hi2 hI2 ih2 => ?_) (fun hI2 => ?_)
  · skip
    refine A_iload_n (i := 2) dX5_onPeg_2 rfl rfl ?_
    refine A_aload_n (i := 0) dX5_onPeg_3 rfl rfl ?_
    refine A_callV0E (b' := 0) (v := some (.int (nI (nF N)))) (τ := σ) (c_many σ W N hR9 hW) tX5_many q1199 h1 rfl rfl dX5_onPeg_4 (by decide) (Nat.le_of_ble_eq_true rfl) (Nat.le_of_ble_eq_true rfl) ?_
    refine A_icmp_ge_f (tgt := 30) dX5_onPeg_7 (by decide) (br_lt rfl hi2 (by omega)) ?_
    refine A_aload_n (i := 0) dX5_onPeg_10 rfl rfl ?_
    refine A_iload_n (i := 2) dX5_onPeg_11 rfl rfl ?_
    refine A_callV1E (b' := 0) (v := some (.ref (wF W i2))) (τ := σ) (c_flagOf σ W N i2 hR9 hW hi2) tX5_flagOf q1200 h1 rfl rfl dX5_onPeg_12 (by decide) (Nat.le_of_ble_eq_true rfl) (Nat.le_of_ble_eq_true rfl) ?_
    refine A_iload_n (i := 1) dX5_onPeg_15 rfl rfl ?_
    refine A_callV1E (b' := 0) (v := some (.int (bi (fl N i2 8 = 2 ∧ fl N i2 9 = p)))) (τ := σ) (c_fOn σ (wF W i2) (wP W i2) (fl N i2) p (hR9.2.2.2.2.2.2.1 i2 hi2) (hR9.2.2.2.2.2.2.2.1 i2 hi2) (flok_k hD hi2)) tX7_isOn q1328 (hR9.2.2.2.2.2.2.1 i2 hi2) rfl rfl dX5_onPeg_16 (by decide) (Nat.le_of_ble_eq_true rfl) (Nat.le_of_ble_eq_true rfl) ?_
    refine A_if_eq (tgt := 24) dX5_onPeg_19 (by decide) (fun c1 => ?_) (fun c1 => ?_)
    · skip
      have c1 := bi_eq0.mp c1
      refine A_iinc (v := nI (i2 + 1)) dX5_onPeg_24 rfl (nI_inc _ _) (Nat.le_of_ble_eq_true rfl) ?_
      refine A_goto (tgt := 2) dX5_onPeg_27 (by decide) ?_
      refine A_sub (L' := [(0, .ref (wW W)), (1, .int p), (2, .int (nI (i2 + 1)))]) ⟨rfl, rfl, rfl, trivial⟩ ?_
      exact ih2 (by rw [hI2, fsr_s _ hi2, if_neg c1])
    · skip
      have c1 := bi_ne0.mp c1
      refine A_iload_n (i := 2) dX5_onPeg_22 rfl rfl ?_
      exact A_iret dX5_onPeg_23 rfl (⟨by rw [hI2, fsr_s _ hi2, if_pos c1], rfl⟩)
  · skip
    refine A_iload_n (i := 2) dX5_onPeg_2 rfl rfl ?_
    refine A_aload_n (i := 0) dX5_onPeg_3 rfl rfl ?_
    refine A_callV0E (b' := 0) (v := some (.int (nI (nF N)))) (τ := σ) (c_many σ W N hR9 hW) tX5_many q1199 h1 rfl rfl dX5_onPeg_4 (by decide) (Nat.le_of_ble_eq_true rfl) (Nat.le_of_ble_eq_true rfl) ?_
    refine A_icmp_ge_t (tgt := 30) dX5_onPeg_7 (by decide) (br_ge rfl) ?_
    refine A_iconst (v := (-1)) dX5_onPeg_30 (by decide) ?_
    exact A_iret dX5_onPeg_31 rfl (⟨by rw [hI2, fsr_e], rfl⟩)
set_option maxHeartbeats 200000 in
theorem c_freePeg5 {l : Launch} {g : GC} (σ : AH) (W : WA) (N : AF) (hR : RW g σ W N) (hD : WFd N) : AMet l g mX5_freePeg 6 0 [.ref (wW W)] σ (A_eq (some (.int (freeN N))) σ) (A_no) := by
  refine A_of rfl (by decide) (Nat.le_of_ble_eq_true rfl) (L0 := [(0, .ref (wW W))]) rfl ?_
  have hW := hD.1
  have hR9 := hR
  obtain ⟨h1, ⟨fr, h2, h2'⟩, ⟨fm, h3, h3'⟩, ⟨mcn, fnA, h4, h4', h4''⟩, ⟨mcf, ffA, h5, h5', h5''⟩, ⟨fu, h6, h6'⟩, h7, h8, h9, h10, h11⟩ := hR
  have hF12 : nF N ≤ 12 := hW.2.2.2.2.2
  have hN4 : nN N ≤ 4 := hW.2.1.2
  have hC6 : nC N ≤ 6 := hW.1.2
  have hT3 : nT N ≤ 3 := hW.2.2.1.2
  have hP8 : nP N ≤ 8 := hW.2.2.2.1.2
  refine A_iconst (v := 0) dX5_freePeg_0 (by decide) ?_
  refine A_istore_n (i := 1) dX5_freePeg_1 rfl (Nat.le_of_ble_eq_true rfl) ?_
  refine A_sub (L' := [(0, .ref (wW W)), (1, .int (nI 0))]) ⟨rfl, rfl, trivial⟩ ?_
  refine A_for (nP N) (fun i2 => 0) (fun i2 => [(0, .ref (wW W)), (1, .int (nI i2))]) (fun i2 => σ) (fun i2 => freeN N = fsr (fun p => flagOnN N (nI p) = -1) i2 (nP N - i2)) rfl (fun i2 hi2 hI2 ih2 => ?_) (fun hI2 => ?_)
  · skip
    refine A_iload_n (i := 1) dX5_freePeg_2 rfl rfl ?_
    refine A_aload_n (i := 0) dX5_freePeg_3 rfl rfl ?_
    refine A_getf cb_X5 h1 0 (Nat.le_of_ble_eq_true rfl) q822 rfl (v := .int (N 9)) rfl dX5_freePeg_4 ?_
    refine A_icmp_ge_f (tgt := 27) dX5_freePeg_7 (by decide) (br_lt hW.2.2.2.1.1 hi2 (by omega)) ?_
    refine A_aload_n (i := 0) dX5_freePeg_10 rfl rfl ?_
    refine A_iload_n (i := 1) dX5_freePeg_11 rfl rfl ?_
    refine A_callV1E (b' := 0) (v := some (.int (flagOnN N (nI i2)))) (τ := σ) (c_onPeg5 σ W N (nI i2) hR9 hD) tX5_onPeg q1324 h1 rfl rfl dX5_freePeg_12 (by decide) (Nat.le_of_ble_eq_true rfl) (Nat.le_of_ble_eq_true rfl) ?_
    refine A_iconst (v := (-1)) dX5_freePeg_15 (by decide) ?_
    refine A_icmp_ne (tgt := 21) dX5_freePeg_16 (by decide) (fun c1 => ?_) (fun c1 => ?_)
    · skip
      refine A_iinc (v := nI (i2 + 1)) dX5_freePeg_21 rfl (nI_inc _ _) (Nat.le_of_ble_eq_true rfl) ?_
      refine A_goto (tgt := 2) dX5_freePeg_24 (by decide) ?_
      refine A_sub (L' := [(0, .ref (wW W)), (1, .int (nI (i2 + 1)))]) ⟨rfl, rfl, trivial⟩ ?_
      exact ih2 (by rw [hI2, fsr_s _ hi2, if_neg c1])
    · skip
      refine A_iload_n (i := 1) dX5_freePeg_19 rfl rfl ?_
      exact A_iret dX5_freePeg_20 rfl (⟨by rw [hI2, fsr_s _ hi2, if_pos c1], rfl⟩)
  · skip
    refine A_iload_n (i := 1) dX5_freePeg_2 rfl rfl ?_
    refine A_aload_n (i := 0) dX5_freePeg_3 rfl rfl ?_
    refine A_getf cb_X5 h1 0 (Nat.le_of_ble_eq_true rfl) q822 rfl (v := .int (N 9)) rfl dX5_freePeg_4 ?_
    refine A_icmp_ge_t (tgt := 27) dX5_freePeg_7 (by decide) (br_ge hW.2.2.2.1.1) ?_
    refine A_iconst (v := (-1)) dX5_freePeg_27 (by decide) ?_
    exact A_iret dX5_freePeg_28 rfl (⟨by rw [hI2, fsr_e], rfl⟩)
