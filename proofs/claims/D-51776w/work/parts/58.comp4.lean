/-! THE COMPONENT 6: what runs, stains, mixes; the order in a tub; the line -/
theorem twoP : ∀ k, k < 6 → ((1 : Int32) <<< (nI k &&& 31)).toBitVec = BitVec.twoPow 32 k := by decide
theorem zerP : ∀ k, k < 6 → ((0 : Int32) <<< (nI k &&& 31)).toBitVec = 0#32 := by decide
theorem smP : ∀ k, k < 6 → ((nI k &&& 31).toBitVec.smod 32).toNat = k := by decide
theorem hasB_bit (s : Int32) : ∀ k, k < 6 → (hasB s (nI k) ↔ s.toBitVec.getLsbD k = true) := by
  intro k hk
  have e1 : hasB s (nI k) ↔ s.toBitVec.sshiftRight' ((nI k &&& 31).toBitVec.smod 32) &&& BitVec.twoPow 32 0 = BitVec.twoPow 32 0 := by
    show s >>> (nI k &&& 31) &&& 1 = 1 ↔ _
    rw [← Int32.toBitVec_inj, Int32.toBitVec_and, Int32.toBitVec_shiftRight]
    exact Iff.rfl
  have e2 : s.toBitVec.sshiftRight' ((nI k &&& 31).toBitVec.smod 32) = s.toBitVec.sshiftRight k := by
    unfold BitVec.sshiftRight'
    rw [smP k hk]
  rw [e1, e2, BitVec.and_twoPow, BitVec.getLsbD_sshiftRight, Nat.add_zero]
  have h32 : k < 32 := by omega
  by_cases h : s.toBitVec.getLsbD k = true
  · simp [h, h32]
  · simp only [if_pos h32, h]
    exact ⟨fun c => absurd c (by decide), fun c => absurd c (by decide)⟩
theorem bit1 (s : Int32) {k : Nat} (hk : k < 6) : bi (hasB s (nI k)) <<< (nI k &&& 31) = s &&& ((1 : Int32) <<< (nI k &&& 31)) := by
  apply Int32.toBitVec_inj.mp
  rw [Int32.toBitVec_and, twoP k hk, BitVec.and_twoPow]
  by_cases h : hasB s (nI k)
  · rw [if_pos ((hasB_bit s k hk).mp h), bi_t h, twoP k hk]
  · rw [if_neg (fun c => h ((hasB_bit s k hk).mpr c)), bi_f h, zerP k hk]
theorem and_or_d (a b c : Int32) : (a ||| b) &&& c = (a &&& c) ||| (b &&& c) := by
  apply Int32.toBitVec_inj.mp
  simp only [Int32.toBitVec_and, Int32.toBitVec_or]
  exact BitVec.and_or_distrib_right
theorem and_or_l (a b c : Int32) : a &&& (b ||| c) = (a &&& b) ||| (a &&& c) := by
  apply Int32.toBitVec_inj.mp
  simp only [Int32.toBitVec_and, Int32.toBitVec_or]
  exact BitVec.and_or_distrib_left
theorem runOf_eq (N : AF) (s h : Int32) (hC : nC N ≤ 6) : runOf N s h = s &&& hotN N h := by
  unfold runOf hotN
  have H : ∀ n, n ≤ 6 → orF (fun k => bi (hasB s (nI k) ∧ ¬ h < N (12 + k)) <<< (nI k &&& 31)) n = s &&& orF (fun c => if ¬ h < N (12 + c) then (1 : Int32) <<< (nI c &&& 31) else 0) n := by
    intro n
    induction n with
    | zero => intro _; exact Int32.and_zero.symm
    | succ n ih =>
      intro hn
      rw [or_s, or_s, ih (by omega), and_or_l]
      congr 1
      by_cases c : h < N (12 + n)
      · rw [bi_f (fun k => k.2 c), if_neg (not_not_intro c), Int32.and_zero]
        exact Int32.toBitVec_inj.mp (zerP n (by omega))
      · rw [if_pos c, ← bit1 s (by omega)]
        rw [bi_congr (show (hasB s (nI n) ∧ ¬ h < N (12 + n)) ↔ hasB s (nI n) from ⟨fun k => k.1, fun k => ⟨k, c⟩⟩)]
  exact H _ hC
theorem run_eq (N : AF) (t h : Int32) (hC : nC N ≤ 6) : rnU N t (nF N) &&& hotN N h = runIn N t h := by
  unfold rnU runIn
  have H : ∀ n, orF (fun f => if inTub N f t then fl N f 1 ||| fl N f 6 else 0) n &&& hotN N h = orF (fun f => if inTub N f t then runFrom N f h else 0) n := by
    intro n
    induction n with
    | zero => exact Int32.zero_and
    | succ n ih =>
      rw [or_s, or_s, and_or_d, ih]
      congr 1
      by_cases c : inTub N n t
      · rw [if_pos c, if_pos c]
        exact (runOf_eq N _ h hC).symm
      · rw [if_neg c, if_neg c]
        exact Int32.zero_and
  exact H _
theorem cT17 {l : Launch} {g : GC} {σ : AH} {e a n D : Nat} {fa : Nat → Nat} {p : Nat → Prop} [DecidablePred p] {x1 : Int32} {x2 : Int32} (hDD : D + 2 ≤ e) (hO : lamO g σ 16 [.int x1, .int x2] a) (hM : ∀ f, f < n → AMet l g mX5_lambda_ahead_13 D 0 [.int x1, .int x2, .ref (fa f)] σ (A_eq (some (.int (bi (p f)))) σ) A_no) : callsT l g σ e a fa n p :=
  fun f hf _ _ _ _ _ _ _ _ _ _ hq hd hdp hw kk => A_lam17 (hM f hf) hO (fun v τ h => ⟨_, h.1, nar_bi _⟩) hq hd (by omega) (Nat.le_of_eq (Nat.zero_add _)) hw (fun v τ h => by obtain ⟨e1, e2⟩ := h; subst e1; subst e2; exact kk)
theorem cT25 {l : Launch} {g : GC} {σ : AH} {e a n D : Nat} {fa : Nat → Nat} {p : Nat → Prop} [DecidablePred p] {x1 : Int32} {x2 : Int32} (hDD : D + 2 ≤ e) (hO : lamO g σ 24 [.int x1, .int x2] a) (hM : ∀ f, f < n → AMet l g mX5_lambda_stainedIf_12 D 0 [.int x1, .int x2, .ref (fa f)] σ (A_eq (some (.int (bi (p f)))) σ) A_no) : callsT l g σ e a fa n p :=
  fun f hf _ _ _ _ _ _ _ _ _ _ hq hd hdp hw kk => A_lam25 (hM f hf) hO (fun v τ h => ⟨_, h.1, nar_bi _⟩) hq hd (by omega) (Nat.le_of_eq (Nat.zero_add _)) hw (fun v τ h => by obtain ⟨e1, e2⟩ := h; subst e1; subst e2; exact kk)
set_option maxHeartbeats 200000 in
theorem c_running5 {l : Launch} {g : GC} (σ : AH) (W : WA) (N : AF) (t h : Int32) (hR : RW g σ W N) (hD : WFd N) : AMet l g mX5_running 5 0 [.ref (wW W), .int t, .int h] σ (A_eq (some (.int (runIn N t h))) σ) (A_no) := by
  refine A_of rfl (by decide) (Nat.le_of_ble_eq_true rfl) (L0 := [(0, .ref (wW W)), (1, .int t), (2, .int h)]) rfl ?_
  have hW := hD.1
  have hR9 := hR
  obtain ⟨h1, ⟨fr, h2, h2'⟩, ⟨fm, h3, h3'⟩, ⟨mcn, fnA, h4, h4', h4''⟩, ⟨mcf, ffA, h5, h5', h5''⟩, ⟨fu, h6, h6'⟩, h7, h8, h9, h10, h11⟩ := hR
  have hF12 : nF N ≤ 12 := hW.2.2.2.2.2
  have hN4 : nN N ≤ 4 := hW.2.1.2
  have hC6 : nC N ≤ 6 := hW.1.2
  have hT3 : nT N ≤ 3 := hW.2.2.1.2
  have hP8 : nP N ≤ 8 := hW.2.2.2.1.2
  refine A_iconst (v := 0) dX5_running_0 (by decide) ?_
  refine A_istore_n (i := 3) dX5_running_1 rfl (Nat.le_of_ble_eq_true rfl) ?_
  refine A_iconst (v := 0) dX5_running_2 (by decide) ?_
  refine A_istore dX5_running_3 (Nat.le_of_ble_eq_true rfl) ?_
  refine A_sub (L' := [(0, .ref (wW W)), (1, .int t), (2, .int h), (3, .int (rnU N t 0)), (4, .int (nI 0))]) ⟨rfl, rfl, rfl, rfl, rfl, trivial⟩ ?_
  refine A_for (nF N) (fun i5 => 0) (fun i5 => [(0, .ref (wW W)), (1, .int t), (2, .int h), (3, .int (rnU N t i5)), (4, .int (nI i5))]) (fun i5 => σ) (fun i5 => True) trivial (fun i5 hi5 hI5 ih5 => ?_) (fun hI5 => ?_)
  · skip
    refine A_iload dX5_running_5 rfl ?_
    refine A_aload_n (i := 0) dX5_running_7 rfl rfl ?_
    refine A_callV0E (b' := 0) (v := some (.int (nI (nF N)))) (τ := σ) (c_many σ W N hR9 hW) tX5_many q1199 h1 rfl rfl dX5_running_8 (by decide) (Nat.le_of_ble_eq_true rfl) (Nat.le_of_ble_eq_true rfl) ?_
    refine A_icmp_ge_f (tgt := 55) dX5_running_11 (by decide) (br_lt rfl hi5 (by omega)) ?_
    refine A_aload_n (i := 0) dX5_running_14 rfl rfl ?_
    refine A_iload dX5_running_15 rfl ?_
    refine A_callV1E (b' := 0) (v := some (.ref (wF W i5))) (τ := σ) (c_flagOf σ W N i5 hR9 hW hi5) tX5_flagOf q1200 h1 rfl rfl dX5_running_17 (by decide) (Nat.le_of_ble_eq_true rfl) (Nat.le_of_ble_eq_true rfl) ?_
    refine A_iload_n (i := 1) dX5_running_20 rfl rfl ?_
    refine A_callV1E (b' := 0) (v := some (.int (bi (inTub N i5 t)))) (τ := σ) (c_fIn σ (wF W i5) (wP W i5) (fl N i5) t (hR9.2.2.2.2.2.2.1 i5 hi5) (hR9.2.2.2.2.2.2.2.1 i5 hi5) (flok_k hD hi5)) tX7_isIn q1190 (hR9.2.2.2.2.2.2.1 i5 hi5) rfl rfl dX5_running_21 (by decide) (Nat.le_of_ble_eq_true rfl) (Nat.le_of_ble_eq_true rfl) ?_
    refine A_if_eq (tgt := 49) dX5_running_24 (by decide) (fun c1 => ?_) (fun c1 => ?_)
    · skip
      have c1 := bi_eq0.mp c1
      refine A_iinc (v := nI (i5 + 1)) dX5_running_49 rfl (nI_inc _ _) (Nat.le_of_ble_eq_true rfl) ?_
      refine A_goto (tgt := 5) dX5_running_52 (by decide) ?_
      refine A_sub (L' := [(0, .ref (wW W)), (1, .int t), (2, .int h), (3, .int (rnU N t (i5 + 1))), (4, .int (nI (i5 + 1)))]) ⟨rfl, rfl, rfl, (by unfold rnU; rw [or_s, if_neg c1, Int32.or_zero]; rfl), rfl, trivial⟩ ?_
      exact ih5 trivial
    · skip
      have c1 := bi_ne0.mp c1
      refine A_iload_n (i := 3) dX5_running_27 rfl rfl ?_
      refine A_aload_n (i := 0) dX5_running_28 rfl rfl ?_
      refine A_iload dX5_running_29 rfl ?_
      refine A_callV1E (b' := 0) (v := some (.ref (wF W i5))) (τ := σ) (c_flagOf σ W N i5 hR9 hW hi5) tX5_flagOf q1200 h1 rfl rfl dX5_running_31 (by decide) (Nat.le_of_ble_eq_true rfl) (Nat.le_of_ble_eq_true rfl) ?_
      refine A_getfN cb_X7 (hR9.2.2.2.2.2.2.1 i5 hi5) 1 (Nat.le_of_ble_eq_true rfl) q1100 rfl (v := .int (fl N i5 1)) rfl dX5_running_34 ?_
      refine A_aload_n (i := 0) dX5_running_37 rfl rfl ?_
      refine A_iload dX5_running_38 rfl ?_
      refine A_callV1E (b' := 0) (v := some (.ref (wF W i5))) (τ := σ) (c_flagOf σ W N i5 hR9 hW hi5) tX5_flagOf q1200 h1 rfl rfl dX5_running_40 (by decide) (Nat.le_of_ble_eq_true rfl) (Nat.le_of_ble_eq_true rfl) ?_
      refine A_getfN cb_X7 (hR9.2.2.2.2.2.2.1 i5 hi5) 6 (Nat.le_of_ble_eq_true rfl) q1115 rfl (v := .int (fl N i5 6)) rfl dX5_running_43 ?_
      refine A_ior dX5_running_46 ?_
      refine A_ior dX5_running_47 ?_
      refine A_istore_n (i := 3) dX5_running_48 rfl (Nat.le_of_ble_eq_true rfl) ?_
      refine A_iinc (v := nI (i5 + 1)) dX5_running_49 rfl (nI_inc _ _) (Nat.le_of_ble_eq_true rfl) ?_
      refine A_goto (tgt := 5) dX5_running_52 (by decide) ?_
      refine A_sub (L' := [(0, .ref (wW W)), (1, .int t), (2, .int h), (3, .int (rnU N t (i5 + 1))), (4, .int (nI (i5 + 1)))]) ⟨rfl, rfl, rfl, (by unfold rnU; rw [or_s, if_pos c1]; rfl), rfl, trivial⟩ ?_
      exact ih5 trivial
  · skip
    refine A_iload dX5_running_5 rfl ?_
    refine A_aload_n (i := 0) dX5_running_7 rfl rfl ?_
    refine A_callV0E (b' := 0) (v := some (.int (nI (nF N)))) (τ := σ) (c_many σ W N hR9 hW) tX5_many q1199 h1 rfl rfl dX5_running_8 (by decide) (Nat.le_of_ble_eq_true rfl) (Nat.le_of_ble_eq_true rfl) ?_
    refine A_icmp_ge_t (tgt := 55) dX5_running_11 (by decide) (br_ge rfl) ?_
    refine A_iload_n (i := 3) dX5_running_55 rfl rfl ?_
    refine A_aload_n (i := 0) dX5_running_56 rfl rfl ?_
    refine A_iload_n (i := 2) dX5_running_57 rfl rfl ?_
    refine A_callV1E (b' := 0) (v := some (.int (hotN N h))) (τ := σ) (c_hot5 σ W N h hR9 hD) tX5_hot q1254 h1 rfl rfl dX5_running_58 (by decide) (Nat.le_of_ble_eq_true rfl) (Nat.le_of_ble_eq_true rfl) ?_
    refine A_iand dX5_running_61 ?_
    exact A_iret dX5_running_62 rfl (⟨by rw [run_eq N t h hC6], rfl⟩)
set_option maxHeartbeats 200000 in
theorem c_lstained {l : Launch} {g : GC} (σ : AH) (W : WA) (N : AF) (f : Nat) (t r : Int32) (hR : RW g σ W N) (hD : WFd N) (hf : f < nF N) : AMet l g mX5_lambda_stainedIf_12 2 0 [.int t, .int r, .ref (wF W f)] σ (A_eq (some (.int (bi (inTub N f t ∧ ¬ newS N f r = 0)))) σ) (A_no) := by
  refine A_of rfl (by decide) (Nat.le_of_ble_eq_true rfl) (L0 := [(0, .int t), (1, .int r), (2, .ref (wF W f))]) rfl ?_
  have hW := hD.1
  have hR9 := hR
  obtain ⟨h1, ⟨fr, h2, h2'⟩, ⟨fm, h3, h3'⟩, ⟨mcn, fnA, h4, h4', h4''⟩, ⟨mcf, ffA, h5, h5', h5''⟩, ⟨fu, h6, h6'⟩, h7, h8, h9, h10, h11⟩ := hR
  have hF12 : nF N ≤ 12 := hW.2.2.2.2.2
  have hN4 : nN N ≤ 4 := hW.2.1.2
  have hC6 : nC N ≤ 6 := hW.1.2
  have hT3 : nT N ≤ 3 := hW.2.2.1.2
  have hP8 : nP N ≤ 8 := hW.2.2.2.1.2
  refine A_aload_n (i := 2) dX5_lambda_stainedIf_12_0 rfl rfl ?_
  refine A_iload_n (i := 0) dX5_lambda_stainedIf_12_1 rfl rfl ?_
  refine A_callV1E (b' := 0) (v := some (.int (bi (inTub N f t)))) (τ := σ) (c_fIn σ (wF W f) (wP W f) (fl N f) t (hR9.2.2.2.2.2.2.1 f hf) (hR9.2.2.2.2.2.2.2.1 f hf) (flok_k hD hf)) tX7_isIn q1190 (h7 f hf) rfl rfl dX5_lambda_stainedIf_12_2 (by decide) (Nat.le_of_ble_eq_true rfl) (Nat.le_of_ble_eq_true rfl) ?_
  refine A_if_eq (tgt := 20) dX5_lambda_stainedIf_12_5 (by decide) (fun c1 => ?_) (fun c1 => ?_)
  · skip
    have c1 := bi_eq0.mp c1
    refine A_iconst (v := 0) dX5_lambda_stainedIf_12_20 (by decide) ?_
    exact A_zret dX5_lambda_stainedIf_12_21 rfl (rfl) (⟨by simp [bi, c1], rfl⟩)
  · skip
    have c1 := bi_ne0.mp c1
    refine A_aload_n (i := 2) dX5_lambda_stainedIf_12_8 rfl rfl ?_
    refine A_iload_n (i := 1) dX5_lambda_stainedIf_12_9 rfl rfl ?_
    refine A_callV1E (b' := 0) (v := some (.int (newS N f r))) (τ := σ) (c_fGets σ (wF W f) (wP W f) (fl N f) r (hR9.2.2.2.2.2.2.1 f hf)) tX7_gets q1736 (h7 f hf) rfl rfl dX5_lambda_stainedIf_12_10 (by decide) (Nat.le_of_ble_eq_true rfl) (Nat.le_of_ble_eq_true rfl) ?_
    refine A_if_eq (tgt := 20) dX5_lambda_stainedIf_12_13 (by decide) (fun c2 => ?_) (fun c2 => ?_)
    · skip
      refine A_iconst (v := 0) dX5_lambda_stainedIf_12_20 (by decide) ?_
      exact A_zret dX5_lambda_stainedIf_12_21 rfl (rfl) (⟨by simp [bi, c1, c2], rfl⟩)
    · skip
      refine A_iconst (v := 1) dX5_lambda_stainedIf_12_16 (by decide) ?_
      refine A_goto (tgt := 21) dX5_lambda_stainedIf_12_17 (by decide) ?_
      exact A_zret dX5_lambda_stainedIf_12_21 rfl (rfl) (⟨by simp [bi, c1, c2], rfl⟩)
set_option maxHeartbeats 200000 in
theorem c_stainedIf5 {l : Launch} {g : GC} (σ : AH) (W : WA) (N : AF) (t h : Int32) (hR : RW g σ W N) (hD : WFd N) : AMet l g mX5_stainedIf 31 1 [.ref (wW W), .int t, .int h] σ (A_ext (some (.int (stainBy N t h))) σ) (A_no) := by
  refine A_of rfl (by decide) (Nat.le_of_ble_eq_true rfl) (L0 := [(0, .ref (wW W)), (1, .int t), (2, .int h)]) rfl ?_
  refine A_wfh (fun wσ hgσ => ?_)
  have yσ : ext σ σ := ext.rf
  have hW := hD.1
  have hR9 := hR
  obtain ⟨h1, ⟨fr, h2, h2'⟩, ⟨fm, h3, h3'⟩, ⟨mcn, fnA, h4, h4', h4''⟩, ⟨mcf, ffA, h5, h5', h5''⟩, ⟨fu, h6, h6'⟩, h7, h8, h9, h10, h11⟩ := hR
  have hF12 : nF N ≤ 12 := hW.2.2.2.2.2
  have hN4 : nN N ≤ 4 := hW.2.1.2
  have hC6 : nC N ≤ 6 := hW.1.2
  have hT3 : nT N ≤ 3 := hW.2.2.1.2
  have hP8 : nP N ≤ 8 := hW.2.2.2.1.2
  refine A_aload_n (i := 0) dX5_stainedIf_0 rfl rfl ?_
  refine A_iload_n (i := 1) dX5_stainedIf_1 rfl rfl ?_
  refine A_iload_n (i := 2) dX5_stainedIf_2 rfl rfl ?_
  refine A_callV2E (b' := 1) (v := some (.int (runIn N t h))) (τ := σ) (c_running5 σ W N t h hR9 hD) tX5_running q1250 h1 rfl rfl dX5_stainedIf_3 (by decide) (Nat.le_of_ble_eq_true rfl) (Nat.le_of_ble_eq_true rfl) ?_
  refine A_istore_n (i := 3) dX5_stainedIf_6 rfl (Nat.le_of_ble_eq_true rfl) ?_
  refine A_aload_n (i := 0) dX5_stainedIf_7 rfl rfl ?_
  refine A_iload_n (i := 1) dX5_stainedIf_8 rfl rfl ?_
  refine A_iload_n (i := 3) dX5_stainedIf_9 rfl rfl ?_
  refine A_mk25 (b' := 0) (Nat.le_of_ble_eq_true rfl) (Nat.le_of_ble_eq_true rfl) ?_
  obtain ⟨σ1, eσ1⟩ : ∃ τ, τ = h_new σ (.inr (.inr (24, [.int t, .int (runIn N t h)]))) := ⟨_, rfl⟩
  refine A_st (σ' := σ1) eσ1.symm ?_
  have wσ1 : wfh σ1 := by rw [eσ1]; exact wσ.new
  have fσ1_0 : σ1.1 (wW W) = some (.inr (.inl (4, [.int (N 9), .ref (wR W), .ref (wM W), .ref (wNL W), .ref (wFL W), .ref (wUN W), .int (N 6), .int (N 8), .int (N 0), .int (N 1), .int (N 2), .int (N 3), .int (N 4), .int (N 5), .int (N 11)]))) := by rw [eσ1]; exact (hn_ne (Nat.ne_of_lt (wσ _ _ h1))).trans h1
  have fσ1_1 : σ1.1 (wFL W) = some (.inr (.inl (14, [.int mcf, .ref (wFA W), .int (nI (nF N))]))) := by rw [eσ1]; exact (hn_ne (Nat.ne_of_lt (wσ _ _ h5))).trans h5
  have fσ1_2 : σ1.1 (wFA W) = some (.inl (.object "java/lang/Object", 12, .inr (.inr (.inr (.inr ffA))))) := by rw [eσ1]; exact (hn_ne (Nat.ne_of_lt (wσ _ _ h5'))).trans h5'
  have fσ1_3 : σ1.1 (wNL W) = some (.inr (.inl (14, [.int mcn, .ref (wNA W), .int (nI (nN N))]))) := by rw [eσ1]; exact (hn_ne (Nat.ne_of_lt (wσ _ _ h4))).trans h4
  have fσ1_4 : σ1.1 (wNA W) = some (.inl (.object "java/lang/Object", 4, .inr (.inr (.inr (.inr fnA))))) := by rw [eσ1]; exact (hn_ne (Nat.ne_of_lt (wσ _ _ h4'))).trans h4'
  have fσ1_5 : σ1.1 (wR W) = some (.inl (.int, 6, .inl fr)) := by rw [eσ1]; exact (hn_ne (Nat.ne_of_lt (wσ _ _ h2))).trans h2
  have fσ1_6 : σ1.1 (wM W) = some (.inl (.int, 3, .inl fm)) := by rw [eσ1]; exact (hn_ne (Nat.ne_of_lt (wσ _ _ h3))).trans h3
  have fσ1_7 : σ1.1 (wUN W) = some (.inl (.object "FlagLaundry$Test", 7, .inr (.inr (.inr (.inr fu))))) := by rw [eσ1]; exact (hn_ne (Nat.ne_of_lt (wσ _ _ h6))).trans h6
  have fσ1_8 : σ1.1 σ.2 = some (.inr (.inr (24, [.int t, .int (runIn N t h)]))) := by rw [eσ1]; exact if_pos rfl
  have xσ1 : ext σ σ1 := by rw [eσ1]; exact ext_new _ _
  have yσ1 : ext σ σ1 := yσ.tr (xσ1)
  have hR1 : RW g σ1 W N := hR9.ext wσ yσ1
  refine A_callV1E (b' := 0) (v := some (.int (stainBy N t h))) (τ := σ1) (c_cnt σ1 W N σ.2 (fun f => inTub N f t ∧ ¬ newS N f (runIn N t h) = 0) hR1 hW (cT25 (by decide) (Or.inl fσ1_8) (fun f hf => c_lstained σ1 W N f t (runIn N t h) hR1 hD hf))) tX5_count q1195 fσ1_0 rfl rfl dX5_stainedIf_15 (by decide) (Nat.le_of_ble_eq_true rfl) (Nat.le_of_ble_eq_true rfl) ?_
  exact A_iret dX5_stainedIf_18 rfl (⟨rfl, yσ1⟩)
set_option maxHeartbeats 200000 in
theorem c_lahead {l : Launch} {g : GC} (σ : AH) (a : Nat) (pl : Nat) (F : Nat → Int32) (t r : Int32) (hF : σ.1 a = some (.inr (.inl (6, [.int (F 0), .int (F 1), .int (F 2), .int (F 3), .int (F 4), .int (F 5), .int (F 6), .int (F 7), .ref pl])))) (hP : σ.1 pl = some (.inr (.inl (plc (F 8) (F 9) (F 10))))) (hk : PLk (F 8)) : AMet l g mX5_lambda_ahead_13 1 0 [.int t, .int r, .ref a] σ (A_eq (some (.int (bi ((F 8 = 1 ∧ F 9 = t) ∧ ¬ r ≤ F 10)))) σ) A_no := by
  rcases hk with h8 | h8 | h8 | h8
  · skip
    have hP : σ.1 pl = some (.inr (.inl (7, []))) := by rw [h8] at hP; exact hP
    refine A_of rfl (by decide) (Nat.le_of_ble_eq_true rfl) (L0 := [(0, .int t), (1, .int r), (2, .ref a)]) rfl ?_
    refine A_aload_n (i := 2) dX5_lambda_ahead_13_0 rfl rfl ?_
    refine A_getfN cb_X7 hF 8 (Nat.le_of_ble_eq_true rfl) q1121 rfl (v := .ref pl) rfl dX5_lambda_ahead_13_1 ?_
    refine A_astore dX5_lambda_ahead_13_4 (Nat.le_of_ble_eq_true rfl) ?_
    refine A_aload dX5_lambda_ahead_13_6 rfl ?_
    refine A_instNo hP rfl nc_X8_X9 q810 dX5_lambda_ahead_13_8 ?_
    refine A_if_eq_t (tgt := 40) dX5_lambda_ahead_13_11 (by decide) (by decide) ?_
    refine A_iconst (v := 0) dX5_lambda_ahead_13_40 (by decide) ?_
    exact A_zret dX5_lambda_ahead_13_41 rfl (rfl) (⟨by simp [bi, -Int32.not_le, -Int32.not_lt, h8], rfl⟩)
  · skip
    have hP : σ.1 pl = some (.inr (.inl (8, [.int (F 9), .int (F 10)]))) := by rw [h8] at hP; exact hP
    refine A_of rfl (by decide) (Nat.le_of_ble_eq_true rfl) (L0 := [(0, .int t), (1, .int r), (2, .ref a)]) rfl ?_
    refine A_aload_n (i := 2) dX5_lambda_ahead_13_0 rfl rfl ?_
    refine A_getfN cb_X7 hF 8 (Nat.le_of_ble_eq_true rfl) q1121 rfl (v := .ref pl) rfl dX5_lambda_ahead_13_1 ?_
    refine A_astore dX5_lambda_ahead_13_4 (Nat.le_of_ble_eq_true rfl) ?_
    refine A_aload dX5_lambda_ahead_13_6 rfl ?_
    refine A_instE hP rfl q810 dX5_lambda_ahead_13_8 ?_
    refine A_if_eq_f (tgt := 40) dX5_lambda_ahead_13_11 (by decide) (by decide) ?_
    refine A_aload dX5_lambda_ahead_13_14 rfl ?_
    refine A_castE hP rfl q810 dX5_lambda_ahead_13_16 ?_
    refine A_astore_n (i := 3) dX5_lambda_ahead_13_19 rfl (Nat.le_of_ble_eq_true rfl) ?_
    refine A_aload_n (i := 3) dX5_lambda_ahead_13_20 rfl rfl ?_
    refine A_getfN cb_X9 hP 0 (Nat.le_of_ble_eq_true rfl) q1225 rfl (v := .int (F 9)) rfl dX5_lambda_ahead_13_21 ?_
    refine A_iload_n (i := 0) dX5_lambda_ahead_13_24 rfl rfl ?_
    refine A_icmp_ne (tgt := 40) dX5_lambda_ahead_13_25 (by decide) (fun c1 => ?_) (fun c1 => ?_)
    · skip
      refine A_iconst (v := 0) dX5_lambda_ahead_13_40 (by decide) ?_
      exact A_zret dX5_lambda_ahead_13_41 rfl (rfl) (⟨by simp [bi, -Int32.not_le, -Int32.not_lt, h8, c1], rfl⟩)
    · skip
      refine A_aload_n (i := 3) dX5_lambda_ahead_13_28 rfl rfl ?_
      refine A_getfN cb_X9 hP 1 (Nat.le_of_ble_eq_true rfl) q1227 rfl (v := .int (F 10)) rfl dX5_lambda_ahead_13_29 ?_
      refine A_iload_n (i := 1) dX5_lambda_ahead_13_32 rfl rfl ?_
      refine A_icmp_ge (tgt := 40) dX5_lambda_ahead_13_33 (by decide) (fun c2 => ?_) (fun c2 => ?_)
      · skip
        refine A_iconst (v := 0) dX5_lambda_ahead_13_40 (by decide) ?_
        exact A_zret dX5_lambda_ahead_13_41 rfl (rfl) (⟨by simp [bi, -Int32.not_le, -Int32.not_lt, h8, c1, c2], rfl⟩)
      · skip
        refine A_iconst (v := 1) dX5_lambda_ahead_13_36 (by decide) ?_
        refine A_goto (tgt := 41) dX5_lambda_ahead_13_37 (by decide) ?_
        exact A_zret dX5_lambda_ahead_13_41 rfl (rfl) (⟨by simp [bi, -Int32.not_le, -Int32.not_lt, h8, c1, c2], rfl⟩)
  · skip
    have hP : σ.1 pl = some (.inr (.inl (9, [.int (F 9)]))) := by rw [h8] at hP; exact hP
    refine A_of rfl (by decide) (Nat.le_of_ble_eq_true rfl) (L0 := [(0, .int t), (1, .int r), (2, .ref a)]) rfl ?_
    refine A_aload_n (i := 2) dX5_lambda_ahead_13_0 rfl rfl ?_
    refine A_getfN cb_X7 hF 8 (Nat.le_of_ble_eq_true rfl) q1121 rfl (v := .ref pl) rfl dX5_lambda_ahead_13_1 ?_
    refine A_astore dX5_lambda_ahead_13_4 (Nat.le_of_ble_eq_true rfl) ?_
    refine A_aload dX5_lambda_ahead_13_6 rfl ?_
    refine A_instNo hP rfl nc_X11_X9 q810 dX5_lambda_ahead_13_8 ?_
    refine A_if_eq_t (tgt := 40) dX5_lambda_ahead_13_11 (by decide) (by decide) ?_
    refine A_iconst (v := 0) dX5_lambda_ahead_13_40 (by decide) ?_
    exact A_zret dX5_lambda_ahead_13_41 rfl (rfl) (⟨by simp [bi, -Int32.not_le, -Int32.not_lt, h8], rfl⟩)
  · skip
    have hP : σ.1 pl = some (.inr (.inl (10, []))) := by rw [h8] at hP; exact hP
    refine A_of rfl (by decide) (Nat.le_of_ble_eq_true rfl) (L0 := [(0, .int t), (1, .int r), (2, .ref a)]) rfl ?_
    refine A_aload_n (i := 2) dX5_lambda_ahead_13_0 rfl rfl ?_
    refine A_getfN cb_X7 hF 8 (Nat.le_of_ble_eq_true rfl) q1121 rfl (v := .ref pl) rfl dX5_lambda_ahead_13_1 ?_
    refine A_astore dX5_lambda_ahead_13_4 (Nat.le_of_ble_eq_true rfl) ?_
    refine A_aload dX5_lambda_ahead_13_6 rfl ?_
    refine A_instNo hP rfl nc_X12_X9 q810 dX5_lambda_ahead_13_8 ?_
    refine A_if_eq_t (tgt := 40) dX5_lambda_ahead_13_11 (by decide) (by decide) ?_
    refine A_iconst (v := 0) dX5_lambda_ahead_13_40 (by decide) ?_
    exact A_zret dX5_lambda_ahead_13_41 rfl (rfl) (⟨by simp [bi, -Int32.not_le, -Int32.not_lt, h8], rfl⟩)
set_option maxHeartbeats 200000 in
theorem c_ahead5 {l : Launch} {g : GC} (σ : AH) (W : WA) (N : AF) (f : Nat) (hR : RW g σ W N) (hD : WFd N) (hf : f < nF N) (h8f : fl N f 8 = 1) : AMet l g mX5_ahead 31 1 [.ref (wW W), .int (fl N f 9), .ref (wF W f)] σ (A_ext (some (.int (aheadN N f))) σ) (A_no) := by
  refine A_of rfl (by decide) (Nat.le_of_ble_eq_true rfl) (L0 := [(0, .ref (wW W)), (1, .int (fl N f 9)), (2, .ref (wF W f))]) rfl ?_
  refine A_wfh (fun wσ hgσ => ?_)
  have yσ : ext σ σ := ext.rf
  have hW := hD.1
  have hR9 := hR
  obtain ⟨h1, ⟨fr, h2, h2'⟩, ⟨fm, h3, h3'⟩, ⟨mcn, fnA, h4, h4', h4''⟩, ⟨mcf, ffA, h5, h5', h5''⟩, ⟨fu, h6, h6'⟩, h7, h8, h9, h10, h11⟩ := hR
  have hF12 : nF N ≤ 12 := hW.2.2.2.2.2
  have hN4 : nN N ≤ 4 := hW.2.1.2
  have hC6 : nC N ≤ 6 := hW.1.2
  have hT3 : nT N ≤ 3 := hW.2.2.1.2
  have hP8 : nP N ≤ 8 := hW.2.2.2.1.2
  have hP : σ.1 (wP W f) = some (.inr (.inl (8, [.int (fl N f 9), .int (fl N f 10)]))) := by have h99 := h8 f hf; rw [h8f] at h99; exact h99
  refine A_aload_n (i := 2) dX5_ahead_0 rfl rfl ?_
  refine A_getfN cb_X7 (h7 f hf) 8 (Nat.le_of_ble_eq_true rfl) q1121 rfl (v := .ref (wP W f)) rfl dX5_ahead_1 ?_
  refine A_astore dX5_ahead_4 (Nat.le_of_ble_eq_true rfl) ?_
  refine A_aload dX5_ahead_6 rfl ?_
  refine A_instE hP rfl q810 dX5_ahead_8 ?_
  refine A_if_eq_f (tgt := 29) dX5_ahead_11 (by decide) (by decide) ?_
  refine A_aload dX5_ahead_14 rfl ?_
  refine A_castE hP rfl q810 dX5_ahead_16 ?_
  refine A_astore dX5_ahead_19 (Nat.le_of_ble_eq_true rfl) ?_
  refine A_aload dX5_ahead_21 rfl ?_
  refine A_getfN cb_X9 hP 1 (Nat.le_of_ble_eq_true rfl) q1227 rfl (v := .int (fl N f 10)) rfl dX5_ahead_23 ?_
  refine A_goto (tgt := 30) dX5_ahead_26 (by decide) ?_
  refine A_istore_n (i := 3) dX5_ahead_30 rfl (Nat.le_of_ble_eq_true rfl) ?_
  refine A_aload_n (i := 0) dX5_ahead_31 rfl rfl ?_
  refine A_iload_n (i := 1) dX5_ahead_32 rfl rfl ?_
  refine A_iload_n (i := 3) dX5_ahead_33 rfl rfl ?_
  refine A_mk17 (b' := 0) (Nat.le_of_ble_eq_true rfl) (Nat.le_of_ble_eq_true rfl) ?_
  obtain ⟨σ1, eσ1⟩ : ∃ τ, τ = h_new σ (.inr (.inr (16, [.int (fl N f 9), .int (fl N f 10)]))) := ⟨_, rfl⟩
  refine A_st (σ' := σ1) eσ1.symm ?_
  have wσ1 : wfh σ1 := by rw [eσ1]; exact wσ.new
  have fσ1_0 : σ1.1 (wW W) = some (.inr (.inl (4, [.int (N 9), .ref (wR W), .ref (wM W), .ref (wNL W), .ref (wFL W), .ref (wUN W), .int (N 6), .int (N 8), .int (N 0), .int (N 1), .int (N 2), .int (N 3), .int (N 4), .int (N 5), .int (N 11)]))) := by rw [eσ1]; exact (hn_ne (Nat.ne_of_lt (wσ _ _ h1))).trans h1
  have fσ1_1 : σ1.1 (wFL W) = some (.inr (.inl (14, [.int mcf, .ref (wFA W), .int (nI (nF N))]))) := by rw [eσ1]; exact (hn_ne (Nat.ne_of_lt (wσ _ _ h5))).trans h5
  have fσ1_2 : σ1.1 (wFA W) = some (.inl (.object "java/lang/Object", 12, .inr (.inr (.inr (.inr ffA))))) := by rw [eσ1]; exact (hn_ne (Nat.ne_of_lt (wσ _ _ h5'))).trans h5'
  have fσ1_3 : σ1.1 (wNL W) = some (.inr (.inl (14, [.int mcn, .ref (wNA W), .int (nI (nN N))]))) := by rw [eσ1]; exact (hn_ne (Nat.ne_of_lt (wσ _ _ h4))).trans h4
  have fσ1_4 : σ1.1 (wNA W) = some (.inl (.object "java/lang/Object", 4, .inr (.inr (.inr (.inr fnA))))) := by rw [eσ1]; exact (hn_ne (Nat.ne_of_lt (wσ _ _ h4'))).trans h4'
  have fσ1_5 : σ1.1 (wR W) = some (.inl (.int, 6, .inl fr)) := by rw [eσ1]; exact (hn_ne (Nat.ne_of_lt (wσ _ _ h2))).trans h2
  have fσ1_6 : σ1.1 (wM W) = some (.inl (.int, 3, .inl fm)) := by rw [eσ1]; exact (hn_ne (Nat.ne_of_lt (wσ _ _ h3))).trans h3
  have fσ1_7 : σ1.1 (wUN W) = some (.inl (.object "FlagLaundry$Test", 7, .inr (.inr (.inr (.inr fu))))) := by rw [eσ1]; exact (hn_ne (Nat.ne_of_lt (wσ _ _ h6))).trans h6
  have fσ1_8 : σ1.1 (wF W f) = some (.inr (.inl (6, [.int (fl N f 0), .int (fl N f 1), .int (fl N f 2), .int (fl N f 3), .int (fl N f 4), .int (fl N f 5), .int (fl N f 6), .int (fl N f 7), .ref (wP W f)]))) := by rw [eσ1]; exact (hn_ne (Nat.ne_of_lt (wσ _ _ (h7 f hf)))).trans (h7 f hf)
  have fσ1_9 : σ1.1 (wP W f) = some (.inr (.inl (8, [.int (fl N f 9), .int (fl N f 10)]))) := by rw [eσ1]; exact (hn_ne (Nat.ne_of_lt (wσ _ _ hP))).trans hP
  have fσ1_10 : σ1.1 σ.2 = some (.inr (.inr (16, [.int (fl N f 9), .int (fl N f 10)]))) := by rw [eσ1]; exact if_pos rfl
  have xσ1 : ext σ σ1 := by rw [eσ1]; exact ext_new _ _
  have yσ1 : ext σ σ1 := yσ.tr (xσ1)
  have hR1 : RW g σ1 W N := hR9.ext wσ yσ1
  refine A_callV1E (b' := 0) (v := some (.int (aheadN N f))) (τ := σ1) (c_cnt σ1 W N σ.2 (fun k => inTub N k (fl N f 9) ∧ ¬ fl N f 10 ≤ fl N k 10) hR1 hW (cT17 (by decide) (Or.inl fσ1_10) (fun k hk => c_lahead σ1 (wF W k) (wP W k) (fl N k) (fl N f 9) (fl N f 10) (hR1.2.2.2.2.2.2.1 k hk) (hR1.2.2.2.2.2.2.2.1 k hk) (flok_k hD hk)))) tX5_count q1195 fσ1_0 rfl rfl dX5_ahead_39 (by decide) (Nat.le_of_ble_eq_true rfl) (Nat.le_of_ble_eq_true rfl) ?_
  exact A_iret dX5_ahead_42 rfl (⟨rfl, yσ1⟩)
theorem c_ahead5t {l : Launch} {g : GC} (σ : AH) (W : WA) (N : AF) (f : Nat) (t : Int32) (hR : RW g σ W N) (hD : WFd N) (hf : f < nF N) (h : inTub N f t) : AMet l g mX5_ahead 31 1 [.ref (wW W), .int t, .ref (wF W f)] σ (A_ext (some (.int (aheadN N f))) σ) A_no := by
  obtain ⟨h8, h9⟩ := h
  subst h9
  exact c_ahead5 σ W N f hR hD hf h8
set_option maxHeartbeats 200000 in
theorem c_inTub5 {l : Launch} {g : GC} (σ : AH) (W : WA) (N : AF) (t i : Int32) (hR : RW g σ W N) (hD : WFd N) : AMet l g mX5_inTub 33 20 [.ref (wW W), .int t, .int i] σ (A_ext (some (.int (flagInN N t i))) σ) (A_no) := by
  refine A_of rfl (by decide) (Nat.le_of_ble_eq_true rfl) (L0 := [(0, .ref (wW W)), (1, .int t), (2, .int i)]) rfl ?_
  refine A_wfh (fun wσ hgσ => ?_)
  have yσ : ext σ σ := ext.rf
  have hW := hD.1
  have hR9 := hR
  obtain ⟨h1, ⟨fr, h2, h2'⟩, ⟨fm, h3, h3'⟩, ⟨mcn, fnA, h4, h4', h4''⟩, ⟨mcf, ffA, h5, h5', h5''⟩, ⟨fu, h6, h6'⟩, h7, h8, h9, h10, h11⟩ := hR
  have hF12 : nF N ≤ 12 := hW.2.2.2.2.2
  have hN4 : nN N ≤ 4 := hW.2.1.2
  have hC6 : nC N ≤ 6 := hW.1.2
  have hT3 : nT N ≤ 3 := hW.2.2.1.2
  have hP8 : nP N ≤ 8 := hW.2.2.2.1.2
  refine A_iconst (v := 0) dX5_inTub_0 (by decide) ?_
  refine A_istore_n (i := 3) dX5_inTub_1 rfl (Nat.le_of_ble_eq_true rfl) ?_
  refine A_less (b' := ((nF N) - 0) * 1 + 0) (by omega) ?_
  refine A_sub (L' := [(0, .ref (wW W)), (1, .int t), (2, .int i), (3, .int (nI 0))]) ⟨rfl, rfl, rfl, rfl, trivial⟩ ?_
  refine A_forP (α := AH) (nF N) (fun i2 _ => ((nF N) - i2) * 1 + 0) (fun i2 _ => [(0, .ref (wW W)), (1, .int t), (2, .int i), (3, .int (nI i2))]) (fun _ τ2 => τ2) (fun i2 τ2 => ext σ τ2 ∧ (flagInN N t i = fsr (fun f => inTub N f t ∧ aheadN N f = i) i2 (nF N - i2))) σ (⟨ext.rf, rfl⟩) (fun i2 τ2 hi2 hI2 ih2 => ?_) (fun τ2 hI2 => ?_)
  · skip
    refine A_less (b' := ((nF N) - (i2 + 1)) * 1 + 0 + 1) (by omega) ?_
    obtain ⟨xτ2, hI2⟩ := hI2
    refine A_wfh (fun wτ2 hgτ2 => ?_)
    have yτ2 : ext σ τ2 := yσ.tr (xτ2)
    have fτ2_0 : τ2.1 (wW W) = some (.inr (.inl (4, [.int (N 9), .ref (wR W), .ref (wM W), .ref (wNL W), .ref (wFL W), .ref (wUN W), .int (N 6), .int (N 8), .int (N 0), .int (N 1), .int (N 2), .int (N 3), .int (N 4), .int (N 5), .int (N 11)]))) := xτ2.at wσ h1
    have fτ2_1 : τ2.1 (wFL W) = some (.inr (.inl (14, [.int mcf, .ref (wFA W), .int (nI (nF N))]))) := xτ2.at wσ h5
    have fτ2_2 : τ2.1 (wFA W) = some (.inl (.object "java/lang/Object", 12, .inr (.inr (.inr (.inr ffA))))) := xτ2.at wσ h5'
    have fτ2_3 : τ2.1 (wNL W) = some (.inr (.inl (14, [.int mcn, .ref (wNA W), .int (nI (nN N))]))) := xτ2.at wσ h4
    have fτ2_4 : τ2.1 (wNA W) = some (.inl (.object "java/lang/Object", 4, .inr (.inr (.inr (.inr fnA))))) := xτ2.at wσ h4'
    have fτ2_5 : τ2.1 (wR W) = some (.inl (.int, 6, .inl fr)) := xτ2.at wσ h2
    have fτ2_6 : τ2.1 (wM W) = some (.inl (.int, 3, .inl fm)) := xτ2.at wσ h3
    have fτ2_7 : τ2.1 (wUN W) = some (.inl (.object "FlagLaundry$Test", 7, .inr (.inr (.inr (.inr fu))))) := xτ2.at wσ h6
    refine A_iload_n (i := 3) dX5_inTub_2 rfl rfl ?_
    refine A_aload_n (i := 0) dX5_inTub_3 rfl rfl ?_
    refine A_callV0E (b' := ((nF N) - (i2 + 1)) * 1 + 0 + 1) (v := some (.int (nI (nF N)))) (τ := τ2) (c_many τ2 W N (hR9.ext wσ yτ2) hW) tX5_many q1199 fτ2_0 rfl rfl dX5_inTub_4 (by decide) (by omega) (Nat.le_of_ble_eq_true rfl) ?_
    refine A_icmp_ge_f (tgt := 44) dX5_inTub_7 (by decide) (br_lt rfl hi2 (by omega)) ?_
    refine A_aload_n (i := 0) dX5_inTub_10 rfl rfl ?_
    refine A_iload_n (i := 3) dX5_inTub_11 rfl rfl ?_
    refine A_callV1E (b' := ((nF N) - (i2 + 1)) * 1 + 0 + 1) (v := some (.ref (wF W i2))) (τ := τ2) (c_flagOf τ2 W N i2 (hR9.ext wσ yτ2) hW hi2) tX5_flagOf q1200 fτ2_0 rfl rfl dX5_inTub_12 (by decide) (by omega) (Nat.le_of_ble_eq_true rfl) ?_
    refine A_iload_n (i := 1) dX5_inTub_15 rfl rfl ?_
    refine A_callV1E (b' := ((nF N) - (i2 + 1)) * 1 + 0 + 1) (v := some (.int (bi (inTub N i2 t)))) (τ := τ2) (c_fIn τ2 (wF W i2) (wP W i2) (fl N i2) t ((hR9.ext wσ yτ2).2.2.2.2.2.2.1 i2 hi2) ((hR9.ext wσ yτ2).2.2.2.2.2.2.2.1 i2 hi2) (flok_k hD hi2)) tX7_isIn q1190 ((hR9.ext wσ yτ2).2.2.2.2.2.2.1 i2 hi2) rfl rfl dX5_inTub_16 (by decide) (by omega) (Nat.le_of_ble_eq_true rfl) ?_
    refine A_if_eq (tgt := 38) dX5_inTub_19 (by decide) (fun c1 => ?_) (fun c1 => ?_)
    · skip
      have c1 := bi_eq0.mp c1
      refine A_iinc (v := nI (i2 + 1)) dX5_inTub_38 rfl (nI_inc _ _) (Nat.le_of_ble_eq_true rfl) ?_
      refine A_goto (tgt := 2) dX5_inTub_41 (by decide) ?_
      refine A_less (b' := ((nF N) - (i2 + 1)) * 1 + 0) (by omega) ?_
      refine A_sub (L' := [(0, .ref (wW W)), (1, .int t), (2, .int i), (3, .int (nI (i2 + 1)))]) ⟨rfl, rfl, rfl, rfl, trivial⟩ ?_
      exact ih2 τ2 (⟨xτ2, (by rw [hI2, fsr_s _ hi2, if_neg (by simp [c1])])⟩)
    · skip
      have c1 := bi_ne0.mp c1
      refine A_aload_n (i := 0) dX5_inTub_22 rfl rfl ?_
      refine A_iload_n (i := 1) dX5_inTub_23 rfl rfl ?_
      refine A_aload_n (i := 0) dX5_inTub_24 rfl rfl ?_
      refine A_iload_n (i := 3) dX5_inTub_25 rfl rfl ?_
      refine A_callV1E (b' := ((nF N) - (i2 + 1)) * 1 + 0 + 1) (v := some (.ref (wF W i2))) (τ := τ2) (c_flagOf τ2 W N i2 (hR9.ext wσ yτ2) hW hi2) tX5_flagOf q1200 fτ2_0 rfl rfl dX5_inTub_26 (by decide) (by omega) (Nat.le_of_ble_eq_true rfl) ?_
      refine A_callV2 (b' := ((nF N) - (i2 + 1)) * 1 + 0 + 0) (c_ahead5t τ2 W N i2 t (hR9.ext wσ yτ2) hD hi2 c1) tX5_ahead q1528 fτ2_0 rfl rfl dX5_inTub_29 (by decide) (by omega) (Nat.le_of_ble_eq_true rfl) (fun w9 σ1 h9 => ?_) (fun E9 q9 τ9 h9 => h9.elim)
      obtain ⟨e9, xσ1⟩ := h9
      subst e9
      refine A_wfh (fun wσ1 hgσ1 => ?_)
      have yσ1 : ext σ σ1 := yτ2.tr (xσ1)
      have fσ1_0 : σ1.1 (wW W) = some (.inr (.inl (4, [.int (N 9), .ref (wR W), .ref (wM W), .ref (wNL W), .ref (wFL W), .ref (wUN W), .int (N 6), .int (N 8), .int (N 0), .int (N 1), .int (N 2), .int (N 3), .int (N 4), .int (N 5), .int (N 11)]))) := xσ1.at wτ2 fτ2_0
      have fσ1_1 : σ1.1 (wFL W) = some (.inr (.inl (14, [.int mcf, .ref (wFA W), .int (nI (nF N))]))) := xσ1.at wτ2 fτ2_1
      have fσ1_2 : σ1.1 (wFA W) = some (.inl (.object "java/lang/Object", 12, .inr (.inr (.inr (.inr ffA))))) := xσ1.at wτ2 fτ2_2
      have fσ1_3 : σ1.1 (wNL W) = some (.inr (.inl (14, [.int mcn, .ref (wNA W), .int (nI (nN N))]))) := xσ1.at wτ2 fτ2_3
      have fσ1_4 : σ1.1 (wNA W) = some (.inl (.object "java/lang/Object", 4, .inr (.inr (.inr (.inr fnA))))) := xσ1.at wτ2 fτ2_4
      have fσ1_5 : σ1.1 (wR W) = some (.inl (.int, 6, .inl fr)) := xσ1.at wτ2 fτ2_5
      have fσ1_6 : σ1.1 (wM W) = some (.inl (.int, 3, .inl fm)) := xσ1.at wτ2 fτ2_6
      have fσ1_7 : σ1.1 (wUN W) = some (.inl (.object "FlagLaundry$Test", 7, .inr (.inr (.inr (.inr fu))))) := xσ1.at wτ2 fτ2_7
      have fσ1_8 : σ1.1 (wF W i2) = some (.inr (.inl (6, [.int (fl N i2 0), .int (fl N i2 1), .int (fl N i2 2), .int (fl N i2 3), .int (fl N i2 4), .int (fl N i2 5), .int (fl N i2 6), .int (fl N i2 7), .ref (wP W i2)]))) := xσ1.at wτ2 ((hR9.ext wσ yτ2).2.2.2.2.2.2.1 i2 hi2)
      refine A_iload_n (i := 2) dX5_inTub_32 rfl rfl ?_
      refine A_icmp_ne (tgt := 38) dX5_inTub_33 (by decide) (fun c2 => ?_) (fun c2 => ?_)
      · skip
        refine A_iinc (v := nI (i2 + 1)) dX5_inTub_38 rfl (nI_inc _ _) (Nat.le_of_ble_eq_true rfl) ?_
        refine A_goto (tgt := 2) dX5_inTub_41 (by decide) ?_
        refine A_less (b' := ((nF N) - (i2 + 1)) * 1 + 0) (by omega) ?_
        refine A_sub (L' := [(0, .ref (wW W)), (1, .int t), (2, .int i), (3, .int (nI (i2 + 1)))]) ⟨rfl, rfl, rfl, rfl, trivial⟩ ?_
        exact ih2 σ1 (⟨(xτ2.tr xσ1), (by rw [hI2, fsr_s _ hi2, if_neg (by simp [c1, c2])])⟩)
      · skip
        refine A_iload_n (i := 3) dX5_inTub_36 rfl rfl ?_
        exact A_iret dX5_inTub_37 rfl (⟨by rw [hI2, fsr_s _ hi2, if_pos ⟨c1, c2⟩], yσ1⟩)
  · skip
    refine A_less (b' := 0) (by omega) ?_
    obtain ⟨xτ2, hI2⟩ := hI2
    refine A_wfh (fun wτ2 hgτ2 => ?_)
    have yτ2 : ext σ τ2 := yσ.tr (xτ2)
    have fτ2_0 : τ2.1 (wW W) = some (.inr (.inl (4, [.int (N 9), .ref (wR W), .ref (wM W), .ref (wNL W), .ref (wFL W), .ref (wUN W), .int (N 6), .int (N 8), .int (N 0), .int (N 1), .int (N 2), .int (N 3), .int (N 4), .int (N 5), .int (N 11)]))) := xτ2.at wσ h1
    have fτ2_1 : τ2.1 (wFL W) = some (.inr (.inl (14, [.int mcf, .ref (wFA W), .int (nI (nF N))]))) := xτ2.at wσ h5
    have fτ2_2 : τ2.1 (wFA W) = some (.inl (.object "java/lang/Object", 12, .inr (.inr (.inr (.inr ffA))))) := xτ2.at wσ h5'
    have fτ2_3 : τ2.1 (wNL W) = some (.inr (.inl (14, [.int mcn, .ref (wNA W), .int (nI (nN N))]))) := xτ2.at wσ h4
    have fτ2_4 : τ2.1 (wNA W) = some (.inl (.object "java/lang/Object", 4, .inr (.inr (.inr (.inr fnA))))) := xτ2.at wσ h4'
    have fτ2_5 : τ2.1 (wR W) = some (.inl (.int, 6, .inl fr)) := xτ2.at wσ h2
    have fτ2_6 : τ2.1 (wM W) = some (.inl (.int, 3, .inl fm)) := xτ2.at wσ h3
    have fτ2_7 : τ2.1 (wUN W) = some (.inl (.object "FlagLaundry$Test", 7, .inr (.inr (.inr (.inr fu))))) := xτ2.at wσ h6
    refine A_iload_n (i := 3) dX5_inTub_2 rfl rfl ?_
    refine A_aload_n (i := 0) dX5_inTub_3 rfl rfl ?_
    refine A_callV0E (b' := 0) (v := some (.int (nI (nF N)))) (τ := τ2) (c_many τ2 W N (hR9.ext wσ yτ2) hW) tX5_many q1199 fτ2_0 rfl rfl dX5_inTub_4 (by decide) (Nat.le_of_ble_eq_true rfl) (Nat.le_of_ble_eq_true rfl) ?_
    refine A_icmp_ge_t (tgt := 44) dX5_inTub_7 (by decide) (br_ge rfl) ?_
    refine A_iconst (v := (-1)) dX5_inTub_44 (by decide) ?_
    exact A_iret dX5_inTub_45 rfl (⟨by rw [hI2, fsr_e], yτ2⟩)
set_option maxHeartbeats 200000 in
theorem c_gives5 {l : Launch} {g : GC} (σ : AH) (W : WA) (N : AF) (f o : Nat) (h : Int32) (hR : RW g σ W N) (hD : WFd N) (hf : f < nF N) (ho : o < nF N) : AMet l g mX5_gives 4 0 [.ref (wW W), .ref (wF W f), .ref (wF W o), .int h] σ (A_eq (some (.int (bi (¬ newS N o (runFrom N f h) = 0)))) σ) (A_no) := by
  refine A_of rfl (by decide) (Nat.le_of_ble_eq_true rfl) (L0 := [(0, .ref (wW W)), (1, .ref (wF W f)), (2, .ref (wF W o)), (3, .int h)]) rfl ?_
  have hW := hD.1
  have hR9 := hR
  obtain ⟨h1, ⟨fr, h2, h2'⟩, ⟨fm, h3, h3'⟩, ⟨mcn, fnA, h4, h4', h4''⟩, ⟨mcf, ffA, h5, h5', h5''⟩, ⟨fu, h6, h6'⟩, h7, h8, h9, h10, h11⟩ := hR
  have hF12 : nF N ≤ 12 := hW.2.2.2.2.2
  have hN4 : nN N ≤ 4 := hW.2.1.2
  have hC6 : nC N ≤ 6 := hW.1.2
  have hT3 : nT N ≤ 3 := hW.2.2.1.2
  have hP8 : nP N ≤ 8 := hW.2.2.2.1.2
  have er : runFrom N f h = ((fl N f 1 ||| fl N f 6) &&& hotN N h) := runOf_eq N _ h hC6
  refine A_aload_n (i := 2) dX5_gives_0 rfl rfl ?_
  refine A_aload_n (i := 1) dX5_gives_1 rfl rfl ?_
  refine A_getfN cb_X7 (h7 f hf) 1 (Nat.le_of_ble_eq_true rfl) q1100 rfl (v := .int (fl N f 1)) rfl dX5_gives_2 ?_
  refine A_aload_n (i := 1) dX5_gives_5 rfl rfl ?_
  refine A_getfN cb_X7 (h7 f hf) 6 (Nat.le_of_ble_eq_true rfl) q1115 rfl (v := .int (fl N f 6)) rfl dX5_gives_6 ?_
  refine A_ior dX5_gives_9 ?_
  refine A_aload_n (i := 0) dX5_gives_10 rfl rfl ?_
  refine A_iload_n (i := 3) dX5_gives_11 rfl rfl ?_
  refine A_callV1E (b' := 0) (v := some (.int (hotN N h))) (τ := σ) (c_hot5 σ W N h hR9 hD) tX5_hot q1254 h1 rfl rfl dX5_gives_12 (by decide) (Nat.le_of_ble_eq_true rfl) (Nat.le_of_ble_eq_true rfl) ?_
  refine A_iand dX5_gives_15 ?_
  refine A_callV1E (b' := 0) (v := some (.int (newS N o ((fl N f 1 ||| fl N f 6) &&& hotN N h)))) (τ := σ) (c_fGets σ (wF W o) (wP W o) (fl N o) ((fl N f 1 ||| fl N f 6) &&& hotN N h) (hR9.2.2.2.2.2.2.1 o ho)) tX7_gets q1736 (h7 o ho) rfl rfl dX5_gives_16 (by decide) (Nat.le_of_ble_eq_true rfl) (Nat.le_of_ble_eq_true rfl) ?_
  refine A_if_eq (tgt := 26) dX5_gives_19 (by decide) (fun c1 => ?_) (fun c1 => ?_)
  · skip
    refine A_iconst (v := 0) dX5_gives_26 (by decide) ?_
    exact A_zret dX5_gives_27 rfl (rfl) (⟨by rw [er]; simp [bi, c1], rfl⟩)
  · skip
    refine A_iconst (v := 1) dX5_gives_22 (by decide) ?_
    refine A_goto (tgt := 27) dX5_gives_23 (by decide) ?_
    exact A_zret dX5_gives_27 rfl (rfl) (⟨by rw [er]; simp [bi, c1], rfl⟩)
set_option maxHeartbeats 200000 in
theorem c_mixes5 {l : Launch} {g : GC} (σ : AH) (W : WA) (N : AF) (f o : Nat) (h : Int32) (hR : RW g σ W N) (hD : WFd N) (hf : f < nF N) (ho : o < nF N) : AMet l g mX5_mixes 6 0 [.ref (wW W), .ref (wF W f), .ref (wF W o), .int h] σ (A_eq (some (.int ((bi (¬ newS N o (runFrom N f h) = 0)) + (2 * (bi (¬ newS N f (runFrom N o h) = 0)))))) σ) (A_no) := by
  refine A_of rfl (by decide) (Nat.le_of_ble_eq_true rfl) (L0 := [(0, .ref (wW W)), (1, .ref (wF W f)), (2, .ref (wF W o)), (3, .int h)]) rfl ?_
  have hW := hD.1
  have hR9 := hR
  obtain ⟨h1, ⟨fr, h2, h2'⟩, ⟨fm, h3, h3'⟩, ⟨mcn, fnA, h4, h4', h4''⟩, ⟨mcf, ffA, h5, h5', h5''⟩, ⟨fu, h6, h6'⟩, h7, h8, h9, h10, h11⟩ := hR
  have hF12 : nF N ≤ 12 := hW.2.2.2.2.2
  have hN4 : nN N ≤ 4 := hW.2.1.2
  have hC6 : nC N ≤ 6 := hW.1.2
  have hT3 : nT N ≤ 3 := hW.2.2.1.2
  have hP8 : nP N ≤ 8 := hW.2.2.2.1.2
  refine A_aload_n (i := 0) dX5_mixes_0 rfl rfl ?_
  refine A_aload_n (i := 1) dX5_mixes_1 rfl rfl ?_
  refine A_aload_n (i := 2) dX5_mixes_2 rfl rfl ?_
  refine A_iload_n (i := 3) dX5_mixes_3 rfl rfl ?_
  refine A_callV3E (b' := 0) (v := some (.int (bi (¬ newS N o (runFrom N f h) = 0)))) (τ := σ) (c_gives5 σ W N f o h hR9 hD hf ho) tX5_gives q1775 h1 rfl rfl dX5_mixes_4 (by decide) (Nat.le_of_ble_eq_true rfl) (Nat.le_of_ble_eq_true rfl) ?_
  refine A_callSN1E (b' := 0) (v := some (.int (oneI (bi (¬ newS N o (runFrom N f h) = 0))))) (τ := σ) (c_one1 σ (bi (¬ newS N o (runFrom N f h) = 0))) tX1_one q1205 dX5_mixes_7 (by decide) (Nat.le_of_ble_eq_true rfl) (Nat.le_of_ble_eq_true rfl) ?_
  refine A_int (w := (bi (¬ newS N o (runFrom N f h) = 0))) (oneI_bi _) ?_
  refine A_iconst (v := 2) dX5_mixes_10 (by decide) ?_
  refine A_aload_n (i := 0) dX5_mixes_11 rfl rfl ?_
  refine A_aload_n (i := 2) dX5_mixes_12 rfl rfl ?_
  refine A_aload_n (i := 1) dX5_mixes_13 rfl rfl ?_
  refine A_iload_n (i := 3) dX5_mixes_14 rfl rfl ?_
  refine A_callV3E (b' := 0) (v := some (.int (bi (¬ newS N f (runFrom N o h) = 0)))) (τ := σ) (c_gives5 σ W N o f h hR9 hD ho hf) tX5_gives q1775 h1 rfl rfl dX5_mixes_15 (by decide) (Nat.le_of_ble_eq_true rfl) (Nat.le_of_ble_eq_true rfl) ?_
  refine A_callSN1E (b' := 0) (v := some (.int (oneI (bi (¬ newS N f (runFrom N o h) = 0))))) (τ := σ) (c_one1 σ (bi (¬ newS N f (runFrom N o h) = 0))) tX1_one q1205 dX5_mixes_18 (by decide) (Nat.le_of_ble_eq_true rfl) (Nat.le_of_ble_eq_true rfl) ?_
  refine A_int (w := (bi (¬ newS N f (runFrom N o h) = 0))) (oneI_bi _) ?_
  refine A_imul dX5_mixes_21 ?_
  refine A_iadd dX5_mixes_22 ?_
  exact A_iret dX5_mixes_23 rfl (⟨rfl, rfl⟩)
set_option maxHeartbeats 200000 in
theorem c_last5 {l : Launch} {g : GC} (σ : AH) (W : WA) (N : AF) (hR : RW g σ W N) (hD : WFd N) : AMet l g mX5_lastOnLine 6 0 [.ref (wW W)] σ (A_eq (some (.int (lastN N))) σ) (A_no) := by
  refine A_of rfl (by decide) (Nat.le_of_ble_eq_true rfl) (L0 := [(0, .ref (wW W))]) rfl ?_
  have hW := hD.1
  have hR9 := hR
  obtain ⟨h1, ⟨fr, h2, h2'⟩, ⟨fm, h3, h3'⟩, ⟨mcn, fnA, h4, h4', h4''⟩, ⟨mcf, ffA, h5, h5', h5''⟩, ⟨fu, h6, h6'⟩, h7, h8, h9, h10, h11⟩ := hR
  have hF12 : nF N ≤ 12 := hW.2.2.2.2.2
  have hN4 : nN N ≤ 4 := hW.2.1.2
  have hC6 : nC N ≤ 6 := hW.1.2
  have hT3 : nT N ≤ 3 := hW.2.2.1.2
  have hP8 : nP N ≤ 8 := hW.2.2.2.1.2
  refine A_aload_n (i := 0) dX5_lastOnLine_0 rfl rfl ?_
  refine A_getf cb_X5 h1 0 (Nat.le_of_ble_eq_true rfl) q822 rfl (v := .int (N 9)) rfl dX5_lastOnLine_1 ?_
  refine A_iconst (v := 1) dX5_lastOnLine_4 (by decide) ?_
  refine A_isub dX5_lastOnLine_5 ?_
  refine A_int (w := (nI (nP N - 0) - 1)) (by rw [hW.2.2.2.1.1]; rfl) ?_
  refine A_istore_n (i := 1) dX5_lastOnLine_6 rfl (Nat.le_of_ble_eq_true rfl) ?_
  refine A_sub (L' := [(0, .ref (wW W)), (1, .int (nI (nP N - 0) - 1))]) ⟨rfl, rfl, trivial⟩ ?_
  refine A_for (nP N) (fun i7 => 0) (fun i7 => [(0, .ref (wW W)), (1, .int (nI (nP N - i7) - 1))]) (fun i7 => σ) (fun i7 => lastN N = lastF N (nP N - i7)) rfl (fun i7 hi7 hI7 ih7 => ?_) (fun hI7 => ?_)
  · skip
    rw [dn_e hi7]
    refine A_iload_n (i := 1) dX5_lastOnLine_7 rfl rfl ?_
    refine A_if_lt_f (tgt := 32) dX5_lastOnLine_8 (by decide) (nI_pos (by omega)) ?_
    refine A_aload_n (i := 0) dX5_lastOnLine_11 rfl rfl ?_
    refine A_iload_n (i := 1) dX5_lastOnLine_12 rfl rfl ?_
    refine A_callV1E (b' := 0) (v := some (.int (flagOnN N (nI (nP N - (i7 + 1)))))) (τ := σ) (c_onPeg5 σ W N (nI (nP N - (i7 + 1))) hR9 hD) tX5_onPeg q1324 h1 rfl rfl dX5_lastOnLine_13 (by decide) (Nat.le_of_ble_eq_true rfl) (Nat.le_of_ble_eq_true rfl) ?_
    refine A_iconst (v := (-1)) dX5_lastOnLine_16 (by decide) ?_
    refine A_icmp_eq (tgt := 26) dX5_lastOnLine_17 (by decide) (fun c1 => ?_) (fun c1 => ?_)
    · skip
      refine A_iinc (v := (nI (nP N - (i7 + 1)) - 1)) dX5_lastOnLine_26 rfl (inc_m1 _) (Nat.le_of_ble_eq_true rfl) ?_
      refine A_goto (tgt := 7) dX5_lastOnLine_29 (by decide) ?_
      refine A_sub (L' := [(0, .ref (wW W)), (1, .int (nI (nP N - (i7 + 1)) - 1))]) ⟨rfl, rfl, trivial⟩ ?_
      exact ih7 (by rw [hI7, show nP N - i7 = (nP N - (i7 + 1)) + 1 by omega, lastF_s, if_pos c1])
    · skip
      refine A_aload_n (i := 0) dX5_lastOnLine_20 rfl rfl ?_
      refine A_iload_n (i := 1) dX5_lastOnLine_21 rfl rfl ?_
      refine A_callV1E (b' := 0) (v := some (.int (flagOnN N (nI (nP N - (i7 + 1)))))) (τ := σ) (c_onPeg5 σ W N (nI (nP N - (i7 + 1))) hR9 hD) tX5_onPeg q1324 h1 rfl rfl dX5_lastOnLine_22 (by decide) (Nat.le_of_ble_eq_true rfl) (Nat.le_of_ble_eq_true rfl) ?_
      exact A_iret dX5_lastOnLine_25 rfl (⟨by rw [hI7, show nP N - i7 = (nP N - (i7 + 1)) + 1 by omega, lastF_s, if_neg c1], rfl⟩)
  · skip
    refine A_iload_n (i := 1) dX5_lastOnLine_7 rfl rfl ?_
    refine A_if_lt_t (tgt := 32) dX5_lastOnLine_8 (by decide) (by rw [Nat.sub_self]; decide) ?_
    refine A_iconst (v := (-1)) dX5_lastOnLine_32 (by decide) ?_
    exact A_iret dX5_lastOnLine_33 rfl (⟨by rw [hI7, Nat.sub_self] <;> rfl, rfl⟩)
