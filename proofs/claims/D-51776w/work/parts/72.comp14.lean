/-! FLAGLAUNDRY 3: what is asked -/
/-- there is no world, or there is this one -/
def LD (g : GC) (σ : AH) (is : Int32) (nv : Value) (W : WA) (N : AF) : Prop := (is = 0 ∧ nv = .null) ∨ (¬ is = 0 ∧ nv = .ref (wW W) ∧ RW g σ W N ∧ WFd N ∧ WFw N ∧ ∃ h, h < 2 ^ 30 ∧ N 0 = nI h)
theorem hk_ex {x : Int32} (h : inR x 0 3) : ∃ k, k ≤ 3 ∧ x = nI k := by
  obtain ⟨j, a, b⟩ := in_ex (M := 4) (n := 4) rfl (by decide) (by exact h)
  exact ⟨j, by omega, b⟩
theorem q_why {l : Launch} {g : GC} (σ : AH) (x bf dq sv ou : Nat) (bd pe ep : Int32) (is : Int32) (nv : Value) (W : WA) (N : AF) (f : Int32) (hL : LD g σ is nv W N) (hX : σ.1 x = some (lauC bf bd pe ep nv dq sv ou)) : AMet l g mX1_why 14 2 [.ref x, .int f] σ (A_val (mayT is (bi (okF is N f)) 1) (.int (whyN N (ix f))) σ) (A_thr ["java/lang/IllegalStateException", "java/lang/IndexOutOfBoundsException"] (mayT is (bi (okF is N f)) 1) σ) := by
  rcases hL with ⟨h0, hn⟩ | ⟨hs, hn, hR, hD, hw, hh⟩
  · subst hn
    refine A_of rfl (by decide) (Nat.le_of_ble_eq_true rfl) (L0 := [(0, .ref x), (1, .int f)]) rfl ?_
    refine A_wfh (fun wσ hgσ => ?_)
    have yσ : ext σ σ := ext.rf
    refine A_aload_n (i := 0) dX1_why_0 rfl rfl ?_
    refine A_iload_n (i := 1) dX1_why_1 rfl rfl ?_
    refine A_callV1 (b' := 0) (u_checkFlag σ x bf dq sv ou bd pe ep f hX) tX1_checkFlag q1490 hX rfl rfl dX1_why_2 (by decide) (Nat.le_of_ble_eq_true rfl) (Nat.le_of_ble_eq_true rfl) (fun w9 τ9 h9 => h9.elim) (fun E9 q9 τ9 h9 => A_out rfl (⟨yσ.tr h9.2, 0, by rw [h9.1]; rfl, by rw [(mayQ_1 h0)]; rfl⟩))
  · subst hn
    have hW := hD.1
    have hR9 := hR
    obtain ⟨h1, ⟨fr, h2, h2p⟩, ⟨fm, h3, h3p⟩, ⟨mcn, fnA, h4, h4p, h4q⟩, ⟨mcf, ffA, h5, h5p, h5q⟩, ⟨fu, h6, h6p⟩, h7, h8, h9, h10, h11⟩ := hR
    have hF12 : nF N ≤ 12 := hW.2.2.2.2.2
    have hN4 : nN N ≤ 4 := hW.2.1.2
    have hC6 : nC N ≤ 6 := hW.1.2
    have hT3 : nT N ≤ 3 := hW.2.2.1.2
    have hP8 : nP N ≤ 8 := hW.2.2.2.1.2
    by_cases ck1 : inR f 0 (N 10 - 1)
    · skip
      obtain ⟨jf, hjf, rfl⟩ := in_ex hW.2.2.2.2.1 (Nat.le_trans hF12 (by decide)) ck1
      have bjf : jf < 2000 := Nat.lt_of_lt_of_le hjf (Nat.le_trans hF12 (by decide))
      refine A_of rfl (by decide) (Nat.le_of_ble_eq_true rfl) (L0 := [(0, .ref x), (1, .int (nI jf))]) rfl ?_
      refine A_wfh (fun wσ hgσ => ?_)
      have yσ : ext σ σ := ext.rf
      refine A_aload_n (i := 0) dX1_why_0 rfl rfl ?_
      refine A_iload_n (i := 1) dX1_why_1 rfl rfl ?_
      refine A_callV1E (b' := 2) (v := some (.ref (wF W jf))) (τ := σ) (c_checkFlag σ x bf dq sv ou bd pe ep W N jf hX hR9 hD hjf) tX1_checkFlag q1490 hX rfl rfl dX1_why_2 (by decide) (Nat.le_of_ble_eq_true rfl) (Nat.le_of_ble_eq_true rfl) ?_
      refine A_astore_n (i := 2) dX1_why_5 rfl (Nat.le_of_ble_eq_true rfl) ?_
      refine A_aload_n (i := 0) dX1_why_6 rfl rfl ?_
      refine A_getf cb_X1 hX 4 (Nat.le_of_ble_eq_true rfl) q242 rfl (v := .ref (wW W)) rfl dX1_why_7 ?_
      refine A_aload_n (i := 2) dX1_why_10 rfl rfl ?_
      refine A_callV1E (b' := 2) (v := some (.int (whyN N jf))) (τ := σ) (c_why5 σ W N jf hR9 hD hjf) tX5_why q1630 h1 rfl rfl dX1_why_11 (by decide) (Nat.le_of_ble_eq_true rfl) (Nat.le_of_ble_eq_true rfl) ?_
      exact A_iret dX1_why_14 rfl (⟨(mayQ_0 hs (bi_n ⟨hs, ck1⟩) (by decide)), by rw [ixn bjf] <;> rfl, yσ⟩)
    · skip
      refine A_of rfl (by decide) (Nat.le_of_ble_eq_true rfl) (L0 := [(0, .ref x), (1, .int f)]) rfl ?_
      refine A_wfh (fun wσ hgσ => ?_)
      have yσ : ext σ σ := ext.rf
      refine A_aload_n (i := 0) dX1_why_0 rfl rfl ?_
      refine A_iload_n (i := 1) dX1_why_1 rfl rfl ?_
      refine A_callV1 (b' := 0) (c_checkFlag_no σ x bf dq sv ou bd pe ep W N f hX hR9 hD ck1) tX1_checkFlag q1490 hX rfl rfl dX1_why_2 (by decide) (Nat.le_of_ble_eq_true rfl) (Nat.le_of_ble_eq_true rfl) (fun w9 τ9 h9 => h9.elim) (fun E9 q9 τ9 h9 => A_out rfl (⟨yσ.tr h9.2, 1, by rw [h9.1]; rfl, by rw [(mayQ_2 hs (bi_f (fun h => ck1 h.2)))]; rfl⟩))
theorem q_culprit {l : Launch} {g : GC} (σ : AH) (x bf dq sv ou : Nat) (bd pe ep : Int32) (is : Int32) (nv : Value) (W : WA) (N : AF) (n : Int32) (hL : LD g σ is nv W N) (hX : σ.1 x = some (lauC bf bd pe ep nv dq sv ou)) : AMet l g mX1_culprit 15 2 [.ref x, .int n] σ (A_val (mayT is (bi (okN is N n)) 1) (.int (culpN N n)) σ) (A_thr ["java/lang/IllegalStateException", "java/lang/IndexOutOfBoundsException"] (mayT is (bi (okN is N n)) 1) σ) := by
  rcases hL with ⟨h0, hn⟩ | ⟨hs, hn, hR, hD, hw, hh⟩
  · subst hn
    refine A_of rfl (by decide) (Nat.le_of_ble_eq_true rfl) (L0 := [(0, .ref x), (1, .int n)]) rfl ?_
    refine A_wfh (fun wσ hgσ => ?_)
    have yσ : ext σ σ := ext.rf
    refine A_aload_n (i := 0) dX1_culprit_0 rfl rfl ?_
    refine A_iload_n (i := 1) dX1_culprit_1 rfl rfl ?_
    refine A_callV1 (b' := 0) (u_checkNation σ x bf dq sv ou bd pe ep n hX) tX1_checkNation q1455 hX rfl rfl dX1_culprit_2 (by decide) (Nat.le_of_ble_eq_true rfl) (Nat.le_of_ble_eq_true rfl) (fun w9 τ9 h9 => h9.elim) (fun E9 q9 τ9 h9 => A_out rfl (⟨yσ.tr h9.2, 0, by rw [h9.1]; rfl, by rw [(mayQ_1 h0)]; rfl⟩))
  · subst hn
    have hW := hD.1
    have hR9 := hR
    obtain ⟨h1, ⟨fr, h2, h2p⟩, ⟨fm, h3, h3p⟩, ⟨mcn, fnA, h4, h4p, h4q⟩, ⟨mcf, ffA, h5, h5p, h5q⟩, ⟨fu, h6, h6p⟩, h7, h8, h9, h10, h11⟩ := hR
    have hF12 : nF N ≤ 12 := hW.2.2.2.2.2
    have hN4 : nN N ≤ 4 := hW.2.1.2
    have hC6 : nC N ≤ 6 := hW.1.2
    have hT3 : nT N ≤ 3 := hW.2.2.1.2
    have hP8 : nP N ≤ 8 := hW.2.2.2.1.2
    by_cases ck1 : inR n 0 (N 7 - 1)
    · skip
      obtain ⟨jn, hjn, rfl⟩ := in_ex hW.2.1.1 (Nat.le_trans hN4 (by decide)) ck1
      have bjn : jn < 2000 := Nat.lt_of_lt_of_le hjn (Nat.le_trans hN4 (by decide))
      refine A_of rfl (by decide) (Nat.le_of_ble_eq_true rfl) (L0 := [(0, .ref x), (1, .int (nI jn))]) rfl ?_
      refine A_wfh (fun wσ hgσ => ?_)
      have yσ : ext σ σ := ext.rf
      refine A_aload_n (i := 0) dX1_culprit_0 rfl rfl ?_
      refine A_iload_n (i := 1) dX1_culprit_1 rfl rfl ?_
      refine A_callV1E (b' := 2) (v := some (.ref (wN W jn))) (τ := σ) (c_checkNation σ x bf dq sv ou bd pe ep W N jn hX hR9 hD hjn) tX1_checkNation q1455 hX rfl rfl dX1_culprit_2 (by decide) (Nat.le_of_ble_eq_true rfl) (Nat.le_of_ble_eq_true rfl) ?_
      refine A_astore_n (i := 2) dX1_culprit_5 rfl (Nat.le_of_ble_eq_true rfl) ?_
      refine A_aload_n (i := 0) dX1_culprit_6 rfl rfl ?_
      refine A_getf cb_X1 hX 4 (Nat.le_of_ble_eq_true rfl) q242 rfl (v := .ref (wW W)) rfl dX1_culprit_7 ?_
      refine A_iload_n (i := 1) dX1_culprit_10 rfl rfl ?_
      refine A_callV1E (b' := 2) (v := some (.int (culpN N (nI jn)))) (τ := σ) (c_culprit5 σ W N (nI jn) hR9 hD) tX5_culprit q1645 h1 rfl rfl dX1_culprit_11 (by decide) (Nat.le_of_ble_eq_true rfl) (Nat.le_of_ble_eq_true rfl) ?_
      exact A_iret dX1_culprit_14 rfl (⟨(mayQ_0 hs (bi_n ⟨hs, ck1⟩) (by decide)), rfl, yσ⟩)
    · skip
      refine A_of rfl (by decide) (Nat.le_of_ble_eq_true rfl) (L0 := [(0, .ref x), (1, .int n)]) rfl ?_
      refine A_wfh (fun wσ hgσ => ?_)
      have yσ : ext σ σ := ext.rf
      refine A_aload_n (i := 0) dX1_culprit_0 rfl rfl ?_
      refine A_iload_n (i := 1) dX1_culprit_1 rfl rfl ?_
      refine A_callV1 (b' := 0) (c_checkNation_no σ x bf dq sv ou bd pe ep W N n hX hR9 hD ck1) tX1_checkNation q1455 hX rfl rfl dX1_culprit_2 (by decide) (Nat.le_of_ble_eq_true rfl) (Nat.le_of_ble_eq_true rfl) (fun w9 τ9 h9 => h9.elim) (fun E9 q9 τ9 h9 => A_out rfl (⟨yσ.tr h9.2, 1, by rw [h9.1]; rfl, by rw [(mayQ_2 hs (bi_f (fun h => ck1 h.2)))]; rfl⟩))
theorem q_inTub {l : Launch} {g : GC} (σ : AH) (x bf dq sv ou : Nat) (bd pe ep : Int32) (is : Int32) (nv : Value) (W : WA) (N : AF) (t i : Int32) (hL : LD g σ is nv W N) (hX : σ.1 x = some (lauC bf bd pe ep nv dq sv ou)) : AMet l g mX1_inTub 36 20 [.ref x, .int t, .int i] σ (A_val (mayT is (bi (okT is N t)) 1) (.int (flagInN N t i)) σ) (A_thr ["java/lang/IllegalStateException", "java/lang/IndexOutOfBoundsException"] (mayT is (bi (okT is N t)) 1) σ) := by
  rcases hL with ⟨h0, hn⟩ | ⟨hs, hn, hR, hD, hw, hh⟩
  · subst hn
    refine A_of rfl (by decide) (Nat.le_of_ble_eq_true rfl) (L0 := [(0, .ref x), (1, .int t), (2, .int i)]) rfl ?_
    refine A_wfh (fun wσ hgσ => ?_)
    have yσ : ext σ σ := ext.rf
    refine A_aload_n (i := 0) dX1_inTub_0 rfl rfl ?_
    refine A_iload_n (i := 1) dX1_inTub_1 rfl rfl ?_
    refine A_callV1 (b' := 0) (u_checkTub σ x bf dq sv ou bd pe ep t hX) tX1_checkTub q1505 hX rfl rfl dX1_inTub_2 (by decide) (Nat.le_of_ble_eq_true rfl) (Nat.le_of_ble_eq_true rfl) (fun w9 τ9 h9 => h9.elim) (fun E9 q9 τ9 h9 => A_out rfl (⟨yσ.tr h9.2, 0, by rw [h9.1]; rfl, by rw [(mayQ_1 h0)]; rfl⟩))
  · subst hn
    have hW := hD.1
    have hR9 := hR
    obtain ⟨h1, ⟨fr, h2, h2p⟩, ⟨fm, h3, h3p⟩, ⟨mcn, fnA, h4, h4p, h4q⟩, ⟨mcf, ffA, h5, h5p, h5q⟩, ⟨fu, h6, h6p⟩, h7, h8, h9, h10, h11⟩ := hR
    have hF12 : nF N ≤ 12 := hW.2.2.2.2.2
    have hN4 : nN N ≤ 4 := hW.2.1.2
    have hC6 : nC N ≤ 6 := hW.1.2
    have hT3 : nT N ≤ 3 := hW.2.2.1.2
    have hP8 : nP N ≤ 8 := hW.2.2.2.1.2
    by_cases ck1 : inR t 0 (N 8 - 1)
    · skip
      obtain ⟨jt, hjt, rfl⟩ := in_ex hW.2.2.1.1 (Nat.le_trans hT3 (by decide)) ck1
      have bjt : jt < 2000 := Nat.lt_of_lt_of_le hjt (Nat.le_trans hT3 (by decide))
      refine A_of rfl (by decide) (Nat.le_of_ble_eq_true rfl) (L0 := [(0, .ref x), (1, .int (nI jt)), (2, .int i)]) rfl ?_
      refine A_wfh (fun wσ hgσ => ?_)
      have yσ : ext σ σ := ext.rf
      refine A_aload_n (i := 0) dX1_inTub_0 rfl rfl ?_
      refine A_iload_n (i := 1) dX1_inTub_1 rfl rfl ?_
      refine A_callV1E (b' := 20) (v := some (.ref (wW W))) (τ := σ) (c_checkTub σ x bf dq sv ou bd pe ep W N jt hX hR9 hD hjt) tX1_checkTub q1505 hX rfl rfl dX1_inTub_2 (by decide) (Nat.le_of_ble_eq_true rfl) (Nat.le_of_ble_eq_true rfl) ?_
      refine A_iload_n (i := 1) dX1_inTub_5 rfl rfl ?_
      refine A_iload_n (i := 2) dX1_inTub_6 rfl rfl ?_
      refine A_callV2 (b' := 0) (c_inTub5 σ W N (nI jt) i hR9 hD) tX5_inTub q1524 h1 rfl rfl dX1_inTub_7 (by decide) (Nat.le_of_ble_eq_true rfl) (Nat.le_of_ble_eq_true rfl) (fun w9 σ1 h9 => ?_) (fun E9 q9 τ9 h9 => h9.elim)
      obtain ⟨e9, xσ1⟩ := h9
      subst e9
      refine A_wfh (fun wσ1 hgσ1 => ?_)
      have yσ1 : ext σ σ1 := yσ.tr (xσ1)
      have fσ1_0 : σ1.1 (wW W) = some (.inr (.inl (4, [.int (N 9), .ref (wR W), .ref (wM W), .ref (wNL W), .ref (wFL W), .ref (wUN W), .int (N 6), .int (N 8), .int (N 0), .int (N 1), .int (N 2), .int (N 3), .int (N 4), .int (N 5), .int (N 11)]))) := xσ1.at wσ h1
      have fσ1_1 : σ1.1 (wFL W) = some (.inr (.inl (14, [.int mcf, .ref (wFA W), .int (nI (nF N))]))) := xσ1.at wσ h5
      have fσ1_2 : σ1.1 (wFA W) = some (.inl (.object "java/lang/Object", 12, .inr (.inr (.inr (.inr ffA))))) := xσ1.at wσ h5p
      have fσ1_3 : σ1.1 (wNL W) = some (.inr (.inl (14, [.int mcn, .ref (wNA W), .int (nI (nN N))]))) := xσ1.at wσ h4
      have fσ1_4 : σ1.1 (wNA W) = some (.inl (.object "java/lang/Object", 4, .inr (.inr (.inr (.inr fnA))))) := xσ1.at wσ h4p
      have fσ1_5 : σ1.1 (wR W) = some (.inl (.int, 6, .inl fr)) := xσ1.at wσ h2
      have fσ1_6 : σ1.1 (wM W) = some (.inl (.int, 3, .inl fm)) := xσ1.at wσ h3
      have fσ1_7 : σ1.1 (wUN W) = some (.inl (.object "FlagLaundry$Test", 7, .inr (.inr (.inr (.inr fu))))) := xσ1.at wσ h6
      have fσ1_8 : σ1.1 x = some (.inr (.inl (0, [.ref bf, .int bd, .int pe, .int ep, .ref (wW W), .ref dq, .ref sv, .ref ou]))) := xσ1.at wσ hX
      have hRσ1 : RW g σ1 W N := hR9.ext wσ xσ1
      exact A_iret dX1_inTub_10 rfl (⟨(mayQ_0 hs (bi_n ⟨hs, ck1⟩) (by decide)), rfl, yσ1⟩)
    · skip
      refine A_of rfl (by decide) (Nat.le_of_ble_eq_true rfl) (L0 := [(0, .ref x), (1, .int t), (2, .int i)]) rfl ?_
      refine A_wfh (fun wσ hgσ => ?_)
      have yσ : ext σ σ := ext.rf
      refine A_aload_n (i := 0) dX1_inTub_0 rfl rfl ?_
      refine A_iload_n (i := 1) dX1_inTub_1 rfl rfl ?_
      refine A_callV1 (b' := 0) (c_checkTub_no σ x bf dq sv ou bd pe ep W N t hX hR9 hD ck1) tX1_checkTub q1505 hX rfl rfl dX1_inTub_2 (by decide) (Nat.le_of_ble_eq_true rfl) (Nat.le_of_ble_eq_true rfl) (fun w9 τ9 h9 => h9.elim) (fun E9 q9 τ9 h9 => A_out rfl (⟨yσ.tr h9.2, 1, by rw [h9.1]; rfl, by rw [(mayQ_2 hs (bi_f (fun h => ck1 h.2)))]; rfl⟩))
theorem q_onPeg {l : Launch} {g : GC} (σ : AH) (x bf dq sv ou : Nat) (bd pe ep : Int32) (is : Int32) (nv : Value) (W : WA) (N : AF) (p : Int32) (hL : LD g σ is nv W N) (hX : σ.1 x = some (lauC bf bd pe ep nv dq sv ou)) : AMet l g mX1_onPeg 9 2 [.ref x, .int p] σ (A_val (mayT is (bi (¬ is = 0 ∧ inR p 0 (N 9 - 1))) 1) (.int (flagOnN N p)) σ) (A_thr ["java/lang/IllegalStateException", "java/lang/IndexOutOfBoundsException"] (mayT is (bi (¬ is = 0 ∧ inR p 0 (N 9 - 1))) 1) σ) := by
  rcases hL with ⟨h0, hn⟩ | ⟨hs, hn, hR, hD, hw, hh⟩
  · subst hn
    refine A_of rfl (by decide) (Nat.le_of_ble_eq_true rfl) (L0 := [(0, .ref x), (1, .int p)]) rfl ?_
    refine A_wfh (fun wσ hgσ => ?_)
    have yσ : ext σ σ := ext.rf
    refine A_aload_n (i := 0) dX1_onPeg_0 rfl rfl ?_
    refine A_callV0 (b' := 0) (u_loaded σ x bf dq sv ou bd pe ep  hX) tX1_loaded q1383 hX rfl rfl dX1_onPeg_1 (by decide) (Nat.le_of_ble_eq_true rfl) (Nat.le_of_ble_eq_true rfl) (fun w9 τ9 h9 => h9.elim) (fun E9 q9 τ9 h9 => A_out rfl (⟨yσ.tr h9.2, 0, by rw [h9.1]; rfl, by rw [(mayQ_1 h0)]; rfl⟩))
  · subst hn
    have hW := hD.1
    have hR9 := hR
    obtain ⟨h1, ⟨fr, h2, h2p⟩, ⟨fm, h3, h3p⟩, ⟨mcn, fnA, h4, h4p, h4q⟩, ⟨mcf, ffA, h5, h5p, h5q⟩, ⟨fu, h6, h6p⟩, h7, h8, h9, h10, h11⟩ := hR
    have hF12 : nF N ≤ 12 := hW.2.2.2.2.2
    have hN4 : nN N ≤ 4 := hW.2.1.2
    have hC6 : nC N ≤ 6 := hW.1.2
    have hT3 : nT N ≤ 3 := hW.2.2.1.2
    have hP8 : nP N ≤ 8 := hW.2.2.2.1.2
    by_cases ck1 : inR p 0 (N 9 - 1)
    · skip
      obtain ⟨jp, hjp, rfl⟩ := in_ex hW.2.2.2.1.1 (Nat.le_trans hP8 (by decide)) ck1
      have bjp : jp < 2000 := Nat.lt_of_lt_of_le hjp (Nat.le_trans hP8 (by decide))
      refine A_of rfl (by decide) (Nat.le_of_ble_eq_true rfl) (L0 := [(0, .ref x), (1, .int (nI jp))]) rfl ?_
      refine A_wfh (fun wσ hgσ => ?_)
      have yσ : ext σ σ := ext.rf
      refine A_aload_n (i := 0) dX1_onPeg_0 rfl rfl ?_
      refine A_callV0E (b' := 2) (v := some (.ref (wW W))) (τ := σ) (c_loaded σ x bf dq sv ou bd pe ep W N hX hR9 hD) tX1_loaded q1383 hX rfl rfl dX1_onPeg_1 (by decide) (Nat.le_of_ble_eq_true rfl) (Nat.le_of_ble_eq_true rfl) ?_
      refine A_astore_n (i := 2) dX1_onPeg_4 rfl (Nat.le_of_ble_eq_true rfl) ?_
      refine A_iload_n (i := 1) dX1_onPeg_5 rfl rfl ?_
      refine A_aload_n (i := 2) dX1_onPeg_6 rfl rfl ?_
      refine A_getfN cb_X5 h1 0 (Nat.le_of_ble_eq_true rfl) q823 rfl (v := .int (N 9)) rfl dX1_onPeg_7 ?_
      refine A_callS2E (b' := 2) (v := none) (τ := σ) (c_cIdx σ (nI jp) (N 9) ck1) tX1_checkIndex q378 dX1_onPeg_10 (by decide) (Nat.le_of_ble_eq_true rfl) (Nat.le_of_ble_eq_true rfl) ?_
      refine A_aload_n (i := 2) dX1_onPeg_13 rfl rfl ?_
      refine A_iload_n (i := 1) dX1_onPeg_14 rfl rfl ?_
      refine A_callV1E (b' := 2) (v := some (.int (flagOnN N (nI jp)))) (τ := σ) (c_onPeg5 σ W N (nI jp) hR9 hD) tX5_onPeg q1541 h1 rfl rfl dX1_onPeg_15 (by decide) (Nat.le_of_ble_eq_true rfl) (Nat.le_of_ble_eq_true rfl) ?_
      exact A_iret dX1_onPeg_18 rfl (⟨(mayQ_0 hs (bi_n ⟨hs, ck1⟩) (by decide)), rfl, yσ⟩)
    · skip
      refine A_of rfl (by decide) (Nat.le_of_ble_eq_true rfl) (L0 := [(0, .ref x), (1, .int p)]) rfl ?_
      refine A_wfh (fun wσ hgσ => ?_)
      have yσ : ext σ σ := ext.rf
      refine A_aload_n (i := 0) dX1_onPeg_0 rfl rfl ?_
      refine A_callV0E (b' := 2) (v := some (.ref (wW W))) (τ := σ) (c_loaded σ x bf dq sv ou bd pe ep W N hX hR9 hD) tX1_loaded q1383 hX rfl rfl dX1_onPeg_1 (by decide) (Nat.le_of_ble_eq_true rfl) (Nat.le_of_ble_eq_true rfl) ?_
      refine A_astore_n (i := 2) dX1_onPeg_4 rfl (Nat.le_of_ble_eq_true rfl) ?_
      refine A_iload_n (i := 1) dX1_onPeg_5 rfl rfl ?_
      refine A_aload_n (i := 2) dX1_onPeg_6 rfl rfl ?_
      refine A_getfN cb_X5 h1 0 (Nat.le_of_ble_eq_true rfl) q823 rfl (v := .int (N 9)) rfl dX1_onPeg_7 ?_
      refine A_callS2 (b' := 0) (c_cIdx_no σ p (N 9) ck1) tX1_checkIndex q378 dX1_onPeg_10 (by decide) (Nat.le_of_ble_eq_true rfl) (Nat.le_of_ble_eq_true rfl) (fun w9 τ9 h9 => h9.elim) (fun E9 q9 τ9 h9 => A_out rfl (⟨yσ.tr h9.2, 1, by rw [h9.1]; rfl, by rw [(mayQ_2 hs (bi_f (fun h => ck1 h.2)))]; rfl⟩))
theorem q_freePegs {l : Launch} {g : GC} (σ : AH) (x bf dq sv ou : Nat) (bd pe ep : Int32) (is : Int32) (nv : Value) (W : WA) (N : AF) (hL : LD g σ is nv W N) (hX : σ.1 x = some (lauC bf bd pe ep nv dq sv ou)) : AMet l g mX1_freePegs 34 2 [.ref x] σ (A_val (mayT is 1 1) (.int (N 9 - atN N 2)) σ) (A_thr ["java/lang/IllegalStateException"] (mayT is 1 1) σ) := by
  rcases hL with ⟨h0, hn⟩ | ⟨hs, hn, hR, hD, hw, hh⟩
  · subst hn
    refine A_of rfl (by decide) (Nat.le_of_ble_eq_true rfl) (L0 := [(0, .ref x)]) rfl ?_
    refine A_wfh (fun wσ hgσ => ?_)
    have yσ : ext σ σ := ext.rf
    refine A_aload_n (i := 0) dX1_freePegs_0 rfl rfl ?_
    refine A_callV0 (b' := 0) (u_loaded σ x bf dq sv ou bd pe ep  hX) tX1_loaded q1383 hX rfl rfl dX1_freePegs_1 (by decide) (Nat.le_of_ble_eq_true rfl) (Nat.le_of_ble_eq_true rfl) (fun w9 τ9 h9 => h9.elim) (fun E9 q9 τ9 h9 => A_out rfl (⟨yσ.tr h9.2, 0, by rw [h9.1]; rfl, by rw [(mayQ_1 h0)]; rfl⟩))
  · subst hn
    have hW := hD.1
    have hR9 := hR
    obtain ⟨h1, ⟨fr, h2, h2p⟩, ⟨fm, h3, h3p⟩, ⟨mcn, fnA, h4, h4p, h4q⟩, ⟨mcf, ffA, h5, h5p, h5q⟩, ⟨fu, h6, h6p⟩, h7, h8, h9, h10, h11⟩ := hR
    have hF12 : nF N ≤ 12 := hW.2.2.2.2.2
    have hN4 : nN N ≤ 4 := hW.2.1.2
    have hC6 : nC N ≤ 6 := hW.1.2
    have hT3 : nT N ≤ 3 := hW.2.2.1.2
    have hP8 : nP N ≤ 8 := hW.2.2.2.1.2
    refine A_of rfl (by decide) (Nat.le_of_ble_eq_true rfl) (L0 := [(0, .ref x)]) rfl ?_
    refine A_wfh (fun wσ hgσ => ?_)
    have yσ : ext σ σ := ext.rf
    refine A_aload_n (i := 0) dX1_freePegs_0 rfl rfl ?_
    refine A_callV0E (b' := 2) (v := some (.ref (wW W))) (τ := σ) (c_loaded σ x bf dq sv ou bd pe ep W N hX hR9 hD) tX1_loaded q1383 hX rfl rfl dX1_freePegs_1 (by decide) (Nat.le_of_ble_eq_true rfl) (Nat.le_of_ble_eq_true rfl) ?_
    refine A_astore_n (i := 1) dX1_freePegs_4 rfl (Nat.le_of_ble_eq_true rfl) ?_
    refine A_aload_n (i := 1) dX1_freePegs_5 rfl rfl ?_
    refine A_getfN cb_X5 h1 0 (Nat.le_of_ble_eq_true rfl) q823 rfl (v := .int (N 9)) rfl dX1_freePegs_6 ?_
    refine A_aload_n (i := 1) dX1_freePegs_9 rfl rfl ?_
    refine A_iconst (v := 2) dX1_freePegs_10 (by decide) ?_
    refine A_callV1 (b' := 1) (c_at5 σ W N 2 hR9 hD) tX5_at q1411 h1 rfl rfl dX1_freePegs_11 (by decide) (Nat.le_of_ble_eq_true rfl) (Nat.le_of_ble_eq_true rfl) (fun w9 σ1 h9 => ?_) (fun E9 q9 τ9 h9 => h9.elim)
    obtain ⟨e9, xσ1⟩ := h9
    subst e9
    refine A_wfh (fun wσ1 hgσ1 => ?_)
    have yσ1 : ext σ σ1 := yσ.tr (xσ1)
    have fσ1_0 : σ1.1 (wW W) = some (.inr (.inl (4, [.int (N 9), .ref (wR W), .ref (wM W), .ref (wNL W), .ref (wFL W), .ref (wUN W), .int (N 6), .int (N 8), .int (N 0), .int (N 1), .int (N 2), .int (N 3), .int (N 4), .int (N 5), .int (N 11)]))) := xσ1.at wσ h1
    have fσ1_1 : σ1.1 (wFL W) = some (.inr (.inl (14, [.int mcf, .ref (wFA W), .int (nI (nF N))]))) := xσ1.at wσ h5
    have fσ1_2 : σ1.1 (wFA W) = some (.inl (.object "java/lang/Object", 12, .inr (.inr (.inr (.inr ffA))))) := xσ1.at wσ h5p
    have fσ1_3 : σ1.1 (wNL W) = some (.inr (.inl (14, [.int mcn, .ref (wNA W), .int (nI (nN N))]))) := xσ1.at wσ h4
    have fσ1_4 : σ1.1 (wNA W) = some (.inl (.object "java/lang/Object", 4, .inr (.inr (.inr (.inr fnA))))) := xσ1.at wσ h4p
    have fσ1_5 : σ1.1 (wR W) = some (.inl (.int, 6, .inl fr)) := xσ1.at wσ h2
    have fσ1_6 : σ1.1 (wM W) = some (.inl (.int, 3, .inl fm)) := xσ1.at wσ h3
    have fσ1_7 : σ1.1 (wUN W) = some (.inl (.object "FlagLaundry$Test", 7, .inr (.inr (.inr (.inr fu))))) := xσ1.at wσ h6
    have fσ1_8 : σ1.1 x = some (.inr (.inl (0, [.ref bf, .int bd, .int pe, .int ep, .ref (wW W), .ref dq, .ref sv, .ref ou]))) := xσ1.at wσ hX
    have hRσ1 : RW g σ1 W N := hR9.ext wσ xσ1
    refine A_isub dX1_freePegs_14 ?_
    exact A_iret dX1_freePegs_15 rfl (⟨(mayQ_0 hs (by decide) (by decide)), rfl, yσ1⟩)
theorem q_gap {l : Launch} {g : GC} (σ : AH) (x bf dq sv ou : Nat) (bd pe ep : Int32) (is : Int32) (nv : Value) (W : WA) (N : AF) (hL : LD g σ is nv W N) (hX : σ.1 x = some (lauC bf bd pe ep nv dq sv ou)) : AMet l g mX1_gap 36 5 [.ref x] σ (A_val (mayT is 1 1) (.int (gapN N)) σ) (A_thr ["java/lang/IllegalStateException"] (mayT is 1 1) σ) := by
  rcases hL with ⟨h0, hn⟩ | ⟨hs, hn, hR, hD, hw, hh⟩
  · subst hn
    refine A_of rfl (by decide) (Nat.le_of_ble_eq_true rfl) (L0 := [(0, .ref x)]) rfl ?_
    refine A_wfh (fun wσ hgσ => ?_)
    have yσ : ext σ σ := ext.rf
    refine A_aload_n (i := 0) dX1_gap_0 rfl rfl ?_
    refine A_callV0 (b' := 0) (u_loaded σ x bf dq sv ou bd pe ep  hX) tX1_loaded q1383 hX rfl rfl dX1_gap_1 (by decide) (Nat.le_of_ble_eq_true rfl) (Nat.le_of_ble_eq_true rfl) (fun w9 τ9 h9 => h9.elim) (fun E9 q9 τ9 h9 => A_out rfl (⟨yσ.tr h9.2, 0, by rw [h9.1]; rfl, by rw [(mayQ_1 h0)]; rfl⟩))
  · subst hn
    have hW := hD.1
    have hR9 := hR
    obtain ⟨h1, ⟨fr, h2, h2p⟩, ⟨fm, h3, h3p⟩, ⟨mcn, fnA, h4, h4p, h4q⟩, ⟨mcf, ffA, h5, h5p, h5q⟩, ⟨fu, h6, h6p⟩, h7, h8, h9, h10, h11⟩ := hR
    have hF12 : nF N ≤ 12 := hW.2.2.2.2.2
    have hN4 : nN N ≤ 4 := hW.2.1.2
    have hC6 : nC N ≤ 6 := hW.1.2
    have hT3 : nT N ≤ 3 := hW.2.2.1.2
    have hP8 : nP N ≤ 8 := hW.2.2.2.1.2
    refine A_of rfl (by decide) (Nat.le_of_ble_eq_true rfl) (L0 := [(0, .ref x)]) rfl ?_
    refine A_wfh (fun wσ hgσ => ?_)
    have yσ : ext σ σ := ext.rf
    refine A_aload_n (i := 0) dX1_gap_0 rfl rfl ?_
    refine A_callV0E (b' := 5) (v := some (.ref (wW W))) (τ := σ) (c_loaded σ x bf dq sv ou bd pe ep W N hX hR9 hD) tX1_loaded q1383 hX rfl rfl dX1_gap_1 (by decide) (Nat.le_of_ble_eq_true rfl) (Nat.le_of_ble_eq_true rfl) ?_
    refine A_callV0 (b' := 0) (c_gap5 σ W N hR9 hD) tX5_gap q1563 h1 rfl rfl dX1_gap_4 (by decide) (Nat.le_of_ble_eq_true rfl) (Nat.le_of_ble_eq_true rfl) (fun w9 σ1 h9 => ?_) (fun E9 q9 τ9 h9 => h9.elim)
    obtain ⟨e9, xσ1⟩ := h9
    subst e9
    refine A_wfh (fun wσ1 hgσ1 => ?_)
    have yσ1 : ext σ σ1 := yσ.tr (xσ1)
    have fσ1_0 : σ1.1 (wW W) = some (.inr (.inl (4, [.int (N 9), .ref (wR W), .ref (wM W), .ref (wNL W), .ref (wFL W), .ref (wUN W), .int (N 6), .int (N 8), .int (N 0), .int (N 1), .int (N 2), .int (N 3), .int (N 4), .int (N 5), .int (N 11)]))) := xσ1.at wσ h1
    have fσ1_1 : σ1.1 (wFL W) = some (.inr (.inl (14, [.int mcf, .ref (wFA W), .int (nI (nF N))]))) := xσ1.at wσ h5
    have fσ1_2 : σ1.1 (wFA W) = some (.inl (.object "java/lang/Object", 12, .inr (.inr (.inr (.inr ffA))))) := xσ1.at wσ h5p
    have fσ1_3 : σ1.1 (wNL W) = some (.inr (.inl (14, [.int mcn, .ref (wNA W), .int (nI (nN N))]))) := xσ1.at wσ h4
    have fσ1_4 : σ1.1 (wNA W) = some (.inl (.object "java/lang/Object", 4, .inr (.inr (.inr (.inr fnA))))) := xσ1.at wσ h4p
    have fσ1_5 : σ1.1 (wR W) = some (.inl (.int, 6, .inl fr)) := xσ1.at wσ h2
    have fσ1_6 : σ1.1 (wM W) = some (.inl (.int, 3, .inl fm)) := xσ1.at wσ h3
    have fσ1_7 : σ1.1 (wUN W) = some (.inl (.object "FlagLaundry$Test", 7, .inr (.inr (.inr (.inr fu))))) := xσ1.at wσ h6
    have fσ1_8 : σ1.1 x = some (.inr (.inl (0, [.ref bf, .int bd, .int pe, .int ep, .ref (wW W), .ref dq, .ref sv, .ref ou]))) := xσ1.at wσ hX
    have hRσ1 : RW g σ1 W N := hR9.ext wσ xσ1
    exact A_iret dX1_gap_7 rfl (⟨(mayQ_0 hs (by decide) (by decide)), rfl, yσ1⟩)
theorem q_whyNotPut {l : Launch} {g : GC} (σ : AH) (x bf dq sv ou : Nat) (bd pe ep : Int32) (is : Int32) (nv : Value) (W : WA) (N : AF) (f t : Int32) (hL : LD g σ is nv W N) (hX : σ.1 x = some (lauC bf bd pe ep nv dq sv ou)) : AMet l g mX1_whyNotPut 45 6 [.ref x, .int f, .int t] σ (A_val (mayT is (bi (okF is N f ∧ okT is N t)) 1) (.int (whyPutN N (ix f) (ix t))) σ) (A_thr ["java/lang/IllegalStateException", "java/lang/IndexOutOfBoundsException"] (mayT is (bi (okF is N f ∧ okT is N t)) 1) σ) := by
  rcases hL with ⟨h0, hn⟩ | ⟨hs, hn, hR, hD, hw, hh⟩
  · subst hn
    refine A_of rfl (by decide) (Nat.le_of_ble_eq_true rfl) (L0 := [(0, .ref x), (1, .int f), (2, .int t)]) rfl ?_
    refine A_wfh (fun wσ hgσ => ?_)
    have yσ : ext σ σ := ext.rf
    refine A_aload_n (i := 0) dX1_whyNotPut_0 rfl rfl ?_
    refine A_iload_n (i := 1) dX1_whyNotPut_1 rfl rfl ?_
    refine A_iload_n (i := 2) dX1_whyNotPut_2 rfl rfl ?_
    refine A_callV2 (b' := 0) (u_checkBoth σ x bf dq sv ou bd pe ep f t hX) tX1_checkBoth q1656 hX rfl rfl dX1_whyNotPut_3 (by decide) (Nat.le_of_ble_eq_true rfl) (Nat.le_of_ble_eq_true rfl) (fun w9 τ9 h9 => h9.elim) (fun E9 q9 τ9 h9 => A_out rfl (⟨yσ.tr h9.2, 0, by rw [h9.1]; rfl, by rw [(mayQ_1 h0)]; rfl⟩))
  · subst hn
    have hW := hD.1
    have hR9 := hR
    obtain ⟨h1, ⟨fr, h2, h2p⟩, ⟨fm, h3, h3p⟩, ⟨mcn, fnA, h4, h4p, h4q⟩, ⟨mcf, ffA, h5, h5p, h5q⟩, ⟨fu, h6, h6p⟩, h7, h8, h9, h10, h11⟩ := hR
    have hF12 : nF N ≤ 12 := hW.2.2.2.2.2
    have hN4 : nN N ≤ 4 := hW.2.1.2
    have hC6 : nC N ≤ 6 := hW.1.2
    have hT3 : nT N ≤ 3 := hW.2.2.1.2
    have hP8 : nP N ≤ 8 := hW.2.2.2.1.2
    by_cases ck1 : inR f 0 (N 10 - 1)
    · skip
      obtain ⟨jf, hjf, rfl⟩ := in_ex hW.2.2.2.2.1 (Nat.le_trans hF12 (by decide)) ck1
      have bjf : jf < 2000 := Nat.lt_of_lt_of_le hjf (Nat.le_trans hF12 (by decide))
      by_cases ck2 : inR t 0 (N 8 - 1)
      · skip
        obtain ⟨jt, hjt, rfl⟩ := in_ex hW.2.2.1.1 (Nat.le_trans hT3 (by decide)) ck2
        have bjt : jt < 2000 := Nat.lt_of_lt_of_le hjt (Nat.le_trans hT3 (by decide))
        refine A_of rfl (by decide) (Nat.le_of_ble_eq_true rfl) (L0 := [(0, .ref x), (1, .int (nI jf)), (2, .int (nI jt))]) rfl ?_
        refine A_wfh (fun wσ hgσ => ?_)
        have yσ : ext σ σ := ext.rf
        refine A_aload_n (i := 0) dX1_whyNotPut_0 rfl rfl ?_
        refine A_iload_n (i := 1) dX1_whyNotPut_1 rfl rfl ?_
        refine A_iload_n (i := 2) dX1_whyNotPut_2 rfl rfl ?_
        refine A_callV2E (b' := 6) (v := some (.ref (wF W jf))) (τ := σ) (c_checkBoth σ x bf dq sv ou bd pe ep W N jf jt hX hR9 hD hjf hjt) tX1_checkBoth q1656 hX rfl rfl dX1_whyNotPut_3 (by decide) (Nat.le_of_ble_eq_true rfl) (Nat.le_of_ble_eq_true rfl) ?_
        refine A_astore_n (i := 3) dX1_whyNotPut_6 rfl (Nat.le_of_ble_eq_true rfl) ?_
        refine A_aload_n (i := 0) dX1_whyNotPut_7 rfl rfl ?_
        refine A_getf cb_X1 hX 4 (Nat.le_of_ble_eq_true rfl) q242 rfl (v := .ref (wW W)) rfl dX1_whyNotPut_8 ?_
        refine A_iload_n (i := 1) dX1_whyNotPut_11 rfl rfl ?_
        refine A_iload_n (i := 2) dX1_whyNotPut_12 rfl rfl ?_
        refine A_callS3 (b' := 0) (c_putBar σ W N jf jt hR9 hD hjf hjt) tX1_putBar q1660 dX1_whyNotPut_13 (by decide) (Nat.le_of_ble_eq_true rfl) (Nat.le_of_ble_eq_true rfl) (fun w9 σ1 h9 => ?_) (fun E9 q9 τ9 h9 => h9.elim)
        obtain ⟨e9, xσ1⟩ := h9
        subst e9
        refine A_wfh (fun wσ1 hgσ1 => ?_)
        have yσ1 : ext σ σ1 := yσ.tr (xσ1)
        have fσ1_0 : σ1.1 (wW W) = some (.inr (.inl (4, [.int (N 9), .ref (wR W), .ref (wM W), .ref (wNL W), .ref (wFL W), .ref (wUN W), .int (N 6), .int (N 8), .int (N 0), .int (N 1), .int (N 2), .int (N 3), .int (N 4), .int (N 5), .int (N 11)]))) := xσ1.at wσ h1
        have fσ1_1 : σ1.1 (wFL W) = some (.inr (.inl (14, [.int mcf, .ref (wFA W), .int (nI (nF N))]))) := xσ1.at wσ h5
        have fσ1_2 : σ1.1 (wFA W) = some (.inl (.object "java/lang/Object", 12, .inr (.inr (.inr (.inr ffA))))) := xσ1.at wσ h5p
        have fσ1_3 : σ1.1 (wNL W) = some (.inr (.inl (14, [.int mcn, .ref (wNA W), .int (nI (nN N))]))) := xσ1.at wσ h4
        have fσ1_4 : σ1.1 (wNA W) = some (.inl (.object "java/lang/Object", 4, .inr (.inr (.inr (.inr fnA))))) := xσ1.at wσ h4p
        have fσ1_5 : σ1.1 (wR W) = some (.inl (.int, 6, .inl fr)) := xσ1.at wσ h2
        have fσ1_6 : σ1.1 (wM W) = some (.inl (.int, 3, .inl fm)) := xσ1.at wσ h3
        have fσ1_7 : σ1.1 (wUN W) = some (.inl (.object "FlagLaundry$Test", 7, .inr (.inr (.inr (.inr fu))))) := xσ1.at wσ h6
        have fσ1_8 : σ1.1 x = some (.inr (.inl (0, [.ref bf, .int bd, .int pe, .int ep, .ref (wW W), .ref dq, .ref sv, .ref ou]))) := xσ1.at wσ hX
        have fσ1_9 : σ1.1 (wF W jf) = some (.inr (.inl (6, [.int (fl N jf 0), .int (fl N jf 1), .int (fl N jf 2), .int (fl N jf 3), .int (fl N jf 4), .int (fl N jf 5), .int (fl N jf 6), .int (fl N jf 7), .ref (wP W jf)]))) := xσ1.at wσ (hR9.2.2.2.2.2.2.1 jf hjf)
        have hRσ1 : RW g σ1 W N := hR9.ext wσ xσ1
        exact A_iret dX1_whyNotPut_16 rfl (⟨(mayQ_0 hs (bi_n ⟨⟨hs, ck1⟩, ⟨hs, ck2⟩⟩) (by decide)), by rw [ixn bjf, ixn bjt] <;> rfl, yσ1⟩)
      · skip
        refine A_of rfl (by decide) (Nat.le_of_ble_eq_true rfl) (L0 := [(0, .ref x), (1, .int (nI jf)), (2, .int t)]) rfl ?_
        refine A_wfh (fun wσ hgσ => ?_)
        have yσ : ext σ σ := ext.rf
        refine A_aload_n (i := 0) dX1_whyNotPut_0 rfl rfl ?_
        refine A_iload_n (i := 1) dX1_whyNotPut_1 rfl rfl ?_
        refine A_iload_n (i := 2) dX1_whyNotPut_2 rfl rfl ?_
        refine A_callV2 (b' := 0) (c_checkBoth_no2 σ x bf dq sv ou bd pe ep W N jf t hX hR9 hD hjf ck2) tX1_checkBoth q1656 hX rfl rfl dX1_whyNotPut_3 (by decide) (Nat.le_of_ble_eq_true rfl) (Nat.le_of_ble_eq_true rfl) (fun w9 τ9 h9 => h9.elim) (fun E9 q9 τ9 h9 => A_out rfl (⟨yσ.tr h9.2, 1, by rw [h9.1]; rfl, by rw [(mayQ_2 hs (bi_f (fun h => ck2 h.2.2)))]; rfl⟩))
    · skip
      refine A_of rfl (by decide) (Nat.le_of_ble_eq_true rfl) (L0 := [(0, .ref x), (1, .int f), (2, .int t)]) rfl ?_
      refine A_wfh (fun wσ hgσ => ?_)
      have yσ : ext σ σ := ext.rf
      refine A_aload_n (i := 0) dX1_whyNotPut_0 rfl rfl ?_
      refine A_iload_n (i := 1) dX1_whyNotPut_1 rfl rfl ?_
      refine A_iload_n (i := 2) dX1_whyNotPut_2 rfl rfl ?_
      refine A_callV2 (b' := 0) (c_checkBoth_no σ x bf dq sv ou bd pe ep W N f t hX hR9 hD ck1) tX1_checkBoth q1656 hX rfl rfl dX1_whyNotPut_3 (by decide) (Nat.le_of_ble_eq_true rfl) (Nat.le_of_ble_eq_true rfl) (fun w9 τ9 h9 => h9.elim) (fun E9 q9 τ9 h9 => A_out rfl (⟨yσ.tr h9.2, 1, by rw [h9.1]; rfl, by rw [(mayQ_2 hs (bi_f (fun h => ck1 h.1.2)))]; rfl⟩))
theorem q_whyNotWash {l : Launch} {g : GC} (σ : AH) (x bf dq sv ou : Nat) (bd pe ep : Int32) (is : Int32) (nv : Value) (W : WA) (N : AF) (t h : Int32) (hL : LD g σ is nv W N) (hX : σ.1 x = some (lauC bf bd pe ep nv dq sv ou)) : AMet l g mX1_whyNotWash 36 2 [.ref x, .int t, .int h] σ (A_val (mayT is (bi (okT is N t)) (bi (inR h 0 3))) (.int (whyWashN N t h)) σ) (A_thr ["java/lang/IllegalStateException", "java/lang/IndexOutOfBoundsException", "java/lang/IllegalArgumentException"] (mayT is (bi (okT is N t)) (bi (inR h 0 3))) σ) := by
  rcases hL with ⟨h0, hn⟩ | ⟨hs, hn, hR, hD, hw, hh⟩
  · subst hn
    refine A_of rfl (by decide) (Nat.le_of_ble_eq_true rfl) (L0 := [(0, .ref x), (1, .int t), (2, .int h)]) rfl ?_
    refine A_wfh (fun wσ hgσ => ?_)
    have yσ : ext σ σ := ext.rf
    refine A_aload_n (i := 0) dX1_whyNotWash_0 rfl rfl ?_
    refine A_iload_n (i := 1) dX1_whyNotWash_1 rfl rfl ?_
    refine A_iload_n (i := 2) dX1_whyNotWash_2 rfl rfl ?_
    refine A_callV2 (b' := 0) (u_checkWash σ x bf dq sv ou bd pe ep t h hX) tX1_checkWash q1668 hX rfl rfl dX1_whyNotWash_3 (by decide) (Nat.le_of_ble_eq_true rfl) (Nat.le_of_ble_eq_true rfl) (fun w9 τ9 h9 => h9.elim) (fun E9 q9 τ9 h9 => A_out rfl (⟨yσ.tr h9.2, 0, by rw [h9.1]; rfl, by rw [(mayQ_1 h0)]; rfl⟩))
  · subst hn
    have hW := hD.1
    have hR9 := hR
    obtain ⟨h1, ⟨fr, h2, h2p⟩, ⟨fm, h3, h3p⟩, ⟨mcn, fnA, h4, h4p, h4q⟩, ⟨mcf, ffA, h5, h5p, h5q⟩, ⟨fu, h6, h6p⟩, h7, h8, h9, h10, h11⟩ := hR
    have hF12 : nF N ≤ 12 := hW.2.2.2.2.2
    have hN4 : nN N ≤ 4 := hW.2.1.2
    have hC6 : nC N ≤ 6 := hW.1.2
    have hT3 : nT N ≤ 3 := hW.2.2.1.2
    have hP8 : nP N ≤ 8 := hW.2.2.2.1.2
    by_cases ck1 : inR t 0 (N 8 - 1)
    · skip
      obtain ⟨jt, hjt, rfl⟩ := in_ex hW.2.2.1.1 (Nat.le_trans hT3 (by decide)) ck1
      have bjt : jt < 2000 := Nat.lt_of_lt_of_le hjt (Nat.le_trans hT3 (by decide))
      by_cases ck2 : inR h 0 3
      · skip
        obtain ⟨jh, hjh, rfl⟩ := hk_ex ck2
        have bjh : jh < 2000 := Nat.lt_of_le_of_lt hjh (by decide)
        refine A_of rfl (by decide) (Nat.le_of_ble_eq_true rfl) (L0 := [(0, .ref x), (1, .int (nI jt)), (2, .int (nI jh))]) rfl ?_
        refine A_wfh (fun wσ hgσ => ?_)
        have yσ : ext σ σ := ext.rf
        refine A_aload_n (i := 0) dX1_whyNotWash_0 rfl rfl ?_
        refine A_iload_n (i := 1) dX1_whyNotWash_1 rfl rfl ?_
        refine A_iload_n (i := 2) dX1_whyNotWash_2 rfl rfl ?_
        refine A_callV2E (b' := 2) (v := some (.ref (wW W))) (τ := σ) (c_checkWash σ x bf dq sv ou bd pe ep W N jt jh hX hR9 hD hjt hjh) tX1_checkWash q1668 hX rfl rfl dX1_whyNotWash_3 (by decide) (Nat.le_of_ble_eq_true rfl) (Nat.le_of_ble_eq_true rfl) ?_
        refine A_iload_n (i := 1) dX1_whyNotWash_6 rfl rfl ?_
        refine A_iload_n (i := 2) dX1_whyNotWash_7 rfl rfl ?_
        refine A_callS3 (b' := 1) (c_washBar σ W N (nI jt) (nI jh) hR9 hD) tX1_washBar q1676 dX1_whyNotWash_8 (by decide) (Nat.le_of_ble_eq_true rfl) (Nat.le_of_ble_eq_true rfl) (fun w9 σ1 h9 => ?_) (fun E9 q9 τ9 h9 => h9.elim)
        obtain ⟨e9, xσ1⟩ := h9
        subst e9
        refine A_wfh (fun wσ1 hgσ1 => ?_)
        have yσ1 : ext σ σ1 := yσ.tr (xσ1)
        have fσ1_0 : σ1.1 (wW W) = some (.inr (.inl (4, [.int (N 9), .ref (wR W), .ref (wM W), .ref (wNL W), .ref (wFL W), .ref (wUN W), .int (N 6), .int (N 8), .int (N 0), .int (N 1), .int (N 2), .int (N 3), .int (N 4), .int (N 5), .int (N 11)]))) := xσ1.at wσ h1
        have fσ1_1 : σ1.1 (wFL W) = some (.inr (.inl (14, [.int mcf, .ref (wFA W), .int (nI (nF N))]))) := xσ1.at wσ h5
        have fσ1_2 : σ1.1 (wFA W) = some (.inl (.object "java/lang/Object", 12, .inr (.inr (.inr (.inr ffA))))) := xσ1.at wσ h5p
        have fσ1_3 : σ1.1 (wNL W) = some (.inr (.inl (14, [.int mcn, .ref (wNA W), .int (nI (nN N))]))) := xσ1.at wσ h4
        have fσ1_4 : σ1.1 (wNA W) = some (.inl (.object "java/lang/Object", 4, .inr (.inr (.inr (.inr fnA))))) := xσ1.at wσ h4p
        have fσ1_5 : σ1.1 (wR W) = some (.inl (.int, 6, .inl fr)) := xσ1.at wσ h2
        have fσ1_6 : σ1.1 (wM W) = some (.inl (.int, 3, .inl fm)) := xσ1.at wσ h3
        have fσ1_7 : σ1.1 (wUN W) = some (.inl (.object "FlagLaundry$Test", 7, .inr (.inr (.inr (.inr fu))))) := xσ1.at wσ h6
        have fσ1_8 : σ1.1 x = some (.inr (.inl (0, [.ref bf, .int bd, .int pe, .int ep, .ref (wW W), .ref dq, .ref sv, .ref ou]))) := xσ1.at wσ hX
        have hRσ1 : RW g σ1 W N := hR9.ext wσ xσ1
        exact A_iret dX1_whyNotWash_11 rfl (⟨(mayQ_0 hs (bi_n ⟨hs, ck1⟩) (bi_n ck2)), rfl, yσ1⟩)
      · skip
        refine A_of rfl (by decide) (Nat.le_of_ble_eq_true rfl) (L0 := [(0, .ref x), (1, .int (nI jt)), (2, .int h)]) rfl ?_
        refine A_wfh (fun wσ hgσ => ?_)
        have yσ : ext σ σ := ext.rf
        refine A_aload_n (i := 0) dX1_whyNotWash_0 rfl rfl ?_
        refine A_iload_n (i := 1) dX1_whyNotWash_1 rfl rfl ?_
        refine A_iload_n (i := 2) dX1_whyNotWash_2 rfl rfl ?_
        refine A_callV2 (b' := 0) (c_checkWash_no2 σ x bf dq sv ou bd pe ep W N jt h hX hR9 hD hjt ck2) tX1_checkWash q1668 hX rfl rfl dX1_whyNotWash_3 (by decide) (Nat.le_of_ble_eq_true rfl) (Nat.le_of_ble_eq_true rfl) (fun w9 τ9 h9 => h9.elim) (fun E9 q9 τ9 h9 => A_out rfl (⟨yσ.tr h9.2, 2, by rw [h9.1]; rfl, by rw [(mayQ_3 hs (bi_n ⟨hs, ck1⟩) (bi_f (fun h => ck2 h)))]; rfl⟩))
    · skip
      refine A_of rfl (by decide) (Nat.le_of_ble_eq_true rfl) (L0 := [(0, .ref x), (1, .int t), (2, .int h)]) rfl ?_
      refine A_wfh (fun wσ hgσ => ?_)
      have yσ : ext σ σ := ext.rf
      refine A_aload_n (i := 0) dX1_whyNotWash_0 rfl rfl ?_
      refine A_iload_n (i := 1) dX1_whyNotWash_1 rfl rfl ?_
      refine A_iload_n (i := 2) dX1_whyNotWash_2 rfl rfl ?_
      refine A_callV2 (b' := 0) (c_checkWash_no σ x bf dq sv ou bd pe ep W N t h hX hR9 hD ck1) tX1_checkWash q1668 hX rfl rfl dX1_whyNotWash_3 (by decide) (Nat.le_of_ble_eq_true rfl) (Nat.le_of_ble_eq_true rfl) (fun w9 τ9 h9 => h9.elim) (fun E9 q9 τ9 h9 => A_out rfl (⟨yσ.tr h9.2, 1, by rw [h9.1]; rfl, by rw [(mayQ_2 hs (bi_f (fun h => ck1 h.2)))]; rfl⟩))
theorem q_whyNotIron {l : Launch} {g : GC} (σ : AH) (x bf dq sv ou : Nat) (bd pe ep : Int32) (is : Int32) (nv : Value) (W : WA) (N : AF) (f h : Int32) (hL : LD g σ is nv W N) (hX : σ.1 x = some (lauC bf bd pe ep nv dq sv ou)) : AMet l g mX1_whyNotIron 16 2 [.ref x, .int f, .int h] σ (A_val (mayT is (bi (okF is N f)) (bi (inR h 0 3))) (.int (whyIronN N (ix f) h)) σ) (A_thr ["java/lang/IllegalStateException", "java/lang/IndexOutOfBoundsException", "java/lang/IllegalArgumentException"] (mayT is (bi (okF is N f)) (bi (inR h 0 3))) σ) := by
  rcases hL with ⟨h0, hn⟩ | ⟨hs, hn, hR, hD, hw, hh⟩
  · subst hn
    refine A_of rfl (by decide) (Nat.le_of_ble_eq_true rfl) (L0 := [(0, .ref x), (1, .int f), (2, .int h)]) rfl ?_
    refine A_wfh (fun wσ hgσ => ?_)
    have yσ : ext σ σ := ext.rf
    refine A_aload_n (i := 0) dX1_whyNotIron_0 rfl rfl ?_
    refine A_iload_n (i := 1) dX1_whyNotIron_1 rfl rfl ?_
    refine A_iload_n (i := 2) dX1_whyNotIron_2 rfl rfl ?_
    refine A_callV2 (b' := 0) (u_checkIron σ x bf dq sv ou bd pe ep f h hX) tX1_checkIron q1684 hX rfl rfl dX1_whyNotIron_3 (by decide) (Nat.le_of_ble_eq_true rfl) (Nat.le_of_ble_eq_true rfl) (fun w9 τ9 h9 => h9.elim) (fun E9 q9 τ9 h9 => A_out rfl (⟨yσ.tr h9.2, 0, by rw [h9.1]; rfl, by rw [(mayQ_1 h0)]; rfl⟩))
  · subst hn
    have hW := hD.1
    have hR9 := hR
    obtain ⟨h1, ⟨fr, h2, h2p⟩, ⟨fm, h3, h3p⟩, ⟨mcn, fnA, h4, h4p, h4q⟩, ⟨mcf, ffA, h5, h5p, h5q⟩, ⟨fu, h6, h6p⟩, h7, h8, h9, h10, h11⟩ := hR
    have hF12 : nF N ≤ 12 := hW.2.2.2.2.2
    have hN4 : nN N ≤ 4 := hW.2.1.2
    have hC6 : nC N ≤ 6 := hW.1.2
    have hT3 : nT N ≤ 3 := hW.2.2.1.2
    have hP8 : nP N ≤ 8 := hW.2.2.2.1.2
    by_cases ck1 : inR f 0 (N 10 - 1)
    · skip
      obtain ⟨jf, hjf, rfl⟩ := in_ex hW.2.2.2.2.1 (Nat.le_trans hF12 (by decide)) ck1
      have bjf : jf < 2000 := Nat.lt_of_lt_of_le hjf (Nat.le_trans hF12 (by decide))
      by_cases ck2 : inR h 0 3
      · skip
        obtain ⟨jh, hjh, rfl⟩ := hk_ex ck2
        have bjh : jh < 2000 := Nat.lt_of_le_of_lt hjh (by decide)
        refine A_of rfl (by decide) (Nat.le_of_ble_eq_true rfl) (L0 := [(0, .ref x), (1, .int (nI jf)), (2, .int (nI jh))]) rfl ?_
        refine A_wfh (fun wσ hgσ => ?_)
        have yσ : ext σ σ := ext.rf
        refine A_aload_n (i := 0) dX1_whyNotIron_0 rfl rfl ?_
        refine A_iload_n (i := 1) dX1_whyNotIron_1 rfl rfl ?_
        refine A_iload_n (i := 2) dX1_whyNotIron_2 rfl rfl ?_
        refine A_callV2E (b' := 2) (v := some (.ref (wF W jf))) (τ := σ) (c_checkIron σ x bf dq sv ou bd pe ep W N jf jh hX hR9 hD hjf hjh) tX1_checkIron q1684 hX rfl rfl dX1_whyNotIron_3 (by decide) (Nat.le_of_ble_eq_true rfl) (Nat.le_of_ble_eq_true rfl) ?_
        refine A_iload_n (i := 2) dX1_whyNotIron_6 rfl rfl ?_
        refine A_callS2 (b' := 0) (c_ironBar σ W N jf (nI jh) hR9 hD hjf) tX1_ironBar q1688 dX1_whyNotIron_7 (by decide) (Nat.le_of_ble_eq_true rfl) (Nat.le_of_ble_eq_true rfl) (fun w9 σ1 h9 => ?_) (fun E9 q9 τ9 h9 => h9.elim)
        obtain ⟨e9, xσ1⟩ := h9
        subst e9
        refine A_wfh (fun wσ1 hgσ1 => ?_)
        have yσ1 : ext σ σ1 := yσ.tr (xσ1)
        have fσ1_0 : σ1.1 (wW W) = some (.inr (.inl (4, [.int (N 9), .ref (wR W), .ref (wM W), .ref (wNL W), .ref (wFL W), .ref (wUN W), .int (N 6), .int (N 8), .int (N 0), .int (N 1), .int (N 2), .int (N 3), .int (N 4), .int (N 5), .int (N 11)]))) := xσ1.at wσ h1
        have fσ1_1 : σ1.1 (wFL W) = some (.inr (.inl (14, [.int mcf, .ref (wFA W), .int (nI (nF N))]))) := xσ1.at wσ h5
        have fσ1_2 : σ1.1 (wFA W) = some (.inl (.object "java/lang/Object", 12, .inr (.inr (.inr (.inr ffA))))) := xσ1.at wσ h5p
        have fσ1_3 : σ1.1 (wNL W) = some (.inr (.inl (14, [.int mcn, .ref (wNA W), .int (nI (nN N))]))) := xσ1.at wσ h4
        have fσ1_4 : σ1.1 (wNA W) = some (.inl (.object "java/lang/Object", 4, .inr (.inr (.inr (.inr fnA))))) := xσ1.at wσ h4p
        have fσ1_5 : σ1.1 (wR W) = some (.inl (.int, 6, .inl fr)) := xσ1.at wσ h2
        have fσ1_6 : σ1.1 (wM W) = some (.inl (.int, 3, .inl fm)) := xσ1.at wσ h3
        have fσ1_7 : σ1.1 (wUN W) = some (.inl (.object "FlagLaundry$Test", 7, .inr (.inr (.inr (.inr fu))))) := xσ1.at wσ h6
        have fσ1_8 : σ1.1 x = some (.inr (.inl (0, [.ref bf, .int bd, .int pe, .int ep, .ref (wW W), .ref dq, .ref sv, .ref ou]))) := xσ1.at wσ hX
        have fσ1_9 : σ1.1 (wF W jf) = some (.inr (.inl (6, [.int (fl N jf 0), .int (fl N jf 1), .int (fl N jf 2), .int (fl N jf 3), .int (fl N jf 4), .int (fl N jf 5), .int (fl N jf 6), .int (fl N jf 7), .ref (wP W jf)]))) := xσ1.at wσ (hR9.2.2.2.2.2.2.1 jf hjf)
        have hRσ1 : RW g σ1 W N := hR9.ext wσ xσ1
        exact A_iret dX1_whyNotIron_10 rfl (⟨(mayQ_0 hs (bi_n ⟨hs, ck1⟩) (bi_n ck2)), by rw [ixn bjf] <;> rfl, yσ1⟩)
      · skip
        refine A_of rfl (by decide) (Nat.le_of_ble_eq_true rfl) (L0 := [(0, .ref x), (1, .int (nI jf)), (2, .int h)]) rfl ?_
        refine A_wfh (fun wσ hgσ => ?_)
        have yσ : ext σ σ := ext.rf
        refine A_aload_n (i := 0) dX1_whyNotIron_0 rfl rfl ?_
        refine A_iload_n (i := 1) dX1_whyNotIron_1 rfl rfl ?_
        refine A_iload_n (i := 2) dX1_whyNotIron_2 rfl rfl ?_
        refine A_callV2 (b' := 0) (c_checkIron_no2 σ x bf dq sv ou bd pe ep W N jf h hX hR9 hD hjf ck2) tX1_checkIron q1684 hX rfl rfl dX1_whyNotIron_3 (by decide) (Nat.le_of_ble_eq_true rfl) (Nat.le_of_ble_eq_true rfl) (fun w9 τ9 h9 => h9.elim) (fun E9 q9 τ9 h9 => A_out rfl (⟨yσ.tr h9.2, 2, by rw [h9.1]; rfl, by rw [(mayQ_3 hs (bi_n ⟨hs, ck1⟩) (bi_f (fun h => ck2 h)))]; rfl⟩))
    · skip
      refine A_of rfl (by decide) (Nat.le_of_ble_eq_true rfl) (L0 := [(0, .ref x), (1, .int f), (2, .int h)]) rfl ?_
      refine A_wfh (fun wσ hgσ => ?_)
      have yσ : ext σ σ := ext.rf
      refine A_aload_n (i := 0) dX1_whyNotIron_0 rfl rfl ?_
      refine A_iload_n (i := 1) dX1_whyNotIron_1 rfl rfl ?_
      refine A_iload_n (i := 2) dX1_whyNotIron_2 rfl rfl ?_
      refine A_callV2 (b' := 0) (c_checkIron_no σ x bf dq sv ou bd pe ep W N f h hX hR9 hD ck1) tX1_checkIron q1684 hX rfl rfl dX1_whyNotIron_3 (by decide) (Nat.le_of_ble_eq_true rfl) (Nat.le_of_ble_eq_true rfl) (fun w9 τ9 h9 => h9.elim) (fun E9 q9 τ9 h9 => A_out rfl (⟨yσ.tr h9.2, 1, by rw [h9.1]; rfl, by rw [(mayQ_2 hs (bi_f (fun h => ck1 h.2)))]; rfl⟩))
theorem q_whyNotBleach {l : Launch} {g : GC} (σ : AH) (x bf dq sv ou : Nat) (bd pe ep : Int32) (is : Int32) (nv : Value) (W : WA) (N : AF) (f : Int32) (hL : LD g σ is nv W N) (hX : σ.1 x = some (lauC bf bd pe ep nv dq sv ou)) : AMet l g mX1_whyNotBleach 16 2 [.ref x, .int f] σ (A_val (mayT is (bi (okF is N f)) 1) (.int (whyBlN N (ix f))) σ) (A_thr ["java/lang/IllegalStateException", "java/lang/IndexOutOfBoundsException"] (mayT is (bi (okF is N f)) 1) σ) := by
  rcases hL with ⟨h0, hn⟩ | ⟨hs, hn, hR, hD, hw, hh⟩
  · subst hn
    refine A_of rfl (by decide) (Nat.le_of_ble_eq_true rfl) (L0 := [(0, .ref x), (1, .int f)]) rfl ?_
    refine A_wfh (fun wσ hgσ => ?_)
    have yσ : ext σ σ := ext.rf
    refine A_aload_n (i := 0) dX1_whyNotBleach_0 rfl rfl ?_
    refine A_iload_n (i := 1) dX1_whyNotBleach_1 rfl rfl ?_
    refine A_callV1 (b' := 0) (u_checkFlag σ x bf dq sv ou bd pe ep f hX) tX1_checkFlag q1490 hX rfl rfl dX1_whyNotBleach_2 (by decide) (Nat.le_of_ble_eq_true rfl) (Nat.le_of_ble_eq_true rfl) (fun w9 τ9 h9 => h9.elim) (fun E9 q9 τ9 h9 => A_out rfl (⟨yσ.tr h9.2, 0, by rw [h9.1]; rfl, by rw [(mayQ_1 h0)]; rfl⟩))
  · subst hn
    have hW := hD.1
    have hR9 := hR
    obtain ⟨h1, ⟨fr, h2, h2p⟩, ⟨fm, h3, h3p⟩, ⟨mcn, fnA, h4, h4p, h4q⟩, ⟨mcf, ffA, h5, h5p, h5q⟩, ⟨fu, h6, h6p⟩, h7, h8, h9, h10, h11⟩ := hR
    have hF12 : nF N ≤ 12 := hW.2.2.2.2.2
    have hN4 : nN N ≤ 4 := hW.2.1.2
    have hC6 : nC N ≤ 6 := hW.1.2
    have hT3 : nT N ≤ 3 := hW.2.2.1.2
    have hP8 : nP N ≤ 8 := hW.2.2.2.1.2
    by_cases ck1 : inR f 0 (N 10 - 1)
    · skip
      obtain ⟨jf, hjf, rfl⟩ := in_ex hW.2.2.2.2.1 (Nat.le_trans hF12 (by decide)) ck1
      have bjf : jf < 2000 := Nat.lt_of_lt_of_le hjf (Nat.le_trans hF12 (by decide))
      refine A_of rfl (by decide) (Nat.le_of_ble_eq_true rfl) (L0 := [(0, .ref x), (1, .int (nI jf))]) rfl ?_
      refine A_wfh (fun wσ hgσ => ?_)
      have yσ : ext σ σ := ext.rf
      refine A_aload_n (i := 0) dX1_whyNotBleach_0 rfl rfl ?_
      refine A_iload_n (i := 1) dX1_whyNotBleach_1 rfl rfl ?_
      refine A_callV1E (b' := 2) (v := some (.ref (wF W jf))) (τ := σ) (c_checkFlag σ x bf dq sv ou bd pe ep W N jf hX hR9 hD hjf) tX1_checkFlag q1490 hX rfl rfl dX1_whyNotBleach_2 (by decide) (Nat.le_of_ble_eq_true rfl) (Nat.le_of_ble_eq_true rfl) ?_
      refine A_callS1 (b' := 1) (c_bleachBar σ W N jf hR9 hD hjf) tX1_bleachBar q1706 dX1_whyNotBleach_5 (by decide) (Nat.le_of_ble_eq_true rfl) (Nat.le_of_ble_eq_true rfl) (fun w9 σ1 h9 => ?_) (fun E9 q9 τ9 h9 => h9.elim)
      obtain ⟨e9, xσ1⟩ := h9
      subst e9
      refine A_wfh (fun wσ1 hgσ1 => ?_)
      have yσ1 : ext σ σ1 := yσ.tr (xσ1)
      have fσ1_0 : σ1.1 (wW W) = some (.inr (.inl (4, [.int (N 9), .ref (wR W), .ref (wM W), .ref (wNL W), .ref (wFL W), .ref (wUN W), .int (N 6), .int (N 8), .int (N 0), .int (N 1), .int (N 2), .int (N 3), .int (N 4), .int (N 5), .int (N 11)]))) := xσ1.at wσ h1
      have fσ1_1 : σ1.1 (wFL W) = some (.inr (.inl (14, [.int mcf, .ref (wFA W), .int (nI (nF N))]))) := xσ1.at wσ h5
      have fσ1_2 : σ1.1 (wFA W) = some (.inl (.object "java/lang/Object", 12, .inr (.inr (.inr (.inr ffA))))) := xσ1.at wσ h5p
      have fσ1_3 : σ1.1 (wNL W) = some (.inr (.inl (14, [.int mcn, .ref (wNA W), .int (nI (nN N))]))) := xσ1.at wσ h4
      have fσ1_4 : σ1.1 (wNA W) = some (.inl (.object "java/lang/Object", 4, .inr (.inr (.inr (.inr fnA))))) := xσ1.at wσ h4p
      have fσ1_5 : σ1.1 (wR W) = some (.inl (.int, 6, .inl fr)) := xσ1.at wσ h2
      have fσ1_6 : σ1.1 (wM W) = some (.inl (.int, 3, .inl fm)) := xσ1.at wσ h3
      have fσ1_7 : σ1.1 (wUN W) = some (.inl (.object "FlagLaundry$Test", 7, .inr (.inr (.inr (.inr fu))))) := xσ1.at wσ h6
      have fσ1_8 : σ1.1 x = some (.inr (.inl (0, [.ref bf, .int bd, .int pe, .int ep, .ref (wW W), .ref dq, .ref sv, .ref ou]))) := xσ1.at wσ hX
      have fσ1_9 : σ1.1 (wF W jf) = some (.inr (.inl (6, [.int (fl N jf 0), .int (fl N jf 1), .int (fl N jf 2), .int (fl N jf 3), .int (fl N jf 4), .int (fl N jf 5), .int (fl N jf 6), .int (fl N jf 7), .ref (wP W jf)]))) := xσ1.at wσ (hR9.2.2.2.2.2.2.1 jf hjf)
      have hRσ1 : RW g σ1 W N := hR9.ext wσ xσ1
      exact A_iret dX1_whyNotBleach_8 rfl (⟨(mayQ_0 hs (bi_n ⟨hs, ck1⟩) (by decide)), by rw [ixn bjf] <;> rfl, yσ1⟩)
    · skip
      refine A_of rfl (by decide) (Nat.le_of_ble_eq_true rfl) (L0 := [(0, .ref x), (1, .int f)]) rfl ?_
      refine A_wfh (fun wσ hgσ => ?_)
      have yσ : ext σ σ := ext.rf
      refine A_aload_n (i := 0) dX1_whyNotBleach_0 rfl rfl ?_
      refine A_iload_n (i := 1) dX1_whyNotBleach_1 rfl rfl ?_
      refine A_callV1 (b' := 0) (c_checkFlag_no σ x bf dq sv ou bd pe ep W N f hX hR9 hD ck1) tX1_checkFlag q1490 hX rfl rfl dX1_whyNotBleach_2 (by decide) (Nat.le_of_ble_eq_true rfl) (Nat.le_of_ble_eq_true rfl) (fun w9 τ9 h9 => h9.elim) (fun E9 q9 τ9 h9 => A_out rfl (⟨yσ.tr h9.2, 1, by rw [h9.1]; rfl, by rw [(mayQ_2 hs (bi_f (fun h => ck1 h.2)))]; rfl⟩))
theorem q_running {l : Launch} {g : GC} (σ : AH) (x bf dq sv ou : Nat) (bd pe ep : Int32) (is : Int32) (nv : Value) (W : WA) (N : AF) (t h : Int32) (hL : LD g σ is nv W N) (hX : σ.1 x = some (lauC bf bd pe ep nv dq sv ou)) : AMet l g mX1_running 11 2 [.ref x, .int t, .int h] σ (A_val (mayT is (bi (okT is N t)) (bi (inR h 0 3))) (.int (runIn N t h)) σ) (A_thr ["java/lang/IllegalStateException", "java/lang/IndexOutOfBoundsException", "java/lang/IllegalArgumentException"] (mayT is (bi (okT is N t)) (bi (inR h 0 3))) σ) := by
  rcases hL with ⟨h0, hn⟩ | ⟨hs, hn, hR, hD, hw, hh⟩
  · subst hn
    refine A_of rfl (by decide) (Nat.le_of_ble_eq_true rfl) (L0 := [(0, .ref x), (1, .int t), (2, .int h)]) rfl ?_
    refine A_wfh (fun wσ hgσ => ?_)
    have yσ : ext σ σ := ext.rf
    refine A_aload_n (i := 0) dX1_running_0 rfl rfl ?_
    refine A_iload_n (i := 1) dX1_running_1 rfl rfl ?_
    refine A_iload_n (i := 2) dX1_running_2 rfl rfl ?_
    refine A_callV2 (b' := 0) (u_checkWash σ x bf dq sv ou bd pe ep t h hX) tX1_checkWash q1668 hX rfl rfl dX1_running_3 (by decide) (Nat.le_of_ble_eq_true rfl) (Nat.le_of_ble_eq_true rfl) (fun w9 τ9 h9 => h9.elim) (fun E9 q9 τ9 h9 => A_out rfl (⟨yσ.tr h9.2, 0, by rw [h9.1]; rfl, by rw [(mayQ_1 h0)]; rfl⟩))
  · subst hn
    have hW := hD.1
    have hR9 := hR
    obtain ⟨h1, ⟨fr, h2, h2p⟩, ⟨fm, h3, h3p⟩, ⟨mcn, fnA, h4, h4p, h4q⟩, ⟨mcf, ffA, h5, h5p, h5q⟩, ⟨fu, h6, h6p⟩, h7, h8, h9, h10, h11⟩ := hR
    have hF12 : nF N ≤ 12 := hW.2.2.2.2.2
    have hN4 : nN N ≤ 4 := hW.2.1.2
    have hC6 : nC N ≤ 6 := hW.1.2
    have hT3 : nT N ≤ 3 := hW.2.2.1.2
    have hP8 : nP N ≤ 8 := hW.2.2.2.1.2
    by_cases ck1 : inR t 0 (N 8 - 1)
    · skip
      obtain ⟨jt, hjt, rfl⟩ := in_ex hW.2.2.1.1 (Nat.le_trans hT3 (by decide)) ck1
      have bjt : jt < 2000 := Nat.lt_of_lt_of_le hjt (Nat.le_trans hT3 (by decide))
      by_cases ck2 : inR h 0 3
      · skip
        obtain ⟨jh, hjh, rfl⟩ := hk_ex ck2
        have bjh : jh < 2000 := Nat.lt_of_le_of_lt hjh (by decide)
        refine A_of rfl (by decide) (Nat.le_of_ble_eq_true rfl) (L0 := [(0, .ref x), (1, .int (nI jt)), (2, .int (nI jh))]) rfl ?_
        refine A_wfh (fun wσ hgσ => ?_)
        have yσ : ext σ σ := ext.rf
        refine A_aload_n (i := 0) dX1_running_0 rfl rfl ?_
        refine A_iload_n (i := 1) dX1_running_1 rfl rfl ?_
        refine A_iload_n (i := 2) dX1_running_2 rfl rfl ?_
        refine A_callV2E (b' := 2) (v := some (.ref (wW W))) (τ := σ) (c_checkWash σ x bf dq sv ou bd pe ep W N jt jh hX hR9 hD hjt hjh) tX1_checkWash q1668 hX rfl rfl dX1_running_3 (by decide) (Nat.le_of_ble_eq_true rfl) (Nat.le_of_ble_eq_true rfl) ?_
        refine A_iload_n (i := 1) dX1_running_6 rfl rfl ?_
        refine A_iload_n (i := 2) dX1_running_7 rfl rfl ?_
        refine A_callV2E (b' := 2) (v := some (.int (runIn N (nI jt) (nI jh)))) (τ := σ) (c_running5 σ W N (nI jt) (nI jh) hR9 hD) tX5_running q1722 h1 rfl rfl dX1_running_8 (by decide) (Nat.le_of_ble_eq_true rfl) (Nat.le_of_ble_eq_true rfl) ?_
        exact A_iret dX1_running_11 rfl (⟨(mayQ_0 hs (bi_n ⟨hs, ck1⟩) (bi_n ck2)), rfl, yσ⟩)
      · skip
        refine A_of rfl (by decide) (Nat.le_of_ble_eq_true rfl) (L0 := [(0, .ref x), (1, .int (nI jt)), (2, .int h)]) rfl ?_
        refine A_wfh (fun wσ hgσ => ?_)
        have yσ : ext σ σ := ext.rf
        refine A_aload_n (i := 0) dX1_running_0 rfl rfl ?_
        refine A_iload_n (i := 1) dX1_running_1 rfl rfl ?_
        refine A_iload_n (i := 2) dX1_running_2 rfl rfl ?_
        refine A_callV2 (b' := 0) (c_checkWash_no2 σ x bf dq sv ou bd pe ep W N jt h hX hR9 hD hjt ck2) tX1_checkWash q1668 hX rfl rfl dX1_running_3 (by decide) (Nat.le_of_ble_eq_true rfl) (Nat.le_of_ble_eq_true rfl) (fun w9 τ9 h9 => h9.elim) (fun E9 q9 τ9 h9 => A_out rfl (⟨yσ.tr h9.2, 2, by rw [h9.1]; rfl, by rw [(mayQ_3 hs (bi_n ⟨hs, ck1⟩) (bi_f (fun h => ck2 h)))]; rfl⟩))
    · skip
      refine A_of rfl (by decide) (Nat.le_of_ble_eq_true rfl) (L0 := [(0, .ref x), (1, .int t), (2, .int h)]) rfl ?_
      refine A_wfh (fun wσ hgσ => ?_)
      have yσ : ext σ σ := ext.rf
      refine A_aload_n (i := 0) dX1_running_0 rfl rfl ?_
      refine A_iload_n (i := 1) dX1_running_1 rfl rfl ?_
      refine A_iload_n (i := 2) dX1_running_2 rfl rfl ?_
      refine A_callV2 (b' := 0) (c_checkWash_no σ x bf dq sv ou bd pe ep W N t h hX hR9 hD ck1) tX1_checkWash q1668 hX rfl rfl dX1_running_3 (by decide) (Nat.le_of_ble_eq_true rfl) (Nat.le_of_ble_eq_true rfl) (fun w9 τ9 h9 => h9.elim) (fun E9 q9 τ9 h9 => A_out rfl (⟨yσ.tr h9.2, 1, by rw [h9.1]; rfl, by rw [(mayQ_2 hs (bi_f (fun h => ck1 h.2)))]; rfl⟩))
theorem q_stainedIf {l : Launch} {g : GC} (σ : AH) (x bf dq sv ou : Nat) (bd pe ep : Int32) (is : Int32) (nv : Value) (W : WA) (N : AF) (t h : Int32) (hL : LD g σ is nv W N) (hX : σ.1 x = some (lauC bf bd pe ep nv dq sv ou)) : AMet l g mX1_stainedIf 34 2 [.ref x, .int t, .int h] σ (A_val (mayT is (bi (okT is N t)) (bi (inR h 0 3))) (.int (stainBy N t h)) σ) (A_thr ["java/lang/IllegalStateException", "java/lang/IndexOutOfBoundsException", "java/lang/IllegalArgumentException"] (mayT is (bi (okT is N t)) (bi (inR h 0 3))) σ) := by
  rcases hL with ⟨h0, hn⟩ | ⟨hs, hn, hR, hD, hw, hh⟩
  · subst hn
    refine A_of rfl (by decide) (Nat.le_of_ble_eq_true rfl) (L0 := [(0, .ref x), (1, .int t), (2, .int h)]) rfl ?_
    refine A_wfh (fun wσ hgσ => ?_)
    have yσ : ext σ σ := ext.rf
    refine A_aload_n (i := 0) dX1_stainedIf_0 rfl rfl ?_
    refine A_iload_n (i := 1) dX1_stainedIf_1 rfl rfl ?_
    refine A_iload_n (i := 2) dX1_stainedIf_2 rfl rfl ?_
    refine A_callV2 (b' := 0) (u_checkWash σ x bf dq sv ou bd pe ep t h hX) tX1_checkWash q1668 hX rfl rfl dX1_stainedIf_3 (by decide) (Nat.le_of_ble_eq_true rfl) (Nat.le_of_ble_eq_true rfl) (fun w9 τ9 h9 => h9.elim) (fun E9 q9 τ9 h9 => A_out rfl (⟨yσ.tr h9.2, 0, by rw [h9.1]; rfl, by rw [(mayQ_1 h0)]; rfl⟩))
  · subst hn
    have hW := hD.1
    have hR9 := hR
    obtain ⟨h1, ⟨fr, h2, h2p⟩, ⟨fm, h3, h3p⟩, ⟨mcn, fnA, h4, h4p, h4q⟩, ⟨mcf, ffA, h5, h5p, h5q⟩, ⟨fu, h6, h6p⟩, h7, h8, h9, h10, h11⟩ := hR
    have hF12 : nF N ≤ 12 := hW.2.2.2.2.2
    have hN4 : nN N ≤ 4 := hW.2.1.2
    have hC6 : nC N ≤ 6 := hW.1.2
    have hT3 : nT N ≤ 3 := hW.2.2.1.2
    have hP8 : nP N ≤ 8 := hW.2.2.2.1.2
    by_cases ck1 : inR t 0 (N 8 - 1)
    · skip
      obtain ⟨jt, hjt, rfl⟩ := in_ex hW.2.2.1.1 (Nat.le_trans hT3 (by decide)) ck1
      have bjt : jt < 2000 := Nat.lt_of_lt_of_le hjt (Nat.le_trans hT3 (by decide))
      by_cases ck2 : inR h 0 3
      · skip
        obtain ⟨jh, hjh, rfl⟩ := hk_ex ck2
        have bjh : jh < 2000 := Nat.lt_of_le_of_lt hjh (by decide)
        refine A_of rfl (by decide) (Nat.le_of_ble_eq_true rfl) (L0 := [(0, .ref x), (1, .int (nI jt)), (2, .int (nI jh))]) rfl ?_
        refine A_wfh (fun wσ hgσ => ?_)
        have yσ : ext σ σ := ext.rf
        refine A_aload_n (i := 0) dX1_stainedIf_0 rfl rfl ?_
        refine A_iload_n (i := 1) dX1_stainedIf_1 rfl rfl ?_
        refine A_iload_n (i := 2) dX1_stainedIf_2 rfl rfl ?_
        refine A_callV2E (b' := 2) (v := some (.ref (wW W))) (τ := σ) (c_checkWash σ x bf dq sv ou bd pe ep W N jt jh hX hR9 hD hjt hjh) tX1_checkWash q1668 hX rfl rfl dX1_stainedIf_3 (by decide) (Nat.le_of_ble_eq_true rfl) (Nat.le_of_ble_eq_true rfl) ?_
        refine A_iload_n (i := 1) dX1_stainedIf_6 rfl rfl ?_
        refine A_iload_n (i := 2) dX1_stainedIf_7 rfl rfl ?_
        refine A_callV2 (b' := 1) (c_stainedIf5 σ W N (nI jt) (nI jh) hR9 hD) tX5_stainedIf q1730 h1 rfl rfl dX1_stainedIf_8 (by decide) (Nat.le_of_ble_eq_true rfl) (Nat.le_of_ble_eq_true rfl) (fun w9 σ1 h9 => ?_) (fun E9 q9 τ9 h9 => h9.elim)
        obtain ⟨e9, xσ1⟩ := h9
        subst e9
        refine A_wfh (fun wσ1 hgσ1 => ?_)
        have yσ1 : ext σ σ1 := yσ.tr (xσ1)
        have fσ1_0 : σ1.1 (wW W) = some (.inr (.inl (4, [.int (N 9), .ref (wR W), .ref (wM W), .ref (wNL W), .ref (wFL W), .ref (wUN W), .int (N 6), .int (N 8), .int (N 0), .int (N 1), .int (N 2), .int (N 3), .int (N 4), .int (N 5), .int (N 11)]))) := xσ1.at wσ h1
        have fσ1_1 : σ1.1 (wFL W) = some (.inr (.inl (14, [.int mcf, .ref (wFA W), .int (nI (nF N))]))) := xσ1.at wσ h5
        have fσ1_2 : σ1.1 (wFA W) = some (.inl (.object "java/lang/Object", 12, .inr (.inr (.inr (.inr ffA))))) := xσ1.at wσ h5p
        have fσ1_3 : σ1.1 (wNL W) = some (.inr (.inl (14, [.int mcn, .ref (wNA W), .int (nI (nN N))]))) := xσ1.at wσ h4
        have fσ1_4 : σ1.1 (wNA W) = some (.inl (.object "java/lang/Object", 4, .inr (.inr (.inr (.inr fnA))))) := xσ1.at wσ h4p
        have fσ1_5 : σ1.1 (wR W) = some (.inl (.int, 6, .inl fr)) := xσ1.at wσ h2
        have fσ1_6 : σ1.1 (wM W) = some (.inl (.int, 3, .inl fm)) := xσ1.at wσ h3
        have fσ1_7 : σ1.1 (wUN W) = some (.inl (.object "FlagLaundry$Test", 7, .inr (.inr (.inr (.inr fu))))) := xσ1.at wσ h6
        have fσ1_8 : σ1.1 x = some (.inr (.inl (0, [.ref bf, .int bd, .int pe, .int ep, .ref (wW W), .ref dq, .ref sv, .ref ou]))) := xσ1.at wσ hX
        have hRσ1 : RW g σ1 W N := hR9.ext wσ xσ1
        exact A_iret dX1_stainedIf_11 rfl (⟨(mayQ_0 hs (bi_n ⟨hs, ck1⟩) (bi_n ck2)), rfl, yσ1⟩)
      · skip
        refine A_of rfl (by decide) (Nat.le_of_ble_eq_true rfl) (L0 := [(0, .ref x), (1, .int (nI jt)), (2, .int h)]) rfl ?_
        refine A_wfh (fun wσ hgσ => ?_)
        have yσ : ext σ σ := ext.rf
        refine A_aload_n (i := 0) dX1_stainedIf_0 rfl rfl ?_
        refine A_iload_n (i := 1) dX1_stainedIf_1 rfl rfl ?_
        refine A_iload_n (i := 2) dX1_stainedIf_2 rfl rfl ?_
        refine A_callV2 (b' := 0) (c_checkWash_no2 σ x bf dq sv ou bd pe ep W N jt h hX hR9 hD hjt ck2) tX1_checkWash q1668 hX rfl rfl dX1_stainedIf_3 (by decide) (Nat.le_of_ble_eq_true rfl) (Nat.le_of_ble_eq_true rfl) (fun w9 τ9 h9 => h9.elim) (fun E9 q9 τ9 h9 => A_out rfl (⟨yσ.tr h9.2, 2, by rw [h9.1]; rfl, by rw [(mayQ_3 hs (bi_n ⟨hs, ck1⟩) (bi_f (fun h => ck2 h)))]; rfl⟩))
    · skip
      refine A_of rfl (by decide) (Nat.le_of_ble_eq_true rfl) (L0 := [(0, .ref x), (1, .int t), (2, .int h)]) rfl ?_
      refine A_wfh (fun wσ hgσ => ?_)
      have yσ : ext σ σ := ext.rf
      refine A_aload_n (i := 0) dX1_stainedIf_0 rfl rfl ?_
      refine A_iload_n (i := 1) dX1_stainedIf_1 rfl rfl ?_
      refine A_iload_n (i := 2) dX1_stainedIf_2 rfl rfl ?_
      refine A_callV2 (b' := 0) (c_checkWash_no σ x bf dq sv ou bd pe ep W N t h hX hR9 hD ck1) tX1_checkWash q1668 hX rfl rfl dX1_stainedIf_3 (by decide) (Nat.le_of_ble_eq_true rfl) (Nat.le_of_ble_eq_true rfl) (fun w9 τ9 h9 => h9.elim) (fun E9 q9 τ9 h9 => A_out rfl (⟨yσ.tr h9.2, 1, by rw [h9.1]; rfl, by rw [(mayQ_2 hs (bi_f (fun h => ck1 h.2)))]; rfl⟩))
theorem q_dirtIf {l : Launch} {g : GC} (σ : AH) (x bf dq sv ou : Nat) (bd pe ep : Int32) (is : Int32) (nv : Value) (W : WA) (N : AF) (t h : Int32) (hL : LD g σ is nv W N) (hX : σ.1 x = some (lauC bf bd pe ep nv dq sv ou)) : AMet l g mX1_dirtIf 11 2 [.ref x, .int t, .int h] σ (A_val (mayT is (bi (okT is N t)) (bi (inR h 0 3))) (.int (dirtBy N t h)) σ) (A_thr ["java/lang/IllegalStateException", "java/lang/IndexOutOfBoundsException", "java/lang/IllegalArgumentException"] (mayT is (bi (okT is N t)) (bi (inR h 0 3))) σ) := by
  rcases hL with ⟨h0, hn⟩ | ⟨hs, hn, hR, hD, hw, hh⟩
  · subst hn
    refine A_of rfl (by decide) (Nat.le_of_ble_eq_true rfl) (L0 := [(0, .ref x), (1, .int t), (2, .int h)]) rfl ?_
    refine A_wfh (fun wσ hgσ => ?_)
    have yσ : ext σ σ := ext.rf
    refine A_aload_n (i := 0) dX1_dirtIf_0 rfl rfl ?_
    refine A_iload_n (i := 1) dX1_dirtIf_1 rfl rfl ?_
    refine A_iload_n (i := 2) dX1_dirtIf_2 rfl rfl ?_
    refine A_callV2 (b' := 0) (u_checkWash σ x bf dq sv ou bd pe ep t h hX) tX1_checkWash q1668 hX rfl rfl dX1_dirtIf_3 (by decide) (Nat.le_of_ble_eq_true rfl) (Nat.le_of_ble_eq_true rfl) (fun w9 τ9 h9 => h9.elim) (fun E9 q9 τ9 h9 => A_out rfl (⟨yσ.tr h9.2, 0, by rw [h9.1]; rfl, by rw [(mayQ_1 h0)]; rfl⟩))
  · subst hn
    have hW := hD.1
    have hR9 := hR
    obtain ⟨h1, ⟨fr, h2, h2p⟩, ⟨fm, h3, h3p⟩, ⟨mcn, fnA, h4, h4p, h4q⟩, ⟨mcf, ffA, h5, h5p, h5q⟩, ⟨fu, h6, h6p⟩, h7, h8, h9, h10, h11⟩ := hR
    have hF12 : nF N ≤ 12 := hW.2.2.2.2.2
    have hN4 : nN N ≤ 4 := hW.2.1.2
    have hC6 : nC N ≤ 6 := hW.1.2
    have hT3 : nT N ≤ 3 := hW.2.2.1.2
    have hP8 : nP N ≤ 8 := hW.2.2.2.1.2
    by_cases ck1 : inR t 0 (N 8 - 1)
    · skip
      obtain ⟨jt, hjt, rfl⟩ := in_ex hW.2.2.1.1 (Nat.le_trans hT3 (by decide)) ck1
      have bjt : jt < 2000 := Nat.lt_of_lt_of_le hjt (Nat.le_trans hT3 (by decide))
      by_cases ck2 : inR h 0 3
      · skip
        obtain ⟨jh, hjh, rfl⟩ := hk_ex ck2
        have bjh : jh < 2000 := Nat.lt_of_le_of_lt hjh (by decide)
        refine A_of rfl (by decide) (Nat.le_of_ble_eq_true rfl) (L0 := [(0, .ref x), (1, .int (nI jt)), (2, .int (nI jh))]) rfl ?_
        refine A_wfh (fun wσ hgσ => ?_)
        have yσ : ext σ σ := ext.rf
        refine A_aload_n (i := 0) dX1_dirtIf_0 rfl rfl ?_
        refine A_iload_n (i := 1) dX1_dirtIf_1 rfl rfl ?_
        refine A_iload_n (i := 2) dX1_dirtIf_2 rfl rfl ?_
        refine A_callV2E (b' := 2) (v := some (.ref (wW W))) (τ := σ) (c_checkWash σ x bf dq sv ou bd pe ep W N jt jh hX hR9 hD hjt hjh) tX1_checkWash q1668 hX rfl rfl dX1_dirtIf_3 (by decide) (Nat.le_of_ble_eq_true rfl) (Nat.le_of_ble_eq_true rfl) ?_
        refine A_iload_n (i := 1) dX1_dirtIf_6 rfl rfl ?_
        refine A_iload_n (i := 2) dX1_dirtIf_7 rfl rfl ?_
        refine A_callV2E (b' := 2) (v := some (.int (dirtBy N (nI jt) (nI jh)))) (τ := σ) (c_dirtIf5 σ W N (nI jt) jh hR9 hD hjh) tX5_dirtIf q1744 h1 rfl rfl dX1_dirtIf_8 (by decide) (Nat.le_of_ble_eq_true rfl) (Nat.le_of_ble_eq_true rfl) ?_
        exact A_iret dX1_dirtIf_11 rfl (⟨(mayQ_0 hs (bi_n ⟨hs, ck1⟩) (bi_n ck2)), rfl, yσ⟩)
      · skip
        refine A_of rfl (by decide) (Nat.le_of_ble_eq_true rfl) (L0 := [(0, .ref x), (1, .int (nI jt)), (2, .int h)]) rfl ?_
        refine A_wfh (fun wσ hgσ => ?_)
        have yσ : ext σ σ := ext.rf
        refine A_aload_n (i := 0) dX1_dirtIf_0 rfl rfl ?_
        refine A_iload_n (i := 1) dX1_dirtIf_1 rfl rfl ?_
        refine A_iload_n (i := 2) dX1_dirtIf_2 rfl rfl ?_
        refine A_callV2 (b' := 0) (c_checkWash_no2 σ x bf dq sv ou bd pe ep W N jt h hX hR9 hD hjt ck2) tX1_checkWash q1668 hX rfl rfl dX1_dirtIf_3 (by decide) (Nat.le_of_ble_eq_true rfl) (Nat.le_of_ble_eq_true rfl) (fun w9 τ9 h9 => h9.elim) (fun E9 q9 τ9 h9 => A_out rfl (⟨yσ.tr h9.2, 2, by rw [h9.1]; rfl, by rw [(mayQ_3 hs (bi_n ⟨hs, ck1⟩) (bi_f (fun h => ck2 h)))]; rfl⟩))
    · skip
      refine A_of rfl (by decide) (Nat.le_of_ble_eq_true rfl) (L0 := [(0, .ref x), (1, .int t), (2, .int h)]) rfl ?_
      refine A_wfh (fun wσ hgσ => ?_)
      have yσ : ext σ σ := ext.rf
      refine A_aload_n (i := 0) dX1_dirtIf_0 rfl rfl ?_
      refine A_iload_n (i := 1) dX1_dirtIf_1 rfl rfl ?_
      refine A_iload_n (i := 2) dX1_dirtIf_2 rfl rfl ?_
      refine A_callV2 (b' := 0) (c_checkWash_no σ x bf dq sv ou bd pe ep W N t h hX hR9 hD ck1) tX1_checkWash q1668 hX rfl rfl dX1_dirtIf_3 (by decide) (Nat.le_of_ble_eq_true rfl) (Nat.le_of_ble_eq_true rfl) (fun w9 τ9 h9 => h9.elim) (fun E9 q9 τ9 h9 => A_out rfl (⟨yσ.tr h9.2, 1, by rw [h9.1]; rfl, by rw [(mayQ_2 hs (bi_f (fun h => ck1 h.2)))]; rfl⟩))
