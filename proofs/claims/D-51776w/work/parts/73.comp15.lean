/-! FLAGLAUNDRY 4: more that is asked -/
theorem inE15 {x : Int32} (h : inR x 0 15) : x = 0 ∨ x = 1 ∨ x = 2 ∨ x = 3 ∨ x = 4 ∨ x = 5 ∨ x = 6 ∨ x = 7 ∨ x = 8 ∨ x = 9 ∨ x = 10 ∨ x = 11 ∨ x = 12 ∨ x = 13 ∨ x = 14 ∨ x = 15 := by
  obtain ⟨k, hk, rfl⟩ := in6_ex (n := 15) (by decide) h
  have e : k = 0 ∨ k = 1 ∨ k = 2 ∨ k = 3 ∨ k = 4 ∨ k = 5 ∨ k = 6 ∨ k = 7 ∨ k = 8 ∨ k = 9 ∨ k = 10 ∨ k = 11 ∨ k = 12 ∨ k = 13 ∨ k = 14 ∨ k = 15 := by omega
  rcases e with rfl | rfl | rfl | rfl | rfl | rfl | rfl | rfl | rfl | rfl | rfl | rfl | rfl | rfl | rfl | rfl <;> decide
theorem inE2 {x : Int32} (h : inR x 0 2) : x = 0 ∨ x = 1 ∨ x = 2 := by
  obtain ⟨k, hk, rfl⟩ := in6_ex (n := 2) (by decide) h
  have e : k = 0 ∨ k = 1 ∨ k = 2 := by omega
  rcases e with rfl | rfl | rfl <;> decide
theorem inE6 {x : Int32} (h : inR x 0 6) : x = 0 ∨ x = 1 ∨ x = 2 ∨ x = 3 ∨ x = 4 ∨ x = 5 ∨ x = 6 := by
  obtain ⟨k, hk, rfl⟩ := in6_ex (n := 6) (by decide) h
  have e : k = 0 ∨ k = 1 ∨ k = 2 ∨ k = 3 ∨ k = 4 ∨ k = 5 ∨ k = 6 := by omega
  rcases e with rfl | rfl | rfl | rfl | rfl | rfl | rfl <;> decide
theorem inE9 {x : Int32} (h : inR x 0 9) : x = 0 ∨ x = 1 ∨ x = 2 ∨ x = 3 ∨ x = 4 ∨ x = 5 ∨ x = 6 ∨ x = 7 ∨ x = 8 ∨ x = 9 := by
  obtain ⟨k, hk, rfl⟩ := in6_ex (n := 9) (by decide) h
  have e : k = 0 ∨ k = 1 ∨ k = 2 ∨ k = 3 ∨ k = 4 ∨ k = 5 ∨ k = 6 ∨ k = 7 ∨ k = 8 ∨ k = 9 := by omega
  rcases e with rfl | rfl | rfl | rfl | rfl | rfl | rfl | rfl | rfl | rfl <;> decide
theorem inE4 {x : Int32} (h : inR x 0 4) : x = 0 ∨ x = 1 ∨ x = 2 ∨ x = 3 ∨ x = 4 := by
  obtain ⟨k, hk, rfl⟩ := in6_ex (n := 4) (by decide) h
  have e : k = 0 ∨ k = 1 ∨ k = 2 ∨ k = 3 ∨ k = 4 := by omega
  rcases e with rfl | rfl | rfl | rfl | rfl <;> decide
theorem inE_no {x : Int32} {n : Int32} (h : ¬ inR x 0 n) : x.toInt < 0 ∨ n.toInt < x.toInt := by
  by_cases a : x < 0
  · exact Or.inl (Int32.lt_iff_toInt_lt.mp a)
  · by_cases b : n < x
    · exact Or.inr (Int32.lt_iff_toInt_lt.mp b)
    · exact absurd ⟨a, b⟩ h
theorem HD_0 {N : AF} {n : Nat} {h : Int32} (k : HD N n h) (e : h = -1) : na N n 3 = 0 := by
  rcases k with ⟨a, -⟩ | ⟨-, b, -⟩
  · exact a
  · exact absurd e b
theorem HD_1 {N : AF} {n : Nat} {h : Int32} (k : HD N n h) (e : ¬ h = -1) : na N n 3 = 1 ∧ na N n 4 = mx 0 (h - na N n 0) := by
  rcases k with ⟨-, a⟩ | ⟨a, -, b⟩
  · exact absurd a e
  · exact ⟨a, b⟩
theorem q_count {l : Launch} {g : GC} (σ : AH) (x bf dq sv ou : Nat) (bd pe ep : Int32) (is : Int32) (nv : Value) (W : WA) (N : AF) (v : Int32) (hL : LD g σ is nv W N) (hX : σ.1 x = some (lauC bf bd pe ep nv dq sv ou)) : AMet l g mX1_count 34 2 [.ref x, .int v] σ (A_val (mayT is (bi (inR v 0 15)) 1) (.int (countN N v)) σ) (A_thr ["java/lang/IllegalStateException", "java/lang/IllegalArgumentException"] (mayT is (bi (inR v 0 15)) 1) σ) := by
  rcases hL with ⟨h0, hn⟩ | ⟨hs, hn, hR, hD, hw, hh⟩
  · subst hn
    refine A_of rfl (by decide) (Nat.le_of_ble_eq_true rfl) (L0 := [(0, .ref x), (1, .int v)]) rfl ?_
    refine A_wfh (fun wσ hgσ => ?_)
    have yσ : ext σ σ := ext.rf
    refine A_aload_n (i := 0) dX1_count_0 rfl rfl ?_
    refine A_callV0 (b' := 0) (u_loaded σ x bf dq sv ou bd pe ep  hX) tX1_loaded q1383 hX rfl rfl dX1_count_1 (by decide) (Nat.le_of_ble_eq_true rfl) (Nat.le_of_ble_eq_true rfl) (fun w9 τ9 h9 => h9.elim) (fun E9 q9 τ9 h9 => A_out rfl (⟨yσ.tr h9.2, 0, by rw [h9.1]; rfl, by rw [(mayQ_1 h0)]; rfl⟩))
  · subst hn
    have hW := hD.1
    have hR9 := hR
    obtain ⟨h1, ⟨fr, h2, h2p⟩, ⟨fm, h3, h3p⟩, ⟨mcn, fnA, h4, h4p, h4q⟩, ⟨mcf, ffA, h5, h5p, h5q⟩, ⟨fu, h6, h6p⟩, h7, h8, h9, h10, h11⟩ := hR
    have hF12 : nF N ≤ 12 := hW.2.2.2.2.2
    have hN4 : nN N ≤ 4 := hW.2.1.2
    have hC6 : nC N ≤ 6 := hW.1.2
    have hT3 : nT N ≤ 3 := hW.2.2.1.2
    have hP8 : nP N ≤ 8 := hW.2.2.2.1.2
    by_cases ck1 : inR v 0 15
    · skip
      rcases inE15 ck1 with rfl | rfl | rfl | rfl | rfl | rfl | rfl | rfl | rfl | rfl | rfl | rfl | rfl | rfl | rfl | rfl
      · skip
        refine A_of rfl (by decide) (Nat.le_of_ble_eq_true rfl) (L0 := [(0, .ref x), (1, .int 0)]) rfl ?_
        refine A_wfh (fun wσ hgσ => ?_)
        have yσ : ext σ σ := ext.rf
        refine A_aload_n (i := 0) dX1_count_0 rfl rfl ?_
        refine A_callV0E (b' := 2) (v := some (.ref (wW W))) (τ := σ) (c_loaded σ x bf dq sv ou bd pe ep W N hX hR9 hD) tX1_loaded q1383 hX rfl rfl dX1_count_1 (by decide) (Nat.le_of_ble_eq_true rfl) (Nat.le_of_ble_eq_true rfl) ?_
        refine A_astore_n (i := 2) dX1_count_4 rfl (Nat.le_of_ble_eq_true rfl) ?_
        refine A_iload_n (i := 1) dX1_count_5 rfl rfl ?_
        refine A_i2l dX1_count_6 rfl ?_
        refine A_lconst (v := 0) dX1_count_7 rfl ?_
        refine A_ldc2 (v := 15) dX1_count_8 q1405 ?_
        refine A_callS3E (b' := 2) (v := some (.int (bi (inR 0 0 15)))) (τ := σ) (c_in1 σ _ _ _ 0 0 15 rfl (by decide) (by decide)) tX1_in q381 dX1_count_11 (by decide) (Nat.le_of_ble_eq_true rfl) (Nat.le_of_ble_eq_true rfl) ?_
        refine A_callS1E (b' := 2) (v := none) (τ := σ) (c_cArg σ (bi (inR 0 0 15)) (bi_n ck1)) tX1_checkArgument q1406 dX1_count_14 (by decide) (Nat.le_of_ble_eq_true rfl) (Nat.le_of_ble_eq_true rfl) ?_
        refine A_iload_n (i := 1) dX1_count_17 rfl rfl ?_
        refine A_tableIn (tgt := 92) dX1_count_18 (by decide) (by decide) rfl (by decide) ?_
        refine A_aload_n (i := 2) dX1_count_92 rfl rfl ?_
        refine A_getfN cb_X5 h1 6 (Nat.le_of_ble_eq_true rfl) q839 rfl (v := .int (N 6)) rfl dX1_count_93 ?_
        refine A_goto (tgt := 189) dX1_count_96 (by decide) ?_
        exact A_iret dX1_count_189 rfl (⟨(mayQ_0 hs (bi_n ck1) (by decide)), rfl, yσ⟩)
      · skip
        refine A_of rfl (by decide) (Nat.le_of_ble_eq_true rfl) (L0 := [(0, .ref x), (1, .int 1)]) rfl ?_
        refine A_wfh (fun wσ hgσ => ?_)
        have yσ : ext σ σ := ext.rf
        refine A_aload_n (i := 0) dX1_count_0 rfl rfl ?_
        refine A_callV0E (b' := 2) (v := some (.ref (wW W))) (τ := σ) (c_loaded σ x bf dq sv ou bd pe ep W N hX hR9 hD) tX1_loaded q1383 hX rfl rfl dX1_count_1 (by decide) (Nat.le_of_ble_eq_true rfl) (Nat.le_of_ble_eq_true rfl) ?_
        refine A_astore_n (i := 2) dX1_count_4 rfl (Nat.le_of_ble_eq_true rfl) ?_
        refine A_iload_n (i := 1) dX1_count_5 rfl rfl ?_
        refine A_i2l dX1_count_6 rfl ?_
        refine A_lconst (v := 0) dX1_count_7 rfl ?_
        refine A_ldc2 (v := 15) dX1_count_8 q1405 ?_
        refine A_callS3E (b' := 2) (v := some (.int (bi (inR 1 0 15)))) (τ := σ) (c_in1 σ _ _ _ 1 0 15 rfl (by decide) (by decide)) tX1_in q381 dX1_count_11 (by decide) (Nat.le_of_ble_eq_true rfl) (Nat.le_of_ble_eq_true rfl) ?_
        refine A_callS1E (b' := 2) (v := none) (τ := σ) (c_cArg σ (bi (inR 1 0 15)) (bi_n ck1)) tX1_checkArgument q1406 dX1_count_14 (by decide) (Nat.le_of_ble_eq_true rfl) (Nat.le_of_ble_eq_true rfl) ?_
        refine A_iload_n (i := 1) dX1_count_17 rfl rfl ?_
        refine A_tableIn (tgt := 99) dX1_count_18 (by decide) (by decide) rfl (by decide) ?_
        refine A_aload_n (i := 2) dX1_count_99 rfl rfl ?_
        refine A_getfN cb_X5 h1 3 (Nat.le_of_ble_eq_true rfl) q832 rfl (v := .ref (wNL W)) rfl dX1_count_100 ?_
        refine A_callF0E (b' := 2) (v := some (.int (nI (nN N)))) (τ := σ) (c_lSize σ (wNL W) (wNA W) (nN N) mcn h4) tF_size q1410 h4 rfl dX1_count_103 (by decide) (Nat.le_of_ble_eq_true rfl) (Nat.le_of_ble_eq_true rfl) ?_
        refine A_goto (tgt := 189) dX1_count_108 (by decide) ?_
        exact A_iret dX1_count_189 rfl (⟨(mayQ_0 hs (bi_n ck1) (by decide)), (by rw [← hW.2.1.1] <;> rfl), yσ⟩)
      · skip
        refine A_of rfl (by decide) (Nat.le_of_ble_eq_true rfl) (L0 := [(0, .ref x), (1, .int 2)]) rfl ?_
        refine A_wfh (fun wσ hgσ => ?_)
        have yσ : ext σ σ := ext.rf
        refine A_aload_n (i := 0) dX1_count_0 rfl rfl ?_
        refine A_callV0E (b' := 2) (v := some (.ref (wW W))) (τ := σ) (c_loaded σ x bf dq sv ou bd pe ep W N hX hR9 hD) tX1_loaded q1383 hX rfl rfl dX1_count_1 (by decide) (Nat.le_of_ble_eq_true rfl) (Nat.le_of_ble_eq_true rfl) ?_
        refine A_astore_n (i := 2) dX1_count_4 rfl (Nat.le_of_ble_eq_true rfl) ?_
        refine A_iload_n (i := 1) dX1_count_5 rfl rfl ?_
        refine A_i2l dX1_count_6 rfl ?_
        refine A_lconst (v := 0) dX1_count_7 rfl ?_
        refine A_ldc2 (v := 15) dX1_count_8 q1405 ?_
        refine A_callS3E (b' := 2) (v := some (.int (bi (inR 2 0 15)))) (τ := σ) (c_in1 σ _ _ _ 2 0 15 rfl (by decide) (by decide)) tX1_in q381 dX1_count_11 (by decide) (Nat.le_of_ble_eq_true rfl) (Nat.le_of_ble_eq_true rfl) ?_
        refine A_callS1E (b' := 2) (v := none) (τ := σ) (c_cArg σ (bi (inR 2 0 15)) (bi_n ck1)) tX1_checkArgument q1406 dX1_count_14 (by decide) (Nat.le_of_ble_eq_true rfl) (Nat.le_of_ble_eq_true rfl) ?_
        refine A_iload_n (i := 1) dX1_count_17 rfl rfl ?_
        refine A_tableIn (tgt := 111) dX1_count_18 (by decide) (by decide) rfl (by decide) ?_
        refine A_aload_n (i := 2) dX1_count_111 rfl rfl ?_
        refine A_getfN cb_X5 h1 7 (Nat.le_of_ble_eq_true rfl) q842 rfl (v := .int (N 8)) rfl dX1_count_112 ?_
        refine A_goto (tgt := 189) dX1_count_115 (by decide) ?_
        exact A_iret dX1_count_189 rfl (⟨(mayQ_0 hs (bi_n ck1) (by decide)), rfl, yσ⟩)
      · skip
        refine A_of rfl (by decide) (Nat.le_of_ble_eq_true rfl) (L0 := [(0, .ref x), (1, .int 3)]) rfl ?_
        refine A_wfh (fun wσ hgσ => ?_)
        have yσ : ext σ σ := ext.rf
        refine A_aload_n (i := 0) dX1_count_0 rfl rfl ?_
        refine A_callV0E (b' := 2) (v := some (.ref (wW W))) (τ := σ) (c_loaded σ x bf dq sv ou bd pe ep W N hX hR9 hD) tX1_loaded q1383 hX rfl rfl dX1_count_1 (by decide) (Nat.le_of_ble_eq_true rfl) (Nat.le_of_ble_eq_true rfl) ?_
        refine A_astore_n (i := 2) dX1_count_4 rfl (Nat.le_of_ble_eq_true rfl) ?_
        refine A_iload_n (i := 1) dX1_count_5 rfl rfl ?_
        refine A_i2l dX1_count_6 rfl ?_
        refine A_lconst (v := 0) dX1_count_7 rfl ?_
        refine A_ldc2 (v := 15) dX1_count_8 q1405 ?_
        refine A_callS3E (b' := 2) (v := some (.int (bi (inR 3 0 15)))) (τ := σ) (c_in1 σ _ _ _ 3 0 15 rfl (by decide) (by decide)) tX1_in q381 dX1_count_11 (by decide) (Nat.le_of_ble_eq_true rfl) (Nat.le_of_ble_eq_true rfl) ?_
        refine A_callS1E (b' := 2) (v := none) (τ := σ) (c_cArg σ (bi (inR 3 0 15)) (bi_n ck1)) tX1_checkArgument q1406 dX1_count_14 (by decide) (Nat.le_of_ble_eq_true rfl) (Nat.le_of_ble_eq_true rfl) ?_
        refine A_iload_n (i := 1) dX1_count_17 rfl rfl ?_
        refine A_tableIn (tgt := 118) dX1_count_18 (by decide) (by decide) rfl (by decide) ?_
        refine A_aload_n (i := 2) dX1_count_118 rfl rfl ?_
        refine A_getfN cb_X5 h1 0 (Nat.le_of_ble_eq_true rfl) q823 rfl (v := .int (N 9)) rfl dX1_count_119 ?_
        refine A_goto (tgt := 189) dX1_count_122 (by decide) ?_
        exact A_iret dX1_count_189 rfl (⟨(mayQ_0 hs (bi_n ck1) (by decide)), rfl, yσ⟩)
      · skip
        refine A_of rfl (by decide) (Nat.le_of_ble_eq_true rfl) (L0 := [(0, .ref x), (1, .int 4)]) rfl ?_
        refine A_wfh (fun wσ hgσ => ?_)
        have yσ : ext σ σ := ext.rf
        refine A_aload_n (i := 0) dX1_count_0 rfl rfl ?_
        refine A_callV0E (b' := 2) (v := some (.ref (wW W))) (τ := σ) (c_loaded σ x bf dq sv ou bd pe ep W N hX hR9 hD) tX1_loaded q1383 hX rfl rfl dX1_count_1 (by decide) (Nat.le_of_ble_eq_true rfl) (Nat.le_of_ble_eq_true rfl) ?_
        refine A_astore_n (i := 2) dX1_count_4 rfl (Nat.le_of_ble_eq_true rfl) ?_
        refine A_iload_n (i := 1) dX1_count_5 rfl rfl ?_
        refine A_i2l dX1_count_6 rfl ?_
        refine A_lconst (v := 0) dX1_count_7 rfl ?_
        refine A_ldc2 (v := 15) dX1_count_8 q1405 ?_
        refine A_callS3E (b' := 2) (v := some (.int (bi (inR 4 0 15)))) (τ := σ) (c_in1 σ _ _ _ 4 0 15 rfl (by decide) (by decide)) tX1_in q381 dX1_count_11 (by decide) (Nat.le_of_ble_eq_true rfl) (Nat.le_of_ble_eq_true rfl) ?_
        refine A_callS1E (b' := 2) (v := none) (τ := σ) (c_cArg σ (bi (inR 4 0 15)) (bi_n ck1)) tX1_checkArgument q1406 dX1_count_14 (by decide) (Nat.le_of_ble_eq_true rfl) (Nat.le_of_ble_eq_true rfl) ?_
        refine A_iload_n (i := 1) dX1_count_17 rfl rfl ?_
        refine A_tableIn (tgt := 125) dX1_count_18 (by decide) (by decide) rfl (by decide) ?_
        refine A_aload_n (i := 2) dX1_count_125 rfl rfl ?_
        refine A_callV0E (b' := 2) (v := some (.int (nI (nF N)))) (τ := σ) (c_many σ W N hR9 hW) tX5_many q1369 h1 rfl rfl dX1_count_126 (by decide) (Nat.le_of_ble_eq_true rfl) (Nat.le_of_ble_eq_true rfl) ?_
        refine A_goto (tgt := 189) dX1_count_129 (by decide) ?_
        exact A_iret dX1_count_189 rfl (⟨(mayQ_0 hs (bi_n ck1) (by decide)), (by rw [← hW.2.2.2.2.1] <;> rfl), yσ⟩)
      · skip
        refine A_of rfl (by decide) (Nat.le_of_ble_eq_true rfl) (L0 := [(0, .ref x), (1, .int 5)]) rfl ?_
        refine A_wfh (fun wσ hgσ => ?_)
        have yσ : ext σ σ := ext.rf
        refine A_aload_n (i := 0) dX1_count_0 rfl rfl ?_
        refine A_callV0E (b' := 2) (v := some (.ref (wW W))) (τ := σ) (c_loaded σ x bf dq sv ou bd pe ep W N hX hR9 hD) tX1_loaded q1383 hX rfl rfl dX1_count_1 (by decide) (Nat.le_of_ble_eq_true rfl) (Nat.le_of_ble_eq_true rfl) ?_
        refine A_astore_n (i := 2) dX1_count_4 rfl (Nat.le_of_ble_eq_true rfl) ?_
        refine A_iload_n (i := 1) dX1_count_5 rfl rfl ?_
        refine A_i2l dX1_count_6 rfl ?_
        refine A_lconst (v := 0) dX1_count_7 rfl ?_
        refine A_ldc2 (v := 15) dX1_count_8 q1405 ?_
        refine A_callS3E (b' := 2) (v := some (.int (bi (inR 5 0 15)))) (τ := σ) (c_in1 σ _ _ _ 5 0 15 rfl (by decide) (by decide)) tX1_in q381 dX1_count_11 (by decide) (Nat.le_of_ble_eq_true rfl) (Nat.le_of_ble_eq_true rfl) ?_
        refine A_callS1E (b' := 2) (v := none) (τ := σ) (c_cArg σ (bi (inR 5 0 15)) (bi_n ck1)) tX1_checkArgument q1406 dX1_count_14 (by decide) (Nat.le_of_ble_eq_true rfl) (Nat.le_of_ble_eq_true rfl) ?_
        refine A_iload_n (i := 1) dX1_count_17 rfl rfl ?_
        refine A_tableIn (tgt := 132) dX1_count_18 (by decide) (by decide) rfl (by decide) ?_
        refine A_aload_n (i := 2) dX1_count_132 rfl rfl ?_
        refine A_getfN cb_X5 h1 8 (Nat.le_of_ble_eq_true rfl) q844 rfl (v := .int (N 0)) rfl dX1_count_133 ?_
        refine A_goto (tgt := 189) dX1_count_136 (by decide) ?_
        exact A_iret dX1_count_189 rfl (⟨(mayQ_0 hs (bi_n ck1) (by decide)), rfl, yσ⟩)
      · skip
        refine A_of rfl (by decide) (Nat.le_of_ble_eq_true rfl) (L0 := [(0, .ref x), (1, .int 6)]) rfl ?_
        refine A_wfh (fun wσ hgσ => ?_)
        have yσ : ext σ σ := ext.rf
        refine A_aload_n (i := 0) dX1_count_0 rfl rfl ?_
        refine A_callV0E (b' := 2) (v := some (.ref (wW W))) (τ := σ) (c_loaded σ x bf dq sv ou bd pe ep W N hX hR9 hD) tX1_loaded q1383 hX rfl rfl dX1_count_1 (by decide) (Nat.le_of_ble_eq_true rfl) (Nat.le_of_ble_eq_true rfl) ?_
        refine A_astore_n (i := 2) dX1_count_4 rfl (Nat.le_of_ble_eq_true rfl) ?_
        refine A_iload_n (i := 1) dX1_count_5 rfl rfl ?_
        refine A_i2l dX1_count_6 rfl ?_
        refine A_lconst (v := 0) dX1_count_7 rfl ?_
        refine A_ldc2 (v := 15) dX1_count_8 q1405 ?_
        refine A_callS3E (b' := 2) (v := some (.int (bi (inR 6 0 15)))) (τ := σ) (c_in1 σ _ _ _ 6 0 15 rfl (by decide) (by decide)) tX1_in q381 dX1_count_11 (by decide) (Nat.le_of_ble_eq_true rfl) (Nat.le_of_ble_eq_true rfl) ?_
        refine A_callS1E (b' := 2) (v := none) (τ := σ) (c_cArg σ (bi (inR 6 0 15)) (bi_n ck1)) tX1_checkArgument q1406 dX1_count_14 (by decide) (Nat.le_of_ble_eq_true rfl) (Nat.le_of_ble_eq_true rfl) ?_
        refine A_iload_n (i := 1) dX1_count_17 rfl rfl ?_
        refine A_tableIn (tgt := 139) dX1_count_18 (by decide) (by decide) rfl (by decide) ?_
        refine A_aload_n (i := 2) dX1_count_139 rfl rfl ?_
        refine A_getfN cb_X5 h1 9 (Nat.le_of_ble_eq_true rfl) q847 rfl (v := .int (N 1)) rfl dX1_count_140 ?_
        refine A_goto (tgt := 189) dX1_count_143 (by decide) ?_
        exact A_iret dX1_count_189 rfl (⟨(mayQ_0 hs (bi_n ck1) (by decide)), rfl, yσ⟩)
      · skip
        refine A_of rfl (by decide) (Nat.le_of_ble_eq_true rfl) (L0 := [(0, .ref x), (1, .int 7)]) rfl ?_
        refine A_wfh (fun wσ hgσ => ?_)
        have yσ : ext σ σ := ext.rf
        refine A_aload_n (i := 0) dX1_count_0 rfl rfl ?_
        refine A_callV0E (b' := 2) (v := some (.ref (wW W))) (τ := σ) (c_loaded σ x bf dq sv ou bd pe ep W N hX hR9 hD) tX1_loaded q1383 hX rfl rfl dX1_count_1 (by decide) (Nat.le_of_ble_eq_true rfl) (Nat.le_of_ble_eq_true rfl) ?_
        refine A_astore_n (i := 2) dX1_count_4 rfl (Nat.le_of_ble_eq_true rfl) ?_
        refine A_iload_n (i := 1) dX1_count_5 rfl rfl ?_
        refine A_i2l dX1_count_6 rfl ?_
        refine A_lconst (v := 0) dX1_count_7 rfl ?_
        refine A_ldc2 (v := 15) dX1_count_8 q1405 ?_
        refine A_callS3E (b' := 2) (v := some (.int (bi (inR 7 0 15)))) (τ := σ) (c_in1 σ _ _ _ 7 0 15 rfl (by decide) (by decide)) tX1_in q381 dX1_count_11 (by decide) (Nat.le_of_ble_eq_true rfl) (Nat.le_of_ble_eq_true rfl) ?_
        refine A_callS1E (b' := 2) (v := none) (τ := σ) (c_cArg σ (bi (inR 7 0 15)) (bi_n ck1)) tX1_checkArgument q1406 dX1_count_14 (by decide) (Nat.le_of_ble_eq_true rfl) (Nat.le_of_ble_eq_true rfl) ?_
        refine A_iload_n (i := 1) dX1_count_17 rfl rfl ?_
        refine A_tableIn (tgt := 146) dX1_count_18 (by decide) (by decide) rfl (by decide) ?_
        refine A_aload_n (i := 2) dX1_count_146 rfl rfl ?_
        refine A_iload_n (i := 1) dX1_count_147 rfl rfl ?_
        refine A_bipush (v := 7) dX1_count_148 (by decide) ?_
        refine A_isub dX1_count_150 ?_
        refine A_int (w := 0) (by decide) ?_
        refine A_callV1 (b' := 1) (c_at5 σ W N 0 hR9 hD) tX5_at q1411 h1 rfl rfl dX1_count_151 (by decide) (Nat.le_of_ble_eq_true rfl) (Nat.le_of_ble_eq_true rfl) (fun w9 σ1 h9 => ?_) (fun E9 q9 τ9 h9 => h9.elim)
        obtain ⟨e9, xσ1⟩ := h9
        subst e9
        refine A_wfh (fun wσ1 hgσ1 => ?_)
        have yσ1 : ext σ σ1 := yσ.tr (xσ1)
        have fσ1_0 : σ1.1 (wW W) = some (.inr (.inl (4, [.int (N 9), .ref (wR W), .ref (wM W), .ref (wNL W), .ref (wFL W), .ref (wUN W), .int (N 6), .int (N 8), .int (N 0), .int (N 1), .int (N 2), .int (N 3), .int (N 4), .int (N 5), .int (N 11)]))) := xσ1.at wσ h1
        have fσ1_1 : σ1.1 (wFL W) = some (.inr (.inl (14, [.int mcf, .ref (wFA W), .int (nI (nF N))]))) := xσ1.at wσ h5
        have fσ1_2 : σ1.1 (wFA W) = some (.inl (.object "java/lang/Object", 12, .inr (.inr (.inr (.inr ffA))))) := xσ1.at wσ h5p
        have fσ1_3 : σ1.1 (wNL W) = some (.inr (.inl (14, [.int mcn, .ref (wNA W), .int (nI (nN N))]))) := xσ1.at wσ h4
        have fσ1_4 : σ1.1 (wNA W) = some (.inl (.object "java/lang/Object", 4, .inr (.inr (.inr (.inr fnA))))) := xσ1.at wσ h4p
        have fσ1_5 : σ1.1 (wR W) = some (.inl (.int, 6, .inl fr)) := xσ1.at wσ h2
        have fσ1_6 : σ1.1 (wM W) = some (.inl (.int, 3, .inl fm)) := xσ1.at wσ h3
        have fσ1_7 : σ1.1 (wUN W) = some (.inl (.object "FlagLaundry$Test", 7, .inr (.inr (.inr (.inr fu))))) := xσ1.at wσ h6
        have fσ1_8 : σ1.1 x = some (.inr (.inl (0, [.ref bf, .int bd, .int pe, .int ep, .ref (wW W), .ref dq, .ref sv, .ref ou]))) := xσ1.at wσ hX
        have hRσ1 : RW g σ1 W N := hR9.ext wσ xσ1
        refine A_goto (tgt := 189) dX1_count_154 (by decide) ?_
        exact A_iret dX1_count_189 rfl (⟨(mayQ_0 hs (bi_n ck1) (by decide)), rfl, yσ1⟩)
      · skip
        refine A_of rfl (by decide) (Nat.le_of_ble_eq_true rfl) (L0 := [(0, .ref x), (1, .int 8)]) rfl ?_
        refine A_wfh (fun wσ hgσ => ?_)
        have yσ : ext σ σ := ext.rf
        refine A_aload_n (i := 0) dX1_count_0 rfl rfl ?_
        refine A_callV0E (b' := 2) (v := some (.ref (wW W))) (τ := σ) (c_loaded σ x bf dq sv ou bd pe ep W N hX hR9 hD) tX1_loaded q1383 hX rfl rfl dX1_count_1 (by decide) (Nat.le_of_ble_eq_true rfl) (Nat.le_of_ble_eq_true rfl) ?_
        refine A_astore_n (i := 2) dX1_count_4 rfl (Nat.le_of_ble_eq_true rfl) ?_
        refine A_iload_n (i := 1) dX1_count_5 rfl rfl ?_
        refine A_i2l dX1_count_6 rfl ?_
        refine A_lconst (v := 0) dX1_count_7 rfl ?_
        refine A_ldc2 (v := 15) dX1_count_8 q1405 ?_
        refine A_callS3E (b' := 2) (v := some (.int (bi (inR 8 0 15)))) (τ := σ) (c_in1 σ _ _ _ 8 0 15 rfl (by decide) (by decide)) tX1_in q381 dX1_count_11 (by decide) (Nat.le_of_ble_eq_true rfl) (Nat.le_of_ble_eq_true rfl) ?_
        refine A_callS1E (b' := 2) (v := none) (τ := σ) (c_cArg σ (bi (inR 8 0 15)) (bi_n ck1)) tX1_checkArgument q1406 dX1_count_14 (by decide) (Nat.le_of_ble_eq_true rfl) (Nat.le_of_ble_eq_true rfl) ?_
        refine A_iload_n (i := 1) dX1_count_17 rfl rfl ?_
        refine A_tableIn (tgt := 146) dX1_count_18 (by decide) (by decide) rfl (by decide) ?_
        refine A_aload_n (i := 2) dX1_count_146 rfl rfl ?_
        refine A_iload_n (i := 1) dX1_count_147 rfl rfl ?_
        refine A_bipush (v := 7) dX1_count_148 (by decide) ?_
        refine A_isub dX1_count_150 ?_
        refine A_int (w := 1) (by decide) ?_
        refine A_callV1 (b' := 1) (c_at5 σ W N 1 hR9 hD) tX5_at q1411 h1 rfl rfl dX1_count_151 (by decide) (Nat.le_of_ble_eq_true rfl) (Nat.le_of_ble_eq_true rfl) (fun w9 σ1 h9 => ?_) (fun E9 q9 τ9 h9 => h9.elim)
        obtain ⟨e9, xσ1⟩ := h9
        subst e9
        refine A_wfh (fun wσ1 hgσ1 => ?_)
        have yσ1 : ext σ σ1 := yσ.tr (xσ1)
        have fσ1_0 : σ1.1 (wW W) = some (.inr (.inl (4, [.int (N 9), .ref (wR W), .ref (wM W), .ref (wNL W), .ref (wFL W), .ref (wUN W), .int (N 6), .int (N 8), .int (N 0), .int (N 1), .int (N 2), .int (N 3), .int (N 4), .int (N 5), .int (N 11)]))) := xσ1.at wσ h1
        have fσ1_1 : σ1.1 (wFL W) = some (.inr (.inl (14, [.int mcf, .ref (wFA W), .int (nI (nF N))]))) := xσ1.at wσ h5
        have fσ1_2 : σ1.1 (wFA W) = some (.inl (.object "java/lang/Object", 12, .inr (.inr (.inr (.inr ffA))))) := xσ1.at wσ h5p
        have fσ1_3 : σ1.1 (wNL W) = some (.inr (.inl (14, [.int mcn, .ref (wNA W), .int (nI (nN N))]))) := xσ1.at wσ h4
        have fσ1_4 : σ1.1 (wNA W) = some (.inl (.object "java/lang/Object", 4, .inr (.inr (.inr (.inr fnA))))) := xσ1.at wσ h4p
        have fσ1_5 : σ1.1 (wR W) = some (.inl (.int, 6, .inl fr)) := xσ1.at wσ h2
        have fσ1_6 : σ1.1 (wM W) = some (.inl (.int, 3, .inl fm)) := xσ1.at wσ h3
        have fσ1_7 : σ1.1 (wUN W) = some (.inl (.object "FlagLaundry$Test", 7, .inr (.inr (.inr (.inr fu))))) := xσ1.at wσ h6
        have fσ1_8 : σ1.1 x = some (.inr (.inl (0, [.ref bf, .int bd, .int pe, .int ep, .ref (wW W), .ref dq, .ref sv, .ref ou]))) := xσ1.at wσ hX
        have hRσ1 : RW g σ1 W N := hR9.ext wσ xσ1
        refine A_goto (tgt := 189) dX1_count_154 (by decide) ?_
        exact A_iret dX1_count_189 rfl (⟨(mayQ_0 hs (bi_n ck1) (by decide)), rfl, yσ1⟩)
      · skip
        refine A_of rfl (by decide) (Nat.le_of_ble_eq_true rfl) (L0 := [(0, .ref x), (1, .int 9)]) rfl ?_
        refine A_wfh (fun wσ hgσ => ?_)
        have yσ : ext σ σ := ext.rf
        refine A_aload_n (i := 0) dX1_count_0 rfl rfl ?_
        refine A_callV0E (b' := 2) (v := some (.ref (wW W))) (τ := σ) (c_loaded σ x bf dq sv ou bd pe ep W N hX hR9 hD) tX1_loaded q1383 hX rfl rfl dX1_count_1 (by decide) (Nat.le_of_ble_eq_true rfl) (Nat.le_of_ble_eq_true rfl) ?_
        refine A_astore_n (i := 2) dX1_count_4 rfl (Nat.le_of_ble_eq_true rfl) ?_
        refine A_iload_n (i := 1) dX1_count_5 rfl rfl ?_
        refine A_i2l dX1_count_6 rfl ?_
        refine A_lconst (v := 0) dX1_count_7 rfl ?_
        refine A_ldc2 (v := 15) dX1_count_8 q1405 ?_
        refine A_callS3E (b' := 2) (v := some (.int (bi (inR 9 0 15)))) (τ := σ) (c_in1 σ _ _ _ 9 0 15 rfl (by decide) (by decide)) tX1_in q381 dX1_count_11 (by decide) (Nat.le_of_ble_eq_true rfl) (Nat.le_of_ble_eq_true rfl) ?_
        refine A_callS1E (b' := 2) (v := none) (τ := σ) (c_cArg σ (bi (inR 9 0 15)) (bi_n ck1)) tX1_checkArgument q1406 dX1_count_14 (by decide) (Nat.le_of_ble_eq_true rfl) (Nat.le_of_ble_eq_true rfl) ?_
        refine A_iload_n (i := 1) dX1_count_17 rfl rfl ?_
        refine A_tableIn (tgt := 146) dX1_count_18 (by decide) (by decide) rfl (by decide) ?_
        refine A_aload_n (i := 2) dX1_count_146 rfl rfl ?_
        refine A_iload_n (i := 1) dX1_count_147 rfl rfl ?_
        refine A_bipush (v := 7) dX1_count_148 (by decide) ?_
        refine A_isub dX1_count_150 ?_
        refine A_int (w := 2) (by decide) ?_
        refine A_callV1 (b' := 1) (c_at5 σ W N 2 hR9 hD) tX5_at q1411 h1 rfl rfl dX1_count_151 (by decide) (Nat.le_of_ble_eq_true rfl) (Nat.le_of_ble_eq_true rfl) (fun w9 σ1 h9 => ?_) (fun E9 q9 τ9 h9 => h9.elim)
        obtain ⟨e9, xσ1⟩ := h9
        subst e9
        refine A_wfh (fun wσ1 hgσ1 => ?_)
        have yσ1 : ext σ σ1 := yσ.tr (xσ1)
        have fσ1_0 : σ1.1 (wW W) = some (.inr (.inl (4, [.int (N 9), .ref (wR W), .ref (wM W), .ref (wNL W), .ref (wFL W), .ref (wUN W), .int (N 6), .int (N 8), .int (N 0), .int (N 1), .int (N 2), .int (N 3), .int (N 4), .int (N 5), .int (N 11)]))) := xσ1.at wσ h1
        have fσ1_1 : σ1.1 (wFL W) = some (.inr (.inl (14, [.int mcf, .ref (wFA W), .int (nI (nF N))]))) := xσ1.at wσ h5
        have fσ1_2 : σ1.1 (wFA W) = some (.inl (.object "java/lang/Object", 12, .inr (.inr (.inr (.inr ffA))))) := xσ1.at wσ h5p
        have fσ1_3 : σ1.1 (wNL W) = some (.inr (.inl (14, [.int mcn, .ref (wNA W), .int (nI (nN N))]))) := xσ1.at wσ h4
        have fσ1_4 : σ1.1 (wNA W) = some (.inl (.object "java/lang/Object", 4, .inr (.inr (.inr (.inr fnA))))) := xσ1.at wσ h4p
        have fσ1_5 : σ1.1 (wR W) = some (.inl (.int, 6, .inl fr)) := xσ1.at wσ h2
        have fσ1_6 : σ1.1 (wM W) = some (.inl (.int, 3, .inl fm)) := xσ1.at wσ h3
        have fσ1_7 : σ1.1 (wUN W) = some (.inl (.object "FlagLaundry$Test", 7, .inr (.inr (.inr (.inr fu))))) := xσ1.at wσ h6
        have fσ1_8 : σ1.1 x = some (.inr (.inl (0, [.ref bf, .int bd, .int pe, .int ep, .ref (wW W), .ref dq, .ref sv, .ref ou]))) := xσ1.at wσ hX
        have hRσ1 : RW g σ1 W N := hR9.ext wσ xσ1
        refine A_goto (tgt := 189) dX1_count_154 (by decide) ?_
        exact A_iret dX1_count_189 rfl (⟨(mayQ_0 hs (bi_n ck1) (by decide)), rfl, yσ1⟩)
      · skip
        refine A_of rfl (by decide) (Nat.le_of_ble_eq_true rfl) (L0 := [(0, .ref x), (1, .int 10)]) rfl ?_
        refine A_wfh (fun wσ hgσ => ?_)
        have yσ : ext σ σ := ext.rf
        refine A_aload_n (i := 0) dX1_count_0 rfl rfl ?_
        refine A_callV0E (b' := 2) (v := some (.ref (wW W))) (τ := σ) (c_loaded σ x bf dq sv ou bd pe ep W N hX hR9 hD) tX1_loaded q1383 hX rfl rfl dX1_count_1 (by decide) (Nat.le_of_ble_eq_true rfl) (Nat.le_of_ble_eq_true rfl) ?_
        refine A_astore_n (i := 2) dX1_count_4 rfl (Nat.le_of_ble_eq_true rfl) ?_
        refine A_iload_n (i := 1) dX1_count_5 rfl rfl ?_
        refine A_i2l dX1_count_6 rfl ?_
        refine A_lconst (v := 0) dX1_count_7 rfl ?_
        refine A_ldc2 (v := 15) dX1_count_8 q1405 ?_
        refine A_callS3E (b' := 2) (v := some (.int (bi (inR 10 0 15)))) (τ := σ) (c_in1 σ _ _ _ 10 0 15 rfl (by decide) (by decide)) tX1_in q381 dX1_count_11 (by decide) (Nat.le_of_ble_eq_true rfl) (Nat.le_of_ble_eq_true rfl) ?_
        refine A_callS1E (b' := 2) (v := none) (τ := σ) (c_cArg σ (bi (inR 10 0 15)) (bi_n ck1)) tX1_checkArgument q1406 dX1_count_14 (by decide) (Nat.le_of_ble_eq_true rfl) (Nat.le_of_ble_eq_true rfl) ?_
        refine A_iload_n (i := 1) dX1_count_17 rfl rfl ?_
        refine A_tableIn (tgt := 146) dX1_count_18 (by decide) (by decide) rfl (by decide) ?_
        refine A_aload_n (i := 2) dX1_count_146 rfl rfl ?_
        refine A_iload_n (i := 1) dX1_count_147 rfl rfl ?_
        refine A_bipush (v := 7) dX1_count_148 (by decide) ?_
        refine A_isub dX1_count_150 ?_
        refine A_int (w := 3) (by decide) ?_
        refine A_callV1 (b' := 1) (c_at5 σ W N 3 hR9 hD) tX5_at q1411 h1 rfl rfl dX1_count_151 (by decide) (Nat.le_of_ble_eq_true rfl) (Nat.le_of_ble_eq_true rfl) (fun w9 σ1 h9 => ?_) (fun E9 q9 τ9 h9 => h9.elim)
        obtain ⟨e9, xσ1⟩ := h9
        subst e9
        refine A_wfh (fun wσ1 hgσ1 => ?_)
        have yσ1 : ext σ σ1 := yσ.tr (xσ1)
        have fσ1_0 : σ1.1 (wW W) = some (.inr (.inl (4, [.int (N 9), .ref (wR W), .ref (wM W), .ref (wNL W), .ref (wFL W), .ref (wUN W), .int (N 6), .int (N 8), .int (N 0), .int (N 1), .int (N 2), .int (N 3), .int (N 4), .int (N 5), .int (N 11)]))) := xσ1.at wσ h1
        have fσ1_1 : σ1.1 (wFL W) = some (.inr (.inl (14, [.int mcf, .ref (wFA W), .int (nI (nF N))]))) := xσ1.at wσ h5
        have fσ1_2 : σ1.1 (wFA W) = some (.inl (.object "java/lang/Object", 12, .inr (.inr (.inr (.inr ffA))))) := xσ1.at wσ h5p
        have fσ1_3 : σ1.1 (wNL W) = some (.inr (.inl (14, [.int mcn, .ref (wNA W), .int (nI (nN N))]))) := xσ1.at wσ h4
        have fσ1_4 : σ1.1 (wNA W) = some (.inl (.object "java/lang/Object", 4, .inr (.inr (.inr (.inr fnA))))) := xσ1.at wσ h4p
        have fσ1_5 : σ1.1 (wR W) = some (.inl (.int, 6, .inl fr)) := xσ1.at wσ h2
        have fσ1_6 : σ1.1 (wM W) = some (.inl (.int, 3, .inl fm)) := xσ1.at wσ h3
        have fσ1_7 : σ1.1 (wUN W) = some (.inl (.object "FlagLaundry$Test", 7, .inr (.inr (.inr (.inr fu))))) := xσ1.at wσ h6
        have fσ1_8 : σ1.1 x = some (.inr (.inl (0, [.ref bf, .int bd, .int pe, .int ep, .ref (wW W), .ref dq, .ref sv, .ref ou]))) := xσ1.at wσ hX
        have hRσ1 : RW g σ1 W N := hR9.ext wσ xσ1
        refine A_goto (tgt := 189) dX1_count_154 (by decide) ?_
        exact A_iret dX1_count_189 rfl (⟨(mayQ_0 hs (bi_n ck1) (by decide)), rfl, yσ1⟩)
      · skip
        refine A_of rfl (by decide) (Nat.le_of_ble_eq_true rfl) (L0 := [(0, .ref x), (1, .int 11)]) rfl ?_
        refine A_wfh (fun wσ hgσ => ?_)
        have yσ : ext σ σ := ext.rf
        refine A_aload_n (i := 0) dX1_count_0 rfl rfl ?_
        refine A_callV0E (b' := 2) (v := some (.ref (wW W))) (τ := σ) (c_loaded σ x bf dq sv ou bd pe ep W N hX hR9 hD) tX1_loaded q1383 hX rfl rfl dX1_count_1 (by decide) (Nat.le_of_ble_eq_true rfl) (Nat.le_of_ble_eq_true rfl) ?_
        refine A_astore_n (i := 2) dX1_count_4 rfl (Nat.le_of_ble_eq_true rfl) ?_
        refine A_iload_n (i := 1) dX1_count_5 rfl rfl ?_
        refine A_i2l dX1_count_6 rfl ?_
        refine A_lconst (v := 0) dX1_count_7 rfl ?_
        refine A_ldc2 (v := 15) dX1_count_8 q1405 ?_
        refine A_callS3E (b' := 2) (v := some (.int (bi (inR 11 0 15)))) (τ := σ) (c_in1 σ _ _ _ 11 0 15 rfl (by decide) (by decide)) tX1_in q381 dX1_count_11 (by decide) (Nat.le_of_ble_eq_true rfl) (Nat.le_of_ble_eq_true rfl) ?_
        refine A_callS1E (b' := 2) (v := none) (τ := σ) (c_cArg σ (bi (inR 11 0 15)) (bi_n ck1)) tX1_checkArgument q1406 dX1_count_14 (by decide) (Nat.le_of_ble_eq_true rfl) (Nat.le_of_ble_eq_true rfl) ?_
        refine A_iload_n (i := 1) dX1_count_17 rfl rfl ?_
        refine A_tableIn (tgt := 157) dX1_count_18 (by decide) (by decide) rfl (by decide) ?_
        refine A_aload_n (i := 2) dX1_count_157 rfl rfl ?_
        refine A_getfN cb_X5 h1 10 (Nat.le_of_ble_eq_true rfl) q849 rfl (v := .int (N 2)) rfl dX1_count_158 ?_
        refine A_goto (tgt := 189) dX1_count_161 (by decide) ?_
        exact A_iret dX1_count_189 rfl (⟨(mayQ_0 hs (bi_n ck1) (by decide)), rfl, yσ⟩)
      · skip
        refine A_of rfl (by decide) (Nat.le_of_ble_eq_true rfl) (L0 := [(0, .ref x), (1, .int 12)]) rfl ?_
        refine A_wfh (fun wσ hgσ => ?_)
        have yσ : ext σ σ := ext.rf
        refine A_aload_n (i := 0) dX1_count_0 rfl rfl ?_
        refine A_callV0E (b' := 2) (v := some (.ref (wW W))) (τ := σ) (c_loaded σ x bf dq sv ou bd pe ep W N hX hR9 hD) tX1_loaded q1383 hX rfl rfl dX1_count_1 (by decide) (Nat.le_of_ble_eq_true rfl) (Nat.le_of_ble_eq_true rfl) ?_
        refine A_astore_n (i := 2) dX1_count_4 rfl (Nat.le_of_ble_eq_true rfl) ?_
        refine A_iload_n (i := 1) dX1_count_5 rfl rfl ?_
        refine A_i2l dX1_count_6 rfl ?_
        refine A_lconst (v := 0) dX1_count_7 rfl ?_
        refine A_ldc2 (v := 15) dX1_count_8 q1405 ?_
        refine A_callS3E (b' := 2) (v := some (.int (bi (inR 12 0 15)))) (τ := σ) (c_in1 σ _ _ _ 12 0 15 rfl (by decide) (by decide)) tX1_in q381 dX1_count_11 (by decide) (Nat.le_of_ble_eq_true rfl) (Nat.le_of_ble_eq_true rfl) ?_
        refine A_callS1E (b' := 2) (v := none) (τ := σ) (c_cArg σ (bi (inR 12 0 15)) (bi_n ck1)) tX1_checkArgument q1406 dX1_count_14 (by decide) (Nat.le_of_ble_eq_true rfl) (Nat.le_of_ble_eq_true rfl) ?_
        refine A_iload_n (i := 1) dX1_count_17 rfl rfl ?_
        refine A_tableIn (tgt := 164) dX1_count_18 (by decide) (by decide) rfl (by decide) ?_
        refine A_aload_n (i := 2) dX1_count_164 rfl rfl ?_
        refine A_getfN cb_X5 h1 11 (Nat.le_of_ble_eq_true rfl) q851 rfl (v := .int (N 3)) rfl dX1_count_165 ?_
        refine A_goto (tgt := 189) dX1_count_168 (by decide) ?_
        exact A_iret dX1_count_189 rfl (⟨(mayQ_0 hs (bi_n ck1) (by decide)), rfl, yσ⟩)
      · skip
        refine A_of rfl (by decide) (Nat.le_of_ble_eq_true rfl) (L0 := [(0, .ref x), (1, .int 13)]) rfl ?_
        refine A_wfh (fun wσ hgσ => ?_)
        have yσ : ext σ σ := ext.rf
        refine A_aload_n (i := 0) dX1_count_0 rfl rfl ?_
        refine A_callV0E (b' := 2) (v := some (.ref (wW W))) (τ := σ) (c_loaded σ x bf dq sv ou bd pe ep W N hX hR9 hD) tX1_loaded q1383 hX rfl rfl dX1_count_1 (by decide) (Nat.le_of_ble_eq_true rfl) (Nat.le_of_ble_eq_true rfl) ?_
        refine A_astore_n (i := 2) dX1_count_4 rfl (Nat.le_of_ble_eq_true rfl) ?_
        refine A_iload_n (i := 1) dX1_count_5 rfl rfl ?_
        refine A_i2l dX1_count_6 rfl ?_
        refine A_lconst (v := 0) dX1_count_7 rfl ?_
        refine A_ldc2 (v := 15) dX1_count_8 q1405 ?_
        refine A_callS3E (b' := 2) (v := some (.int (bi (inR 13 0 15)))) (τ := σ) (c_in1 σ _ _ _ 13 0 15 rfl (by decide) (by decide)) tX1_in q381 dX1_count_11 (by decide) (Nat.le_of_ble_eq_true rfl) (Nat.le_of_ble_eq_true rfl) ?_
        refine A_callS1E (b' := 2) (v := none) (τ := σ) (c_cArg σ (bi (inR 13 0 15)) (bi_n ck1)) tX1_checkArgument q1406 dX1_count_14 (by decide) (Nat.le_of_ble_eq_true rfl) (Nat.le_of_ble_eq_true rfl) ?_
        refine A_iload_n (i := 1) dX1_count_17 rfl rfl ?_
        refine A_tableIn (tgt := 171) dX1_count_18 (by decide) (by decide) rfl (by decide) ?_
        refine A_aload_n (i := 2) dX1_count_171 rfl rfl ?_
        refine A_getfN cb_X5 h1 12 (Nat.le_of_ble_eq_true rfl) q853 rfl (v := .int (N 4)) rfl dX1_count_172 ?_
        refine A_goto (tgt := 189) dX1_count_175 (by decide) ?_
        exact A_iret dX1_count_189 rfl (⟨(mayQ_0 hs (bi_n ck1) (by decide)), rfl, yσ⟩)
      · skip
        refine A_of rfl (by decide) (Nat.le_of_ble_eq_true rfl) (L0 := [(0, .ref x), (1, .int 14)]) rfl ?_
        refine A_wfh (fun wσ hgσ => ?_)
        have yσ : ext σ σ := ext.rf
        refine A_aload_n (i := 0) dX1_count_0 rfl rfl ?_
        refine A_callV0E (b' := 2) (v := some (.ref (wW W))) (τ := σ) (c_loaded σ x bf dq sv ou bd pe ep W N hX hR9 hD) tX1_loaded q1383 hX rfl rfl dX1_count_1 (by decide) (Nat.le_of_ble_eq_true rfl) (Nat.le_of_ble_eq_true rfl) ?_
        refine A_astore_n (i := 2) dX1_count_4 rfl (Nat.le_of_ble_eq_true rfl) ?_
        refine A_iload_n (i := 1) dX1_count_5 rfl rfl ?_
        refine A_i2l dX1_count_6 rfl ?_
        refine A_lconst (v := 0) dX1_count_7 rfl ?_
        refine A_ldc2 (v := 15) dX1_count_8 q1405 ?_
        refine A_callS3E (b' := 2) (v := some (.int (bi (inR 14 0 15)))) (τ := σ) (c_in1 σ _ _ _ 14 0 15 rfl (by decide) (by decide)) tX1_in q381 dX1_count_11 (by decide) (Nat.le_of_ble_eq_true rfl) (Nat.le_of_ble_eq_true rfl) ?_
        refine A_callS1E (b' := 2) (v := none) (τ := σ) (c_cArg σ (bi (inR 14 0 15)) (bi_n ck1)) tX1_checkArgument q1406 dX1_count_14 (by decide) (Nat.le_of_ble_eq_true rfl) (Nat.le_of_ble_eq_true rfl) ?_
        refine A_iload_n (i := 1) dX1_count_17 rfl rfl ?_
        refine A_tableIn (tgt := 178) dX1_count_18 (by decide) (by decide) rfl (by decide) ?_
        refine A_aload_n (i := 2) dX1_count_178 rfl rfl ?_
        refine A_getfN cb_X5 h1 13 (Nat.le_of_ble_eq_true rfl) q855 rfl (v := .int (N 5)) rfl dX1_count_179 ?_
        refine A_goto (tgt := 189) dX1_count_182 (by decide) ?_
        exact A_iret dX1_count_189 rfl (⟨(mayQ_0 hs (bi_n ck1) (by decide)), rfl, yσ⟩)
      · skip
        refine A_of rfl (by decide) (Nat.le_of_ble_eq_true rfl) (L0 := [(0, .ref x), (1, .int 15)]) rfl ?_
        refine A_wfh (fun wσ hgσ => ?_)
        have yσ : ext σ σ := ext.rf
        refine A_aload_n (i := 0) dX1_count_0 rfl rfl ?_
        refine A_callV0E (b' := 2) (v := some (.ref (wW W))) (τ := σ) (c_loaded σ x bf dq sv ou bd pe ep W N hX hR9 hD) tX1_loaded q1383 hX rfl rfl dX1_count_1 (by decide) (Nat.le_of_ble_eq_true rfl) (Nat.le_of_ble_eq_true rfl) ?_
        refine A_astore_n (i := 2) dX1_count_4 rfl (Nat.le_of_ble_eq_true rfl) ?_
        refine A_iload_n (i := 1) dX1_count_5 rfl rfl ?_
        refine A_i2l dX1_count_6 rfl ?_
        refine A_lconst (v := 0) dX1_count_7 rfl ?_
        refine A_ldc2 (v := 15) dX1_count_8 q1405 ?_
        refine A_callS3E (b' := 2) (v := some (.int (bi (inR 15 0 15)))) (τ := σ) (c_in1 σ _ _ _ 15 0 15 rfl (by decide) (by decide)) tX1_in q381 dX1_count_11 (by decide) (Nat.le_of_ble_eq_true rfl) (Nat.le_of_ble_eq_true rfl) ?_
        refine A_callS1E (b' := 2) (v := none) (τ := σ) (c_cArg σ (bi (inR 15 0 15)) (bi_n ck1)) tX1_checkArgument q1406 dX1_count_14 (by decide) (Nat.le_of_ble_eq_true rfl) (Nat.le_of_ble_eq_true rfl) ?_
        refine A_iload_n (i := 1) dX1_count_17 rfl rfl ?_
        refine A_tableOut (tgt := 185) dX1_count_18 (by decide) (by decide) ?_
        refine A_aload_n (i := 2) dX1_count_185 rfl rfl ?_
        refine A_callV0 (b' := 1) (c_ready5 σ W N hR9 hD) tX5_ready q1423 h1 rfl rfl dX1_count_186 (by decide) (Nat.le_of_ble_eq_true rfl) (Nat.le_of_ble_eq_true rfl) (fun w9 σ1 h9 => ?_) (fun E9 q9 τ9 h9 => h9.elim)
        obtain ⟨e9, xσ1⟩ := h9
        subst e9
        refine A_wfh (fun wσ1 hgσ1 => ?_)
        have yσ1 : ext σ σ1 := yσ.tr (xσ1)
        have fσ1_0 : σ1.1 (wW W) = some (.inr (.inl (4, [.int (N 9), .ref (wR W), .ref (wM W), .ref (wNL W), .ref (wFL W), .ref (wUN W), .int (N 6), .int (N 8), .int (N 0), .int (N 1), .int (N 2), .int (N 3), .int (N 4), .int (N 5), .int (N 11)]))) := xσ1.at wσ h1
        have fσ1_1 : σ1.1 (wFL W) = some (.inr (.inl (14, [.int mcf, .ref (wFA W), .int (nI (nF N))]))) := xσ1.at wσ h5
        have fσ1_2 : σ1.1 (wFA W) = some (.inl (.object "java/lang/Object", 12, .inr (.inr (.inr (.inr ffA))))) := xσ1.at wσ h5p
        have fσ1_3 : σ1.1 (wNL W) = some (.inr (.inl (14, [.int mcn, .ref (wNA W), .int (nI (nN N))]))) := xσ1.at wσ h4
        have fσ1_4 : σ1.1 (wNA W) = some (.inl (.object "java/lang/Object", 4, .inr (.inr (.inr (.inr fnA))))) := xσ1.at wσ h4p
        have fσ1_5 : σ1.1 (wR W) = some (.inl (.int, 6, .inl fr)) := xσ1.at wσ h2
        have fσ1_6 : σ1.1 (wM W) = some (.inl (.int, 3, .inl fm)) := xσ1.at wσ h3
        have fσ1_7 : σ1.1 (wUN W) = some (.inl (.object "FlagLaundry$Test", 7, .inr (.inr (.inr (.inr fu))))) := xσ1.at wσ h6
        have fσ1_8 : σ1.1 x = some (.inr (.inl (0, [.ref bf, .int bd, .int pe, .int ep, .ref (wW W), .ref dq, .ref sv, .ref ou]))) := xσ1.at wσ hX
        have hRσ1 : RW g σ1 W N := hR9.ext wσ xσ1
        exact A_iret dX1_count_189 rfl (⟨(mayQ_0 hs (bi_n ck1) (by decide)), rfl, yσ1⟩)
    · skip
      refine A_of rfl (by decide) (Nat.le_of_ble_eq_true rfl) (L0 := [(0, .ref x), (1, .int v)]) rfl ?_
      refine A_wfh (fun wσ hgσ => ?_)
      have yσ : ext σ σ := ext.rf
      refine A_aload_n (i := 0) dX1_count_0 rfl rfl ?_
      refine A_callV0E (b' := 2) (v := some (.ref (wW W))) (τ := σ) (c_loaded σ x bf dq sv ou bd pe ep W N hX hR9 hD) tX1_loaded q1383 hX rfl rfl dX1_count_1 (by decide) (Nat.le_of_ble_eq_true rfl) (Nat.le_of_ble_eq_true rfl) ?_
      refine A_astore_n (i := 2) dX1_count_4 rfl (Nat.le_of_ble_eq_true rfl) ?_
      refine A_iload_n (i := 1) dX1_count_5 rfl rfl ?_
      refine A_i2l dX1_count_6 rfl ?_
      refine A_lconst (v := 0) dX1_count_7 rfl ?_
      refine A_ldc2 (v := 15) dX1_count_8 q1405 ?_
      refine A_callS3E (b' := 2) (v := some (.int (bi (inR v 0 15)))) (τ := σ) (c_in1 σ _ _ _ v 0 15 rfl (by decide) (by decide)) tX1_in q381 dX1_count_11 (by decide) (Nat.le_of_ble_eq_true rfl) (Nat.le_of_ble_eq_true rfl) ?_
      refine A_callS1 (b' := 0) (c_cArg_no σ (bi (inR v 0 15)) (bi_f ck1)) tX1_checkArgument q1406 dX1_count_14 (by decide) (Nat.le_of_ble_eq_true rfl) (Nat.le_of_ble_eq_true rfl) (fun w9 τ9 h9 => h9.elim) (fun E9 q9 τ9 h9 => A_out rfl (⟨yσ.tr h9.2, 1, by rw [h9.1]; rfl, by rw [(mayQ_2 hs (bi_f (fun h => ck1 h)))]; rfl⟩))
theorem c_lc9 {l : Launch} {g : GC} (σ : AH) (a pl : Nat) (F : Nat → Int32) (c : Int32) (hF : σ.1 a = some (.inr (.inl (6, [.int (F 0), .int (F 1), .int (F 2), .int (F 3), .int (F 4), .int (F 5), .int (F 6), .int (F 7), .ref pl])))) : AMet l g mX1_lambda_colour_9 2 0 [.int c, .ref a] σ (A_eq (some (.int (bi (hasB (F 1) c)))) σ) (A_no) := by
  refine A_of rfl (by decide) (Nat.le_of_ble_eq_true rfl) (L0 := [(0, .int c), (1, .ref a)]) rfl ?_
  refine A_aload_n (i := 1) dX1_lambda_colour_9_0 rfl rfl ?_
  refine A_getfN cb_X7 hF 1 (Nat.le_of_ble_eq_true rfl) q1101 rfl (v := .int (F 1)) rfl dX1_lambda_colour_9_1 ?_
  refine A_iload_n (i := 0) dX1_lambda_colour_9_4 rfl rfl ?_
  refine A_callS2E (b' := 0) (v := some (.int (bi (hasB (F 1) c)))) (τ := σ) (c_has1 σ (F 1) c) tX1_has q1444 dX1_lambda_colour_9_5 (by decide) (Nat.le_of_ble_eq_true rfl) (Nat.le_of_ble_eq_true rfl) ?_
  exact A_zret dX1_lambda_colour_9_8 rfl (nar_bi _) (⟨rfl, rfl⟩)
theorem c_lc10 {l : Launch} {g : GC} (σ : AH) (a pl : Nat) (F : Nat → Int32) (c : Int32) (hF : σ.1 a = some (.inr (.inl (6, [.int (F 0), .int (F 1), .int (F 2), .int (F 3), .int (F 4), .int (F 5), .int (F 6), .int (F 7), .ref pl])))) : AMet l g mX1_lambda_colour_10 2 0 [.int c, .ref a] σ (A_eq (some (.int (bi (hasB (F 6) c)))) σ) (A_no) := by
  refine A_of rfl (by decide) (Nat.le_of_ble_eq_true rfl) (L0 := [(0, .int c), (1, .ref a)]) rfl ?_
  refine A_aload_n (i := 1) dX1_lambda_colour_10_0 rfl rfl ?_
  refine A_getfN cb_X7 hF 6 (Nat.le_of_ble_eq_true rfl) q1116 rfl (v := .int (F 6)) rfl dX1_lambda_colour_10_1 ?_
  refine A_iload_n (i := 0) dX1_lambda_colour_10_4 rfl rfl ?_
  refine A_callS2E (b' := 0) (v := some (.int (bi (hasB (F 6) c)))) (τ := σ) (c_has1 σ (F 6) c) tX1_has q1444 dX1_lambda_colour_10_5 (by decide) (Nat.le_of_ble_eq_true rfl) (Nat.le_of_ble_eq_true rfl) ?_
  exact A_zret dX1_lambda_colour_10_8 rfl (nar_bi _) (⟨rfl, rfl⟩)
theorem q_colour {l : Launch} {g : GC} (σ : AH) (x bf dq sv ou : Nat) (bd pe ep : Int32) (is : Int32) (nv : Value) (W : WA) (N : AF) (c v : Int32) (hL : LD g σ is nv W N) (hX : σ.1 x = some (lauC bf bd pe ep nv dq sv ou)) : AMet l g mX1_colour 31 2 [.ref x, .int c, .int v] σ (A_val (mayT is (bi (okC is N c)) (bi (inR v 0 2))) (.int (if v = 0 then N (12 + ix c) else if v = 1 then withN N c 1 else withN N c 6)) σ) (A_thr ["java/lang/IllegalStateException", "java/lang/IndexOutOfBoundsException", "java/lang/IllegalArgumentException"] (mayT is (bi (okC is N c)) (bi (inR v 0 2))) σ) := by
  rcases hL with ⟨h0, hn⟩ | ⟨hs, hn, hR, hD, hw, hh⟩
  · subst hn
    refine A_of rfl (by decide) (Nat.le_of_ble_eq_true rfl) (L0 := [(0, .ref x), (1, .int c), (2, .int v)]) rfl ?_
    refine A_wfh (fun wσ hgσ => ?_)
    have yσ : ext σ σ := ext.rf
    refine A_aload_n (i := 0) dX1_colour_0 rfl rfl ?_
    refine A_callV0 (b' := 0) (u_loaded σ x bf dq sv ou bd pe ep  hX) tX1_loaded q1383 hX rfl rfl dX1_colour_1 (by decide) (Nat.le_of_ble_eq_true rfl) (Nat.le_of_ble_eq_true rfl) (fun w9 τ9 h9 => h9.elim) (fun E9 q9 τ9 h9 => A_out rfl (⟨yσ.tr h9.2, 0, by rw [h9.1]; rfl, by rw [(mayQ_1 h0)]; rfl⟩))
  · subst hn
    have hW := hD.1
    have hR9 := hR
    obtain ⟨h1, ⟨fr, h2, h2p⟩, ⟨fm, h3, h3p⟩, ⟨mcn, fnA, h4, h4p, h4q⟩, ⟨mcf, ffA, h5, h5p, h5q⟩, ⟨fu, h6, h6p⟩, h7, h8, h9, h10, h11⟩ := hR
    have hF12 : nF N ≤ 12 := hW.2.2.2.2.2
    have hN4 : nN N ≤ 4 := hW.2.1.2
    have hC6 : nC N ≤ 6 := hW.1.2
    have hT3 : nT N ≤ 3 := hW.2.2.1.2
    have hP8 : nP N ≤ 8 := hW.2.2.2.1.2
    by_cases ck1 : inR c 0 (N 6 - 1)
    · skip
      obtain ⟨jc, hjc, rfl⟩ := in_ex hW.1.1 (Nat.le_trans hC6 (by decide)) ck1
      have bjc : jc < 2000 := Nat.lt_of_lt_of_le hjc (Nat.le_trans hC6 (by decide))
      by_cases ck2 : inR v 0 2
      · skip
        rcases inE2 ck2 with rfl | rfl | rfl
        · skip
          refine A_of rfl (by decide) (Nat.le_of_ble_eq_true rfl) (L0 := [(0, .ref x), (1, .int (nI jc)), (2, .int 0)]) rfl ?_
          refine A_wfh (fun wσ hgσ => ?_)
          have yσ : ext σ σ := ext.rf
          refine A_aload_n (i := 0) dX1_colour_0 rfl rfl ?_
          refine A_callV0E (b' := 2) (v := some (.ref (wW W))) (τ := σ) (c_loaded σ x bf dq sv ou bd pe ep W N hX hR9 hD) tX1_loaded q1383 hX rfl rfl dX1_colour_1 (by decide) (Nat.le_of_ble_eq_true rfl) (Nat.le_of_ble_eq_true rfl) ?_
          refine A_astore_n (i := 3) dX1_colour_4 rfl (Nat.le_of_ble_eq_true rfl) ?_
          refine A_iload_n (i := 1) dX1_colour_5 rfl rfl ?_
          refine A_aload_n (i := 3) dX1_colour_6 rfl rfl ?_
          refine A_getfN cb_X5 h1 6 (Nat.le_of_ble_eq_true rfl) q839 rfl (v := .int (N 6)) rfl dX1_colour_7 ?_
          refine A_callS2E (b' := 2) (v := none) (τ := σ) (c_cIdx σ (nI jc) (N 6) ck1) tX1_checkIndex q378 dX1_colour_10 (by decide) (Nat.le_of_ble_eq_true rfl) (Nat.le_of_ble_eq_true rfl) ?_
          refine A_iload_n (i := 2) dX1_colour_13 rfl rfl ?_
          refine A_tableIn (tgt := 40) dX1_colour_14 (by decide) (by decide) rfl (by decide) ?_
          refine A_aload_n (i := 3) dX1_colour_40 rfl rfl ?_
          refine A_getfN cb_X5 h1 1 (Nat.le_of_ble_eq_true rfl) q826 rfl (v := .ref (wR W)) rfl dX1_colour_41 ?_
          refine A_iload_n (i := 1) dX1_colour_44 rfl rfl ?_
          refine A_iald h2 (vp_in_nI (Nat.lt_of_lt_of_le hjc hC6) (by decide)) dX1_colour_45 ?_
          refine A_int (w := N (12 + jc)) (by rw [nI_clamp (Nat.lt_trans bjc (by decide))]; exact h2p jc hjc) ?_
          refine A_goto (tgt := 83) dX1_colour_46 (by decide) ?_
          exact A_iret dX1_colour_83 rfl (⟨(mayQ_0 hs (bi_n ⟨hs, ck1⟩) (bi_n ck2)), by rw [ixn bjc] <;> rfl, yσ⟩)
        · skip
          refine A_of rfl (by decide) (Nat.le_of_ble_eq_true rfl) (L0 := [(0, .ref x), (1, .int (nI jc)), (2, .int 1)]) rfl ?_
          refine A_wfh (fun wσ hgσ => ?_)
          have yσ : ext σ σ := ext.rf
          refine A_aload_n (i := 0) dX1_colour_0 rfl rfl ?_
          refine A_callV0E (b' := 2) (v := some (.ref (wW W))) (τ := σ) (c_loaded σ x bf dq sv ou bd pe ep W N hX hR9 hD) tX1_loaded q1383 hX rfl rfl dX1_colour_1 (by decide) (Nat.le_of_ble_eq_true rfl) (Nat.le_of_ble_eq_true rfl) ?_
          refine A_astore_n (i := 3) dX1_colour_4 rfl (Nat.le_of_ble_eq_true rfl) ?_
          refine A_iload_n (i := 1) dX1_colour_5 rfl rfl ?_
          refine A_aload_n (i := 3) dX1_colour_6 rfl rfl ?_
          refine A_getfN cb_X5 h1 6 (Nat.le_of_ble_eq_true rfl) q839 rfl (v := .int (N 6)) rfl dX1_colour_7 ?_
          refine A_callS2E (b' := 2) (v := none) (τ := σ) (c_cIdx σ (nI jc) (N 6) ck1) tX1_checkIndex q378 dX1_colour_10 (by decide) (Nat.le_of_ble_eq_true rfl) (Nat.le_of_ble_eq_true rfl) ?_
          refine A_iload_n (i := 2) dX1_colour_13 rfl rfl ?_
          refine A_tableIn (tgt := 49) dX1_colour_14 (by decide) (by decide) rfl (by decide) ?_
          refine A_aload_n (i := 3) dX1_colour_49 rfl rfl ?_
          refine A_iload_n (i := 1) dX1_colour_50 rfl rfl ?_
          refine A_mk13 (b' := 1) (Nat.le_of_ble_eq_true rfl) (Nat.le_of_ble_eq_true rfl) ?_
          obtain ⟨σ1, eσ1⟩ : ∃ τ, τ = h_new σ (.inr (.inr (12, [.int (nI jc)]))) := ⟨_, rfl⟩
          refine A_st (σ' := σ1) eσ1.symm ?_
          have wσ1 : wfh σ1 := by rw [eσ1]; exact wσ.new
          have fσ1_0 : σ1.1 (wW W) = some (.inr (.inl (4, [.int (N 9), .ref (wR W), .ref (wM W), .ref (wNL W), .ref (wFL W), .ref (wUN W), .int (N 6), .int (N 8), .int (N 0), .int (N 1), .int (N 2), .int (N 3), .int (N 4), .int (N 5), .int (N 11)]))) := by rw [eσ1]; exact (hn_ne (Nat.ne_of_lt (wσ _ _ h1))).trans h1
          have fσ1_1 : σ1.1 (wFL W) = some (.inr (.inl (14, [.int mcf, .ref (wFA W), .int (nI (nF N))]))) := by rw [eσ1]; exact (hn_ne (Nat.ne_of_lt (wσ _ _ h5))).trans h5
          have fσ1_2 : σ1.1 (wFA W) = some (.inl (.object "java/lang/Object", 12, .inr (.inr (.inr (.inr ffA))))) := by rw [eσ1]; exact (hn_ne (Nat.ne_of_lt (wσ _ _ h5p))).trans h5p
          have fσ1_3 : σ1.1 (wNL W) = some (.inr (.inl (14, [.int mcn, .ref (wNA W), .int (nI (nN N))]))) := by rw [eσ1]; exact (hn_ne (Nat.ne_of_lt (wσ _ _ h4))).trans h4
          have fσ1_4 : σ1.1 (wNA W) = some (.inl (.object "java/lang/Object", 4, .inr (.inr (.inr (.inr fnA))))) := by rw [eσ1]; exact (hn_ne (Nat.ne_of_lt (wσ _ _ h4p))).trans h4p
          have fσ1_5 : σ1.1 (wR W) = some (.inl (.int, 6, .inl fr)) := by rw [eσ1]; exact (hn_ne (Nat.ne_of_lt (wσ _ _ h2))).trans h2
          have fσ1_6 : σ1.1 (wM W) = some (.inl (.int, 3, .inl fm)) := by rw [eσ1]; exact (hn_ne (Nat.ne_of_lt (wσ _ _ h3))).trans h3
          have fσ1_7 : σ1.1 (wUN W) = some (.inl (.object "FlagLaundry$Test", 7, .inr (.inr (.inr (.inr fu))))) := by rw [eσ1]; exact (hn_ne (Nat.ne_of_lt (wσ _ _ h6))).trans h6
          have fσ1_8 : σ1.1 x = some (.inr (.inl (0, [.ref bf, .int bd, .int pe, .int ep, .ref (wW W), .ref dq, .ref sv, .ref ou]))) := by rw [eσ1]; exact (hn_ne (Nat.ne_of_lt (wσ _ _ hX))).trans hX
          have fσ1_9 : σ1.1 σ.2 = some (.inr (.inr (12, [.int (nI jc)]))) := by rw [eσ1]; exact if_pos rfl
          have xσ1 : ext σ σ1 := by rw [eσ1]; exact ext_new _ _
          have yσ1 : ext σ σ1 := yσ.tr (xσ1)
          have hRσ1 : RW g σ1 W N := hR9.ext wσ xσ1
          refine A_callV1E (b' := 1) (v := some (.int (withN N (nI jc) 1))) (τ := σ1) (c_cnt σ1 W N σ.2 (fun f => hasB (fl N f 1) (nI jc)) hRσ1 hW (cT13 (by decide) (Or.inl fσ1_9) (fun f hf => c_lc9 σ1 _ _ (fl N f) (nI jc) (hRσ1.2.2.2.2.2.2.1 f hf)))) tX5_count q1445 fσ1_0 rfl rfl dX1_colour_56 (by decide) (Nat.le_of_ble_eq_true rfl) (Nat.le_of_ble_eq_true rfl) ?_
          refine A_goto (tgt := 83) dX1_colour_59 (by decide) ?_
          exact A_iret dX1_colour_83 rfl (⟨(mayQ_0 hs (bi_n ⟨hs, ck1⟩) (bi_n ck2)), rfl, yσ1⟩)
        · skip
          refine A_of rfl (by decide) (Nat.le_of_ble_eq_true rfl) (L0 := [(0, .ref x), (1, .int (nI jc)), (2, .int 2)]) rfl ?_
          refine A_wfh (fun wσ hgσ => ?_)
          have yσ : ext σ σ := ext.rf
          refine A_aload_n (i := 0) dX1_colour_0 rfl rfl ?_
          refine A_callV0E (b' := 2) (v := some (.ref (wW W))) (τ := σ) (c_loaded σ x bf dq sv ou bd pe ep W N hX hR9 hD) tX1_loaded q1383 hX rfl rfl dX1_colour_1 (by decide) (Nat.le_of_ble_eq_true rfl) (Nat.le_of_ble_eq_true rfl) ?_
          refine A_astore_n (i := 3) dX1_colour_4 rfl (Nat.le_of_ble_eq_true rfl) ?_
          refine A_iload_n (i := 1) dX1_colour_5 rfl rfl ?_
          refine A_aload_n (i := 3) dX1_colour_6 rfl rfl ?_
          refine A_getfN cb_X5 h1 6 (Nat.le_of_ble_eq_true rfl) q839 rfl (v := .int (N 6)) rfl dX1_colour_7 ?_
          refine A_callS2E (b' := 2) (v := none) (τ := σ) (c_cIdx σ (nI jc) (N 6) ck1) tX1_checkIndex q378 dX1_colour_10 (by decide) (Nat.le_of_ble_eq_true rfl) (Nat.le_of_ble_eq_true rfl) ?_
          refine A_iload_n (i := 2) dX1_colour_13 rfl rfl ?_
          refine A_tableIn (tgt := 62) dX1_colour_14 (by decide) (by decide) rfl (by decide) ?_
          refine A_aload_n (i := 3) dX1_colour_62 rfl rfl ?_
          refine A_iload_n (i := 1) dX1_colour_63 rfl rfl ?_
          refine A_mk14 (b' := 1) (Nat.le_of_ble_eq_true rfl) (Nat.le_of_ble_eq_true rfl) ?_
          obtain ⟨σ1, eσ1⟩ : ∃ τ, τ = h_new σ (.inr (.inr (13, [.int (nI jc)]))) := ⟨_, rfl⟩
          refine A_st (σ' := σ1) eσ1.symm ?_
          have wσ1 : wfh σ1 := by rw [eσ1]; exact wσ.new
          have fσ1_0 : σ1.1 (wW W) = some (.inr (.inl (4, [.int (N 9), .ref (wR W), .ref (wM W), .ref (wNL W), .ref (wFL W), .ref (wUN W), .int (N 6), .int (N 8), .int (N 0), .int (N 1), .int (N 2), .int (N 3), .int (N 4), .int (N 5), .int (N 11)]))) := by rw [eσ1]; exact (hn_ne (Nat.ne_of_lt (wσ _ _ h1))).trans h1
          have fσ1_1 : σ1.1 (wFL W) = some (.inr (.inl (14, [.int mcf, .ref (wFA W), .int (nI (nF N))]))) := by rw [eσ1]; exact (hn_ne (Nat.ne_of_lt (wσ _ _ h5))).trans h5
          have fσ1_2 : σ1.1 (wFA W) = some (.inl (.object "java/lang/Object", 12, .inr (.inr (.inr (.inr ffA))))) := by rw [eσ1]; exact (hn_ne (Nat.ne_of_lt (wσ _ _ h5p))).trans h5p
          have fσ1_3 : σ1.1 (wNL W) = some (.inr (.inl (14, [.int mcn, .ref (wNA W), .int (nI (nN N))]))) := by rw [eσ1]; exact (hn_ne (Nat.ne_of_lt (wσ _ _ h4))).trans h4
          have fσ1_4 : σ1.1 (wNA W) = some (.inl (.object "java/lang/Object", 4, .inr (.inr (.inr (.inr fnA))))) := by rw [eσ1]; exact (hn_ne (Nat.ne_of_lt (wσ _ _ h4p))).trans h4p
          have fσ1_5 : σ1.1 (wR W) = some (.inl (.int, 6, .inl fr)) := by rw [eσ1]; exact (hn_ne (Nat.ne_of_lt (wσ _ _ h2))).trans h2
          have fσ1_6 : σ1.1 (wM W) = some (.inl (.int, 3, .inl fm)) := by rw [eσ1]; exact (hn_ne (Nat.ne_of_lt (wσ _ _ h3))).trans h3
          have fσ1_7 : σ1.1 (wUN W) = some (.inl (.object "FlagLaundry$Test", 7, .inr (.inr (.inr (.inr fu))))) := by rw [eσ1]; exact (hn_ne (Nat.ne_of_lt (wσ _ _ h6))).trans h6
          have fσ1_8 : σ1.1 x = some (.inr (.inl (0, [.ref bf, .int bd, .int pe, .int ep, .ref (wW W), .ref dq, .ref sv, .ref ou]))) := by rw [eσ1]; exact (hn_ne (Nat.ne_of_lt (wσ _ _ hX))).trans hX
          have fσ1_9 : σ1.1 σ.2 = some (.inr (.inr (13, [.int (nI jc)]))) := by rw [eσ1]; exact if_pos rfl
          have xσ1 : ext σ σ1 := by rw [eσ1]; exact ext_new _ _
          have yσ1 : ext σ σ1 := yσ.tr (xσ1)
          have hRσ1 : RW g σ1 W N := hR9.ext wσ xσ1
          refine A_callV1E (b' := 1) (v := some (.int (withN N (nI jc) 6))) (τ := σ1) (c_cnt σ1 W N σ.2 (fun f => hasB (fl N f 6) (nI jc)) hRσ1 hW (cT14 (by decide) (Or.inl fσ1_9) (fun f hf => c_lc10 σ1 _ _ (fl N f) (nI jc) (hRσ1.2.2.2.2.2.2.1 f hf)))) tX5_count q1445 fσ1_0 rfl rfl dX1_colour_69 (by decide) (Nat.le_of_ble_eq_true rfl) (Nat.le_of_ble_eq_true rfl) ?_
          refine A_goto (tgt := 83) dX1_colour_72 (by decide) ?_
          exact A_iret dX1_colour_83 rfl (⟨(mayQ_0 hs (bi_n ⟨hs, ck1⟩) (bi_n ck2)), rfl, yσ1⟩)
      · skip
        refine A_of rfl (by decide) (Nat.le_of_ble_eq_true rfl) (L0 := [(0, .ref x), (1, .int (nI jc)), (2, .int v)]) rfl ?_
        refine A_wfh (fun wσ hgσ => ?_)
        have yσ : ext σ σ := ext.rf
        refine A_aload_n (i := 0) dX1_colour_0 rfl rfl ?_
        refine A_callV0E (b' := 2) (v := some (.ref (wW W))) (τ := σ) (c_loaded σ x bf dq sv ou bd pe ep W N hX hR9 hD) tX1_loaded q1383 hX rfl rfl dX1_colour_1 (by decide) (Nat.le_of_ble_eq_true rfl) (Nat.le_of_ble_eq_true rfl) ?_
        refine A_astore_n (i := 3) dX1_colour_4 rfl (Nat.le_of_ble_eq_true rfl) ?_
        refine A_iload_n (i := 1) dX1_colour_5 rfl rfl ?_
        refine A_aload_n (i := 3) dX1_colour_6 rfl rfl ?_
        refine A_getfN cb_X5 h1 6 (Nat.le_of_ble_eq_true rfl) q839 rfl (v := .int (N 6)) rfl dX1_colour_7 ?_
        refine A_callS2E (b' := 2) (v := none) (τ := σ) (c_cIdx σ (nI jc) (N 6) ck1) tX1_checkIndex q378 dX1_colour_10 (by decide) (Nat.le_of_ble_eq_true rfl) (Nat.le_of_ble_eq_true rfl) ?_
        refine A_iload_n (i := 2) dX1_colour_13 rfl rfl ?_
        refine A_tableOut (tgt := 75) dX1_colour_14 (inE_no ck2) (by decide) ?_
        refine A_throw0 (b' := 0) (by decide +kernel) dX1_colour_75 dX1_colour_78 dX1_colour_79 dX1_colour_82 (by decide) (Nat.le_of_ble_eq_true rfl) (by decide) (fun q9 n9 hq9 hn9 => A_out rfl (⟨yσ.tr (ext_n hn9), 2, rfl, by rw [mayQ_3 hs (bi_n ⟨hs, ck1⟩) (bi_f ck2)]; rfl⟩))
    · skip
      refine A_of rfl (by decide) (Nat.le_of_ble_eq_true rfl) (L0 := [(0, .ref x), (1, .int c), (2, .int v)]) rfl ?_
      refine A_wfh (fun wσ hgσ => ?_)
      have yσ : ext σ σ := ext.rf
      refine A_aload_n (i := 0) dX1_colour_0 rfl rfl ?_
      refine A_callV0E (b' := 2) (v := some (.ref (wW W))) (τ := σ) (c_loaded σ x bf dq sv ou bd pe ep W N hX hR9 hD) tX1_loaded q1383 hX rfl rfl dX1_colour_1 (by decide) (Nat.le_of_ble_eq_true rfl) (Nat.le_of_ble_eq_true rfl) ?_
      refine A_astore_n (i := 3) dX1_colour_4 rfl (Nat.le_of_ble_eq_true rfl) ?_
      refine A_iload_n (i := 1) dX1_colour_5 rfl rfl ?_
      refine A_aload_n (i := 3) dX1_colour_6 rfl rfl ?_
      refine A_getfN cb_X5 h1 6 (Nat.le_of_ble_eq_true rfl) q839 rfl (v := .int (N 6)) rfl dX1_colour_7 ?_
      refine A_callS2 (b' := 0) (c_cIdx_no σ c (N 6) ck1) tX1_checkIndex q378 dX1_colour_10 (by decide) (Nat.le_of_ble_eq_true rfl) (Nat.le_of_ble_eq_true rfl) (fun w9 τ9 h9 => h9.elim) (fun E9 q9 τ9 h9 => A_out rfl (⟨yσ.tr h9.2, 1, by rw [h9.1]; rfl, by rw [(mayQ_2 hs (bi_f (fun h => ck1 h.2)))]; rfl⟩))
theorem q_nation {l : Launch} {g : GC} (σ : AH) (x bf dq sv ou : Nat) (bd pe ep : Int32) (is : Int32) (nv : Value) (W : WA) (N : AF) (n v : Int32) (hL : LD g σ is nv W N) (hX : σ.1 x = some (lauC bf bd pe ep nv dq sv ou)) : AMet l g mX1_nation 34 2 [.ref x, .int n, .int v] σ (A_val (mayT is (bi (okN is N n)) (bi (inR v 0 6))) (.int (nationN N (ix n) v)) σ) (A_thr ["java/lang/IllegalStateException", "java/lang/IndexOutOfBoundsException", "java/lang/IllegalArgumentException"] (mayT is (bi (okN is N n)) (bi (inR v 0 6))) σ) := by
  rcases hL with ⟨h0, hn⟩ | ⟨hs, hn, hR, hD, hw, hh⟩
  · subst hn
    refine A_of rfl (by decide) (Nat.le_of_ble_eq_true rfl) (L0 := [(0, .ref x), (1, .int n), (2, .int v)]) rfl ?_
    refine A_wfh (fun wσ hgσ => ?_)
    have yσ : ext σ σ := ext.rf
    refine A_aload_n (i := 0) dX1_nation_0 rfl rfl ?_
    refine A_iload_n (i := 1) dX1_nation_1 rfl rfl ?_
    refine A_callV1 (b' := 0) (u_checkNation σ x bf dq sv ou bd pe ep n hX) tX1_checkNation q1455 hX rfl rfl dX1_nation_2 (by decide) (Nat.le_of_ble_eq_true rfl) (Nat.le_of_ble_eq_true rfl) (fun w9 τ9 h9 => h9.elim) (fun E9 q9 τ9 h9 => A_out rfl (⟨yσ.tr h9.2, 0, by rw [h9.1]; rfl, by rw [(mayQ_1 h0)]; rfl⟩))
  · subst hn
    have hW := hD.1
    have hR9 := hR
    obtain ⟨h1, ⟨fr, h2, h2p⟩, ⟨fm, h3, h3p⟩, ⟨mcn, fnA, h4, h4p, h4q⟩, ⟨mcf, ffA, h5, h5p, h5q⟩, ⟨fu, h6, h6p⟩, h7, h8, h9, h10, h11⟩ := hR
    have hF12 : nF N ≤ 12 := hW.2.2.2.2.2
    have hN4 : nN N ≤ 4 := hW.2.1.2
    have hC6 : nC N ≤ 6 := hW.1.2
    have hT3 : nT N ≤ 3 := hW.2.2.1.2
    have hP8 : nP N ≤ 8 := hW.2.2.2.1.2
    by_cases ck1 : inR n 0 (N 7 - 1)
    · skip
      obtain ⟨jn, hjn, rfl⟩ := in_ex hW.2.1.1 (Nat.le_trans hN4 (by decide)) ck1
      have bjn : jn < 2000 := Nat.lt_of_lt_of_le hjn (Nat.le_trans hN4 (by decide))
      by_cases ck2 : inR v 0 6
      · skip
        obtain ⟨hh9, hn9, hd9⟩ := h9 jn hjn
        rcases inE6 ck2 with rfl | rfl | rfl | rfl | rfl | rfl | rfl
        · skip
          refine A_of rfl (by decide) (Nat.le_of_ble_eq_true rfl) (L0 := [(0, .ref x), (1, .int (nI jn)), (2, .int 0)]) rfl ?_
          refine A_wfh (fun wσ hgσ => ?_)
          have yσ : ext σ σ := ext.rf
          refine A_aload_n (i := 0) dX1_nation_0 rfl rfl ?_
          refine A_iload_n (i := 1) dX1_nation_1 rfl rfl ?_
          refine A_callV1E (b' := 2) (v := some (.ref (wN W jn))) (τ := σ) (c_checkNation σ x bf dq sv ou bd pe ep W N jn hX hR9 hD hjn) tX1_checkNation q1455 hX rfl rfl dX1_nation_2 (by decide) (Nat.le_of_ble_eq_true rfl) (Nat.le_of_ble_eq_true rfl) ?_
          refine A_astore_n (i := 3) dX1_nation_5 rfl (Nat.le_of_ble_eq_true rfl) ?_
          refine A_iload_n (i := 2) dX1_nation_6 rfl rfl ?_
          refine A_tableIn (tgt := 48) dX1_nation_7 (by decide) (by decide) rfl (by decide) ?_
          refine A_aload_n (i := 3) dX1_nation_48 rfl rfl ?_
          refine A_getfN cb_X6 hn9 0 (Nat.le_of_ble_eq_true rfl) q984 rfl (v := .int (na N jn 0)) rfl dX1_nation_49 ?_
          refine A_goto (tgt := 147) dX1_nation_52 (by decide) ?_
          exact A_iret dX1_nation_147 rfl (⟨(mayQ_0 hs (bi_n ⟨hs, ck1⟩) (bi_n ck2)), by rw [ixn bjn] <;> rfl, yσ⟩)
        · skip
          refine A_of rfl (by decide) (Nat.le_of_ble_eq_true rfl) (L0 := [(0, .ref x), (1, .int (nI jn)), (2, .int 1)]) rfl ?_
          refine A_wfh (fun wσ hgσ => ?_)
          have yσ : ext σ σ := ext.rf
          refine A_aload_n (i := 0) dX1_nation_0 rfl rfl ?_
          refine A_iload_n (i := 1) dX1_nation_1 rfl rfl ?_
          refine A_callV1E (b' := 2) (v := some (.ref (wN W jn))) (τ := σ) (c_checkNation σ x bf dq sv ou bd pe ep W N jn hX hR9 hD hjn) tX1_checkNation q1455 hX rfl rfl dX1_nation_2 (by decide) (Nat.le_of_ble_eq_true rfl) (Nat.le_of_ble_eq_true rfl) ?_
          refine A_astore_n (i := 3) dX1_nation_5 rfl (Nat.le_of_ble_eq_true rfl) ?_
          refine A_iload_n (i := 2) dX1_nation_6 rfl rfl ?_
          refine A_tableIn (tgt := 55) dX1_nation_7 (by decide) (by decide) rfl (by decide) ?_
          refine A_aload_n (i := 3) dX1_nation_55 rfl rfl ?_
          refine A_getfN cb_X6 hn9 1 (Nat.le_of_ble_eq_true rfl) q986 rfl (v := .int (na N jn 1)) rfl dX1_nation_56 ?_
          refine A_goto (tgt := 147) dX1_nation_59 (by decide) ?_
          exact A_iret dX1_nation_147 rfl (⟨(mayQ_0 hs (bi_n ⟨hs, ck1⟩) (bi_n ck2)), by rw [ixn bjn] <;> rfl, yσ⟩)
        · skip
          refine A_of rfl (by decide) (Nat.le_of_ble_eq_true rfl) (L0 := [(0, .ref x), (1, .int (nI jn)), (2, .int 2)]) rfl ?_
          refine A_wfh (fun wσ hgσ => ?_)
          have yσ : ext σ σ := ext.rf
          refine A_aload_n (i := 0) dX1_nation_0 rfl rfl ?_
          refine A_iload_n (i := 1) dX1_nation_1 rfl rfl ?_
          refine A_callV1E (b' := 2) (v := some (.ref (wN W jn))) (τ := σ) (c_checkNation σ x bf dq sv ou bd pe ep W N jn hX hR9 hD hjn) tX1_checkNation q1455 hX rfl rfl dX1_nation_2 (by decide) (Nat.le_of_ble_eq_true rfl) (Nat.le_of_ble_eq_true rfl) ?_
          refine A_astore_n (i := 3) dX1_nation_5 rfl (Nat.le_of_ble_eq_true rfl) ?_
          refine A_iload_n (i := 2) dX1_nation_6 rfl rfl ?_
          refine A_tableIn (tgt := 62) dX1_nation_7 (by decide) (by decide) rfl (by decide) ?_
          refine A_aload_n (i := 3) dX1_nation_62 rfl rfl ?_
          refine A_getfN cb_X6 hn9 2 (Nat.le_of_ble_eq_true rfl) q989 rfl (v := .int (na N jn 2)) rfl dX1_nation_63 ?_
          refine A_goto (tgt := 147) dX1_nation_66 (by decide) ?_
          exact A_iret dX1_nation_147 rfl (⟨(mayQ_0 hs (bi_n ⟨hs, ck1⟩) (bi_n ck2)), by rw [ixn bjn] <;> rfl, yσ⟩)
        · skip
          refine A_of rfl (by decide) (Nat.le_of_ble_eq_true rfl) (L0 := [(0, .ref x), (1, .int (nI jn)), (2, .int 3)]) rfl ?_
          refine A_wfh (fun wσ hgσ => ?_)
          have yσ : ext σ σ := ext.rf
          refine A_aload_n (i := 0) dX1_nation_0 rfl rfl ?_
          refine A_iload_n (i := 1) dX1_nation_1 rfl rfl ?_
          refine A_callV1E (b' := 2) (v := some (.ref (wN W jn))) (τ := σ) (c_checkNation σ x bf dq sv ou bd pe ep W N jn hX hR9 hD hjn) tX1_checkNation q1455 hX rfl rfl dX1_nation_2 (by decide) (Nat.le_of_ble_eq_true rfl) (Nat.le_of_ble_eq_true rfl) ?_
          refine A_astore_n (i := 3) dX1_nation_5 rfl (Nat.le_of_ble_eq_true rfl) ?_
          refine A_iload_n (i := 2) dX1_nation_6 rfl rfl ?_
          refine A_tableIn (tgt := 69) dX1_nation_7 (by decide) (by decide) rfl (by decide) ?_
          refine A_aload_n (i := 0) dX1_nation_69 rfl rfl ?_
          refine A_getf cb_X1 hX 4 (Nat.le_of_ble_eq_true rfl) q242 rfl (v := .ref (wW W)) rfl dX1_nation_70 ?_
          refine A_iload_n (i := 1) dX1_nation_73 rfl rfl ?_
          refine A_callV1 (b' := 1) (c_flagsOf5 σ W N (nI jn) hR9 hD) tX5_flagsOf q1464 h1 rfl rfl dX1_nation_74 (by decide) (Nat.le_of_ble_eq_true rfl) (Nat.le_of_ble_eq_true rfl) (fun w9 σ1 h9 => ?_) (fun E9 q9 τ9 h9 => h9.elim)
          obtain ⟨e9, xσ1⟩ := h9
          subst e9
          refine A_wfh (fun wσ1 hgσ1 => ?_)
          have yσ1 : ext σ σ1 := yσ.tr (xσ1)
          have fσ1_0 : σ1.1 (wW W) = some (.inr (.inl (4, [.int (N 9), .ref (wR W), .ref (wM W), .ref (wNL W), .ref (wFL W), .ref (wUN W), .int (N 6), .int (N 8), .int (N 0), .int (N 1), .int (N 2), .int (N 3), .int (N 4), .int (N 5), .int (N 11)]))) := xσ1.at wσ h1
          have fσ1_1 : σ1.1 (wFL W) = some (.inr (.inl (14, [.int mcf, .ref (wFA W), .int (nI (nF N))]))) := xσ1.at wσ h5
          have fσ1_2 : σ1.1 (wFA W) = some (.inl (.object "java/lang/Object", 12, .inr (.inr (.inr (.inr ffA))))) := xσ1.at wσ h5p
          have fσ1_3 : σ1.1 (wNL W) = some (.inr (.inl (14, [.int mcn, .ref (wNA W), .int (nI (nN N))]))) := xσ1.at wσ h4
          have fσ1_4 : σ1.1 (wNA W) = some (.inl (.object "java/lang/Object", 4, .inr (.inr (.inr (.inr fnA))))) := xσ1.at wσ h4p
          have fσ1_5 : σ1.1 (wR W) = some (.inl (.int, 6, .inl fr)) := xσ1.at wσ h2
          have fσ1_6 : σ1.1 (wM W) = some (.inl (.int, 3, .inl fm)) := xσ1.at wσ h3
          have fσ1_7 : σ1.1 (wUN W) = some (.inl (.object "FlagLaundry$Test", 7, .inr (.inr (.inr (.inr fu))))) := xσ1.at wσ h6
          have fσ1_8 : σ1.1 x = some (.inr (.inl (0, [.ref bf, .int bd, .int pe, .int ep, .ref (wW W), .ref dq, .ref sv, .ref ou]))) := xσ1.at wσ hX
          have fσ1_9 : σ1.1 (wN W jn) = some (.inr (.inl (5, [.int (na N jn 0), .int (na N jn 1), .int (na N jn 2), .int hh9]))) := xσ1.at wσ hn9
          have hRσ1 : RW g σ1 W N := hR9.ext wσ xσ1
          refine A_goto (tgt := 147) dX1_nation_77 (by decide) ?_
          exact A_iret dX1_nation_147 rfl (⟨(mayQ_0 hs (bi_n ⟨hs, ck1⟩) (bi_n ck2)), by rw [ixn bjn] <;> rfl, yσ1⟩)
        · skip
          refine A_of rfl (by decide) (Nat.le_of_ble_eq_true rfl) (L0 := [(0, .ref x), (1, .int (nI jn)), (2, .int 4)]) rfl ?_
          refine A_wfh (fun wσ hgσ => ?_)
          have yσ : ext σ σ := ext.rf
          refine A_aload_n (i := 0) dX1_nation_0 rfl rfl ?_
          refine A_iload_n (i := 1) dX1_nation_1 rfl rfl ?_
          refine A_callV1E (b' := 2) (v := some (.ref (wN W jn))) (τ := σ) (c_checkNation σ x bf dq sv ou bd pe ep W N jn hX hR9 hD hjn) tX1_checkNation q1455 hX rfl rfl dX1_nation_2 (by decide) (Nat.le_of_ble_eq_true rfl) (Nat.le_of_ble_eq_true rfl) ?_
          refine A_astore_n (i := 3) dX1_nation_5 rfl (Nat.le_of_ble_eq_true rfl) ?_
          refine A_iload_n (i := 2) dX1_nation_6 rfl rfl ?_
          refine A_tableIn (tgt := 80) dX1_nation_7 (by decide) (by decide) rfl (by decide) ?_
          refine A_aload_n (i := 0) dX1_nation_80 rfl rfl ?_
          refine A_getf cb_X1 hX 4 (Nat.le_of_ble_eq_true rfl) q242 rfl (v := .ref (wW W)) rfl dX1_nation_81 ?_
          refine A_iload_n (i := 1) dX1_nation_84 rfl rfl ?_
          refine A_callV1 (b' := 1) (c_readyOf5 σ W N (nI jn) hR9 hD) tX5_readyOf q1470 h1 rfl rfl dX1_nation_85 (by decide) (Nat.le_of_ble_eq_true rfl) (Nat.le_of_ble_eq_true rfl) (fun w9 σ1 h9 => ?_) (fun E9 q9 τ9 h9 => h9.elim)
          obtain ⟨e9, xσ1⟩ := h9
          subst e9
          refine A_wfh (fun wσ1 hgσ1 => ?_)
          have yσ1 : ext σ σ1 := yσ.tr (xσ1)
          have fσ1_0 : σ1.1 (wW W) = some (.inr (.inl (4, [.int (N 9), .ref (wR W), .ref (wM W), .ref (wNL W), .ref (wFL W), .ref (wUN W), .int (N 6), .int (N 8), .int (N 0), .int (N 1), .int (N 2), .int (N 3), .int (N 4), .int (N 5), .int (N 11)]))) := xσ1.at wσ h1
          have fσ1_1 : σ1.1 (wFL W) = some (.inr (.inl (14, [.int mcf, .ref (wFA W), .int (nI (nF N))]))) := xσ1.at wσ h5
          have fσ1_2 : σ1.1 (wFA W) = some (.inl (.object "java/lang/Object", 12, .inr (.inr (.inr (.inr ffA))))) := xσ1.at wσ h5p
          have fσ1_3 : σ1.1 (wNL W) = some (.inr (.inl (14, [.int mcn, .ref (wNA W), .int (nI (nN N))]))) := xσ1.at wσ h4
          have fσ1_4 : σ1.1 (wNA W) = some (.inl (.object "java/lang/Object", 4, .inr (.inr (.inr (.inr fnA))))) := xσ1.at wσ h4p
          have fσ1_5 : σ1.1 (wR W) = some (.inl (.int, 6, .inl fr)) := xσ1.at wσ h2
          have fσ1_6 : σ1.1 (wM W) = some (.inl (.int, 3, .inl fm)) := xσ1.at wσ h3
          have fσ1_7 : σ1.1 (wUN W) = some (.inl (.object "FlagLaundry$Test", 7, .inr (.inr (.inr (.inr fu))))) := xσ1.at wσ h6
          have fσ1_8 : σ1.1 x = some (.inr (.inl (0, [.ref bf, .int bd, .int pe, .int ep, .ref (wW W), .ref dq, .ref sv, .ref ou]))) := xσ1.at wσ hX
          have fσ1_9 : σ1.1 (wN W jn) = some (.inr (.inl (5, [.int (na N jn 0), .int (na N jn 1), .int (na N jn 2), .int hh9]))) := xσ1.at wσ hn9
          have hRσ1 : RW g σ1 W N := hR9.ext wσ xσ1
          refine A_goto (tgt := 147) dX1_nation_88 (by decide) ?_
          exact A_iret dX1_nation_147 rfl (⟨(mayQ_0 hs (bi_n ⟨hs, ck1⟩) (bi_n ck2)), by rw [ixn bjn] <;> rfl, yσ1⟩)
        · skip
          refine A_of rfl (by decide) (Nat.le_of_ble_eq_true rfl) (L0 := [(0, .ref x), (1, .int (nI jn)), (2, .int 5)]) rfl ?_
          refine A_wfh (fun wσ hgσ => ?_)
          have yσ : ext σ σ := ext.rf
          refine A_aload_n (i := 0) dX1_nation_0 rfl rfl ?_
          refine A_iload_n (i := 1) dX1_nation_1 rfl rfl ?_
          refine A_callV1E (b' := 2) (v := some (.ref (wN W jn))) (τ := σ) (c_checkNation σ x bf dq sv ou bd pe ep W N jn hX hR9 hD hjn) tX1_checkNation q1455 hX rfl rfl dX1_nation_2 (by decide) (Nat.le_of_ble_eq_true rfl) (Nat.le_of_ble_eq_true rfl) ?_
          refine A_astore_n (i := 3) dX1_nation_5 rfl (Nat.le_of_ble_eq_true rfl) ?_
          refine A_iload_n (i := 2) dX1_nation_6 rfl rfl ?_
          refine A_tableIn (tgt := 91) dX1_nation_7 (by decide) (by decide) rfl (by decide) ?_
          refine A_aload_n (i := 3) dX1_nation_91 rfl rfl ?_
          refine A_getfN cb_X6 hn9 3 (Nat.le_of_ble_eq_true rfl) q991 rfl (v := .int hh9) rfl dX1_nation_92 ?_
          refine A_iconst (v := (-1)) dX1_nation_95 (by decide) ?_
          refine A_icmp_eq (tgt := 103) dX1_nation_96 (by decide) (fun c1 => ?_) (fun c1 => ?_)
          · skip
            refine A_iconst (v := 0) dX1_nation_103 (by decide) ?_
            refine A_callS1E (b' := 2) (v := some (.int (oneI 0))) (τ := σ) (c_one1 σ 0) tX1_one q1477 dX1_nation_104 (by decide) (Nat.le_of_ble_eq_true rfl) (Nat.le_of_ble_eq_true rfl) ?_
            refine A_goto (tgt := 147) dX1_nation_107 (by decide) ?_
            exact A_iret dX1_nation_147 rfl (⟨(mayQ_0 hs (bi_n ⟨hs, ck1⟩) (bi_n ck2)), by rw [ixn bjn]; exact congrArg (fun z => some (Value.int z)) (by rw [show nationN N jn 5 = na N jn 3 from rfl, HD_0 hd9 c1]; rfl), yσ⟩)
          · skip
            refine A_iconst (v := 1) dX1_nation_99 (by decide) ?_
            refine A_goto (tgt := 104) dX1_nation_100 (by decide) ?_
            refine A_callS1E (b' := 2) (v := some (.int (oneI 1))) (τ := σ) (c_one1 σ 1) tX1_one q1477 dX1_nation_104 (by decide) (Nat.le_of_ble_eq_true rfl) (Nat.le_of_ble_eq_true rfl) ?_
            refine A_goto (tgt := 147) dX1_nation_107 (by decide) ?_
            exact A_iret dX1_nation_147 rfl (⟨(mayQ_0 hs (bi_n ⟨hs, ck1⟩) (bi_n ck2)), by rw [ixn bjn]; exact congrArg (fun z => some (Value.int z)) (by rw [show nationN N jn 5 = na N jn 3 from rfl, (HD_1 hd9 c1).1]; rfl), yσ⟩)
        · skip
          refine A_of rfl (by decide) (Nat.le_of_ble_eq_true rfl) (L0 := [(0, .ref x), (1, .int (nI jn)), (2, .int 6)]) rfl ?_
          refine A_wfh (fun wσ hgσ => ?_)
          have yσ : ext σ σ := ext.rf
          refine A_aload_n (i := 0) dX1_nation_0 rfl rfl ?_
          refine A_iload_n (i := 1) dX1_nation_1 rfl rfl ?_
          refine A_callV1E (b' := 2) (v := some (.ref (wN W jn))) (τ := σ) (c_checkNation σ x bf dq sv ou bd pe ep W N jn hX hR9 hD hjn) tX1_checkNation q1455 hX rfl rfl dX1_nation_2 (by decide) (Nat.le_of_ble_eq_true rfl) (Nat.le_of_ble_eq_true rfl) ?_
          refine A_astore_n (i := 3) dX1_nation_5 rfl (Nat.le_of_ble_eq_true rfl) ?_
          refine A_iload_n (i := 2) dX1_nation_6 rfl rfl ?_
          refine A_tableIn (tgt := 110) dX1_nation_7 (by decide) (by decide) rfl (by decide) ?_
          refine A_aload_n (i := 3) dX1_nation_110 rfl rfl ?_
          refine A_aload_n (i := 3) dX1_nation_111 rfl rfl ?_
          refine A_getfN cb_X6 hn9 3 (Nat.le_of_ble_eq_true rfl) q991 rfl (v := .int hh9) rfl dX1_nation_112 ?_
          refine A_iconst (v := (-1)) dX1_nation_115 (by decide) ?_
          refine A_icmp_ne (tgt := 129) dX1_nation_116 (by decide) (fun c1 => ?_) (fun c1 => ?_)
          · skip
            refine A_aload_n (i := 3) dX1_nation_129 rfl rfl ?_
            refine A_getfN cb_X6 hn9 3 (Nat.le_of_ble_eq_true rfl) q991 rfl (v := .int hh9) rfl dX1_nation_130 ?_
            refine A_callV1E (b' := 2) (v := some (.int (mx 0 (hh9 - (na N jn 0))))) (τ := σ) (c_nLate σ (wN W jn) (na N jn 0) (na N jn 1) (na N jn 2) hh9 hh9 hn9) tX6_late q1478 hn9 rfl rfl dX1_nation_133 (by decide) (Nat.le_of_ble_eq_true rfl) (Nat.le_of_ble_eq_true rfl) ?_
            refine A_goto (tgt := 147) dX1_nation_136 (by decide) ?_
            exact A_iret dX1_nation_147 rfl (⟨(mayQ_0 hs (bi_n ⟨hs, ck1⟩) (bi_n ck2)), by rw [ixn bjn]; exact congrArg (fun z => some (Value.int z)) (by rw [show nationN N jn 6 = if na N jn 3 = 1 then na N jn 4 else lateN N jn (N 0) from rfl, if_pos (HD_1 hd9 c1).1, (HD_1 hd9 c1).2] <;> rfl), yσ⟩)
          · skip
            refine A_aload_n (i := 0) dX1_nation_119 rfl rfl ?_
            refine A_getf cb_X1 hX 4 (Nat.le_of_ble_eq_true rfl) q242 rfl (v := .ref (wW W)) rfl dX1_nation_120 ?_
            refine A_getfN cb_X5 h1 8 (Nat.le_of_ble_eq_true rfl) q844 rfl (v := .int (N 0)) rfl dX1_nation_123 ?_
            refine A_goto (tgt := 133) dX1_nation_126 (by decide) ?_
            refine A_callV1E (b' := 2) (v := some (.int (mx 0 ((N 0) - (na N jn 0))))) (τ := σ) (c_nLate σ (wN W jn) (na N jn 0) (na N jn 1) (na N jn 2) hh9 (N 0) hn9) tX6_late q1478 hn9 rfl rfl dX1_nation_133 (by decide) (Nat.le_of_ble_eq_true rfl) (Nat.le_of_ble_eq_true rfl) ?_
            refine A_goto (tgt := 147) dX1_nation_136 (by decide) ?_
            exact A_iret dX1_nation_147 rfl (⟨(mayQ_0 hs (bi_n ⟨hs, ck1⟩) (bi_n ck2)), by rw [ixn bjn]; exact congrArg (fun z => some (Value.int z)) (by rw [show nationN N jn 6 = if na N jn 3 = 1 then na N jn 4 else lateN N jn (N 0) from rfl, if_neg (by rw [HD_0 hd9 c1]; decide)] <;> rfl), yσ⟩)
      · skip
        refine A_of rfl (by decide) (Nat.le_of_ble_eq_true rfl) (L0 := [(0, .ref x), (1, .int (nI jn)), (2, .int v)]) rfl ?_
        refine A_wfh (fun wσ hgσ => ?_)
        have yσ : ext σ σ := ext.rf
        refine A_aload_n (i := 0) dX1_nation_0 rfl rfl ?_
        refine A_iload_n (i := 1) dX1_nation_1 rfl rfl ?_
        refine A_callV1E (b' := 2) (v := some (.ref (wN W jn))) (τ := σ) (c_checkNation σ x bf dq sv ou bd pe ep W N jn hX hR9 hD hjn) tX1_checkNation q1455 hX rfl rfl dX1_nation_2 (by decide) (Nat.le_of_ble_eq_true rfl) (Nat.le_of_ble_eq_true rfl) ?_
        refine A_astore_n (i := 3) dX1_nation_5 rfl (Nat.le_of_ble_eq_true rfl) ?_
        refine A_iload_n (i := 2) dX1_nation_6 rfl rfl ?_
        refine A_tableOut (tgt := 139) dX1_nation_7 (inE_no ck2) (by decide) ?_
        refine A_throw0 (b' := 0) (by decide +kernel) dX1_nation_139 dX1_nation_142 dX1_nation_143 dX1_nation_146 (by decide) (Nat.le_of_ble_eq_true rfl) (by decide) (fun q9 n9 hq9 hn9 => A_out rfl (⟨yσ.tr (ext_n hn9), 2, rfl, by rw [mayQ_3 hs (bi_n ⟨hs, ck1⟩) (bi_f ck2)]; rfl⟩))
    · skip
      refine A_of rfl (by decide) (Nat.le_of_ble_eq_true rfl) (L0 := [(0, .ref x), (1, .int n), (2, .int v)]) rfl ?_
      refine A_wfh (fun wσ hgσ => ?_)
      have yσ : ext σ σ := ext.rf
      refine A_aload_n (i := 0) dX1_nation_0 rfl rfl ?_
      refine A_iload_n (i := 1) dX1_nation_1 rfl rfl ?_
      refine A_callV1 (b' := 0) (c_checkNation_no σ x bf dq sv ou bd pe ep W N n hX hR9 hD ck1) tX1_checkNation q1455 hX rfl rfl dX1_nation_2 (by decide) (Nat.le_of_ble_eq_true rfl) (Nat.le_of_ble_eq_true rfl) (fun w9 τ9 h9 => h9.elim) (fun E9 q9 τ9 h9 => A_out rfl (⟨yσ.tr h9.2, 1, by rw [h9.1]; rfl, by rw [(mayQ_2 hs (bi_f (fun h => ck1 h.2)))]; rfl⟩))
theorem q_flag {l : Launch} {g : GC} (σ : AH) (x bf dq sv ou : Nat) (bd pe ep : Int32) (is : Int32) (nv : Value) (W : WA) (N : AF) (f v : Int32) (hL : LD g σ is nv W N) (hX : σ.1 x = some (lauC bf bd pe ep nv dq sv ou)) : AMet l g mX1_flag 10 2 [.ref x, .int f, .int v] σ (A_val (mayT is (bi (okF is N f)) (bi (inR v 0 9))) (.int (fl N (ix f) (ix v))) σ) (A_thr ["java/lang/IllegalStateException", "java/lang/IndexOutOfBoundsException", "java/lang/IllegalArgumentException"] (mayT is (bi (okF is N f)) (bi (inR v 0 9))) σ) := by
  rcases hL with ⟨h0, hn⟩ | ⟨hs, hn, hR, hD, hw, hh⟩
  · subst hn
    refine A_of rfl (by decide) (Nat.le_of_ble_eq_true rfl) (L0 := [(0, .ref x), (1, .int f), (2, .int v)]) rfl ?_
    refine A_wfh (fun wσ hgσ => ?_)
    have yσ : ext σ σ := ext.rf
    refine A_aload_n (i := 0) dX1_flag_0 rfl rfl ?_
    refine A_iload_n (i := 1) dX1_flag_1 rfl rfl ?_
    refine A_callV1 (b' := 0) (u_checkFlag σ x bf dq sv ou bd pe ep f hX) tX1_checkFlag q1490 hX rfl rfl dX1_flag_2 (by decide) (Nat.le_of_ble_eq_true rfl) (Nat.le_of_ble_eq_true rfl) (fun w9 τ9 h9 => h9.elim) (fun E9 q9 τ9 h9 => A_out rfl (⟨yσ.tr h9.2, 0, by rw [h9.1]; rfl, by rw [(mayQ_1 h0)]; rfl⟩))
  · subst hn
    have hW := hD.1
    have hR9 := hR
    obtain ⟨h1, ⟨fr, h2, h2p⟩, ⟨fm, h3, h3p⟩, ⟨mcn, fnA, h4, h4p, h4q⟩, ⟨mcf, ffA, h5, h5p, h5q⟩, ⟨fu, h6, h6p⟩, h7, h8, h9, h10, h11⟩ := hR
    have hF12 : nF N ≤ 12 := hW.2.2.2.2.2
    have hN4 : nN N ≤ 4 := hW.2.1.2
    have hC6 : nC N ≤ 6 := hW.1.2
    have hT3 : nT N ≤ 3 := hW.2.2.1.2
    have hP8 : nP N ≤ 8 := hW.2.2.2.1.2
    by_cases ck1 : inR f 0 (N 10 - 1)
    · skip
      obtain ⟨jf, hjf, rfl⟩ := in_ex hW.2.2.2.2.1 (Nat.le_trans hF12 (by decide)) ck1
      have bjf : jf < 2000 := Nat.lt_of_lt_of_le hjf (Nat.le_trans hF12 (by decide))
      by_cases ck2 : inR v 0 9
      · skip
        rcases inE9 ck2 with rfl | rfl | rfl | rfl | rfl | rfl | rfl | rfl | rfl | rfl
        · skip
          refine A_of rfl (by decide) (Nat.le_of_ble_eq_true rfl) (L0 := [(0, .ref x), (1, .int (nI jf)), (2, .int 0)]) rfl ?_
          refine A_wfh (fun wσ hgσ => ?_)
          have yσ : ext σ σ := ext.rf
          refine A_aload_n (i := 0) dX1_flag_0 rfl rfl ?_
          refine A_iload_n (i := 1) dX1_flag_1 rfl rfl ?_
          refine A_callV1E (b' := 2) (v := some (.ref (wF W jf))) (τ := σ) (c_checkFlag σ x bf dq sv ou bd pe ep W N jf hX hR9 hD hjf) tX1_checkFlag q1490 hX rfl rfl dX1_flag_2 (by decide) (Nat.le_of_ble_eq_true rfl) (Nat.le_of_ble_eq_true rfl) ?_
          refine A_astore_n (i := 3) dX1_flag_5 rfl (Nat.le_of_ble_eq_true rfl) ?_
          refine A_iload_n (i := 2) dX1_flag_6 rfl rfl ?_
          refine A_tableIn (tgt := 60) dX1_flag_7 (by decide) (by decide) rfl (by decide) ?_
          refine A_aload_n (i := 3) dX1_flag_60 rfl rfl ?_
          refine A_getfN cb_X7 (hR9.2.2.2.2.2.2.1 jf hjf) 0 (Nat.le_of_ble_eq_true rfl) q1098 rfl (v := .int (fl N jf 0)) rfl dX1_flag_61 ?_
          refine A_goto (tgt := 144) dX1_flag_64 (by decide) ?_
          exact A_iret dX1_flag_144 rfl (⟨(mayQ_0 hs (bi_n ⟨hs, ck1⟩) (bi_n ck2)), by rw [ixn bjf] <;> rfl, yσ⟩)
        · skip
          refine A_of rfl (by decide) (Nat.le_of_ble_eq_true rfl) (L0 := [(0, .ref x), (1, .int (nI jf)), (2, .int 1)]) rfl ?_
          refine A_wfh (fun wσ hgσ => ?_)
          have yσ : ext σ σ := ext.rf
          refine A_aload_n (i := 0) dX1_flag_0 rfl rfl ?_
          refine A_iload_n (i := 1) dX1_flag_1 rfl rfl ?_
          refine A_callV1E (b' := 2) (v := some (.ref (wF W jf))) (τ := σ) (c_checkFlag σ x bf dq sv ou bd pe ep W N jf hX hR9 hD hjf) tX1_checkFlag q1490 hX rfl rfl dX1_flag_2 (by decide) (Nat.le_of_ble_eq_true rfl) (Nat.le_of_ble_eq_true rfl) ?_
          refine A_astore_n (i := 3) dX1_flag_5 rfl (Nat.le_of_ble_eq_true rfl) ?_
          refine A_iload_n (i := 2) dX1_flag_6 rfl rfl ?_
          refine A_tableIn (tgt := 67) dX1_flag_7 (by decide) (by decide) rfl (by decide) ?_
          refine A_aload_n (i := 3) dX1_flag_67 rfl rfl ?_
          refine A_getfN cb_X7 (hR9.2.2.2.2.2.2.1 jf hjf) 1 (Nat.le_of_ble_eq_true rfl) q1101 rfl (v := .int (fl N jf 1)) rfl dX1_flag_68 ?_
          refine A_goto (tgt := 144) dX1_flag_71 (by decide) ?_
          exact A_iret dX1_flag_144 rfl (⟨(mayQ_0 hs (bi_n ⟨hs, ck1⟩) (bi_n ck2)), by rw [ixn bjf] <;> rfl, yσ⟩)
        · skip
          refine A_of rfl (by decide) (Nat.le_of_ble_eq_true rfl) (L0 := [(0, .ref x), (1, .int (nI jf)), (2, .int 2)]) rfl ?_
          refine A_wfh (fun wσ hgσ => ?_)
          have yσ : ext σ σ := ext.rf
          refine A_aload_n (i := 0) dX1_flag_0 rfl rfl ?_
          refine A_iload_n (i := 1) dX1_flag_1 rfl rfl ?_
          refine A_callV1E (b' := 2) (v := some (.ref (wF W jf))) (τ := σ) (c_checkFlag σ x bf dq sv ou bd pe ep W N jf hX hR9 hD hjf) tX1_checkFlag q1490 hX rfl rfl dX1_flag_2 (by decide) (Nat.le_of_ble_eq_true rfl) (Nat.le_of_ble_eq_true rfl) ?_
          refine A_astore_n (i := 3) dX1_flag_5 rfl (Nat.le_of_ble_eq_true rfl) ?_
          refine A_iload_n (i := 2) dX1_flag_6 rfl rfl ?_
          refine A_tableIn (tgt := 74) dX1_flag_7 (by decide) (by decide) rfl (by decide) ?_
          refine A_aload_n (i := 3) dX1_flag_74 rfl rfl ?_
          refine A_getfN cb_X7 (hR9.2.2.2.2.2.2.1 jf hjf) 2 (Nat.le_of_ble_eq_true rfl) q1104 rfl (v := .int (fl N jf 2)) rfl dX1_flag_75 ?_
          refine A_goto (tgt := 144) dX1_flag_78 (by decide) ?_
          exact A_iret dX1_flag_144 rfl (⟨(mayQ_0 hs (bi_n ⟨hs, ck1⟩) (bi_n ck2)), by rw [ixn bjf] <;> rfl, yσ⟩)
        · skip
          refine A_of rfl (by decide) (Nat.le_of_ble_eq_true rfl) (L0 := [(0, .ref x), (1, .int (nI jf)), (2, .int 3)]) rfl ?_
          refine A_wfh (fun wσ hgσ => ?_)
          have yσ : ext σ σ := ext.rf
          refine A_aload_n (i := 0) dX1_flag_0 rfl rfl ?_
          refine A_iload_n (i := 1) dX1_flag_1 rfl rfl ?_
          refine A_callV1E (b' := 2) (v := some (.ref (wF W jf))) (τ := σ) (c_checkFlag σ x bf dq sv ou bd pe ep W N jf hX hR9 hD hjf) tX1_checkFlag q1490 hX rfl rfl dX1_flag_2 (by decide) (Nat.le_of_ble_eq_true rfl) (Nat.le_of_ble_eq_true rfl) ?_
          refine A_astore_n (i := 3) dX1_flag_5 rfl (Nat.le_of_ble_eq_true rfl) ?_
          refine A_iload_n (i := 2) dX1_flag_6 rfl rfl ?_
          refine A_tableIn (tgt := 81) dX1_flag_7 (by decide) (by decide) rfl (by decide) ?_
          refine A_aload_n (i := 3) dX1_flag_81 rfl rfl ?_
          refine A_getfN cb_X7 (hR9.2.2.2.2.2.2.1 jf hjf) 3 (Nat.le_of_ble_eq_true rfl) q1107 rfl (v := .int (fl N jf 3)) rfl dX1_flag_82 ?_
          refine A_goto (tgt := 144) dX1_flag_85 (by decide) ?_
          exact A_iret dX1_flag_144 rfl (⟨(mayQ_0 hs (bi_n ⟨hs, ck1⟩) (bi_n ck2)), by rw [ixn bjf] <;> rfl, yσ⟩)
        · skip
          refine A_of rfl (by decide) (Nat.le_of_ble_eq_true rfl) (L0 := [(0, .ref x), (1, .int (nI jf)), (2, .int 4)]) rfl ?_
          refine A_wfh (fun wσ hgσ => ?_)
          have yσ : ext σ σ := ext.rf
          refine A_aload_n (i := 0) dX1_flag_0 rfl rfl ?_
          refine A_iload_n (i := 1) dX1_flag_1 rfl rfl ?_
          refine A_callV1E (b' := 2) (v := some (.ref (wF W jf))) (τ := σ) (c_checkFlag σ x bf dq sv ou bd pe ep W N jf hX hR9 hD hjf) tX1_checkFlag q1490 hX rfl rfl dX1_flag_2 (by decide) (Nat.le_of_ble_eq_true rfl) (Nat.le_of_ble_eq_true rfl) ?_
          refine A_astore_n (i := 3) dX1_flag_5 rfl (Nat.le_of_ble_eq_true rfl) ?_
          refine A_iload_n (i := 2) dX1_flag_6 rfl rfl ?_
          refine A_tableIn (tgt := 88) dX1_flag_7 (by decide) (by decide) rfl (by decide) ?_
          refine A_aload_n (i := 3) dX1_flag_88 rfl rfl ?_
          refine A_getfN cb_X7 (hR9.2.2.2.2.2.2.1 jf hjf) 4 (Nat.le_of_ble_eq_true rfl) q1110 rfl (v := .int (fl N jf 4)) rfl dX1_flag_89 ?_
          refine A_goto (tgt := 144) dX1_flag_92 (by decide) ?_
          exact A_iret dX1_flag_144 rfl (⟨(mayQ_0 hs (bi_n ⟨hs, ck1⟩) (bi_n ck2)), by rw [ixn bjf] <;> rfl, yσ⟩)
        · skip
          refine A_of rfl (by decide) (Nat.le_of_ble_eq_true rfl) (L0 := [(0, .ref x), (1, .int (nI jf)), (2, .int 5)]) rfl ?_
          refine A_wfh (fun wσ hgσ => ?_)
          have yσ : ext σ σ := ext.rf
          refine A_aload_n (i := 0) dX1_flag_0 rfl rfl ?_
          refine A_iload_n (i := 1) dX1_flag_1 rfl rfl ?_
          refine A_callV1E (b' := 2) (v := some (.ref (wF W jf))) (τ := σ) (c_checkFlag σ x bf dq sv ou bd pe ep W N jf hX hR9 hD hjf) tX1_checkFlag q1490 hX rfl rfl dX1_flag_2 (by decide) (Nat.le_of_ble_eq_true rfl) (Nat.le_of_ble_eq_true rfl) ?_
          refine A_astore_n (i := 3) dX1_flag_5 rfl (Nat.le_of_ble_eq_true rfl) ?_
          refine A_iload_n (i := 2) dX1_flag_6 rfl rfl ?_
          refine A_tableIn (tgt := 95) dX1_flag_7 (by decide) (by decide) rfl (by decide) ?_
          refine A_aload_n (i := 3) dX1_flag_95 rfl rfl ?_
          refine A_getfN cb_X7 (hR9.2.2.2.2.2.2.1 jf hjf) 5 (Nat.le_of_ble_eq_true rfl) q1112 rfl (v := .int (fl N jf 5)) rfl dX1_flag_96 ?_
          refine A_goto (tgt := 144) dX1_flag_99 (by decide) ?_
          exact A_iret dX1_flag_144 rfl (⟨(mayQ_0 hs (bi_n ⟨hs, ck1⟩) (bi_n ck2)), by rw [ixn bjf] <;> rfl, yσ⟩)
        · skip
          refine A_of rfl (by decide) (Nat.le_of_ble_eq_true rfl) (L0 := [(0, .ref x), (1, .int (nI jf)), (2, .int 6)]) rfl ?_
          refine A_wfh (fun wσ hgσ => ?_)
          have yσ : ext σ σ := ext.rf
          refine A_aload_n (i := 0) dX1_flag_0 rfl rfl ?_
          refine A_iload_n (i := 1) dX1_flag_1 rfl rfl ?_
          refine A_callV1E (b' := 2) (v := some (.ref (wF W jf))) (τ := σ) (c_checkFlag σ x bf dq sv ou bd pe ep W N jf hX hR9 hD hjf) tX1_checkFlag q1490 hX rfl rfl dX1_flag_2 (by decide) (Nat.le_of_ble_eq_true rfl) (Nat.le_of_ble_eq_true rfl) ?_
          refine A_astore_n (i := 3) dX1_flag_5 rfl (Nat.le_of_ble_eq_true rfl) ?_
          refine A_iload_n (i := 2) dX1_flag_6 rfl rfl ?_
          refine A_tableIn (tgt := 102) dX1_flag_7 (by decide) (by decide) rfl (by decide) ?_
          refine A_aload_n (i := 3) dX1_flag_102 rfl rfl ?_
          refine A_getfN cb_X7 (hR9.2.2.2.2.2.2.1 jf hjf) 6 (Nat.le_of_ble_eq_true rfl) q1116 rfl (v := .int (fl N jf 6)) rfl dX1_flag_103 ?_
          refine A_goto (tgt := 144) dX1_flag_106 (by decide) ?_
          exact A_iret dX1_flag_144 rfl (⟨(mayQ_0 hs (bi_n ⟨hs, ck1⟩) (bi_n ck2)), by rw [ixn bjf] <;> rfl, yσ⟩)
        · skip
          refine A_of rfl (by decide) (Nat.le_of_ble_eq_true rfl) (L0 := [(0, .ref x), (1, .int (nI jf)), (2, .int 7)]) rfl ?_
          refine A_wfh (fun wσ hgσ => ?_)
          have yσ : ext σ σ := ext.rf
          refine A_aload_n (i := 0) dX1_flag_0 rfl rfl ?_
          refine A_iload_n (i := 1) dX1_flag_1 rfl rfl ?_
          refine A_callV1E (b' := 2) (v := some (.ref (wF W jf))) (τ := σ) (c_checkFlag σ x bf dq sv ou bd pe ep W N jf hX hR9 hD hjf) tX1_checkFlag q1490 hX rfl rfl dX1_flag_2 (by decide) (Nat.le_of_ble_eq_true rfl) (Nat.le_of_ble_eq_true rfl) ?_
          refine A_astore_n (i := 3) dX1_flag_5 rfl (Nat.le_of_ble_eq_true rfl) ?_
          refine A_iload_n (i := 2) dX1_flag_6 rfl rfl ?_
          refine A_tableIn (tgt := 109) dX1_flag_7 (by decide) (by decide) rfl (by decide) ?_
          refine A_aload_n (i := 3) dX1_flag_109 rfl rfl ?_
          refine A_getfN cb_X7 (hR9.2.2.2.2.2.2.1 jf hjf) 7 (Nat.le_of_ble_eq_true rfl) q1118 rfl (v := .int (fl N jf 7)) rfl dX1_flag_110 ?_
          refine A_goto (tgt := 144) dX1_flag_113 (by decide) ?_
          exact A_iret dX1_flag_144 rfl (⟨(mayQ_0 hs (bi_n ⟨hs, ck1⟩) (bi_n ck2)), by rw [ixn bjf] <;> rfl, yσ⟩)
        · skip
          refine A_of rfl (by decide) (Nat.le_of_ble_eq_true rfl) (L0 := [(0, .ref x), (1, .int (nI jf)), (2, .int 8)]) rfl ?_
          refine A_wfh (fun wσ hgσ => ?_)
          have yσ : ext σ σ := ext.rf
          refine A_aload_n (i := 0) dX1_flag_0 rfl rfl ?_
          refine A_iload_n (i := 1) dX1_flag_1 rfl rfl ?_
          refine A_callV1E (b' := 2) (v := some (.ref (wF W jf))) (τ := σ) (c_checkFlag σ x bf dq sv ou bd pe ep W N jf hX hR9 hD hjf) tX1_checkFlag q1490 hX rfl rfl dX1_flag_2 (by decide) (Nat.le_of_ble_eq_true rfl) (Nat.le_of_ble_eq_true rfl) ?_
          refine A_astore_n (i := 3) dX1_flag_5 rfl (Nat.le_of_ble_eq_true rfl) ?_
          refine A_iload_n (i := 2) dX1_flag_6 rfl rfl ?_
          refine A_tableIn (tgt := 116) dX1_flag_7 (by decide) (by decide) rfl (by decide) ?_
          refine A_aload_n (i := 3) dX1_flag_116 rfl rfl ?_
          refine A_getfN cb_X7 (hR9.2.2.2.2.2.2.1 jf hjf) 8 (Nat.le_of_ble_eq_true rfl) q1122 rfl (v := .ref (wP W jf)) rfl dX1_flag_117 ?_
          refine A_callS1E (b' := 2) (v := some (.int (fl N jf 8))) (τ := σ) (c_kindOf σ (wP W jf) (fl N jf) (hR9.2.2.2.2.2.2.2.1 jf hjf) (flok_k hD hjf)) tX1_kindOf q1494 dX1_flag_120 (by decide) (Nat.le_of_ble_eq_true rfl) (Nat.le_of_ble_eq_true rfl) ?_
          refine A_goto (tgt := 144) dX1_flag_123 (by decide) ?_
          exact A_iret dX1_flag_144 rfl (⟨(mayQ_0 hs (bi_n ⟨hs, ck1⟩) (bi_n ck2)), by rw [ixn bjf] <;> rfl, yσ⟩)
        · skip
          refine A_of rfl (by decide) (Nat.le_of_ble_eq_true rfl) (L0 := [(0, .ref x), (1, .int (nI jf)), (2, .int 9)]) rfl ?_
          refine A_wfh (fun wσ hgσ => ?_)
          have yσ : ext σ σ := ext.rf
          refine A_aload_n (i := 0) dX1_flag_0 rfl rfl ?_
          refine A_iload_n (i := 1) dX1_flag_1 rfl rfl ?_
          refine A_callV1E (b' := 2) (v := some (.ref (wF W jf))) (τ := σ) (c_checkFlag σ x bf dq sv ou bd pe ep W N jf hX hR9 hD hjf) tX1_checkFlag q1490 hX rfl rfl dX1_flag_2 (by decide) (Nat.le_of_ble_eq_true rfl) (Nat.le_of_ble_eq_true rfl) ?_
          refine A_astore_n (i := 3) dX1_flag_5 rfl (Nat.le_of_ble_eq_true rfl) ?_
          refine A_iload_n (i := 2) dX1_flag_6 rfl rfl ?_
          refine A_tableIn (tgt := 126) dX1_flag_7 (by decide) (by decide) rfl (by decide) ?_
          refine A_aload_n (i := 3) dX1_flag_126 rfl rfl ?_
          refine A_getfN cb_X7 (hR9.2.2.2.2.2.2.1 jf hjf) 8 (Nat.le_of_ble_eq_true rfl) q1122 rfl (v := .ref (wP W jf)) rfl dX1_flag_127 ?_
          refine A_callS1E (b' := 2) (v := some (.int (fl N jf 9))) (τ := σ) (c_numberOf1 σ W N jf hR9 hD hjf) tX1_numberOf q1495 dX1_flag_130 (by decide) (Nat.le_of_ble_eq_true rfl) (Nat.le_of_ble_eq_true rfl) ?_
          refine A_goto (tgt := 144) dX1_flag_133 (by decide) ?_
          exact A_iret dX1_flag_144 rfl (⟨(mayQ_0 hs (bi_n ⟨hs, ck1⟩) (bi_n ck2)), by rw [ixn bjf] <;> rfl, yσ⟩)
      · skip
        refine A_of rfl (by decide) (Nat.le_of_ble_eq_true rfl) (L0 := [(0, .ref x), (1, .int (nI jf)), (2, .int v)]) rfl ?_
        refine A_wfh (fun wσ hgσ => ?_)
        have yσ : ext σ σ := ext.rf
        refine A_aload_n (i := 0) dX1_flag_0 rfl rfl ?_
        refine A_iload_n (i := 1) dX1_flag_1 rfl rfl ?_
        refine A_callV1E (b' := 2) (v := some (.ref (wF W jf))) (τ := σ) (c_checkFlag σ x bf dq sv ou bd pe ep W N jf hX hR9 hD hjf) tX1_checkFlag q1490 hX rfl rfl dX1_flag_2 (by decide) (Nat.le_of_ble_eq_true rfl) (Nat.le_of_ble_eq_true rfl) ?_
        refine A_astore_n (i := 3) dX1_flag_5 rfl (Nat.le_of_ble_eq_true rfl) ?_
        refine A_iload_n (i := 2) dX1_flag_6 rfl rfl ?_
        refine A_tableOut (tgt := 136) dX1_flag_7 (inE_no ck2) (by decide) ?_
        refine A_throw0 (b' := 0) (by decide +kernel) dX1_flag_136 dX1_flag_139 dX1_flag_140 dX1_flag_143 (by decide) (Nat.le_of_ble_eq_true rfl) (by decide) (fun q9 n9 hq9 hn9 => A_out rfl (⟨yσ.tr (ext_n hn9), 2, rfl, by rw [mayQ_3 hs (bi_n ⟨hs, ck1⟩) (bi_f ck2)]; rfl⟩))
    · skip
      refine A_of rfl (by decide) (Nat.le_of_ble_eq_true rfl) (L0 := [(0, .ref x), (1, .int f), (2, .int v)]) rfl ?_
      refine A_wfh (fun wσ hgσ => ?_)
      have yσ : ext σ σ := ext.rf
      refine A_aload_n (i := 0) dX1_flag_0 rfl rfl ?_
      refine A_iload_n (i := 1) dX1_flag_1 rfl rfl ?_
      refine A_callV1 (b' := 0) (c_checkFlag_no σ x bf dq sv ou bd pe ep W N f hX hR9 hD ck1) tX1_checkFlag q1490 hX rfl rfl dX1_flag_2 (by decide) (Nat.le_of_ble_eq_true rfl) (Nat.le_of_ble_eq_true rfl) (fun w9 τ9 h9 => h9.elim) (fun E9 q9 τ9 h9 => A_out rfl (⟨yσ.tr h9.2, 1, by rw [h9.1]; rfl, by rw [(mayQ_2 hs (bi_f (fun h => ck1 h.2)))]; rfl⟩))
theorem q_tub {l : Launch} {g : GC} (σ : AH) (x bf dq sv ou : Nat) (bd pe ep : Int32) (is : Int32) (nv : Value) (W : WA) (N : AF) (t v : Int32) (hL : LD g σ is nv W N) (hX : σ.1 x = some (lauC bf bd pe ep nv dq sv ou)) : AMet l g mX1_tub 34 2 [.ref x, .int t, .int v] σ (A_val (mayT is (bi (okT is N t)) (bi (inR v 0 4))) (.int (tubN N (ix t) v)) σ) (A_thr ["java/lang/IllegalStateException", "java/lang/IndexOutOfBoundsException", "java/lang/IllegalArgumentException"] (mayT is (bi (okT is N t)) (bi (inR v 0 4))) σ) := by
  rcases hL with ⟨h0, hn⟩ | ⟨hs, hn, hR, hD, hw, hh⟩
  · subst hn
    refine A_of rfl (by decide) (Nat.le_of_ble_eq_true rfl) (L0 := [(0, .ref x), (1, .int t), (2, .int v)]) rfl ?_
    refine A_wfh (fun wσ hgσ => ?_)
    have yσ : ext σ σ := ext.rf
    refine A_aload_n (i := 0) dX1_tub_0 rfl rfl ?_
    refine A_iload_n (i := 1) dX1_tub_1 rfl rfl ?_
    refine A_callV1 (b' := 0) (u_checkTub σ x bf dq sv ou bd pe ep t hX) tX1_checkTub q1505 hX rfl rfl dX1_tub_2 (by decide) (Nat.le_of_ble_eq_true rfl) (Nat.le_of_ble_eq_true rfl) (fun w9 τ9 h9 => h9.elim) (fun E9 q9 τ9 h9 => A_out rfl (⟨yσ.tr h9.2, 0, by rw [h9.1]; rfl, by rw [(mayQ_1 h0)]; rfl⟩))
  · subst hn
    have hW := hD.1
    have hR9 := hR
    obtain ⟨h1, ⟨fr, h2, h2p⟩, ⟨fm, h3, h3p⟩, ⟨mcn, fnA, h4, h4p, h4q⟩, ⟨mcf, ffA, h5, h5p, h5q⟩, ⟨fu, h6, h6p⟩, h7, h8, h9, h10, h11⟩ := hR
    have hF12 : nF N ≤ 12 := hW.2.2.2.2.2
    have hN4 : nN N ≤ 4 := hW.2.1.2
    have hC6 : nC N ≤ 6 := hW.1.2
    have hT3 : nT N ≤ 3 := hW.2.2.1.2
    have hP8 : nP N ≤ 8 := hW.2.2.2.1.2
    by_cases ck1 : inR t 0 (N 8 - 1)
    · skip
      obtain ⟨jt, hjt, rfl⟩ := in_ex hW.2.2.1.1 (Nat.le_trans hT3 (by decide)) ck1
      have bjt : jt < 2000 := Nat.lt_of_lt_of_le hjt (Nat.le_trans hT3 (by decide))
      by_cases ck2 : inR v 0 4
      · skip
        rcases inE4 ck2 with rfl | rfl | rfl | rfl | rfl
        · skip
          refine A_of rfl (by decide) (Nat.le_of_ble_eq_true rfl) (L0 := [(0, .ref x), (1, .int (nI jt)), (2, .int 0)]) rfl ?_
          refine A_wfh (fun wσ hgσ => ?_)
          have yσ : ext σ σ := ext.rf
          refine A_aload_n (i := 0) dX1_tub_0 rfl rfl ?_
          refine A_iload_n (i := 1) dX1_tub_1 rfl rfl ?_
          refine A_callV1E (b' := 2) (v := some (.ref (wW W))) (τ := σ) (c_checkTub σ x bf dq sv ou bd pe ep W N jt hX hR9 hD hjt) tX1_checkTub q1505 hX rfl rfl dX1_tub_2 (by decide) (Nat.le_of_ble_eq_true rfl) (Nat.le_of_ble_eq_true rfl) ?_
          refine A_astore_n (i := 3) dX1_tub_5 rfl (Nat.le_of_ble_eq_true rfl) ?_
          refine A_iload_n (i := 2) dX1_tub_6 rfl rfl ?_
          refine A_tableIn (tgt := 40) dX1_tub_7 (by decide) (by decide) rfl (by decide) ?_
          refine A_aload_n (i := 3) dX1_tub_40 rfl rfl ?_
          refine A_getfN cb_X5 h1 2 (Nat.le_of_ble_eq_true rfl) q829 rfl (v := .ref (wM W)) rfl dX1_tub_41 ?_
          refine A_iload_n (i := 1) dX1_tub_44 rfl rfl ?_
          refine A_iald h3 (vp_in_nI (Nat.lt_of_lt_of_le hjt hT3) (by decide)) dX1_tub_45 ?_
          refine A_int (w := N (38 + jt)) (by rw [nI_clamp (Nat.lt_trans bjt (by decide))]; exact h3p jt hjt) ?_
          refine A_goto (tgt := 89) dX1_tub_46 (by decide) ?_
          exact A_iret dX1_tub_89 rfl (⟨(mayQ_0 hs (bi_n ⟨hs, ck1⟩) (bi_n ck2)), by rw [ixn bjt] <;> rfl, yσ⟩)
        · skip
          refine A_of rfl (by decide) (Nat.le_of_ble_eq_true rfl) (L0 := [(0, .ref x), (1, .int (nI jt)), (2, .int 1)]) rfl ?_
          refine A_wfh (fun wσ hgσ => ?_)
          have yσ : ext σ σ := ext.rf
          refine A_aload_n (i := 0) dX1_tub_0 rfl rfl ?_
          refine A_iload_n (i := 1) dX1_tub_1 rfl rfl ?_
          refine A_callV1E (b' := 2) (v := some (.ref (wW W))) (τ := σ) (c_checkTub σ x bf dq sv ou bd pe ep W N jt hX hR9 hD hjt) tX1_checkTub q1505 hX rfl rfl dX1_tub_2 (by decide) (Nat.le_of_ble_eq_true rfl) (Nat.le_of_ble_eq_true rfl) ?_
          refine A_astore_n (i := 3) dX1_tub_5 rfl (Nat.le_of_ble_eq_true rfl) ?_
          refine A_iload_n (i := 2) dX1_tub_6 rfl rfl ?_
          refine A_tableIn (tgt := 49) dX1_tub_7 (by decide) (by decide) rfl (by decide) ?_
          refine A_aload_n (i := 3) dX1_tub_49 rfl rfl ?_
          refine A_iload_n (i := 1) dX1_tub_50 rfl rfl ?_
          refine A_callV1 (b' := 1) (c_within σ W N (nI jt) hR9 hD) tX5_within q1184 h1 rfl rfl dX1_tub_51 (by decide) (Nat.le_of_ble_eq_true rfl) (Nat.le_of_ble_eq_true rfl) (fun w9 σ1 h9 => ?_) (fun E9 q9 τ9 h9 => h9.elim)
          obtain ⟨e9, xσ1⟩ := h9
          subst e9
          refine A_wfh (fun wσ1 hgσ1 => ?_)
          have yσ1 : ext σ σ1 := yσ.tr (xσ1)
          have fσ1_0 : σ1.1 (wW W) = some (.inr (.inl (4, [.int (N 9), .ref (wR W), .ref (wM W), .ref (wNL W), .ref (wFL W), .ref (wUN W), .int (N 6), .int (N 8), .int (N 0), .int (N 1), .int (N 2), .int (N 3), .int (N 4), .int (N 5), .int (N 11)]))) := xσ1.at wσ h1
          have fσ1_1 : σ1.1 (wFL W) = some (.inr (.inl (14, [.int mcf, .ref (wFA W), .int (nI (nF N))]))) := xσ1.at wσ h5
          have fσ1_2 : σ1.1 (wFA W) = some (.inl (.object "java/lang/Object", 12, .inr (.inr (.inr (.inr ffA))))) := xσ1.at wσ h5p
          have fσ1_3 : σ1.1 (wNL W) = some (.inr (.inl (14, [.int mcn, .ref (wNA W), .int (nI (nN N))]))) := xσ1.at wσ h4
          have fσ1_4 : σ1.1 (wNA W) = some (.inl (.object "java/lang/Object", 4, .inr (.inr (.inr (.inr fnA))))) := xσ1.at wσ h4p
          have fσ1_5 : σ1.1 (wR W) = some (.inl (.int, 6, .inl fr)) := xσ1.at wσ h2
          have fσ1_6 : σ1.1 (wM W) = some (.inl (.int, 3, .inl fm)) := xσ1.at wσ h3
          have fσ1_7 : σ1.1 (wUN W) = some (.inl (.object "FlagLaundry$Test", 7, .inr (.inr (.inr (.inr fu))))) := xσ1.at wσ h6
          have fσ1_8 : σ1.1 x = some (.inr (.inl (0, [.ref bf, .int bd, .int pe, .int ep, .ref (wW W), .ref dq, .ref sv, .ref ou]))) := xσ1.at wσ hX
          have hRσ1 : RW g σ1 W N := hR9.ext wσ xσ1
          refine A_goto (tgt := 89) dX1_tub_54 (by decide) ?_
          exact A_iret dX1_tub_89 rfl (⟨(mayQ_0 hs (bi_n ⟨hs, ck1⟩) (bi_n ck2)), by rw [ixn bjt] <;> rfl, yσ1⟩)
        · skip
          refine A_of rfl (by decide) (Nat.le_of_ble_eq_true rfl) (L0 := [(0, .ref x), (1, .int (nI jt)), (2, .int 2)]) rfl ?_
          refine A_wfh (fun wσ hgσ => ?_)
          have yσ : ext σ σ := ext.rf
          refine A_aload_n (i := 0) dX1_tub_0 rfl rfl ?_
          refine A_iload_n (i := 1) dX1_tub_1 rfl rfl ?_
          refine A_callV1E (b' := 2) (v := some (.ref (wW W))) (τ := σ) (c_checkTub σ x bf dq sv ou bd pe ep W N jt hX hR9 hD hjt) tX1_checkTub q1505 hX rfl rfl dX1_tub_2 (by decide) (Nat.le_of_ble_eq_true rfl) (Nat.le_of_ble_eq_true rfl) ?_
          refine A_astore_n (i := 3) dX1_tub_5 rfl (Nat.le_of_ble_eq_true rfl) ?_
          refine A_iload_n (i := 2) dX1_tub_6 rfl rfl ?_
          refine A_tableIn (tgt := 57) dX1_tub_7 (by decide) (by decide) rfl (by decide) ?_
          refine A_aload_n (i := 3) dX1_tub_57 rfl rfl ?_
          refine A_iload_n (i := 1) dX1_tub_58 rfl rfl ?_
          refine A_callV1E (b' := 2) (v := some (.int (leastN N (nI jt)))) (τ := σ) (c_bears5 σ W N (nI jt) hR9 hD) tX5_bears q1241 h1 rfl rfl dX1_tub_59 (by decide) (Nat.le_of_ble_eq_true rfl) (Nat.le_of_ble_eq_true rfl) ?_
          refine A_goto (tgt := 89) dX1_tub_62 (by decide) ?_
          exact A_iret dX1_tub_89 rfl (⟨(mayQ_0 hs (bi_n ⟨hs, ck1⟩) (bi_n ck2)), by rw [ixn bjt] <;> rfl, yσ⟩)
        · skip
          refine A_of rfl (by decide) (Nat.le_of_ble_eq_true rfl) (L0 := [(0, .ref x), (1, .int (nI jt)), (2, .int 3)]) rfl ?_
          refine A_wfh (fun wσ hgσ => ?_)
          have yσ : ext σ σ := ext.rf
          refine A_aload_n (i := 0) dX1_tub_0 rfl rfl ?_
          refine A_iload_n (i := 1) dX1_tub_1 rfl rfl ?_
          refine A_callV1E (b' := 2) (v := some (.ref (wW W))) (τ := σ) (c_checkTub σ x bf dq sv ou bd pe ep W N jt hX hR9 hD hjt) tX1_checkTub q1505 hX rfl rfl dX1_tub_2 (by decide) (Nat.le_of_ble_eq_true rfl) (Nat.le_of_ble_eq_true rfl) ?_
          refine A_astore_n (i := 3) dX1_tub_5 rfl (Nat.le_of_ble_eq_true rfl) ?_
          refine A_iload_n (i := 2) dX1_tub_6 rfl rfl ?_
          refine A_tableIn (tgt := 65) dX1_tub_7 (by decide) (by decide) rfl (by decide) ?_
          refine A_aload_n (i := 3) dX1_tub_65 rfl rfl ?_
          refine A_iload_n (i := 1) dX1_tub_66 rfl rfl ?_
          refine A_callV1E (b' := 2) (v := some (.int (sm (fun f => if inTub N f (nI jt) then fl N f 3 else 0) (nF N)))) (τ := σ) (c_dirtIn5 σ W N (nI jt) hR9 hD) tX5_dirtIn q1509 h1 rfl rfl dX1_tub_67 (by decide) (Nat.le_of_ble_eq_true rfl) (Nat.le_of_ble_eq_true rfl) ?_
          refine A_goto (tgt := 89) dX1_tub_70 (by decide) ?_
          exact A_iret dX1_tub_89 rfl (⟨(mayQ_0 hs (bi_n ⟨hs, ck1⟩) (bi_n ck2)), by rw [ixn bjt] <;> rfl, yσ⟩)
        · skip
          refine A_of rfl (by decide) (Nat.le_of_ble_eq_true rfl) (L0 := [(0, .ref x), (1, .int (nI jt)), (2, .int 4)]) rfl ?_
          refine A_wfh (fun wσ hgσ => ?_)
          have yσ : ext σ σ := ext.rf
          refine A_aload_n (i := 0) dX1_tub_0 rfl rfl ?_
          refine A_iload_n (i := 1) dX1_tub_1 rfl rfl ?_
          refine A_callV1E (b' := 2) (v := some (.ref (wW W))) (τ := σ) (c_checkTub σ x bf dq sv ou bd pe ep W N jt hX hR9 hD hjt) tX1_checkTub q1505 hX rfl rfl dX1_tub_2 (by decide) (Nat.le_of_ble_eq_true rfl) (Nat.le_of_ble_eq_true rfl) ?_
          refine A_astore_n (i := 3) dX1_tub_5 rfl (Nat.le_of_ble_eq_true rfl) ?_
          refine A_iload_n (i := 2) dX1_tub_6 rfl rfl ?_
          refine A_tableIn (tgt := 73) dX1_tub_7 (by decide) (by decide) rfl (by decide) ?_
          refine A_aload_n (i := 3) dX1_tub_73 rfl rfl ?_
          refine A_iload_n (i := 1) dX1_tub_74 rfl rfl ?_
          refine A_callV1E (b' := 2) (v := some (.int (orF (fun f => if inTub N f (nI jt) then fl N f 1 else 0) (nF N)))) (τ := σ) (c_colIn5 σ W N (nI jt) hR9 hD) tX5_coloursIn q1513 h1 rfl rfl dX1_tub_75 (by decide) (Nat.le_of_ble_eq_true rfl) (Nat.le_of_ble_eq_true rfl) ?_
          refine A_goto (tgt := 89) dX1_tub_78 (by decide) ?_
          exact A_iret dX1_tub_89 rfl (⟨(mayQ_0 hs (bi_n ⟨hs, ck1⟩) (bi_n ck2)), by rw [ixn bjt] <;> rfl, yσ⟩)
      · skip
        refine A_of rfl (by decide) (Nat.le_of_ble_eq_true rfl) (L0 := [(0, .ref x), (1, .int (nI jt)), (2, .int v)]) rfl ?_
        refine A_wfh (fun wσ hgσ => ?_)
        have yσ : ext σ σ := ext.rf
        refine A_aload_n (i := 0) dX1_tub_0 rfl rfl ?_
        refine A_iload_n (i := 1) dX1_tub_1 rfl rfl ?_
        refine A_callV1E (b' := 2) (v := some (.ref (wW W))) (τ := σ) (c_checkTub σ x bf dq sv ou bd pe ep W N jt hX hR9 hD hjt) tX1_checkTub q1505 hX rfl rfl dX1_tub_2 (by decide) (Nat.le_of_ble_eq_true rfl) (Nat.le_of_ble_eq_true rfl) ?_
        refine A_astore_n (i := 3) dX1_tub_5 rfl (Nat.le_of_ble_eq_true rfl) ?_
        refine A_iload_n (i := 2) dX1_tub_6 rfl rfl ?_
        refine A_tableOut (tgt := 81) dX1_tub_7 (inE_no ck2) (by decide) ?_
        refine A_throw0 (b' := 0) (by decide +kernel) dX1_tub_81 dX1_tub_84 dX1_tub_85 dX1_tub_88 (by decide) (Nat.le_of_ble_eq_true rfl) (by decide) (fun q9 n9 hq9 hn9 => A_out rfl (⟨yσ.tr (ext_n hn9), 2, rfl, by rw [mayQ_3 hs (bi_n ⟨hs, ck1⟩) (bi_f ck2)]; rfl⟩))
    · skip
      refine A_of rfl (by decide) (Nat.le_of_ble_eq_true rfl) (L0 := [(0, .ref x), (1, .int t), (2, .int v)]) rfl ?_
      refine A_wfh (fun wσ hgσ => ?_)
      have yσ : ext σ σ := ext.rf
      refine A_aload_n (i := 0) dX1_tub_0 rfl rfl ?_
      refine A_iload_n (i := 1) dX1_tub_1 rfl rfl ?_
      refine A_callV1 (b' := 0) (c_checkTub_no σ x bf dq sv ou bd pe ep W N t hX hR9 hD ck1) tX1_checkTub q1505 hX rfl rfl dX1_tub_2 (by decide) (Nat.le_of_ble_eq_true rfl) (Nat.le_of_ble_eq_true rfl) (fun w9 τ9 h9 => h9.elim) (fun E9 q9 τ9 h9 => A_out rfl (⟨yσ.tr h9.2, 1, by rw [h9.1]; rfl, by rw [(mayQ_2 hs (bi_f (fun h => ck1 h.2)))]; rfl⟩))
theorem q_doNotMix {l : Launch} {g : GC} (σ : AH) (x bf dq sv ou : Nat) (bd pe ep : Int32) (is : Int32) (nv : Value) (W : WA) (N : AF) (f o h : Int32) (hL : LD g σ is nv W N) (hX : σ.1 x = some (lauC bf bd pe ep nv dq sv ou)) : AMet l g mX1_doNotMix 10 2 [.ref x, .int f, .int o, .int h] σ (A_val (mayT is (bi (okF is N f ∧ okF is N o)) (bi (inR h 0 3))) (.int (mixN N (ix f) (ix o) h)) σ) (A_thr ["java/lang/IllegalStateException", "java/lang/IndexOutOfBoundsException", "java/lang/IllegalArgumentException"] (mayT is (bi (okF is N f ∧ okF is N o)) (bi (inR h 0 3))) σ) := by
  rcases hL with ⟨h0, hn⟩ | ⟨hs, hn, hR, hD, hw, hh⟩
  · subst hn
    refine A_of rfl (by decide) (Nat.le_of_ble_eq_true rfl) (L0 := [(0, .ref x), (1, .int f), (2, .int o), (3, .int h)]) rfl ?_
    refine A_wfh (fun wσ hgσ => ?_)
    have yσ : ext σ σ := ext.rf
    refine A_aload_n (i := 0) dX1_doNotMix_0 rfl rfl ?_
    refine A_iload_n (i := 1) dX1_doNotMix_1 rfl rfl ?_
    refine A_callV1 (b' := 0) (u_checkFlag σ x bf dq sv ou bd pe ep f hX) tX1_checkFlag q1490 hX rfl rfl dX1_doNotMix_2 (by decide) (Nat.le_of_ble_eq_true rfl) (Nat.le_of_ble_eq_true rfl) (fun w9 τ9 h9 => h9.elim) (fun E9 q9 τ9 h9 => A_out rfl (⟨yσ.tr h9.2, 0, by rw [h9.1]; rfl, by rw [(mayQ_1 h0)]; rfl⟩))
  · subst hn
    have hW := hD.1
    have hR9 := hR
    obtain ⟨h1, ⟨fr, h2, h2p⟩, ⟨fm, h3, h3p⟩, ⟨mcn, fnA, h4, h4p, h4q⟩, ⟨mcf, ffA, h5, h5p, h5q⟩, ⟨fu, h6, h6p⟩, h7, h8, h9, h10, h11⟩ := hR
    have hF12 : nF N ≤ 12 := hW.2.2.2.2.2
    have hN4 : nN N ≤ 4 := hW.2.1.2
    have hC6 : nC N ≤ 6 := hW.1.2
    have hT3 : nT N ≤ 3 := hW.2.2.1.2
    have hP8 : nP N ≤ 8 := hW.2.2.2.1.2
    by_cases ck1 : inR f 0 (N 10 - 1)
    · skip
      obtain ⟨jf, hjf, rfl⟩ := in_ex hW.2.2.2.2.1 (Nat.le_trans hF12 (by decide)) ck1
      have bjf : jf < 2000 := Nat.lt_of_lt_of_le hjf (Nat.le_trans hF12 (by decide))
      by_cases ck2 : inR o 0 (N 10 - 1)
      · skip
        obtain ⟨jo, hjo, rfl⟩ := in_ex hW.2.2.2.2.1 (Nat.le_trans hF12 (by decide)) ck2
        have bjo : jo < 2000 := Nat.lt_of_lt_of_le hjo (Nat.le_trans hF12 (by decide))
        by_cases ck3 : inR h 0 3
        · skip
          obtain ⟨jh, hjh, rfl⟩ := hk_ex ck3
          have bjh : jh < 2000 := Nat.lt_of_le_of_lt hjh (by decide)
          have bjf3 : jf < 2 ^ 31 := Nat.lt_trans bjf (by decide)
          have bjo3 : jo < 2 ^ 31 := Nat.lt_trans bjo (by decide)
          refine A_of rfl (by decide) (Nat.le_of_ble_eq_true rfl) (L0 := [(0, .ref x), (1, .int (nI jf)), (2, .int (nI jo)), (3, .int (nI jh))]) rfl ?_
          refine A_wfh (fun wσ hgσ => ?_)
          have yσ : ext σ σ := ext.rf
          refine A_aload_n (i := 0) dX1_doNotMix_0 rfl rfl ?_
          refine A_iload_n (i := 1) dX1_doNotMix_1 rfl rfl ?_
          refine A_callV1E (b' := 2) (v := some (.ref (wF W jf))) (τ := σ) (c_checkFlag σ x bf dq sv ou bd pe ep W N jf hX hR9 hD hjf) tX1_checkFlag q1490 hX rfl rfl dX1_doNotMix_2 (by decide) (Nat.le_of_ble_eq_true rfl) (Nat.le_of_ble_eq_true rfl) ?_
          refine A_astore dX1_doNotMix_5 (Nat.le_of_ble_eq_true rfl) ?_
          refine A_aload_n (i := 0) dX1_doNotMix_7 rfl rfl ?_
          refine A_iload_n (i := 2) dX1_doNotMix_8 rfl rfl ?_
          refine A_callV1E (b' := 2) (v := some (.ref (wF W jo))) (τ := σ) (c_checkFlag σ x bf dq sv ou bd pe ep W N jo hX hR9 hD hjo) tX1_checkFlag q1490 hX rfl rfl dX1_doNotMix_9 (by decide) (Nat.le_of_ble_eq_true rfl) (Nat.le_of_ble_eq_true rfl) ?_
          refine A_astore dX1_doNotMix_12 (Nat.le_of_ble_eq_true rfl) ?_
          refine A_iload_n (i := 3) dX1_doNotMix_14 rfl rfl ?_
          refine A_callS1E (b' := 2) (v := none) (τ := σ) (c_checkHeat σ jh hjh) tX1_checkHeat q1672 dX1_doNotMix_15 (by decide) (Nat.le_of_ble_eq_true rfl) (Nat.le_of_ble_eq_true rfl) ?_
          refine A_iload_n (i := 1) dX1_doNotMix_18 rfl rfl ?_
          refine A_iload_n (i := 2) dX1_doNotMix_19 rfl rfl ?_
          refine A_icmp_ne (tgt := 27) dX1_doNotMix_20 (by decide) (fun c1 => ?_) (fun c1 => ?_)
          · skip
            refine A_aload_n (i := 0) dX1_doNotMix_27 rfl rfl ?_
            refine A_getf cb_X1 hX 4 (Nat.le_of_ble_eq_true rfl) q242 rfl (v := .ref (wW W)) rfl dX1_doNotMix_28 ?_
            refine A_aload dX1_doNotMix_31 rfl ?_
            refine A_aload dX1_doNotMix_33 rfl ?_
            refine A_iload_n (i := 3) dX1_doNotMix_35 rfl rfl ?_
            refine A_callV3E (b' := 2) (v := some (.int (bi (¬ newS N jo (runFrom N jf (nI jh)) = 0) + (2 * bi (¬ newS N jf (runFrom N jo (nI jh)) = 0))))) (τ := σ) (c_mixes5 σ W N jf jo (nI jh) hR9 hD hjf hjo) tX5_mixes q1771 h1 rfl rfl dX1_doNotMix_36 (by decide) (Nat.le_of_ble_eq_true rfl) (Nat.le_of_ble_eq_true rfl) ?_
            exact A_iret dX1_doNotMix_39 rfl (⟨(mayQ_0 hs (bi_n ⟨⟨hs, ck1⟩, ⟨hs, ck2⟩⟩) (bi_n ck3)), by rw [ixn bjf, ixn bjo]; unfold mixN; rw [if_neg (fun e => c1 (by rw [e]))] <;> rfl, yσ⟩)
          · skip
            refine A_iconst (v := 0) dX1_doNotMix_23 (by decide) ?_
            refine A_goto (tgt := 39) dX1_doNotMix_24 (by decide) ?_
            exact A_iret dX1_doNotMix_39 rfl (⟨(mayQ_0 hs (bi_n ⟨⟨hs, ck1⟩, ⟨hs, ck2⟩⟩) (bi_n ck3)), by rw [ixn bjf, ixn bjo]; unfold mixN; rw [if_pos ((nI_eqi bjf3 bjo3).mp c1)] <;> rfl, yσ⟩)
        · skip
          refine A_of rfl (by decide) (Nat.le_of_ble_eq_true rfl) (L0 := [(0, .ref x), (1, .int (nI jf)), (2, .int (nI jo)), (3, .int h)]) rfl ?_
          refine A_wfh (fun wσ hgσ => ?_)
          have yσ : ext σ σ := ext.rf
          refine A_aload_n (i := 0) dX1_doNotMix_0 rfl rfl ?_
          refine A_iload_n (i := 1) dX1_doNotMix_1 rfl rfl ?_
          refine A_callV1E (b' := 2) (v := some (.ref (wF W jf))) (τ := σ) (c_checkFlag σ x bf dq sv ou bd pe ep W N jf hX hR9 hD hjf) tX1_checkFlag q1490 hX rfl rfl dX1_doNotMix_2 (by decide) (Nat.le_of_ble_eq_true rfl) (Nat.le_of_ble_eq_true rfl) ?_
          refine A_astore dX1_doNotMix_5 (Nat.le_of_ble_eq_true rfl) ?_
          refine A_aload_n (i := 0) dX1_doNotMix_7 rfl rfl ?_
          refine A_iload_n (i := 2) dX1_doNotMix_8 rfl rfl ?_
          refine A_callV1E (b' := 2) (v := some (.ref (wF W jo))) (τ := σ) (c_checkFlag σ x bf dq sv ou bd pe ep W N jo hX hR9 hD hjo) tX1_checkFlag q1490 hX rfl rfl dX1_doNotMix_9 (by decide) (Nat.le_of_ble_eq_true rfl) (Nat.le_of_ble_eq_true rfl) ?_
          refine A_astore dX1_doNotMix_12 (Nat.le_of_ble_eq_true rfl) ?_
          refine A_iload_n (i := 3) dX1_doNotMix_14 rfl rfl ?_
          refine A_callS1 (b' := 0) (c_checkHeat_no σ h ck3) tX1_checkHeat q1672 dX1_doNotMix_15 (by decide) (Nat.le_of_ble_eq_true rfl) (Nat.le_of_ble_eq_true rfl) (fun w9 τ9 h9 => h9.elim) (fun E9 q9 τ9 h9 => A_out rfl (⟨yσ.tr h9.2, 2, by rw [h9.1]; rfl, by rw [(mayQ_3 hs (bi_n ⟨⟨hs, ck1⟩, ⟨hs, ck2⟩⟩) (bi_f (fun h => ck3 h)))]; rfl⟩))
      · skip
        refine A_of rfl (by decide) (Nat.le_of_ble_eq_true rfl) (L0 := [(0, .ref x), (1, .int (nI jf)), (2, .int o), (3, .int h)]) rfl ?_
        refine A_wfh (fun wσ hgσ => ?_)
        have yσ : ext σ σ := ext.rf
        refine A_aload_n (i := 0) dX1_doNotMix_0 rfl rfl ?_
        refine A_iload_n (i := 1) dX1_doNotMix_1 rfl rfl ?_
        refine A_callV1E (b' := 2) (v := some (.ref (wF W jf))) (τ := σ) (c_checkFlag σ x bf dq sv ou bd pe ep W N jf hX hR9 hD hjf) tX1_checkFlag q1490 hX rfl rfl dX1_doNotMix_2 (by decide) (Nat.le_of_ble_eq_true rfl) (Nat.le_of_ble_eq_true rfl) ?_
        refine A_astore dX1_doNotMix_5 (Nat.le_of_ble_eq_true rfl) ?_
        refine A_aload_n (i := 0) dX1_doNotMix_7 rfl rfl ?_
        refine A_iload_n (i := 2) dX1_doNotMix_8 rfl rfl ?_
        refine A_callV1 (b' := 0) (c_checkFlag_no σ x bf dq sv ou bd pe ep W N o hX hR9 hD ck2) tX1_checkFlag q1490 hX rfl rfl dX1_doNotMix_9 (by decide) (Nat.le_of_ble_eq_true rfl) (Nat.le_of_ble_eq_true rfl) (fun w9 τ9 h9 => h9.elim) (fun E9 q9 τ9 h9 => A_out rfl (⟨yσ.tr h9.2, 1, by rw [h9.1]; rfl, by rw [(mayQ_2 hs (bi_f (fun h => ck2 h.2.2)))]; rfl⟩))
    · skip
      refine A_of rfl (by decide) (Nat.le_of_ble_eq_true rfl) (L0 := [(0, .ref x), (1, .int f), (2, .int o), (3, .int h)]) rfl ?_
      refine A_wfh (fun wσ hgσ => ?_)
      have yσ : ext σ σ := ext.rf
      refine A_aload_n (i := 0) dX1_doNotMix_0 rfl rfl ?_
      refine A_iload_n (i := 1) dX1_doNotMix_1 rfl rfl ?_
      refine A_callV1 (b' := 0) (c_checkFlag_no σ x bf dq sv ou bd pe ep W N f hX hR9 hD ck1) tX1_checkFlag q1490 hX rfl rfl dX1_doNotMix_2 (by decide) (Nat.le_of_ble_eq_true rfl) (Nat.le_of_ble_eq_true rfl) (fun w9 τ9 h9 => h9.elim) (fun E9 q9 τ9 h9 => A_out rfl (⟨yσ.tr h9.2, 1, by rw [h9.1]; rfl, by rw [(mayQ_2 hs (bi_f (fun h => ck1 h.1.2)))]; rfl⟩))
theorem cl_nz {k : Nat} (h : k ≤ 3) : ¬ (1 + 2 * nI k : Int32) = 0 := by
  have := (by omega : k = 0 ∨ k = 1 ∨ k = 2 ∨ k = 3)
  rcases this with rfl | rfl | rfl | rfl <;> decide
theorem q_washesFor {l : Launch} {g : GC} (σ : AH) (x bf dq sv ou : Nat) (bd pe ep : Int32) (is : Int32) (nv : Value) (W : WA) (N : AF) (f : Int32) (hL : LD g σ is nv W N) (hX : σ.1 x = some (lauC bf bd pe ep nv dq sv ou)) : AMet l g mX1_washesFor 10 2 [.ref x, .int f] σ (A_val (mayT is (bi (okF is N f)) 1) (.int (wForN N (ix f))) σ) (A_thr ["java/lang/IllegalStateException", "java/lang/IndexOutOfBoundsException"] (mayT is (bi (okF is N f)) 1) σ) := by
  rcases hL with ⟨h0, hn⟩ | ⟨hs, hn, hR, hD, hw, hh⟩
  · subst hn
    refine A_of rfl (by decide) (Nat.le_of_ble_eq_true rfl) (L0 := [(0, .ref x), (1, .int f)]) rfl ?_
    refine A_wfh (fun wσ hgσ => ?_)
    have yσ : ext σ σ := ext.rf
    refine A_aload_n (i := 0) dX1_washesFor_0 rfl rfl ?_
    refine A_iload_n (i := 1) dX1_washesFor_1 rfl rfl ?_
    refine A_callV1 (b' := 0) (u_checkFlag σ x bf dq sv ou bd pe ep f hX) tX1_checkFlag q1490 hX rfl rfl dX1_washesFor_2 (by decide) (Nat.le_of_ble_eq_true rfl) (Nat.le_of_ble_eq_true rfl) (fun w9 τ9 h9 => h9.elim) (fun E9 q9 τ9 h9 => A_out rfl (⟨yσ.tr h9.2, 0, by rw [h9.1]; rfl, by rw [(mayQ_1 h0)]; rfl⟩))
  · subst hn
    have hW := hD.1
    have hR9 := hR
    obtain ⟨h1, ⟨fr, h2, h2p⟩, ⟨fm, h3, h3p⟩, ⟨mcn, fnA, h4, h4p, h4q⟩, ⟨mcf, ffA, h5, h5p, h5q⟩, ⟨fu, h6, h6p⟩, h7, h8, h9, h10, h11⟩ := hR
    have hF12 : nF N ≤ 12 := hW.2.2.2.2.2
    have hN4 : nN N ≤ 4 := hW.2.1.2
    have hC6 : nC N ≤ 6 := hW.1.2
    have hT3 : nT N ≤ 3 := hW.2.2.1.2
    have hP8 : nP N ≤ 8 := hW.2.2.2.1.2
    by_cases ck1 : inR f 0 (N 10 - 1)
    · skip
      obtain ⟨jf, hjf, rfl⟩ := in_ex hW.2.2.2.2.1 (Nat.le_trans hF12 (by decide)) ck1
      have bjf : jf < 2000 := Nat.lt_of_lt_of_le hjf (Nat.le_trans hF12 (by decide))
      obtain ⟨k, hk, ek⟩ := (hD.2 jf hjf).2.2.1
      refine A_of rfl (by decide) (Nat.le_of_ble_eq_true rfl) (L0 := [(0, .ref x), (1, .int (nI jf))]) rfl ?_
      refine A_wfh (fun wσ hgσ => ?_)
      have yσ : ext σ σ := ext.rf
      refine A_gok (fun hg => ?_)
      obtain ⟨qh, hs8, hh8⟩ := heat_ex hg hk
      refine A_aload_n (i := 0) dX1_washesFor_0 rfl rfl ?_
      refine A_iload_n (i := 1) dX1_washesFor_1 rfl rfl ?_
      refine A_callV1E (b' := 2) (v := some (.ref (wF W jf))) (τ := σ) (c_checkFlag σ x bf dq sv ou bd pe ep W N jf hX hR9 hD hjf) tX1_checkFlag q1490 hX rfl rfl dX1_washesFor_2 (by decide) (Nat.le_of_ble_eq_true rfl) (Nat.le_of_ble_eq_true rfl) ?_
      refine A_astore_n (i := 2) dX1_washesFor_5 rfl (Nat.le_of_ble_eq_true rfl) ?_
      refine A_aload_n (i := 2) dX1_washesFor_6 rfl rfl ?_
      refine A_getfN cb_X7 (hR9.2.2.2.2.2.2.1 jf hjf) 2 (Nat.le_of_ble_eq_true rfl) q1104 rfl (v := .int (fl N jf 2)) rfl dX1_washesFor_7 ?_
      refine A_int (w := nI k) (ek) ?_
      refine A_callS1E (b' := 2) (v := some (.ref qh)) (τ := σ) (c_hOf σ hs8) tX10_of q1807 dX1_washesFor_10 (by decide) (Nat.le_of_ble_eq_true rfl) (Nat.le_of_ble_eq_true rfl) ?_
      refine A_cleans hh8 q1808 dX1_washesFor_13 (by decide) (Nat.le_of_ble_eq_true rfl) ?_
      refine A_istore_n (i := 3) dX1_washesFor_16 rfl (Nat.le_of_ble_eq_true rfl) ?_
      refine A_aload_n (i := 2) dX1_washesFor_17 rfl rfl ?_
      refine A_getfN cb_X7 (hR9.2.2.2.2.2.2.1 jf hjf) 3 (Nat.le_of_ble_eq_true rfl) q1107 rfl (v := .int (fl N jf 3)) rfl dX1_washesFor_18 ?_
      refine A_iload_n (i := 3) dX1_washesFor_21 rfl rfl ?_
      refine A_iadd dX1_washesFor_22 ?_
      refine A_iconst (v := 1) dX1_washesFor_23 (by decide) ?_
      refine A_isub dX1_washesFor_24 ?_
      refine A_iload_n (i := 3) dX1_washesFor_25 rfl rfl ?_
      refine A_idiv dX1_washesFor_26 (cl_nz hk) ?_
      exact A_iret dX1_washesFor_27 rfl (⟨(mayQ_0 hs (bi_n ⟨hs, ck1⟩) (by decide)), by rw [ixn bjf]; unfold wForN; rw [ek], yσ⟩)
    · skip
      refine A_of rfl (by decide) (Nat.le_of_ble_eq_true rfl) (L0 := [(0, .ref x), (1, .int f)]) rfl ?_
      refine A_wfh (fun wσ hgσ => ?_)
      have yσ : ext σ σ := ext.rf
      refine A_aload_n (i := 0) dX1_washesFor_0 rfl rfl ?_
      refine A_iload_n (i := 1) dX1_washesFor_1 rfl rfl ?_
      refine A_callV1 (b' := 0) (c_checkFlag_no σ x bf dq sv ou bd pe ep W N f hX hR9 hD ck1) tX1_checkFlag q1490 hX rfl rfl dX1_washesFor_2 (by decide) (Nat.le_of_ble_eq_true rfl) (Nat.le_of_ble_eq_true rfl) (fun w9 τ9 h9 => h9.elim) (fun E9 q9 τ9 h9 => A_out rfl (⟨yσ.tr h9.2, 1, by rw [h9.1]; rfl, by rw [(mayQ_2 hs (bi_f (fun h => ck1 h.2)))]; rfl⟩))
theorem q_payIf {l : Launch} {g : GC} (σ : AH) (x bf dq sv ou : Nat) (bd pe ep : Int32) (is : Int32) (nv : Value) (W : WA) (N : AF) (n h : Int32) (hL : LD g σ is nv W N) (hX : σ.1 x = some (lauC bf bd pe ep nv dq sv ou)) : AMet l g mX1_payIf 34 2 [.ref x, .int n, .int h] σ (A_val (mayT is (bi (okN is N n)) (bi (inR h 0 99))) (.int (payInN N (ix n) h)) σ) (A_thr ["java/lang/IllegalStateException", "java/lang/IndexOutOfBoundsException", "java/lang/IllegalArgumentException"] (mayT is (bi (okN is N n)) (bi (inR h 0 99))) σ) := by
  rcases hL with ⟨h0, hn⟩ | ⟨hs, hn, hR, hD, hw, hh⟩
  · subst hn
    refine A_of rfl (by decide) (Nat.le_of_ble_eq_true rfl) (L0 := [(0, .ref x), (1, .int n), (2, .int h)]) rfl ?_
    refine A_wfh (fun wσ hgσ => ?_)
    have yσ : ext σ σ := ext.rf
    refine A_aload_n (i := 0) dX1_payIf_0 rfl rfl ?_
    refine A_iload_n (i := 1) dX1_payIf_1 rfl rfl ?_
    refine A_callV1 (b' := 0) (u_checkNation σ x bf dq sv ou bd pe ep n hX) tX1_checkNation q1455 hX rfl rfl dX1_payIf_2 (by decide) (Nat.le_of_ble_eq_true rfl) (Nat.le_of_ble_eq_true rfl) (fun w9 τ9 h9 => h9.elim) (fun E9 q9 τ9 h9 => A_out rfl (⟨yσ.tr h9.2, 0, by rw [h9.1]; rfl, by rw [(mayQ_1 h0)]; rfl⟩))
  · subst hn
    have hW := hD.1
    have hR9 := hR
    obtain ⟨h1, ⟨fr, h2, h2p⟩, ⟨fm, h3, h3p⟩, ⟨mcn, fnA, h4, h4p, h4q⟩, ⟨mcf, ffA, h5, h5p, h5q⟩, ⟨fu, h6, h6p⟩, h7, h8, h9, h10, h11⟩ := hR
    have hF12 : nF N ≤ 12 := hW.2.2.2.2.2
    have hN4 : nN N ≤ 4 := hW.2.1.2
    have hC6 : nC N ≤ 6 := hW.1.2
    have hT3 : nT N ≤ 3 := hW.2.2.1.2
    have hP8 : nP N ≤ 8 := hW.2.2.2.1.2
    by_cases ck1 : inR n 0 (N 7 - 1)
    · skip
      obtain ⟨jn, hjn, rfl⟩ := in_ex hW.2.1.1 (Nat.le_trans hN4 (by decide)) ck1
      have bjn : jn < 2000 := Nat.lt_of_lt_of_le hjn (Nat.le_trans hN4 (by decide))
      by_cases ck2 : inR h 0 99
      · skip
        obtain ⟨hh9, hn9, hd9⟩ := h9 jn hjn
        refine A_of rfl (by decide) (Nat.le_of_ble_eq_true rfl) (L0 := [(0, .ref x), (1, .int (nI jn)), (2, .int h)]) rfl ?_
        refine A_wfh (fun wσ hgσ => ?_)
        have yσ : ext σ σ := ext.rf
        refine A_aload_n (i := 0) dX1_payIf_0 rfl rfl ?_
        refine A_iload_n (i := 1) dX1_payIf_1 rfl rfl ?_
        refine A_callV1E (b' := 2) (v := some (.ref (wN W jn))) (τ := σ) (c_checkNation σ x bf dq sv ou bd pe ep W N jn hX hR9 hD hjn) tX1_checkNation q1455 hX rfl rfl dX1_payIf_2 (by decide) (Nat.le_of_ble_eq_true rfl) (Nat.le_of_ble_eq_true rfl) ?_
        refine A_astore_n (i := 3) dX1_payIf_5 rfl (Nat.le_of_ble_eq_true rfl) ?_
        refine A_iload_n (i := 2) dX1_payIf_6 rfl rfl ?_
        refine A_i2l dX1_payIf_7 rfl ?_
        refine A_lconst (v := 0) dX1_payIf_8 rfl ?_
        refine A_ldc2 (v := 99) dX1_payIf_9 q1851 ?_
        refine A_callS3E (b' := 2) (v := some (.int (bi (inR h 0 99)))) (τ := σ) (c_in1 σ _ _ _ h 0 99 rfl (by decide) (by decide)) tX1_in q381 dX1_payIf_12 (by decide) (Nat.le_of_ble_eq_true rfl) (Nat.le_of_ble_eq_true rfl) ?_
        refine A_callS1E (b' := 2) (v := none) (τ := σ) (c_cArg σ (bi (inR h 0 99)) (bi_n ck2)) tX1_checkArgument q1406 dX1_payIf_15 (by decide) (Nat.le_of_ble_eq_true rfl) (Nat.le_of_ble_eq_true rfl) ?_
        refine A_aload_n (i := 3) dX1_payIf_18 rfl rfl ?_
        refine A_getfN cb_X6 hn9 3 (Nat.le_of_ble_eq_true rfl) q991 rfl (v := .int hh9) rfl dX1_payIf_19 ?_
        refine A_iconst (v := (-1)) dX1_payIf_22 (by decide) ?_
        refine A_icmp_ne (tgt := 51) dX1_payIf_23 (by decide) (fun c1 => ?_) (fun c1 => ?_)
        · skip
          refine A_iconst (v := 0) dX1_payIf_51 (by decide) ?_
          exact A_iret dX1_payIf_52 rfl (⟨(mayQ_0 hs (bi_n ⟨hs, ck1⟩) (bi_n ck2)), by rw [ixn bjn]; unfold payInN; rw [if_pos (HD_1 hd9 c1).1] <;> rfl, yσ⟩)
        · skip
          refine A_aload_n (i := 0) dX1_payIf_26 rfl rfl ?_
          refine A_getf cb_X1 hX 4 (Nat.le_of_ble_eq_true rfl) q242 rfl (v := .ref (wW W)) rfl dX1_payIf_27 ?_
          refine A_iload_n (i := 1) dX1_payIf_30 rfl rfl ?_
          refine A_callV1 (b' := 1) (c_flagsOf5 σ W N (nI jn) hR9 hD) tX5_flagsOf q1464 h1 rfl rfl dX1_payIf_31 (by decide) (Nat.le_of_ble_eq_true rfl) (Nat.le_of_ble_eq_true rfl) (fun w9 σ1 h9 => ?_) (fun E9 q9 τ9 h9 => h9.elim)
          obtain ⟨e9, xσ1⟩ := h9
          subst e9
          refine A_wfh (fun wσ1 hgσ1 => ?_)
          have yσ1 : ext σ σ1 := yσ.tr (xσ1)
          have fσ1_0 : σ1.1 (wW W) = some (.inr (.inl (4, [.int (N 9), .ref (wR W), .ref (wM W), .ref (wNL W), .ref (wFL W), .ref (wUN W), .int (N 6), .int (N 8), .int (N 0), .int (N 1), .int (N 2), .int (N 3), .int (N 4), .int (N 5), .int (N 11)]))) := xσ1.at wσ h1
          have fσ1_1 : σ1.1 (wFL W) = some (.inr (.inl (14, [.int mcf, .ref (wFA W), .int (nI (nF N))]))) := xσ1.at wσ h5
          have fσ1_2 : σ1.1 (wFA W) = some (.inl (.object "java/lang/Object", 12, .inr (.inr (.inr (.inr ffA))))) := xσ1.at wσ h5p
          have fσ1_3 : σ1.1 (wNL W) = some (.inr (.inl (14, [.int mcn, .ref (wNA W), .int (nI (nN N))]))) := xσ1.at wσ h4
          have fσ1_4 : σ1.1 (wNA W) = some (.inl (.object "java/lang/Object", 4, .inr (.inr (.inr (.inr fnA))))) := xσ1.at wσ h4p
          have fσ1_5 : σ1.1 (wR W) = some (.inl (.int, 6, .inl fr)) := xσ1.at wσ h2
          have fσ1_6 : σ1.1 (wM W) = some (.inl (.int, 3, .inl fm)) := xσ1.at wσ h3
          have fσ1_7 : σ1.1 (wUN W) = some (.inl (.object "FlagLaundry$Test", 7, .inr (.inr (.inr (.inr fu))))) := xσ1.at wσ h6
          have fσ1_8 : σ1.1 x = some (.inr (.inl (0, [.ref bf, .int bd, .int pe, .int ep, .ref (wW W), .ref dq, .ref sv, .ref ou]))) := xσ1.at wσ hX
          have fσ1_9 : σ1.1 (wN W jn) = some (.inr (.inl (5, [.int (na N jn 0), .int (na N jn 1), .int (na N jn 2), .int hh9]))) := xσ1.at wσ hn9
          have hRσ1 : RW g σ1 W N := hR9.ext wσ xσ1
          refine A_aload_n (i := 3) dX1_payIf_34 rfl rfl ?_
          refine A_aload_n (i := 0) dX1_payIf_35 rfl rfl ?_
          refine A_getf cb_X1 fσ1_8 4 (Nat.le_of_ble_eq_true rfl) q242 rfl (v := .ref (wW W)) rfl dX1_payIf_36 ?_
          refine A_getfN cb_X5 fσ1_0 8 (Nat.le_of_ble_eq_true rfl) q844 rfl (v := .int (N 0)) rfl dX1_payIf_39 ?_
          refine A_iload_n (i := 2) dX1_payIf_42 rfl rfl ?_
          refine A_iadd dX1_payIf_43 ?_
          refine A_callV1E (b' := 1) (v := some (.int (mx 0 ((na N jn 1) - ((na N jn 2) * mx 0 (((N 0) + h) - (na N jn 0))))))) (τ := σ1) (c_nPays σ1 (wN W jn) (na N jn 0) (na N jn 1) (na N jn 2) hh9 ((N 0) + h) fσ1_9) tX6_pays q1860 fσ1_9 rfl rfl dX1_payIf_44 (by decide) (Nat.le_of_ble_eq_true rfl) (Nat.le_of_ble_eq_true rfl) ?_
          refine A_imul dX1_payIf_47 ?_
          refine A_goto (tgt := 52) dX1_payIf_48 (by decide) ?_
          exact A_iret dX1_payIf_52 rfl (⟨(mayQ_0 hs (bi_n ⟨hs, ck1⟩) (bi_n ck2)), by rw [ixn bjn]; unfold payInN; rw [if_neg (by rw [HD_0 hd9 c1]; decide)] <;> rfl, yσ1⟩)
      · skip
        refine A_of rfl (by decide) (Nat.le_of_ble_eq_true rfl) (L0 := [(0, .ref x), (1, .int (nI jn)), (2, .int h)]) rfl ?_
        refine A_wfh (fun wσ hgσ => ?_)
        have yσ : ext σ σ := ext.rf
        refine A_aload_n (i := 0) dX1_payIf_0 rfl rfl ?_
        refine A_iload_n (i := 1) dX1_payIf_1 rfl rfl ?_
        refine A_callV1E (b' := 2) (v := some (.ref (wN W jn))) (τ := σ) (c_checkNation σ x bf dq sv ou bd pe ep W N jn hX hR9 hD hjn) tX1_checkNation q1455 hX rfl rfl dX1_payIf_2 (by decide) (Nat.le_of_ble_eq_true rfl) (Nat.le_of_ble_eq_true rfl) ?_
        refine A_astore_n (i := 3) dX1_payIf_5 rfl (Nat.le_of_ble_eq_true rfl) ?_
        refine A_iload_n (i := 2) dX1_payIf_6 rfl rfl ?_
        refine A_i2l dX1_payIf_7 rfl ?_
        refine A_lconst (v := 0) dX1_payIf_8 rfl ?_
        refine A_ldc2 (v := 99) dX1_payIf_9 q1851 ?_
        refine A_callS3E (b' := 2) (v := some (.int (bi (inR h 0 99)))) (τ := σ) (c_in1 σ _ _ _ h 0 99 rfl (by decide) (by decide)) tX1_in q381 dX1_payIf_12 (by decide) (Nat.le_of_ble_eq_true rfl) (Nat.le_of_ble_eq_true rfl) ?_
        refine A_callS1 (b' := 0) (c_cArg_no σ (bi (inR h 0 99)) (bi_f ck2)) tX1_checkArgument q1406 dX1_payIf_15 (by decide) (Nat.le_of_ble_eq_true rfl) (Nat.le_of_ble_eq_true rfl) (fun w9 τ9 h9 => h9.elim) (fun E9 q9 τ9 h9 => A_out rfl (⟨yσ.tr h9.2, 2, by rw [h9.1]; rfl, by rw [(mayQ_3 hs (bi_n ⟨hs, ck1⟩) (bi_f (fun h => ck2 h)))]; rfl⟩))
    · skip
      refine A_of rfl (by decide) (Nat.le_of_ble_eq_true rfl) (L0 := [(0, .ref x), (1, .int n), (2, .int h)]) rfl ?_
      refine A_wfh (fun wσ hgσ => ?_)
      have yσ : ext σ σ := ext.rf
      refine A_aload_n (i := 0) dX1_payIf_0 rfl rfl ?_
      refine A_iload_n (i := 1) dX1_payIf_1 rfl rfl ?_
      refine A_callV1 (b' := 0) (c_checkNation_no σ x bf dq sv ou bd pe ep W N n hX hR9 hD ck1) tX1_checkNation q1455 hX rfl rfl dX1_payIf_2 (by decide) (Nat.le_of_ble_eq_true rfl) (Nat.le_of_ble_eq_true rfl) (fun w9 τ9 h9 => h9.elim) (fun E9 q9 τ9 h9 => A_out rfl (⟨yσ.tr h9.2, 1, by rw [h9.1]; rfl, by rw [(mayQ_2 hs (bi_f (fun h => ck1 h.2)))]; rfl⟩))
theorem q_latest {l : Launch} {g : GC} (σ : AH) (x bf dq sv ou : Nat) (bd pe ep : Int32) (is : Int32) (nv : Value) (W : WA) (N : AF) (n : Int32) (hL : LD g σ is nv W N) (hX : σ.1 x = some (lauC bf bd pe ep nv dq sv ou)) : AMet l g mX1_latest 34 2 [.ref x, .int n] σ (A_val (mayT is (bi (okN is N n)) 1) (.int (lastHN N (ix n))) σ) (A_thr ["java/lang/IllegalStateException", "java/lang/IndexOutOfBoundsException"] (mayT is (bi (okN is N n)) 1) σ) := by
  rcases hL with ⟨h0, hn⟩ | ⟨hs, hn, hR, hD, hw, hh⟩
  · subst hn
    refine A_of rfl (by decide) (Nat.le_of_ble_eq_true rfl) (L0 := [(0, .ref x), (1, .int n)]) rfl ?_
    refine A_wfh (fun wσ hgσ => ?_)
    have yσ : ext σ σ := ext.rf
    refine A_aload_n (i := 0) dX1_latest_0 rfl rfl ?_
    refine A_iload_n (i := 1) dX1_latest_1 rfl rfl ?_
    refine A_callV1 (b' := 0) (u_checkNation σ x bf dq sv ou bd pe ep n hX) tX1_checkNation q1455 hX rfl rfl dX1_latest_2 (by decide) (Nat.le_of_ble_eq_true rfl) (Nat.le_of_ble_eq_true rfl) (fun w9 τ9 h9 => h9.elim) (fun E9 q9 τ9 h9 => A_out rfl (⟨yσ.tr h9.2, 0, by rw [h9.1]; rfl, by rw [(mayQ_1 h0)]; rfl⟩))
  · subst hn
    have hW := hD.1
    have hR9 := hR
    obtain ⟨h1, ⟨fr, h2, h2p⟩, ⟨fm, h3, h3p⟩, ⟨mcn, fnA, h4, h4p, h4q⟩, ⟨mcf, ffA, h5, h5p, h5q⟩, ⟨fu, h6, h6p⟩, h7, h8, h9, h10, h11⟩ := hR
    have hF12 : nF N ≤ 12 := hW.2.2.2.2.2
    have hN4 : nN N ≤ 4 := hW.2.1.2
    have hC6 : nC N ≤ 6 := hW.1.2
    have hT3 : nT N ≤ 3 := hW.2.2.1.2
    have hP8 : nP N ≤ 8 := hW.2.2.2.1.2
    by_cases ck1 : inR n 0 (N 7 - 1)
    · skip
      obtain ⟨jn, hjn, rfl⟩ := in_ex hW.2.1.1 (Nat.le_trans hN4 (by decide)) ck1
      have bjn : jn < 2000 := Nat.lt_of_lt_of_le hjn (Nat.le_trans hN4 (by decide))
      obtain ⟨hh9, hn9, hd9⟩ := h9 jn hjn
      refine A_of rfl (by decide) (Nat.le_of_ble_eq_true rfl) (L0 := [(0, .ref x), (1, .int (nI jn))]) rfl ?_
      refine A_wfh (fun wσ hgσ => ?_)
      have yσ : ext σ σ := ext.rf
      refine A_aload_n (i := 0) dX1_latest_0 rfl rfl ?_
      refine A_iload_n (i := 1) dX1_latest_1 rfl rfl ?_
      refine A_callV1E (b' := 2) (v := some (.ref (wN W jn))) (τ := σ) (c_checkNation σ x bf dq sv ou bd pe ep W N jn hX hR9 hD hjn) tX1_checkNation q1455 hX rfl rfl dX1_latest_2 (by decide) (Nat.le_of_ble_eq_true rfl) (Nat.le_of_ble_eq_true rfl) ?_
      refine A_astore_n (i := 2) dX1_latest_5 rfl (Nat.le_of_ble_eq_true rfl) ?_
      refine A_aload_n (i := 2) dX1_latest_6 rfl rfl ?_
      refine A_getfN cb_X6 hn9 3 (Nat.le_of_ble_eq_true rfl) q991 rfl (v := .int hh9) rfl dX1_latest_7 ?_
      refine A_iconst (v := (-1)) dX1_latest_10 (by decide) ?_
      refine A_icmp_ne (tgt := 25) dX1_latest_11 (by decide) (fun c1 => ?_) (fun c1 => ?_)
      · skip
        refine A_iconst (v := (-1)) dX1_latest_25 (by decide) ?_
        exact A_iret dX1_latest_26 rfl (⟨(mayQ_0 hs (bi_n ⟨hs, ck1⟩) (by decide)), by rw [ixn bjn]; unfold lastHN; rw [if_pos (HD_1 hd9 c1).1], yσ⟩)
      · skip
        refine A_aload_n (i := 0) dX1_latest_14 rfl rfl ?_
        refine A_getf cb_X1 hX 4 (Nat.le_of_ble_eq_true rfl) q242 rfl (v := .ref (wW W)) rfl dX1_latest_15 ?_
        refine A_iload_n (i := 1) dX1_latest_18 rfl rfl ?_
        refine A_callV1 (b' := 1) (c_flagsOf5 σ W N (nI jn) hR9 hD) tX5_flagsOf q1464 h1 rfl rfl dX1_latest_19 (by decide) (Nat.le_of_ble_eq_true rfl) (Nat.le_of_ble_eq_true rfl) (fun w9 σ1 h9 => ?_) (fun E9 q9 τ9 h9 => h9.elim)
        obtain ⟨e9, xσ1⟩ := h9
        subst e9
        refine A_wfh (fun wσ1 hgσ1 => ?_)
        have yσ1 : ext σ σ1 := yσ.tr (xσ1)
        have fσ1_0 : σ1.1 (wW W) = some (.inr (.inl (4, [.int (N 9), .ref (wR W), .ref (wM W), .ref (wNL W), .ref (wFL W), .ref (wUN W), .int (N 6), .int (N 8), .int (N 0), .int (N 1), .int (N 2), .int (N 3), .int (N 4), .int (N 5), .int (N 11)]))) := xσ1.at wσ h1
        have fσ1_1 : σ1.1 (wFL W) = some (.inr (.inl (14, [.int mcf, .ref (wFA W), .int (nI (nF N))]))) := xσ1.at wσ h5
        have fσ1_2 : σ1.1 (wFA W) = some (.inl (.object "java/lang/Object", 12, .inr (.inr (.inr (.inr ffA))))) := xσ1.at wσ h5p
        have fσ1_3 : σ1.1 (wNL W) = some (.inr (.inl (14, [.int mcn, .ref (wNA W), .int (nI (nN N))]))) := xσ1.at wσ h4
        have fσ1_4 : σ1.1 (wNA W) = some (.inl (.object "java/lang/Object", 4, .inr (.inr (.inr (.inr fnA))))) := xσ1.at wσ h4p
        have fσ1_5 : σ1.1 (wR W) = some (.inl (.int, 6, .inl fr)) := xσ1.at wσ h2
        have fσ1_6 : σ1.1 (wM W) = some (.inl (.int, 3, .inl fm)) := xσ1.at wσ h3
        have fσ1_7 : σ1.1 (wUN W) = some (.inl (.object "FlagLaundry$Test", 7, .inr (.inr (.inr (.inr fu))))) := xσ1.at wσ h6
        have fσ1_8 : σ1.1 x = some (.inr (.inl (0, [.ref bf, .int bd, .int pe, .int ep, .ref (wW W), .ref dq, .ref sv, .ref ou]))) := xσ1.at wσ hX
        have fσ1_9 : σ1.1 (wN W jn) = some (.inr (.inl (5, [.int (na N jn 0), .int (na N jn 1), .int (na N jn 2), .int hh9]))) := xσ1.at wσ hn9
        have hRσ1 : RW g σ1 W N := hR9.ext wσ xσ1
        refine A_if_ne (tgt := 27) dX1_latest_22 (by decide) (fun c2 => ?_) (fun c2 => ?_)
        · skip
          refine A_aload_n (i := 2) dX1_latest_27 rfl rfl ?_
          refine A_getfN cb_X6 fσ1_9 2 (Nat.le_of_ble_eq_true rfl) q989 rfl (v := .int (na N jn 2)) rfl dX1_latest_28 ?_
          refine A_if_ne (tgt := 38) dX1_latest_31 (by decide) (fun c3 => ?_) (fun c3 => ?_)
          · skip
            refine A_aload_n (i := 2) dX1_latest_38 rfl rfl ?_
            refine A_getfN cb_X6 fσ1_9 0 (Nat.le_of_ble_eq_true rfl) q984 rfl (v := .int (na N jn 0)) rfl dX1_latest_39 ?_
            refine A_aload_n (i := 2) dX1_latest_42 rfl rfl ?_
            refine A_getfN cb_X6 fσ1_9 1 (Nat.le_of_ble_eq_true rfl) q986 rfl (v := .int (na N jn 1)) rfl dX1_latest_43 ?_
            refine A_iconst (v := 1) dX1_latest_46 (by decide) ?_
            refine A_isub dX1_latest_47 ?_
            refine A_aload_n (i := 2) dX1_latest_48 rfl rfl ?_
            refine A_getfN cb_X6 fσ1_9 2 (Nat.le_of_ble_eq_true rfl) q989 rfl (v := .int (na N jn 2)) rfl dX1_latest_49 ?_
            refine A_idiv dX1_latest_52 c3 ?_
            refine A_iadd dX1_latest_53 ?_
            refine A_istore_n (i := 3) dX1_latest_54 rfl (Nat.le_of_ble_eq_true rfl) ?_
            refine A_aload_n (i := 0) dX1_latest_55 rfl rfl ?_
            refine A_getf cb_X1 fσ1_8 4 (Nat.le_of_ble_eq_true rfl) q242 rfl (v := .ref (wW W)) rfl dX1_latest_56 ?_
            refine A_getfN cb_X5 fσ1_0 8 (Nat.le_of_ble_eq_true rfl) q844 rfl (v := .int (N 0)) rfl dX1_latest_59 ?_
            refine A_iload_n (i := 3) dX1_latest_62 rfl rfl ?_
            refine A_icmp_le (tgt := 70) dX1_latest_63 (by decide) (fun c4 => ?_) (fun c4 => ?_)
            · skip
              refine A_iload_n (i := 3) dX1_latest_70 rfl rfl ?_
              exact A_iret dX1_latest_71 rfl (⟨(mayQ_0 hs (bi_n ⟨hs, ck1⟩) (by decide)), by rw [ixn bjn]; unfold lastHN; rw [if_neg (by rw [HD_0 hd9 c1]; decide), if_neg c2, if_neg c3, if_pos c4], yσ1⟩)
            · skip
              refine A_iconst (v := (-1)) dX1_latest_66 (by decide) ?_
              refine A_goto (tgt := 71) dX1_latest_67 (by decide) ?_
              exact A_iret dX1_latest_71 rfl (⟨(mayQ_0 hs (bi_n ⟨hs, ck1⟩) (by decide)), by rw [ixn bjn]; unfold lastHN; rw [if_neg (by rw [HD_0 hd9 c1]; decide), if_neg c2, if_neg c3, if_neg c4], yσ1⟩)
          · skip
            refine A_sipush (v := 999) dX1_latest_34 (by decide) ?_
            exact A_iret dX1_latest_37 rfl (⟨(mayQ_0 hs (bi_n ⟨hs, ck1⟩) (by decide)), by rw [ixn bjn]; unfold lastHN; rw [if_neg (by rw [HD_0 hd9 c1]; decide), if_neg c2, if_pos c3], yσ1⟩)
        · skip
          refine A_iconst (v := (-1)) dX1_latest_25 (by decide) ?_
          exact A_iret dX1_latest_26 rfl (⟨(mayQ_0 hs (bi_n ⟨hs, ck1⟩) (by decide)), by rw [ixn bjn]; unfold lastHN; rw [if_neg (by rw [HD_0 hd9 c1]; decide), if_pos c2], yσ1⟩)
    · skip
      refine A_of rfl (by decide) (Nat.le_of_ble_eq_true rfl) (L0 := [(0, .ref x), (1, .int n)]) rfl ?_
      refine A_wfh (fun wσ hgσ => ?_)
      have yσ : ext σ σ := ext.rf
      refine A_aload_n (i := 0) dX1_latest_0 rfl rfl ?_
      refine A_iload_n (i := 1) dX1_latest_1 rfl rfl ?_
      refine A_callV1 (b' := 0) (c_checkNation_no σ x bf dq sv ou bd pe ep W N n hX hR9 hD ck1) tX1_checkNation q1455 hX rfl rfl dX1_latest_2 (by decide) (Nat.le_of_ble_eq_true rfl) (Nat.le_of_ble_eq_true rfl) (fun w9 τ9 h9 => h9.elim) (fun E9 q9 τ9 h9 => A_out rfl (⟨yσ.tr h9.2, 1, by rw [h9.1]; rfl, by rw [(mayQ_2 hs (bi_f (fun h => ck1 h.2)))]; rfl⟩))
