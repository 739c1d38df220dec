/-! THE MODEL 14: lines -/
theorem fg5_lt {B : AF} {n : Nat} {p : PT} (h : pOK n p) (h9 : (fg5 B n p).2.2.2.2.2.2.1 = 0) : nF (fg5 B n p).2.1 < 12 := by
  have h1 := fg5_ne (le_of0 h9)
  rw [← fg5_1 B n p] at h1
  exact nF_12 (fg5_ok h).2.2.2 h1
theorem fg5_lt' {B : AF} {n : Nat} {p : PT} {q : Int32 × PT} (e : fg5 B n p = q) (h : pOK n p) (h9 : q.2.2.2.2.2.2.1 = 0) : nF q.2.1 < 12 := by
  subst e
  exact fg5_lt h h9
theorem inR_ex {x M : Int32} {n : Nat} (hM : M = nI n) (hn : n ≤ 1000) (h : inR x 0 (M - 1)) : ix x < n ∧ x = nI (ix x) := by
  obtain ⟨j, hj, rfl⟩ := in_ex hM hn h
  rw [ixn (by omega)]
  exact ⟨hj, rfl⟩
/-- an index told without a fault -/
theorem nhV_ix {N9 : Int32} {m : Nat} {p : PT} (hm : N9 = nI m) (hn : m ≤ 1000) (h : (nhS 0 (N9 - 1) p).2.2.2.2.2.1 ≤ 0) : ix (nhV 0 (N9 - 1) p) < m ∧ nhV 0 (N9 - 1) p = nI (ix (nhV 0 (N9 - 1) p)) := by
  obtain ⟨h1, h2, h3, h4⟩ := nh_in h
  rw [h3]
  exact inR_ex hm hn h4
theorem nhV_ex {N9 : Int32} {m : Nat} {p : PT} (hm : N9 = nI m) (hn : m ≤ 1000) (h : (nhS 0 (N9 - 1) p).2.2.2.2.2.1 ≤ 0) : ∃ j, j < m ∧ nhV 0 (N9 - 1) p = nI j := ⟨_, nhV_ix hm hn h⟩
theorem nhV_50 {p : PT} (h : (nhS 1 50 p).2.2.2.2.2.1 ≤ 0) : ∃ j, j ≤ 50 ∧ nhV 1 50 p = nI j := by
  obtain ⟨h1, h2, h3, h4, h5⟩ := nh_in h
  rw [h3]
  refine ⟨p.2.2.2.2.1.toInt.toNat, ?_, ?_⟩
  · rw [Int32.lt_iff_toInt_lt] at h5
    have : (50 : Int32).toInt = 50 := by decide
    omega
  · rw [Int32.lt_iff_toInt_lt] at h4 h5
    have e8 : (50 : Int32).toInt = 50 := by decide
    have e1 : (1 : Int32).toInt = 1 := by decide
    apply Int32.toInt_inj.mp
    rw [nI_toInt (by omega)]
    omega
theorem c_readsFlag {l : Launch} {g : GC} (b9 : Nat) (ms : MM) (σ0 : AH) (n : Nat) (p : PT) (B : AF) (h1 : pOK n p) (h2 : n ≤ 500) : AMet l g mX2_readsFlag 5 0 [.ref b9] (mc b9 (⟨m_thr ms, m_is ms, m_um ms, m_bd ms, p.2.2.2.2.2.1, p.2.2.2.2.2.2, nI n, nI p.2.1, nI p.2.2.1, p.2.2.2.1, p.2.2.2.2.1, m_ps ms, p.1, m_asd ms, m_und ms, m_sav ms, m_isv ms, B, m_grp ms, m_pag ms⟩ : MM) σ0) (A_eq (none) (mc b9 (⟨m_thr ms, m_is ms, m_um ms, m_bd ms, (fgS B n p).2.2.2.2.2.1, (fgS B n p).2.2.2.2.2.2, nI n, nI (fgS B n p).2.1, nI (fgS B n p).2.2.1, (fgS B n p).2.2.2.1, (fgS B n p).2.2.2.2.1, m_ps ms, (fgS B n p).1, m_asd ms, m_und ms, m_sav ms, m_isv ms, B, m_grp ms, m_pag ms⟩ : MM) σ0)) A_no := by
  refine A_of rfl (by decide) (Nat.le_of_ble_eq_true rfl) (L0 := [(0, .ref b9)]) rfl ?_
  refine A_aload_n (i := 0) dX2_readsFlag_0 rfl rfl ?_
  refine A_bipush (v := 10) dX2_readsFlag_1 (by decide) ?_
  refine A_bipush (v := 12) dX2_readsFlag_3 (by decide) ?_
  refine A_callV2E (v := none) (τ := mc b9 (⟨m_thr ms, m_is ms, m_um ms, m_bd ms, (bgS B n 10 12 p).2.2.2.2.2.1, (bgS B n 10 12 p).2.2.2.2.2.2, nI n, nI (bgS B n 10 12 p).2.1, nI (bgS B n 10 12 p).2.2.1, (bgS B n 10 12 p).2.2.2.1, (bgS B n 10 12 p).2.2.2.2.1, m_ps ms, (bgS B n 10 12 p).1, m_asd ms, m_und ms, m_sav ms, m_isv ms, B, m_grp ms, m_pag ms⟩ : MM) σ0) (c_begins b9 (⟨m_thr ms, m_is ms, m_um ms, m_bd ms, p.2.2.2.2.2.1, p.2.2.2.2.2.2, nI n, nI p.2.1, nI p.2.2.1, p.2.2.2.1, p.2.2.2.2.1, m_ps ms, p.1, m_asd ms, m_und ms, m_sav ms, m_isv ms, B, m_grp ms, m_pag ms⟩ : MM) σ0 n p B 10 12 (h1) (h2) (by decide)) tX2_begins q2381 (mc_0 _ _ _) rfl rfl dX2_readsFlag_5 (by decide) (Nat.le_of_eq (Nat.zero_add _)) (Nat.le_of_ble_eq_true rfl) ?_
  obtain ⟨p1, e_p1⟩ : ∃ q, q = bgS B n 10 12 p := ⟨_, rfl⟩
  have k_p1 : pOK n p1 := by rw [e_p1]; exact (bg_ok h1)
  rw [← e_p1]
  refine A_aload_n (i := 0) dX2_readsFlag_8 rfl rfl ?_
  refine A_iconst (v := 0) dX2_readsFlag_9 (by decide) ?_
  refine A_aload_n (i := 0) dX2_readsFlag_10 rfl rfl ?_
  refine M_get 1 (v := .ref (b9 + 1)) (Nat.le_of_ble_eq_true rfl) q2230 rfl dX2_readsFlag_11 ?_
  refine A_bipush (v := 7) dX2_readsFlag_14 (by decide) ?_
  refine M_ald1 (n := 7) (v := p1.1 7) (rfl) (by decide) (rfl) dX2_readsFlag_16 ?_
  refine A_iconst (v := 1) dX2_readsFlag_17 (by decide) ?_
  refine A_isub dX2_readsFlag_18 ?_
  refine A_int (w := (p1.1 7 - 1)) (rfl) ?_
  refine A_callV2E (v := some (.int (nhV 0 (p1.1 7 - 1) p1))) (τ := mc b9 (⟨m_thr ms, m_is ms, m_um ms, m_bd ms, (nuS B n 0 (p1.1 7 - 1) p1).2.2.2.2.2.1, (nuS B n 0 (p1.1 7 - 1) p1).2.2.2.2.2.2, nI n, nI (nuS B n 0 (p1.1 7 - 1) p1).2.1, nI (nuS B n 0 (p1.1 7 - 1) p1).2.2.1, (nuS B n 0 (p1.1 7 - 1) p1).2.2.2.1, (nuS B n 0 (p1.1 7 - 1) p1).2.2.2.2.1, m_ps ms, (nuS B n 0 (p1.1 7 - 1) p1).1, m_asd ms, m_und ms, m_sav ms, m_isv ms, B, m_grp ms, m_pag ms⟩ : MM) σ0) (c_number b9 (⟨m_thr ms, m_is ms, m_um ms, m_bd ms, p1.2.2.2.2.2.1, p1.2.2.2.2.2.2, nI n, nI p1.2.1, nI p1.2.2.1, p1.2.2.2.1, p1.2.2.2.2.1, m_ps ms, p1.1, m_asd ms, m_und ms, m_sav ms, m_isv ms, B, m_grp ms, m_pag ms⟩ : MM) σ0 n p1 B 0 (p1.1 7 - 1) (k_p1) (h2)) tX2_number q2364 (mc_0 _ _ _) rfl rfl dX2_readsFlag_19 (by decide) (Nat.le_of_eq (Nat.zero_add _)) (Nat.le_of_ble_eq_true rfl) ?_
  obtain ⟨p2, e_p2⟩ : ∃ q, q = nuS B n 0 (p1.1 7 - 1) p1 := ⟨_, rfl⟩
  have k_p2 : pOK n p2 := by rw [e_p2]; exact (nu_ok k_p1)
  rw [← e_p2]
  refine A_istore_n (i := 1) dX2_readsFlag_22 rfl (Nat.le_of_ble_eq_true rfl) ?_
  refine A_aload_n (i := 0) dX2_readsFlag_23 rfl rfl ?_
  refine A_iconst (v := 0) dX2_readsFlag_24 (by decide) ?_
  refine A_iconst (v := 3) dX2_readsFlag_25 (by decide) ?_
  refine A_callV2E (v := some (.int (nhV 0 3 p2))) (τ := mc b9 (⟨m_thr ms, m_is ms, m_um ms, m_bd ms, (nuS B n 0 3 p2).2.2.2.2.2.1, (nuS B n 0 3 p2).2.2.2.2.2.2, nI n, nI (nuS B n 0 3 p2).2.1, nI (nuS B n 0 3 p2).2.2.1, (nuS B n 0 3 p2).2.2.2.1, (nuS B n 0 3 p2).2.2.2.2.1, m_ps ms, (nuS B n 0 3 p2).1, m_asd ms, m_und ms, m_sav ms, m_isv ms, B, m_grp ms, m_pag ms⟩ : MM) σ0) (c_number b9 (⟨m_thr ms, m_is ms, m_um ms, m_bd ms, p2.2.2.2.2.2.1, p2.2.2.2.2.2.2, nI n, nI p2.2.1, nI p2.2.2.1, p2.2.2.2.1, p2.2.2.2.2.1, m_ps ms, p2.1, m_asd ms, m_und ms, m_sav ms, m_isv ms, B, m_grp ms, m_pag ms⟩ : MM) σ0 n p2 B 0 3 (k_p2) (h2)) tX2_number q2364 (mc_0 _ _ _) rfl rfl dX2_readsFlag_26 (by decide) (Nat.le_of_eq (Nat.zero_add _)) (Nat.le_of_ble_eq_true rfl) ?_
  obtain ⟨p3, e_p3⟩ : ∃ q, q = nuS B n 0 3 p2 := ⟨_, rfl⟩
  have k_p3 : pOK n p3 := by rw [e_p3]; exact (nu_ok k_p2)
  rw [← e_p3]
  refine A_istore_n (i := 2) dX2_readsFlag_29 rfl (Nat.le_of_ble_eq_true rfl) ?_
  refine A_aload_n (i := 0) dX2_readsFlag_30 rfl rfl ?_
  refine A_iconst (v := 0) dX2_readsFlag_31 (by decide) ?_
  refine A_bipush (v := 9) dX2_readsFlag_32 (by decide) ?_
  refine A_callV2E (v := some (.int (nhV 0 9 p3))) (τ := mc b9 (⟨m_thr ms, m_is ms, m_um ms, m_bd ms, (nuS B n 0 9 p3).2.2.2.2.2.1, (nuS B n 0 9 p3).2.2.2.2.2.2, nI n, nI (nuS B n 0 9 p3).2.1, nI (nuS B n 0 9 p3).2.2.1, (nuS B n 0 9 p3).2.2.2.1, (nuS B n 0 9 p3).2.2.2.2.1, m_ps ms, (nuS B n 0 9 p3).1, m_asd ms, m_und ms, m_sav ms, m_isv ms, B, m_grp ms, m_pag ms⟩ : MM) σ0) (c_number b9 (⟨m_thr ms, m_is ms, m_um ms, m_bd ms, p3.2.2.2.2.2.1, p3.2.2.2.2.2.2, nI n, nI p3.2.1, nI p3.2.2.1, p3.2.2.2.1, p3.2.2.2.2.1, m_ps ms, p3.1, m_asd ms, m_und ms, m_sav ms, m_isv ms, B, m_grp ms, m_pag ms⟩ : MM) σ0 n p3 B 0 9 (k_p3) (h2)) tX2_number q2364 (mc_0 _ _ _) rfl rfl dX2_readsFlag_34 (by decide) (Nat.le_of_eq (Nat.zero_add _)) (Nat.le_of_ble_eq_true rfl) ?_
  obtain ⟨p4, e_p4⟩ : ∃ q, q = nuS B n 0 9 p3 := ⟨_, rfl⟩
  have k_p4 : pOK n p4 := by rw [e_p4]; exact (nu_ok k_p3)
  rw [← e_p4]
  refine A_istore_n (i := 3) dX2_readsFlag_37 rfl (Nat.le_of_ble_eq_true rfl) ?_
  refine A_aload_n (i := 0) dX2_readsFlag_38 rfl rfl ?_
  refine A_iconst (v := 0) dX2_readsFlag_39 (by decide) ?_
  refine A_callV1E (v := some (.int (crV B n 0 p4))) (τ := mc b9 (⟨m_thr ms, m_is ms, m_um ms, m_bd ms, (crS B n 0 p4).2.2.2.2.2.1, (crS B n 0 p4).2.2.2.2.2.2, nI n, nI (crS B n 0 p4).2.1, nI (crS B n 0 p4).2.2.1, (crS B n 0 p4).2.2.2.1, (crS B n 0 p4).2.2.2.2.1, m_ps ms, (crS B n 0 p4).1, m_asd ms, m_und ms, m_sav ms, m_isv ms, B, m_grp ms, m_pag ms⟩ : MM) σ0) (c_colourRead b9 (⟨m_thr ms, m_is ms, m_um ms, m_bd ms, p4.2.2.2.2.2.1, p4.2.2.2.2.2.2, nI n, nI p4.2.1, nI p4.2.2.1, p4.2.2.2.1, p4.2.2.2.2.1, m_ps ms, p4.1, m_asd ms, m_und ms, m_sav ms, m_isv ms, B, m_grp ms, m_pag ms⟩ : MM) σ0 n p4 B 0 (k_p4) (h2)) tX2_colourRead q2404 (mc_0 _ _ _) rfl rfl dX2_readsFlag_40 (by decide) (Nat.le_of_eq (Nat.zero_add _)) (Nat.le_of_ble_eq_true rfl) ?_
  have e1 : fg1 B n p = p1 := by rw [fg1, ← e_p1]
  have e2 : fg2 B n p = p2 := by rw [fg2, e1, ← e_p2]
  have e3 : fg3 B n p = p3 := by rw [fg3, e2, ← e_p3]
  have e4 : fg4 B n p = p4 := by rw [fg4, e3, ← e_p4]
  have hY0 : pOK n (fg0 B n p).2 := fg0_ok h1
  obtain ⟨K, hK⟩ : ∃ K, K = cqK B n (fg0 B n p) := ⟨_, rfl⟩
  have hKi : ∀ k, k < K → isP 3 (cqU B n (fg0 B n p) k).2 := fun k hk => cl_in (by rw [← hK]; exact hk)
  have hKo : ¬ isP 3 (cqU B n (fg0 B n p) K).2 := by rw [hK]; exact cl_out hY0
  have hKk : ∀ k, pOK n (cqU B n (fg0 B n p) k).2 := fun k => cl_ok hY0 k
  have hc0 : (fg0 B n p).1 = crV B n 0 p4 := by rw [← e4, fg0]
  have hc1 : (fg0 B n p).2 = crS B n 0 p4 := by rw [← e4, fg0_2]
  refine A_int (w := (fg0 B n p).1) (by rw [hc0]) ?_
  refine A_st (σ' := mc b9 (⟨m_thr ms, m_is ms, m_um ms, m_bd ms, (cqU B n (fg0 B n p) 0).2.2.2.2.2.2.1, (cqU B n (fg0 B n p) 0).2.2.2.2.2.2.2, nI n, nI (cqU B n (fg0 B n p) 0).2.2.1, nI (cqU B n (fg0 B n p) 0).2.2.2.1, (cqU B n (fg0 B n p) 0).2.2.2.2.1, (cqU B n (fg0 B n p) 0).2.2.2.2.2.1, m_ps ms, (cqU B n (fg0 B n p) 0).2.1, m_asd ms, m_und ms, m_sav ms, m_isv ms, B, m_grp ms, m_pag ms⟩ : MM) σ0) (by rw [cqU, hc1]) ?_
  refine A_istore dX2_readsFlag_43 (Nat.le_of_ble_eq_true rfl) ?_
  refine A_sub (L' := [(0, .ref b9), (1, .int (nhV 0 (p1.1 7 - 1) p1)), (2, .int (nhV 0 3 p2)), (3, .int (nhV 0 9 p3)), (4, .int ((cqU B n (fg0 B n p) 0).1))]) ⟨rfl, rfl, rfl, rfl, rfl, trivial⟩ ?_
  refine A_for K (fun i45 => 0) (fun i45 => [(0, .ref b9), (1, .int (nhV 0 (p1.1 7 - 1) p1)), (2, .int (nhV 0 3 p2)), (3, .int (nhV 0 9 p3)), (4, .int ((cqU B n (fg0 B n p) i45).1))]) (fun i45 => mc b9 (⟨m_thr ms, m_is ms, m_um ms, m_bd ms, (cqU B n (fg0 B n p) i45).2.2.2.2.2.2.1, (cqU B n (fg0 B n p) i45).2.2.2.2.2.2.2, nI n, nI (cqU B n (fg0 B n p) i45).2.2.1, nI (cqU B n (fg0 B n p) i45).2.2.2.1, (cqU B n (fg0 B n p) i45).2.2.2.2.1, (cqU B n (fg0 B n p) i45).2.2.2.2.2.1, m_ps ms, (cqU B n (fg0 B n p) i45).2.1, m_asd ms, m_und ms, m_sav ms, m_isv ms, B, m_grp ms, m_pag ms⟩ : MM) σ0) (fun i45 => True) trivial (fun i45 hi45 hI45 ih45 => ?_) (fun hI45 => ?_)
  · skip
    refine A_aload_n (i := 0) dX2_readsFlag_45 rfl rfl ?_
    refine A_iconst (v := 3) dX2_readsFlag_46 (by decide) ?_
    refine A_callV1E (v := some (.int (bi (isP 3 ((cqU B n (fg0 B n p) i45).2))))) (τ := mc b9 (⟨m_thr ms, m_is ms, m_um ms, m_bd ms, (cqU B n (fg0 B n p) i45).2.2.2.2.2.2.1, (cqU B n (fg0 B n p) i45).2.2.2.2.2.2.2, nI n, nI (cqU B n (fg0 B n p) i45).2.2.1, nI (cqU B n (fg0 B n p) i45).2.2.2.1, (cqU B n (fg0 B n p) i45).2.2.2.2.1, (cqU B n (fg0 B n p) i45).2.2.2.2.2.1, m_ps ms, (cqU B n (fg0 B n p) i45).2.1, m_asd ms, m_und ms, m_sav ms, m_isv ms, B, m_grp ms, m_pag ms⟩ : MM) σ0) (c_is b9 (⟨m_thr ms, m_is ms, m_um ms, m_bd ms, (cqU B n (fg0 B n p) i45).2.2.2.2.2.2.1, (cqU B n (fg0 B n p) i45).2.2.2.2.2.2.2, nI n, nI (cqU B n (fg0 B n p) i45).2.2.1, nI (cqU B n (fg0 B n p) i45).2.2.2.1, (cqU B n (fg0 B n p) i45).2.2.2.2.1, (cqU B n (fg0 B n p) i45).2.2.2.2.2.1, m_ps ms, (cqU B n (fg0 B n p) i45).2.1, m_asd ms, m_und ms, m_sav ms, m_isv ms, B, m_grp ms, m_pag ms⟩ : MM) σ0 ((cqU B n (fg0 B n p) i45).2) B 3) tX2_is q2354 (mc_0 _ _ _) rfl rfl dX2_readsFlag_47 (by decide) (Nat.le_of_eq (Nat.zero_add _)) (Nat.le_of_ble_eq_true rfl) ?_
    refine A_if_eq_f (tgt := 64) dX2_readsFlag_50 (by decide) (bi_ne0.mpr (hKi i45 hi45)) ?_
    refine A_aload_n (i := 0) dX2_readsFlag_53 rfl rfl ?_
    refine A_iload dX2_readsFlag_54 rfl ?_
    refine A_callV1E (v := some (.int (crV B n ((cqU B n (fg0 B n p) i45).1) ((cqU B n (fg0 B n p) i45).2)))) (τ := mc b9 (⟨m_thr ms, m_is ms, m_um ms, m_bd ms, (crS B n ((cqU B n (fg0 B n p) i45).1) ((cqU B n (fg0 B n p) i45).2)).2.2.2.2.2.1, (crS B n ((cqU B n (fg0 B n p) i45).1) ((cqU B n (fg0 B n p) i45).2)).2.2.2.2.2.2, nI n, nI (crS B n ((cqU B n (fg0 B n p) i45).1) ((cqU B n (fg0 B n p) i45).2)).2.1, nI (crS B n ((cqU B n (fg0 B n p) i45).1) ((cqU B n (fg0 B n p) i45).2)).2.2.1, (crS B n ((cqU B n (fg0 B n p) i45).1) ((cqU B n (fg0 B n p) i45).2)).2.2.2.1, (crS B n ((cqU B n (fg0 B n p) i45).1) ((cqU B n (fg0 B n p) i45).2)).2.2.2.2.1, m_ps ms, (crS B n ((cqU B n (fg0 B n p) i45).1) ((cqU B n (fg0 B n p) i45).2)).1, m_asd ms, m_und ms, m_sav ms, m_isv ms, B, m_grp ms, m_pag ms⟩ : MM) σ0) (c_colourRead b9 (⟨m_thr ms, m_is ms, m_um ms, m_bd ms, (cqU B n (fg0 B n p) i45).2.2.2.2.2.2.1, (cqU B n (fg0 B n p) i45).2.2.2.2.2.2.2, nI n, nI (cqU B n (fg0 B n p) i45).2.2.1, nI (cqU B n (fg0 B n p) i45).2.2.2.1, (cqU B n (fg0 B n p) i45).2.2.2.2.1, (cqU B n (fg0 B n p) i45).2.2.2.2.2.1, m_ps ms, (cqU B n (fg0 B n p) i45).2.1, m_asd ms, m_und ms, m_sav ms, m_isv ms, B, m_grp ms, m_pag ms⟩ : MM) σ0 n ((cqU B n (fg0 B n p) i45).2) B ((cqU B n (fg0 B n p) i45).1) ((hKk i45)) (h2)) tX2_colourRead q2404 (mc_0 _ _ _) rfl rfl dX2_readsFlag_56 (by decide) (Nat.le_of_eq (Nat.zero_add _)) (Nat.le_of_ble_eq_true rfl) ?_
    refine A_istore dX2_readsFlag_59 (Nat.le_of_ble_eq_true rfl) ?_
    refine A_goto (tgt := 45) dX2_readsFlag_61 (by decide) ?_
    refine A_sub (L' := [(0, .ref b9), (1, .int (nhV 0 (p1.1 7 - 1) p1)), (2, .int (nhV 0 3 p2)), (3, .int (nhV 0 9 p3)), (4, .int ((cqU B n (fg0 B n p) (i45 + 1)).1))]) ⟨rfl, rfl, rfl, rfl, lg_eq (by rw [cqU_s]), trivial⟩ ?_
    refine A_st (σ' := mc b9 (⟨m_thr ms, m_is ms, m_um ms, m_bd ms, (cqU B n (fg0 B n p) (i45 + 1)).2.2.2.2.2.2.1, (cqU B n (fg0 B n p) (i45 + 1)).2.2.2.2.2.2.2, nI n, nI (cqU B n (fg0 B n p) (i45 + 1)).2.2.1, nI (cqU B n (fg0 B n p) (i45 + 1)).2.2.2.1, (cqU B n (fg0 B n p) (i45 + 1)).2.2.2.2.1, (cqU B n (fg0 B n p) (i45 + 1)).2.2.2.2.2.1, m_ps ms, (cqU B n (fg0 B n p) (i45 + 1)).2.1, m_asd ms, m_und ms, m_sav ms, m_isv ms, B, m_grp ms, m_pag ms⟩ : MM) σ0) (by rw [cqU_2]) ?_
    exact ih45 trivial
  · skip
    refine A_aload_n (i := 0) dX2_readsFlag_45 rfl rfl ?_
    refine A_iconst (v := 3) dX2_readsFlag_46 (by decide) ?_
    refine A_callV1E (v := some (.int (bi (isP 3 ((cqU B n (fg0 B n p) K).2))))) (τ := mc b9 (⟨m_thr ms, m_is ms, m_um ms, m_bd ms, (cqU B n (fg0 B n p) K).2.2.2.2.2.2.1, (cqU B n (fg0 B n p) K).2.2.2.2.2.2.2, nI n, nI (cqU B n (fg0 B n p) K).2.2.1, nI (cqU B n (fg0 B n p) K).2.2.2.1, (cqU B n (fg0 B n p) K).2.2.2.2.1, (cqU B n (fg0 B n p) K).2.2.2.2.2.1, m_ps ms, (cqU B n (fg0 B n p) K).2.1, m_asd ms, m_und ms, m_sav ms, m_isv ms, B, m_grp ms, m_pag ms⟩ : MM) σ0) (c_is b9 (⟨m_thr ms, m_is ms, m_um ms, m_bd ms, (cqU B n (fg0 B n p) K).2.2.2.2.2.2.1, (cqU B n (fg0 B n p) K).2.2.2.2.2.2.2, nI n, nI (cqU B n (fg0 B n p) K).2.2.1, nI (cqU B n (fg0 B n p) K).2.2.2.1, (cqU B n (fg0 B n p) K).2.2.2.2.1, (cqU B n (fg0 B n p) K).2.2.2.2.2.1, m_ps ms, (cqU B n (fg0 B n p) K).2.1, m_asd ms, m_und ms, m_sav ms, m_isv ms, B, m_grp ms, m_pag ms⟩ : MM) σ0 ((cqU B n (fg0 B n p) K).2) B 3) tX2_is q2354 (mc_0 _ _ _) rfl rfl dX2_readsFlag_47 (by decide) (Nat.le_of_eq (Nat.zero_add _)) (Nat.le_of_ble_eq_true rfl) ?_
    refine A_if_eq_t (tgt := 64) dX2_readsFlag_50 (by decide) (bi_eq0.mpr hKo) ?_
    obtain ⟨p5, e_p5⟩ : ∃ q, q = cqU B n (fg0 B n p) K := ⟨_, rfl⟩
    have e5 : fg5 B n p = p5 := by rw [fg5, ← hK, ← e_p5]
    rw [← e_p5]
    have hY5 : pOK n p5.2 := by rw [← e5]; exact fg5_ok h1
    refine A_aload_n (i := 0) dX2_readsFlag_64 rfl rfl ?_
    refine M_get 10 (v := .int p5.2.2.2.2.2.2.1) (Nat.le_of_ble_eq_true rfl) q2239 rfl dX2_readsFlag_65 ?_
    refine A_if_ne (tgt := 81) dX2_readsFlag_68 (by decide) (fun c1 => ?_) (fun c1 => ?_)
    · skip
      exact A_vret dX2_readsFlag_81 rfl ⟨rfl, by rw [fgS, e5, if_neg c1]⟩
    · skip
      refine A_aload_n (i := 0) dX2_readsFlag_71 rfl rfl ?_
      refine A_iload_n (i := 1) dX2_readsFlag_72 rfl rfl ?_
      refine A_iload dX2_readsFlag_73 rfl ?_
      refine A_iload_n (i := 2) dX2_readsFlag_75 rfl rfl ?_
      refine A_iload_n (i := 3) dX2_readsFlag_76 rfl rfl ?_
      refine A_callV4E (v := some (.int (nI (nF p5.2.1)))) (τ := mc b9 (⟨m_thr ms, m_is ms, m_um ms, m_bd ms, p5.2.2.2.2.2.2.1, p5.2.2.2.2.2.2.2, nI n, nI p5.2.2.1, nI p5.2.2.2.1, p5.2.2.2.2.1, p5.2.2.2.2.2.1, m_ps ms, addN p5.2.1 (nhV 0 (p1.1 7 - 1) p1) p5.1 (nhV 0 3 p2) (nhV 0 9 p3), m_asd ms, m_und ms, m_sav ms, m_isv ms, B, m_grp ms, m_pag ms⟩ : MM) σ0) (c_addsFlag b9 (⟨m_thr ms, m_is ms, m_um ms, m_bd ms, p5.2.2.2.2.2.2.1, p5.2.2.2.2.2.2.2, nI n, nI p5.2.2.1, nI p5.2.2.2.1, p5.2.2.2.2.1, p5.2.2.2.2.2.1, m_ps ms, p5.2.1, m_asd ms, m_und ms, m_sav ms, m_isv ms, B, m_grp ms, m_pag ms⟩ : MM) σ0 (nhV 0 (p1.1 7 - 1) p1) p5.1 (nhV 0 3 p2) (nhV 0 9 p3) (hY5.2.2.2) (fg5_lt' e5 h1 c1)) tX2_addsFlag q2411 (mc_0 _ _ _) rfl rfl dX2_readsFlag_77 (by decide) (Nat.le_of_eq (Nat.zero_add _)) (Nat.le_of_ble_eq_true rfl) ?_
      refine A_pop dX2_readsFlag_80 rfl ?_
      exact A_vret dX2_readsFlag_81 rfl ⟨rfl, by rw [fgS, e5, if_pos c1, e1, e2, e3] <;> rfl⟩
theorem c_readsPut {l : Launch} {g : GC} (b9 : Nat) (ms : MM) (σ0 : AH) (n : Nat) (p : PT) (B : AF) (h1 : pOK n p) (h2 : n ≤ 500) : AMet l g mX2_readsPut 6 0 [.ref b9] (mc b9 (⟨m_thr ms, m_is ms, m_um ms, m_bd ms, p.2.2.2.2.2.1, p.2.2.2.2.2.2, nI n, nI p.2.1, nI p.2.2.1, p.2.2.2.1, p.2.2.2.2.1, m_ps ms, p.1, m_asd ms, m_und ms, m_sav ms, m_isv ms, B, m_grp ms, m_pag ms⟩ : MM) σ0) (A_eq (none) (mc b9 (⟨m_thr ms, m_is ms, m_um ms, m_bd ms, (puS B n p).2.2.2.2.2.1, (puS B n p).2.2.2.2.2.2, nI n, nI (puS B n p).2.1, nI (puS B n p).2.2.1, (puS B n p).2.2.2.1, (puS B n p).2.2.2.2.1, m_ps ms, (puS B n p).1, m_asd ms, m_und ms, m_sav ms, m_isv ms, B, m_grp ms, m_pag ms⟩ : MM) σ0)) A_no := by
  refine A_of rfl (by decide) (Nat.le_of_ble_eq_true rfl) (L0 := [(0, .ref b9)]) rfl ?_
  refine A_aload_n (i := 0) dX2_readsPut_0 rfl rfl ?_
  refine A_callV0E (v := none) (τ := mc b9 (⟨m_thr ms, m_is ms, m_um ms, m_bd ms, (goesS B n p).2.2.2.2.2.1, (goesS B n p).2.2.2.2.2.2, nI n, nI (goesS B n p).2.1, nI (goesS B n p).2.2.1, (goesS B n p).2.2.2.1, (goesS B n p).2.2.2.2.1, m_ps ms, (goesS B n p).1, m_asd ms, m_und ms, m_sav ms, m_isv ms, B, m_grp ms, m_pag ms⟩ : MM) σ0) (c_goes b9 (⟨m_thr ms, m_is ms, m_um ms, m_bd ms, p.2.2.2.2.2.1, p.2.2.2.2.2.2, nI n, nI p.2.1, nI p.2.2.1, p.2.2.2.1, p.2.2.2.2.1, m_ps ms, p.1, m_asd ms, m_und ms, m_sav ms, m_isv ms, B, m_grp ms, m_pag ms⟩ : MM) σ0 n p B (h1.1) (h2)) tX2_goes q2337 (mc_0 _ _ _) rfl rfl dX2_readsPut_1 (by decide) (Nat.le_of_eq (Nat.zero_add _)) (Nat.le_of_ble_eq_true rfl) ?_
  obtain ⟨p1, e_p1⟩ : ∃ q, q = goesS B n p := ⟨_, rfl⟩
  have k_p1 : pOK n p1 := by rw [e_p1]; exact (goes_ok h1)
  rw [← e_p1]
  refine A_aload_n (i := 0) dX2_readsPut_4 rfl rfl ?_
  refine A_iconst (v := 0) dX2_readsPut_5 (by decide) ?_
  refine A_aload_n (i := 0) dX2_readsPut_6 rfl rfl ?_
  refine M_get 1 (v := .ref (b9 + 1)) (Nat.le_of_ble_eq_true rfl) q2230 rfl dX2_readsPut_7 ?_
  refine A_bipush (v := 10) dX2_readsPut_10 (by decide) ?_
  refine M_ald1 (n := 10) (v := p1.1 10) (rfl) (by decide) (rfl) dX2_readsPut_12 ?_
  refine A_iconst (v := 1) dX2_readsPut_13 (by decide) ?_
  refine A_isub dX2_readsPut_14 ?_
  refine A_int (w := (p1.1 10 - 1)) (rfl) ?_
  refine A_callV2E (v := some (.int (nhV 0 (p1.1 10 - 1) p1))) (τ := mc b9 (⟨m_thr ms, m_is ms, m_um ms, m_bd ms, (nuS B n 0 (p1.1 10 - 1) p1).2.2.2.2.2.1, (nuS B n 0 (p1.1 10 - 1) p1).2.2.2.2.2.2, nI n, nI (nuS B n 0 (p1.1 10 - 1) p1).2.1, nI (nuS B n 0 (p1.1 10 - 1) p1).2.2.1, (nuS B n 0 (p1.1 10 - 1) p1).2.2.2.1, (nuS B n 0 (p1.1 10 - 1) p1).2.2.2.2.1, m_ps ms, (nuS B n 0 (p1.1 10 - 1) p1).1, m_asd ms, m_und ms, m_sav ms, m_isv ms, B, m_grp ms, m_pag ms⟩ : MM) σ0) (c_number b9 (⟨m_thr ms, m_is ms, m_um ms, m_bd ms, p1.2.2.2.2.2.1, p1.2.2.2.2.2.2, nI n, nI p1.2.1, nI p1.2.2.1, p1.2.2.2.1, p1.2.2.2.2.1, m_ps ms, p1.1, m_asd ms, m_und ms, m_sav ms, m_isv ms, B, m_grp ms, m_pag ms⟩ : MM) σ0 n p1 B 0 (p1.1 10 - 1) (k_p1) (h2)) tX2_number q2364 (mc_0 _ _ _) rfl rfl dX2_readsPut_15 (by decide) (Nat.le_of_eq (Nat.zero_add _)) (Nat.le_of_ble_eq_true rfl) ?_
  obtain ⟨p2, e_p2⟩ : ∃ q, q = nuS B n 0 (p1.1 10 - 1) p1 := ⟨_, rfl⟩
  have k_p2 : pOK n p2 := by rw [e_p2]; exact (nu_ok k_p1)
  rw [← e_p2]
  refine A_istore_n (i := 1) dX2_readsPut_18 rfl (Nat.le_of_ble_eq_true rfl) ?_
  refine A_aload_n (i := 0) dX2_readsPut_19 rfl rfl ?_
  refine A_iconst (v := 0) dX2_readsPut_20 (by decide) ?_
  refine A_aload_n (i := 0) dX2_readsPut_21 rfl rfl ?_
  refine M_get 1 (v := .ref (b9 + 1)) (Nat.le_of_ble_eq_true rfl) q2230 rfl dX2_readsPut_22 ?_
  refine A_bipush (v := 8) dX2_readsPut_25 (by decide) ?_
  refine M_ald1 (n := 8) (v := p2.1 8) (rfl) (by decide) (rfl) dX2_readsPut_27 ?_
  refine A_iconst (v := 1) dX2_readsPut_28 (by decide) ?_
  refine A_isub dX2_readsPut_29 ?_
  refine A_int (w := (p2.1 8 - 1)) (rfl) ?_
  refine A_callV2E (v := some (.int (nhV 0 (p2.1 8 - 1) p2))) (τ := mc b9 (⟨m_thr ms, m_is ms, m_um ms, m_bd ms, (nhS 0 (p2.1 8 - 1) p2).2.2.2.2.2.1, (nhS 0 (p2.1 8 - 1) p2).2.2.2.2.2.2, nI n, nI (nhS 0 (p2.1 8 - 1) p2).2.1, nI (nhS 0 (p2.1 8 - 1) p2).2.2.1, (nhS 0 (p2.1 8 - 1) p2).2.2.2.1, (nhS 0 (p2.1 8 - 1) p2).2.2.2.2.1, m_ps ms, (nhS 0 (p2.1 8 - 1) p2).1, m_asd ms, m_und ms, m_sav ms, m_isv ms, B, m_grp ms, m_pag ms⟩ : MM) σ0) (c_numberHere b9 (⟨m_thr ms, m_is ms, m_um ms, m_bd ms, p2.2.2.2.2.2.1, p2.2.2.2.2.2.2, nI n, nI p2.2.1, nI p2.2.2.1, p2.2.2.2.1, p2.2.2.2.2.1, m_ps ms, p2.1, m_asd ms, m_und ms, m_sav ms, m_isv ms, B, m_grp ms, m_pag ms⟩ : MM) σ0 p2 B 0 (p2.1 8 - 1)) tX2_numberHere q2368 (mc_0 _ _ _) rfl rfl dX2_readsPut_30 (by decide) (Nat.le_of_eq (Nat.zero_add _)) (Nat.le_of_ble_eq_true rfl) ?_
  obtain ⟨p3, e_p3⟩ : ∃ q, q = nhS 0 (p2.1 8 - 1) p2 := ⟨_, rfl⟩
  have k_p3 : pOK n p3 := by rw [e_p3]; exact (nh_ok k_p2)
  rw [← e_p3]
  refine A_istore_n (i := 2) dX2_readsPut_33 rfl (Nat.le_of_ble_eq_true rfl) ?_
  have e1 : pu1 B n p = p2 := by rw [pu1, ← e_p1, ← e_p2]
  have e2 : pu2 B n p = p3 := by rw [pu2, e1, ← e_p3]
  have eF : puF B n p = nhV 0 (p1.1 10 - 1) p1 := by rw [puF, ← e_p1]
  have eT : puT B n p = nhV 0 (p2.1 8 - 1) p2 := by rw [puT, e1]
  have hw1 := k_p1.2.2.2
  have hw2 := k_p2.2.2.2
  have hw3 := k_p3.2.2.2
  have hF9 := hw1.2.2.2.2.2
  have hT9 := hw2.2.2.1.2
  refine A_aload_n (i := 0) dX2_readsPut_34 rfl rfl ?_
  refine M_get 10 (v := .int p3.2.2.2.2.2.1) (Nat.le_of_ble_eq_true rfl) q2239 rfl dX2_readsPut_35 ?_
  refine A_if_ne (tgt := 55) dX2_readsPut_38 (by decide) (fun c1 => ?_) (fun c1 => ?_)
  · skip
    obtain ⟨p4, e_p4⟩ : ∃ q, q = pu3 B n p := ⟨_, rfl⟩
    have k_p4 : pOK n p4 := by rw [e_p4]; exact pu3_ok h1
    refine A_st (σ' := mc b9 (⟨m_thr ms, m_is ms, m_um ms, m_bd ms, p4.2.2.2.2.2.1, p4.2.2.2.2.2.2, nI n, nI p4.2.1, nI p4.2.2.1, p4.2.2.2.1, p4.2.2.2.2.1, m_ps ms, p4.1, m_asd ms, m_und ms, m_sav ms, m_isv ms, B, m_grp ms, m_pag ms⟩ : MM) σ0) (by rw [e_p4, pu3, e2, if_neg (fun h => c1 h.1)]) ?_
    refine A_aload_n (i := 0) dX2_readsPut_55 rfl rfl ?_
    refine M_get 10 (v := .int p4.2.2.2.2.2.1) (Nat.le_of_ble_eq_true rfl) q2239 rfl dX2_readsPut_56 ?_
    refine A_if_ne_t (tgt := 68) dX2_readsPut_59 (by decide) (by rw [e_p4, pu3, e2, if_neg (fun h => c1 h.1)]; exact c1) ?_
    have hz : ¬ p4.2.2.2.2.2.1 = 0 := by rw [e_p4, pu3, e2, if_neg (fun h => c1 h.1)]; exact c1
    refine A_st (σ' := mc b9 (⟨m_thr ms, m_is ms, m_um ms, m_bd ms, p4.2.2.2.2.2.1, p4.2.2.2.2.2.2, nI n, nI p4.2.1, nI p4.2.2.1, p4.2.2.2.1, p4.2.2.2.2.1, m_ps ms, p4.1, m_asd ms, m_und ms, m_sav ms, m_isv ms, B, m_grp ms, m_pag ms⟩ : MM) σ0) rfl ?_
    refine A_aload_n (i := 0) dX2_readsPut_68 rfl rfl ?_
    refine A_callV0E (v := none) (τ := mc b9 (⟨m_thr ms, m_is ms, m_um ms, m_bd ms, (goesS B n p4).2.2.2.2.2.1, (goesS B n p4).2.2.2.2.2.2, nI n, nI (goesS B n p4).2.1, nI (goesS B n p4).2.2.1, (goesS B n p4).2.2.2.1, (goesS B n p4).2.2.2.2.1, m_ps ms, (goesS B n p4).1, m_asd ms, m_und ms, m_sav ms, m_isv ms, B, m_grp ms, m_pag ms⟩ : MM) σ0) (c_goes b9 (⟨m_thr ms, m_is ms, m_um ms, m_bd ms, p4.2.2.2.2.2.1, p4.2.2.2.2.2.2, nI n, nI p4.2.1, nI p4.2.2.1, p4.2.2.2.1, p4.2.2.2.2.1, m_ps ms, p4.1, m_asd ms, m_und ms, m_sav ms, m_isv ms, B, m_grp ms, m_pag ms⟩ : MM) σ0 n p4 B (k_p4.1) (h2)) tX2_goes q2337 (mc_0 _ _ _) rfl rfl dX2_readsPut_69 (by decide) (Nat.le_of_eq (Nat.zero_add _)) (Nat.le_of_ble_eq_true rfl) ?_
    exact A_vret dX2_readsPut_72 rfl ⟨rfl, by rw [puS, ← e_p4, if_neg hz]⟩
  · skip
    have h3z : p3.2.2.2.2.2.1 ≤ 0 := le_of0 c1
    have h2z : p2.2.2.2.2.2.1 ≤ 0 := nh_le (p := p2) (by rw [← e_p3]; exact h3z)
    obtain ⟨f9, hf9, ef9⟩ := nhV_ex hw1.2.2.2.2.1 (by omega) (nu_le2 (p := p1) (by rw [← e_p2]; exact h2z))
    obtain ⟨t9, ht9, et9⟩ := nhV_ex hw2.2.2.1.1 (by omega) (by rw [← e_p3]; exact h3z)
    rw [ef9] at eF
    rw [et9] at eT
    refine A_sub (L' := [(0, .ref b9), (1, .int (nI f9)), (2, .int (nI t9))]) ⟨rfl, lg_eq ef9, lg_eq et9, trivial⟩ ?_
    refine A_aload_n (i := 0) dX2_readsPut_41 rfl rfl ?_
    refine A_iload_n (i := 1) dX2_readsPut_42 rfl rfl ?_
    refine A_iload_n (i := 2) dX2_readsPut_43 rfl rfl ?_
    refine A_callV2E (v := some (.int (whyPutN p3.1 f9 t9))) (τ := mc b9 (⟨m_thr ms, m_is ms, m_um ms, m_bd ms, p3.2.2.2.2.2.1, p3.2.2.2.2.2.2, nI n, nI p3.2.1, nI p3.2.2.1, p3.2.2.2.1, p3.2.2.2.2.1, m_ps ms, p3.1, m_asd ms, m_und ms, m_sav ms, m_isv ms, B, m_grp ms, m_pag ms⟩ : MM) σ0) (c_whyPut b9 (⟨m_thr ms, m_is ms, m_um ms, m_bd ms, p3.2.2.2.2.2.1, p3.2.2.2.2.2.2, nI n, nI p3.2.1, nI p3.2.2.1, p3.2.2.2.1, p3.2.2.2.2.1, m_ps ms, p3.1, m_asd ms, m_und ms, m_sav ms, m_isv ms, B, m_grp ms, m_pag ms⟩ : MM) σ0 f9 t9 (hw3) (by omega) (by omega)) tX2_whyPut q2432 (mc_0 _ _ _) rfl rfl dX2_readsPut_44 (by decide) (Nat.le_of_eq (Nat.zero_add _)) (Nat.le_of_ble_eq_true rfl) ?_
    refine A_if_eq (tgt := 55) dX2_readsPut_47 (by decide) (fun c2 => ?_) (fun c2 => ?_)
    · skip
      obtain ⟨p4, e_p4⟩ : ∃ q, q = pu3 B n p := ⟨_, rfl⟩
      have k_p4 : pOK n p4 := by rw [e_p4]; exact pu3_ok h1
      refine A_st (σ' := mc b9 (⟨m_thr ms, m_is ms, m_um ms, m_bd ms, p4.2.2.2.2.2.1, p4.2.2.2.2.2.2, nI n, nI p4.2.1, nI p4.2.2.1, p4.2.2.2.1, p4.2.2.2.2.1, m_ps ms, p4.1, m_asd ms, m_und ms, m_sav ms, m_isv ms, B, m_grp ms, m_pag ms⟩ : MM) σ0) (by rw [e_p4, pu3, e2, eF, eT, ixn (show f9 < 2000 by omega), ixn (show t9 < 2000 by omega), if_neg (fun h => h.2 c2)]) ?_
      refine A_aload_n (i := 0) dX2_readsPut_55 rfl rfl ?_
      refine M_get 10 (v := .int p4.2.2.2.2.2.1) (Nat.le_of_ble_eq_true rfl) q2239 rfl dX2_readsPut_56 ?_
      refine A_if_ne_f (tgt := 68) dX2_readsPut_59 (by decide) (by rw [e_p4, pu3, e2, eF, eT, ixn (show f9 < 2000 by omega), ixn (show t9 < 2000 by omega), if_neg (fun h => h.2 c2)]; exact c1) ?_
      refine A_aload_n (i := 0) dX2_readsPut_62 rfl rfl ?_
      refine A_iload_n (i := 1) dX2_readsPut_63 rfl rfl ?_
      refine A_iload_n (i := 2) dX2_readsPut_64 rfl rfl ?_
      refine A_callV2E (v := none) (τ := mc b9 (⟨m_thr ms, m_is ms, m_um ms, m_bd ms, p4.2.2.2.2.2.1, p4.2.2.2.2.2.2, nI n, nI p4.2.1, nI p4.2.2.1, p4.2.2.2.1, p4.2.2.2.2.1, m_ps ms, putIn p4.1 f9 (nI t9), m_asd ms, m_und ms, m_sav ms, m_isv ms, B, m_grp ms, m_pag ms⟩ : MM) σ0) (c_putsInto b9 (⟨m_thr ms, m_is ms, m_um ms, m_bd ms, p4.2.2.2.2.2.1, p4.2.2.2.2.2.2, nI n, nI p4.2.1, nI p4.2.2.1, p4.2.2.2.1, p4.2.2.2.2.1, m_ps ms, p4.1, m_asd ms, m_und ms, m_sav ms, m_isv ms, B, m_grp ms, m_pag ms⟩ : MM) σ0 f9 (nI t9) (by omega)) tX2_putsInto q2459 (mc_0 _ _ _) rfl rfl dX2_readsPut_65 (by decide) (Nat.le_of_eq (Nat.zero_add _)) (Nat.le_of_ble_eq_true rfl) ?_
      have hz : p4.2.2.2.2.2.1 = 0 := by rw [e_p4, pu3, e2, eF, eT, ixn (show f9 < 2000 by omega), ixn (show t9 < 2000 by omega), if_neg (fun h => h.2 c2)]; exact c1
      refine A_st (σ' := mc b9 (⟨m_thr ms, m_is ms, m_um ms, m_bd ms, (pN (putIn p4.1 f9 (nI t9)) p4).2.2.2.2.2.1, (pN (putIn p4.1 f9 (nI t9)) p4).2.2.2.2.2.2, nI n, nI (pN (putIn p4.1 f9 (nI t9)) p4).2.1, nI (pN (putIn p4.1 f9 (nI t9)) p4).2.2.1, (pN (putIn p4.1 f9 (nI t9)) p4).2.2.2.1, (pN (putIn p4.1 f9 (nI t9)) p4).2.2.2.2.1, m_ps ms, (pN (putIn p4.1 f9 (nI t9)) p4).1, m_asd ms, m_und ms, m_sav ms, m_isv ms, B, m_grp ms, m_pag ms⟩ : MM) σ0) rfl ?_
      refine A_aload_n (i := 0) dX2_readsPut_68 rfl rfl ?_
      refine A_callV0E (v := none) (τ := mc b9 (⟨m_thr ms, m_is ms, m_um ms, m_bd ms, (goesS B n (pN (putIn p4.1 f9 (nI t9)) p4)).2.2.2.2.2.1, (goesS B n (pN (putIn p4.1 f9 (nI t9)) p4)).2.2.2.2.2.2, nI n, nI (goesS B n (pN (putIn p4.1 f9 (nI t9)) p4)).2.1, nI (goesS B n (pN (putIn p4.1 f9 (nI t9)) p4)).2.2.1, (goesS B n (pN (putIn p4.1 f9 (nI t9)) p4)).2.2.2.1, (goesS B n (pN (putIn p4.1 f9 (nI t9)) p4)).2.2.2.2.1, m_ps ms, (goesS B n (pN (putIn p4.1 f9 (nI t9)) p4)).1, m_asd ms, m_und ms, m_sav ms, m_isv ms, B, m_grp ms, m_pag ms⟩ : MM) σ0) (c_goes b9 (⟨m_thr ms, m_is ms, m_um ms, m_bd ms, (pN (putIn p4.1 f9 (nI t9)) p4).2.2.2.2.2.1, (pN (putIn p4.1 f9 (nI t9)) p4).2.2.2.2.2.2, nI n, nI (pN (putIn p4.1 f9 (nI t9)) p4).2.1, nI (pN (putIn p4.1 f9 (nI t9)) p4).2.2.1, (pN (putIn p4.1 f9 (nI t9)) p4).2.2.2.1, (pN (putIn p4.1 f9 (nI t9)) p4).2.2.2.2.1, m_ps ms, (pN (putIn p4.1 f9 (nI t9)) p4).1, m_asd ms, m_und ms, m_sav ms, m_isv ms, B, m_grp ms, m_pag ms⟩ : MM) σ0 n (pN (putIn p4.1 f9 (nI t9)) p4) B ((pN_ok k_p4 ((cts_putIn _ _ _).wf k_p4.2.2.2)).1) (h2)) tX2_goes q2337 (mc_0 _ _ _) rfl rfl dX2_readsPut_69 (by decide) (Nat.le_of_eq (Nat.zero_add _)) (Nat.le_of_ble_eq_true rfl) ?_
      exact A_vret dX2_readsPut_72 rfl ⟨rfl, by rw [puS, ← e_p4, if_pos hz, eF, eT, ixn (show f9 < 2000 by omega)]⟩
    · skip
      refine A_aload_n (i := 0) dX2_readsPut_50 rfl rfl ?_
      refine A_iconst (v := 3) dX2_readsPut_51 (by decide) ?_
      refine A_callV1E (v := none) (τ := mc b9 (⟨m_thr ms, m_is ms, m_um ms, m_bd ms, (fltS 3 p3).2.2.2.2.2.1, (fltS 3 p3).2.2.2.2.2.2, nI n, nI (fltS 3 p3).2.1, nI (fltS 3 p3).2.2.1, (fltS 3 p3).2.2.2.1, (fltS 3 p3).2.2.2.2.1, m_ps ms, (fltS 3 p3).1, m_asd ms, m_und ms, m_sav ms, m_isv ms, B, m_grp ms, m_pag ms⟩ : MM) σ0) (c_faults b9 (⟨m_thr ms, m_is ms, m_um ms, m_bd ms, p3.2.2.2.2.2.1, p3.2.2.2.2.2.2, nI n, nI p3.2.1, nI p3.2.2.1, p3.2.2.2.1, p3.2.2.2.2.1, m_ps ms, p3.1, m_asd ms, m_und ms, m_sav ms, m_isv ms, B, m_grp ms, m_pag ms⟩ : MM) σ0 p3 B 3) tX2_faults q2360 (mc_0 _ _ _) rfl rfl dX2_readsPut_52 (by decide) (Nat.le_of_eq (Nat.zero_add _)) (Nat.le_of_ble_eq_true rfl) ?_
      obtain ⟨p4, e_p4⟩ : ∃ q, q = pu3 B n p := ⟨_, rfl⟩
      have k_p4 : pOK n p4 := by rw [e_p4]; exact pu3_ok h1
      refine A_st (σ' := mc b9 (⟨m_thr ms, m_is ms, m_um ms, m_bd ms, p4.2.2.2.2.2.1, p4.2.2.2.2.2.2, nI n, nI p4.2.1, nI p4.2.2.1, p4.2.2.2.1, p4.2.2.2.2.1, m_ps ms, p4.1, m_asd ms, m_und ms, m_sav ms, m_isv ms, B, m_grp ms, m_pag ms⟩ : MM) σ0) (by rw [e_p4, pu3, e2, eF, eT, ixn (show f9 < 2000 by omega), ixn (show t9 < 2000 by omega), if_pos ⟨c1, c2⟩]) ?_
      refine A_aload_n (i := 0) dX2_readsPut_55 rfl rfl ?_
      refine M_get 10 (v := .int p4.2.2.2.2.2.1) (Nat.le_of_ble_eq_true rfl) q2239 rfl dX2_readsPut_56 ?_
      refine A_if_ne_t (tgt := 68) dX2_readsPut_59 (by decide) (by rw [e_p4, pu3, e2, eF, eT, ixn (show f9 < 2000 by omega), ixn (show t9 < 2000 by omega), if_pos ⟨c1, c2⟩]; exact fun h => flt_gt (by decide) _ (le_of0 h)) ?_
      have hz : ¬ p4.2.2.2.2.2.1 = 0 := by rw [e_p4, pu3, e2, eF, eT, ixn (show f9 < 2000 by omega), ixn (show t9 < 2000 by omega), if_pos ⟨c1, c2⟩]; exact fun h => flt_gt (by decide) _ (le_of0 h)
      refine A_st (σ' := mc b9 (⟨m_thr ms, m_is ms, m_um ms, m_bd ms, p4.2.2.2.2.2.1, p4.2.2.2.2.2.2, nI n, nI p4.2.1, nI p4.2.2.1, p4.2.2.2.1, p4.2.2.2.2.1, m_ps ms, p4.1, m_asd ms, m_und ms, m_sav ms, m_isv ms, B, m_grp ms, m_pag ms⟩ : MM) σ0) rfl ?_
      refine A_aload_n (i := 0) dX2_readsPut_68 rfl rfl ?_
      refine A_callV0E (v := none) (τ := mc b9 (⟨m_thr ms, m_is ms, m_um ms, m_bd ms, (goesS B n p4).2.2.2.2.2.1, (goesS B n p4).2.2.2.2.2.2, nI n, nI (goesS B n p4).2.1, nI (goesS B n p4).2.2.1, (goesS B n p4).2.2.2.1, (goesS B n p4).2.2.2.2.1, m_ps ms, (goesS B n p4).1, m_asd ms, m_und ms, m_sav ms, m_isv ms, B, m_grp ms, m_pag ms⟩ : MM) σ0) (c_goes b9 (⟨m_thr ms, m_is ms, m_um ms, m_bd ms, p4.2.2.2.2.2.1, p4.2.2.2.2.2.2, nI n, nI p4.2.1, nI p4.2.2.1, p4.2.2.2.1, p4.2.2.2.2.1, m_ps ms, p4.1, m_asd ms, m_und ms, m_sav ms, m_isv ms, B, m_grp ms, m_pag ms⟩ : MM) σ0 n p4 B (k_p4.1) (h2)) tX2_goes q2337 (mc_0 _ _ _) rfl rfl dX2_readsPut_69 (by decide) (Nat.le_of_eq (Nat.zero_add _)) (Nat.le_of_ble_eq_true rfl) ?_
      exact A_vret dX2_readsPut_72 rfl ⟨rfl, by rw [puS, ← e_p4, if_neg hz]⟩
theorem c_readsWash {l : Launch} {g : GC} (b9 : Nat) (ms : MM) (σ0 : AH) (n : Nat) (p : PT) (B : AF) (h1 : pOK n p) (h2 : n ≤ 500) : AMet l g mX2_readsWash 7 0 [.ref b9] (mc b9 (⟨m_thr ms, m_is ms, m_um ms, m_bd ms, p.2.2.2.2.2.1, p.2.2.2.2.2.2, nI n, nI p.2.1, nI p.2.2.1, p.2.2.2.1, p.2.2.2.2.1, m_ps ms, p.1, m_asd ms, m_und ms, m_sav ms, m_isv ms, B, m_grp ms, m_pag ms⟩ : MM) σ0) (A_eq (none) (mc b9 (⟨m_thr ms, m_is ms, m_um ms, m_bd ms, (waS B n p).2.2.2.2.2.1, (waS B n p).2.2.2.2.2.2, nI n, nI (waS B n p).2.1, nI (waS B n p).2.2.1, (waS B n p).2.2.2.1, (waS B n p).2.2.2.2.1, m_ps ms, (waS B n p).1, m_asd ms, m_und ms, m_sav ms, m_isv ms, B, m_grp ms, m_pag ms⟩ : MM) σ0)) A_no := by
  refine A_of rfl (by decide) (Nat.le_of_ble_eq_true rfl) (L0 := [(0, .ref b9)]) rfl ?_
  refine A_aload_n (i := 0) dX2_readsWash_0 rfl rfl ?_
  refine A_callV0E (v := none) (τ := mc b9 (⟨m_thr ms, m_is ms, m_um ms, m_bd ms, (goesS B n p).2.2.2.2.2.1, (goesS B n p).2.2.2.2.2.2, nI n, nI (goesS B n p).2.1, nI (goesS B n p).2.2.1, (goesS B n p).2.2.2.1, (goesS B n p).2.2.2.2.1, m_ps ms, (goesS B n p).1, m_asd ms, m_und ms, m_sav ms, m_isv ms, B, m_grp ms, m_pag ms⟩ : MM) σ0) (c_goes b9 (⟨m_thr ms, m_is ms, m_um ms, m_bd ms, p.2.2.2.2.2.1, p.2.2.2.2.2.2, nI n, nI p.2.1, nI p.2.2.1, p.2.2.2.1, p.2.2.2.2.1, m_ps ms, p.1, m_asd ms, m_und ms, m_sav ms, m_isv ms, B, m_grp ms, m_pag ms⟩ : MM) σ0 n p B (h1.1) (h2)) tX2_goes q2337 (mc_0 _ _ _) rfl rfl dX2_readsWash_1 (by decide) (Nat.le_of_eq (Nat.zero_add _)) (Nat.le_of_ble_eq_true rfl) ?_
  obtain ⟨p1, e_p1⟩ : ∃ q, q = goesS B n p := ⟨_, rfl⟩
  have k_p1 : pOK n p1 := by rw [e_p1]; exact (goes_ok h1)
  rw [← e_p1]
  refine A_aload_n (i := 0) dX2_readsWash_4 rfl rfl ?_
  refine A_iconst (v := 0) dX2_readsWash_5 (by decide) ?_
  refine A_aload_n (i := 0) dX2_readsWash_6 rfl rfl ?_
  refine M_get 1 (v := .ref (b9 + 1)) (Nat.le_of_ble_eq_true rfl) q2230 rfl dX2_readsWash_7 ?_
  refine A_bipush (v := 8) dX2_readsWash_10 (by decide) ?_
  refine M_ald1 (n := 8) (v := p1.1 8) (rfl) (by decide) (rfl) dX2_readsWash_12 ?_
  refine A_iconst (v := 1) dX2_readsWash_13 (by decide) ?_
  refine A_isub dX2_readsWash_14 ?_
  refine A_int (w := (p1.1 8 - 1)) (rfl) ?_
  refine A_callV2E (v := some (.int (nhV 0 (p1.1 8 - 1) p1))) (τ := mc b9 (⟨m_thr ms, m_is ms, m_um ms, m_bd ms, (nuS B n 0 (p1.1 8 - 1) p1).2.2.2.2.2.1, (nuS B n 0 (p1.1 8 - 1) p1).2.2.2.2.2.2, nI n, nI (nuS B n 0 (p1.1 8 - 1) p1).2.1, nI (nuS B n 0 (p1.1 8 - 1) p1).2.2.1, (nuS B n 0 (p1.1 8 - 1) p1).2.2.2.1, (nuS B n 0 (p1.1 8 - 1) p1).2.2.2.2.1, m_ps ms, (nuS B n 0 (p1.1 8 - 1) p1).1, m_asd ms, m_und ms, m_sav ms, m_isv ms, B, m_grp ms, m_pag ms⟩ : MM) σ0) (c_number b9 (⟨m_thr ms, m_is ms, m_um ms, m_bd ms, p1.2.2.2.2.2.1, p1.2.2.2.2.2.2, nI n, nI p1.2.1, nI p1.2.2.1, p1.2.2.2.1, p1.2.2.2.2.1, m_ps ms, p1.1, m_asd ms, m_und ms, m_sav ms, m_isv ms, B, m_grp ms, m_pag ms⟩ : MM) σ0 n p1 B 0 (p1.1 8 - 1) (k_p1) (h2)) tX2_number q2364 (mc_0 _ _ _) rfl rfl dX2_readsWash_15 (by decide) (Nat.le_of_eq (Nat.zero_add _)) (Nat.le_of_ble_eq_true rfl) ?_
  obtain ⟨p2, e_p2⟩ : ∃ q, q = nuS B n 0 (p1.1 8 - 1) p1 := ⟨_, rfl⟩
  have k_p2 : pOK n p2 := by rw [e_p2]; exact (nu_ok k_p1)
  rw [← e_p2]
  refine A_istore_n (i := 1) dX2_readsWash_18 rfl (Nat.le_of_ble_eq_true rfl) ?_
  refine A_aload_n (i := 0) dX2_readsWash_19 rfl rfl ?_
  refine A_iconst (v := 0) dX2_readsWash_20 (by decide) ?_
  refine A_iconst (v := 3) dX2_readsWash_21 (by decide) ?_
  refine A_callV2E (v := some (.int (nhV 0 3 p2))) (τ := mc b9 (⟨m_thr ms, m_is ms, m_um ms, m_bd ms, (nhS 0 3 p2).2.2.2.2.2.1, (nhS 0 3 p2).2.2.2.2.2.2, nI n, nI (nhS 0 3 p2).2.1, nI (nhS 0 3 p2).2.2.1, (nhS 0 3 p2).2.2.2.1, (nhS 0 3 p2).2.2.2.2.1, m_ps ms, (nhS 0 3 p2).1, m_asd ms, m_und ms, m_sav ms, m_isv ms, B, m_grp ms, m_pag ms⟩ : MM) σ0) (c_numberHere b9 (⟨m_thr ms, m_is ms, m_um ms, m_bd ms, p2.2.2.2.2.2.1, p2.2.2.2.2.2.2, nI n, nI p2.2.1, nI p2.2.2.1, p2.2.2.2.1, p2.2.2.2.2.1, m_ps ms, p2.1, m_asd ms, m_und ms, m_sav ms, m_isv ms, B, m_grp ms, m_pag ms⟩ : MM) σ0 p2 B 0 3) tX2_numberHere q2368 (mc_0 _ _ _) rfl rfl dX2_readsWash_22 (by decide) (Nat.le_of_eq (Nat.zero_add _)) (Nat.le_of_ble_eq_true rfl) ?_
  obtain ⟨p3, e_p3⟩ : ∃ q, q = nhS 0 3 p2 := ⟨_, rfl⟩
  have k_p3 : pOK n p3 := by rw [e_p3]; exact (nh_ok k_p2)
  rw [← e_p3]
  refine A_istore_n (i := 2) dX2_readsWash_25 rfl (Nat.le_of_ble_eq_true rfl) ?_
  have e1 : wa_1 B n p = p2 := by rw [wa_1, ← e_p1, ← e_p2]
  have e2 : wa_2 B n p = p3 := by rw [wa_2, e1, ← e_p3]
  have eT : waT B n p = nhV 0 (p1.1 8 - 1) p1 := by rw [waT, ← e_p1]
  have eH : waH B n p = nhV 0 3 p2 := by rw [waH, e1]
  have hw3 := k_p3.2.2.2
  refine A_aload_n (i := 0) dX2_readsWash_26 rfl rfl ?_
  refine M_get 10 (v := .int p3.2.2.2.2.2.1) (Nat.le_of_ble_eq_true rfl) q2239 rfl dX2_readsWash_27 ?_
  refine A_if_ne (tgt := 47) dX2_readsWash_30 (by decide) (fun c1 => ?_) (fun c1 => ?_)
  · skip
    obtain ⟨p4, e_p4⟩ : ∃ q, q = wa_3 B n p := ⟨_, rfl⟩
    have k_p4 : pOK n p4 := by rw [e_p4]; exact wa3_ok h1
    refine A_st (σ' := mc b9 (⟨m_thr ms, m_is ms, m_um ms, m_bd ms, p4.2.2.2.2.2.1, p4.2.2.2.2.2.2, nI n, nI p4.2.1, nI p4.2.2.1, p4.2.2.2.1, p4.2.2.2.2.1, m_ps ms, p4.1, m_asd ms, m_und ms, m_sav ms, m_isv ms, B, m_grp ms, m_pag ms⟩ : MM) σ0) (by rw [e_p4, wa_3, e2, if_neg (fun h => c1 h.1)]) ?_
    refine A_aload_n (i := 0) dX2_readsWash_47 rfl rfl ?_
    refine M_get 10 (v := .int p4.2.2.2.2.2.1) (Nat.le_of_ble_eq_true rfl) q2239 rfl dX2_readsWash_48 ?_
    refine A_if_le (tgt := 55) dX2_readsWash_51 (by decide) (fun c2 => ?_) (fun c2 => ?_)
    · skip
      refine A_aload_n (i := 0) dX2_readsWash_55 rfl rfl ?_
      refine A_iload_n (i := 1) dX2_readsWash_56 rfl rfl ?_
      refine A_iload_n (i := 2) dX2_readsWash_57 rfl rfl ?_
      refine A_callV2E (v := some (.int (stainBy p4.1 (nhV 0 (p1.1 8 - 1) p1) (nhV 0 3 p2)))) (τ := mc b9 (⟨m_thr ms, m_is ms, m_um ms, m_bd ms, p4.2.2.2.2.2.1, p4.2.2.2.2.2.2, nI n, nI p4.2.1, nI p4.2.2.1, p4.2.2.2.1, p4.2.2.2.2.1, m_ps ms, washN p4.1 (nhV 0 (p1.1 8 - 1) p1) (nhV 0 3 p2), m_asd ms, m_und ms, m_sav ms, m_isv ms, B, m_grp ms, m_pag ms⟩ : MM) σ0) (c_washes b9 (⟨m_thr ms, m_is ms, m_um ms, m_bd ms, p4.2.2.2.2.2.1, p4.2.2.2.2.2.2, nI n, nI p4.2.1, nI p4.2.2.1, p4.2.2.2.1, p4.2.2.2.2.1, m_ps ms, p4.1, m_asd ms, m_und ms, m_sav ms, m_isv ms, B, m_grp ms, m_pag ms⟩ : MM) σ0 (nhV 0 (p1.1 8 - 1) p1) (nhV 0 3 p2) (k_p4.2.2.2)) tX2_washes q2477 (mc_0 _ _ _) rfl rfl dX2_readsWash_58 (by decide) (Nat.le_of_eq (Nat.zero_add _)) (Nat.le_of_ble_eq_true rfl) ?_
      refine A_istore_n (i := 3) dX2_readsWash_61 rfl (Nat.le_of_ble_eq_true rfl) ?_
      refine A_st (σ' := mc b9 (⟨m_thr ms, m_is ms, m_um ms, m_bd ms, (pN (washN p4.1 (waT B n p) (waH B n p)) p4).2.2.2.2.2.1, (pN (washN p4.1 (waT B n p) (waH B n p)) p4).2.2.2.2.2.2, nI n, nI (pN (washN p4.1 (waT B n p) (waH B n p)) p4).2.1, nI (pN (washN p4.1 (waT B n p) (waH B n p)) p4).2.2.1, (pN (washN p4.1 (waT B n p) (waH B n p)) p4).2.2.2.1, (pN (washN p4.1 (waT B n p) (waH B n p)) p4).2.2.2.2.1, m_ps ms, (pN (washN p4.1 (waT B n p) (waH B n p)) p4).1, m_asd ms, m_und ms, m_sav ms, m_isv ms, B, m_grp ms, m_pag ms⟩ : MM) σ0) (by rw [eT, eH] <;> rfl) ?_
      refine A_aload_n (i := 0) dX2_readsWash_62 rfl rfl ?_
      refine A_callV0E (v := none) (τ := mc b9 (⟨m_thr ms, m_is ms, m_um ms, m_bd ms, (goesS B n (pN (washN p4.1 (waT B n p) (waH B n p)) p4)).2.2.2.2.2.1, (goesS B n (pN (washN p4.1 (waT B n p) (waH B n p)) p4)).2.2.2.2.2.2, nI n, nI (goesS B n (pN (washN p4.1 (waT B n p) (waH B n p)) p4)).2.1, nI (goesS B n (pN (washN p4.1 (waT B n p) (waH B n p)) p4)).2.2.1, (goesS B n (pN (washN p4.1 (waT B n p) (waH B n p)) p4)).2.2.2.1, (goesS B n (pN (washN p4.1 (waT B n p) (waH B n p)) p4)).2.2.2.2.1, m_ps ms, (goesS B n (pN (washN p4.1 (waT B n p) (waH B n p)) p4)).1, m_asd ms, m_und ms, m_sav ms, m_isv ms, B, m_grp ms, m_pag ms⟩ : MM) σ0) (c_goes b9 (⟨m_thr ms, m_is ms, m_um ms, m_bd ms, (pN (washN p4.1 (waT B n p) (waH B n p)) p4).2.2.2.2.2.1, (pN (washN p4.1 (waT B n p) (waH B n p)) p4).2.2.2.2.2.2, nI n, nI (pN (washN p4.1 (waT B n p) (waH B n p)) p4).2.1, nI (pN (washN p4.1 (waT B n p) (waH B n p)) p4).2.2.1, (pN (washN p4.1 (waT B n p) (waH B n p)) p4).2.2.2.1, (pN (washN p4.1 (waT B n p) (waH B n p)) p4).2.2.2.2.1, m_ps ms, (pN (washN p4.1 (waT B n p) (waH B n p)) p4).1, m_asd ms, m_und ms, m_sav ms, m_isv ms, B, m_grp ms, m_pag ms⟩ : MM) σ0 n (pN (washN p4.1 (waT B n p) (waH B n p)) p4) B ((pN_ok k_p4 ((cts_wash _ _ _).wf k_p4.2.2.2)).1) (h2)) tX2_goes q2337 (mc_0 _ _ _) rfl rfl dX2_readsWash_63 (by decide) (Nat.le_of_eq (Nat.zero_add _)) (Nat.le_of_ble_eq_true rfl) ?_
      exact A_vret dX2_readsWash_66 rfl ⟨rfl, by rw [waS, ← e_p4, if_pos c2]⟩
    · skip
      exact A_vret dX2_readsWash_54 rfl ⟨rfl, by rw [waS, ← e_p4, if_neg c2]⟩
  · skip
    refine A_aload_n (i := 0) dX2_readsWash_33 rfl rfl ?_
    refine A_iload_n (i := 1) dX2_readsWash_34 rfl rfl ?_
    refine A_iload_n (i := 2) dX2_readsWash_35 rfl rfl ?_
    refine A_callV2E (v := some (.int (whyWashN p3.1 (nhV 0 (p1.1 8 - 1) p1) (nhV 0 3 p2)))) (τ := mc b9 (⟨m_thr ms, m_is ms, m_um ms, m_bd ms, p3.2.2.2.2.2.1, p3.2.2.2.2.2.2, nI n, nI p3.2.1, nI p3.2.2.1, p3.2.2.2.1, p3.2.2.2.2.1, m_ps ms, p3.1, m_asd ms, m_und ms, m_sav ms, m_isv ms, B, m_grp ms, m_pag ms⟩ : MM) σ0) (c_whyWash b9 (⟨m_thr ms, m_is ms, m_um ms, m_bd ms, p3.2.2.2.2.2.1, p3.2.2.2.2.2.2, nI n, nI p3.2.1, nI p3.2.2.1, p3.2.2.2.1, p3.2.2.2.2.1, m_ps ms, p3.1, m_asd ms, m_und ms, m_sav ms, m_isv ms, B, m_grp ms, m_pag ms⟩ : MM) σ0 (nhV 0 (p1.1 8 - 1) p1) (nhV 0 3 p2) (hw3)) tX2_whyWash q2468 (mc_0 _ _ _) rfl rfl dX2_readsWash_36 (by decide) (Nat.le_of_eq (Nat.zero_add _)) (Nat.le_of_ble_eq_true rfl) ?_
    refine A_if_eq (tgt := 47) dX2_readsWash_39 (by decide) (fun c3 => ?_) (fun c3 => ?_)
    · skip
      obtain ⟨p4, e_p4⟩ : ∃ q, q = wa_3 B n p := ⟨_, rfl⟩
      have k_p4 : pOK n p4 := by rw [e_p4]; exact wa3_ok h1
      refine A_st (σ' := mc b9 (⟨m_thr ms, m_is ms, m_um ms, m_bd ms, p4.2.2.2.2.2.1, p4.2.2.2.2.2.2, nI n, nI p4.2.1, nI p4.2.2.1, p4.2.2.2.1, p4.2.2.2.2.1, m_ps ms, p4.1, m_asd ms, m_und ms, m_sav ms, m_isv ms, B, m_grp ms, m_pag ms⟩ : MM) σ0) (by rw [e_p4, wa_3, e2, eT, eH, if_neg (fun h => h.2 c3)]) ?_
      refine A_aload_n (i := 0) dX2_readsWash_47 rfl rfl ?_
      refine M_get 10 (v := .int p4.2.2.2.2.2.1) (Nat.le_of_ble_eq_true rfl) q2239 rfl dX2_readsWash_48 ?_
      refine A_if_le (tgt := 55) dX2_readsWash_51 (by decide) (fun c4 => ?_) (fun c4 => ?_)
      · skip
        refine A_aload_n (i := 0) dX2_readsWash_55 rfl rfl ?_
        refine A_iload_n (i := 1) dX2_readsWash_56 rfl rfl ?_
        refine A_iload_n (i := 2) dX2_readsWash_57 rfl rfl ?_
        refine A_callV2E (v := some (.int (stainBy p4.1 (nhV 0 (p1.1 8 - 1) p1) (nhV 0 3 p2)))) (τ := mc b9 (⟨m_thr ms, m_is ms, m_um ms, m_bd ms, p4.2.2.2.2.2.1, p4.2.2.2.2.2.2, nI n, nI p4.2.1, nI p4.2.2.1, p4.2.2.2.1, p4.2.2.2.2.1, m_ps ms, washN p4.1 (nhV 0 (p1.1 8 - 1) p1) (nhV 0 3 p2), m_asd ms, m_und ms, m_sav ms, m_isv ms, B, m_grp ms, m_pag ms⟩ : MM) σ0) (c_washes b9 (⟨m_thr ms, m_is ms, m_um ms, m_bd ms, p4.2.2.2.2.2.1, p4.2.2.2.2.2.2, nI n, nI p4.2.1, nI p4.2.2.1, p4.2.2.2.1, p4.2.2.2.2.1, m_ps ms, p4.1, m_asd ms, m_und ms, m_sav ms, m_isv ms, B, m_grp ms, m_pag ms⟩ : MM) σ0 (nhV 0 (p1.1 8 - 1) p1) (nhV 0 3 p2) (k_p4.2.2.2)) tX2_washes q2477 (mc_0 _ _ _) rfl rfl dX2_readsWash_58 (by decide) (Nat.le_of_eq (Nat.zero_add _)) (Nat.le_of_ble_eq_true rfl) ?_
        refine A_istore_n (i := 3) dX2_readsWash_61 rfl (Nat.le_of_ble_eq_true rfl) ?_
        refine A_st (σ' := mc b9 (⟨m_thr ms, m_is ms, m_um ms, m_bd ms, (pN (washN p4.1 (waT B n p) (waH B n p)) p4).2.2.2.2.2.1, (pN (washN p4.1 (waT B n p) (waH B n p)) p4).2.2.2.2.2.2, nI n, nI (pN (washN p4.1 (waT B n p) (waH B n p)) p4).2.1, nI (pN (washN p4.1 (waT B n p) (waH B n p)) p4).2.2.1, (pN (washN p4.1 (waT B n p) (waH B n p)) p4).2.2.2.1, (pN (washN p4.1 (waT B n p) (waH B n p)) p4).2.2.2.2.1, m_ps ms, (pN (washN p4.1 (waT B n p) (waH B n p)) p4).1, m_asd ms, m_und ms, m_sav ms, m_isv ms, B, m_grp ms, m_pag ms⟩ : MM) σ0) (by rw [eT, eH] <;> rfl) ?_
        refine A_aload_n (i := 0) dX2_readsWash_62 rfl rfl ?_
        refine A_callV0E (v := none) (τ := mc b9 (⟨m_thr ms, m_is ms, m_um ms, m_bd ms, (goesS B n (pN (washN p4.1 (waT B n p) (waH B n p)) p4)).2.2.2.2.2.1, (goesS B n (pN (washN p4.1 (waT B n p) (waH B n p)) p4)).2.2.2.2.2.2, nI n, nI (goesS B n (pN (washN p4.1 (waT B n p) (waH B n p)) p4)).2.1, nI (goesS B n (pN (washN p4.1 (waT B n p) (waH B n p)) p4)).2.2.1, (goesS B n (pN (washN p4.1 (waT B n p) (waH B n p)) p4)).2.2.2.1, (goesS B n (pN (washN p4.1 (waT B n p) (waH B n p)) p4)).2.2.2.2.1, m_ps ms, (goesS B n (pN (washN p4.1 (waT B n p) (waH B n p)) p4)).1, m_asd ms, m_und ms, m_sav ms, m_isv ms, B, m_grp ms, m_pag ms⟩ : MM) σ0) (c_goes b9 (⟨m_thr ms, m_is ms, m_um ms, m_bd ms, (pN (washN p4.1 (waT B n p) (waH B n p)) p4).2.2.2.2.2.1, (pN (washN p4.1 (waT B n p) (waH B n p)) p4).2.2.2.2.2.2, nI n, nI (pN (washN p4.1 (waT B n p) (waH B n p)) p4).2.1, nI (pN (washN p4.1 (waT B n p) (waH B n p)) p4).2.2.1, (pN (washN p4.1 (waT B n p) (waH B n p)) p4).2.2.2.1, (pN (washN p4.1 (waT B n p) (waH B n p)) p4).2.2.2.2.1, m_ps ms, (pN (washN p4.1 (waT B n p) (waH B n p)) p4).1, m_asd ms, m_und ms, m_sav ms, m_isv ms, B, m_grp ms, m_pag ms⟩ : MM) σ0 n (pN (washN p4.1 (waT B n p) (waH B n p)) p4) B ((pN_ok k_p4 ((cts_wash _ _ _).wf k_p4.2.2.2)).1) (h2)) tX2_goes q2337 (mc_0 _ _ _) rfl rfl dX2_readsWash_63 (by decide) (Nat.le_of_eq (Nat.zero_add _)) (Nat.le_of_ble_eq_true rfl) ?_
        exact A_vret dX2_readsWash_66 rfl ⟨rfl, by rw [waS, ← e_p4, if_pos c4]⟩
      · skip
        exact A_vret dX2_readsWash_54 rfl ⟨rfl, by rw [waS, ← e_p4, if_neg c4]⟩
    · skip
      refine A_aload_n (i := 0) dX2_readsWash_42 rfl rfl ?_
      refine A_iconst (v := 3) dX2_readsWash_43 (by decide) ?_
      refine A_callV1E (v := none) (τ := mc b9 (⟨m_thr ms, m_is ms, m_um ms, m_bd ms, (fltS 3 p3).2.2.2.2.2.1, (fltS 3 p3).2.2.2.2.2.2, nI n, nI (fltS 3 p3).2.1, nI (fltS 3 p3).2.2.1, (fltS 3 p3).2.2.2.1, (fltS 3 p3).2.2.2.2.1, m_ps ms, (fltS 3 p3).1, m_asd ms, m_und ms, m_sav ms, m_isv ms, B, m_grp ms, m_pag ms⟩ : MM) σ0) (c_faults b9 (⟨m_thr ms, m_is ms, m_um ms, m_bd ms, p3.2.2.2.2.2.1, p3.2.2.2.2.2.2, nI n, nI p3.2.1, nI p3.2.2.1, p3.2.2.2.1, p3.2.2.2.2.1, m_ps ms, p3.1, m_asd ms, m_und ms, m_sav ms, m_isv ms, B, m_grp ms, m_pag ms⟩ : MM) σ0 p3 B 3) tX2_faults q2360 (mc_0 _ _ _) rfl rfl dX2_readsWash_44 (by decide) (Nat.le_of_eq (Nat.zero_add _)) (Nat.le_of_ble_eq_true rfl) ?_
      obtain ⟨p4, e_p4⟩ : ∃ q, q = wa_3 B n p := ⟨_, rfl⟩
      have k_p4 : pOK n p4 := by rw [e_p4]; exact wa3_ok h1
      refine A_st (σ' := mc b9 (⟨m_thr ms, m_is ms, m_um ms, m_bd ms, p4.2.2.2.2.2.1, p4.2.2.2.2.2.2, nI n, nI p4.2.1, nI p4.2.2.1, p4.2.2.2.1, p4.2.2.2.2.1, m_ps ms, p4.1, m_asd ms, m_und ms, m_sav ms, m_isv ms, B, m_grp ms, m_pag ms⟩ : MM) σ0) (by rw [e_p4, wa_3, e2, eT, eH, if_pos ⟨c1, c3⟩]) ?_
      refine A_aload_n (i := 0) dX2_readsWash_47 rfl rfl ?_
      refine M_get 10 (v := .int p4.2.2.2.2.2.1) (Nat.le_of_ble_eq_true rfl) q2239 rfl dX2_readsWash_48 ?_
      refine A_if_le (tgt := 55) dX2_readsWash_51 (by decide) (fun c5 => ?_) (fun c5 => ?_)
      · skip
        refine A_aload_n (i := 0) dX2_readsWash_55 rfl rfl ?_
        refine A_iload_n (i := 1) dX2_readsWash_56 rfl rfl ?_
        refine A_iload_n (i := 2) dX2_readsWash_57 rfl rfl ?_
        refine A_callV2E (v := some (.int (stainBy p4.1 (nhV 0 (p1.1 8 - 1) p1) (nhV 0 3 p2)))) (τ := mc b9 (⟨m_thr ms, m_is ms, m_um ms, m_bd ms, p4.2.2.2.2.2.1, p4.2.2.2.2.2.2, nI n, nI p4.2.1, nI p4.2.2.1, p4.2.2.2.1, p4.2.2.2.2.1, m_ps ms, washN p4.1 (nhV 0 (p1.1 8 - 1) p1) (nhV 0 3 p2), m_asd ms, m_und ms, m_sav ms, m_isv ms, B, m_grp ms, m_pag ms⟩ : MM) σ0) (c_washes b9 (⟨m_thr ms, m_is ms, m_um ms, m_bd ms, p4.2.2.2.2.2.1, p4.2.2.2.2.2.2, nI n, nI p4.2.1, nI p4.2.2.1, p4.2.2.2.1, p4.2.2.2.2.1, m_ps ms, p4.1, m_asd ms, m_und ms, m_sav ms, m_isv ms, B, m_grp ms, m_pag ms⟩ : MM) σ0 (nhV 0 (p1.1 8 - 1) p1) (nhV 0 3 p2) (k_p4.2.2.2)) tX2_washes q2477 (mc_0 _ _ _) rfl rfl dX2_readsWash_58 (by decide) (Nat.le_of_eq (Nat.zero_add _)) (Nat.le_of_ble_eq_true rfl) ?_
        refine A_istore_n (i := 3) dX2_readsWash_61 rfl (Nat.le_of_ble_eq_true rfl) ?_
        refine A_st (σ' := mc b9 (⟨m_thr ms, m_is ms, m_um ms, m_bd ms, (pN (washN p4.1 (waT B n p) (waH B n p)) p4).2.2.2.2.2.1, (pN (washN p4.1 (waT B n p) (waH B n p)) p4).2.2.2.2.2.2, nI n, nI (pN (washN p4.1 (waT B n p) (waH B n p)) p4).2.1, nI (pN (washN p4.1 (waT B n p) (waH B n p)) p4).2.2.1, (pN (washN p4.1 (waT B n p) (waH B n p)) p4).2.2.2.1, (pN (washN p4.1 (waT B n p) (waH B n p)) p4).2.2.2.2.1, m_ps ms, (pN (washN p4.1 (waT B n p) (waH B n p)) p4).1, m_asd ms, m_und ms, m_sav ms, m_isv ms, B, m_grp ms, m_pag ms⟩ : MM) σ0) (by rw [eT, eH] <;> rfl) ?_
        refine A_aload_n (i := 0) dX2_readsWash_62 rfl rfl ?_
        refine A_callV0E (v := none) (τ := mc b9 (⟨m_thr ms, m_is ms, m_um ms, m_bd ms, (goesS B n (pN (washN p4.1 (waT B n p) (waH B n p)) p4)).2.2.2.2.2.1, (goesS B n (pN (washN p4.1 (waT B n p) (waH B n p)) p4)).2.2.2.2.2.2, nI n, nI (goesS B n (pN (washN p4.1 (waT B n p) (waH B n p)) p4)).2.1, nI (goesS B n (pN (washN p4.1 (waT B n p) (waH B n p)) p4)).2.2.1, (goesS B n (pN (washN p4.1 (waT B n p) (waH B n p)) p4)).2.2.2.1, (goesS B n (pN (washN p4.1 (waT B n p) (waH B n p)) p4)).2.2.2.2.1, m_ps ms, (goesS B n (pN (washN p4.1 (waT B n p) (waH B n p)) p4)).1, m_asd ms, m_und ms, m_sav ms, m_isv ms, B, m_grp ms, m_pag ms⟩ : MM) σ0) (c_goes b9 (⟨m_thr ms, m_is ms, m_um ms, m_bd ms, (pN (washN p4.1 (waT B n p) (waH B n p)) p4).2.2.2.2.2.1, (pN (washN p4.1 (waT B n p) (waH B n p)) p4).2.2.2.2.2.2, nI n, nI (pN (washN p4.1 (waT B n p) (waH B n p)) p4).2.1, nI (pN (washN p4.1 (waT B n p) (waH B n p)) p4).2.2.1, (pN (washN p4.1 (waT B n p) (waH B n p)) p4).2.2.2.1, (pN (washN p4.1 (waT B n p) (waH B n p)) p4).2.2.2.2.1, m_ps ms, (pN (washN p4.1 (waT B n p) (waH B n p)) p4).1, m_asd ms, m_und ms, m_sav ms, m_isv ms, B, m_grp ms, m_pag ms⟩ : MM) σ0 n (pN (washN p4.1 (waT B n p) (waH B n p)) p4) B ((pN_ok k_p4 ((cts_wash _ _ _).wf k_p4.2.2.2)).1) (h2)) tX2_goes q2337 (mc_0 _ _ _) rfl rfl dX2_readsWash_63 (by decide) (Nat.le_of_eq (Nat.zero_add _)) (Nat.le_of_ble_eq_true rfl) ?_
        exact A_vret dX2_readsWash_66 rfl ⟨rfl, by rw [waS, ← e_p4, if_pos c5]⟩
      · skip
        exact A_vret dX2_readsWash_54 rfl ⟨rfl, by rw [waS, ← e_p4, if_neg c5]⟩
theorem c_readsHang {l : Launch} {g : GC} (b9 : Nat) (ms : MM) (σ0 : AH) (n : Nat) (p : PT) (B : AF) (h1 : pOK n p) (h2 : n ≤ 500) : AMet l g mX2_readsHang 6 0 [.ref b9] (mc b9 (⟨m_thr ms, m_is ms, m_um ms, m_bd ms, p.2.2.2.2.2.1, p.2.2.2.2.2.2, nI n, nI p.2.1, nI p.2.2.1, p.2.2.2.1, p.2.2.2.2.1, m_ps ms, p.1, m_asd ms, m_und ms, m_sav ms, m_isv ms, B, m_grp ms, m_pag ms⟩ : MM) σ0) (A_eq (none) (mc b9 (⟨m_thr ms, m_is ms, m_um ms, m_bd ms, (haS B n p).2.2.2.2.2.1, (haS B n p).2.2.2.2.2.2, nI n, nI (haS B n p).2.1, nI (haS B n p).2.2.1, (haS B n p).2.2.2.1, (haS B n p).2.2.2.2.1, m_ps ms, (haS B n p).1, m_asd ms, m_und ms, m_sav ms, m_isv ms, B, m_grp ms, m_pag ms⟩ : MM) σ0)) A_no := by
  refine A_of rfl (by decide) (Nat.le_of_ble_eq_true rfl) (L0 := [(0, .ref b9)]) rfl ?_
  refine A_aload_n (i := 0) dX2_readsHang_0 rfl rfl ?_
  refine A_callV0E (v := none) (τ := mc b9 (⟨m_thr ms, m_is ms, m_um ms, m_bd ms, (goesS B n p).2.2.2.2.2.1, (goesS B n p).2.2.2.2.2.2, nI n, nI (goesS B n p).2.1, nI (goesS B n p).2.2.1, (goesS B n p).2.2.2.1, (goesS B n p).2.2.2.2.1, m_ps ms, (goesS B n p).1, m_asd ms, m_und ms, m_sav ms, m_isv ms, B, m_grp ms, m_pag ms⟩ : MM) σ0) (c_goes b9 (⟨m_thr ms, m_is ms, m_um ms, m_bd ms, p.2.2.2.2.2.1, p.2.2.2.2.2.2, nI n, nI p.2.1, nI p.2.2.1, p.2.2.2.1, p.2.2.2.2.1, m_ps ms, p.1, m_asd ms, m_und ms, m_sav ms, m_isv ms, B, m_grp ms, m_pag ms⟩ : MM) σ0 n p B (h1.1) (h2)) tX2_goes q2337 (mc_0 _ _ _) rfl rfl dX2_readsHang_1 (by decide) (Nat.le_of_eq (Nat.zero_add _)) (Nat.le_of_ble_eq_true rfl) ?_
  obtain ⟨p1, e_p1⟩ : ∃ q, q = goesS B n p := ⟨_, rfl⟩
  have k_p1 : pOK n p1 := by rw [e_p1]; exact (goes_ok h1)
  rw [← e_p1]
  refine A_aload_n (i := 0) dX2_readsHang_4 rfl rfl ?_
  refine A_iconst (v := 0) dX2_readsHang_5 (by decide) ?_
  refine A_aload_n (i := 0) dX2_readsHang_6 rfl rfl ?_
  refine M_get 1 (v := .ref (b9 + 1)) (Nat.le_of_ble_eq_true rfl) q2230 rfl dX2_readsHang_7 ?_
  refine A_bipush (v := 10) dX2_readsHang_10 (by decide) ?_
  refine M_ald1 (n := 10) (v := p1.1 10) (rfl) (by decide) (rfl) dX2_readsHang_12 ?_
  refine A_iconst (v := 1) dX2_readsHang_13 (by decide) ?_
  refine A_isub dX2_readsHang_14 ?_
  refine A_int (w := (p1.1 10 - 1)) (rfl) ?_
  refine A_callV2E (v := some (.int (nhV 0 (p1.1 10 - 1) p1))) (τ := mc b9 (⟨m_thr ms, m_is ms, m_um ms, m_bd ms, (nhS 0 (p1.1 10 - 1) p1).2.2.2.2.2.1, (nhS 0 (p1.1 10 - 1) p1).2.2.2.2.2.2, nI n, nI (nhS 0 (p1.1 10 - 1) p1).2.1, nI (nhS 0 (p1.1 10 - 1) p1).2.2.1, (nhS 0 (p1.1 10 - 1) p1).2.2.2.1, (nhS 0 (p1.1 10 - 1) p1).2.2.2.2.1, m_ps ms, (nhS 0 (p1.1 10 - 1) p1).1, m_asd ms, m_und ms, m_sav ms, m_isv ms, B, m_grp ms, m_pag ms⟩ : MM) σ0) (c_numberHere b9 (⟨m_thr ms, m_is ms, m_um ms, m_bd ms, p1.2.2.2.2.2.1, p1.2.2.2.2.2.2, nI n, nI p1.2.1, nI p1.2.2.1, p1.2.2.2.1, p1.2.2.2.2.1, m_ps ms, p1.1, m_asd ms, m_und ms, m_sav ms, m_isv ms, B, m_grp ms, m_pag ms⟩ : MM) σ0 p1 B 0 (p1.1 10 - 1)) tX2_numberHere q2368 (mc_0 _ _ _) rfl rfl dX2_readsHang_15 (by decide) (Nat.le_of_eq (Nat.zero_add _)) (Nat.le_of_ble_eq_true rfl) ?_
  obtain ⟨p3, e_p3⟩ : ∃ q, q = nhS 0 (p1.1 10 - 1) p1 := ⟨_, rfl⟩
  have k_p3 : pOK n p3 := by rw [e_p3]; exact (nh_ok k_p1)
  rw [← e_p3]
  refine A_istore_n (i := 1) dX2_readsHang_18 rfl (Nat.le_of_ble_eq_true rfl) ?_
  have e2 : ha1 B n p = p3 := by rw [ha1, ← e_p1, ← e_p3]
  have eF : haF B n p = nhV 0 (p1.1 10 - 1) p1 := by rw [haF, ← e_p1]
  have hw1 := k_p1.2.2.2
  have hw3 := k_p3.2.2.2
  have hF9 := hw1.2.2.2.2.2
  refine A_aload_n (i := 0) dX2_readsHang_19 rfl rfl ?_
  refine M_get 10 (v := .int p3.2.2.2.2.2.1) (Nat.le_of_ble_eq_true rfl) q2239 rfl dX2_readsHang_20 ?_
  refine A_if_ne (tgt := 39) dX2_readsHang_23 (by decide) (fun c1 => ?_) (fun c1 => ?_)
  · skip
    obtain ⟨p4, e_p4⟩ : ∃ q, q = ha2 B n p := ⟨_, rfl⟩
    have k_p4 : pOK n p4 := by rw [e_p4]; exact ha2_ok h1
    refine A_st (σ' := mc b9 (⟨m_thr ms, m_is ms, m_um ms, m_bd ms, p4.2.2.2.2.2.1, p4.2.2.2.2.2.2, nI n, nI p4.2.1, nI p4.2.2.1, p4.2.2.2.1, p4.2.2.2.2.1, m_ps ms, p4.1, m_asd ms, m_und ms, m_sav ms, m_isv ms, B, m_grp ms, m_pag ms⟩ : MM) σ0) (by rw [e_p4, ha2, e2, if_neg (fun h => c1 h.1)]) ?_
    refine A_aload_n (i := 0) dX2_readsHang_39 rfl rfl ?_
    refine M_get 10 (v := .int p4.2.2.2.2.2.1) (Nat.le_of_ble_eq_true rfl) q2239 rfl dX2_readsHang_40 ?_
    refine A_if_ne_t (tgt := 51) dX2_readsHang_43 (by decide) (by rw [e_p4, ha2, e2, if_neg (fun h => c1 h.1)]; exact c1) ?_
    have hz : ¬ p4.2.2.2.2.2.1 = 0 := by rw [e_p4, ha2, e2, if_neg (fun h => c1 h.1)]; exact c1
    refine A_aload_n (i := 0) dX2_readsHang_51 rfl rfl ?_
    refine A_callV0E (v := none) (τ := mc b9 (⟨m_thr ms, m_is ms, m_um ms, m_bd ms, (goesS B n p4).2.2.2.2.2.1, (goesS B n p4).2.2.2.2.2.2, nI n, nI (goesS B n p4).2.1, nI (goesS B n p4).2.2.1, (goesS B n p4).2.2.2.1, (goesS B n p4).2.2.2.2.1, m_ps ms, (goesS B n p4).1, m_asd ms, m_und ms, m_sav ms, m_isv ms, B, m_grp ms, m_pag ms⟩ : MM) σ0) (c_goes b9 (⟨m_thr ms, m_is ms, m_um ms, m_bd ms, p4.2.2.2.2.2.1, p4.2.2.2.2.2.2, nI n, nI p4.2.1, nI p4.2.2.1, p4.2.2.2.1, p4.2.2.2.2.1, m_ps ms, p4.1, m_asd ms, m_und ms, m_sav ms, m_isv ms, B, m_grp ms, m_pag ms⟩ : MM) σ0 n p4 B (k_p4.1) (h2)) tX2_goes q2337 (mc_0 _ _ _) rfl rfl dX2_readsHang_52 (by decide) (Nat.le_of_eq (Nat.zero_add _)) (Nat.le_of_ble_eq_true rfl) ?_
    exact A_vret dX2_readsHang_55 rfl ⟨rfl, by rw [haS, ← e_p4, if_neg hz]⟩
  · skip
    have h3z : p3.2.2.2.2.2.1 ≤ 0 := le_of0 c1
    obtain ⟨f9, hf9, ef9⟩ := nhV_ex hw1.2.2.2.2.1 (by omega) (by rw [← e_p3]; exact h3z)
    rw [ef9] at eF
    refine A_sub (L' := [(0, .ref b9), (1, .int (nI f9))]) ⟨rfl, lg_eq ef9, trivial⟩ ?_
    refine A_aload_n (i := 0) dX2_readsHang_26 rfl rfl ?_
    refine A_iload_n (i := 1) dX2_readsHang_27 rfl rfl ?_
    refine A_callV1E (v := some (.int (bi (canHangN p3.1 f9)))) (τ := mc b9 (⟨m_thr ms, m_is ms, m_um ms, m_bd ms, p3.2.2.2.2.2.1, p3.2.2.2.2.2.2, nI n, nI p3.2.1, nI p3.2.2.1, p3.2.2.2.1, p3.2.2.2.2.1, m_ps ms, p3.1, m_asd ms, m_und ms, m_sav ms, m_isv ms, B, m_grp ms, m_pag ms⟩ : MM) σ0) (c_canHang b9 (⟨m_thr ms, m_is ms, m_um ms, m_bd ms, p3.2.2.2.2.2.1, p3.2.2.2.2.2.2, nI n, nI p3.2.1, nI p3.2.2.1, p3.2.2.2.1, p3.2.2.2.2.1, m_ps ms, p3.1, m_asd ms, m_und ms, m_sav ms, m_isv ms, B, m_grp ms, m_pag ms⟩ : MM) σ0 f9 (hw3) (by omega)) tX2_canHang q2515 (mc_0 _ _ _) rfl rfl dX2_readsHang_28 (by decide) (Nat.le_of_eq (Nat.zero_add _)) (Nat.le_of_ble_eq_true rfl) ?_
    refine A_if_ne (tgt := 39) dX2_readsHang_31 (by decide) (fun c2 => ?_) (fun c2 => ?_)
    · skip
      have c2 := bi_ne0.mp c2
      obtain ⟨p4, e_p4⟩ : ∃ q, q = ha2 B n p := ⟨_, rfl⟩
      have k_p4 : pOK n p4 := by rw [e_p4]; exact ha2_ok h1
      refine A_st (σ' := mc b9 (⟨m_thr ms, m_is ms, m_um ms, m_bd ms, p4.2.2.2.2.2.1, p4.2.2.2.2.2.2, nI n, nI p4.2.1, nI p4.2.2.1, p4.2.2.2.1, p4.2.2.2.2.1, m_ps ms, p4.1, m_asd ms, m_und ms, m_sav ms, m_isv ms, B, m_grp ms, m_pag ms⟩ : MM) σ0) (by rw [e_p4, ha2, e2, eF, ixn (show f9 < 2000 by omega), if_neg (fun h => h.2 c2)]) ?_
      refine A_aload_n (i := 0) dX2_readsHang_39 rfl rfl ?_
      refine M_get 10 (v := .int p4.2.2.2.2.2.1) (Nat.le_of_ble_eq_true rfl) q2239 rfl dX2_readsHang_40 ?_
      refine A_if_ne_f (tgt := 51) dX2_readsHang_43 (by decide) (by rw [e_p4, ha2, e2, eF, ixn (show f9 < 2000 by omega), if_neg (fun h => h.2 c2)]; exact c1) ?_
      refine A_aload_n (i := 0) dX2_readsHang_46 rfl rfl ?_
      refine A_iload_n (i := 1) dX2_readsHang_47 rfl rfl ?_
      refine A_callV1E (v := none) (τ := mc b9 (⟨m_thr ms, m_is ms, m_um ms, m_bd ms, p4.2.2.2.2.2.1, p4.2.2.2.2.2.2, nI n, nI p4.2.1, nI p4.2.2.1, p4.2.2.2.1, p4.2.2.2.2.1, m_ps ms, goTo p4.1 f9 2 (freeN p4.1), m_asd ms, m_und ms, m_sav ms, m_isv ms, B, m_grp ms, m_pag ms⟩ : MM) σ0) (c_hangs b9 (⟨m_thr ms, m_is ms, m_um ms, m_bd ms, p4.2.2.2.2.2.1, p4.2.2.2.2.2.2, nI n, nI p4.2.1, nI p4.2.2.1, p4.2.2.2.1, p4.2.2.2.2.1, m_ps ms, p4.1, m_asd ms, m_und ms, m_sav ms, m_isv ms, B, m_grp ms, m_pag ms⟩ : MM) σ0 f9 (k_p4.2.2.2) (by omega)) tX2_hangs q2527 (mc_0 _ _ _) rfl rfl dX2_readsHang_48 (by decide) (Nat.le_of_eq (Nat.zero_add _)) (Nat.le_of_ble_eq_true rfl) ?_
      have hz : p4.2.2.2.2.2.1 = 0 := by rw [e_p4, ha2, e2, eF, ixn (show f9 < 2000 by omega), if_neg (fun h => h.2 c2)]; exact c1
      refine A_st (σ' := mc b9 (⟨m_thr ms, m_is ms, m_um ms, m_bd ms, (pN (goTo p4.1 f9 2 (freeN p4.1)) p4).2.2.2.2.2.1, (pN (goTo p4.1 f9 2 (freeN p4.1)) p4).2.2.2.2.2.2, nI n, nI (pN (goTo p4.1 f9 2 (freeN p4.1)) p4).2.1, nI (pN (goTo p4.1 f9 2 (freeN p4.1)) p4).2.2.1, (pN (goTo p4.1 f9 2 (freeN p4.1)) p4).2.2.2.1, (pN (goTo p4.1 f9 2 (freeN p4.1)) p4).2.2.2.2.1, m_ps ms, (pN (goTo p4.1 f9 2 (freeN p4.1)) p4).1, m_asd ms, m_und ms, m_sav ms, m_isv ms, B, m_grp ms, m_pag ms⟩ : MM) σ0) rfl ?_
      refine A_aload_n (i := 0) dX2_readsHang_51 rfl rfl ?_
      refine A_callV0E (v := none) (τ := mc b9 (⟨m_thr ms, m_is ms, m_um ms, m_bd ms, (goesS B n (pN (goTo p4.1 f9 2 (freeN p4.1)) p4)).2.2.2.2.2.1, (goesS B n (pN (goTo p4.1 f9 2 (freeN p4.1)) p4)).2.2.2.2.2.2, nI n, nI (goesS B n (pN (goTo p4.1 f9 2 (freeN p4.1)) p4)).2.1, nI (goesS B n (pN (goTo p4.1 f9 2 (freeN p4.1)) p4)).2.2.1, (goesS B n (pN (goTo p4.1 f9 2 (freeN p4.1)) p4)).2.2.2.1, (goesS B n (pN (goTo p4.1 f9 2 (freeN p4.1)) p4)).2.2.2.2.1, m_ps ms, (goesS B n (pN (goTo p4.1 f9 2 (freeN p4.1)) p4)).1, m_asd ms, m_und ms, m_sav ms, m_isv ms, B, m_grp ms, m_pag ms⟩ : MM) σ0) (c_goes b9 (⟨m_thr ms, m_is ms, m_um ms, m_bd ms, (pN (goTo p4.1 f9 2 (freeN p4.1)) p4).2.2.2.2.2.1, (pN (goTo p4.1 f9 2 (freeN p4.1)) p4).2.2.2.2.2.2, nI n, nI (pN (goTo p4.1 f9 2 (freeN p4.1)) p4).2.1, nI (pN (goTo p4.1 f9 2 (freeN p4.1)) p4).2.2.1, (pN (goTo p4.1 f9 2 (freeN p4.1)) p4).2.2.2.1, (pN (goTo p4.1 f9 2 (freeN p4.1)) p4).2.2.2.2.1, m_ps ms, (pN (goTo p4.1 f9 2 (freeN p4.1)) p4).1, m_asd ms, m_und ms, m_sav ms, m_isv ms, B, m_grp ms, m_pag ms⟩ : MM) σ0 n (pN (goTo p4.1 f9 2 (freeN p4.1)) p4) B ((pN_ok k_p4 ((hdr_goTo _ _ _ _).wf k_p4.2.2.2)).1) (h2)) tX2_goes q2337 (mc_0 _ _ _) rfl rfl dX2_readsHang_52 (by decide) (Nat.le_of_eq (Nat.zero_add _)) (Nat.le_of_ble_eq_true rfl) ?_
      exact A_vret dX2_readsHang_55 rfl ⟨rfl, by rw [haS, ← e_p4, if_pos hz, eF, ixn (show f9 < 2000 by omega)]⟩
    · skip
      have c2 := bi_eq0.mp c2
      refine A_aload_n (i := 0) dX2_readsHang_34 rfl rfl ?_
      refine A_iconst (v := 3) dX2_readsHang_35 (by decide) ?_
      refine A_callV1E (v := none) (τ := mc b9 (⟨m_thr ms, m_is ms, m_um ms, m_bd ms, (fltS 3 p3).2.2.2.2.2.1, (fltS 3 p3).2.2.2.2.2.2, nI n, nI (fltS 3 p3).2.1, nI (fltS 3 p3).2.2.1, (fltS 3 p3).2.2.2.1, (fltS 3 p3).2.2.2.2.1, m_ps ms, (fltS 3 p3).1, m_asd ms, m_und ms, m_sav ms, m_isv ms, B, m_grp ms, m_pag ms⟩ : MM) σ0) (c_faults b9 (⟨m_thr ms, m_is ms, m_um ms, m_bd ms, p3.2.2.2.2.2.1, p3.2.2.2.2.2.2, nI n, nI p3.2.1, nI p3.2.2.1, p3.2.2.2.1, p3.2.2.2.2.1, m_ps ms, p3.1, m_asd ms, m_und ms, m_sav ms, m_isv ms, B, m_grp ms, m_pag ms⟩ : MM) σ0 p3 B 3) tX2_faults q2360 (mc_0 _ _ _) rfl rfl dX2_readsHang_36 (by decide) (Nat.le_of_eq (Nat.zero_add _)) (Nat.le_of_ble_eq_true rfl) ?_
      obtain ⟨p4, e_p4⟩ : ∃ q, q = ha2 B n p := ⟨_, rfl⟩
      have k_p4 : pOK n p4 := by rw [e_p4]; exact ha2_ok h1
      refine A_st (σ' := mc b9 (⟨m_thr ms, m_is ms, m_um ms, m_bd ms, p4.2.2.2.2.2.1, p4.2.2.2.2.2.2, nI n, nI p4.2.1, nI p4.2.2.1, p4.2.2.2.1, p4.2.2.2.2.1, m_ps ms, p4.1, m_asd ms, m_und ms, m_sav ms, m_isv ms, B, m_grp ms, m_pag ms⟩ : MM) σ0) (by rw [e_p4, ha2, e2, eF, ixn (show f9 < 2000 by omega), if_pos ⟨c1, c2⟩]) ?_
      refine A_aload_n (i := 0) dX2_readsHang_39 rfl rfl ?_
      refine M_get 10 (v := .int p4.2.2.2.2.2.1) (Nat.le_of_ble_eq_true rfl) q2239 rfl dX2_readsHang_40 ?_
      refine A_if_ne_t (tgt := 51) dX2_readsHang_43 (by decide) (by rw [e_p4, ha2, e2, eF, ixn (show f9 < 2000 by omega), if_pos ⟨c1, c2⟩]; exact fun h => flt_gt (by decide) _ (le_of0 h)) ?_
      have hz : ¬ p4.2.2.2.2.2.1 = 0 := by rw [e_p4, ha2, e2, eF, ixn (show f9 < 2000 by omega), if_pos ⟨c1, c2⟩]; exact fun h => flt_gt (by decide) _ (le_of0 h)
      refine A_aload_n (i := 0) dX2_readsHang_51 rfl rfl ?_
      refine A_callV0E (v := none) (τ := mc b9 (⟨m_thr ms, m_is ms, m_um ms, m_bd ms, (goesS B n p4).2.2.2.2.2.1, (goesS B n p4).2.2.2.2.2.2, nI n, nI (goesS B n p4).2.1, nI (goesS B n p4).2.2.1, (goesS B n p4).2.2.2.1, (goesS B n p4).2.2.2.2.1, m_ps ms, (goesS B n p4).1, m_asd ms, m_und ms, m_sav ms, m_isv ms, B, m_grp ms, m_pag ms⟩ : MM) σ0) (c_goes b9 (⟨m_thr ms, m_is ms, m_um ms, m_bd ms, p4.2.2.2.2.2.1, p4.2.2.2.2.2.2, nI n, nI p4.2.1, nI p4.2.2.1, p4.2.2.2.1, p4.2.2.2.2.1, m_ps ms, p4.1, m_asd ms, m_und ms, m_sav ms, m_isv ms, B, m_grp ms, m_pag ms⟩ : MM) σ0 n p4 B (k_p4.1) (h2)) tX2_goes q2337 (mc_0 _ _ _) rfl rfl dX2_readsHang_52 (by decide) (Nat.le_of_eq (Nat.zero_add _)) (Nat.le_of_ble_eq_true rfl) ?_
      exact A_vret dX2_readsHang_55 rfl ⟨rfl, by rw [haS, ← e_p4, if_neg hz]⟩
theorem c_readsWind {l : Launch} {g : GC} (b9 : Nat) (ms : MM) (σ0 : AH) (n : Nat) (p : PT) (B : AF) (h1 : pOK n p) (h2 : n ≤ 500) : AMet l g mX2_readsWind 5 0 [.ref b9] (mc b9 (⟨m_thr ms, m_is ms, m_um ms, m_bd ms, p.2.2.2.2.2.1, p.2.2.2.2.2.2, nI n, nI p.2.1, nI p.2.2.1, p.2.2.2.1, p.2.2.2.2.1, m_ps ms, p.1, m_asd ms, m_und ms, m_sav ms, m_isv ms, B, m_grp ms, m_pag ms⟩ : MM) σ0) (A_eq (none) (mc b9 (⟨m_thr ms, m_is ms, m_um ms, m_bd ms, (wiS B n p).2.2.2.2.2.1, (wiS B n p).2.2.2.2.2.2, nI n, nI (wiS B n p).2.1, nI (wiS B n p).2.2.1, (wiS B n p).2.2.2.1, (wiS B n p).2.2.2.2.1, m_ps ms, (wiS B n p).1, m_asd ms, m_und ms, m_sav ms, m_isv ms, B, m_grp ms, m_pag ms⟩ : MM) σ0)) A_no := by
  refine A_of rfl (by decide) (Nat.le_of_ble_eq_true rfl) (L0 := [(0, .ref b9)]) rfl ?_
  refine A_aload_n (i := 0) dX2_readsWind_0 rfl rfl ?_
  refine A_callV0E (v := none) (τ := mc b9 (⟨m_thr ms, m_is ms, m_um ms, m_bd ms, (goesS B n p).2.2.2.2.2.1, (goesS B n p).2.2.2.2.2.2, nI n, nI (goesS B n p).2.1, nI (goesS B n p).2.2.1, (goesS B n p).2.2.2.1, (goesS B n p).2.2.2.2.1, m_ps ms, (goesS B n p).1, m_asd ms, m_und ms, m_sav ms, m_isv ms, B, m_grp ms, m_pag ms⟩ : MM) σ0) (c_goes b9 (⟨m_thr ms, m_is ms, m_um ms, m_bd ms, p.2.2.2.2.2.1, p.2.2.2.2.2.2, nI n, nI p.2.1, nI p.2.2.1, p.2.2.2.1, p.2.2.2.2.1, m_ps ms, p.1, m_asd ms, m_und ms, m_sav ms, m_isv ms, B, m_grp ms, m_pag ms⟩ : MM) σ0 n p B (h1.1) (h2)) tX2_goes q2337 (mc_0 _ _ _) rfl rfl dX2_readsWind_1 (by decide) (Nat.le_of_eq (Nat.zero_add _)) (Nat.le_of_ble_eq_true rfl) ?_
  obtain ⟨p1, e_p1⟩ : ∃ q, q = goesS B n p := ⟨_, rfl⟩
  have k_p1 : pOK n p1 := by rw [e_p1]; exact (goes_ok h1)
  rw [← e_p1]
  refine A_aload_n (i := 0) dX2_readsWind_4 rfl rfl ?_
  refine A_iconst (v := 0) dX2_readsWind_5 (by decide) ?_
  refine A_bipush (v := 9) dX2_readsWind_6 (by decide) ?_
  refine A_callV2E (v := some (.int (nhV 0 9 p1))) (τ := mc b9 (⟨m_thr ms, m_is ms, m_um ms, m_bd ms, (nuS B n 0 9 p1).2.2.2.2.2.1, (nuS B n 0 9 p1).2.2.2.2.2.2, nI n, nI (nuS B n 0 9 p1).2.1, nI (nuS B n 0 9 p1).2.2.1, (nuS B n 0 9 p1).2.2.2.1, (nuS B n 0 9 p1).2.2.2.2.1, m_ps ms, (nuS B n 0 9 p1).1, m_asd ms, m_und ms, m_sav ms, m_isv ms, B, m_grp ms, m_pag ms⟩ : MM) σ0) (c_number b9 (⟨m_thr ms, m_is ms, m_um ms, m_bd ms, p1.2.2.2.2.2.1, p1.2.2.2.2.2.2, nI n, nI p1.2.1, nI p1.2.2.1, p1.2.2.2.1, p1.2.2.2.2.1, m_ps ms, p1.1, m_asd ms, m_und ms, m_sav ms, m_isv ms, B, m_grp ms, m_pag ms⟩ : MM) σ0 n p1 B 0 9 (k_p1) (h2)) tX2_number q2364 (mc_0 _ _ _) rfl rfl dX2_readsWind_8 (by decide) (Nat.le_of_eq (Nat.zero_add _)) (Nat.le_of_ble_eq_true rfl) ?_
  obtain ⟨p2, e_p2⟩ : ∃ q, q = nuS B n 0 9 p1 := ⟨_, rfl⟩
  have k_p2 : pOK n p2 := by rw [e_p2]; exact (nu_ok k_p1)
  rw [← e_p2]
  refine A_istore_n (i := 1) dX2_readsWind_11 rfl (Nat.le_of_ble_eq_true rfl) ?_
  refine A_aload_n (i := 0) dX2_readsWind_12 rfl rfl ?_
  refine M_get 10 (v := .int p2.2.2.2.2.2.1) (Nat.le_of_ble_eq_true rfl) q2239 rfl dX2_readsWind_13 ?_
  refine A_if_ne (tgt := 26) dX2_readsWind_16 (by decide) (fun c1 => ?_) (fun c1 => ?_)
  · skip
    exact A_vret dX2_readsWind_26 rfl ⟨rfl, by rw [wiS, ← e_p1, ← e_p2, if_neg c1]⟩
  · skip
    refine A_aload_n (i := 0) dX2_readsWind_19 rfl rfl ?_
    refine M_get 1 (v := .ref (b9 + 1)) (Nat.le_of_ble_eq_true rfl) q2230 rfl dX2_readsWind_20 ?_
    refine A_iconst (v := 1) dX2_readsWind_23 (by decide) ?_
    refine A_iload_n (i := 1) dX2_readsWind_24 rfl rfl ?_
    refine M_astT1 (n := 1) (na := va_up p2.1 1 (nhV 0 9 p1)) (rfl) (by decide) (rfl) dX2_readsWind_25 ?_
    exact A_vret dX2_readsWind_26 rfl ⟨rfl, by rw [wiS, ← e_p1, ← e_p2, if_pos c1] <;> rfl⟩
theorem c_readsPass {l : Launch} {g : GC} (b9 : Nat) (ms : MM) (σ0 : AH) (n : Nat) (p : PT) (B : AF) (h1 : pOK n p) (h2 : n ≤ 500) : AMet l g mX2_readsPass 7 0 [.ref b9] (mc b9 (⟨m_thr ms, m_is ms, m_um ms, m_bd ms, p.2.2.2.2.2.1, p.2.2.2.2.2.2, nI n, nI p.2.1, nI p.2.2.1, p.2.2.2.1, p.2.2.2.2.1, m_ps ms, p.1, m_asd ms, m_und ms, m_sav ms, m_isv ms, B, m_grp ms, m_pag ms⟩ : MM) σ0) (A_eq (none) (mc b9 (⟨m_thr ms, m_is ms, m_um ms, m_bd ms, (paS B n p).2.2.2.2.2.1, (paS B n p).2.2.2.2.2.2, nI n, nI (paS B n p).2.1, nI (paS B n p).2.2.1, (paS B n p).2.2.2.1, (paS B n p).2.2.2.2.1, m_ps ms, (paS B n p).1, m_asd ms, m_und ms, m_sav ms, m_isv ms, B, m_grp ms, m_pag ms⟩ : MM) σ0)) A_no := by
  refine A_of rfl (by decide) (Nat.le_of_ble_eq_true rfl) (L0 := [(0, .ref b9)]) rfl ?_
  refine A_aload_n (i := 0) dX2_readsPass_0 rfl rfl ?_
  refine A_callV0E (v := none) (τ := mc b9 (⟨m_thr ms, m_is ms, m_um ms, m_bd ms, (goesS B n p).2.2.2.2.2.1, (goesS B n p).2.2.2.2.2.2, nI n, nI (goesS B n p).2.1, nI (goesS B n p).2.2.1, (goesS B n p).2.2.2.1, (goesS B n p).2.2.2.2.1, m_ps ms, (goesS B n p).1, m_asd ms, m_und ms, m_sav ms, m_isv ms, B, m_grp ms, m_pag ms⟩ : MM) σ0) (c_goes b9 (⟨m_thr ms, m_is ms, m_um ms, m_bd ms, p.2.2.2.2.2.1, p.2.2.2.2.2.2, nI n, nI p.2.1, nI p.2.2.1, p.2.2.2.1, p.2.2.2.2.1, m_ps ms, p.1, m_asd ms, m_und ms, m_sav ms, m_isv ms, B, m_grp ms, m_pag ms⟩ : MM) σ0 n p B (h1.1) (h2)) tX2_goes q2337 (mc_0 _ _ _) rfl rfl dX2_readsPass_1 (by decide) (Nat.le_of_eq (Nat.zero_add _)) (Nat.le_of_ble_eq_true rfl) ?_
  obtain ⟨p1, e_p1⟩ : ∃ q, q = goesS B n p := ⟨_, rfl⟩
  have k_p1 : pOK n p1 := by rw [e_p1]; exact (goes_ok h1)
  rw [← e_p1]
  refine A_aload_n (i := 0) dX2_readsPass_4 rfl rfl ?_
  refine A_iconst (v := 1) dX2_readsPass_5 (by decide) ?_
  refine A_bipush (v := 50) dX2_readsPass_6 (by decide) ?_
  refine A_callV2E (v := some (.int (nhV 1 50 p1))) (τ := mc b9 (⟨m_thr ms, m_is ms, m_um ms, m_bd ms, (nuS B n 1 50 p1).2.2.2.2.2.1, (nuS B n 1 50 p1).2.2.2.2.2.2, nI n, nI (nuS B n 1 50 p1).2.1, nI (nuS B n 1 50 p1).2.2.1, (nuS B n 1 50 p1).2.2.2.1, (nuS B n 1 50 p1).2.2.2.2.1, m_ps ms, (nuS B n 1 50 p1).1, m_asd ms, m_und ms, m_sav ms, m_isv ms, B, m_grp ms, m_pag ms⟩ : MM) σ0) (c_number b9 (⟨m_thr ms, m_is ms, m_um ms, m_bd ms, p1.2.2.2.2.2.1, p1.2.2.2.2.2.2, nI n, nI p1.2.1, nI p1.2.2.1, p1.2.2.2.1, p1.2.2.2.2.1, m_ps ms, p1.1, m_asd ms, m_und ms, m_sav ms, m_isv ms, B, m_grp ms, m_pag ms⟩ : MM) σ0 n p1 B 1 50 (k_p1) (h2)) tX2_number q2364 (mc_0 _ _ _) rfl rfl dX2_readsPass_8 (by decide) (Nat.le_of_eq (Nat.zero_add _)) (Nat.le_of_ble_eq_true rfl) ?_
  obtain ⟨p2, e_p2⟩ : ∃ q, q = nuS B n 1 50 p1 := ⟨_, rfl⟩
  have k_p2 : pOK n p2 := by rw [e_p2]; exact (nu_ok k_p1)
  rw [← e_p2]
  refine A_istore_n (i := 1) dX2_readsPass_11 rfl (Nat.le_of_ble_eq_true rfl) ?_
  by_cases hz : p2.2.2.2.2.2.1 = 0
  · skip
    obtain ⟨j9, hj9, ej9⟩ := nhV_50 (p := p1) (by rw [e_p2, nu_pc] at hz; exact le_of0 hz)
    refine A_sub (L' := [(0, .ref b9), (1, .int (nI j9))]) ⟨rfl, lg_eq ej9, trivial⟩ ?_
    refine A_iconst (v := 0) dX2_readsPass_12 (by decide) ?_
    refine A_istore_n (i := 2) dX2_readsPass_13 rfl (Nat.le_of_ble_eq_true rfl) ?_
    refine A_sub (L' := [(0, .ref b9), (1, .int (nI j9)), (2, .int (nI 0))]) ⟨rfl, rfl, rfl, trivial⟩ ?_
    refine A_for j9 (fun i14 => 0) (fun i14 => [(0, .ref b9), (1, .int (nI j9)), (2, .int (nI i14))]) (fun i14 => mc b9 (⟨m_thr ms, m_is ms, m_um ms, m_bd ms, p2.2.2.2.2.2.1, p2.2.2.2.2.2.2, nI n, nI p2.2.1, nI p2.2.2.1, p2.2.2.2.1, p2.2.2.2.2.1, m_ps ms, (itr passN p2.1 i14), m_asd ms, m_und ms, m_sav ms, m_isv ms, B, m_grp ms, m_pag ms⟩ : MM) σ0) (fun i14 => True) trivial (fun i14 hi14 hI14 ih14 => ?_) (fun hI14 => ?_)
    · skip
      refine A_iload_n (i := 2) dX2_readsPass_14 rfl rfl ?_
      refine A_iload_n (i := 1) dX2_readsPass_15 rfl rfl ?_
      refine A_icmp_ge_f (tgt := 36) dX2_readsPass_16 (by decide) (br_lt rfl hi14 (by omega)) ?_
      refine A_aload_n (i := 0) dX2_readsPass_19 rfl rfl ?_
      refine M_get 10 (v := .int p2.2.2.2.2.2.1) (Nat.le_of_ble_eq_true rfl) q2239 rfl dX2_readsPass_20 ?_
      refine A_if_ne_f (tgt := 36) dX2_readsPass_23 (by decide) (hz) ?_
      refine A_aload_n (i := 0) dX2_readsPass_26 rfl rfl ?_
      refine A_callV0E (v := none) (τ := mc b9 (⟨m_thr ms, m_is ms, m_um ms, m_bd ms, p2.2.2.2.2.2.1, p2.2.2.2.2.2.2, nI n, nI p2.2.1, nI p2.2.2.1, p2.2.2.2.1, p2.2.2.2.2.1, m_ps ms, passN (itr passN p2.1 i14), m_asd ms, m_und ms, m_sav ms, m_isv ms, B, m_grp ms, m_pag ms⟩ : MM) σ0) (c_passes b9 (⟨m_thr ms, m_is ms, m_um ms, m_bd ms, p2.2.2.2.2.2.1, p2.2.2.2.2.2.2, nI n, nI p2.2.1, nI p2.2.2.1, p2.2.2.2.1, p2.2.2.2.2.1, m_ps ms, (itr passN p2.1 i14), m_asd ms, m_und ms, m_sav ms, m_isv ms, B, m_grp ms, m_pag ms⟩ : MM) σ0  ((cts_it _ _).wf k_p2.2.2.2)) tX2_passes q2541 (mc_0 _ _ _) rfl rfl dX2_readsPass_27 (by decide) (Nat.le_of_eq (Nat.zero_add _)) (Nat.le_of_ble_eq_true rfl) ?_
      refine A_iinc (v := nI (i14 + 1)) dX2_readsPass_30 rfl (nI_inc _ _) (Nat.le_of_ble_eq_true rfl) ?_
      refine A_goto (tgt := 14) dX2_readsPass_33 (by decide) ?_
      refine A_sub (L' := [(0, .ref b9), (1, .int (nI j9)), (2, .int (nI (i14 + 1)))]) ⟨rfl, rfl, rfl, trivial⟩ ?_
      exact ih14 trivial
    · skip
      refine A_iload_n (i := 2) dX2_readsPass_14 rfl rfl ?_
      refine A_iload_n (i := 1) dX2_readsPass_15 rfl rfl ?_
      refine A_icmp_ge_t (tgt := 36) dX2_readsPass_16 (by decide) (br_ge rfl) ?_
      exact A_vret dX2_readsPass_36 rfl ⟨rfl, by rw [paS, ← e_p1, ← e_p2, if_pos hz, ej9, ixn (show j9 < 2000 by omega)] <;> rfl⟩
  · skip
    have hq : ¬ p2.2.2.2.2.2.1 ≤ 0 := fun h => hz ((pc0 k_p2).mp h)
    refine A_sub (L' := [(0, .ref b9), (1, .int 1)]) ⟨rfl, lg_eq (nhV_x (p := p1) (fun h => hq (by rw [e_p2, nu_pc]; exact h))), trivial⟩ ?_
    refine A_iconst (v := 0) dX2_readsPass_12 (by decide) ?_
    refine A_istore_n (i := 2) dX2_readsPass_13 rfl (Nat.le_of_ble_eq_true rfl) ?_
    refine A_iload_n (i := 2) dX2_readsPass_14 rfl rfl ?_
    refine A_iload_n (i := 1) dX2_readsPass_15 rfl rfl ?_
    refine A_icmp_ge_f (tgt := 36) dX2_readsPass_16 (by decide) (by decide) ?_
    refine A_aload_n (i := 0) dX2_readsPass_19 rfl rfl ?_
    refine M_get 10 (v := .int p2.2.2.2.2.2.1) (Nat.le_of_ble_eq_true rfl) q2239 rfl dX2_readsPass_20 ?_
    refine A_if_ne_t (tgt := 36) dX2_readsPass_23 (by decide) (hz) ?_
    exact A_vret dX2_readsPass_36 rfl ⟨rfl, by rw [paS, ← e_p1, ← e_p2, if_neg hz]⟩
