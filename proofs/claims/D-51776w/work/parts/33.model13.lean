/-! THE MODEL 13: numbers and lines -/
theorem na4_lt {B : AF} {n : Nat} {p : PT} (hw : WFc (na4 B n p).1) (h9 : (na4 B n p).2.2.2.2.2.1 ≤ 0) : nN (na4 B n p).1 < 4 := by
  have e : ¬ (na4 B n p).1 7 = 4 := by
    rw [na4_1]
    unfold na4 na3 na2 na1 at h9
    exact bg_ne (nu_le (nu_le (nu_le h9)))
  rcases Nat.lt_or_ge (nN (na4 B n p).1) 4 with q | q
  · exact q
  · exfalso
    have h4 : nN (na4 B n p).1 = 4 := by have := hw.2.1.2; omega
    exact e (by rw [hw.2.1.1, h4]; decide)
theorem c_faults {l : Launch} {g : GC} (b9 : Nat) (ms : MM) (σ0 : AH) (p : PT) (B : AF) (c : Int32)  : AMet l g mX2_faults 1 0 [.ref b9, .int c] (mc b9 (⟨m_thr ms, m_is ms, m_um ms, m_bd ms, p.2.2.2.2.2.1, p.2.2.2.2.2.2, m_sz ms, nI p.2.1, nI p.2.2.1, p.2.2.2.1, p.2.2.2.2.1, m_ps ms, p.1, m_asd ms, m_und ms, m_sav ms, m_isv ms, B, m_grp ms, m_pag ms⟩ : MM) σ0) (A_eq (none) (mc b9 (⟨m_thr ms, m_is ms, m_um ms, m_bd ms, (fltS c p).2.2.2.2.2.1, (fltS c p).2.2.2.2.2.2, m_sz ms, nI (fltS c p).2.1, nI (fltS c p).2.2.1, (fltS c p).2.2.2.1, (fltS c p).2.2.2.2.1, m_ps ms, (fltS c p).1, m_asd ms, m_und ms, m_sav ms, m_isv ms, B, m_grp ms, m_pag ms⟩ : MM) σ0)) A_no := by
  refine A_of rfl (by decide) (Nat.le_of_ble_eq_true rfl) (L0 := [(0, .ref b9), (1, .int c)]) rfl ?_
  refine A_aload_n (i := 0) dX2_faults_0 rfl rfl ?_
  refine M_get 10 (v := .int p.2.2.2.2.2.1) (Nat.le_of_ble_eq_true rfl) q2239 rfl dX2_faults_1 ?_
  refine A_if_le (tgt := 8) dX2_faults_4 (by decide) (fun c1 => ?_) (fun c1 => ?_)
  · skip
    refine A_aload_n (i := 0) dX2_faults_8 rfl rfl ?_
    refine A_iload_n (i := 1) dX2_faults_9 rfl rfl ?_
    refine M_putT_pc q2239 rfl dX2_faults_10 ?_
    refine A_aload_n (i := 0) dX2_faults_13 rfl rfl ?_
    refine A_aload_n (i := 0) dX2_faults_14 rfl rfl ?_
    refine M_get 14 (v := .int (nI p.2.2.1)) (Nat.le_of_ble_eq_true rfl) q2243 rfl dX2_faults_15 ?_
    refine M_putT_pa q2240 rfl dX2_faults_18 ?_
    exact A_vret dX2_faults_21 rfl ⟨rfl, by rw [flt_0 c1]⟩
  · skip
    exact A_vret dX2_faults_7 rfl ⟨rfl, by rw [flt_x c1]⟩
theorem c_is {l : Launch} {g : GC} (b9 : Nat) (ms : MM) (σ0 : AH) (p : PT) (B : AF) (t : Int32)  : AMet l g mX2_is 1 0 [.ref b9, .int t] (mc b9 (⟨m_thr ms, m_is ms, m_um ms, m_bd ms, p.2.2.2.2.2.1, p.2.2.2.2.2.2, m_sz ms, nI p.2.1, nI p.2.2.1, p.2.2.2.1, p.2.2.2.2.1, m_ps ms, p.1, m_asd ms, m_und ms, m_sav ms, m_isv ms, B, m_grp ms, m_pag ms⟩ : MM) σ0) (A_eq (some (.int (bi (isP t p)))) (mc b9 (⟨m_thr ms, m_is ms, m_um ms, m_bd ms, p.2.2.2.2.2.1, p.2.2.2.2.2.2, m_sz ms, nI p.2.1, nI p.2.2.1, p.2.2.2.1, p.2.2.2.2.1, m_ps ms, p.1, m_asd ms, m_und ms, m_sav ms, m_isv ms, B, m_grp ms, m_pag ms⟩ : MM) σ0)) A_no := by
  refine A_of rfl (by decide) (Nat.le_of_ble_eq_true rfl) (L0 := [(0, .ref b9), (1, .int t)]) rfl ?_
  refine A_aload_n (i := 0) dX2_is_0 rfl rfl ?_
  refine M_get 10 (v := .int p.2.2.2.2.2.1) (Nat.le_of_ble_eq_true rfl) q2239 rfl dX2_is_1 ?_
  refine A_if_ne (tgt := 19) dX2_is_4 (by decide) (fun c1 => ?_) (fun c1 => ?_)
  · skip
    refine A_iconst (v := 0) dX2_is_19 (by decide) ?_
    exact A_zret dX2_is_20 rfl (rfl) ⟨by rw [bi_f (fun h => c1 h.1)], rfl⟩
  · skip
    refine A_aload_n (i := 0) dX2_is_7 rfl rfl ?_
    refine M_get 15 (v := .int p.2.2.2.1) (Nat.le_of_ble_eq_true rfl) q2244 rfl dX2_is_8 ?_
    refine A_iload_n (i := 1) dX2_is_11 rfl rfl ?_
    refine A_icmp_ne (tgt := 19) dX2_is_12 (by decide) (fun c2 => ?_) (fun c2 => ?_)
    · skip
      refine A_iconst (v := 0) dX2_is_19 (by decide) ?_
      exact A_zret dX2_is_20 rfl (rfl) ⟨by rw [bi_f (fun h => c2 h.2)], rfl⟩
    · skip
      refine A_iconst (v := 1) dX2_is_15 (by decide) ?_
      refine A_goto (tgt := 20) dX2_is_16 (by decide) ?_
      exact A_zret dX2_is_20 rfl (rfl) ⟨by rw [bi_t ⟨c1, c2⟩], rfl⟩
theorem c_numberHere {l : Launch} {g : GC} (b9 : Nat) (ms : MM) (σ0 : AH) (p : PT) (B : AF) (lo : Int32) (hi : Int32)  : AMet l g mX2_numberHere 2 0 [.ref b9, .int lo, .int hi] (mc b9 (⟨m_thr ms, m_is ms, m_um ms, m_bd ms, p.2.2.2.2.2.1, p.2.2.2.2.2.2, m_sz ms, nI p.2.1, nI p.2.2.1, p.2.2.2.1, p.2.2.2.2.1, m_ps ms, p.1, m_asd ms, m_und ms, m_sav ms, m_isv ms, B, m_grp ms, m_pag ms⟩ : MM) σ0) (A_eq (some (.int (nhV lo hi p))) (mc b9 (⟨m_thr ms, m_is ms, m_um ms, m_bd ms, (nhS lo hi p).2.2.2.2.2.1, (nhS lo hi p).2.2.2.2.2.2, m_sz ms, nI (nhS lo hi p).2.1, nI (nhS lo hi p).2.2.1, (nhS lo hi p).2.2.2.1, (nhS lo hi p).2.2.2.2.1, m_ps ms, (nhS lo hi p).1, m_asd ms, m_und ms, m_sav ms, m_isv ms, B, m_grp ms, m_pag ms⟩ : MM) σ0)) A_no := by
  refine A_of rfl (by decide) (Nat.le_of_ble_eq_true rfl) (L0 := [(0, .ref b9), (1, .int lo), (2, .int hi)]) rfl ?_
  refine A_aload_n (i := 0) dX2_numberHere_0 rfl rfl ?_
  refine A_iconst (v := 3) dX2_numberHere_1 (by decide) ?_
  refine A_callV1E (v := some (.int (bi (isP 3 p)))) (τ := mc b9 (⟨m_thr ms, m_is ms, m_um ms, m_bd ms, p.2.2.2.2.2.1, p.2.2.2.2.2.2, m_sz ms, nI p.2.1, nI p.2.2.1, p.2.2.2.1, p.2.2.2.2.1, m_ps ms, p.1, m_asd ms, m_und ms, m_sav ms, m_isv ms, B, m_grp ms, m_pag ms⟩ : MM) σ0) (c_is b9 (⟨m_thr ms, m_is ms, m_um ms, m_bd ms, p.2.2.2.2.2.1, p.2.2.2.2.2.2, m_sz ms, nI p.2.1, nI p.2.2.1, p.2.2.2.1, p.2.2.2.2.1, m_ps ms, p.1, m_asd ms, m_und ms, m_sav ms, m_isv ms, B, m_grp ms, m_pag ms⟩ : MM) σ0 p B 3) tX2_is q2354 (mc_0 _ _ _) rfl rfl dX2_numberHere_2 (by decide) (Nat.le_of_eq (Nat.zero_add _)) (Nat.le_of_ble_eq_true rfl) ?_
  refine A_if_ne (tgt := 16) dX2_numberHere_5 (by decide) (fun c1 => ?_) (fun c1 => ?_)
  · skip
    have c1 := bi_ne0.mp c1
    refine A_aload_n (i := 0) dX2_numberHere_16 rfl rfl ?_
    refine M_get 16 (v := .int p.2.2.2.2.1) (Nat.le_of_ble_eq_true rfl) q2245 rfl dX2_numberHere_17 ?_
    refine A_iload_n (i := 1) dX2_numberHere_20 rfl rfl ?_
    refine A_iload_n (i := 2) dX2_numberHere_21 rfl rfl ?_
    refine A_callS3E (v := some (.int (bi (inR p.2.2.2.2.1 lo hi)))) (τ := mc b9 (⟨m_thr ms, m_is ms, m_um ms, m_bd ms, p.2.2.2.2.2.1, p.2.2.2.2.2.2, m_sz ms, nI p.2.1, nI p.2.2.1, p.2.2.2.1, p.2.2.2.2.1, m_ps ms, p.1, m_asd ms, m_und ms, m_sav ms, m_isv ms, B, m_grp ms, m_pag ms⟩ : MM) σ0) (c_in b9 (⟨m_thr ms, m_is ms, m_um ms, m_bd ms, p.2.2.2.2.2.1, p.2.2.2.2.2.2, m_sz ms, nI p.2.1, nI p.2.2.1, p.2.2.2.1, p.2.2.2.2.1, m_ps ms, p.1, m_asd ms, m_und ms, m_sav ms, m_isv ms, B, m_grp ms, m_pag ms⟩ : MM) σ0 p.2.2.2.2.1 lo hi) tX2_in q2319 dX2_numberHere_22 (by decide) (Nat.le_of_eq (Nat.zero_add _)) (Nat.le_of_ble_eq_true rfl) ?_
    refine A_if_ne (tgt := 33) dX2_numberHere_25 (by decide) (fun c2 => ?_) (fun c2 => ?_)
    · skip
      have c2 := bi_ne0.mp c2
      refine A_st (σ' := mc b9 (⟨m_thr ms, m_is ms, m_um ms, m_bd ms, (nhS lo hi p).2.2.2.2.2.1, (nhS lo hi p).2.2.2.2.2.2, m_sz ms, nI (nhS lo hi p).2.1, nI (nhS lo hi p).2.2.1, (nhS lo hi p).2.2.2.1, (nhS lo hi p).2.2.2.2.1, m_ps ms, (nhS lo hi p).1, m_asd ms, m_und ms, m_sav ms, m_isv ms, B, m_grp ms, m_pag ms⟩ : MM) σ0) (by rw [nhS, if_pos c1, if_pos c2]) ?_
      refine A_aload_n (i := 0) dX2_numberHere_33 rfl rfl ?_
      refine M_get 10 (v := .int ((nhS lo hi p).2.2.2.2.2.1)) (Nat.le_of_ble_eq_true rfl) q2239 rfl dX2_numberHere_34 ?_
      refine A_if_le (tgt := 44) dX2_numberHere_37 (by decide) (fun c3 => ?_) (fun c3 => ?_)
      · skip
        refine A_aload_n (i := 0) dX2_numberHere_44 rfl rfl ?_
        refine M_get 16 (v := .int ((nhS lo hi p).2.2.2.2.1)) (Nat.le_of_ble_eq_true rfl) q2245 rfl dX2_numberHere_45 ?_
        exact A_iret dX2_numberHere_48 rfl ⟨by rw [nhV, if_pos c3], rfl⟩
      · skip
        refine A_iload_n (i := 1) dX2_numberHere_40 rfl rfl ?_
        refine A_goto (tgt := 48) dX2_numberHere_41 (by decide) ?_
        exact A_iret dX2_numberHere_48 rfl ⟨by rw [nhV, if_neg c3], rfl⟩
    · skip
      have c2 := bi_eq0.mp c2
      refine A_aload_n (i := 0) dX2_numberHere_28 rfl rfl ?_
      refine A_iconst (v := 2) dX2_numberHere_29 (by decide) ?_
      refine A_callV1E (v := none) (τ := mc b9 (⟨m_thr ms, m_is ms, m_um ms, m_bd ms, (fltS 2 p).2.2.2.2.2.1, (fltS 2 p).2.2.2.2.2.2, m_sz ms, nI (fltS 2 p).2.1, nI (fltS 2 p).2.2.1, (fltS 2 p).2.2.2.1, (fltS 2 p).2.2.2.2.1, m_ps ms, (fltS 2 p).1, m_asd ms, m_und ms, m_sav ms, m_isv ms, B, m_grp ms, m_pag ms⟩ : MM) σ0) (c_faults b9 (⟨m_thr ms, m_is ms, m_um ms, m_bd ms, p.2.2.2.2.2.1, p.2.2.2.2.2.2, m_sz ms, nI p.2.1, nI p.2.2.1, p.2.2.2.1, p.2.2.2.2.1, m_ps ms, p.1, m_asd ms, m_und ms, m_sav ms, m_isv ms, B, m_grp ms, m_pag ms⟩ : MM) σ0 p B 2) tX2_faults q2360 (mc_0 _ _ _) rfl rfl dX2_numberHere_30 (by decide) (Nat.le_of_eq (Nat.zero_add _)) (Nat.le_of_ble_eq_true rfl) ?_
      refine A_st (σ' := mc b9 (⟨m_thr ms, m_is ms, m_um ms, m_bd ms, (nhS lo hi p).2.2.2.2.2.1, (nhS lo hi p).2.2.2.2.2.2, m_sz ms, nI (nhS lo hi p).2.1, nI (nhS lo hi p).2.2.1, (nhS lo hi p).2.2.2.1, (nhS lo hi p).2.2.2.2.1, m_ps ms, (nhS lo hi p).1, m_asd ms, m_und ms, m_sav ms, m_isv ms, B, m_grp ms, m_pag ms⟩ : MM) σ0) (by rw [nhS, if_pos c1, if_neg c2]) ?_
      refine A_aload_n (i := 0) dX2_numberHere_33 rfl rfl ?_
      refine M_get 10 (v := .int ((nhS lo hi p).2.2.2.2.2.1)) (Nat.le_of_ble_eq_true rfl) q2239 rfl dX2_numberHere_34 ?_
      refine A_if_le (tgt := 44) dX2_numberHere_37 (by decide) (fun c4 => ?_) (fun c4 => ?_)
      · skip
        refine A_aload_n (i := 0) dX2_numberHere_44 rfl rfl ?_
        refine M_get 16 (v := .int ((nhS lo hi p).2.2.2.2.1)) (Nat.le_of_ble_eq_true rfl) q2245 rfl dX2_numberHere_45 ?_
        exact A_iret dX2_numberHere_48 rfl ⟨by rw [nhV, if_pos c4], rfl⟩
      · skip
        refine A_iload_n (i := 1) dX2_numberHere_40 rfl rfl ?_
        refine A_goto (tgt := 48) dX2_numberHere_41 (by decide) ?_
        exact A_iret dX2_numberHere_48 rfl ⟨by rw [nhV, if_neg c4], rfl⟩
  · skip
    have c1 := bi_eq0.mp c1
    refine A_aload_n (i := 0) dX2_numberHere_8 rfl rfl ?_
    refine A_iconst (v := 1) dX2_numberHere_9 (by decide) ?_
    refine A_callV1E (v := none) (τ := mc b9 (⟨m_thr ms, m_is ms, m_um ms, m_bd ms, (fltS 1 p).2.2.2.2.2.1, (fltS 1 p).2.2.2.2.2.2, m_sz ms, nI (fltS 1 p).2.1, nI (fltS 1 p).2.2.1, (fltS 1 p).2.2.2.1, (fltS 1 p).2.2.2.2.1, m_ps ms, (fltS 1 p).1, m_asd ms, m_und ms, m_sav ms, m_isv ms, B, m_grp ms, m_pag ms⟩ : MM) σ0) (c_faults b9 (⟨m_thr ms, m_is ms, m_um ms, m_bd ms, p.2.2.2.2.2.1, p.2.2.2.2.2.2, m_sz ms, nI p.2.1, nI p.2.2.1, p.2.2.2.1, p.2.2.2.2.1, m_ps ms, p.1, m_asd ms, m_und ms, m_sav ms, m_isv ms, B, m_grp ms, m_pag ms⟩ : MM) σ0 p B 1) tX2_faults q2360 (mc_0 _ _ _) rfl rfl dX2_numberHere_10 (by decide) (Nat.le_of_eq (Nat.zero_add _)) (Nat.le_of_ble_eq_true rfl) ?_
    refine A_goto (tgt := 33) dX2_numberHere_13 (by decide) ?_
    refine A_st (σ' := mc b9 (⟨m_thr ms, m_is ms, m_um ms, m_bd ms, (nhS lo hi p).2.2.2.2.2.1, (nhS lo hi p).2.2.2.2.2.2, m_sz ms, nI (nhS lo hi p).2.1, nI (nhS lo hi p).2.2.1, (nhS lo hi p).2.2.2.1, (nhS lo hi p).2.2.2.2.1, m_ps ms, (nhS lo hi p).1, m_asd ms, m_und ms, m_sav ms, m_isv ms, B, m_grp ms, m_pag ms⟩ : MM) σ0) (by rw [nhS, if_neg c1]) ?_
    refine A_aload_n (i := 0) dX2_numberHere_33 rfl rfl ?_
    refine M_get 10 (v := .int ((nhS lo hi p).2.2.2.2.2.1)) (Nat.le_of_ble_eq_true rfl) q2239 rfl dX2_numberHere_34 ?_
    refine A_if_le (tgt := 44) dX2_numberHere_37 (by decide) (fun c5 => ?_) (fun c5 => ?_)
    · skip
      refine A_aload_n (i := 0) dX2_numberHere_44 rfl rfl ?_
      refine M_get 16 (v := .int ((nhS lo hi p).2.2.2.2.1)) (Nat.le_of_ble_eq_true rfl) q2245 rfl dX2_numberHere_45 ?_
      exact A_iret dX2_numberHere_48 rfl ⟨by rw [nhV, if_pos c5], rfl⟩
    · skip
      refine A_iload_n (i := 1) dX2_numberHere_40 rfl rfl ?_
      refine A_goto (tgt := 48) dX2_numberHere_41 (by decide) ?_
      exact A_iret dX2_numberHere_48 rfl ⟨by rw [nhV, if_neg c5], rfl⟩
theorem c_number {l : Launch} {g : GC} (b9 : Nat) (ms : MM) (σ0 : AH) (n : Nat) (p : PT) (B : AF) (lo : Int32) (hi : Int32) (h1 : pOK n p) (h2 : n ≤ 500) : AMet l g mX2_number 4 0 [.ref b9, .int lo, .int hi] (mc b9 (⟨m_thr ms, m_is ms, m_um ms, m_bd ms, p.2.2.2.2.2.1, p.2.2.2.2.2.2, nI n, nI p.2.1, nI p.2.2.1, p.2.2.2.1, p.2.2.2.2.1, m_ps ms, p.1, m_asd ms, m_und ms, m_sav ms, m_isv ms, B, m_grp ms, m_pag ms⟩ : MM) σ0) (A_eq (some (.int (nhV lo hi p))) (mc b9 (⟨m_thr ms, m_is ms, m_um ms, m_bd ms, (nuS B n lo hi p).2.2.2.2.2.1, (nuS B n lo hi p).2.2.2.2.2.2, nI n, nI (nuS B n lo hi p).2.1, nI (nuS B n lo hi p).2.2.1, (nuS B n lo hi p).2.2.2.1, (nuS B n lo hi p).2.2.2.2.1, m_ps ms, (nuS B n lo hi p).1, m_asd ms, m_und ms, m_sav ms, m_isv ms, B, m_grp ms, m_pag ms⟩ : MM) σ0)) A_no := by
  refine A_of rfl (by decide) (Nat.le_of_ble_eq_true rfl) (L0 := [(0, .ref b9), (1, .int lo), (2, .int hi)]) rfl ?_
  refine A_aload_n (i := 0) dX2_number_0 rfl rfl ?_
  refine A_iload_n (i := 1) dX2_number_1 rfl rfl ?_
  refine A_iload_n (i := 2) dX2_number_2 rfl rfl ?_
  refine A_callV2E (v := some (.int (nhV lo hi p))) (τ := mc b9 (⟨m_thr ms, m_is ms, m_um ms, m_bd ms, (nhS lo hi p).2.2.2.2.2.1, (nhS lo hi p).2.2.2.2.2.2, nI n, nI (nhS lo hi p).2.1, nI (nhS lo hi p).2.2.1, (nhS lo hi p).2.2.2.1, (nhS lo hi p).2.2.2.2.1, m_ps ms, (nhS lo hi p).1, m_asd ms, m_und ms, m_sav ms, m_isv ms, B, m_grp ms, m_pag ms⟩ : MM) σ0) (c_numberHere b9 (⟨m_thr ms, m_is ms, m_um ms, m_bd ms, p.2.2.2.2.2.1, p.2.2.2.2.2.2, nI n, nI p.2.1, nI p.2.2.1, p.2.2.2.1, p.2.2.2.2.1, m_ps ms, p.1, m_asd ms, m_und ms, m_sav ms, m_isv ms, B, m_grp ms, m_pag ms⟩ : MM) σ0 p B lo hi) tX2_numberHere q2368 (mc_0 _ _ _) rfl rfl dX2_number_3 (by decide) (Nat.le_of_eq (Nat.zero_add _)) (Nat.le_of_ble_eq_true rfl) ?_
  refine A_istore_n (i := 3) dX2_number_6 rfl (Nat.le_of_ble_eq_true rfl) ?_
  refine A_aload_n (i := 0) dX2_number_7 rfl rfl ?_
  refine A_callV0E (v := none) (τ := mc b9 (⟨m_thr ms, m_is ms, m_um ms, m_bd ms, (goesS B n (nhS lo hi p)).2.2.2.2.2.1, (goesS B n (nhS lo hi p)).2.2.2.2.2.2, nI n, nI (goesS B n (nhS lo hi p)).2.1, nI (goesS B n (nhS lo hi p)).2.2.1, (goesS B n (nhS lo hi p)).2.2.2.1, (goesS B n (nhS lo hi p)).2.2.2.2.1, m_ps ms, (goesS B n (nhS lo hi p)).1, m_asd ms, m_und ms, m_sav ms, m_isv ms, B, m_grp ms, m_pag ms⟩ : MM) σ0) (c_goes b9 (⟨m_thr ms, m_is ms, m_um ms, m_bd ms, (nhS lo hi p).2.2.2.2.2.1, (nhS lo hi p).2.2.2.2.2.2, nI n, nI (nhS lo hi p).2.1, nI (nhS lo hi p).2.2.1, (nhS lo hi p).2.2.2.1, (nhS lo hi p).2.2.2.2.1, m_ps ms, (nhS lo hi p).1, m_asd ms, m_und ms, m_sav ms, m_isv ms, B, m_grp ms, m_pag ms⟩ : MM) σ0 n (nhS lo hi p) B ((nh_ok h1).1) (h2)) tX2_goes q2337 (mc_0 _ _ _) rfl rfl dX2_number_8 (by decide) (Nat.le_of_eq (Nat.zero_add _)) (Nat.le_of_ble_eq_true rfl) ?_
  refine A_iload_n (i := 3) dX2_number_11 rfl rfl ?_
  exact A_iret dX2_number_12 rfl ⟨rfl, by rw [nuS]⟩
theorem c_begins {l : Launch} {g : GC} (b9 : Nat) (ms : MM) (σ0 : AH) (n : Nat) (p : PT) (B : AF) (k : Nat) (m : Int32) (h1 : pOK n p) (h2 : n ≤ 500) (h3 : k < 173) : AMet l g mX2_begins 4 0 [.ref b9, .int (nI k), .int m] (mc b9 (⟨m_thr ms, m_is ms, m_um ms, m_bd ms, p.2.2.2.2.2.1, p.2.2.2.2.2.2, nI n, nI p.2.1, nI p.2.2.1, p.2.2.2.1, p.2.2.2.2.1, m_ps ms, p.1, m_asd ms, m_und ms, m_sav ms, m_isv ms, B, m_grp ms, m_pag ms⟩ : MM) σ0) (A_eq (none) (mc b9 (⟨m_thr ms, m_is ms, m_um ms, m_bd ms, (bgS B n k m p).2.2.2.2.2.1, (bgS B n k m p).2.2.2.2.2.2, nI n, nI (bgS B n k m p).2.1, nI (bgS B n k m p).2.2.1, (bgS B n k m p).2.2.2.1, (bgS B n k m p).2.2.2.2.1, m_ps ms, (bgS B n k m p).1, m_asd ms, m_und ms, m_sav ms, m_isv ms, B, m_grp ms, m_pag ms⟩ : MM) σ0)) A_no := by
  refine A_of rfl (by decide) (Nat.le_of_ble_eq_true rfl) (L0 := [(0, .ref b9), (1, .int (nI k)), (2, .int m)]) rfl ?_
  refine A_aload_n (i := 0) dX2_begins_0 rfl rfl ?_
  refine M_get 1 (v := .ref (b9 + 1)) (Nat.le_of_ble_eq_true rfl) q2230 rfl dX2_begins_1 ?_
  refine A_iload_n (i := 1) dX2_begins_4 rfl rfl ?_
  refine M_ald1 (n := k) (v := p.1 k) (rfl) (by omega) (rfl) dX2_begins_5 ?_
  refine A_iload_n (i := 2) dX2_begins_6 rfl rfl ?_
  refine A_icmp_ne (tgt := 15) dX2_begins_7 (by decide) (fun c1 => ?_) (fun c1 => ?_)
  · skip
    refine A_aload_n (i := 0) dX2_begins_15 rfl rfl ?_
    refine A_callV0E (v := none) (τ := mc b9 (⟨m_thr ms, m_is ms, m_um ms, m_bd ms, (goesS B n p).2.2.2.2.2.1, (goesS B n p).2.2.2.2.2.2, nI n, nI (goesS B n p).2.1, nI (goesS B n p).2.2.1, (goesS B n p).2.2.2.1, (goesS B n p).2.2.2.2.1, m_ps ms, (goesS B n p).1, m_asd ms, m_und ms, m_sav ms, m_isv ms, B, m_grp ms, m_pag ms⟩ : MM) σ0) (c_goes b9 (⟨m_thr ms, m_is ms, m_um ms, m_bd ms, p.2.2.2.2.2.1, p.2.2.2.2.2.2, nI n, nI p.2.1, nI p.2.2.1, p.2.2.2.1, p.2.2.2.2.1, m_ps ms, p.1, m_asd ms, m_und ms, m_sav ms, m_isv ms, B, m_grp ms, m_pag ms⟩ : MM) σ0 n p B (h1.1) (h2)) tX2_goes q2337 (mc_0 _ _ _) rfl rfl dX2_begins_16 (by decide) (Nat.le_of_eq (Nat.zero_add _)) (Nat.le_of_ble_eq_true rfl) ?_
    exact A_vret dX2_begins_19 rfl ⟨rfl, by rw [bgS, if_neg c1]⟩
  · skip
    refine A_aload_n (i := 0) dX2_begins_10 rfl rfl ?_
    refine A_iconst (v := 4) dX2_begins_11 (by decide) ?_
    refine A_callV1E (v := none) (τ := mc b9 (⟨m_thr ms, m_is ms, m_um ms, m_bd ms, (fltS 4 p).2.2.2.2.2.1, (fltS 4 p).2.2.2.2.2.2, nI n, nI (fltS 4 p).2.1, nI (fltS 4 p).2.2.1, (fltS 4 p).2.2.2.1, (fltS 4 p).2.2.2.2.1, m_ps ms, (fltS 4 p).1, m_asd ms, m_und ms, m_sav ms, m_isv ms, B, m_grp ms, m_pag ms⟩ : MM) σ0) (c_faults b9 (⟨m_thr ms, m_is ms, m_um ms, m_bd ms, p.2.2.2.2.2.1, p.2.2.2.2.2.2, nI n, nI p.2.1, nI p.2.2.1, p.2.2.2.1, p.2.2.2.2.1, m_ps ms, p.1, m_asd ms, m_und ms, m_sav ms, m_isv ms, B, m_grp ms, m_pag ms⟩ : MM) σ0 p B 4) tX2_faults q2360 (mc_0 _ _ _) rfl rfl dX2_begins_12 (by decide) (Nat.le_of_eq (Nat.zero_add _)) (Nat.le_of_ble_eq_true rfl) ?_
    refine A_aload_n (i := 0) dX2_begins_15 rfl rfl ?_
    refine A_callV0E (v := none) (τ := mc b9 (⟨m_thr ms, m_is ms, m_um ms, m_bd ms, (goesS B n (fltS 4 p)).2.2.2.2.2.1, (goesS B n (fltS 4 p)).2.2.2.2.2.2, nI n, nI (goesS B n (fltS 4 p)).2.1, nI (goesS B n (fltS 4 p)).2.2.1, (goesS B n (fltS 4 p)).2.2.2.1, (goesS B n (fltS 4 p)).2.2.2.2.1, m_ps ms, (goesS B n (fltS 4 p)).1, m_asd ms, m_und ms, m_sav ms, m_isv ms, B, m_grp ms, m_pag ms⟩ : MM) σ0) (c_goes b9 (⟨m_thr ms, m_is ms, m_um ms, m_bd ms, (fltS 4 p).2.2.2.2.2.1, (fltS 4 p).2.2.2.2.2.2, nI n, nI (fltS 4 p).2.1, nI (fltS 4 p).2.2.1, (fltS 4 p).2.2.2.1, (fltS 4 p).2.2.2.2.1, m_ps ms, (fltS 4 p).1, m_asd ms, m_und ms, m_sav ms, m_isv ms, B, m_grp ms, m_pag ms⟩ : MM) σ0 n (fltS 4 p) B ((flt_ok (by decide) h1).1) (h2)) tX2_goes q2337 (mc_0 _ _ _) rfl rfl dX2_begins_16 (by decide) (Nat.le_of_eq (Nat.zero_add _)) (Nat.le_of_ble_eq_true rfl) ?_
    exact A_vret dX2_begins_19 rfl ⟨rfl, by rw [bgS, if_pos c1]⟩
theorem c_readsColour {l : Launch} {g : GC} (b9 : Nat) (ms : MM) (σ0 : AH) (n : Nat) (p : PT) (B : AF) (h1 : pOK n p) (h2 : n ≤ 500) : AMet l g mX2_readsColour 5 0 [.ref b9] (mc b9 (⟨m_thr ms, m_is ms, m_um ms, m_bd ms, p.2.2.2.2.2.1, p.2.2.2.2.2.2, nI n, nI p.2.1, nI p.2.2.1, p.2.2.2.1, p.2.2.2.2.1, m_ps ms, p.1, m_asd ms, m_und ms, m_sav ms, m_isv ms, B, m_grp ms, m_pag ms⟩ : MM) σ0) (A_eq (none) (mc b9 (⟨m_thr ms, m_is ms, m_um ms, m_bd ms, (coS B n p).2.2.2.2.2.1, (coS B n p).2.2.2.2.2.2, nI n, nI (coS B n p).2.1, nI (coS B n p).2.2.1, (coS B n p).2.2.2.1, (coS B n p).2.2.2.2.1, m_ps ms, (coS B n p).1, m_asd ms, m_und ms, m_sav ms, m_isv ms, B, m_grp ms, m_pag ms⟩ : MM) σ0)) A_no := by
  refine A_of rfl (by decide) (Nat.le_of_ble_eq_true rfl) (L0 := [(0, .ref b9)]) rfl ?_
  refine A_aload_n (i := 0) dX2_readsColour_0 rfl rfl ?_
  refine A_bipush (v := 6) dX2_readsColour_1 (by decide) ?_
  refine A_bipush (v := 6) dX2_readsColour_3 (by decide) ?_
  refine A_callV2E (v := none) (τ := mc b9 (⟨m_thr ms, m_is ms, m_um ms, m_bd ms, (bgS B n 6 6 p).2.2.2.2.2.1, (bgS B n 6 6 p).2.2.2.2.2.2, nI n, nI (bgS B n 6 6 p).2.1, nI (bgS B n 6 6 p).2.2.1, (bgS B n 6 6 p).2.2.2.1, (bgS B n 6 6 p).2.2.2.2.1, m_ps ms, (bgS B n 6 6 p).1, m_asd ms, m_und ms, m_sav ms, m_isv ms, B, m_grp ms, m_pag ms⟩ : MM) σ0) (c_begins b9 (⟨m_thr ms, m_is ms, m_um ms, m_bd ms, p.2.2.2.2.2.1, p.2.2.2.2.2.2, nI n, nI p.2.1, nI p.2.2.1, p.2.2.2.1, p.2.2.2.2.1, m_ps ms, p.1, m_asd ms, m_und ms, m_sav ms, m_isv ms, B, m_grp ms, m_pag ms⟩ : MM) σ0 n p B 6 6 (h1) (h2) (by decide)) tX2_begins q2381 (mc_0 _ _ _) rfl rfl dX2_readsColour_5 (by decide) (Nat.le_of_eq (Nat.zero_add _)) (Nat.le_of_ble_eq_true rfl) ?_
  obtain ⟨p1, e_p1⟩ : ∃ q, q = bgS B n 6 6 p := ⟨_, rfl⟩
  have k_p1 : pOK n p1 := by rw [e_p1]; exact (bg_ok h1)
  rw [← e_p1]
  refine A_aload_n (i := 0) dX2_readsColour_8 rfl rfl ?_
  refine A_iconst (v := 0) dX2_readsColour_9 (by decide) ?_
  refine A_iconst (v := 4) dX2_readsColour_10 (by decide) ?_
  refine A_callV2E (v := some (.int (nhV 0 4 p1))) (τ := mc b9 (⟨m_thr ms, m_is ms, m_um ms, m_bd ms, (nuS B n 0 4 p1).2.2.2.2.2.1, (nuS B n 0 4 p1).2.2.2.2.2.2, nI n, nI (nuS B n 0 4 p1).2.1, nI (nuS B n 0 4 p1).2.2.1, (nuS B n 0 4 p1).2.2.2.1, (nuS B n 0 4 p1).2.2.2.2.1, m_ps ms, (nuS B n 0 4 p1).1, m_asd ms, m_und ms, m_sav ms, m_isv ms, B, m_grp ms, m_pag ms⟩ : MM) σ0) (c_number b9 (⟨m_thr ms, m_is ms, m_um ms, m_bd ms, p1.2.2.2.2.2.1, p1.2.2.2.2.2.2, nI n, nI p1.2.1, nI p1.2.2.1, p1.2.2.2.1, p1.2.2.2.2.1, m_ps ms, p1.1, m_asd ms, m_und ms, m_sav ms, m_isv ms, B, m_grp ms, m_pag ms⟩ : MM) σ0 n p1 B 0 4 (k_p1) (h2)) tX2_number q2364 (mc_0 _ _ _) rfl rfl dX2_readsColour_11 (by decide) (Nat.le_of_eq (Nat.zero_add _)) (Nat.le_of_ble_eq_true rfl) ?_
  obtain ⟨p2, e_p2⟩ : ∃ q, q = nuS B n 0 4 p1 := ⟨_, rfl⟩
  have k_p2 : pOK n p2 := by rw [e_p2]; exact (nu_ok k_p1)
  rw [← e_p2]
  refine A_istore_n (i := 1) dX2_readsColour_14 rfl (Nat.le_of_ble_eq_true rfl) ?_
  refine A_aload_n (i := 0) dX2_readsColour_15 rfl rfl ?_
  refine M_get 10 (v := .int p2.2.2.2.2.2.1) (Nat.le_of_ble_eq_true rfl) q2239 rfl dX2_readsColour_16 ?_
  refine A_if_le (tgt := 23) dX2_readsColour_19 (by decide) (fun c1 => ?_) (fun c1 => ?_)
  · skip
    have hw := k_p2.2.2.2
    have hcn := hw.1.2
    refine A_aload_n (i := 0) dX2_readsColour_23 rfl rfl ?_
    refine M_get 1 (v := .ref (b9 + 1)) (Nat.le_of_ble_eq_true rfl) q2230 rfl dX2_readsColour_24 ?_
    refine A_bipush (v := 12) dX2_readsColour_27 (by decide) ?_
    refine A_aload_n (i := 0) dX2_readsColour_29 rfl rfl ?_
    refine M_get 1 (v := .ref (b9 + 1)) (Nat.le_of_ble_eq_true rfl) q2230 rfl dX2_readsColour_30 ?_
    refine A_bipush (v := 6) dX2_readsColour_33 (by decide) ?_
    refine M_ald1 (n := 6) (v := nI (nC p2.1)) (rfl) (by decide) (hw.1.1) dX2_readsColour_35 ?_
    refine A_iadd dX2_readsColour_36 ?_
    refine A_int (w := nI (12 + (nC p2.1))) (nI_add 12 (nC p2.1)) ?_
    refine A_iload_n (i := 1) dX2_readsColour_37 rfl rfl ?_
    refine M_astT1 (n := 12 + (nC p2.1)) (na := va_up p2.1 (12 + (nC p2.1)) (nhV 0 4 p1)) (rfl) (by omega) (rfl) dX2_readsColour_38 ?_
    refine A_aload_n (i := 0) dX2_readsColour_39 rfl rfl ?_
    refine M_get 1 (v := .ref (b9 + 1)) (Nat.le_of_ble_eq_true rfl) q2230 rfl dX2_readsColour_40 ?_
    refine A_bipush (v := 6) dX2_readsColour_43 (by decide) ?_
    refine A_dup2 dX2_readsColour_45 rfl rfl ?_
    refine M_ald1 (n := 6) (v := (va_up p2.1 (12 + (nC p2.1)) (nhV 0 4 p1)) 6) (rfl) (by decide) (rfl) dX2_readsColour_46 ?_
    refine A_iconst (v := 1) dX2_readsColour_47 (by decide) ?_
    refine A_iadd dX2_readsColour_48 ?_
    refine M_astT1 (n := 6) (na := coN p2.1 (nhV 0 4 p1)) (rfl) (by decide) (rfl) dX2_readsColour_49 ?_
    exact A_vret dX2_readsColour_50 rfl ⟨rfl, by rw [coS, ← e_p1, ← e_p2, okS, if_pos c1] <;> rfl⟩
  · skip
    exact A_vret dX2_readsColour_22 rfl ⟨rfl, by rw [coS, ← e_p1, ← e_p2, okS, if_neg c1]⟩
theorem c_readsTub {l : Launch} {g : GC} (b9 : Nat) (ms : MM) (σ0 : AH) (n : Nat) (p : PT) (B : AF) (h1 : pOK n p) (h2 : n ≤ 500) : AMet l g mX2_readsTub 5 0 [.ref b9] (mc b9 (⟨m_thr ms, m_is ms, m_um ms, m_bd ms, p.2.2.2.2.2.1, p.2.2.2.2.2.2, nI n, nI p.2.1, nI p.2.2.1, p.2.2.2.1, p.2.2.2.2.1, m_ps ms, p.1, m_asd ms, m_und ms, m_sav ms, m_isv ms, B, m_grp ms, m_pag ms⟩ : MM) σ0) (A_eq (none) (mc b9 (⟨m_thr ms, m_is ms, m_um ms, m_bd ms, (tuS B n p).2.2.2.2.2.1, (tuS B n p).2.2.2.2.2.2, nI n, nI (tuS B n p).2.1, nI (tuS B n p).2.2.1, (tuS B n p).2.2.2.1, (tuS B n p).2.2.2.2.1, m_ps ms, (tuS B n p).1, m_asd ms, m_und ms, m_sav ms, m_isv ms, B, m_grp ms, m_pag ms⟩ : MM) σ0)) A_no := by
  refine A_of rfl (by decide) (Nat.le_of_ble_eq_true rfl) (L0 := [(0, .ref b9)]) rfl ?_
  refine A_aload_n (i := 0) dX2_readsTub_0 rfl rfl ?_
  refine A_bipush (v := 8) dX2_readsTub_1 (by decide) ?_
  refine A_iconst (v := 3) dX2_readsTub_3 (by decide) ?_
  refine A_callV2E (v := none) (τ := mc b9 (⟨m_thr ms, m_is ms, m_um ms, m_bd ms, (bgS B n 8 3 p).2.2.2.2.2.1, (bgS B n 8 3 p).2.2.2.2.2.2, nI n, nI (bgS B n 8 3 p).2.1, nI (bgS B n 8 3 p).2.2.1, (bgS B n 8 3 p).2.2.2.1, (bgS B n 8 3 p).2.2.2.2.1, m_ps ms, (bgS B n 8 3 p).1, m_asd ms, m_und ms, m_sav ms, m_isv ms, B, m_grp ms, m_pag ms⟩ : MM) σ0) (c_begins b9 (⟨m_thr ms, m_is ms, m_um ms, m_bd ms, p.2.2.2.2.2.1, p.2.2.2.2.2.2, nI n, nI p.2.1, nI p.2.2.1, p.2.2.2.1, p.2.2.2.2.1, m_ps ms, p.1, m_asd ms, m_und ms, m_sav ms, m_isv ms, B, m_grp ms, m_pag ms⟩ : MM) σ0 n p B 8 3 (h1) (h2) (by decide)) tX2_begins q2381 (mc_0 _ _ _) rfl rfl dX2_readsTub_4 (by decide) (Nat.le_of_eq (Nat.zero_add _)) (Nat.le_of_ble_eq_true rfl) ?_
  obtain ⟨p1, e_p1⟩ : ∃ q, q = bgS B n 8 3 p := ⟨_, rfl⟩
  have k_p1 : pOK n p1 := by rw [e_p1]; exact (bg_ok h1)
  rw [← e_p1]
  refine A_aload_n (i := 0) dX2_readsTub_7 rfl rfl ?_
  refine A_iconst (v := 1) dX2_readsTub_8 (by decide) ?_
  refine A_bipush (v := 6) dX2_readsTub_9 (by decide) ?_
  refine A_callV2E (v := some (.int (nhV 1 6 p1))) (τ := mc b9 (⟨m_thr ms, m_is ms, m_um ms, m_bd ms, (nuS B n 1 6 p1).2.2.2.2.2.1, (nuS B n 1 6 p1).2.2.2.2.2.2, nI n, nI (nuS B n 1 6 p1).2.1, nI (nuS B n 1 6 p1).2.2.1, (nuS B n 1 6 p1).2.2.2.1, (nuS B n 1 6 p1).2.2.2.2.1, m_ps ms, (nuS B n 1 6 p1).1, m_asd ms, m_und ms, m_sav ms, m_isv ms, B, m_grp ms, m_pag ms⟩ : MM) σ0) (c_number b9 (⟨m_thr ms, m_is ms, m_um ms, m_bd ms, p1.2.2.2.2.2.1, p1.2.2.2.2.2.2, nI n, nI p1.2.1, nI p1.2.2.1, p1.2.2.2.1, p1.2.2.2.2.1, m_ps ms, p1.1, m_asd ms, m_und ms, m_sav ms, m_isv ms, B, m_grp ms, m_pag ms⟩ : MM) σ0 n p1 B 1 6 (k_p1) (h2)) tX2_number q2364 (mc_0 _ _ _) rfl rfl dX2_readsTub_11 (by decide) (Nat.le_of_eq (Nat.zero_add _)) (Nat.le_of_ble_eq_true rfl) ?_
  obtain ⟨p2, e_p2⟩ : ∃ q, q = nuS B n 1 6 p1 := ⟨_, rfl⟩
  have k_p2 : pOK n p2 := by rw [e_p2]; exact (nu_ok k_p1)
  rw [← e_p2]
  refine A_istore_n (i := 1) dX2_readsTub_14 rfl (Nat.le_of_ble_eq_true rfl) ?_
  refine A_aload_n (i := 0) dX2_readsTub_15 rfl rfl ?_
  refine M_get 10 (v := .int p2.2.2.2.2.2.1) (Nat.le_of_ble_eq_true rfl) q2239 rfl dX2_readsTub_16 ?_
  refine A_if_le (tgt := 23) dX2_readsTub_19 (by decide) (fun c1 => ?_) (fun c1 => ?_)
  · skip
    have hw := k_p2.2.2.2
    have hcn := hw.2.2.1.2
    refine A_aload_n (i := 0) dX2_readsTub_23 rfl rfl ?_
    refine M_get 1 (v := .ref (b9 + 1)) (Nat.le_of_ble_eq_true rfl) q2230 rfl dX2_readsTub_24 ?_
    refine A_bipush (v := 38) dX2_readsTub_27 (by decide) ?_
    refine A_aload_n (i := 0) dX2_readsTub_29 rfl rfl ?_
    refine M_get 1 (v := .ref (b9 + 1)) (Nat.le_of_ble_eq_true rfl) q2230 rfl dX2_readsTub_30 ?_
    refine A_bipush (v := 8) dX2_readsTub_33 (by decide) ?_
    refine M_ald1 (n := 8) (v := nI (nT p2.1)) (rfl) (by decide) (hw.2.2.1.1) dX2_readsTub_35 ?_
    refine A_iadd dX2_readsTub_36 ?_
    refine A_int (w := nI (38 + (nT p2.1))) (nI_add 38 (nT p2.1)) ?_
    refine A_iload_n (i := 1) dX2_readsTub_37 rfl rfl ?_
    refine M_astT1 (n := 38 + (nT p2.1)) (na := va_up p2.1 (38 + (nT p2.1)) (nhV 1 6 p1)) (rfl) (by omega) (rfl) dX2_readsTub_38 ?_
    refine A_aload_n (i := 0) dX2_readsTub_39 rfl rfl ?_
    refine M_get 1 (v := .ref (b9 + 1)) (Nat.le_of_ble_eq_true rfl) q2230 rfl dX2_readsTub_40 ?_
    refine A_bipush (v := 8) dX2_readsTub_43 (by decide) ?_
    refine A_dup2 dX2_readsTub_45 rfl rfl ?_
    refine M_ald1 (n := 8) (v := (va_up p2.1 (38 + (nT p2.1)) (nhV 1 6 p1)) 8) (rfl) (by decide) (rfl) dX2_readsTub_46 ?_
    refine A_iconst (v := 1) dX2_readsTub_47 (by decide) ?_
    refine A_iadd dX2_readsTub_48 ?_
    refine M_astT1 (n := 8) (na := tuN p2.1 (nhV 1 6 p1)) (rfl) (by decide) (rfl) dX2_readsTub_49 ?_
    exact A_vret dX2_readsTub_50 rfl ⟨rfl, by rw [tuS, ← e_p1, ← e_p2, okS, if_pos c1] <;> rfl⟩
  · skip
    exact A_vret dX2_readsTub_22 rfl ⟨rfl, by rw [tuS, ← e_p1, ← e_p2, okS, if_neg c1]⟩
theorem c_readsNation {l : Launch} {g : GC} (b9 : Nat) (ms : MM) (σ0 : AH) (n : Nat) (p : PT) (B : AF) (h1 : pOK n p) (h2 : n ≤ 500) : AMet l g mX2_readsNation 5 0 [.ref b9] (mc b9 (⟨m_thr ms, m_is ms, m_um ms, m_bd ms, p.2.2.2.2.2.1, p.2.2.2.2.2.2, nI n, nI p.2.1, nI p.2.2.1, p.2.2.2.1, p.2.2.2.2.1, m_ps ms, p.1, m_asd ms, m_und ms, m_sav ms, m_isv ms, B, m_grp ms, m_pag ms⟩ : MM) σ0) (A_eq (none) (mc b9 (⟨m_thr ms, m_is ms, m_um ms, m_bd ms, (naS B n p).2.2.2.2.2.1, (naS B n p).2.2.2.2.2.2, nI n, nI (naS B n p).2.1, nI (naS B n p).2.2.1, (naS B n p).2.2.2.1, (naS B n p).2.2.2.2.1, m_ps ms, (naS B n p).1, m_asd ms, m_und ms, m_sav ms, m_isv ms, B, m_grp ms, m_pag ms⟩ : MM) σ0)) A_no := by
  refine A_of rfl (by decide) (Nat.le_of_ble_eq_true rfl) (L0 := [(0, .ref b9)]) rfl ?_
  refine A_aload_n (i := 0) dX2_readsNation_0 rfl rfl ?_
  refine A_bipush (v := 7) dX2_readsNation_1 (by decide) ?_
  refine A_iconst (v := 4) dX2_readsNation_3 (by decide) ?_
  refine A_callV2E (v := none) (τ := mc b9 (⟨m_thr ms, m_is ms, m_um ms, m_bd ms, (bgS B n 7 4 p).2.2.2.2.2.1, (bgS B n 7 4 p).2.2.2.2.2.2, nI n, nI (bgS B n 7 4 p).2.1, nI (bgS B n 7 4 p).2.2.1, (bgS B n 7 4 p).2.2.2.1, (bgS B n 7 4 p).2.2.2.2.1, m_ps ms, (bgS B n 7 4 p).1, m_asd ms, m_und ms, m_sav ms, m_isv ms, B, m_grp ms, m_pag ms⟩ : MM) σ0) (c_begins b9 (⟨m_thr ms, m_is ms, m_um ms, m_bd ms, p.2.2.2.2.2.1, p.2.2.2.2.2.2, nI n, nI p.2.1, nI p.2.2.1, p.2.2.2.1, p.2.2.2.2.1, m_ps ms, p.1, m_asd ms, m_und ms, m_sav ms, m_isv ms, B, m_grp ms, m_pag ms⟩ : MM) σ0 n p B 7 4 (h1) (h2) (by decide)) tX2_begins q2381 (mc_0 _ _ _) rfl rfl dX2_readsNation_4 (by decide) (Nat.le_of_eq (Nat.zero_add _)) (Nat.le_of_ble_eq_true rfl) ?_
  obtain ⟨p1, e_p1⟩ : ∃ q, q = bgS B n 7 4 p := ⟨_, rfl⟩
  have k_p1 : pOK n p1 := by rw [e_p1]; exact (bg_ok h1)
  rw [← e_p1]
  refine A_aload_n (i := 0) dX2_readsNation_7 rfl rfl ?_
  refine A_iconst (v := 0) dX2_readsNation_8 (by decide) ?_
  refine A_bipush (v := 99) dX2_readsNation_9 (by decide) ?_
  refine A_callV2E (v := some (.int (nhV 0 99 p1))) (τ := mc b9 (⟨m_thr ms, m_is ms, m_um ms, m_bd ms, (nuS B n 0 99 p1).2.2.2.2.2.1, (nuS B n 0 99 p1).2.2.2.2.2.2, nI n, nI (nuS B n 0 99 p1).2.1, nI (nuS B n 0 99 p1).2.2.1, (nuS B n 0 99 p1).2.2.2.1, (nuS B n 0 99 p1).2.2.2.2.1, m_ps ms, (nuS B n 0 99 p1).1, m_asd ms, m_und ms, m_sav ms, m_isv ms, B, m_grp ms, m_pag ms⟩ : MM) σ0) (c_number b9 (⟨m_thr ms, m_is ms, m_um ms, m_bd ms, p1.2.2.2.2.2.1, p1.2.2.2.2.2.2, nI n, nI p1.2.1, nI p1.2.2.1, p1.2.2.2.1, p1.2.2.2.2.1, m_ps ms, p1.1, m_asd ms, m_und ms, m_sav ms, m_isv ms, B, m_grp ms, m_pag ms⟩ : MM) σ0 n p1 B 0 99 (k_p1) (h2)) tX2_number q2364 (mc_0 _ _ _) rfl rfl dX2_readsNation_11 (by decide) (Nat.le_of_eq (Nat.zero_add _)) (Nat.le_of_ble_eq_true rfl) ?_
  obtain ⟨p2, e_p2⟩ : ∃ q, q = nuS B n 0 99 p1 := ⟨_, rfl⟩
  have k_p2 : pOK n p2 := by rw [e_p2]; exact (nu_ok k_p1)
  rw [← e_p2]
  refine A_istore_n (i := 1) dX2_readsNation_14 rfl (Nat.le_of_ble_eq_true rfl) ?_
  refine A_aload_n (i := 0) dX2_readsNation_15 rfl rfl ?_
  refine A_iconst (v := 1) dX2_readsNation_16 (by decide) ?_
  refine A_bipush (v := 99) dX2_readsNation_17 (by decide) ?_
  refine A_callV2E (v := some (.int (nhV 1 99 p2))) (τ := mc b9 (⟨m_thr ms, m_is ms, m_um ms, m_bd ms, (nuS B n 1 99 p2).2.2.2.2.2.1, (nuS B n 1 99 p2).2.2.2.2.2.2, nI n, nI (nuS B n 1 99 p2).2.1, nI (nuS B n 1 99 p2).2.2.1, (nuS B n 1 99 p2).2.2.2.1, (nuS B n 1 99 p2).2.2.2.2.1, m_ps ms, (nuS B n 1 99 p2).1, m_asd ms, m_und ms, m_sav ms, m_isv ms, B, m_grp ms, m_pag ms⟩ : MM) σ0) (c_number b9 (⟨m_thr ms, m_is ms, m_um ms, m_bd ms, p2.2.2.2.2.2.1, p2.2.2.2.2.2.2, nI n, nI p2.2.1, nI p2.2.2.1, p2.2.2.2.1, p2.2.2.2.2.1, m_ps ms, p2.1, m_asd ms, m_und ms, m_sav ms, m_isv ms, B, m_grp ms, m_pag ms⟩ : MM) σ0 n p2 B 1 99 (k_p2) (h2)) tX2_number q2364 (mc_0 _ _ _) rfl rfl dX2_readsNation_19 (by decide) (Nat.le_of_eq (Nat.zero_add _)) (Nat.le_of_ble_eq_true rfl) ?_
  obtain ⟨p3, e_p3⟩ : ∃ q, q = nuS B n 1 99 p2 := ⟨_, rfl⟩
  have k_p3 : pOK n p3 := by rw [e_p3]; exact (nu_ok k_p2)
  rw [← e_p3]
  refine A_istore_n (i := 2) dX2_readsNation_22 rfl (Nat.le_of_ble_eq_true rfl) ?_
  refine A_aload_n (i := 0) dX2_readsNation_23 rfl rfl ?_
  refine A_iconst (v := 0) dX2_readsNation_24 (by decide) ?_
  refine A_bipush (v := 9) dX2_readsNation_25 (by decide) ?_
  refine A_callV2E (v := some (.int (nhV 0 9 p3))) (τ := mc b9 (⟨m_thr ms, m_is ms, m_um ms, m_bd ms, (nuS B n 0 9 p3).2.2.2.2.2.1, (nuS B n 0 9 p3).2.2.2.2.2.2, nI n, nI (nuS B n 0 9 p3).2.1, nI (nuS B n 0 9 p3).2.2.1, (nuS B n 0 9 p3).2.2.2.1, (nuS B n 0 9 p3).2.2.2.2.1, m_ps ms, (nuS B n 0 9 p3).1, m_asd ms, m_und ms, m_sav ms, m_isv ms, B, m_grp ms, m_pag ms⟩ : MM) σ0) (c_number b9 (⟨m_thr ms, m_is ms, m_um ms, m_bd ms, p3.2.2.2.2.2.1, p3.2.2.2.2.2.2, nI n, nI p3.2.1, nI p3.2.2.1, p3.2.2.2.1, p3.2.2.2.2.1, m_ps ms, p3.1, m_asd ms, m_und ms, m_sav ms, m_isv ms, B, m_grp ms, m_pag ms⟩ : MM) σ0 n p3 B 0 9 (k_p3) (h2)) tX2_number q2364 (mc_0 _ _ _) rfl rfl dX2_readsNation_27 (by decide) (Nat.le_of_eq (Nat.zero_add _)) (Nat.le_of_ble_eq_true rfl) ?_
  obtain ⟨p4, e_p4⟩ : ∃ q, q = nuS B n 0 9 p3 := ⟨_, rfl⟩
  have k_p4 : pOK n p4 := by rw [e_p4]; exact (nu_ok k_p3)
  rw [← e_p4]
  refine A_istore_n (i := 3) dX2_readsNation_30 rfl (Nat.le_of_ble_eq_true rfl) ?_
  refine A_aload_n (i := 0) dX2_readsNation_31 rfl rfl ?_
  refine M_get 10 (v := .int p4.2.2.2.2.2.1) (Nat.le_of_ble_eq_true rfl) q2239 rfl dX2_readsNation_32 ?_
  refine A_if_le (tgt := 39) dX2_readsNation_35 (by decide) (fun c1 => ?_) (fun c1 => ?_)
  · skip
    have hw := k_p4.2.2.2
    have hnN := hw.2.1.2
    have e4 : na4 B n p = p4 := by rw [na4, na3, na2, na1, ← e_p1, ← e_p2, ← e_p3, ← e_p4]
    have hn4 : nN p4.1 < 4 := by rw [← e4]; exact na4_lt (by rw [e4]; exact hw) (by rw [e4]; exact c1)
    refine A_aload_n (i := 0) dX2_readsNation_39 rfl rfl ?_
    refine M_get 1 (v := .ref (b9 + 1)) (Nat.le_of_ble_eq_true rfl) q2230 rfl dX2_readsNation_40 ?_
    refine A_bipush (v := 7) dX2_readsNation_43 (by decide) ?_
    refine M_ald1 (n := 7) (v := nI (nN p4.1)) (rfl) (by decide) (hw.2.1.1) dX2_readsNation_45 ?_
    refine A_istore dX2_readsNation_46 (Nat.le_of_ble_eq_true rfl) ?_
    refine A_aload_n (i := 0) dX2_readsNation_48 rfl rfl ?_
    refine A_iload dX2_readsNation_49 rfl ?_
    refine A_iconst (v := 0) dX2_readsNation_51 (by decide) ?_
    refine A_iload_n (i := 1) dX2_readsNation_52 rfl rfl ?_
    refine A_callV3E (v := none) (τ := mc b9 (⟨m_thr ms, m_is ms, m_um ms, m_bd ms, p4.2.2.2.2.2.1, p4.2.2.2.2.2.2, nI n, nI p4.2.1, nI p4.2.2.1, p4.2.2.2.1, p4.2.2.2.2.1, m_ps ms, setNa p4.1 (nN p4.1) 0 (nhV 0 99 p1), m_asd ms, m_und ms, m_sav ms, m_isv ms, B, m_grp ms, m_pag ms⟩ : MM) σ0) (c_putsNation b9 (⟨m_thr ms, m_is ms, m_um ms, m_bd ms, p4.2.2.2.2.2.1, p4.2.2.2.2.2.2, nI n, nI p4.2.1, nI p4.2.2.1, p4.2.2.2.1, p4.2.2.2.2.1, m_ps ms, p4.1, m_asd ms, m_und ms, m_sav ms, m_isv ms, B, m_grp ms, m_pag ms⟩ : MM) σ0 (nN p4.1) 0 (nhV 0 99 p1) (by first | assumption | omega) (by first | assumption | omega)) tX2_putsNation q2390 (mc_0 _ _ _) rfl rfl dX2_readsNation_53 (by decide) (Nat.le_of_eq (Nat.zero_add _)) (Nat.le_of_ble_eq_true rfl) ?_
    refine A_aload_n (i := 0) dX2_readsNation_56 rfl rfl ?_
    refine A_iload dX2_readsNation_57 rfl ?_
    refine A_iconst (v := 1) dX2_readsNation_59 (by decide) ?_
    refine A_iload_n (i := 2) dX2_readsNation_60 rfl rfl ?_
    refine A_callV3E (v := none) (τ := mc b9 (⟨m_thr ms, m_is ms, m_um ms, m_bd ms, p4.2.2.2.2.2.1, p4.2.2.2.2.2.2, nI n, nI p4.2.1, nI p4.2.2.1, p4.2.2.2.1, p4.2.2.2.2.1, m_ps ms, setNa (setNa p4.1 (nN p4.1) 0 (nhV 0 99 p1)) (nN p4.1) 1 (nhV 1 99 p2), m_asd ms, m_und ms, m_sav ms, m_isv ms, B, m_grp ms, m_pag ms⟩ : MM) σ0) (c_putsNation b9 (⟨m_thr ms, m_is ms, m_um ms, m_bd ms, p4.2.2.2.2.2.1, p4.2.2.2.2.2.2, nI n, nI p4.2.1, nI p4.2.2.1, p4.2.2.2.1, p4.2.2.2.2.1, m_ps ms, setNa p4.1 (nN p4.1) 0 (nhV 0 99 p1), m_asd ms, m_und ms, m_sav ms, m_isv ms, B, m_grp ms, m_pag ms⟩ : MM) σ0 (nN p4.1) 1 (nhV 1 99 p2) (by first | assumption | omega) (by first | assumption | omega)) tX2_putsNation q2390 (mc_0 _ _ _) rfl rfl dX2_readsNation_61 (by decide) (Nat.le_of_eq (Nat.zero_add _)) (Nat.le_of_ble_eq_true rfl) ?_
    refine A_aload_n (i := 0) dX2_readsNation_64 rfl rfl ?_
    refine A_iload dX2_readsNation_65 rfl ?_
    refine A_iconst (v := 2) dX2_readsNation_67 (by decide) ?_
    refine A_iload_n (i := 3) dX2_readsNation_68 rfl rfl ?_
    refine A_callV3E (v := none) (τ := mc b9 (⟨m_thr ms, m_is ms, m_um ms, m_bd ms, p4.2.2.2.2.2.1, p4.2.2.2.2.2.2, nI n, nI p4.2.1, nI p4.2.2.1, p4.2.2.2.1, p4.2.2.2.2.1, m_ps ms, setNa (setNa (setNa p4.1 (nN p4.1) 0 (nhV 0 99 p1)) (nN p4.1) 1 (nhV 1 99 p2)) (nN p4.1) 2 (nhV 0 9 p3), m_asd ms, m_und ms, m_sav ms, m_isv ms, B, m_grp ms, m_pag ms⟩ : MM) σ0) (c_putsNation b9 (⟨m_thr ms, m_is ms, m_um ms, m_bd ms, p4.2.2.2.2.2.1, p4.2.2.2.2.2.2, nI n, nI p4.2.1, nI p4.2.2.1, p4.2.2.2.1, p4.2.2.2.2.1, m_ps ms, setNa (setNa p4.1 (nN p4.1) 0 (nhV 0 99 p1)) (nN p4.1) 1 (nhV 1 99 p2), m_asd ms, m_und ms, m_sav ms, m_isv ms, B, m_grp ms, m_pag ms⟩ : MM) σ0 (nN p4.1) 2 (nhV 0 9 p3) (by first | assumption | omega) (by first | assumption | omega)) tX2_putsNation q2390 (mc_0 _ _ _) rfl rfl dX2_readsNation_69 (by decide) (Nat.le_of_eq (Nat.zero_add _)) (Nat.le_of_ble_eq_true rfl) ?_
    refine A_aload_n (i := 0) dX2_readsNation_72 rfl rfl ?_
    refine M_get 1 (v := .ref (b9 + 1)) (Nat.le_of_ble_eq_true rfl) q2230 rfl dX2_readsNation_73 ?_
    refine A_bipush (v := 7) dX2_readsNation_76 (by decide) ?_
    refine A_dup2 dX2_readsNation_78 rfl rfl ?_
    refine M_ald1 (n := 7) (v := (setNa (setNa (setNa p4.1 (nN p4.1) 0 (nhV 0 99 p1)) (nN p4.1) 1 (nhV 1 99 p2)) (nN p4.1) 2 (nhV 0 9 p3)) 7) (rfl) (by decide) (rfl) dX2_readsNation_79 ?_
    refine A_iconst (v := 1) dX2_readsNation_80 (by decide) ?_
    refine A_iadd dX2_readsNation_81 ?_
    refine M_astT1 (n := 7) (na := nanN p4.1 (nhV 0 99 p1) (nhV 1 99 p2) (nhV 0 9 p3)) (rfl) (by decide) (rfl) dX2_readsNation_82 ?_
    exact A_vret dX2_readsNation_83 rfl ⟨rfl, by rw [naS, e4, okS, if_pos c1, na3, na2, na1, ← e_p1, ← e_p2, ← e_p3] <;> rfl⟩
  · skip
    have e4 : na4 B n p = p4 := by rw [na4, na3, na2, na1, ← e_p1, ← e_p2, ← e_p3, ← e_p4]
    exact A_vret dX2_readsNation_38 rfl ⟨rfl, by rw [naS, e4, okS, if_neg c1]⟩
theorem c_colourRead {l : Launch} {g : GC} (b9 : Nat) (ms : MM) (σ0 : AH) (n : Nat) (p : PT) (B : AF) (s : Int32) (h1 : pOK n p) (h2 : n ≤ 500) : AMet l g mX2_colourRead 4 0 [.ref b9, .int s] (mc b9 (⟨m_thr ms, m_is ms, m_um ms, m_bd ms, p.2.2.2.2.2.1, p.2.2.2.2.2.2, nI n, nI p.2.1, nI p.2.2.1, p.2.2.2.1, p.2.2.2.2.1, m_ps ms, p.1, m_asd ms, m_und ms, m_sav ms, m_isv ms, B, m_grp ms, m_pag ms⟩ : MM) σ0) (A_eq (some (.int (crV B n s p))) (mc b9 (⟨m_thr ms, m_is ms, m_um ms, m_bd ms, (crS B n s p).2.2.2.2.2.1, (crS B n s p).2.2.2.2.2.2, nI n, nI (crS B n s p).2.1, nI (crS B n s p).2.2.1, (crS B n s p).2.2.2.1, (crS B n s p).2.2.2.2.1, m_ps ms, (crS B n s p).1, m_asd ms, m_und ms, m_sav ms, m_isv ms, B, m_grp ms, m_pag ms⟩ : MM) σ0)) A_no := by
  refine A_of rfl (by decide) (Nat.le_of_ble_eq_true rfl) (L0 := [(0, .ref b9), (1, .int s)]) rfl ?_
  refine A_aload_n (i := 0) dX2_colourRead_0 rfl rfl ?_
  refine A_iconst (v := 0) dX2_colourRead_1 (by decide) ?_
  refine A_aload_n (i := 0) dX2_colourRead_2 rfl rfl ?_
  refine M_get 1 (v := .ref (b9 + 1)) (Nat.le_of_ble_eq_true rfl) q2230 rfl dX2_colourRead_3 ?_
  refine A_bipush (v := 6) dX2_colourRead_6 (by decide) ?_
  refine M_ald1 (n := 6) (v := p.1 6) (rfl) (by decide) (rfl) dX2_colourRead_8 ?_
  refine A_iconst (v := 1) dX2_colourRead_9 (by decide) ?_
  refine A_isub dX2_colourRead_10 ?_
  refine A_int (w := (p.1 6 - 1)) (rfl) ?_
  refine A_callV2E (v := some (.int (nhV 0 (p.1 6 - 1) p))) (τ := mc b9 (⟨m_thr ms, m_is ms, m_um ms, m_bd ms, (nhS 0 (p.1 6 - 1) p).2.2.2.2.2.1, (nhS 0 (p.1 6 - 1) p).2.2.2.2.2.2, nI n, nI (nhS 0 (p.1 6 - 1) p).2.1, nI (nhS 0 (p.1 6 - 1) p).2.2.1, (nhS 0 (p.1 6 - 1) p).2.2.2.1, (nhS 0 (p.1 6 - 1) p).2.2.2.2.1, m_ps ms, (nhS 0 (p.1 6 - 1) p).1, m_asd ms, m_und ms, m_sav ms, m_isv ms, B, m_grp ms, m_pag ms⟩ : MM) σ0) (c_numberHere b9 (⟨m_thr ms, m_is ms, m_um ms, m_bd ms, p.2.2.2.2.2.1, p.2.2.2.2.2.2, nI n, nI p.2.1, nI p.2.2.1, p.2.2.2.1, p.2.2.2.2.1, m_ps ms, p.1, m_asd ms, m_und ms, m_sav ms, m_isv ms, B, m_grp ms, m_pag ms⟩ : MM) σ0 p B 0 (p.1 6 - 1)) tX2_numberHere q2368 (mc_0 _ _ _) rfl rfl dX2_colourRead_11 (by decide) (Nat.le_of_eq (Nat.zero_add _)) (Nat.le_of_ble_eq_true rfl) ?_
  obtain ⟨p1, e_p1⟩ : ∃ q, q = nhS 0 (p.1 6 - 1) p := ⟨_, rfl⟩
  have k_p1 : pOK n p1 := by rw [e_p1]; exact (nh_ok h1)
  rw [← e_p1]
  refine A_istore_n (i := 2) dX2_colourRead_14 rfl (Nat.le_of_ble_eq_true rfl) ?_
  refine A_aload_n (i := 0) dX2_colourRead_15 rfl rfl ?_
  refine M_get 10 (v := .int p1.2.2.2.2.2.1) (Nat.le_of_ble_eq_true rfl) q2239 rfl dX2_colourRead_16 ?_
  refine A_if_ne (tgt := 35) dX2_colourRead_19 (by decide) (fun c1 => ?_) (fun c1 => ?_)
  · skip
    refine A_st (σ' := mc b9 (⟨m_thr ms, m_is ms, m_um ms, m_bd ms, (crH s p).2.2.2.2.2.1, (crH s p).2.2.2.2.2.2, nI n, nI (crH s p).2.1, nI (crH s p).2.2.1, (crH s p).2.2.2.1, (crH s p).2.2.2.2.1, m_ps ms, (crH s p).1, m_asd ms, m_und ms, m_sav ms, m_isv ms, B, m_grp ms, m_pag ms⟩ : MM) σ0) (by rw [crH, ← e_p1, if_neg (fun h => c1 h.1)]) ?_
    obtain ⟨p2, e_p2⟩ : ∃ q, q = crH s p := ⟨_, rfl⟩
    have k_p2 : pOK n p2 := by rw [e_p2]; exact crH_ok h1
    rw [← e_p2]
    refine A_aload_n (i := 0) dX2_colourRead_35 rfl rfl ?_
    refine A_callV0E (v := none) (τ := mc b9 (⟨m_thr ms, m_is ms, m_um ms, m_bd ms, (goesS B n p2).2.2.2.2.2.1, (goesS B n p2).2.2.2.2.2.2, nI n, nI (goesS B n p2).2.1, nI (goesS B n p2).2.2.1, (goesS B n p2).2.2.2.1, (goesS B n p2).2.2.2.2.1, m_ps ms, (goesS B n p2).1, m_asd ms, m_und ms, m_sav ms, m_isv ms, B, m_grp ms, m_pag ms⟩ : MM) σ0) (c_goes b9 (⟨m_thr ms, m_is ms, m_um ms, m_bd ms, p2.2.2.2.2.2.1, p2.2.2.2.2.2.2, nI n, nI p2.2.1, nI p2.2.2.1, p2.2.2.2.1, p2.2.2.2.2.1, m_ps ms, p2.1, m_asd ms, m_und ms, m_sav ms, m_isv ms, B, m_grp ms, m_pag ms⟩ : MM) σ0 n p2 B ((k_p2).1) (h2)) tX2_goes q2337 (mc_0 _ _ _) rfl rfl dX2_colourRead_36 (by decide) (Nat.le_of_eq (Nat.zero_add _)) (Nat.le_of_ble_eq_true rfl) ?_
    obtain ⟨p3, e_p3⟩ : ∃ q, q = goesS B n p2 := ⟨_, rfl⟩
    have k_p3 : pOK n p3 := by rw [e_p3]; exact (goes_ok k_p2)
    rw [← e_p3]
    refine A_aload_n (i := 0) dX2_colourRead_39 rfl rfl ?_
    refine M_get 10 (v := .int p3.2.2.2.2.2.1) (Nat.le_of_ble_eq_true rfl) q2239 rfl dX2_colourRead_40 ?_
    refine A_if_le (tgt := 50) dX2_colourRead_43 (by decide) (fun c2 => ?_) (fun c2 => ?_)
    · skip
      refine A_iload_n (i := 1) dX2_colourRead_50 rfl rfl ?_
      refine A_iconst (v := 1) dX2_colourRead_51 (by decide) ?_
      refine A_iload_n (i := 2) dX2_colourRead_52 rfl rfl ?_
      refine A_ishl dX2_colourRead_53 ?_
      refine A_ior dX2_colourRead_54 ?_
      exact A_iret dX2_colourRead_55 rfl ⟨by rw [crV, crS, ← e_p2, ← e_p3, if_pos c2], by rw [crS, ← e_p2, ← e_p3]⟩
    · skip
      refine A_iload_n (i := 1) dX2_colourRead_46 rfl rfl ?_
      refine A_goto (tgt := 55) dX2_colourRead_47 (by decide) ?_
      exact A_iret dX2_colourRead_55 rfl ⟨by rw [crV, crS, ← e_p2, ← e_p3, if_neg c2], by rw [crS, ← e_p2, ← e_p3]⟩
  · skip
    refine A_iload_n (i := 1) dX2_colourRead_22 rfl rfl ?_
    refine A_iload_n (i := 2) dX2_colourRead_23 rfl rfl ?_
    refine A_callS2E (v := some (.int (bi (hasB s (nhV 0 (p.1 6 - 1) p))))) (τ := mc b9 (⟨m_thr ms, m_is ms, m_um ms, m_bd ms, p1.2.2.2.2.2.1, p1.2.2.2.2.2.2, nI n, nI p1.2.1, nI p1.2.2.1, p1.2.2.2.1, p1.2.2.2.2.1, m_ps ms, p1.1, m_asd ms, m_und ms, m_sav ms, m_isv ms, B, m_grp ms, m_pag ms⟩ : MM) σ0) (c_has b9 (⟨m_thr ms, m_is ms, m_um ms, m_bd ms, p1.2.2.2.2.2.1, p1.2.2.2.2.2.2, nI n, nI p1.2.1, nI p1.2.2.1, p1.2.2.2.1, p1.2.2.2.2.1, m_ps ms, p1.1, m_asd ms, m_und ms, m_sav ms, m_isv ms, B, m_grp ms, m_pag ms⟩ : MM) σ0 s (nhV 0 (p.1 6 - 1) p)) tX2_has q2408 dX2_colourRead_24 (by decide) (Nat.le_of_eq (Nat.zero_add _)) (Nat.le_of_ble_eq_true rfl) ?_
    refine A_if_eq (tgt := 35) dX2_colourRead_27 (by decide) (fun c3 => ?_) (fun c3 => ?_)
    · skip
      have c3 := bi_eq0.mp c3
      refine A_st (σ' := mc b9 (⟨m_thr ms, m_is ms, m_um ms, m_bd ms, (crH s p).2.2.2.2.2.1, (crH s p).2.2.2.2.2.2, nI n, nI (crH s p).2.1, nI (crH s p).2.2.1, (crH s p).2.2.2.1, (crH s p).2.2.2.2.1, m_ps ms, (crH s p).1, m_asd ms, m_und ms, m_sav ms, m_isv ms, B, m_grp ms, m_pag ms⟩ : MM) σ0) (by rw [crH, ← e_p1, if_neg (fun h => c3 h.2)]) ?_
      obtain ⟨p2, e_p2⟩ : ∃ q, q = crH s p := ⟨_, rfl⟩
      have k_p2 : pOK n p2 := by rw [e_p2]; exact crH_ok h1
      rw [← e_p2]
      refine A_aload_n (i := 0) dX2_colourRead_35 rfl rfl ?_
      refine A_callV0E (v := none) (τ := mc b9 (⟨m_thr ms, m_is ms, m_um ms, m_bd ms, (goesS B n p2).2.2.2.2.2.1, (goesS B n p2).2.2.2.2.2.2, nI n, nI (goesS B n p2).2.1, nI (goesS B n p2).2.2.1, (goesS B n p2).2.2.2.1, (goesS B n p2).2.2.2.2.1, m_ps ms, (goesS B n p2).1, m_asd ms, m_und ms, m_sav ms, m_isv ms, B, m_grp ms, m_pag ms⟩ : MM) σ0) (c_goes b9 (⟨m_thr ms, m_is ms, m_um ms, m_bd ms, p2.2.2.2.2.2.1, p2.2.2.2.2.2.2, nI n, nI p2.2.1, nI p2.2.2.1, p2.2.2.2.1, p2.2.2.2.2.1, m_ps ms, p2.1, m_asd ms, m_und ms, m_sav ms, m_isv ms, B, m_grp ms, m_pag ms⟩ : MM) σ0 n p2 B ((k_p2).1) (h2)) tX2_goes q2337 (mc_0 _ _ _) rfl rfl dX2_colourRead_36 (by decide) (Nat.le_of_eq (Nat.zero_add _)) (Nat.le_of_ble_eq_true rfl) ?_
      obtain ⟨p3, e_p3⟩ : ∃ q, q = goesS B n p2 := ⟨_, rfl⟩
      have k_p3 : pOK n p3 := by rw [e_p3]; exact (goes_ok k_p2)
      rw [← e_p3]
      refine A_aload_n (i := 0) dX2_colourRead_39 rfl rfl ?_
      refine M_get 10 (v := .int p3.2.2.2.2.2.1) (Nat.le_of_ble_eq_true rfl) q2239 rfl dX2_colourRead_40 ?_
      refine A_if_le (tgt := 50) dX2_colourRead_43 (by decide) (fun c4 => ?_) (fun c4 => ?_)
      · skip
        refine A_iload_n (i := 1) dX2_colourRead_50 rfl rfl ?_
        refine A_iconst (v := 1) dX2_colourRead_51 (by decide) ?_
        refine A_iload_n (i := 2) dX2_colourRead_52 rfl rfl ?_
        refine A_ishl dX2_colourRead_53 ?_
        refine A_ior dX2_colourRead_54 ?_
        exact A_iret dX2_colourRead_55 rfl ⟨by rw [crV, crS, ← e_p2, ← e_p3, if_pos c4], by rw [crS, ← e_p2, ← e_p3]⟩
      · skip
        refine A_iload_n (i := 1) dX2_colourRead_46 rfl rfl ?_
        refine A_goto (tgt := 55) dX2_colourRead_47 (by decide) ?_
        exact A_iret dX2_colourRead_55 rfl ⟨by rw [crV, crS, ← e_p2, ← e_p3, if_neg c4], by rw [crS, ← e_p2, ← e_p3]⟩
    · skip
      have c3 := bi_ne0.mp c3
      refine A_aload_n (i := 0) dX2_colourRead_30 rfl rfl ?_
      refine A_iconst (v := 3) dX2_colourRead_31 (by decide) ?_
      refine A_callV1E (v := none) (τ := mc b9 (⟨m_thr ms, m_is ms, m_um ms, m_bd ms, (fltS 3 p1).2.2.2.2.2.1, (fltS 3 p1).2.2.2.2.2.2, nI n, nI (fltS 3 p1).2.1, nI (fltS 3 p1).2.2.1, (fltS 3 p1).2.2.2.1, (fltS 3 p1).2.2.2.2.1, m_ps ms, (fltS 3 p1).1, m_asd ms, m_und ms, m_sav ms, m_isv ms, B, m_grp ms, m_pag ms⟩ : MM) σ0) (c_faults b9 (⟨m_thr ms, m_is ms, m_um ms, m_bd ms, p1.2.2.2.2.2.1, p1.2.2.2.2.2.2, nI n, nI p1.2.1, nI p1.2.2.1, p1.2.2.2.1, p1.2.2.2.2.1, m_ps ms, p1.1, m_asd ms, m_und ms, m_sav ms, m_isv ms, B, m_grp ms, m_pag ms⟩ : MM) σ0 p1 B 3) tX2_faults q2360 (mc_0 _ _ _) rfl rfl dX2_colourRead_32 (by decide) (Nat.le_of_eq (Nat.zero_add _)) (Nat.le_of_ble_eq_true rfl) ?_
      refine A_st (σ' := mc b9 (⟨m_thr ms, m_is ms, m_um ms, m_bd ms, (crH s p).2.2.2.2.2.1, (crH s p).2.2.2.2.2.2, nI n, nI (crH s p).2.1, nI (crH s p).2.2.1, (crH s p).2.2.2.1, (crH s p).2.2.2.2.1, m_ps ms, (crH s p).1, m_asd ms, m_und ms, m_sav ms, m_isv ms, B, m_grp ms, m_pag ms⟩ : MM) σ0) (by rw [crH, ← e_p1, if_pos ⟨c1, c3⟩]) ?_
      obtain ⟨p2, e_p2⟩ : ∃ q, q = crH s p := ⟨_, rfl⟩
      have k_p2 : pOK n p2 := by rw [e_p2]; exact crH_ok h1
      rw [← e_p2]
      refine A_aload_n (i := 0) dX2_colourRead_35 rfl rfl ?_
      refine A_callV0E (v := none) (τ := mc b9 (⟨m_thr ms, m_is ms, m_um ms, m_bd ms, (goesS B n p2).2.2.2.2.2.1, (goesS B n p2).2.2.2.2.2.2, nI n, nI (goesS B n p2).2.1, nI (goesS B n p2).2.2.1, (goesS B n p2).2.2.2.1, (goesS B n p2).2.2.2.2.1, m_ps ms, (goesS B n p2).1, m_asd ms, m_und ms, m_sav ms, m_isv ms, B, m_grp ms, m_pag ms⟩ : MM) σ0) (c_goes b9 (⟨m_thr ms, m_is ms, m_um ms, m_bd ms, p2.2.2.2.2.2.1, p2.2.2.2.2.2.2, nI n, nI p2.2.1, nI p2.2.2.1, p2.2.2.2.1, p2.2.2.2.2.1, m_ps ms, p2.1, m_asd ms, m_und ms, m_sav ms, m_isv ms, B, m_grp ms, m_pag ms⟩ : MM) σ0 n p2 B ((k_p2).1) (h2)) tX2_goes q2337 (mc_0 _ _ _) rfl rfl dX2_colourRead_36 (by decide) (Nat.le_of_eq (Nat.zero_add _)) (Nat.le_of_ble_eq_true rfl) ?_
      obtain ⟨p3, e_p3⟩ : ∃ q, q = goesS B n p2 := ⟨_, rfl⟩
      have k_p3 : pOK n p3 := by rw [e_p3]; exact (goes_ok k_p2)
      rw [← e_p3]
      refine A_aload_n (i := 0) dX2_colourRead_39 rfl rfl ?_
      refine M_get 10 (v := .int p3.2.2.2.2.2.1) (Nat.le_of_ble_eq_true rfl) q2239 rfl dX2_colourRead_40 ?_
      refine A_if_le (tgt := 50) dX2_colourRead_43 (by decide) (fun c5 => ?_) (fun c5 => ?_)
      · skip
        refine A_iload_n (i := 1) dX2_colourRead_50 rfl rfl ?_
        refine A_iconst (v := 1) dX2_colourRead_51 (by decide) ?_
        refine A_iload_n (i := 2) dX2_colourRead_52 rfl rfl ?_
        refine A_ishl dX2_colourRead_53 ?_
        refine A_ior dX2_colourRead_54 ?_
        exact A_iret dX2_colourRead_55 rfl ⟨by rw [crV, crS, ← e_p2, ← e_p3, if_pos c5], by rw [crS, ← e_p2, ← e_p3]⟩
      · skip
        refine A_iload_n (i := 1) dX2_colourRead_46 rfl rfl ?_
        refine A_goto (tgt := 55) dX2_colourRead_47 (by decide) ?_
        exact A_iret dX2_colourRead_55 rfl ⟨by rw [crV, crS, ← e_p2, ← e_p3, if_neg c5], by rw [crS, ← e_p2, ← e_p3]⟩
