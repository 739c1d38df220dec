/-! THE MODEL 16: load -/
theorem inR_n {x : Int32} {n : Nat} (hn : n < 2 ^ 31) (h : inR x 0 (nI n)) : ∃ j, j ≤ n ∧ x = nI j := by
  obtain ⟨h1, h2⟩ := h
  rw [Int32.lt_iff_toInt_lt] at h1 h2
  rw [nI_toInt hn] at h2
  have e0 : (0 : Int32).toInt = 0 := by decide
  refine ⟨x.toInt.toNat, by omega, ?_⟩
  apply Int32.toInt_inj.mp
  rw [nI_toInt (by omega)]
  omega
theorem c_load {l : Launch} {g : GC} (b9 : Nat) (ms : MM) (σ0 : AH) (k9 : Nat) (s0 : Nat) (u : Nat) (B : AF) (i : Int32) (h1 : k9 ≤ 500) : AMet l g mX2_load 11 0 [.ref b9, .int i] (mc b9 (⟨m_thr ms, m_is ms, nI u, nI k9, m_pc ms, m_pa ms, m_sz ms, m_cu ms, nI s0, m_tk ms, m_to ms, m_ps ms, m_now ms, m_asd ms, m_und ms, m_sav ms, m_isv ms, B, m_grp ms, m_pag ms⟩ : MM) σ0) (A_eq (some (.int (gd (mayT (bi (inR i 0 (nI k9))) 1 1) (if (ldR B (m_now ms) s0 (m_tk ms) (m_to ms) (ix i)).2.2.2.2.2.1 ≤ 0 then (ldR B (m_now ms) s0 (m_tk ms) (m_to ms) (ix i)).1 10 else 0)))) (mc b9 (⟨gq (mayT (bi (inR i 0 (nI k9))) 1 1) (if (ldR B (m_now ms) s0 (m_tk ms) (m_to ms) (ix i)).2.2.2.2.2.1 ≤ 0 then mayT (bi (inR i 0 (nI k9))) 1 1 else 2) (mayT (bi (inR i 0 (nI k9))) 1 1), gq (mayT (bi (inR i 0 (nI k9))) 1 1) (if (ldR B (m_now ms) s0 (m_tk ms) (m_to ms) (ix i)).2.2.2.2.2.1 ≤ 0 then 1 else (m_is ms)) (m_is ms), nI (gq (mayT (bi (inR i 0 (nI k9))) 1 1) (if (ldR B (m_now ms) s0 (m_tk ms) (m_to ms) (ix i)).2.2.2.2.2.1 ≤ 0 then 0 else u) u), nI (gq (mayT (bi (inR i 0 (nI k9))) 1 1) (0) k9), gq (mayT (bi (inR i 0 (nI k9))) 1 1) ((ldR B (m_now ms) s0 (m_tk ms) (m_to ms) (ix i)).2.2.2.2.2.1) (m_pc ms), gq (mayT (bi (inR i 0 (nI k9))) 1 1) ((ldR B (m_now ms) s0 (m_tk ms) (m_to ms) (ix i)).2.2.2.2.2.2) (m_pa ms), gq (mayT (bi (inR i 0 (nI k9))) 1 1) (i) (m_sz ms), gq (mayT (bi (inR i 0 (nI k9))) 1 1) (nI (ldR B (m_now ms) s0 (m_tk ms) (m_to ms) (ix i)).2.1) (m_cu ms), nI (gq (mayT (bi (inR i 0 (nI k9))) 1 1) ((ldR B (m_now ms) s0 (m_tk ms) (m_to ms) (ix i)).2.2.1) s0), gq (mayT (bi (inR i 0 (nI k9))) 1 1) ((ldR B (m_now ms) s0 (m_tk ms) (m_to ms) (ix i)).2.2.2.1) (m_tk ms), gq (mayT (bi (inR i 0 (nI k9))) 1 1) ((ldR B (m_now ms) s0 (m_tk ms) (m_to ms) (ix i)).2.2.2.2.1) (m_to ms), m_ps ms, gq (mayT (bi (inR i 0 (nI k9))) 1 1) (if (ldR B (m_now ms) s0 (m_tk ms) (m_to ms) (ix i)).2.2.2.2.2.1 ≤ 0 then (ldR B (m_now ms) s0 (m_tk ms) (m_to ms) (ix i)).1 else (m_now ms)) (m_now ms), gq (mayT (bi (inR i 0 (nI k9))) 1 1) ((m_now ms)) (m_asd ms), m_und ms, m_sav ms, gq (mayT (bi (inR i 0 (nI k9))) 1 1) (if (ldR B (m_now ms) s0 (m_tk ms) (m_to ms) (ix i)).2.2.2.2.2.1 ≤ 0 then va_up (va_up (m_isv ms) 0 0) 1 0 else (m_isv ms)) (m_isv ms), B, m_grp ms, m_pag ms⟩ : MM) σ0)) A_no := by
  refine A_of rfl (by decide) (Nat.le_of_ble_eq_true rfl) (L0 := [(0, .ref b9), (1, .int i)]) rfl ?_
  refine A_aload_n (i := 0) dX2_load_0 rfl rfl ?_
  refine A_iload_n (i := 1) dX2_load_1 rfl rfl ?_
  refine A_iconst (v := 0) dX2_load_2 (by decide) ?_
  refine A_aload_n (i := 0) dX2_load_3 rfl rfl ?_
  refine M_get 9 (v := .int (nI k9)) (Nat.le_of_ble_eq_true rfl) q2238 rfl dX2_load_4 ?_
  refine A_callS3E (v := some (.int (bi (inR i 0 (nI k9))))) (τ := mc b9 (⟨m_thr ms, m_is ms, nI u, nI k9, m_pc ms, m_pa ms, m_sz ms, m_cu ms, nI s0, m_tk ms, m_to ms, m_ps ms, m_now ms, m_asd ms, m_und ms, m_sav ms, m_isv ms, B, m_grp ms, m_pag ms⟩ : MM) σ0) (c_in b9 (⟨m_thr ms, m_is ms, nI u, nI k9, m_pc ms, m_pa ms, m_sz ms, m_cu ms, nI s0, m_tk ms, m_to ms, m_ps ms, m_now ms, m_asd ms, m_und ms, m_sav ms, m_isv ms, B, m_grp ms, m_pag ms⟩ : MM) σ0 i 0 (nI k9)) tX2_in q2319 dX2_load_7 (by decide) (Nat.le_of_eq (Nat.zero_add _)) (Nat.le_of_ble_eq_true rfl) ?_
  refine A_iconst (v := 1) dX2_load_10 (by decide) ?_
  refine A_iconst (v := 1) dX2_load_11 (by decide) ?_
  refine A_callV3E (v := some (.int (bi (mayT (bi (inR i 0 (nI k9))) 1 1 = 0)))) (τ := mc b9 (⟨mayT (bi (inR i 0 (nI k9))) 1 1, m_is ms, nI u, nI k9, m_pc ms, m_pa ms, m_sz ms, m_cu ms, nI s0, m_tk ms, m_to ms, m_ps ms, m_now ms, m_asd ms, m_und ms, m_sav ms, m_isv ms, B, m_grp ms, m_pag ms⟩ : MM) σ0) (c_may b9 (⟨m_thr ms, m_is ms, nI u, nI k9, m_pc ms, m_pa ms, m_sz ms, m_cu ms, nI s0, m_tk ms, m_to ms, m_ps ms, m_now ms, m_asd ms, m_und ms, m_sav ms, m_isv ms, B, m_grp ms, m_pag ms⟩ : MM) σ0 (bi (inR i 0 (nI k9))) 1 1) tX2_may q2322 (mc_0 _ _ _) rfl rfl dX2_load_12 (by decide) (Nat.le_of_eq (Nat.zero_add _)) (Nat.le_of_ble_eq_true rfl) ?_
  refine A_if_ne (tgt := 20) dX2_load_15 (by decide) (fun c1 => ?_) (fun c1 => ?_)
  · skip
    have c1 := bi_ne0.mp c1
    obtain ⟨n9, hn9, rfl⟩ := inR_n (by omega) (bi_ne0.mp (mayT_x c1))
    refine A_aload_n (i := 0) dX2_load_20 rfl rfl ?_
    refine A_iload_n (i := 1) dX2_load_21 rfl rfl ?_
    refine M_putT_sz q2241 rfl dX2_load_22 ?_
    refine A_aload_n (i := 0) dX2_load_25 rfl rfl ?_
    refine A_iconst (v := 0) dX2_load_26 (by decide) ?_
    refine M_putT_cu q2242 rfl dX2_load_27 ?_
    refine A_aload_n (i := 0) dX2_load_30 rfl rfl ?_
    refine A_iconst (v := 0) dX2_load_31 (by decide) ?_
    refine M_putT_bd q2238 rfl dX2_load_32 ?_
    refine A_aload_n (i := 0) dX2_load_35 rfl rfl ?_
    refine A_iconst (v := 0) dX2_load_36 (by decide) ?_
    refine M_putT_pc q2239 rfl dX2_load_37 ?_
    refine A_aload_n (i := 0) dX2_load_40 rfl rfl ?_
    refine A_iconst (v := (-1)) dX2_load_41 (by decide) ?_
    refine M_putT_pa q2240 rfl dX2_load_42 ?_
    refine A_aload_n (i := 0) dX2_load_45 rfl rfl ?_
    refine A_callV0E (v := none) (τ := mc b9 (⟨mayT (bi (inR (nI n9) 0 (nI k9))) 1 1, m_is ms, nI u, 0, 0, (-1), nI n9, 0, nI s0, m_tk ms, m_to ms, m_ps ms, m_now ms, (m_now ms), m_und ms, m_sav ms, m_isv ms, B, m_grp ms, m_pag ms⟩ : MM) σ0) (c_thinks b9 (⟨mayT (bi (inR (nI n9) 0 (nI k9))) 1 1, m_is ms, nI u, 0, 0, (-1), nI n9, 0, nI s0, m_tk ms, m_to ms, m_ps ms, m_now ms, m_asd ms, m_und ms, m_sav ms, m_isv ms, B, m_grp ms, m_pag ms⟩ : MM) σ0) tX2_thinks q2326 (mc_0 _ _ _) rfl rfl dX2_load_46 (by decide) (Nat.le_of_eq (Nat.zero_add _)) (Nat.le_of_ble_eq_true rfl) ?_
    refine A_iconst (v := 0) dX2_load_49 (by decide) ?_
    refine A_istore_n (i := 2) dX2_load_50 rfl (Nat.le_of_ble_eq_true rfl) ?_
    refine A_st (σ' := mc b9 (⟨mayT (bi (inR (nI n9) 0 (nI k9))) 1 1, m_is ms, nI u, 0, 0, (-1), nI n9, 0, nI s0, m_tk ms, m_to ms, m_ps ms, zrU (m_now ms) 0, (m_now ms), m_und ms, m_sav ms, m_isv ms, B, m_grp ms, m_pag ms⟩ : MM) σ0) (by rw [zrU_0]) ?_
    refine A_sub (L' := [(0, .ref b9), (1, .int (nI n9)), (2, .int (nI 0))]) ⟨rfl, rfl, rfl, trivial⟩ ?_
    refine A_for 173 (fun i51 => 0) (fun i51 => [(0, .ref b9), (1, .int (nI n9)), (2, .int (nI i51))]) (fun i51 => mc b9 (⟨mayT (bi (inR (nI n9) 0 (nI k9))) 1 1, m_is ms, nI u, 0, 0, (-1), nI n9, 0, nI s0, m_tk ms, m_to ms, m_ps ms, zrU (m_now ms) i51, (m_now ms), m_und ms, m_sav ms, m_isv ms, B, m_grp ms, m_pag ms⟩ : MM) σ0) (fun i51 => True) trivial (fun i51 hi51 hI51 ih51 => ?_) (fun hI51 => ?_)
    · skip
      refine A_iload_n (i := 2) dX2_load_51 rfl rfl ?_
      refine A_sipush (v := 173) dX2_load_52 (by decide) ?_
      refine A_icmp_ge_f (tgt := 71) dX2_load_55 (by decide) (nI_ge (b := 173) hi51 (by omega)) ?_
      refine A_aload_n (i := 0) dX2_load_58 rfl rfl ?_
      refine M_get 1 (v := .ref (b9 + 1)) (Nat.le_of_ble_eq_true rfl) q2230 rfl dX2_load_59 ?_
      refine A_iload_n (i := 2) dX2_load_62 rfl rfl ?_
      refine A_iconst (v := 0) dX2_load_63 (by decide) ?_
      refine M_astT1 (n := i51) (na := zrU (m_now ms) (i51 + 1)) (rfl) (by omega) (zrU_s _ _) dX2_load_64 ?_
      refine A_iinc (v := nI (i51 + 1)) dX2_load_65 rfl (nI_inc _ _) (Nat.le_of_ble_eq_true rfl) ?_
      refine A_goto (tgt := 51) dX2_load_68 (by decide) ?_
      refine A_sub (L' := [(0, .ref b9), (1, .int (nI n9)), (2, .int (nI (i51 + 1)))]) ⟨rfl, rfl, rfl, trivial⟩ ?_
      exact ih51 trivial
    · skip
      refine A_iload_n (i := 2) dX2_load_51 rfl rfl ?_
      refine A_sipush (v := 173) dX2_load_52 (by decide) ?_
      refine A_icmp_ge_t (tgt := 71) dX2_load_55 (by decide) (Int32.le_refl _) ?_
      obtain ⟨p0, e_p0⟩ : ∃ q, q = ((zrU (m_now ms) 173, 0, s0, m_tk ms, m_to ms, 0, -1) : PT) := ⟨_, rfl⟩
      refine A_st (σ' := mc b9 (⟨mayT (bi (inR (nI n9) 0 (nI k9))) 1 1, m_is ms, nI u, 0, p0.2.2.2.2.2.1, p0.2.2.2.2.2.2, nI n9, nI p0.2.1, nI p0.2.2.1, p0.2.2.2.1, p0.2.2.2.2.1, m_ps ms, p0.1, (m_now ms), m_und ms, m_sav ms, m_isv ms, B, m_grp ms, m_pag ms⟩ : MM) σ0) (by rw [e_p0] <;> rfl) ?_
      refine A_aload_n (i := 0) dX2_load_71 rfl rfl ?_
      refine A_callV0E (v := none) (τ := mc b9 (⟨mayT (bi (inR (nI n9) 0 (nI k9))) 1 1, m_is ms, nI u, 0, (teS B n9 p0).2.2.2.2.2.1, (teS B n9 p0).2.2.2.2.2.2, nI n9, nI (teS B n9 p0).2.1, nI (teS B n9 p0).2.2.1, (teS B n9 p0).2.2.2.1, (teS B n9 p0).2.2.2.2.1, m_ps ms, (teS B n9 p0).1, (m_now ms), m_und ms, m_sav ms, m_isv ms, B, m_grp ms, m_pag ms⟩ : MM) σ0) (c_readsText b9 (⟨mayT (bi (inR (nI n9) 0 (nI k9))) 1 1, m_is ms, nI u, 0, p0.2.2.2.2.2.1, p0.2.2.2.2.2.2, nI n9, nI p0.2.1, nI p0.2.2.1, p0.2.2.2.1, p0.2.2.2.2.1, m_ps ms, p0.1, (m_now ms), m_und ms, m_sav ms, m_isv ms, B, m_grp ms, m_pag ms⟩ : MM) σ0 n9 p0 B (by rw [e_p0]) (by omega) (by rw [e_p0]; exact Nat.zero_le _) (by rw [e_p0]; exact wfc_zr _)) tX2_readsText q2333 (mc_0 _ _ _) rfl rfl dX2_load_72 (by decide) (Nat.le_of_eq (Nat.zero_add _)) (Nat.le_of_ble_eq_true rfl) ?_
      obtain ⟨p1, e_p1⟩ : ∃ q, q = teS B n9 p0 := ⟨_, rfl⟩
      rw [← e_p1]
      have eR : ldR B (m_now ms) s0 (m_tk ms) (m_to ms) (ix (nI n9)) = p1 := by rw [ixn (show n9 < 2000 by omega), ldR, ← e_p0, ← e_p1]
      refine A_aload_n (i := 0) dX2_load_75 rfl rfl ?_
      refine M_get 10 (v := .int p1.2.2.2.2.2.1) (Nat.le_of_ble_eq_true rfl) q2239 rfl dX2_load_76 ?_
      refine A_if_le (tgt := 93) dX2_load_79 (by decide) (fun c2 => ?_) (fun c2 => ?_)
      · skip
        refine A_aload_n (i := 0) dX2_load_93 rfl rfl ?_
        refine A_iconst (v := 1) dX2_load_94 (by decide) ?_
        refine M_putT_is q2235 rfl rfl dX2_load_95 ?_
        refine A_aload_n (i := 0) dX2_load_98 rfl rfl ?_
        refine A_iconst (v := 0) dX2_load_99 (by decide) ?_
        refine M_putT_um q2236 rfl dX2_load_100 ?_
        refine A_aload_n (i := 0) dX2_load_103 rfl rfl ?_
        refine M_get 5 (v := .ref (b9 + 5)) (Nat.le_of_ble_eq_true rfl) q2234 rfl dX2_load_104 ?_
        refine A_iconst (v := 0) dX2_load_107 (by decide) ?_
        refine A_iconst (v := 0) dX2_load_108 (by decide) ?_
        refine M_astT5 (n := 0) (na := va_up (m_isv ms) 0 (vp_nar .boolean 0)) (rfl) (by decide) (rfl) dX2_load_109 ?_
        refine A_aload_n (i := 0) dX2_load_110 rfl rfl ?_
        refine M_get 5 (v := .ref (b9 + 5)) (Nat.le_of_ble_eq_true rfl) q2234 rfl dX2_load_111 ?_
        refine A_iconst (v := 1) dX2_load_114 (by decide) ?_
        refine A_iconst (v := 0) dX2_load_115 (by decide) ?_
        refine M_astT5 (n := 1) (na := va_up (va_up (m_isv ms) 0 (vp_nar .boolean 0)) 1 (vp_nar .boolean 0)) (rfl) (by decide) (rfl) dX2_load_116 ?_
        refine A_aload_n (i := 0) dX2_load_117 rfl rfl ?_
        refine M_get 1 (v := .ref (b9 + 1)) (Nat.le_of_ble_eq_true rfl) q2230 rfl dX2_load_118 ?_
        refine A_bipush (v := 10) dX2_load_121 (by decide) ?_
        refine M_ald1 (n := 10) (v := p1.1 10) (rfl) (by decide) (rfl) dX2_load_123 ?_
        exact A_iret dX2_load_124 rfl ⟨by rw [gd, if_pos c1, eR, if_pos c2], by simp only [gq_t c1, eR, if_pos c2] <;> rfl⟩
      · skip
        refine A_aload_n (i := 0) dX2_load_82 rfl rfl ?_
        refine A_iconst (v := 2) dX2_load_83 (by decide) ?_
        refine M_putT_thr q2229 rfl dX2_load_84 ?_
        refine A_aload_n (i := 0) dX2_load_87 rfl rfl ?_
        refine A_iconst (v := 0) dX2_load_88 (by decide) ?_
        refine A_callV1E (v := some (.int 0)) (τ := mc b9 (⟨2, m_is ms, nI u, 0, p1.2.2.2.2.2.1, p1.2.2.2.2.2.2, nI n9, nI p1.2.1, nI p1.2.2.1, p1.2.2.2.1, p1.2.2.2.2.1, m_ps ms, (m_now ms), (m_now ms), m_und ms, m_sav ms, m_isv ms, B, m_grp ms, m_pag ms⟩ : MM) σ0) (c_back b9 (⟨2, m_is ms, nI u, 0, p1.2.2.2.2.2.1, p1.2.2.2.2.2.2, nI n9, nI p1.2.1, nI p1.2.2.1, p1.2.2.2.1, p1.2.2.2.2.1, m_ps ms, p1.1, (m_now ms), m_und ms, m_sav ms, m_isv ms, B, m_grp ms, m_pag ms⟩ : MM) σ0 0) tX2_back q2557 (mc_0 _ _ _) rfl rfl dX2_load_89 (by decide) (Nat.le_of_eq (Nat.zero_add _)) (Nat.le_of_ble_eq_true rfl) ?_
        exact A_iret dX2_load_92 rfl ⟨by rw [gd, if_pos c1, eR, if_neg c2], by simp only [gq_t c1, eR, if_neg c2] <;> rfl⟩
  · skip
    have c1 := bi_eq0.mp c1
    refine A_iconst (v := 0) dX2_load_18 (by decide) ?_
    exact A_iret dX2_load_19 rfl ⟨by rw [gd, if_neg c1], by simp only [gq_f c1]⟩
