/-! THE MODEL 11: the page's rest, the buffer -/
theorem gt0_n {k : Nat} (h : ¬ nI k ≤ 0) : ¬ k = 0 := fun e => h (by rw [e]; decide)
theorem le0_n {k : Nat} (hl : k < 1000) (h : nI k ≤ 0) : k = 0 := by
  rcases Nat.eq_zero_or_pos k with e | e
  · exact e
  · exact absurd h (nI_ge e (by omega))
theorem ne0_n {k : Nat} (h : ¬ nI k = 0) : ¬ k = 0 := fun e => h (by rw [e]; rfl)
theorem eq0_n {k : Nat} (hl : k < 1000) (h : nI k = 0) : k = 0 := le0_n hl (by rw [h]; exact Int32.le_refl _)
theorem numI_pos (x : Int32) : ¬ (numI x).length = 0 := by
  unfold numI
  split <;> simp
theorem txT_ne {N : AF} {t : Int32} : ∀ {k : Nat}, ¬ k = 0 → ¬ (txT N t k).length = 0
  | 0, h => absurd rfl h
  | k + 1, _ => by
    have h2 := numI_pos (flagInN N t (nI k))
    rw [txT_s, List.length_append]
    omega
theorem txT_0 {N : AF} {t : Int32} {k : Nat} (h : k = 0) : (txT N t k).length = 0 := by
  subst h
  rfl
theorem nar_b8 (c : Int32) : vp_nar .byte (b8 c) = b8 c := by
  show ((b8 c).toInt8).toInt32 = b8 c
  unfold b8
  simp
def fo1 (B : AF) (k : Nat) (v : Int32) : AF := va_up B k (b8 (v >>> ((24 : Int32) &&& 31)))
def fo2 (B : AF) (k : Nat) (v : Int32) : AF := va_up (fo1 B k v) (k + 1) (b8 (v >>> ((16 : Int32) &&& 31)))
def fo3 (B : AF) (k : Nat) (v : Int32) : AF := va_up (fo2 B k v) (k + 2) (b8 (v >>> ((8 : Int32) &&& 31)))
def fo4 (B : AF) (k : Nat) (v : Int32) : AF := va_up (fo3 B k v) (k + 3) (b8 (v >>> ((0 : Int32) &&& 31)))
def app5 (B : AF) (k : Nat) (a b c d e : Int32) : AF := fo4 (fo4 (fo4 (fo4 (fo4 B k a) (k + 4) b) (k + 8) c) (k + 12) d) (k + 16) e
theorem le480 {k : Nat} (hk : k ≤ 500) : nI k ≤ 480 ↔ k ≤ 480 := by
  rw [Int32.le_iff_toInt_le, nI_toInt (by omega)]
  rw [show (480 : Int32).toInt = 480 by decide]
  omega
theorem c_writeTub {l : Launch} {g : GC} (b9 : Nat) (ms : MM) (σ0 : AH) (t : Int32) (h1 : WFc (m_now ms)) : AMet l g mX2_writeTub 6 0 [.ref b9, .int t] (mc b9 ms σ0) (A_eq (some (.int (gd (mayT (m_is ms) (bi (okT (m_is ms) (m_now ms) t)) 1) (nI (orDash (txT (m_now ms) t (ix (manyT (m_now ms) t)))).length)))) (mc b9 (⟨mayT (m_is ms) (bi (okT (m_is ms) (m_now ms) t)) 1, m_is ms, m_um ms, m_bd ms, m_pc ms, m_pa ms, m_sz ms, m_cu ms, m_st ms, m_tk ms, m_to ms, gq (mayT (m_is ms) (bi (okT (m_is ms) (m_now ms) t)) 1) (nI (orDash (txT (m_now ms) t (ix (manyT (m_now ms) t)))).length) (m_ps ms), m_now ms, m_asd ms, m_und ms, m_sav ms, m_isv ms, m_buf ms, m_grp ms, gq (mayT (m_is ms) (bi (okT (m_is ms) (m_now ms) t)) 1) (pgA (m_pag ms) (orDash (txT (m_now ms) t (ix (manyT (m_now ms) t))))) (m_pag ms)⟩ : MM) σ0)) A_no := by
  refine A_of rfl (by decide) (Nat.le_of_ble_eq_true rfl) (L0 := [(0, .ref b9), (1, .int t)]) rfl ?_
  have hF := h1.2.2.2.2.2
  have hC := h1.1.2
  refine A_aload_n (i := 0) dX2_writeTub_0 rfl rfl ?_
  refine A_iload_n (i := 1) dX2_writeTub_1 rfl rfl ?_
  refine A_callV1E (v := some (.int (bi (mayT (m_is ms) (bi (okT (m_is ms) (m_now ms) t)) 1 = 0)))) (τ := mc b9 (⟨mayT (m_is ms) (bi (okT (m_is ms) (m_now ms) t)) 1, m_is ms, m_um ms, m_bd ms, m_pc ms, m_pa ms, m_sz ms, m_cu ms, m_st ms, m_tk ms, m_to ms, m_ps ms, m_now ms, m_asd ms, m_und ms, m_sav ms, m_isv ms, m_buf ms, m_grp ms, m_pag ms⟩ : MM) σ0) (c_mayTub b9 ms σ0 t) tX2_mayTub q2649 (mc_0 _ _ _) rfl rfl dX2_writeTub_2 (by decide) (Nat.le_of_eq (Nat.zero_add _)) (Nat.le_of_ble_eq_true rfl) ?_
  refine A_if_ne (tgt := 10) dX2_writeTub_5 (by decide) (fun c1 => ?_) (fun c1 => ?_)
  · skip
    have c1 := bi_ne0.mp c1
    refine A_aload_n (i := 0) dX2_writeTub_10 rfl rfl ?_
    refine A_iconst (v := 0) dX2_writeTub_11 (by decide) ?_
    refine M_putT_ps q2248 rfl dX2_writeTub_12 ?_
    refine A_st (σ' := mc b9 (⟨mayT (m_is ms) (bi (okT (m_is ms) (m_now ms) t)) 1, m_is ms, m_um ms, m_bd ms, m_pc ms, m_pa ms, m_sz ms, m_cu ms, m_st ms, m_tk ms, m_to ms, nI nl.length, m_now ms, m_asd ms, m_und ms, m_sav ms, m_isv ms, m_buf ms, m_grp ms, pgA (m_pag ms) nl⟩ : MM) σ0) (by rw [pgA_nil] <;> rfl) ?_
    refine A_aload_n (i := 0) dX2_writeTub_15 rfl rfl ?_
    refine A_iload_n (i := 1) dX2_writeTub_16 rfl rfl ?_
    refine A_callV1E (v := some (.int (manyT (m_now ms) t))) (τ := mc b9 (⟨mayT (m_is ms) (bi (okT (m_is ms) (m_now ms) t)) 1, m_is ms, m_um ms, m_bd ms, m_pc ms, m_pa ms, m_sz ms, m_cu ms, m_st ms, m_tk ms, m_to ms, nI nl.length, m_now ms, m_asd ms, m_und ms, m_sav ms, m_isv ms, m_buf ms, m_grp ms, pgA (m_pag ms) nl⟩ : MM) σ0) (c_manyIn b9 (⟨mayT (m_is ms) (bi (okT (m_is ms) (m_now ms) t)) 1, m_is ms, m_um ms, m_bd ms, m_pc ms, m_pa ms, m_sz ms, m_cu ms, m_st ms, m_tk ms, m_to ms, nI nl.length, m_now ms, m_asd ms, m_und ms, m_sav ms, m_isv ms, m_buf ms, m_grp ms, pgA (m_pag ms) nl⟩ : MM) σ0 t (by first | assumption | omega)) tX2_manyIn q2448 (mc_0 _ _ _) rfl rfl dX2_writeTub_17 (by decide) (Nat.le_of_eq (Nat.zero_add _)) (Nat.le_of_ble_eq_true rfl) ?_
    obtain ⟨m9, hm9, em9⟩ := sm_ex (p := fun f => inTub (m_now ms) f t) (nF (m_now ms))
    have hx9 : ix (manyT (m_now ms) t) = m9 := by rw [show manyT (m_now ms) t = nI m9 from em9]; exact ixn (by omega)
    refine A_int (w := nI m9) (em9) ?_
    refine A_istore_n (i := 2) dX2_writeTub_20 rfl (Nat.le_of_ble_eq_true rfl) ?_
    refine A_iconst (v := 0) dX2_writeTub_21 (by decide) ?_
    refine A_istore_n (i := 3) dX2_writeTub_22 rfl (Nat.le_of_ble_eq_true rfl) ?_
    refine A_sub (L' := [(0, .ref b9), (1, .int t), (2, .int (nI m9)), (3, .int (nI 0))]) ⟨rfl, rfl, rfl, rfl, trivial⟩ ?_
    refine A_for m9 (fun i23 => 0) (fun i23 => [(0, .ref b9), (1, .int t), (2, .int (nI m9)), (3, .int (nI i23))]) (fun i23 => mc b9 (⟨mayT (m_is ms) (bi (okT (m_is ms) (m_now ms) t)) 1, m_is ms, m_um ms, m_bd ms, m_pc ms, m_pa ms, m_sz ms, m_cu ms, m_st ms, m_tk ms, m_to ms, nI (txT (m_now ms) t i23).length, m_now ms, m_asd ms, m_und ms, m_sav ms, m_isv ms, m_buf ms, m_grp ms, pgA (m_pag ms) (txT (m_now ms) t i23)⟩ : MM) σ0) (fun i23 => True) trivial (fun i23 hi23 hI23 ih23 => ?_) (fun hI23 => ?_)
    · skip
      refine A_iload_n (i := 3) dX2_writeTub_23 rfl rfl ?_
      refine A_iload_n (i := 2) dX2_writeTub_24 rfl rfl ?_
      refine A_icmp_ge_f (tgt := 54) dX2_writeTub_25 (by decide) (br_lt rfl hi23 (by omega)) ?_
      have hl := txT_le (m_now ms) t i23
      have hn := numI_le (flagInN (m_now ms) t (nI i23))
      refine A_iload_n (i := 3) dX2_writeTub_28 rfl rfl ?_
      refine A_if_le (tgt := 38) dX2_writeTub_29 (by decide) (fun c2 => ?_) (fun c2 => ?_)
      · skip
        refine A_aload_n (i := 0) dX2_writeTub_38 rfl rfl ?_
        refine A_aload_n (i := 0) dX2_writeTub_39 rfl rfl ?_
        refine A_iload_n (i := 1) dX2_writeTub_40 rfl rfl ?_
        refine A_iload_n (i := 3) dX2_writeTub_41 rfl rfl ?_
        refine A_callV2E (v := some (.int (flagInN (m_now ms) t (nI i23)))) (τ := mc b9 (⟨mayT (m_is ms) (bi (okT (m_is ms) (m_now ms) t)) 1, m_is ms, m_um ms, m_bd ms, m_pc ms, m_pa ms, m_sz ms, m_cu ms, m_st ms, m_tk ms, m_to ms, nI (txT (m_now ms) t i23).length, m_now ms, m_asd ms, m_und ms, m_sav ms, m_isv ms, m_buf ms, m_grp ms, pgA (m_pag ms) (txT (m_now ms) t i23)⟩ : MM) σ0) (c_flagIn b9 (⟨mayT (m_is ms) (bi (okT (m_is ms) (m_now ms) t)) 1, m_is ms, m_um ms, m_bd ms, m_pc ms, m_pa ms, m_sz ms, m_cu ms, m_st ms, m_tk ms, m_to ms, nI (txT (m_now ms) t i23).length, m_now ms, m_asd ms, m_und ms, m_sav ms, m_isv ms, m_buf ms, m_grp ms, pgA (m_pag ms) (txT (m_now ms) t i23)⟩ : MM) σ0 t (nI i23) (by first | assumption | omega)) tX2_flagIn q2653 (mc_0 _ _ _) rfl rfl dX2_writeTub_42 (by decide) (Nat.le_of_eq (Nat.zero_add _)) (Nat.le_of_ble_eq_true rfl) ?_
        refine A_callV1E (v := none) (τ := mc b9 (⟨mayT (m_is ms) (bi (okT (m_is ms) (m_now ms) t)) 1, m_is ms, m_um ms, m_bd ms, m_pc ms, m_pa ms, m_sz ms, m_cu ms, m_st ms, m_tk ms, m_to ms, nI ((txT (m_now ms) t i23) ++ numI (flagInN (m_now ms) t (nI i23))).length, m_now ms, m_asd ms, m_und ms, m_sav ms, m_isv ms, m_buf ms, m_grp ms, pgA (m_pag ms) ((txT (m_now ms) t i23) ++ numI (flagInN (m_now ms) t (nI i23)))⟩ : MM) σ0) (c_writesNumber b9 (⟨mayT (m_is ms) (bi (okT (m_is ms) (m_now ms) t)) 1, m_is ms, m_um ms, m_bd ms, m_pc ms, m_pa ms, m_sz ms, m_cu ms, m_st ms, m_tk ms, m_to ms, nI (txT (m_now ms) t i23).length, m_now ms, m_asd ms, m_und ms, m_sav ms, m_isv ms, m_buf ms, m_grp ms, pgA (m_pag ms) (txT (m_now ms) t i23)⟩ : MM) σ0 (m_pag ms) (txT (m_now ms) t i23) (flagInN (m_now ms) t (nI i23)) (by first | assumption | omega | (simp; omega) | (simp [nl]; omega))) tX2_writesNumber q2871 (mc_0 _ _ _) rfl rfl dX2_writeTub_45 (by decide) (Nat.le_of_eq (Nat.zero_add _)) (Nat.le_of_ble_eq_true rfl) ?_
        refine A_iinc (v := nI (i23 + 1)) dX2_writeTub_48 rfl (nI_inc _ _) (Nat.le_of_ble_eq_true rfl) ?_
        refine A_goto (tgt := 23) dX2_writeTub_51 (by decide) ?_
        refine A_sub (L' := [(0, .ref b9), (1, .int t), (2, .int (nI m9)), (3, .int (nI (i23 + 1)))]) ⟨rfl, rfl, rfl, rfl, trivial⟩ ?_
        refine A_st (σ' := mc b9 (⟨mayT (m_is ms) (bi (okT (m_is ms) (m_now ms) t)) 1, m_is ms, m_um ms, m_bd ms, m_pc ms, m_pa ms, m_sz ms, m_cu ms, m_st ms, m_tk ms, m_to ms, nI (txT (m_now ms) t (i23 + 1)).length, m_now ms, m_asd ms, m_und ms, m_sav ms, m_isv ms, m_buf ms, m_grp ms, pgA (m_pag ms) (txT (m_now ms) t (i23 + 1))⟩ : MM) σ0) (by rw [txT_s, if_pos (le0_n (by omega) c2)]) ?_
        exact ih23 trivial
      · skip
        refine A_aload_n (i := 0) dX2_writeTub_32 rfl rfl ?_
        refine A_bipush (v := 44) dX2_writeTub_33 (by decide) ?_
        refine A_callV1E (v := none) (τ := mc b9 (⟨mayT (m_is ms) (bi (okT (m_is ms) (m_now ms) t)) 1, m_is ms, m_um ms, m_bd ms, m_pc ms, m_pa ms, m_sz ms, m_cu ms, m_st ms, m_tk ms, m_to ms, nI ((txT (m_now ms) t i23) ++ [b8 44]).length, m_now ms, m_asd ms, m_und ms, m_sav ms, m_isv ms, m_buf ms, m_grp ms, pgA (m_pag ms) ((txT (m_now ms) t i23) ++ [b8 44])⟩ : MM) σ0) (c_writesByte b9 (⟨mayT (m_is ms) (bi (okT (m_is ms) (m_now ms) t)) 1, m_is ms, m_um ms, m_bd ms, m_pc ms, m_pa ms, m_sz ms, m_cu ms, m_st ms, m_tk ms, m_to ms, nI (txT (m_now ms) t i23).length, m_now ms, m_asd ms, m_und ms, m_sav ms, m_isv ms, m_buf ms, m_grp ms, pgA (m_pag ms) (txT (m_now ms) t i23)⟩ : MM) σ0 (m_pag ms) (txT (m_now ms) t i23) 44 (by first | assumption | omega | (simp; omega) | (simp [nl]; omega))) tX2_writesByte q2867 (mc_0 _ _ _) rfl rfl dX2_writeTub_35 (by decide) (Nat.le_of_eq (Nat.zero_add _)) (Nat.le_of_ble_eq_true rfl) ?_
        refine A_aload_n (i := 0) dX2_writeTub_38 rfl rfl ?_
        refine A_aload_n (i := 0) dX2_writeTub_39 rfl rfl ?_
        refine A_iload_n (i := 1) dX2_writeTub_40 rfl rfl ?_
        refine A_iload_n (i := 3) dX2_writeTub_41 rfl rfl ?_
        refine A_callV2E (v := some (.int (flagInN (m_now ms) t (nI i23)))) (τ := mc b9 (⟨mayT (m_is ms) (bi (okT (m_is ms) (m_now ms) t)) 1, m_is ms, m_um ms, m_bd ms, m_pc ms, m_pa ms, m_sz ms, m_cu ms, m_st ms, m_tk ms, m_to ms, nI ((txT (m_now ms) t i23) ++ [b8 44]).length, m_now ms, m_asd ms, m_und ms, m_sav ms, m_isv ms, m_buf ms, m_grp ms, pgA (m_pag ms) ((txT (m_now ms) t i23) ++ [b8 44])⟩ : MM) σ0) (c_flagIn b9 (⟨mayT (m_is ms) (bi (okT (m_is ms) (m_now ms) t)) 1, m_is ms, m_um ms, m_bd ms, m_pc ms, m_pa ms, m_sz ms, m_cu ms, m_st ms, m_tk ms, m_to ms, nI ((txT (m_now ms) t i23) ++ [b8 44]).length, m_now ms, m_asd ms, m_und ms, m_sav ms, m_isv ms, m_buf ms, m_grp ms, pgA (m_pag ms) ((txT (m_now ms) t i23) ++ [b8 44])⟩ : MM) σ0 t (nI i23) (by first | assumption | omega)) tX2_flagIn q2653 (mc_0 _ _ _) rfl rfl dX2_writeTub_42 (by decide) (Nat.le_of_eq (Nat.zero_add _)) (Nat.le_of_ble_eq_true rfl) ?_
        refine A_callV1E (v := none) (τ := mc b9 (⟨mayT (m_is ms) (bi (okT (m_is ms) (m_now ms) t)) 1, m_is ms, m_um ms, m_bd ms, m_pc ms, m_pa ms, m_sz ms, m_cu ms, m_st ms, m_tk ms, m_to ms, nI (((txT (m_now ms) t i23) ++ [b8 44]) ++ numI (flagInN (m_now ms) t (nI i23))).length, m_now ms, m_asd ms, m_und ms, m_sav ms, m_isv ms, m_buf ms, m_grp ms, pgA (m_pag ms) (((txT (m_now ms) t i23) ++ [b8 44]) ++ numI (flagInN (m_now ms) t (nI i23)))⟩ : MM) σ0) (c_writesNumber b9 (⟨mayT (m_is ms) (bi (okT (m_is ms) (m_now ms) t)) 1, m_is ms, m_um ms, m_bd ms, m_pc ms, m_pa ms, m_sz ms, m_cu ms, m_st ms, m_tk ms, m_to ms, nI ((txT (m_now ms) t i23) ++ [b8 44]).length, m_now ms, m_asd ms, m_und ms, m_sav ms, m_isv ms, m_buf ms, m_grp ms, pgA (m_pag ms) ((txT (m_now ms) t i23) ++ [b8 44])⟩ : MM) σ0 (m_pag ms) ((txT (m_now ms) t i23) ++ [b8 44]) (flagInN (m_now ms) t (nI i23)) (by first | assumption | omega | (simp; omega) | (simp [nl]; omega))) tX2_writesNumber q2871 (mc_0 _ _ _) rfl rfl dX2_writeTub_45 (by decide) (Nat.le_of_eq (Nat.zero_add _)) (Nat.le_of_ble_eq_true rfl) ?_
        refine A_iinc (v := nI (i23 + 1)) dX2_writeTub_48 rfl (nI_inc _ _) (Nat.le_of_ble_eq_true rfl) ?_
        refine A_goto (tgt := 23) dX2_writeTub_51 (by decide) ?_
        refine A_sub (L' := [(0, .ref b9), (1, .int t), (2, .int (nI m9)), (3, .int (nI (i23 + 1)))]) ⟨rfl, rfl, rfl, rfl, trivial⟩ ?_
        refine A_st (σ' := mc b9 (⟨mayT (m_is ms) (bi (okT (m_is ms) (m_now ms) t)) 1, m_is ms, m_um ms, m_bd ms, m_pc ms, m_pa ms, m_sz ms, m_cu ms, m_st ms, m_tk ms, m_to ms, nI (txT (m_now ms) t (i23 + 1)).length, m_now ms, m_asd ms, m_und ms, m_sav ms, m_isv ms, m_buf ms, m_grp ms, pgA (m_pag ms) (txT (m_now ms) t (i23 + 1))⟩ : MM) σ0) (by rw [txT_s, if_neg (gt0_n c2)]) ?_
        exact ih23 trivial
    · skip
      refine A_iload_n (i := 3) dX2_writeTub_23 rfl rfl ?_
      refine A_iload_n (i := 2) dX2_writeTub_24 rfl rfl ?_
      refine A_icmp_ge_t (tgt := 54) dX2_writeTub_25 (by decide) (br_ge rfl) ?_
      have hl := txT_le (m_now ms) t m9
      refine A_iload_n (i := 2) dX2_writeTub_54 rfl rfl ?_
      refine A_if_ne (tgt := 64) dX2_writeTub_55 (by decide) (fun c3 => ?_) (fun c3 => ?_)
      · skip
        refine A_aload_n (i := 0) dX2_writeTub_64 rfl rfl ?_
        refine M_get 19 (v := .int (nI (txT (m_now ms) t m9).length)) (Nat.le_of_ble_eq_true rfl) q2248 rfl dX2_writeTub_65 ?_
        exact A_iret dX2_writeTub_68 rfl ⟨by rw [gd, if_pos c1, hx9, orDash, if_neg (txT_ne (ne0_n c3))], by simp only [gq_t c1, hx9, orDash, if_neg (txT_ne (ne0_n c3))] <;> rfl⟩
      · skip
        refine A_aload_n (i := 0) dX2_writeTub_58 rfl rfl ?_
        refine A_bipush (v := 45) dX2_writeTub_59 (by decide) ?_
        refine A_callV1E (v := none) (τ := mc b9 (⟨mayT (m_is ms) (bi (okT (m_is ms) (m_now ms) t)) 1, m_is ms, m_um ms, m_bd ms, m_pc ms, m_pa ms, m_sz ms, m_cu ms, m_st ms, m_tk ms, m_to ms, nI ((txT (m_now ms) t m9) ++ [b8 45]).length, m_now ms, m_asd ms, m_und ms, m_sav ms, m_isv ms, m_buf ms, m_grp ms, pgA (m_pag ms) ((txT (m_now ms) t m9) ++ [b8 45])⟩ : MM) σ0) (c_writesByte b9 (⟨mayT (m_is ms) (bi (okT (m_is ms) (m_now ms) t)) 1, m_is ms, m_um ms, m_bd ms, m_pc ms, m_pa ms, m_sz ms, m_cu ms, m_st ms, m_tk ms, m_to ms, nI (txT (m_now ms) t m9).length, m_now ms, m_asd ms, m_und ms, m_sav ms, m_isv ms, m_buf ms, m_grp ms, pgA (m_pag ms) (txT (m_now ms) t m9)⟩ : MM) σ0 (m_pag ms) (txT (m_now ms) t m9) 45 (by first | assumption | omega | (simp; omega) | (simp [nl]; omega))) tX2_writesByte q2867 (mc_0 _ _ _) rfl rfl dX2_writeTub_61 (by decide) (Nat.le_of_eq (Nat.zero_add _)) (Nat.le_of_ble_eq_true rfl) ?_
        refine A_aload_n (i := 0) dX2_writeTub_64 rfl rfl ?_
        refine M_get 19 (v := .int (nI ((txT (m_now ms) t m9) ++ [b8 45]).length)) (Nat.le_of_ble_eq_true rfl) q2248 rfl dX2_writeTub_65 ?_
        exact A_iret dX2_writeTub_68 rfl ⟨by rw [gd, if_pos c1, hx9, orDash, if_pos (txT_0 (eq0_n (by omega) c3))], by simp only [gq_t c1, hx9, orDash, if_pos (txT_0 (eq0_n (by omega) c3))] <;> rfl⟩
  · skip
    have c1 := bi_eq0.mp c1
    refine A_iconst (v := 0) dX2_writeTub_8 (by decide) ?_
    exact A_iret dX2_writeTub_9 rfl ⟨by rw [gd, if_neg c1], by simp only [gq_f c1]⟩
theorem c_writeLine {l : Launch} {g : GC} (b9 : Nat) (ms : MM) (σ0 : AH)  (h1 : WFc (m_now ms)) : AMet l g mX2_writeLine 4 0 [.ref b9] (mc b9 ms σ0) (A_eq (some (.int (gd (mayT (m_is ms) 1 1) (nI (txL (m_now ms) (nP (m_now ms))).length)))) (mc b9 (⟨mayT (m_is ms) 1 1, m_is ms, m_um ms, m_bd ms, m_pc ms, m_pa ms, m_sz ms, m_cu ms, m_st ms, m_tk ms, m_to ms, gq (mayT (m_is ms) 1 1) (nI (txL (m_now ms) (nP (m_now ms))).length) (m_ps ms), m_now ms, m_asd ms, m_und ms, m_sav ms, m_isv ms, m_buf ms, m_grp ms, gq (mayT (m_is ms) 1 1) (pgA (m_pag ms) (txL (m_now ms) (nP (m_now ms)))) (m_pag ms)⟩ : MM) σ0)) A_no := by
  refine A_of rfl (by decide) (Nat.le_of_ble_eq_true rfl) (L0 := [(0, .ref b9)]) rfl ?_
  have hF := h1.2.2.2.2.2
  have hC := h1.1.2
  have hP := h1.2.2.2.1.2
  refine A_aload_n (i := 0) dX2_writeLine_0 rfl rfl ?_
  refine A_callV0E (v := some (.int (bi (mayT (m_is ms) 1 1 = 0)))) (τ := mc b9 (⟨mayT (m_is ms) 1 1, m_is ms, m_um ms, m_bd ms, m_pc ms, m_pa ms, m_sz ms, m_cu ms, m_st ms, m_tk ms, m_to ms, m_ps ms, m_now ms, m_asd ms, m_und ms, m_sav ms, m_isv ms, m_buf ms, m_grp ms, m_pag ms⟩ : MM) σ0) (c_mayLook b9 ms σ0) tX2_mayLook q2669 (mc_0 _ _ _) rfl rfl dX2_writeLine_1 (by decide) (Nat.le_of_eq (Nat.zero_add _)) (Nat.le_of_ble_eq_true rfl) ?_
  refine A_if_ne (tgt := 9) dX2_writeLine_4 (by decide) (fun c1 => ?_) (fun c1 => ?_)
  · skip
    have c1 := bi_ne0.mp c1
    refine A_aload_n (i := 0) dX2_writeLine_9 rfl rfl ?_
    refine A_iconst (v := 0) dX2_writeLine_10 (by decide) ?_
    refine M_putT_ps q2248 rfl dX2_writeLine_11 ?_
    refine A_st (σ' := mc b9 (⟨mayT (m_is ms) 1 1, m_is ms, m_um ms, m_bd ms, m_pc ms, m_pa ms, m_sz ms, m_cu ms, m_st ms, m_tk ms, m_to ms, nI nl.length, m_now ms, m_asd ms, m_und ms, m_sav ms, m_isv ms, m_buf ms, m_grp ms, pgA (m_pag ms) nl⟩ : MM) σ0) (by rw [pgA_nil] <;> rfl) ?_
    refine A_iconst (v := 0) dX2_writeLine_14 (by decide) ?_
    refine A_istore_n (i := 1) dX2_writeLine_15 rfl (Nat.le_of_ble_eq_true rfl) ?_
    refine A_sub (L' := [(0, .ref b9), (1, .int (nI 0))]) ⟨rfl, rfl, trivial⟩ ?_
    refine A_for (nP (m_now ms)) (fun i16 => 0) (fun i16 => [(0, .ref b9), (1, .int (nI i16))]) (fun i16 => mc b9 (⟨mayT (m_is ms) 1 1, m_is ms, m_um ms, m_bd ms, m_pc ms, m_pa ms, m_sz ms, m_cu ms, m_st ms, m_tk ms, m_to ms, nI (txL (m_now ms) i16).length, m_now ms, m_asd ms, m_und ms, m_sav ms, m_isv ms, m_buf ms, m_grp ms, pgA (m_pag ms) (txL (m_now ms) i16)⟩ : MM) σ0) (fun i16 => True) trivial (fun i16 hi16 hI16 ih16 => ?_) (fun hI16 => ?_)
    · skip
      refine A_iload_n (i := 1) dX2_writeLine_16 rfl rfl ?_
      refine A_aload_n (i := 0) dX2_writeLine_17 rfl rfl ?_
      refine M_get 1 (v := .ref (b9 + 1)) (Nat.le_of_ble_eq_true rfl) q2230 rfl dX2_writeLine_18 ?_
      refine A_bipush (v := 9) dX2_writeLine_21 (by decide) ?_
      refine M_ald1 (n := 9) (v := m_now ms 9) (rfl) (by decide) (rfl) dX2_writeLine_23 ?_
      refine A_icmp_ge_f (tgt := 70) dX2_writeLine_24 (by decide) (br_lt h1.2.2.2.1.1 hi16 (by omega)) ?_
      have hl := txL_le (m_now ms) i16
      have hn := numI_le (flagOnN (m_now ms) (nI i16))
      refine A_iload_n (i := 1) dX2_writeLine_27 rfl rfl ?_
      refine A_if_le (tgt := 37) dX2_writeLine_28 (by decide) (fun c2 => ?_) (fun c2 => ?_)
      · skip
        refine A_aload_n (i := 0) dX2_writeLine_37 rfl rfl ?_
        refine A_iload_n (i := 1) dX2_writeLine_38 rfl rfl ?_
        refine A_callV1E (v := some (.int (flagOnN (m_now ms) (nI i16)))) (τ := mc b9 (⟨mayT (m_is ms) 1 1, m_is ms, m_um ms, m_bd ms, m_pc ms, m_pa ms, m_sz ms, m_cu ms, m_st ms, m_tk ms, m_to ms, nI (txL (m_now ms) i16).length, m_now ms, m_asd ms, m_und ms, m_sav ms, m_isv ms, m_buf ms, m_grp ms, pgA (m_pag ms) (txL (m_now ms) i16)⟩ : MM) σ0) (c_flagOn b9 (⟨mayT (m_is ms) 1 1, m_is ms, m_um ms, m_bd ms, m_pc ms, m_pa ms, m_sz ms, m_cu ms, m_st ms, m_tk ms, m_to ms, nI (txL (m_now ms) i16).length, m_now ms, m_asd ms, m_und ms, m_sav ms, m_isv ms, m_buf ms, m_grp ms, pgA (m_pag ms) (txL (m_now ms) i16)⟩ : MM) σ0 (nI i16) (by first | assumption | omega)) tX2_flagOn q2523 (mc_0 _ _ _) rfl rfl dX2_writeLine_39 (by decide) (Nat.le_of_eq (Nat.zero_add _)) (Nat.le_of_ble_eq_true rfl) ?_
        refine A_iconst (v := (-1)) dX2_writeLine_42 (by decide) ?_
        refine A_icmp_ne (tgt := 55) dX2_writeLine_43 (by decide) (fun c3 => ?_) (fun c3 => ?_)
        · skip
          refine A_aload_n (i := 0) dX2_writeLine_55 rfl rfl ?_
          refine A_aload_n (i := 0) dX2_writeLine_56 rfl rfl ?_
          refine A_iload_n (i := 1) dX2_writeLine_57 rfl rfl ?_
          refine A_callV1E (v := some (.int (flagOnN (m_now ms) (nI i16)))) (τ := mc b9 (⟨mayT (m_is ms) 1 1, m_is ms, m_um ms, m_bd ms, m_pc ms, m_pa ms, m_sz ms, m_cu ms, m_st ms, m_tk ms, m_to ms, nI (txL (m_now ms) i16).length, m_now ms, m_asd ms, m_und ms, m_sav ms, m_isv ms, m_buf ms, m_grp ms, pgA (m_pag ms) (txL (m_now ms) i16)⟩ : MM) σ0) (c_flagOn b9 (⟨mayT (m_is ms) 1 1, m_is ms, m_um ms, m_bd ms, m_pc ms, m_pa ms, m_sz ms, m_cu ms, m_st ms, m_tk ms, m_to ms, nI (txL (m_now ms) i16).length, m_now ms, m_asd ms, m_und ms, m_sav ms, m_isv ms, m_buf ms, m_grp ms, pgA (m_pag ms) (txL (m_now ms) i16)⟩ : MM) σ0 (nI i16) (by first | assumption | omega)) tX2_flagOn q2523 (mc_0 _ _ _) rfl rfl dX2_writeLine_58 (by decide) (Nat.le_of_eq (Nat.zero_add _)) (Nat.le_of_ble_eq_true rfl) ?_
          refine A_callV1E (v := none) (τ := mc b9 (⟨mayT (m_is ms) 1 1, m_is ms, m_um ms, m_bd ms, m_pc ms, m_pa ms, m_sz ms, m_cu ms, m_st ms, m_tk ms, m_to ms, nI ((txL (m_now ms) i16) ++ numI (flagOnN (m_now ms) (nI i16))).length, m_now ms, m_asd ms, m_und ms, m_sav ms, m_isv ms, m_buf ms, m_grp ms, pgA (m_pag ms) ((txL (m_now ms) i16) ++ numI (flagOnN (m_now ms) (nI i16)))⟩ : MM) σ0) (c_writesNumber b9 (⟨mayT (m_is ms) 1 1, m_is ms, m_um ms, m_bd ms, m_pc ms, m_pa ms, m_sz ms, m_cu ms, m_st ms, m_tk ms, m_to ms, nI (txL (m_now ms) i16).length, m_now ms, m_asd ms, m_und ms, m_sav ms, m_isv ms, m_buf ms, m_grp ms, pgA (m_pag ms) (txL (m_now ms) i16)⟩ : MM) σ0 (m_pag ms) (txL (m_now ms) i16) (flagOnN (m_now ms) (nI i16)) (by first | assumption | omega | (simp; omega) | (simp [nl]; omega))) tX2_writesNumber q2871 (mc_0 _ _ _) rfl rfl dX2_writeLine_61 (by decide) (Nat.le_of_eq (Nat.zero_add _)) (Nat.le_of_ble_eq_true rfl) ?_
          refine A_iinc (v := nI (i16 + 1)) dX2_writeLine_64 rfl (nI_inc _ _) (Nat.le_of_ble_eq_true rfl) ?_
          refine A_goto (tgt := 16) dX2_writeLine_67 (by decide) ?_
          refine A_sub (L' := [(0, .ref b9), (1, .int (nI (i16 + 1)))]) ⟨rfl, rfl, trivial⟩ ?_
          refine A_st (σ' := mc b9 (⟨mayT (m_is ms) 1 1, m_is ms, m_um ms, m_bd ms, m_pc ms, m_pa ms, m_sz ms, m_cu ms, m_st ms, m_tk ms, m_to ms, nI (txL (m_now ms) (i16 + 1)).length, m_now ms, m_asd ms, m_und ms, m_sav ms, m_isv ms, m_buf ms, m_grp ms, pgA (m_pag ms) (txL (m_now ms) (i16 + 1))⟩ : MM) σ0) (by rw [txL_s, if_pos (le0_n (by omega) c2), if_neg c3]) ?_
          exact ih16 trivial
        · skip
          refine A_aload_n (i := 0) dX2_writeLine_46 rfl rfl ?_
          refine A_bipush (v := 46) dX2_writeLine_47 (by decide) ?_
          refine A_callV1E (v := none) (τ := mc b9 (⟨mayT (m_is ms) 1 1, m_is ms, m_um ms, m_bd ms, m_pc ms, m_pa ms, m_sz ms, m_cu ms, m_st ms, m_tk ms, m_to ms, nI ((txL (m_now ms) i16) ++ [b8 46]).length, m_now ms, m_asd ms, m_und ms, m_sav ms, m_isv ms, m_buf ms, m_grp ms, pgA (m_pag ms) ((txL (m_now ms) i16) ++ [b8 46])⟩ : MM) σ0) (c_writesByte b9 (⟨mayT (m_is ms) 1 1, m_is ms, m_um ms, m_bd ms, m_pc ms, m_pa ms, m_sz ms, m_cu ms, m_st ms, m_tk ms, m_to ms, nI (txL (m_now ms) i16).length, m_now ms, m_asd ms, m_und ms, m_sav ms, m_isv ms, m_buf ms, m_grp ms, pgA (m_pag ms) (txL (m_now ms) i16)⟩ : MM) σ0 (m_pag ms) (txL (m_now ms) i16) 46 (by first | assumption | omega | (simp; omega) | (simp [nl]; omega))) tX2_writesByte q2867 (mc_0 _ _ _) rfl rfl dX2_writeLine_49 (by decide) (Nat.le_of_eq (Nat.zero_add _)) (Nat.le_of_ble_eq_true rfl) ?_
          refine A_goto (tgt := 64) dX2_writeLine_52 (by decide) ?_
          refine A_iinc (v := nI (i16 + 1)) dX2_writeLine_64 rfl (nI_inc _ _) (Nat.le_of_ble_eq_true rfl) ?_
          refine A_goto (tgt := 16) dX2_writeLine_67 (by decide) ?_
          refine A_sub (L' := [(0, .ref b9), (1, .int (nI (i16 + 1)))]) ⟨rfl, rfl, trivial⟩ ?_
          refine A_st (σ' := mc b9 (⟨mayT (m_is ms) 1 1, m_is ms, m_um ms, m_bd ms, m_pc ms, m_pa ms, m_sz ms, m_cu ms, m_st ms, m_tk ms, m_to ms, nI (txL (m_now ms) (i16 + 1)).length, m_now ms, m_asd ms, m_und ms, m_sav ms, m_isv ms, m_buf ms, m_grp ms, pgA (m_pag ms) (txL (m_now ms) (i16 + 1))⟩ : MM) σ0) (by rw [txL_s, if_pos (le0_n (by omega) c2), if_pos c3]) ?_
          exact ih16 trivial
      · skip
        refine A_aload_n (i := 0) dX2_writeLine_31 rfl rfl ?_
        refine A_bipush (v := 47) dX2_writeLine_32 (by decide) ?_
        refine A_callV1E (v := none) (τ := mc b9 (⟨mayT (m_is ms) 1 1, m_is ms, m_um ms, m_bd ms, m_pc ms, m_pa ms, m_sz ms, m_cu ms, m_st ms, m_tk ms, m_to ms, nI ((txL (m_now ms) i16) ++ [b8 47]).length, m_now ms, m_asd ms, m_und ms, m_sav ms, m_isv ms, m_buf ms, m_grp ms, pgA (m_pag ms) ((txL (m_now ms) i16) ++ [b8 47])⟩ : MM) σ0) (c_writesByte b9 (⟨mayT (m_is ms) 1 1, m_is ms, m_um ms, m_bd ms, m_pc ms, m_pa ms, m_sz ms, m_cu ms, m_st ms, m_tk ms, m_to ms, nI (txL (m_now ms) i16).length, m_now ms, m_asd ms, m_und ms, m_sav ms, m_isv ms, m_buf ms, m_grp ms, pgA (m_pag ms) (txL (m_now ms) i16)⟩ : MM) σ0 (m_pag ms) (txL (m_now ms) i16) 47 (by first | assumption | omega | (simp; omega) | (simp [nl]; omega))) tX2_writesByte q2867 (mc_0 _ _ _) rfl rfl dX2_writeLine_34 (by decide) (Nat.le_of_eq (Nat.zero_add _)) (Nat.le_of_ble_eq_true rfl) ?_
        refine A_aload_n (i := 0) dX2_writeLine_37 rfl rfl ?_
        refine A_iload_n (i := 1) dX2_writeLine_38 rfl rfl ?_
        refine A_callV1E (v := some (.int (flagOnN (m_now ms) (nI i16)))) (τ := mc b9 (⟨mayT (m_is ms) 1 1, m_is ms, m_um ms, m_bd ms, m_pc ms, m_pa ms, m_sz ms, m_cu ms, m_st ms, m_tk ms, m_to ms, nI ((txL (m_now ms) i16) ++ [b8 47]).length, m_now ms, m_asd ms, m_und ms, m_sav ms, m_isv ms, m_buf ms, m_grp ms, pgA (m_pag ms) ((txL (m_now ms) i16) ++ [b8 47])⟩ : MM) σ0) (c_flagOn b9 (⟨mayT (m_is ms) 1 1, m_is ms, m_um ms, m_bd ms, m_pc ms, m_pa ms, m_sz ms, m_cu ms, m_st ms, m_tk ms, m_to ms, nI ((txL (m_now ms) i16) ++ [b8 47]).length, m_now ms, m_asd ms, m_und ms, m_sav ms, m_isv ms, m_buf ms, m_grp ms, pgA (m_pag ms) ((txL (m_now ms) i16) ++ [b8 47])⟩ : MM) σ0 (nI i16) (by first | assumption | omega)) tX2_flagOn q2523 (mc_0 _ _ _) rfl rfl dX2_writeLine_39 (by decide) (Nat.le_of_eq (Nat.zero_add _)) (Nat.le_of_ble_eq_true rfl) ?_
        refine A_iconst (v := (-1)) dX2_writeLine_42 (by decide) ?_
        refine A_icmp_ne (tgt := 55) dX2_writeLine_43 (by decide) (fun c4 => ?_) (fun c4 => ?_)
        · skip
          refine A_aload_n (i := 0) dX2_writeLine_55 rfl rfl ?_
          refine A_aload_n (i := 0) dX2_writeLine_56 rfl rfl ?_
          refine A_iload_n (i := 1) dX2_writeLine_57 rfl rfl ?_
          refine A_callV1E (v := some (.int (flagOnN (m_now ms) (nI i16)))) (τ := mc b9 (⟨mayT (m_is ms) 1 1, m_is ms, m_um ms, m_bd ms, m_pc ms, m_pa ms, m_sz ms, m_cu ms, m_st ms, m_tk ms, m_to ms, nI ((txL (m_now ms) i16) ++ [b8 47]).length, m_now ms, m_asd ms, m_und ms, m_sav ms, m_isv ms, m_buf ms, m_grp ms, pgA (m_pag ms) ((txL (m_now ms) i16) ++ [b8 47])⟩ : MM) σ0) (c_flagOn b9 (⟨mayT (m_is ms) 1 1, m_is ms, m_um ms, m_bd ms, m_pc ms, m_pa ms, m_sz ms, m_cu ms, m_st ms, m_tk ms, m_to ms, nI ((txL (m_now ms) i16) ++ [b8 47]).length, m_now ms, m_asd ms, m_und ms, m_sav ms, m_isv ms, m_buf ms, m_grp ms, pgA (m_pag ms) ((txL (m_now ms) i16) ++ [b8 47])⟩ : MM) σ0 (nI i16) (by first | assumption | omega)) tX2_flagOn q2523 (mc_0 _ _ _) rfl rfl dX2_writeLine_58 (by decide) (Nat.le_of_eq (Nat.zero_add _)) (Nat.le_of_ble_eq_true rfl) ?_
          refine A_callV1E (v := none) (τ := mc b9 (⟨mayT (m_is ms) 1 1, m_is ms, m_um ms, m_bd ms, m_pc ms, m_pa ms, m_sz ms, m_cu ms, m_st ms, m_tk ms, m_to ms, nI (((txL (m_now ms) i16) ++ [b8 47]) ++ numI (flagOnN (m_now ms) (nI i16))).length, m_now ms, m_asd ms, m_und ms, m_sav ms, m_isv ms, m_buf ms, m_grp ms, pgA (m_pag ms) (((txL (m_now ms) i16) ++ [b8 47]) ++ numI (flagOnN (m_now ms) (nI i16)))⟩ : MM) σ0) (c_writesNumber b9 (⟨mayT (m_is ms) 1 1, m_is ms, m_um ms, m_bd ms, m_pc ms, m_pa ms, m_sz ms, m_cu ms, m_st ms, m_tk ms, m_to ms, nI ((txL (m_now ms) i16) ++ [b8 47]).length, m_now ms, m_asd ms, m_und ms, m_sav ms, m_isv ms, m_buf ms, m_grp ms, pgA (m_pag ms) ((txL (m_now ms) i16) ++ [b8 47])⟩ : MM) σ0 (m_pag ms) ((txL (m_now ms) i16) ++ [b8 47]) (flagOnN (m_now ms) (nI i16)) (by first | assumption | omega | (simp; omega) | (simp [nl]; omega))) tX2_writesNumber q2871 (mc_0 _ _ _) rfl rfl dX2_writeLine_61 (by decide) (Nat.le_of_eq (Nat.zero_add _)) (Nat.le_of_ble_eq_true rfl) ?_
          refine A_iinc (v := nI (i16 + 1)) dX2_writeLine_64 rfl (nI_inc _ _) (Nat.le_of_ble_eq_true rfl) ?_
          refine A_goto (tgt := 16) dX2_writeLine_67 (by decide) ?_
          refine A_sub (L' := [(0, .ref b9), (1, .int (nI (i16 + 1)))]) ⟨rfl, rfl, trivial⟩ ?_
          refine A_st (σ' := mc b9 (⟨mayT (m_is ms) 1 1, m_is ms, m_um ms, m_bd ms, m_pc ms, m_pa ms, m_sz ms, m_cu ms, m_st ms, m_tk ms, m_to ms, nI (txL (m_now ms) (i16 + 1)).length, m_now ms, m_asd ms, m_und ms, m_sav ms, m_isv ms, m_buf ms, m_grp ms, pgA (m_pag ms) (txL (m_now ms) (i16 + 1))⟩ : MM) σ0) (by rw [txL_s, if_neg (gt0_n c2), if_neg c4]) ?_
          exact ih16 trivial
        · skip
          refine A_aload_n (i := 0) dX2_writeLine_46 rfl rfl ?_
          refine A_bipush (v := 46) dX2_writeLine_47 (by decide) ?_
          refine A_callV1E (v := none) (τ := mc b9 (⟨mayT (m_is ms) 1 1, m_is ms, m_um ms, m_bd ms, m_pc ms, m_pa ms, m_sz ms, m_cu ms, m_st ms, m_tk ms, m_to ms, nI (((txL (m_now ms) i16) ++ [b8 47]) ++ [b8 46]).length, m_now ms, m_asd ms, m_und ms, m_sav ms, m_isv ms, m_buf ms, m_grp ms, pgA (m_pag ms) (((txL (m_now ms) i16) ++ [b8 47]) ++ [b8 46])⟩ : MM) σ0) (c_writesByte b9 (⟨mayT (m_is ms) 1 1, m_is ms, m_um ms, m_bd ms, m_pc ms, m_pa ms, m_sz ms, m_cu ms, m_st ms, m_tk ms, m_to ms, nI ((txL (m_now ms) i16) ++ [b8 47]).length, m_now ms, m_asd ms, m_und ms, m_sav ms, m_isv ms, m_buf ms, m_grp ms, pgA (m_pag ms) ((txL (m_now ms) i16) ++ [b8 47])⟩ : MM) σ0 (m_pag ms) ((txL (m_now ms) i16) ++ [b8 47]) 46 (by first | assumption | omega | (simp; omega) | (simp [nl]; omega))) tX2_writesByte q2867 (mc_0 _ _ _) rfl rfl dX2_writeLine_49 (by decide) (Nat.le_of_eq (Nat.zero_add _)) (Nat.le_of_ble_eq_true rfl) ?_
          refine A_goto (tgt := 64) dX2_writeLine_52 (by decide) ?_
          refine A_iinc (v := nI (i16 + 1)) dX2_writeLine_64 rfl (nI_inc _ _) (Nat.le_of_ble_eq_true rfl) ?_
          refine A_goto (tgt := 16) dX2_writeLine_67 (by decide) ?_
          refine A_sub (L' := [(0, .ref b9), (1, .int (nI (i16 + 1)))]) ⟨rfl, rfl, trivial⟩ ?_
          refine A_st (σ' := mc b9 (⟨mayT (m_is ms) 1 1, m_is ms, m_um ms, m_bd ms, m_pc ms, m_pa ms, m_sz ms, m_cu ms, m_st ms, m_tk ms, m_to ms, nI (txL (m_now ms) (i16 + 1)).length, m_now ms, m_asd ms, m_und ms, m_sav ms, m_isv ms, m_buf ms, m_grp ms, pgA (m_pag ms) (txL (m_now ms) (i16 + 1))⟩ : MM) σ0) (by rw [txL_s, if_neg (gt0_n c2), if_pos c4]) ?_
          exact ih16 trivial
    · skip
      refine A_iload_n (i := 1) dX2_writeLine_16 rfl rfl ?_
      refine A_aload_n (i := 0) dX2_writeLine_17 rfl rfl ?_
      refine M_get 1 (v := .ref (b9 + 1)) (Nat.le_of_ble_eq_true rfl) q2230 rfl dX2_writeLine_18 ?_
      refine A_bipush (v := 9) dX2_writeLine_21 (by decide) ?_
      refine M_ald1 (n := 9) (v := m_now ms 9) (rfl) (by decide) (rfl) dX2_writeLine_23 ?_
      refine A_icmp_ge_t (tgt := 70) dX2_writeLine_24 (by decide) (br_ge h1.2.2.2.1.1) ?_
      refine A_aload_n (i := 0) dX2_writeLine_70 rfl rfl ?_
      refine M_get 19 (v := .int (nI (txL (m_now ms) (nP (m_now ms))).length)) (Nat.le_of_ble_eq_true rfl) q2248 rfl dX2_writeLine_71 ?_
      exact A_iret dX2_writeLine_74 rfl ⟨by rw [gd, if_pos c1], by simp only [gq_t c1] <;> rfl⟩
  · skip
    have c1 := bi_eq0.mp c1
    refine A_iconst (v := 0) dX2_writeLine_7 (by decide) ?_
    exact A_iret dX2_writeLine_8 rfl ⟨by rw [gd, if_neg c1], by simp only [gq_f c1]⟩
theorem c_textByte {l : Launch} {g : GC} (b9 : Nat) (ms : MM) (σ0 : AH) (k9 : Nat) (i : Int32) (h1 : k9 ≤ 60) : AMet l g mX2_textByte 2 0 [.ref b9, .int i] (mc b9 (⟨m_thr ms, m_is ms, m_um ms, m_bd ms, m_pc ms, m_pa ms, m_sz ms, m_cu ms, m_st ms, m_tk ms, m_to ms, nI k9, m_now ms, m_asd ms, m_und ms, m_sav ms, m_isv ms, m_buf ms, m_grp ms, m_pag ms⟩ : MM) σ0) (A_eq (some (.int (gd (mayT (bi (inR i 0 (nI k9 - 1))) 1 1) ((m_pag ms) (ix i))))) (mc b9 (⟨mayT (bi (inR i 0 (nI k9 - 1))) 1 1, m_is ms, m_um ms, m_bd ms, m_pc ms, m_pa ms, m_sz ms, m_cu ms, m_st ms, m_tk ms, m_to ms, nI k9, m_now ms, m_asd ms, m_und ms, m_sav ms, m_isv ms, m_buf ms, m_grp ms, m_pag ms⟩ : MM) σ0)) A_no := by
  refine A_of rfl (by decide) (Nat.le_of_ble_eq_true rfl) (L0 := [(0, .ref b9), (1, .int i)]) rfl ?_
  refine A_aload_n (i := 0) dX2_textByte_0 rfl rfl ?_
  refine A_iload_n (i := 1) dX2_textByte_1 rfl rfl ?_
  refine A_iconst (v := 0) dX2_textByte_2 (by decide) ?_
  refine A_aload_n (i := 0) dX2_textByte_3 rfl rfl ?_
  refine M_get 19 (v := .int (nI k9)) (Nat.le_of_ble_eq_true rfl) q2248 rfl dX2_textByte_4 ?_
  refine A_iconst (v := 1) dX2_textByte_7 (by decide) ?_
  refine A_isub dX2_textByte_8 ?_
  refine A_callS3E (v := some (.int (bi (inR i 0 (nI k9 - 1))))) (τ := mc b9 (⟨m_thr ms, m_is ms, m_um ms, m_bd ms, m_pc ms, m_pa ms, m_sz ms, m_cu ms, m_st ms, m_tk ms, m_to ms, nI k9, m_now ms, m_asd ms, m_und ms, m_sav ms, m_isv ms, m_buf ms, m_grp ms, m_pag ms⟩ : MM) σ0) (c_in b9 (⟨m_thr ms, m_is ms, m_um ms, m_bd ms, m_pc ms, m_pa ms, m_sz ms, m_cu ms, m_st ms, m_tk ms, m_to ms, nI k9, m_now ms, m_asd ms, m_und ms, m_sav ms, m_isv ms, m_buf ms, m_grp ms, m_pag ms⟩ : MM) σ0 i 0 (nI k9 - 1)) tX2_in q2319 dX2_textByte_9 (by decide) (Nat.le_of_eq (Nat.zero_add _)) (Nat.le_of_ble_eq_true rfl) ?_
  refine A_iconst (v := 1) dX2_textByte_12 (by decide) ?_
  refine A_iconst (v := 1) dX2_textByte_13 (by decide) ?_
  refine A_callV3E (v := some (.int (bi (mayT (bi (inR i 0 (nI k9 - 1))) 1 1 = 0)))) (τ := mc b9 (⟨mayT (bi (inR i 0 (nI k9 - 1))) 1 1, m_is ms, m_um ms, m_bd ms, m_pc ms, m_pa ms, m_sz ms, m_cu ms, m_st ms, m_tk ms, m_to ms, nI k9, m_now ms, m_asd ms, m_und ms, m_sav ms, m_isv ms, m_buf ms, m_grp ms, m_pag ms⟩ : MM) σ0) (c_may b9 (⟨m_thr ms, m_is ms, m_um ms, m_bd ms, m_pc ms, m_pa ms, m_sz ms, m_cu ms, m_st ms, m_tk ms, m_to ms, nI k9, m_now ms, m_asd ms, m_und ms, m_sav ms, m_isv ms, m_buf ms, m_grp ms, m_pag ms⟩ : MM) σ0 (bi (inR i 0 (nI k9 - 1))) 1 1) tX2_may q2322 (mc_0 _ _ _) rfl rfl dX2_textByte_14 (by decide) (Nat.le_of_eq (Nat.zero_add _)) (Nat.le_of_ble_eq_true rfl) ?_
  refine A_if_eq (tgt := 29) dX2_textByte_17 (by decide) (fun c1 => ?_) (fun c1 => ?_)
  · skip
    have c1 := bi_eq0.mp c1
    refine A_iconst (v := 0) dX2_textByte_29 (by decide) ?_
    exact A_iret dX2_textByte_30 rfl ⟨by rw [gd, if_neg c1], rfl⟩
  · skip
    have c1 := bi_ne0.mp c1
    obtain ⟨j9, hj9, rfl⟩ := in_ex (rfl : nI k9 = nI k9) (by omega) (bi_ne0.mp (mayT_x c1))
    try rw [ixn (show j9 < 2000 by omega)]
    refine A_aload_n (i := 0) dX2_textByte_20 rfl rfl ?_
    refine M_get 18 (v := .ref (b9 + 8)) (Nat.le_of_ble_eq_true rfl) q2247 rfl dX2_textByte_21 ?_
    refine A_iload_n (i := 1) dX2_textByte_24 rfl rfl ?_
    refine M_ald8 (n := j9) (v := m_pag ms j9) (rfl) (by omega) (rfl) dX2_textByte_25 ?_
    refine A_goto (tgt := 30) dX2_textByte_26 (by decide) ?_
    exact A_iret dX2_textByte_30 rfl ⟨by rw [gd, if_pos c1], rfl⟩
theorem c_four {l : Launch} {g : GC} (b9 : Nat) (ms : MM) (σ0 : AH) (k9 : Nat) (v : Int32) (h1 : k9 ≤ 496) : AMet l g mX2_four 1 0 [.ref b9, .int v] (mc b9 (⟨m_thr ms, m_is ms, m_um ms, nI k9, m_pc ms, m_pa ms, m_sz ms, m_cu ms, m_st ms, m_tk ms, m_to ms, m_ps ms, m_now ms, m_asd ms, m_und ms, m_sav ms, m_isv ms, m_buf ms, m_grp ms, m_pag ms⟩ : MM) σ0) (A_eq (none) (mc b9 (⟨m_thr ms, m_is ms, m_um ms, nI (k9 + 4), m_pc ms, m_pa ms, m_sz ms, m_cu ms, m_st ms, m_tk ms, m_to ms, m_ps ms, m_now ms, m_asd ms, m_und ms, m_sav ms, m_isv ms, fo4 (m_buf ms) k9 v, m_grp ms, m_pag ms⟩ : MM) σ0)) A_no := by
  refine A_of rfl (by decide) (Nat.le_of_ble_eq_true rfl) (L0 := [(0, .ref b9), (1, .int v)]) rfl ?_
  refine A_iconst (v := 3) dX2_four_0 (by decide) ?_
  refine A_istore_n (i := 2) dX2_four_1 rfl (Nat.le_of_ble_eq_true rfl) ?_
  refine A_iload_n (i := 2) dX2_four_2 rfl rfl ?_
  refine A_if_lt_f (tgt := 38) dX2_four_3 (by decide) (by decide) ?_
  refine A_aload_n (i := 0) dX2_four_6 rfl rfl ?_
  refine M_get 8 (v := .ref (b9 + 6)) (Nat.le_of_ble_eq_true rfl) q2237 rfl dX2_four_7 ?_
  refine A_aload_n (i := 0) dX2_four_10 rfl rfl ?_
  refine M_get 9 (v := .int (nI k9)) (Nat.le_of_ble_eq_true rfl) q2238 rfl dX2_four_11 ?_
  refine A_iload_n (i := 1) dX2_four_14 rfl rfl ?_
  refine A_bipush (v := 8) dX2_four_15 (by decide) ?_
  refine A_iload_n (i := 2) dX2_four_17 rfl rfl ?_
  refine A_imul dX2_four_18 ?_
  refine A_int (w := 24) (by decide) ?_
  refine A_ishr dX2_four_19 ?_
  refine A_i2b dX2_four_20 rfl ?_
  refine A_int (w := (b8 ((v >>> ((24 : Int32) &&& 31))))) (rfl) ?_
  refine M_astT6 (n := k9) (na := fo1 (m_buf ms) k9 v) (rfl) (by omega) (by rw [nar_b8] <;> rfl) dX2_four_21 ?_
  refine A_aload_n (i := 0) dX2_four_22 rfl rfl ?_
  refine A_dup dX2_four_23 rfl ?_
  refine M_get 9 (v := .int (nI k9)) (Nat.le_of_ble_eq_true rfl) q2238 rfl dX2_four_24 ?_
  refine A_iconst (v := 1) dX2_four_27 (by decide) ?_
  refine A_iadd dX2_four_28 ?_
  refine A_int (w := nI (k9 + 1)) (nI_add k9 1) ?_
  refine M_putT_bd q2238 rfl dX2_four_29 ?_
  refine A_iinc (v := 2) dX2_four_32 rfl (by decide) (Nat.le_of_ble_eq_true rfl) ?_
  refine A_goto (tgt := 2) dX2_four_35 (by decide) ?_
  refine A_sub (L' := [(0, .ref b9), (1, .int v), (2, .int 2)]) ⟨rfl, rfl, rfl, trivial⟩ ?_
  refine A_iload_n (i := 2) dX2_four_2 rfl rfl ?_
  refine A_if_lt_f (tgt := 38) dX2_four_3 (by decide) (by decide) ?_
  refine A_aload_n (i := 0) dX2_four_6 rfl rfl ?_
  refine M_get 8 (v := .ref (b9 + 6)) (Nat.le_of_ble_eq_true rfl) q2237 rfl dX2_four_7 ?_
  refine A_aload_n (i := 0) dX2_four_10 rfl rfl ?_
  refine M_get 9 (v := .int (nI (k9 + 1))) (Nat.le_of_ble_eq_true rfl) q2238 rfl dX2_four_11 ?_
  refine A_iload_n (i := 1) dX2_four_14 rfl rfl ?_
  refine A_bipush (v := 8) dX2_four_15 (by decide) ?_
  refine A_iload_n (i := 2) dX2_four_17 rfl rfl ?_
  refine A_imul dX2_four_18 ?_
  refine A_int (w := 16) (by decide) ?_
  refine A_ishr dX2_four_19 ?_
  refine A_i2b dX2_four_20 rfl ?_
  refine A_int (w := (b8 ((v >>> ((16 : Int32) &&& 31))))) (rfl) ?_
  refine M_astT6 (n := k9 + 1) (na := fo2 (m_buf ms) k9 v) (rfl) (by omega) (by rw [nar_b8] <;> rfl) dX2_four_21 ?_
  refine A_aload_n (i := 0) dX2_four_22 rfl rfl ?_
  refine A_dup dX2_four_23 rfl ?_
  refine M_get 9 (v := .int (nI (k9 + 1))) (Nat.le_of_ble_eq_true rfl) q2238 rfl dX2_four_24 ?_
  refine A_iconst (v := 1) dX2_four_27 (by decide) ?_
  refine A_iadd dX2_four_28 ?_
  refine A_int (w := nI ((k9 + 1) + 1)) (nI_add (k9 + 1) 1) ?_
  refine M_putT_bd q2238 rfl dX2_four_29 ?_
  refine A_iinc (v := 1) dX2_four_32 rfl (by decide) (Nat.le_of_ble_eq_true rfl) ?_
  refine A_goto (tgt := 2) dX2_four_35 (by decide) ?_
  refine A_sub (L' := [(0, .ref b9), (1, .int v), (2, .int 1)]) ⟨rfl, rfl, rfl, trivial⟩ ?_
  refine A_iload_n (i := 2) dX2_four_2 rfl rfl ?_
  refine A_if_lt_f (tgt := 38) dX2_four_3 (by decide) (by decide) ?_
  refine A_aload_n (i := 0) dX2_four_6 rfl rfl ?_
  refine M_get 8 (v := .ref (b9 + 6)) (Nat.le_of_ble_eq_true rfl) q2237 rfl dX2_four_7 ?_
  refine A_aload_n (i := 0) dX2_four_10 rfl rfl ?_
  refine M_get 9 (v := .int (nI ((k9 + 1) + 1))) (Nat.le_of_ble_eq_true rfl) q2238 rfl dX2_four_11 ?_
  refine A_iload_n (i := 1) dX2_four_14 rfl rfl ?_
  refine A_bipush (v := 8) dX2_four_15 (by decide) ?_
  refine A_iload_n (i := 2) dX2_four_17 rfl rfl ?_
  refine A_imul dX2_four_18 ?_
  refine A_int (w := 8) (by decide) ?_
  refine A_ishr dX2_four_19 ?_
  refine A_i2b dX2_four_20 rfl ?_
  refine A_int (w := (b8 ((v >>> ((8 : Int32) &&& 31))))) (rfl) ?_
  refine M_astT6 (n := (k9 + 1) + 1) (na := fo3 (m_buf ms) k9 v) (rfl) (by omega) (by rw [nar_b8] <;> rfl) dX2_four_21 ?_
  refine A_aload_n (i := 0) dX2_four_22 rfl rfl ?_
  refine A_dup dX2_four_23 rfl ?_
  refine M_get 9 (v := .int (nI ((k9 + 1) + 1))) (Nat.le_of_ble_eq_true rfl) q2238 rfl dX2_four_24 ?_
  refine A_iconst (v := 1) dX2_four_27 (by decide) ?_
  refine A_iadd dX2_four_28 ?_
  refine A_int (w := nI (((k9 + 1) + 1) + 1)) (nI_add ((k9 + 1) + 1) 1) ?_
  refine M_putT_bd q2238 rfl dX2_four_29 ?_
  refine A_iinc (v := 0) dX2_four_32 rfl (by decide) (Nat.le_of_ble_eq_true rfl) ?_
  refine A_goto (tgt := 2) dX2_four_35 (by decide) ?_
  refine A_sub (L' := [(0, .ref b9), (1, .int v), (2, .int 0)]) ⟨rfl, rfl, rfl, trivial⟩ ?_
  refine A_iload_n (i := 2) dX2_four_2 rfl rfl ?_
  refine A_if_lt_f (tgt := 38) dX2_four_3 (by decide) (by decide) ?_
  refine A_aload_n (i := 0) dX2_four_6 rfl rfl ?_
  refine M_get 8 (v := .ref (b9 + 6)) (Nat.le_of_ble_eq_true rfl) q2237 rfl dX2_four_7 ?_
  refine A_aload_n (i := 0) dX2_four_10 rfl rfl ?_
  refine M_get 9 (v := .int (nI (((k9 + 1) + 1) + 1))) (Nat.le_of_ble_eq_true rfl) q2238 rfl dX2_four_11 ?_
  refine A_iload_n (i := 1) dX2_four_14 rfl rfl ?_
  refine A_bipush (v := 8) dX2_four_15 (by decide) ?_
  refine A_iload_n (i := 2) dX2_four_17 rfl rfl ?_
  refine A_imul dX2_four_18 ?_
  refine A_int (w := 0) (by decide) ?_
  refine A_ishr dX2_four_19 ?_
  refine A_i2b dX2_four_20 rfl ?_
  refine A_int (w := (b8 ((v >>> ((0 : Int32) &&& 31))))) (rfl) ?_
  refine M_astT6 (n := ((k9 + 1) + 1) + 1) (na := fo4 (m_buf ms) k9 v) (rfl) (by omega) (by rw [nar_b8] <;> rfl) dX2_four_21 ?_
  refine A_aload_n (i := 0) dX2_four_22 rfl rfl ?_
  refine A_dup dX2_four_23 rfl ?_
  refine M_get 9 (v := .int (nI (((k9 + 1) + 1) + 1))) (Nat.le_of_ble_eq_true rfl) q2238 rfl dX2_four_24 ?_
  refine A_iconst (v := 1) dX2_four_27 (by decide) ?_
  refine A_iadd dX2_four_28 ?_
  refine A_int (w := nI ((((k9 + 1) + 1) + 1) + 1)) (nI_add (((k9 + 1) + 1) + 1) 1) ?_
  refine M_putT_bd q2238 rfl dX2_four_29 ?_
  refine A_iinc (v := (-1)) dX2_four_32 rfl (by decide) (Nat.le_of_ble_eq_true rfl) ?_
  refine A_goto (tgt := 2) dX2_four_35 (by decide) ?_
  refine A_sub (L' := [(0, .ref b9), (1, .int v), (2, .int (-1))]) ⟨rfl, rfl, rfl, trivial⟩ ?_
  refine A_iload_n (i := 2) dX2_four_2 rfl rfl ?_
  refine A_if_lt_t (tgt := 38) dX2_four_3 (by decide) (by decide) ?_
  exact A_vret dX2_four_38 rfl ⟨rfl, rfl⟩
theorem c_append {l : Launch} {g : GC} (b9 : Nat) (ms : MM) (σ0 : AH) (k9 : Nat) (a : Int32) (b : Int32) (c : Int32) (d : Int32) (e : Int32) (h1 : k9 ≤ 500) : AMet l g mX2_append 2 0 [.ref b9, .int a, .int b, .int c, .int d, .int e] (mc b9 (⟨m_thr ms, m_is ms, m_um ms, nI k9, m_pc ms, m_pa ms, m_sz ms, m_cu ms, m_st ms, m_tk ms, m_to ms, m_ps ms, m_now ms, m_asd ms, m_und ms, m_sav ms, m_isv ms, m_buf ms, m_grp ms, m_pag ms⟩ : MM) σ0) (A_eq (some (.int (if k9 ≤ 480 then nI (k9 + 20) else -1))) (mc b9 (⟨0, m_is ms, m_um ms, nI (if k9 ≤ 480 then k9 + 20 else k9), m_pc ms, m_pa ms, m_sz ms, m_cu ms, m_st ms, m_tk ms, m_to ms, m_ps ms, m_now ms, m_asd ms, m_und ms, m_sav ms, m_isv ms, if k9 ≤ 480 then app5 (m_buf ms) k9 a b c d e else (m_buf ms), m_grp ms, m_pag ms⟩ : MM) σ0)) A_no := by
  refine A_of rfl (by decide) (Nat.le_of_ble_eq_true rfl) (L0 := [(0, .ref b9), (1, .int a), (2, .int b), (3, .int c), (4, .int d), (5, .int e)]) rfl ?_
  refine A_aload_n (i := 0) dX2_append_0 rfl rfl ?_
  refine A_iconst (v := 0) dX2_append_1 (by decide) ?_
  refine M_putT_thr q2229 rfl dX2_append_2 ?_
  refine A_aload_n (i := 0) dX2_append_5 rfl rfl ?_
  refine M_get 9 (v := .int (nI k9)) (Nat.le_of_ble_eq_true rfl) q2238 rfl dX2_append_6 ?_
  refine A_sipush (v := 480) dX2_append_9 (by decide) ?_
  refine A_icmp_le (tgt := 17) dX2_append_12 (by decide) (fun c1 => ?_) (fun c1 => ?_)
  · skip
    have hk := (le480 h1).mp c1
    refine A_aload_n (i := 0) dX2_append_17 rfl rfl ?_
    refine A_iload_n (i := 1) dX2_append_18 rfl rfl ?_
    refine A_callV1E (v := none) (τ := mc b9 (⟨0, m_is ms, m_um ms, nI (k9 + 4), m_pc ms, m_pa ms, m_sz ms, m_cu ms, m_st ms, m_tk ms, m_to ms, m_ps ms, m_now ms, m_asd ms, m_und ms, m_sav ms, m_isv ms, fo4 (m_buf ms) k9 a, m_grp ms, m_pag ms⟩ : MM) σ0) (c_four b9 (⟨0, m_is ms, m_um ms, nI k9, m_pc ms, m_pa ms, m_sz ms, m_cu ms, m_st ms, m_tk ms, m_to ms, m_ps ms, m_now ms, m_asd ms, m_und ms, m_sav ms, m_isv ms, m_buf ms, m_grp ms, m_pag ms⟩ : MM) σ0 k9 a (by first | assumption | omega)) tX2_four q2299 (mc_0 _ _ _) rfl rfl dX2_append_19 (by decide) (Nat.le_of_eq (Nat.zero_add _)) (Nat.le_of_ble_eq_true rfl) ?_
    refine A_aload_n (i := 0) dX2_append_22 rfl rfl ?_
    refine A_iload_n (i := 2) dX2_append_23 rfl rfl ?_
    refine A_callV1E (v := none) (τ := mc b9 (⟨0, m_is ms, m_um ms, nI ((k9 + 4) + 4), m_pc ms, m_pa ms, m_sz ms, m_cu ms, m_st ms, m_tk ms, m_to ms, m_ps ms, m_now ms, m_asd ms, m_und ms, m_sav ms, m_isv ms, fo4 (fo4 (m_buf ms) k9 a) (k9 + 4) b, m_grp ms, m_pag ms⟩ : MM) σ0) (c_four b9 (⟨0, m_is ms, m_um ms, nI (k9 + 4), m_pc ms, m_pa ms, m_sz ms, m_cu ms, m_st ms, m_tk ms, m_to ms, m_ps ms, m_now ms, m_asd ms, m_und ms, m_sav ms, m_isv ms, fo4 (m_buf ms) k9 a, m_grp ms, m_pag ms⟩ : MM) σ0 (k9 + 4) b (by first | assumption | omega)) tX2_four q2299 (mc_0 _ _ _) rfl rfl dX2_append_24 (by decide) (Nat.le_of_eq (Nat.zero_add _)) (Nat.le_of_ble_eq_true rfl) ?_
    refine A_aload_n (i := 0) dX2_append_27 rfl rfl ?_
    refine A_iload_n (i := 3) dX2_append_28 rfl rfl ?_
    refine A_callV1E (v := none) (τ := mc b9 (⟨0, m_is ms, m_um ms, nI (((k9 + 4) + 4) + 4), m_pc ms, m_pa ms, m_sz ms, m_cu ms, m_st ms, m_tk ms, m_to ms, m_ps ms, m_now ms, m_asd ms, m_und ms, m_sav ms, m_isv ms, fo4 (fo4 (fo4 (m_buf ms) k9 a) (k9 + 4) b) ((k9 + 4) + 4) c, m_grp ms, m_pag ms⟩ : MM) σ0) (c_four b9 (⟨0, m_is ms, m_um ms, nI ((k9 + 4) + 4), m_pc ms, m_pa ms, m_sz ms, m_cu ms, m_st ms, m_tk ms, m_to ms, m_ps ms, m_now ms, m_asd ms, m_und ms, m_sav ms, m_isv ms, fo4 (fo4 (m_buf ms) k9 a) (k9 + 4) b, m_grp ms, m_pag ms⟩ : MM) σ0 ((k9 + 4) + 4) c (by first | assumption | omega)) tX2_four q2299 (mc_0 _ _ _) rfl rfl dX2_append_29 (by decide) (Nat.le_of_eq (Nat.zero_add _)) (Nat.le_of_ble_eq_true rfl) ?_
    refine A_aload_n (i := 0) dX2_append_32 rfl rfl ?_
    refine A_iload dX2_append_33 rfl ?_
    refine A_callV1E (v := none) (τ := mc b9 (⟨0, m_is ms, m_um ms, nI ((((k9 + 4) + 4) + 4) + 4), m_pc ms, m_pa ms, m_sz ms, m_cu ms, m_st ms, m_tk ms, m_to ms, m_ps ms, m_now ms, m_asd ms, m_und ms, m_sav ms, m_isv ms, fo4 (fo4 (fo4 (fo4 (m_buf ms) k9 a) (k9 + 4) b) ((k9 + 4) + 4) c) (((k9 + 4) + 4) + 4) d, m_grp ms, m_pag ms⟩ : MM) σ0) (c_four b9 (⟨0, m_is ms, m_um ms, nI (((k9 + 4) + 4) + 4), m_pc ms, m_pa ms, m_sz ms, m_cu ms, m_st ms, m_tk ms, m_to ms, m_ps ms, m_now ms, m_asd ms, m_und ms, m_sav ms, m_isv ms, fo4 (fo4 (fo4 (m_buf ms) k9 a) (k9 + 4) b) ((k9 + 4) + 4) c, m_grp ms, m_pag ms⟩ : MM) σ0 (((k9 + 4) + 4) + 4) d (by first | assumption | omega)) tX2_four q2299 (mc_0 _ _ _) rfl rfl dX2_append_35 (by decide) (Nat.le_of_eq (Nat.zero_add _)) (Nat.le_of_ble_eq_true rfl) ?_
    refine A_aload_n (i := 0) dX2_append_38 rfl rfl ?_
    refine A_iload dX2_append_39 rfl ?_
    refine A_callV1E (v := none) (τ := mc b9 (⟨0, m_is ms, m_um ms, nI (((((k9 + 4) + 4) + 4) + 4) + 4), m_pc ms, m_pa ms, m_sz ms, m_cu ms, m_st ms, m_tk ms, m_to ms, m_ps ms, m_now ms, m_asd ms, m_und ms, m_sav ms, m_isv ms, fo4 (fo4 (fo4 (fo4 (fo4 (m_buf ms) k9 a) (k9 + 4) b) ((k9 + 4) + 4) c) (((k9 + 4) + 4) + 4) d) ((((k9 + 4) + 4) + 4) + 4) e, m_grp ms, m_pag ms⟩ : MM) σ0) (c_four b9 (⟨0, m_is ms, m_um ms, nI ((((k9 + 4) + 4) + 4) + 4), m_pc ms, m_pa ms, m_sz ms, m_cu ms, m_st ms, m_tk ms, m_to ms, m_ps ms, m_now ms, m_asd ms, m_und ms, m_sav ms, m_isv ms, fo4 (fo4 (fo4 (fo4 (m_buf ms) k9 a) (k9 + 4) b) ((k9 + 4) + 4) c) (((k9 + 4) + 4) + 4) d, m_grp ms, m_pag ms⟩ : MM) σ0 ((((k9 + 4) + 4) + 4) + 4) e (by first | assumption | omega)) tX2_four q2299 (mc_0 _ _ _) rfl rfl dX2_append_41 (by decide) (Nat.le_of_eq (Nat.zero_add _)) (Nat.le_of_ble_eq_true rfl) ?_
    refine A_aload_n (i := 0) dX2_append_44 rfl rfl ?_
    refine M_get 9 (v := .int (nI (((((k9 + 4) + 4) + 4) + 4) + 4))) (Nat.le_of_ble_eq_true rfl) q2238 rfl dX2_append_45 ?_
    exact A_iret dX2_append_48 rfl ⟨by rw [if_pos hk], by simp only [if_pos hk] <;> rfl⟩
  · skip
    have hk : ¬ k9 ≤ 480 := fun h => c1 ((le480 h1).mpr h)
    refine A_iconst (v := (-1)) dX2_append_15 (by decide) ?_
    exact A_iret dX2_append_16 rfl ⟨by rw [if_neg hk], by simp only [if_neg hk]⟩
