/-! THE MODEL 7: runs ahead -/
theorem cts_it (N : AF) : ∀ k, cts (itr passN N k) N
  | 0 => cts.rf
  | k + 1 => (cts_pass _).tr (cts_it N k)
/-- from hour i on, k hours more: when flag f is dry -/
def drU (N : AF) (f : Nat) : Nat → Nat → Int32
  | 0, _ => -1
  | k + 1, i => if fl (itr passN N i) f 8 = 2 then (if fl (itr passN N i) f 4 = 0 then nI i else if fl (dryN (itr passN N i)) f 4 = 0 then (if 99 ≤ nI i then -1 else nI (i + 1)) else drU N f k (i + 1)) else -1
theorem drU_s (N : AF) (f : Nat) {i : Nat} (h : i < 100) : drU N f (100 - i) i = if fl (itr passN N i) f 8 = 2 then (if fl (itr passN N i) f 4 = 0 then nI i else if fl (dryN (itr passN N i)) f 4 = 0 then (if 99 ≤ nI i then -1 else nI (i + 1)) else drU N f (100 - (i + 1)) (i + 1)) else -1 := by
  rw [show 100 - i = (100 - (i + 1)) + 1 by omega]
  rfl
def dryIn (N : AF) (f : Nat) : Int32 := drU N f 100 0
def ironK (N : AF) (f : Nat) (h : Int32) : Nat := gF (fun k => fl (itr (fun M => ironN M f h) N k) f 5 ≤ 0) 0 10
def ironForN (N : AF) (f : Nat) (h : Int32) : Int32 := if fl N f 5 = 0 then 0 else if whyIronN N f h = 0 then nI (ironK N f h) else -1
theorem iron_tab : ∀ a, a < 10 → ∀ k, k < 4 → ∀ b, b < 2 → mx 0 (((nI a - 1) - nI k) - nI b) = nI (a - 1 - k - b) := by decide +kernel
theorem setFl_at (N : AF) (f k : Nat) (v : Int32) : fl (setFl N f k v) f k = v := by
  unfold fl setFl va_up
  exact if_pos rfl
theorem setFl_ne (N : AF) {f f' k k' : Nat} (v : Int32) (hk : k < 11) (hk' : k' < 11) (h : f' ≠ f ∨ k' ≠ k) : fl (setFl N f k v) f' k' = fl N f' k' := by
  unfold fl setFl va_up
  rw [if_neg]
  omega
theorem bi_nI (p : Prop) [Decidable p] : ∃ b, b < 2 ∧ bi p = nI b := by
  unfold bi
  split
  · exact ⟨1, by omega, rfl⟩
  · exact ⟨0, by omega, rfl⟩
theorem iron_cr (N : AF) (f : Nat) {h : Int32} {a k : Nat} (ha : a < 10) (hk : k < 4) (e : fl N f 5 = nI a) (eh : h = nI k) : ∃ a', a' ≤ a - 1 ∧ fl (ironN N f h) f 5 = nI a' := by
  unfold ironN
  rw [setFl_ne _ _ (by omega) (by omega) (Or.inr (by omega)), iron1, setFl_at, e, eh]
  obtain ⟨b, hb, eb⟩ := bi_nI (¬ fl N f 4 ≤ 0)
  rw [eb, iron_tab a ha k hk b hb]
  exact ⟨_, by omega, rfl⟩
theorem ironK_lt {N : AF} {f : Nat} {h : Int32} {a k : Nat} (ha : a < 10) (hk : k < 4) (e : fl N f 5 = nI a) (eh : h = nI k) : ironK N f h < 0 + 10 := by
  have hit : ∀ j, ∃ a', a' ≤ a - j ∧ fl (itr (fun M => ironN M f h) N j) f 5 = nI a' := by
    intro j
    induction j with
    | zero => exact ⟨a, by omega, e⟩
    | succ j ih =>
      obtain ⟨a', h1, h2⟩ := ih
      obtain ⟨a'', h3, h4⟩ := iron_cr (itr (fun M => ironN M f h) N j) f (h := h) (by omega) hk h2 eh
      exact ⟨a'', by omega, h4⟩
  rcases Nat.lt_or_ge (ironK N f h) 10 with q | q
  · omega
  · exfalso
    obtain ⟨a', h1, h2⟩ := hit 9
    have h3 := gF_not (fun k => fl (itr (fun M => ironN M f h) N k) f 5 ≤ 0) 10 0 9 (by omega) (by show 9 < ironK N f h; omega)
    apply h3
    rw [h2, show a' = 0 by omega]
    decide
def firstSafeN (N : AF) (t : Nat) (h : Int32) : Int32 := fsr (fun f => safeN N f t h) 0 (nF N)
abbrev joinP (N G : AF) (f : Nat) (k h : Int32) : Prop := ∀ j, j < f → ¬ (G j = k ∧ ¬ mixN N j f h = 0)
theorem c_washesFor {l : Launch} {g : GC} (b9 : Nat) (ms : MM) (σ0 : AH) (f : Int32) (h1 : WFd (m_now ms)) : AMet l g mX2_washesFor 4 0 [.ref b9, .int f] (mc b9 ms σ0) (A_eq (some (.int (gd (mayT (m_is ms) (bi (okF (m_is ms) (m_now ms) f)) 1) (wForN (m_now ms) (ix f))))) (mc b9 (⟨mayT (m_is ms) (bi (okF (m_is ms) (m_now ms) f)) 1, m_is ms, m_um ms, m_bd ms, m_pc ms, m_pa ms, m_sz ms, m_cu ms, m_st ms, m_tk ms, m_to ms, m_ps ms, m_now ms, m_asd ms, m_und ms, m_sav ms, m_isv ms, m_buf ms, m_grp ms, m_pag ms⟩ : MM) σ0)) A_no := by
  refine A_of rfl (by decide) (Nat.le_of_ble_eq_true rfl) (L0 := [(0, .ref b9), (1, .int f)]) rfl ?_
  have h1c := h1.1
  have hF := h1c.2.2.2.2.2
  refine A_aload_n (i := 0) dX2_washesFor_0 rfl rfl ?_
  refine A_iload_n (i := 1) dX2_washesFor_1 rfl rfl ?_
  refine A_callV1E (v := some (.int (bi (mayT (m_is ms) (bi (okF (m_is ms) (m_now ms) f)) 1 = 0)))) (τ := mc b9 (⟨mayT (m_is ms) (bi (okF (m_is ms) (m_now ms) f)) 1, m_is ms, m_um ms, m_bd ms, m_pc ms, m_pa ms, m_sz ms, m_cu ms, m_st ms, m_tk ms, m_to ms, m_ps ms, m_now ms, m_asd ms, m_und ms, m_sav ms, m_isv ms, m_buf ms, m_grp ms, m_pag ms⟩ : MM) σ0) (c_mayFlag b9 ms σ0 f) tX2_mayFlag q2686 (mc_0 _ _ _) rfl rfl dX2_washesFor_2 (by decide) (Nat.le_of_eq (Nat.zero_add _)) (Nat.le_of_ble_eq_true rfl) ?_
  refine A_if_ne (tgt := 10) dX2_washesFor_5 (by decide) (fun c1 => ?_) (fun c1 => ?_)
  · skip
    have c1 := bi_ne0.mp c1
    obtain ⟨f9, hf9, rfl⟩ := okF_ex h1c (mayT_y c1)
    refine A_iconst (v := 1) dX2_washesFor_10 (by decide) ?_
    refine A_iconst (v := 2) dX2_washesFor_11 (by decide) ?_
    refine A_aload_n (i := 0) dX2_washesFor_12 rfl rfl ?_
    refine A_iload_n (i := 1) dX2_washesFor_13 rfl rfl ?_
    refine A_iconst (v := 2) dX2_washesFor_14 (by decide) ?_
    refine A_callV2E (v := some (.int (fl (m_now ms) f9 2))) (τ := mc b9 (⟨mayT (m_is ms) (bi (okF (m_is ms) (m_now ms) (nI f9))) 1, m_is ms, m_um ms, m_bd ms, m_pc ms, m_pa ms, m_sz ms, m_cu ms, m_st ms, m_tk ms, m_to ms, m_ps ms, m_now ms, m_asd ms, m_und ms, m_sav ms, m_isv ms, m_buf ms, m_grp ms, m_pag ms⟩ : MM) σ0) (c_ofFlag b9 (⟨mayT (m_is ms) (bi (okF (m_is ms) (m_now ms) (nI f9))) 1, m_is ms, m_um ms, m_bd ms, m_pc ms, m_pa ms, m_sz ms, m_cu ms, m_st ms, m_tk ms, m_to ms, m_ps ms, m_now ms, m_asd ms, m_und ms, m_sav ms, m_isv ms, m_buf ms, m_grp ms, m_pag ms⟩ : MM) σ0 f9 2 (by first | assumption | omega) (by first | assumption | omega)) tX2_ofFlag q2444 (mc_0 _ _ _) rfl rfl dX2_washesFor_15 (by decide) (Nat.le_of_eq (Nat.zero_add _)) (Nat.le_of_ble_eq_true rfl) ?_
    refine A_imul dX2_washesFor_18 ?_
    refine A_iadd dX2_washesFor_19 ?_
    refine A_istore_n (i := 2) dX2_washesFor_20 rfl (Nat.le_of_ble_eq_true rfl) ?_
    refine A_aload_n (i := 0) dX2_washesFor_21 rfl rfl ?_
    refine A_iload_n (i := 1) dX2_washesFor_22 rfl rfl ?_
    refine A_iconst (v := 3) dX2_washesFor_23 (by decide) ?_
    refine A_callV2E (v := some (.int (fl (m_now ms) f9 3))) (τ := mc b9 (⟨mayT (m_is ms) (bi (okF (m_is ms) (m_now ms) (nI f9))) 1, m_is ms, m_um ms, m_bd ms, m_pc ms, m_pa ms, m_sz ms, m_cu ms, m_st ms, m_tk ms, m_to ms, m_ps ms, m_now ms, m_asd ms, m_und ms, m_sav ms, m_isv ms, m_buf ms, m_grp ms, m_pag ms⟩ : MM) σ0) (c_ofFlag b9 (⟨mayT (m_is ms) (bi (okF (m_is ms) (m_now ms) (nI f9))) 1, m_is ms, m_um ms, m_bd ms, m_pc ms, m_pa ms, m_sz ms, m_cu ms, m_st ms, m_tk ms, m_to ms, m_ps ms, m_now ms, m_asd ms, m_und ms, m_sav ms, m_isv ms, m_buf ms, m_grp ms, m_pag ms⟩ : MM) σ0 f9 3 (by first | assumption | omega) (by first | assumption | omega)) tX2_ofFlag q2444 (mc_0 _ _ _) rfl rfl dX2_washesFor_24 (by decide) (Nat.le_of_eq (Nat.zero_add _)) (Nat.le_of_ble_eq_true rfl) ?_
    refine A_iload_n (i := 2) dX2_washesFor_27 rfl rfl ?_
    refine A_iadd dX2_washesFor_28 ?_
    refine A_iconst (v := 1) dX2_washesFor_29 (by decide) ?_
    refine A_isub dX2_washesFor_30 ?_
    refine A_iload_n (i := 2) dX2_washesFor_31 rfl rfl ?_
    have hd9 : ¬ (1 + (2 * fl (m_now ms) f9 2)) = 0 := by
      obtain ⟨c9, hc9, e9⟩ := (h1.2 f9 hf9).2.2.1
      rw [e9]
      rcases (show c9 = 0 ∨ c9 = 1 ∨ c9 = 2 ∨ c9 = 3 by omega) with rfl | rfl | rfl | rfl <;> decide
    refine A_idiv dX2_washesFor_32 hd9 ?_
    exact A_iret dX2_washesFor_33 rfl ⟨by rw [gd, if_pos c1] <;> first | with_reducible rfl | (simp [-Int32.not_lt, -Int32.not_le, ixn (show f9 < 2000 by omega), wForN]; done) | (simp [ixn (show f9 < 2000 by omega), wForN]), rfl⟩
  · skip
    have c1 := bi_eq0.mp c1
    refine A_iconst (v := 0) dX2_washesFor_8 (by decide) ?_
    exact A_iret dX2_washesFor_9 rfl ⟨by rw [gd, if_neg c1], rfl⟩
theorem c_payIn {l : Launch} {g : GC} (b9 : Nat) (ms : MM) (σ0 : AH) (n : Nat) (h : Int32) (h1 : WFc (m_now ms)) (h2 : n < 4) : AMet l g mX2_payIn 4 0 [.ref b9, .int (nI n), .int h] (mc b9 ms σ0) (A_eq (some (.int (payInN (m_now ms) n h))) (mc b9 ms σ0)) A_no := by
  refine A_of rfl (by decide) (Nat.le_of_ble_eq_true rfl) (L0 := [(0, .ref b9), (1, .int (nI n)), (2, .int h)]) rfl ?_
  refine A_aload_n (i := 0) dX2_payIn_0 rfl rfl ?_
  refine A_iload_n (i := 1) dX2_payIn_1 rfl rfl ?_
  refine A_callV1E (v := some (.int (bi (na (m_now ms) n 3 = 1)))) (τ := mc b9 ms σ0) (c_isHanded b9 ms σ0 n (by first | assumption | omega)) tX2_isHanded q2617 (mc_0 _ _ _) rfl rfl dX2_payIn_2 (by decide) (Nat.le_of_eq (Nat.zero_add _)) (Nat.le_of_ble_eq_true rfl) ?_
  refine A_if_eq (tgt := 12) dX2_payIn_5 (by decide) (fun c1 => ?_) (fun c1 => ?_)
  · skip
    have c1 := bi_eq0.mp c1
    refine A_aload_n (i := 0) dX2_payIn_12 rfl rfl ?_
    refine A_iload_n (i := 1) dX2_payIn_13 rfl rfl ?_
    refine A_aload_n (i := 0) dX2_payIn_14 rfl rfl ?_
    refine M_get 1 (v := .ref (b9 + 1)) (Nat.le_of_ble_eq_true rfl) q2230 rfl dX2_payIn_15 ?_
    refine A_iconst (v := 0) dX2_payIn_18 (by decide) ?_
    refine M_ald1 (n := 0) (v := m_now ms 0) (rfl) (by decide) (rfl) dX2_payIn_19 ?_
    refine A_iload_n (i := 2) dX2_payIn_20 rfl rfl ?_
    refine A_iadd dX2_payIn_21 ?_
    refine A_callV2E (v := some (.int (payN (m_now ms) n ((m_now ms 0) + h)))) (τ := mc b9 ms σ0) (c_payAt b9 ms σ0 n ((m_now ms 0) + h) (by first | assumption | omega) (by first | assumption | omega)) tX2_payAt q2820 (mc_0 _ _ _) rfl rfl dX2_payIn_22 (by decide) (Nat.le_of_eq (Nat.zero_add _)) (Nat.le_of_ble_eq_true rfl) ?_
    exact A_iret dX2_payIn_25 rfl ⟨by rw [payInN, if_neg c1], rfl⟩
  · skip
    have c1 := bi_ne0.mp c1
    refine A_iconst (v := 0) dX2_payIn_8 (by decide) ?_
    refine A_goto (tgt := 25) dX2_payIn_9 (by decide) ?_
    exact A_iret dX2_payIn_25 rfl ⟨by rw [payInN, if_pos c1], rfl⟩
theorem c_payIf {l : Launch} {g : GC} (b9 : Nat) (ms : MM) (σ0 : AH) (n : Int32) (h : Int32) (h1 : WFc (m_now ms)) : AMet l g mX2_payIf 5 0 [.ref b9, .int n, .int h] (mc b9 ms σ0) (A_eq (some (.int (gd (mayT (m_is ms) (bi (okN (m_is ms) (m_now ms) n)) (bi (inR h 0 99))) (payInN (m_now ms) (ix n) h)))) (mc b9 (⟨mayT (m_is ms) (bi (okN (m_is ms) (m_now ms) n)) (bi (inR h 0 99)), m_is ms, m_um ms, m_bd ms, m_pc ms, m_pa ms, m_sz ms, m_cu ms, m_st ms, m_tk ms, m_to ms, m_ps ms, m_now ms, m_asd ms, m_und ms, m_sav ms, m_isv ms, m_buf ms, m_grp ms, m_pag ms⟩ : MM) σ0)) A_no := by
  refine A_of rfl (by decide) (Nat.le_of_ble_eq_true rfl) (L0 := [(0, .ref b9), (1, .int n), (2, .int h)]) rfl ?_
  have hF := h1.2.2.2.2.2
  have hC := h1.1.2
  have hN := h1.2.1.2
  refine A_aload_n (i := 0) dX2_payIf_0 rfl rfl ?_
  refine A_aload_n (i := 0) dX2_payIf_1 rfl rfl ?_
  refine M_get 6 (v := .int (m_is ms)) (Nat.le_of_ble_eq_true rfl) q2235 rfl dX2_payIf_2 ?_
  refine A_aload_n (i := 0) dX2_payIf_5 rfl rfl ?_
  refine A_iload_n (i := 1) dX2_payIf_6 rfl rfl ?_
  refine A_callV1E (v := some (.int (bi (okN (m_is ms) (m_now ms) n)))) (τ := mc b9 ms σ0) (c_isNation b9 ms σ0 n) tX2_isNation q2601 (mc_0 _ _ _) rfl rfl dX2_payIf_7 (by decide) (Nat.le_of_eq (Nat.zero_add _)) (Nat.le_of_ble_eq_true rfl) ?_
  refine A_iload_n (i := 2) dX2_payIf_10 rfl rfl ?_
  refine A_iconst (v := 0) dX2_payIf_11 (by decide) ?_
  refine A_bipush (v := 99) dX2_payIf_12 (by decide) ?_
  refine A_callS3E (v := some (.int (bi (inR h 0 99)))) (τ := mc b9 ms σ0) (c_in b9 ms σ0 h 0 99) tX2_in q2319 dX2_payIf_14 (by decide) (Nat.le_of_eq (Nat.zero_add _)) (Nat.le_of_ble_eq_true rfl) ?_
  refine A_callV3E (v := some (.int (bi (mayT (m_is ms) (bi (okN (m_is ms) (m_now ms) n)) (bi (inR h 0 99)) = 0)))) (τ := mc b9 (⟨mayT (m_is ms) (bi (okN (m_is ms) (m_now ms) n)) (bi (inR h 0 99)), m_is ms, m_um ms, m_bd ms, m_pc ms, m_pa ms, m_sz ms, m_cu ms, m_st ms, m_tk ms, m_to ms, m_ps ms, m_now ms, m_asd ms, m_und ms, m_sav ms, m_isv ms, m_buf ms, m_grp ms, m_pag ms⟩ : MM) σ0) (c_may b9 ms σ0 (m_is ms) (bi (okN (m_is ms) (m_now ms) n)) (bi (inR h 0 99))) tX2_may q2322 (mc_0 _ _ _) rfl rfl dX2_payIf_17 (by decide) (Nat.le_of_eq (Nat.zero_add _)) (Nat.le_of_ble_eq_true rfl) ?_
  refine A_if_eq (tgt := 32) dX2_payIf_20 (by decide) (fun c1 => ?_) (fun c1 => ?_)
  · skip
    have c1 := bi_eq0.mp c1
    refine A_iconst (v := 0) dX2_payIf_32 (by decide) ?_
    exact A_iret dX2_payIf_33 rfl ⟨by rw [gd, if_neg c1], rfl⟩
  · skip
    have c1 := bi_ne0.mp c1
    obtain ⟨n9, hn9, rfl⟩ := okN_ex h1 (mayT_y c1)
    refine A_aload_n (i := 0) dX2_payIf_23 rfl rfl ?_
    refine A_iload_n (i := 1) dX2_payIf_24 rfl rfl ?_
    refine A_iload_n (i := 2) dX2_payIf_25 rfl rfl ?_
    refine A_callV2E (v := some (.int (payInN (m_now ms) n9 h))) (τ := mc b9 (⟨mayT (m_is ms) (bi (okN (m_is ms) (m_now ms) (nI n9))) (bi (inR h 0 99)), m_is ms, m_um ms, m_bd ms, m_pc ms, m_pa ms, m_sz ms, m_cu ms, m_st ms, m_tk ms, m_to ms, m_ps ms, m_now ms, m_asd ms, m_und ms, m_sav ms, m_isv ms, m_buf ms, m_grp ms, m_pag ms⟩ : MM) σ0) (c_payIn b9 (⟨mayT (m_is ms) (bi (okN (m_is ms) (m_now ms) (nI n9))) (bi (inR h 0 99)), m_is ms, m_um ms, m_bd ms, m_pc ms, m_pa ms, m_sz ms, m_cu ms, m_st ms, m_tk ms, m_to ms, m_ps ms, m_now ms, m_asd ms, m_und ms, m_sav ms, m_isv ms, m_buf ms, m_grp ms, m_pag ms⟩ : MM) σ0 n9 h (by first | assumption | omega) (by first | assumption | omega)) tX2_payIn q2816 (mc_0 _ _ _) rfl rfl dX2_payIf_26 (by decide) (Nat.le_of_eq (Nat.zero_add _)) (Nat.le_of_ble_eq_true rfl) ?_
    refine A_goto (tgt := 33) dX2_payIf_29 (by decide) ?_
    exact A_iret dX2_payIf_33 rfl ⟨by rw [gd, if_pos c1] <;> first | with_reducible rfl | (simp [-Int32.not_lt, -Int32.not_le, ixn (show n9 < 2000 by omega)]; done) | (simp [ixn (show n9 < 2000 by omega)]), rfl⟩
theorem c_lastHour {l : Launch} {g : GC} (b9 : Nat) (ms : MM) (σ0 : AH) (n : Nat) (h1 : WFc (m_now ms)) (h2 : n < 4) : AMet l g mX2_lastHour 3 0 [.ref b9, .int (nI n)] (mc b9 ms σ0) (A_eq (some (.int (lastHN (m_now ms) n))) (mc b9 ms σ0)) A_no := by
  refine A_of rfl (by decide) (Nat.le_of_ble_eq_true rfl) (L0 := [(0, .ref b9), (1, .int (nI n))]) rfl ?_
  refine A_aload_n (i := 0) dX2_lastHour_0 rfl rfl ?_
  refine A_iload_n (i := 1) dX2_lastHour_1 rfl rfl ?_
  refine A_callV1E (v := some (.int (bi (na (m_now ms) n 3 = 1)))) (τ := mc b9 ms σ0) (c_isHanded b9 ms σ0 n (by first | assumption | omega)) tX2_isHanded q2617 (mc_0 _ _ _) rfl rfl dX2_lastHour_2 (by decide) (Nat.le_of_eq (Nat.zero_add _)) (Nat.le_of_ble_eq_true rfl) ?_
  refine A_if_ne (tgt := 16) dX2_lastHour_5 (by decide) (fun c1 => ?_) (fun c1 => ?_)
  · skip
    have c1 := bi_ne0.mp c1
    refine A_iconst (v := (-1)) dX2_lastHour_16 (by decide) ?_
    exact A_iret dX2_lastHour_17 rfl ⟨by simp [-Int32.not_lt, -Int32.not_le, lastHN, c1], rfl⟩
  · skip
    have c1 := bi_eq0.mp c1
    refine A_aload_n (i := 0) dX2_lastHour_8 rfl rfl ?_
    refine A_iload_n (i := 1) dX2_lastHour_9 rfl rfl ?_
    refine A_callV1E (v := some (.int (flagsN (m_now ms) (nI n)))) (τ := mc b9 ms σ0) (c_flagsOf b9 ms σ0 (nI n) (by first | assumption | omega)) tX2_flagsOf q2605 (mc_0 _ _ _) rfl rfl dX2_lastHour_10 (by decide) (Nat.le_of_eq (Nat.zero_add _)) (Nat.le_of_ble_eq_true rfl) ?_
    refine A_if_ne (tgt := 18) dX2_lastHour_13 (by decide) (fun c2 => ?_) (fun c2 => ?_)
    · skip
      refine A_aload_n (i := 0) dX2_lastHour_18 rfl rfl ?_
      refine A_iload_n (i := 1) dX2_lastHour_19 rfl rfl ?_
      refine A_iconst (v := 2) dX2_lastHour_20 (by decide) ?_
      refine A_callV2E (v := some (.int (na (m_now ms) n 2))) (τ := mc b9 ms σ0) (c_ofNation b9 ms σ0 n 2 (by first | assumption | omega) (by first | assumption | omega)) tX2_ofNation q2613 (mc_0 _ _ _) rfl rfl dX2_lastHour_21 (by decide) (Nat.le_of_eq (Nat.zero_add _)) (Nat.le_of_ble_eq_true rfl) ?_
      refine A_if_ne (tgt := 31) dX2_lastHour_24 (by decide) (fun c3 => ?_) (fun c3 => ?_)
      · skip
        refine A_aload_n (i := 0) dX2_lastHour_31 rfl rfl ?_
        refine A_iload_n (i := 1) dX2_lastHour_32 rfl rfl ?_
        refine A_iconst (v := 0) dX2_lastHour_33 (by decide) ?_
        refine A_callV2E (v := some (.int (na (m_now ms) n 0))) (τ := mc b9 ms σ0) (c_ofNation b9 ms σ0 n 0 (by first | assumption | omega) (by first | assumption | omega)) tX2_ofNation q2613 (mc_0 _ _ _) rfl rfl dX2_lastHour_34 (by decide) (Nat.le_of_eq (Nat.zero_add _)) (Nat.le_of_ble_eq_true rfl) ?_
        refine A_aload_n (i := 0) dX2_lastHour_37 rfl rfl ?_
        refine A_iload_n (i := 1) dX2_lastHour_38 rfl rfl ?_
        refine A_iconst (v := 1) dX2_lastHour_39 (by decide) ?_
        refine A_callV2E (v := some (.int (na (m_now ms) n 1))) (τ := mc b9 ms σ0) (c_ofNation b9 ms σ0 n 1 (by first | assumption | omega) (by first | assumption | omega)) tX2_ofNation q2613 (mc_0 _ _ _) rfl rfl dX2_lastHour_40 (by decide) (Nat.le_of_eq (Nat.zero_add _)) (Nat.le_of_ble_eq_true rfl) ?_
        refine A_iconst (v := 1) dX2_lastHour_43 (by decide) ?_
        refine A_isub dX2_lastHour_44 ?_
        refine A_aload_n (i := 0) dX2_lastHour_45 rfl rfl ?_
        refine A_iload_n (i := 1) dX2_lastHour_46 rfl rfl ?_
        refine A_iconst (v := 2) dX2_lastHour_47 (by decide) ?_
        refine A_callV2E (v := some (.int (na (m_now ms) n 2))) (τ := mc b9 ms σ0) (c_ofNation b9 ms σ0 n 2 (by first | assumption | omega) (by first | assumption | omega)) tX2_ofNation q2613 (mc_0 _ _ _) rfl rfl dX2_lastHour_48 (by decide) (Nat.le_of_eq (Nat.zero_add _)) (Nat.le_of_ble_eq_true rfl) ?_
        refine A_idiv dX2_lastHour_51 c3 ?_
        refine A_iadd dX2_lastHour_52 ?_
        refine A_istore_n (i := 2) dX2_lastHour_53 rfl (Nat.le_of_ble_eq_true rfl) ?_
        refine A_iload_n (i := 2) dX2_lastHour_54 rfl rfl ?_
        refine A_aload_n (i := 0) dX2_lastHour_55 rfl rfl ?_
        refine M_get 1 (v := .ref (b9 + 1)) (Nat.le_of_ble_eq_true rfl) q2230 rfl dX2_lastHour_56 ?_
        refine A_iconst (v := 0) dX2_lastHour_59 (by decide) ?_
        refine M_ald1 (n := 0) (v := m_now ms 0) (rfl) (by decide) (rfl) dX2_lastHour_60 ?_
        refine A_icmp_ge (tgt := 68) dX2_lastHour_61 (by decide) (fun c4 => ?_) (fun c4 => ?_)
        · skip
          refine A_iload_n (i := 2) dX2_lastHour_68 rfl rfl ?_
          exact A_iret dX2_lastHour_69 rfl ⟨by simp [-Int32.not_lt, -Int32.not_le, lastHN, c1, c2, c3, c4], rfl⟩
        · skip
          refine A_iconst (v := (-1)) dX2_lastHour_64 (by decide) ?_
          refine A_goto (tgt := 69) dX2_lastHour_65 (by decide) ?_
          exact A_iret dX2_lastHour_69 rfl ⟨by simp [-Int32.not_lt, -Int32.not_le, lastHN, c1, c2, c3, c4], rfl⟩
      · skip
        refine A_sipush (v := 999) dX2_lastHour_27 (by decide) ?_
        exact A_iret dX2_lastHour_30 rfl ⟨by simp [-Int32.not_lt, -Int32.not_le, lastHN, c1, c2, c3], rfl⟩
    · skip
      refine A_iconst (v := (-1)) dX2_lastHour_16 (by decide) ?_
      exact A_iret dX2_lastHour_17 rfl ⟨by simp [-Int32.not_lt, -Int32.not_le, lastHN, c1, c2], rfl⟩
theorem c_latest {l : Launch} {g : GC} (b9 : Nat) (ms : MM) (σ0 : AH) (n : Int32) (h1 : WFc (m_now ms)) : AMet l g mX2_latest 4 0 [.ref b9, .int n] (mc b9 ms σ0) (A_eq (some (.int (gd (mayT (m_is ms) (bi (okN (m_is ms) (m_now ms) n)) 1) (lastHN (m_now ms) (ix n))))) (mc b9 (⟨mayT (m_is ms) (bi (okN (m_is ms) (m_now ms) n)) 1, m_is ms, m_um ms, m_bd ms, m_pc ms, m_pa ms, m_sz ms, m_cu ms, m_st ms, m_tk ms, m_to ms, m_ps ms, m_now ms, m_asd ms, m_und ms, m_sav ms, m_isv ms, m_buf ms, m_grp ms, m_pag ms⟩ : MM) σ0)) A_no := by
  refine A_of rfl (by decide) (Nat.le_of_ble_eq_true rfl) (L0 := [(0, .ref b9), (1, .int n)]) rfl ?_
  have hF := h1.2.2.2.2.2
  have hC := h1.1.2
  have hN := h1.2.1.2
  refine A_aload_n (i := 0) dX2_latest_0 rfl rfl ?_
  refine A_aload_n (i := 0) dX2_latest_1 rfl rfl ?_
  refine M_get 6 (v := .int (m_is ms)) (Nat.le_of_ble_eq_true rfl) q2235 rfl dX2_latest_2 ?_
  refine A_aload_n (i := 0) dX2_latest_5 rfl rfl ?_
  refine A_iload_n (i := 1) dX2_latest_6 rfl rfl ?_
  refine A_callV1E (v := some (.int (bi (okN (m_is ms) (m_now ms) n)))) (τ := mc b9 ms σ0) (c_isNation b9 ms σ0 n) tX2_isNation q2601 (mc_0 _ _ _) rfl rfl dX2_latest_7 (by decide) (Nat.le_of_eq (Nat.zero_add _)) (Nat.le_of_ble_eq_true rfl) ?_
  refine A_callV2E (v := some (.int (bi (mayT (m_is ms) (bi (okN (m_is ms) (m_now ms) n)) 1 = 0)))) (τ := mc b9 (⟨mayT (m_is ms) (bi (okN (m_is ms) (m_now ms) n)) 1, m_is ms, m_um ms, m_bd ms, m_pc ms, m_pa ms, m_sz ms, m_cu ms, m_st ms, m_tk ms, m_to ms, m_ps ms, m_now ms, m_asd ms, m_und ms, m_sav ms, m_isv ms, m_buf ms, m_grp ms, m_pag ms⟩ : MM) σ0) (c_mayTwo b9 ms σ0 (m_is ms) (bi (okN (m_is ms) (m_now ms) n))) tX2_mayTwo q2565 (mc_0 _ _ _) rfl rfl dX2_latest_10 (by decide) (Nat.le_of_eq (Nat.zero_add _)) (Nat.le_of_ble_eq_true rfl) ?_
  refine A_if_eq (tgt := 24) dX2_latest_13 (by decide) (fun c1 => ?_) (fun c1 => ?_)
  · skip
    have c1 := bi_eq0.mp c1
    refine A_iconst (v := 0) dX2_latest_24 (by decide) ?_
    exact A_iret dX2_latest_25 rfl ⟨by rw [gd, if_neg c1], rfl⟩
  · skip
    have c1 := bi_ne0.mp c1
    obtain ⟨n9, hn9, rfl⟩ := okN_ex h1 (mayT_y c1)
    refine A_aload_n (i := 0) dX2_latest_16 rfl rfl ?_
    refine A_iload_n (i := 1) dX2_latest_17 rfl rfl ?_
    refine A_callV1E (v := some (.int (lastHN (m_now ms) n9))) (τ := mc b9 (⟨mayT (m_is ms) (bi (okN (m_is ms) (m_now ms) (nI n9))) 1, m_is ms, m_um ms, m_bd ms, m_pc ms, m_pa ms, m_sz ms, m_cu ms, m_st ms, m_tk ms, m_to ms, m_ps ms, m_now ms, m_asd ms, m_und ms, m_sav ms, m_isv ms, m_buf ms, m_grp ms, m_pag ms⟩ : MM) σ0) (c_lastHour b9 (⟨mayT (m_is ms) (bi (okN (m_is ms) (m_now ms) (nI n9))) 1, m_is ms, m_um ms, m_bd ms, m_pc ms, m_pa ms, m_sz ms, m_cu ms, m_st ms, m_tk ms, m_to ms, m_ps ms, m_now ms, m_asd ms, m_und ms, m_sav ms, m_isv ms, m_buf ms, m_grp ms, m_pag ms⟩ : MM) σ0 n9 (by first | assumption | omega) (by first | assumption | omega)) tX2_lastHour q2828 (mc_0 _ _ _) rfl rfl dX2_latest_18 (by decide) (Nat.le_of_eq (Nat.zero_add _)) (Nat.le_of_ble_eq_true rfl) ?_
    refine A_goto (tgt := 25) dX2_latest_21 (by decide) ?_
    exact A_iret dX2_latest_25 rfl ⟨by rw [gd, if_pos c1] <;> first | with_reducible rfl | (simp [-Int32.not_lt, -Int32.not_le, ixn (show n9 < 2000 by omega)]; done) | (simp [ixn (show n9 < 2000 by omega)]), rfl⟩
def deU (N : AF) : Nat → Int32 × Int32
  | 0 => (-1, 0)
  | n + 1 => if (deU N n).2 < payInN N n 0 - payInN N n 1 then (nI n, payInN N n 0 - payInN N n 1) else deU N n
theorem deU_s (N : AF) (n : Nat) : deU N (n + 1) = if (deU N n).2 < payInN N n 0 - payInN N n 1 then (nI n, payInN N n 0 - payInN N n 1) else deU N n := rfl
theorem c_dearest {l : Launch} {g : GC} (b9 : Nat) (ms : MM) (σ0 : AH)  (h1 : WFc (m_now ms)) : AMet l g mX2_dearest 5 0 [.ref b9] (mc b9 ms σ0) (A_eq (some (.int (gd (mayT (m_is ms) 1 1) (deU (m_now ms) (nN (m_now ms))).1))) (mc b9 (⟨mayT (m_is ms) 1 1, m_is ms, m_um ms, m_bd ms, m_pc ms, m_pa ms, m_sz ms, m_cu ms, m_st ms, m_tk ms, m_to ms, m_ps ms, m_now ms, m_asd ms, m_und ms, m_sav ms, m_isv ms, m_buf ms, m_grp ms, m_pag ms⟩ : MM) σ0)) A_no := by
  refine A_of rfl (by decide) (Nat.le_of_ble_eq_true rfl) (L0 := [(0, .ref b9)]) rfl ?_
  have hF := h1.2.2.2.2.2
  have hC := h1.1.2
  have hN := h1.2.1.2
  refine A_aload_n (i := 0) dX2_dearest_0 rfl rfl ?_
  refine A_callV0E (v := some (.int (bi (mayT (m_is ms) 1 1 = 0)))) (τ := mc b9 (⟨mayT (m_is ms) 1 1, m_is ms, m_um ms, m_bd ms, m_pc ms, m_pa ms, m_sz ms, m_cu ms, m_st ms, m_tk ms, m_to ms, m_ps ms, m_now ms, m_asd ms, m_und ms, m_sav ms, m_isv ms, m_buf ms, m_grp ms, m_pag ms⟩ : MM) σ0) (c_mayLook b9 ms σ0) tX2_mayLook q2669 (mc_0 _ _ _) rfl rfl dX2_dearest_1 (by decide) (Nat.le_of_eq (Nat.zero_add _)) (Nat.le_of_ble_eq_true rfl) ?_
  refine A_if_ne (tgt := 9) dX2_dearest_4 (by decide) (fun c1 => ?_) (fun c1 => ?_)
  · skip
    have c1 := bi_ne0.mp c1
    refine A_iconst (v := (-1)) dX2_dearest_9 (by decide) ?_
    refine A_istore_n (i := 1) dX2_dearest_10 rfl (Nat.le_of_ble_eq_true rfl) ?_
    refine A_iconst (v := 0) dX2_dearest_11 (by decide) ?_
    refine A_istore_n (i := 2) dX2_dearest_12 rfl (Nat.le_of_ble_eq_true rfl) ?_
    refine A_iconst (v := 0) dX2_dearest_13 (by decide) ?_
    refine A_istore_n (i := 3) dX2_dearest_14 rfl (Nat.le_of_ble_eq_true rfl) ?_
    refine A_sub (L' := [(0, .ref b9), (1, .int ((deU (m_now ms) 0).1)), (2, .int ((deU (m_now ms) 0).2)), (3, .int (nI 0))]) ⟨rfl, rfl, rfl, rfl, trivial⟩ ?_
    refine A_for (nN (m_now ms)) (fun i15 => 0) (fun i15 => [(0, .ref b9), (1, .int ((deU (m_now ms) i15).1)), (2, .int ((deU (m_now ms) i15).2)), (3, .int (nI i15))]) (fun i15 => mc b9 (⟨mayT (m_is ms) 1 1, m_is ms, m_um ms, m_bd ms, m_pc ms, m_pa ms, m_sz ms, m_cu ms, m_st ms, m_tk ms, m_to ms, m_ps ms, m_now ms, m_asd ms, m_und ms, m_sav ms, m_isv ms, m_buf ms, m_grp ms, m_pag ms⟩ : MM) σ0) (fun i15 => True) trivial (fun i15 hi15 hI15 ih15 => ?_) (fun hI15 => ?_)
    · skip
      refine A_iload_n (i := 3) dX2_dearest_15 rfl rfl ?_
      refine A_aload_n (i := 0) dX2_dearest_16 rfl rfl ?_
      refine M_get 1 (v := .ref (b9 + 1)) (Nat.le_of_ble_eq_true rfl) q2230 rfl dX2_dearest_17 ?_
      refine A_bipush (v := 7) dX2_dearest_20 (by decide) ?_
      refine M_ald1 (n := 7) (v := m_now ms 7) (rfl) (by decide) (rfl) dX2_dearest_22 ?_
      refine A_icmp_ge_f (tgt := 61) dX2_dearest_23 (by decide) (br_lt h1.2.1.1 hi15 (by omega)) ?_
      refine A_aload_n (i := 0) dX2_dearest_26 rfl rfl ?_
      refine A_iload_n (i := 3) dX2_dearest_27 rfl rfl ?_
      refine A_iconst (v := 0) dX2_dearest_28 (by decide) ?_
      refine A_callV2E (v := some (.int (payInN (m_now ms) i15 0))) (τ := mc b9 (⟨mayT (m_is ms) 1 1, m_is ms, m_um ms, m_bd ms, m_pc ms, m_pa ms, m_sz ms, m_cu ms, m_st ms, m_tk ms, m_to ms, m_ps ms, m_now ms, m_asd ms, m_und ms, m_sav ms, m_isv ms, m_buf ms, m_grp ms, m_pag ms⟩ : MM) σ0) (c_payIn b9 (⟨mayT (m_is ms) 1 1, m_is ms, m_um ms, m_bd ms, m_pc ms, m_pa ms, m_sz ms, m_cu ms, m_st ms, m_tk ms, m_to ms, m_ps ms, m_now ms, m_asd ms, m_und ms, m_sav ms, m_isv ms, m_buf ms, m_grp ms, m_pag ms⟩ : MM) σ0 i15 0 (by first | assumption | omega) (by first | assumption | omega)) tX2_payIn q2816 (mc_0 _ _ _) rfl rfl dX2_dearest_29 (by decide) (Nat.le_of_eq (Nat.zero_add _)) (Nat.le_of_ble_eq_true rfl) ?_
      refine A_aload_n (i := 0) dX2_dearest_32 rfl rfl ?_
      refine A_iload_n (i := 3) dX2_dearest_33 rfl rfl ?_
      refine A_iconst (v := 1) dX2_dearest_34 (by decide) ?_
      refine A_callV2E (v := some (.int (payInN (m_now ms) i15 1))) (τ := mc b9 (⟨mayT (m_is ms) 1 1, m_is ms, m_um ms, m_bd ms, m_pc ms, m_pa ms, m_sz ms, m_cu ms, m_st ms, m_tk ms, m_to ms, m_ps ms, m_now ms, m_asd ms, m_und ms, m_sav ms, m_isv ms, m_buf ms, m_grp ms, m_pag ms⟩ : MM) σ0) (c_payIn b9 (⟨mayT (m_is ms) 1 1, m_is ms, m_um ms, m_bd ms, m_pc ms, m_pa ms, m_sz ms, m_cu ms, m_st ms, m_tk ms, m_to ms, m_ps ms, m_now ms, m_asd ms, m_und ms, m_sav ms, m_isv ms, m_buf ms, m_grp ms, m_pag ms⟩ : MM) σ0 i15 1 (by first | assumption | omega) (by first | assumption | omega)) tX2_payIn q2816 (mc_0 _ _ _) rfl rfl dX2_dearest_35 (by decide) (Nat.le_of_eq (Nat.zero_add _)) (Nat.le_of_ble_eq_true rfl) ?_
      refine A_isub dX2_dearest_38 ?_
      refine A_istore dX2_dearest_39 (Nat.le_of_ble_eq_true rfl) ?_
      refine A_iload dX2_dearest_41 rfl ?_
      refine A_iload_n (i := 2) dX2_dearest_43 rfl rfl ?_
      refine A_icmp_gt (tgt := 50) dX2_dearest_44 (by decide) (fun c2 => ?_) (fun c2 => ?_)
      · skip
        refine A_iload dX2_dearest_50 rfl ?_
        refine A_istore_n (i := 2) dX2_dearest_52 rfl (Nat.le_of_ble_eq_true rfl) ?_
        refine A_iload_n (i := 3) dX2_dearest_53 rfl rfl ?_
        refine A_istore_n (i := 1) dX2_dearest_54 rfl (Nat.le_of_ble_eq_true rfl) ?_
        refine A_iinc (v := nI (i15 + 1)) dX2_dearest_55 rfl (nI_inc _ _) (Nat.le_of_ble_eq_true rfl) ?_
        refine A_goto (tgt := 15) dX2_dearest_58 (by decide) ?_
        refine A_sub (L' := [(0, .ref b9), (1, .int ((deU (m_now ms) (i15 + 1)).1)), (2, .int ((deU (m_now ms) (i15 + 1)).2)), (3, .int (nI (i15 + 1)))]) ⟨rfl, lg_eq (by rw [deU_s, if_pos c2]), lg_eq (by rw [deU_s, if_pos c2]), rfl, trivial⟩ ?_
        exact ih15 trivial
      · skip
        refine A_goto (tgt := 55) dX2_dearest_47 (by decide) ?_
        refine A_iinc (v := nI (i15 + 1)) dX2_dearest_55 rfl (nI_inc _ _) (Nat.le_of_ble_eq_true rfl) ?_
        refine A_goto (tgt := 15) dX2_dearest_58 (by decide) ?_
        refine A_sub (L' := [(0, .ref b9), (1, .int ((deU (m_now ms) (i15 + 1)).1)), (2, .int ((deU (m_now ms) (i15 + 1)).2)), (3, .int (nI (i15 + 1)))]) ⟨rfl, lg_eq (by rw [deU_s, if_neg c2]), lg_eq (by rw [deU_s, if_neg c2]), rfl, trivial⟩ ?_
        exact ih15 trivial
    · skip
      refine A_iload_n (i := 3) dX2_dearest_15 rfl rfl ?_
      refine A_aload_n (i := 0) dX2_dearest_16 rfl rfl ?_
      refine M_get 1 (v := .ref (b9 + 1)) (Nat.le_of_ble_eq_true rfl) q2230 rfl dX2_dearest_17 ?_
      refine A_bipush (v := 7) dX2_dearest_20 (by decide) ?_
      refine M_ald1 (n := 7) (v := m_now ms 7) (rfl) (by decide) (rfl) dX2_dearest_22 ?_
      refine A_icmp_ge_t (tgt := 61) dX2_dearest_23 (by decide) (br_ge h1.2.1.1) ?_
      refine A_iload_n (i := 1) dX2_dearest_61 rfl rfl ?_
      exact A_iret dX2_dearest_62 rfl ⟨by rw [gd, if_pos c1], rfl⟩
  · skip
    have c1 := bi_eq0.mp c1
    refine A_iconst (v := 0) dX2_dearest_7 (by decide) ?_
    exact A_iret dX2_dearest_8 rfl ⟨by rw [gd, if_neg c1], rfl⟩
theorem c_isSafe {l : Launch} {g : GC} (b9 : Nat) (ms : MM) (σ0 : AH) (f : Nat) (t : Nat) (h : Int32) (h1 : WFc (m_now ms)) (h2 : f < 12) (h3 : t < 3) : AMet l g mX2_isSafe 6 0 [.ref b9, .int (nI f), .int (nI t), .int h] (mc b9 ms σ0) (fun w9 τ9 => ∃ (y0 : AF), w9 = some (.int (bi (safeN (m_now ms) f t h))) ∧ τ9 = mc b9 (⟨m_thr ms, m_is ms, m_um ms, m_bd ms, m_pc ms, m_pa ms, m_sz ms, m_cu ms, m_st ms, m_tk ms, m_to ms, m_ps ms, m_now ms, y0, m_und ms, m_sav ms, m_isv ms, m_buf ms, m_grp ms, m_pag ms⟩ : MM) σ0) A_no := by
  refine A_of rfl (by decide) (Nat.le_of_ble_eq_true rfl) (L0 := [(0, .ref b9), (1, .int (nI f)), (2, .int (nI t)), (3, .int h)]) rfl ?_
  have w2 : WFc (putIn (m_now ms) f (nI t)) := (cts_putIn _ _ _).wf h1
  refine A_aload_n (i := 0) dX2_isSafe_0 rfl rfl ?_
  refine A_iload_n (i := 1) dX2_isSafe_1 rfl rfl ?_
  refine A_iload_n (i := 2) dX2_isSafe_2 rfl rfl ?_
  refine A_callV2E (v := some (.int (whyPutN (m_now ms) f t))) (τ := mc b9 ms σ0) (c_whyPut b9 ms σ0 f t (by first | assumption | omega) (by first | assumption | omega) (by first | assumption | omega)) tX2_whyPut q2432 (mc_0 _ _ _) rfl rfl dX2_isSafe_3 (by decide) (Nat.le_of_eq (Nat.zero_add _)) (Nat.le_of_ble_eq_true rfl) ?_
  refine A_if_eq (tgt := 11) dX2_isSafe_6 (by decide) (fun c1 => ?_) (fun c1 => ?_)
  · skip
    refine A_aload_n (i := 0) dX2_isSafe_11 rfl rfl ?_
    refine A_callV0E (v := none) (τ := mc b9 (⟨m_thr ms, m_is ms, m_um ms, m_bd ms, m_pc ms, m_pa ms, m_sz ms, m_cu ms, m_st ms, m_tk ms, m_to ms, m_ps ms, m_now ms, (m_now ms), m_und ms, m_sav ms, m_isv ms, m_buf ms, m_grp ms, m_pag ms⟩ : MM) σ0) (c_thinks b9 ms σ0) tX2_thinks q2326 (mc_0 _ _ _) rfl rfl dX2_isSafe_12 (by decide) (Nat.le_of_eq (Nat.zero_add _)) (Nat.le_of_ble_eq_true rfl) ?_
    refine A_aload_n (i := 0) dX2_isSafe_15 rfl rfl ?_
    refine A_iload_n (i := 1) dX2_isSafe_16 rfl rfl ?_
    refine A_iload_n (i := 2) dX2_isSafe_17 rfl rfl ?_
    refine A_callV2E (v := none) (τ := mc b9 (⟨m_thr ms, m_is ms, m_um ms, m_bd ms, m_pc ms, m_pa ms, m_sz ms, m_cu ms, m_st ms, m_tk ms, m_to ms, m_ps ms, putIn (m_now ms) f (nI t), (m_now ms), m_und ms, m_sav ms, m_isv ms, m_buf ms, m_grp ms, m_pag ms⟩ : MM) σ0) (c_putsInto b9 (⟨m_thr ms, m_is ms, m_um ms, m_bd ms, m_pc ms, m_pa ms, m_sz ms, m_cu ms, m_st ms, m_tk ms, m_to ms, m_ps ms, m_now ms, (m_now ms), m_und ms, m_sav ms, m_isv ms, m_buf ms, m_grp ms, m_pag ms⟩ : MM) σ0 f (nI t) (by first | assumption | omega)) tX2_putsInto q2459 (mc_0 _ _ _) rfl rfl dX2_isSafe_18 (by decide) (Nat.le_of_eq (Nat.zero_add _)) (Nat.le_of_ble_eq_true rfl) ?_
    refine A_aload_n (i := 0) dX2_isSafe_21 rfl rfl ?_
    refine A_aload_n (i := 0) dX2_isSafe_22 rfl rfl ?_
    refine A_iload_n (i := 2) dX2_isSafe_23 rfl rfl ?_
    refine A_iload_n (i := 3) dX2_isSafe_24 rfl rfl ?_
    refine A_callV2E (v := some (.int (whyWashN (putIn (m_now ms) f (nI t)) (nI t) h))) (τ := mc b9 (⟨m_thr ms, m_is ms, m_um ms, m_bd ms, m_pc ms, m_pa ms, m_sz ms, m_cu ms, m_st ms, m_tk ms, m_to ms, m_ps ms, putIn (m_now ms) f (nI t), (m_now ms), m_und ms, m_sav ms, m_isv ms, m_buf ms, m_grp ms, m_pag ms⟩ : MM) σ0) (c_whyWash b9 (⟨m_thr ms, m_is ms, m_um ms, m_bd ms, m_pc ms, m_pa ms, m_sz ms, m_cu ms, m_st ms, m_tk ms, m_to ms, m_ps ms, putIn (m_now ms) f (nI t), (m_now ms), m_und ms, m_sav ms, m_isv ms, m_buf ms, m_grp ms, m_pag ms⟩ : MM) σ0 (nI t) h (by first | assumption | omega)) tX2_whyWash q2468 (mc_0 _ _ _) rfl rfl dX2_isSafe_25 (by decide) (Nat.le_of_eq (Nat.zero_add _)) (Nat.le_of_ble_eq_true rfl) ?_
    refine A_aload_n (i := 0) dX2_isSafe_28 rfl rfl ?_
    refine A_iload_n (i := 2) dX2_isSafe_29 rfl rfl ?_
    refine A_iload_n (i := 3) dX2_isSafe_30 rfl rfl ?_
    refine A_callV2E (v := some (.int (stainBy (putIn (m_now ms) f (nI t)) (nI t) h))) (τ := mc b9 (⟨m_thr ms, m_is ms, m_um ms, m_bd ms, m_pc ms, m_pa ms, m_sz ms, m_cu ms, m_st ms, m_tk ms, m_to ms, m_ps ms, putIn (m_now ms) f (nI t), (m_now ms), m_und ms, m_sav ms, m_isv ms, m_buf ms, m_grp ms, m_pag ms⟩ : MM) σ0) (c_stainedBy b9 (⟨m_thr ms, m_is ms, m_um ms, m_bd ms, m_pc ms, m_pa ms, m_sz ms, m_cu ms, m_st ms, m_tk ms, m_to ms, m_ps ms, putIn (m_now ms) f (nI t), (m_now ms), m_und ms, m_sav ms, m_isv ms, m_buf ms, m_grp ms, m_pag ms⟩ : MM) σ0 (nI t) h (by first | assumption | omega)) tX2_stainedBy q2493 (mc_0 _ _ _) rfl rfl dX2_isSafe_31 (by decide) (Nat.le_of_eq (Nat.zero_add _)) (Nat.le_of_ble_eq_true rfl) ?_
    refine A_iadd dX2_isSafe_34 ?_
    refine A_callV1E (v := some (.int ((whyWashN (putIn (m_now ms) f (nI t)) (nI t) h) + (stainBy (putIn (m_now ms) f (nI t)) (nI t) h)))) (τ := mc b9 (⟨m_thr ms, m_is ms, m_um ms, m_bd ms, m_pc ms, m_pa ms, m_sz ms, m_cu ms, m_st ms, m_tk ms, m_to ms, m_ps ms, (m_now ms), (m_now ms), m_und ms, m_sav ms, m_isv ms, m_buf ms, m_grp ms, m_pag ms⟩ : MM) σ0) (c_back b9 (⟨m_thr ms, m_is ms, m_um ms, m_bd ms, m_pc ms, m_pa ms, m_sz ms, m_cu ms, m_st ms, m_tk ms, m_to ms, m_ps ms, putIn (m_now ms) f (nI t), (m_now ms), m_und ms, m_sav ms, m_isv ms, m_buf ms, m_grp ms, m_pag ms⟩ : MM) σ0 ((whyWashN (putIn (m_now ms) f (nI t)) (nI t) h) + (stainBy (putIn (m_now ms) f (nI t)) (nI t) h))) tX2_back q2557 (mc_0 _ _ _) rfl rfl dX2_isSafe_35 (by decide) (Nat.le_of_eq (Nat.zero_add _)) (Nat.le_of_ble_eq_true rfl) ?_
    refine A_if_ne (tgt := 45) dX2_isSafe_38 (by decide) (fun c2 => ?_) (fun c2 => ?_)
    · skip
      refine A_iconst (v := 0) dX2_isSafe_45 (by decide) ?_
      exact A_zret dX2_isSafe_46 rfl (rfl) ⟨_, by simp [bi, safeN, c1, c2], rfl⟩
    · skip
      refine A_iconst (v := 1) dX2_isSafe_41 (by decide) ?_
      refine A_goto (tgt := 46) dX2_isSafe_42 (by decide) ?_
      exact A_zret dX2_isSafe_46 rfl (rfl) ⟨_, by simp [bi, safeN, c1, c2], rfl⟩
  · skip
    refine A_iconst (v := 0) dX2_isSafe_9 (by decide) ?_
    exact A_zret dX2_isSafe_10 rfl (rfl) ⟨_, by simp [bi, safeN, c1], rfl⟩
theorem c_firstSafe {l : Launch} {g : GC} (b9 : Nat) (ms : MM) (σ0 : AH) (t : Int32) (h : Int32) (h1 : WFc (m_now ms)) : AMet l g mX2_firstSafe 7 0 [.ref b9, .int t, .int h] (mc b9 ms σ0) (fun w9 τ9 => ∃ (y0 : AF), w9 = some (.int (gd (mayT (m_is ms) (bi (okT (m_is ms) (m_now ms) t)) (bi (inR h 0 3))) (firstSafeN (m_now ms) (ix t) h))) ∧ τ9 = mc b9 (⟨mayT (m_is ms) (bi (okT (m_is ms) (m_now ms) t)) (bi (inR h 0 3)), m_is ms, m_um ms, m_bd ms, m_pc ms, m_pa ms, m_sz ms, m_cu ms, m_st ms, m_tk ms, m_to ms, m_ps ms, m_now ms, y0, m_und ms, m_sav ms, m_isv ms, m_buf ms, m_grp ms, m_pag ms⟩ : MM) σ0) A_no := by
  refine A_of rfl (by decide) (Nat.le_of_ble_eq_true rfl) (L0 := [(0, .ref b9), (1, .int t), (2, .int h)]) rfl ?_
  have hF := h1.2.2.2.2.2
  have hC := h1.1.2
  have hT := h1.2.2.1.2
  refine A_aload_n (i := 0) dX2_firstSafe_0 rfl rfl ?_
  refine A_iload_n (i := 1) dX2_firstSafe_1 rfl rfl ?_
  refine A_iload_n (i := 2) dX2_firstSafe_2 rfl rfl ?_
  refine A_callV2E (v := some (.int (bi (mayT (m_is ms) (bi (okT (m_is ms) (m_now ms) t)) (bi (inR h 0 3)) = 0)))) (τ := mc b9 (⟨mayT (m_is ms) (bi (okT (m_is ms) (m_now ms) t)) (bi (inR h 0 3)), m_is ms, m_um ms, m_bd ms, m_pc ms, m_pa ms, m_sz ms, m_cu ms, m_st ms, m_tk ms, m_to ms, m_ps ms, m_now ms, m_asd ms, m_und ms, m_sav ms, m_isv ms, m_buf ms, m_grp ms, m_pag ms⟩ : MM) σ0) (c_mayHeat b9 ms σ0 t h) tX2_mayHeat q2710 (mc_0 _ _ _) rfl rfl dX2_firstSafe_3 (by decide) (Nat.le_of_eq (Nat.zero_add _)) (Nat.le_of_ble_eq_true rfl) ?_
  refine A_if_ne (tgt := 11) dX2_firstSafe_6 (by decide) (fun c1 => ?_) (fun c1 => ?_)
  · skip
    have c1 := bi_ne0.mp c1
    obtain ⟨t9, ht9, rfl⟩ := okT_ex h1 (mayT_y c1)
    refine A_iconst (v := 0) dX2_firstSafe_11 (by decide) ?_
    refine A_istore_n (i := 3) dX2_firstSafe_12 rfl (Nat.le_of_ble_eq_true rfl) ?_
    refine A_sub (L' := [(0, .ref b9), (1, .int (nI t9)), (2, .int h), (3, .int (nI 0))]) ⟨rfl, rfl, rfl, rfl, trivial⟩ ?_
    refine A_forP (α := AF) (nF (m_now ms)) (fun i13 u13 => 0) (fun i13 u13 => [(0, .ref b9), (1, .int (nI t9)), (2, .int h), (3, .int (nI i13))]) (fun i13 u13 => mc b9 (⟨mayT (m_is ms) (bi (okT (m_is ms) (m_now ms) (nI t9))) (bi (inR h 0 3)), m_is ms, m_um ms, m_bd ms, m_pc ms, m_pa ms, m_sz ms, m_cu ms, m_st ms, m_tk ms, m_to ms, m_ps ms, m_now ms, u13, m_und ms, m_sav ms, m_isv ms, m_buf ms, m_grp ms, m_pag ms⟩ : MM) σ0) (fun i13 u13 => firstSafeN (m_now ms) t9 h = fsr (fun f => safeN (m_now ms) f t9 h) i13 (nF (m_now ms) - i13)) (m_asd ms) rfl (fun i13 u13 hi13 hI13 ih13 => ?_) (fun u13 hI13 => ?_)
    · skip
      refine A_iload_n (i := 3) dX2_firstSafe_13 rfl rfl ?_
      refine A_aload_n (i := 0) dX2_firstSafe_14 rfl rfl ?_
      refine M_get 1 (v := .ref (b9 + 1)) (Nat.le_of_ble_eq_true rfl) q2230 rfl dX2_firstSafe_15 ?_
      refine A_bipush (v := 10) dX2_firstSafe_18 (by decide) ?_
      refine M_ald1 (n := 10) (v := m_now ms 10) (rfl) (by decide) (rfl) dX2_firstSafe_20 ?_
      refine A_icmp_ge_f (tgt := 42) dX2_firstSafe_21 (by decide) (br_lt h1.2.2.2.2.1 hi13 (by omega)) ?_
      refine A_aload_n (i := 0) dX2_firstSafe_24 rfl rfl ?_
      refine A_iload_n (i := 3) dX2_firstSafe_25 rfl rfl ?_
      refine A_iload_n (i := 1) dX2_firstSafe_26 rfl rfl ?_
      refine A_iload_n (i := 2) dX2_firstSafe_27 rfl rfl ?_
      refine A_callV3 (c_isSafe b9 (⟨mayT (m_is ms) (bi (okT (m_is ms) (m_now ms) (nI t9))) (bi (inR h 0 3)), m_is ms, m_um ms, m_bd ms, m_pc ms, m_pa ms, m_sz ms, m_cu ms, m_st ms, m_tk ms, m_to ms, m_ps ms, m_now ms, u13, m_und ms, m_sav ms, m_isv ms, m_buf ms, m_grp ms, m_pag ms⟩ : MM) σ0 i13 t9 h (by first | assumption | omega) (by first | assumption | omega) (by first | assumption | omega)) tX2_isSafe q2761 (mc_0 _ _ _) rfl rfl dX2_firstSafe_28 (by decide) (Nat.le_of_eq (Nat.zero_add _)) (Nat.le_of_ble_eq_true rfl) (fun w9 τ9 h9 => ?_) (fun E9 q9 τ9 h9 => h9.elim)
      obtain ⟨x2_0, e91, e92⟩ := h9
      subst e91
      subst e92
      show AW _ _ _ _ _ _ _ _ _ (.int (bi (safeN (m_now ms) i13 t9 h)) :: []) (mc b9 (⟨mayT (m_is ms) (bi (okT (m_is ms) (m_now ms) (nI t9))) (bi (inR h 0 3)), m_is ms, m_um ms, m_bd ms, m_pc ms, m_pa ms, m_sz ms, m_cu ms, m_st ms, m_tk ms, m_to ms, m_ps ms, m_now ms, x2_0, m_und ms, m_sav ms, m_isv ms, m_buf ms, m_grp ms, m_pag ms⟩ : MM) σ0)
      refine A_if_eq (tgt := 36) dX2_firstSafe_31 (by decide) (fun c3 => ?_) (fun c3 => ?_)
      · skip
        have c3 := bi_eq0.mp c3
        refine A_iinc (v := nI (i13 + 1)) dX2_firstSafe_36 rfl (nI_inc _ _) (Nat.le_of_ble_eq_true rfl) ?_
        refine A_goto (tgt := 13) dX2_firstSafe_39 (by decide) ?_
        refine A_sub (L' := [(0, .ref b9), (1, .int (nI t9)), (2, .int h), (3, .int (nI (i13 + 1)))]) ⟨rfl, rfl, rfl, rfl, trivial⟩ ?_
        exact ih13 x2_0 (by rw [hI13, fsr_s _ hi13, if_neg (by simp only [safeN]; exact c3)])
      · skip
        have c3 := bi_ne0.mp c3
        refine A_iload_n (i := 3) dX2_firstSafe_34 rfl rfl ?_
        exact A_iret dX2_firstSafe_35 rfl ⟨_, by rw [gd, if_pos c1, ixn (show t9 < 2000 by omega), hI13, fsr_s _ hi13, if_pos c3], rfl⟩
    · skip
      refine A_iload_n (i := 3) dX2_firstSafe_13 rfl rfl ?_
      refine A_aload_n (i := 0) dX2_firstSafe_14 rfl rfl ?_
      refine M_get 1 (v := .ref (b9 + 1)) (Nat.le_of_ble_eq_true rfl) q2230 rfl dX2_firstSafe_15 ?_
      refine A_bipush (v := 10) dX2_firstSafe_18 (by decide) ?_
      refine M_ald1 (n := 10) (v := m_now ms 10) (rfl) (by decide) (rfl) dX2_firstSafe_20 ?_
      refine A_icmp_ge_t (tgt := 42) dX2_firstSafe_21 (by decide) (br_ge h1.2.2.2.2.1) ?_
      refine A_iconst (v := (-1)) dX2_firstSafe_42 (by decide) ?_
      exact A_iret dX2_firstSafe_43 rfl ⟨_, by rw [gd, if_pos c1, ixn (show t9 < 2000 by omega), hI13, fsr_e], rfl⟩
  · skip
    have c1 := bi_eq0.mp c1
    refine A_iconst (v := 0) dX2_firstSafe_9 (by decide) ?_
    exact A_iret dX2_firstSafe_10 rfl ⟨_, by rw [gd, if_neg c1], rfl⟩
theorem c_driesIn {l : Launch} {g : GC} (b9 : Nat) (ms : MM) (σ0 : AH) (f : Nat) (h1 : WFc (m_now ms)) (h2 : f < 12) : AMet l g mX2_driesIn 6 0 [.ref b9, .int (nI f)] (mc b9 ms σ0) (fun w9 τ9 => ∃ (y0 : AF), w9 = some (.int (dryIn (m_now ms) f)) ∧ τ9 = mc b9 (⟨m_thr ms, m_is ms, m_um ms, m_bd ms, m_pc ms, m_pa ms, m_sz ms, m_cu ms, m_st ms, m_tk ms, m_to ms, m_ps ms, y0, m_asd ms, m_und ms, m_sav ms, m_isv ms, m_buf ms, m_grp ms, m_pag ms⟩ : MM) σ0) A_no := by
  refine A_of rfl (by decide) (Nat.le_of_ble_eq_true rfl) (L0 := [(0, .ref b9), (1, .int (nI f))]) rfl ?_
  refine A_iconst (v := 0) dX2_driesIn_0 (by decide) ?_
  refine A_istore_n (i := 2) dX2_driesIn_1 rfl (Nat.le_of_ble_eq_true rfl) ?_
  refine A_sub (L' := [(0, .ref b9), (1, .int (nI f)), (2, .int (nI 0))]) ⟨rfl, rfl, rfl, trivial⟩ ?_
  refine A_for 100 (fun i2 => 0) (fun i2 => [(0, .ref b9), (1, .int (nI f)), (2, .int (nI i2))]) (fun i2 => mc b9 (⟨m_thr ms, m_is ms, m_um ms, m_bd ms, m_pc ms, m_pa ms, m_sz ms, m_cu ms, m_st ms, m_tk ms, m_to ms, m_ps ms, itr passN (m_now ms) i2, m_asd ms, m_und ms, m_sav ms, m_isv ms, m_buf ms, m_grp ms, m_pag ms⟩ : MM) σ0) (fun i2 => dryIn (m_now ms) f = drU (m_now ms) f (100 - i2) i2) rfl (fun i2 hi2 hI2 ih2 => ?_) (fun hI2 => ?_)
  · skip
    refine A_iload_n (i := 2) dX2_driesIn_2 rfl rfl ?_
    refine A_bipush (v := 99) dX2_driesIn_3 (by decide) ?_
    refine A_icmp_gt_f (tgt := 75) dX2_driesIn_5 (by decide) (nI_nlt (a := 99) (b := i2) (by omega) (by omega)) ?_
    have wi : WFc (itr passN (m_now ms) i2) := (cts_it _ _).wf h1
    have wj : WFc (dryN (itr passN (m_now ms) i2)) := (hdr_dry _).wf wi
    refine A_aload_n (i := 0) dX2_driesIn_8 rfl rfl ?_
    refine A_iload_n (i := 1) dX2_driesIn_9 rfl rfl ?_
    refine A_callV1E (v := some (.int (fl (itr passN (m_now ms) i2) f 8))) (τ := mc b9 (⟨m_thr ms, m_is ms, m_um ms, m_bd ms, m_pc ms, m_pa ms, m_sz ms, m_cu ms, m_st ms, m_tk ms, m_to ms, m_ps ms, itr passN (m_now ms) i2, m_asd ms, m_und ms, m_sav ms, m_isv ms, m_buf ms, m_grp ms, m_pag ms⟩ : MM) σ0) (c_where b9 (⟨m_thr ms, m_is ms, m_um ms, m_bd ms, m_pc ms, m_pa ms, m_sz ms, m_cu ms, m_st ms, m_tk ms, m_to ms, m_ps ms, itr passN (m_now ms) i2, m_asd ms, m_und ms, m_sav ms, m_isv ms, m_buf ms, m_grp ms, m_pag ms⟩ : MM) σ0 f (by first | assumption | omega)) tX2_where q2440 (mc_0 _ _ _) rfl rfl dX2_driesIn_10 (by decide) (Nat.le_of_eq (Nat.zero_add _)) (Nat.le_of_ble_eq_true rfl) ?_
    refine A_iconst (v := 2) dX2_driesIn_13 (by decide) ?_
    refine A_icmp_ne (tgt := 75) dX2_driesIn_14 (by decide) (fun c1 => ?_) (fun c1 => ?_)
    · skip
      refine A_iconst (v := (-1)) dX2_driesIn_75 (by decide) ?_
      exact A_iret dX2_driesIn_76 rfl ⟨_, by rw [hI2, drU_s _ _ hi2]; simp [c1], rfl⟩
    · skip
      refine A_aload_n (i := 0) dX2_driesIn_17 rfl rfl ?_
      refine A_iload_n (i := 1) dX2_driesIn_18 rfl rfl ?_
      refine A_iconst (v := 4) dX2_driesIn_19 (by decide) ?_
      refine A_callV2E (v := some (.int (fl (itr passN (m_now ms) i2) f 4))) (τ := mc b9 (⟨m_thr ms, m_is ms, m_um ms, m_bd ms, m_pc ms, m_pa ms, m_sz ms, m_cu ms, m_st ms, m_tk ms, m_to ms, m_ps ms, itr passN (m_now ms) i2, m_asd ms, m_und ms, m_sav ms, m_isv ms, m_buf ms, m_grp ms, m_pag ms⟩ : MM) σ0) (c_ofFlag b9 (⟨m_thr ms, m_is ms, m_um ms, m_bd ms, m_pc ms, m_pa ms, m_sz ms, m_cu ms, m_st ms, m_tk ms, m_to ms, m_ps ms, itr passN (m_now ms) i2, m_asd ms, m_und ms, m_sav ms, m_isv ms, m_buf ms, m_grp ms, m_pag ms⟩ : MM) σ0 f 4 (by first | assumption | omega) (by first | assumption | omega)) tX2_ofFlag q2444 (mc_0 _ _ _) rfl rfl dX2_driesIn_20 (by decide) (Nat.le_of_eq (Nat.zero_add _)) (Nat.le_of_ble_eq_true rfl) ?_
      refine A_if_ne (tgt := 28) dX2_driesIn_23 (by decide) (fun c2 => ?_) (fun c2 => ?_)
      · skip
        refine A_aload_n (i := 0) dX2_driesIn_28 rfl rfl ?_
        refine A_callV0E (v := none) (τ := mc b9 (⟨m_thr ms, m_is ms, m_um ms, m_bd ms, m_pc ms, m_pa ms, m_sz ms, m_cu ms, m_st ms, m_tk ms, m_to ms, m_ps ms, dryN (itr passN (m_now ms) i2), m_asd ms, m_und ms, m_sav ms, m_isv ms, m_buf ms, m_grp ms, m_pag ms⟩ : MM) σ0) (c_dries b9 (⟨m_thr ms, m_is ms, m_um ms, m_bd ms, m_pc ms, m_pa ms, m_sz ms, m_cu ms, m_st ms, m_tk ms, m_to ms, m_ps ms, itr passN (m_now ms) i2, m_asd ms, m_und ms, m_sav ms, m_isv ms, m_buf ms, m_grp ms, m_pag ms⟩ : MM) σ0  (by first | assumption | omega)) tX2_dries q2545 (mc_0 _ _ _) rfl rfl dX2_driesIn_29 (by decide) (Nat.le_of_eq (Nat.zero_add _)) (Nat.le_of_ble_eq_true rfl) ?_
        refine A_aload_n (i := 0) dX2_driesIn_32 rfl rfl ?_
        refine A_iload_n (i := 1) dX2_driesIn_33 rfl rfl ?_
        refine A_iconst (v := 4) dX2_driesIn_34 (by decide) ?_
        refine A_callV2E (v := some (.int (fl (dryN (itr passN (m_now ms) i2)) f 4))) (τ := mc b9 (⟨m_thr ms, m_is ms, m_um ms, m_bd ms, m_pc ms, m_pa ms, m_sz ms, m_cu ms, m_st ms, m_tk ms, m_to ms, m_ps ms, dryN (itr passN (m_now ms) i2), m_asd ms, m_und ms, m_sav ms, m_isv ms, m_buf ms, m_grp ms, m_pag ms⟩ : MM) σ0) (c_ofFlag b9 (⟨m_thr ms, m_is ms, m_um ms, m_bd ms, m_pc ms, m_pa ms, m_sz ms, m_cu ms, m_st ms, m_tk ms, m_to ms, m_ps ms, dryN (itr passN (m_now ms) i2), m_asd ms, m_und ms, m_sav ms, m_isv ms, m_buf ms, m_grp ms, m_pag ms⟩ : MM) σ0 f 4 (by first | assumption | omega) (by first | assumption | omega)) tX2_ofFlag q2444 (mc_0 _ _ _) rfl rfl dX2_driesIn_35 (by decide) (Nat.le_of_eq (Nat.zero_add _)) (Nat.le_of_ble_eq_true rfl) ?_
        refine A_if_ne (tgt := 55) dX2_driesIn_38 (by decide) (fun c3 => ?_) (fun c3 => ?_)
        · skip
          refine A_aload_n (i := 0) dX2_driesIn_55 rfl rfl ?_
          refine A_callV0E (v := none) (τ := mc b9 (⟨m_thr ms, m_is ms, m_um ms, m_bd ms, m_pc ms, m_pa ms, m_sz ms, m_cu ms, m_st ms, m_tk ms, m_to ms, m_ps ms, fallN (dryN (itr passN (m_now ms) i2)), m_asd ms, m_und ms, m_sav ms, m_isv ms, m_buf ms, m_grp ms, m_pag ms⟩ : MM) σ0) (c_falls b9 (⟨m_thr ms, m_is ms, m_um ms, m_bd ms, m_pc ms, m_pa ms, m_sz ms, m_cu ms, m_st ms, m_tk ms, m_to ms, m_ps ms, dryN (itr passN (m_now ms) i2), m_asd ms, m_und ms, m_sav ms, m_isv ms, m_buf ms, m_grp ms, m_pag ms⟩ : MM) σ0  (by first | assumption | omega)) tX2_falls q2549 (mc_0 _ _ _) rfl rfl dX2_driesIn_56 (by decide) (Nat.le_of_eq (Nat.zero_add _)) (Nat.le_of_ble_eq_true rfl) ?_
          refine A_aload_n (i := 0) dX2_driesIn_59 rfl rfl ?_
          refine M_get 1 (v := .ref (b9 + 1)) (Nat.le_of_ble_eq_true rfl) q2230 rfl dX2_driesIn_60 ?_
          refine A_iconst (v := 0) dX2_driesIn_63 (by decide) ?_
          refine A_dup2 dX2_driesIn_64 rfl rfl ?_
          refine M_ald1 (n := 0) (v := (fallN (dryN (itr passN (m_now ms) i2))) 0) (rfl) (by decide) (rfl) dX2_driesIn_65 ?_
          refine A_iconst (v := 1) dX2_driesIn_66 (by decide) ?_
          refine A_iadd dX2_driesIn_67 ?_
          refine M_ast1 (n := 0) (na := passN (itr passN (m_now ms) i2)) (rfl) (by decide) (rfl) dX2_driesIn_68 ?_
          refine A_iinc (v := nI (i2 + 1)) dX2_driesIn_69 rfl (nI_inc _ _) (Nat.le_of_ble_eq_true rfl) ?_
          refine A_goto (tgt := 2) dX2_driesIn_72 (by decide) ?_
          refine A_sub (L' := [(0, .ref b9), (1, .int (nI f)), (2, .int (nI (i2 + 1)))]) ⟨rfl, rfl, rfl, trivial⟩ ?_
          exact ih2 (by rw [hI2, drU_s _ _ hi2]; simp [c1, c2, c3])
        · skip
          refine A_iload_n (i := 2) dX2_driesIn_41 rfl rfl ?_
          refine A_bipush (v := 99) dX2_driesIn_42 (by decide) ?_
          refine A_icmp_ge (tgt := 53) dX2_driesIn_44 (by decide) (fun c4 => ?_) (fun c4 => ?_)
          · skip
            refine A_iconst (v := (-1)) dX2_driesIn_53 (by decide) ?_
            exact A_iret dX2_driesIn_54 rfl ⟨_, by rw [hI2, drU_s _ _ hi2]; simp [-Int32.not_le, -Int32.not_lt, nI_1, c1, c2, c3, c4], rfl⟩
          · skip
            refine A_iload_n (i := 2) dX2_driesIn_47 rfl rfl ?_
            refine A_iconst (v := 1) dX2_driesIn_48 (by decide) ?_
            refine A_iadd dX2_driesIn_49 ?_
            refine A_int (w := nI (i2 + 1)) (nI_add i2 1) ?_
            refine A_goto (tgt := 54) dX2_driesIn_50 (by decide) ?_
            exact A_iret dX2_driesIn_54 rfl ⟨_, by rw [hI2, drU_s _ _ hi2]; simp [-Int32.not_le, -Int32.not_lt, nI_1, c1, c2, c3, c4], rfl⟩
      · skip
        refine A_iload_n (i := 2) dX2_driesIn_26 rfl rfl ?_
        exact A_iret dX2_driesIn_27 rfl ⟨_, by rw [hI2, drU_s _ _ hi2]; simp [c1, c2], rfl⟩
  · skip
    refine A_iload_n (i := 2) dX2_driesIn_2 rfl rfl ?_
    refine A_bipush (v := 99) dX2_driesIn_3 (by decide) ?_
    refine A_icmp_gt_t (tgt := 75) dX2_driesIn_5 (by decide) (by decide) ?_
    refine A_iconst (v := (-1)) dX2_driesIn_75 (by decide) ?_
    exact A_iret dX2_driesIn_76 rfl ⟨_, by rw [hI2]; rfl, rfl⟩
theorem c_dryIn {l : Launch} {g : GC} (b9 : Nat) (ms : MM) (σ0 : AH) (f : Int32) (h1 : WFc (m_now ms)) : AMet l g mX2_dryIn 7 0 [.ref b9, .int f] (mc b9 ms σ0) (fun w9 τ9 => ∃ (y0 : AF), w9 = some (.int (gd (mayT (m_is ms) (bi (okF (m_is ms) (m_now ms) f)) 1) (dryIn (m_now ms) (ix f)))) ∧ τ9 = mc b9 (⟨mayT (m_is ms) (bi (okF (m_is ms) (m_now ms) f)) 1, m_is ms, m_um ms, m_bd ms, m_pc ms, m_pa ms, m_sz ms, m_cu ms, m_st ms, m_tk ms, m_to ms, m_ps ms, m_now ms, y0, m_und ms, m_sav ms, m_isv ms, m_buf ms, m_grp ms, m_pag ms⟩ : MM) σ0) A_no := by
  refine A_of rfl (by decide) (Nat.le_of_ble_eq_true rfl) (L0 := [(0, .ref b9), (1, .int f)]) rfl ?_
  have hF := h1.2.2.2.2.2
  have hC := h1.1.2
  refine A_aload_n (i := 0) dX2_dryIn_0 rfl rfl ?_
  refine A_iload_n (i := 1) dX2_dryIn_1 rfl rfl ?_
  refine A_callV1E (v := some (.int (bi (mayT (m_is ms) (bi (okF (m_is ms) (m_now ms) f)) 1 = 0)))) (τ := mc b9 (⟨mayT (m_is ms) (bi (okF (m_is ms) (m_now ms) f)) 1, m_is ms, m_um ms, m_bd ms, m_pc ms, m_pa ms, m_sz ms, m_cu ms, m_st ms, m_tk ms, m_to ms, m_ps ms, m_now ms, m_asd ms, m_und ms, m_sav ms, m_isv ms, m_buf ms, m_grp ms, m_pag ms⟩ : MM) σ0) (c_mayFlag b9 ms σ0 f) tX2_mayFlag q2686 (mc_0 _ _ _) rfl rfl dX2_dryIn_2 (by decide) (Nat.le_of_eq (Nat.zero_add _)) (Nat.le_of_ble_eq_true rfl) ?_
  refine A_if_ne (tgt := 10) dX2_dryIn_5 (by decide) (fun c1 => ?_) (fun c1 => ?_)
  · skip
    have c1 := bi_ne0.mp c1
    obtain ⟨f9, hf9, rfl⟩ := okF_ex h1 (mayT_y c1)
    refine A_aload_n (i := 0) dX2_dryIn_10 rfl rfl ?_
    refine A_callV0E (v := none) (τ := mc b9 (⟨mayT (m_is ms) (bi (okF (m_is ms) (m_now ms) (nI f9))) 1, m_is ms, m_um ms, m_bd ms, m_pc ms, m_pa ms, m_sz ms, m_cu ms, m_st ms, m_tk ms, m_to ms, m_ps ms, m_now ms, (m_now ms), m_und ms, m_sav ms, m_isv ms, m_buf ms, m_grp ms, m_pag ms⟩ : MM) σ0) (c_thinks b9 (⟨mayT (m_is ms) (bi (okF (m_is ms) (m_now ms) (nI f9))) 1, m_is ms, m_um ms, m_bd ms, m_pc ms, m_pa ms, m_sz ms, m_cu ms, m_st ms, m_tk ms, m_to ms, m_ps ms, m_now ms, m_asd ms, m_und ms, m_sav ms, m_isv ms, m_buf ms, m_grp ms, m_pag ms⟩ : MM) σ0) tX2_thinks q2326 (mc_0 _ _ _) rfl rfl dX2_dryIn_11 (by decide) (Nat.le_of_eq (Nat.zero_add _)) (Nat.le_of_ble_eq_true rfl) ?_
    refine A_aload_n (i := 0) dX2_dryIn_14 rfl rfl ?_
    refine A_aload_n (i := 0) dX2_dryIn_15 rfl rfl ?_
    refine A_iload_n (i := 1) dX2_dryIn_16 rfl rfl ?_
    refine A_callV1 (c_driesIn b9 (⟨mayT (m_is ms) (bi (okF (m_is ms) (m_now ms) (nI f9))) 1, m_is ms, m_um ms, m_bd ms, m_pc ms, m_pa ms, m_sz ms, m_cu ms, m_st ms, m_tk ms, m_to ms, m_ps ms, m_now ms, (m_now ms), m_und ms, m_sav ms, m_isv ms, m_buf ms, m_grp ms, m_pag ms⟩ : MM) σ0 f9 (by first | assumption | omega) (by first | assumption | omega)) tX2_driesIn q2797 (mc_0 _ _ _) rfl rfl dX2_dryIn_17 (by decide) (Nat.le_of_eq (Nat.zero_add _)) (Nat.le_of_ble_eq_true rfl) (fun w9 τ9 h9 => ?_) (fun E9 q9 τ9 h9 => h9.elim)
    obtain ⟨x2_0, e91, e92⟩ := h9
    subst e91
    subst e92
    show AW _ _ _ _ _ _ _ _ _ (.int (dryIn (m_now ms) f9) :: .ref b9 :: []) (mc b9 (⟨mayT (m_is ms) (bi (okF (m_is ms) (m_now ms) (nI f9))) 1, m_is ms, m_um ms, m_bd ms, m_pc ms, m_pa ms, m_sz ms, m_cu ms, m_st ms, m_tk ms, m_to ms, m_ps ms, x2_0, (m_now ms), m_und ms, m_sav ms, m_isv ms, m_buf ms, m_grp ms, m_pag ms⟩ : MM) σ0)
    refine A_callV1E (v := some (.int (dryIn (m_now ms) f9))) (τ := mc b9 (⟨mayT (m_is ms) (bi (okF (m_is ms) (m_now ms) (nI f9))) 1, m_is ms, m_um ms, m_bd ms, m_pc ms, m_pa ms, m_sz ms, m_cu ms, m_st ms, m_tk ms, m_to ms, m_ps ms, (m_now ms), (m_now ms), m_und ms, m_sav ms, m_isv ms, m_buf ms, m_grp ms, m_pag ms⟩ : MM) σ0) (c_back b9 (⟨mayT (m_is ms) (bi (okF (m_is ms) (m_now ms) (nI f9))) 1, m_is ms, m_um ms, m_bd ms, m_pc ms, m_pa ms, m_sz ms, m_cu ms, m_st ms, m_tk ms, m_to ms, m_ps ms, x2_0, (m_now ms), m_und ms, m_sav ms, m_isv ms, m_buf ms, m_grp ms, m_pag ms⟩ : MM) σ0 (dryIn (m_now ms) f9)) tX2_back q2557 (mc_0 _ _ _) rfl rfl dX2_dryIn_20 (by decide) (Nat.le_of_eq (Nat.zero_add _)) (Nat.le_of_ble_eq_true rfl) ?_
    exact A_iret dX2_dryIn_23 rfl ⟨_, by rw [gd, if_pos c1] <;> first | with_reducible rfl | (simp [-Int32.not_lt, -Int32.not_le, ixn (show f9 < 2000 by omega)]; done) | (simp [ixn (show f9 < 2000 by omega)]), rfl⟩
  · skip
    have c1 := bi_eq0.mp c1
    refine A_iconst (v := 0) dX2_dryIn_8 (by decide) ?_
    exact A_iret dX2_dryIn_9 rfl ⟨_, by rw [gd, if_neg c1], rfl⟩
theorem c_dryByWind {l : Launch} {g : GC} (b9 : Nat) (ms : MM) (σ0 : AH) (f : Int32) (v : Int32) (h1 : WFc (m_now ms)) : AMet l g mX2_dryByWind 7 0 [.ref b9, .int f, .int v] (mc b9 ms σ0) (fun w9 τ9 => ∃ (y0 : AF), w9 = some (.int (gd (mayT (m_is ms) (bi (okF (m_is ms) (m_now ms) f)) (bi (inR v 0 9))) (dryIn (va_up (m_now ms) 1 v) (ix f)))) ∧ τ9 = mc b9 (⟨mayT (m_is ms) (bi (okF (m_is ms) (m_now ms) f)) (bi (inR v 0 9)), m_is ms, m_um ms, m_bd ms, m_pc ms, m_pa ms, m_sz ms, m_cu ms, m_st ms, m_tk ms, m_to ms, m_ps ms, m_now ms, y0, m_und ms, m_sav ms, m_isv ms, m_buf ms, m_grp ms, m_pag ms⟩ : MM) σ0) A_no := by
  refine A_of rfl (by decide) (Nat.le_of_ble_eq_true rfl) (L0 := [(0, .ref b9), (1, .int f), (2, .int v)]) rfl ?_
  have hF := h1.2.2.2.2.2
  have hC := h1.1.2
  have w2 : WFc (va_up (m_now ms) 1 v) := (cts_up _ _ _ (by omega)).wf h1
  refine A_aload_n (i := 0) dX2_dryByWind_0 rfl rfl ?_
  refine A_aload_n (i := 0) dX2_dryByWind_1 rfl rfl ?_
  refine M_get 6 (v := .int (m_is ms)) (Nat.le_of_ble_eq_true rfl) q2235 rfl dX2_dryByWind_2 ?_
  refine A_aload_n (i := 0) dX2_dryByWind_5 rfl rfl ?_
  refine A_iload_n (i := 1) dX2_dryByWind_6 rfl rfl ?_
  refine A_callV1E (v := some (.int (bi (okF (m_is ms) (m_now ms) f)))) (τ := mc b9 ms σ0) (c_isFlag b9 ms σ0 f) tX2_isFlag q2629 (mc_0 _ _ _) rfl rfl dX2_dryByWind_7 (by decide) (Nat.le_of_eq (Nat.zero_add _)) (Nat.le_of_ble_eq_true rfl) ?_
  refine A_iload_n (i := 2) dX2_dryByWind_10 rfl rfl ?_
  refine A_callS1E (v := some (.int (bi (inR v 0 9)))) (τ := mc b9 ms σ0) (c_isWind b9 ms σ0 v) tX2_isWind q2805 dX2_dryByWind_11 (by decide) (Nat.le_of_eq (Nat.zero_add _)) (Nat.le_of_ble_eq_true rfl) ?_
  refine A_callV3E (v := some (.int (bi (mayT (m_is ms) (bi (okF (m_is ms) (m_now ms) f)) (bi (inR v 0 9)) = 0)))) (τ := mc b9 (⟨mayT (m_is ms) (bi (okF (m_is ms) (m_now ms) f)) (bi (inR v 0 9)), m_is ms, m_um ms, m_bd ms, m_pc ms, m_pa ms, m_sz ms, m_cu ms, m_st ms, m_tk ms, m_to ms, m_ps ms, m_now ms, m_asd ms, m_und ms, m_sav ms, m_isv ms, m_buf ms, m_grp ms, m_pag ms⟩ : MM) σ0) (c_may b9 ms σ0 (m_is ms) (bi (okF (m_is ms) (m_now ms) f)) (bi (inR v 0 9))) tX2_may q2322 (mc_0 _ _ _) rfl rfl dX2_dryByWind_14 (by decide) (Nat.le_of_eq (Nat.zero_add _)) (Nat.le_of_ble_eq_true rfl) ?_
  refine A_if_ne (tgt := 22) dX2_dryByWind_17 (by decide) (fun c1 => ?_) (fun c1 => ?_)
  · skip
    have c1 := bi_ne0.mp c1
    obtain ⟨f9, hf9, rfl⟩ := okF_ex h1 (mayT_y c1)
    refine A_aload_n (i := 0) dX2_dryByWind_22 rfl rfl ?_
    refine A_callV0E (v := none) (τ := mc b9 (⟨mayT (m_is ms) (bi (okF (m_is ms) (m_now ms) (nI f9))) (bi (inR v 0 9)), m_is ms, m_um ms, m_bd ms, m_pc ms, m_pa ms, m_sz ms, m_cu ms, m_st ms, m_tk ms, m_to ms, m_ps ms, m_now ms, (m_now ms), m_und ms, m_sav ms, m_isv ms, m_buf ms, m_grp ms, m_pag ms⟩ : MM) σ0) (c_thinks b9 (⟨mayT (m_is ms) (bi (okF (m_is ms) (m_now ms) (nI f9))) (bi (inR v 0 9)), m_is ms, m_um ms, m_bd ms, m_pc ms, m_pa ms, m_sz ms, m_cu ms, m_st ms, m_tk ms, m_to ms, m_ps ms, m_now ms, m_asd ms, m_und ms, m_sav ms, m_isv ms, m_buf ms, m_grp ms, m_pag ms⟩ : MM) σ0) tX2_thinks q2326 (mc_0 _ _ _) rfl rfl dX2_dryByWind_23 (by decide) (Nat.le_of_eq (Nat.zero_add _)) (Nat.le_of_ble_eq_true rfl) ?_
    refine A_aload_n (i := 0) dX2_dryByWind_26 rfl rfl ?_
    refine M_get 1 (v := .ref (b9 + 1)) (Nat.le_of_ble_eq_true rfl) q2230 rfl dX2_dryByWind_27 ?_
    refine A_iconst (v := 1) dX2_dryByWind_30 (by decide) ?_
    refine A_iload_n (i := 2) dX2_dryByWind_31 rfl rfl ?_
    refine M_ast1 (n := 1) (na := va_up (m_now ms) 1 v) (rfl) (by decide) (rfl) dX2_dryByWind_32 ?_
    refine A_aload_n (i := 0) dX2_dryByWind_33 rfl rfl ?_
    refine A_aload_n (i := 0) dX2_dryByWind_34 rfl rfl ?_
    refine A_iload_n (i := 1) dX2_dryByWind_35 rfl rfl ?_
    refine A_callV1 (c_driesIn b9 (⟨mayT (m_is ms) (bi (okF (m_is ms) (m_now ms) (nI f9))) (bi (inR v 0 9)), m_is ms, m_um ms, m_bd ms, m_pc ms, m_pa ms, m_sz ms, m_cu ms, m_st ms, m_tk ms, m_to ms, m_ps ms, va_up (m_now ms) 1 v, (m_now ms), m_und ms, m_sav ms, m_isv ms, m_buf ms, m_grp ms, m_pag ms⟩ : MM) σ0 f9 (by first | assumption | omega) (by first | assumption | omega)) tX2_driesIn q2797 (mc_0 _ _ _) rfl rfl dX2_dryByWind_36 (by decide) (Nat.le_of_eq (Nat.zero_add _)) (Nat.le_of_ble_eq_true rfl) (fun w9 τ9 h9 => ?_) (fun E9 q9 τ9 h9 => h9.elim)
    obtain ⟨x2_0, e91, e92⟩ := h9
    subst e91
    subst e92
    show AW _ _ _ _ _ _ _ _ _ (.int (dryIn (va_up (m_now ms) 1 v) f9) :: .ref b9 :: []) (mc b9 (⟨mayT (m_is ms) (bi (okF (m_is ms) (m_now ms) (nI f9))) (bi (inR v 0 9)), m_is ms, m_um ms, m_bd ms, m_pc ms, m_pa ms, m_sz ms, m_cu ms, m_st ms, m_tk ms, m_to ms, m_ps ms, x2_0, (m_now ms), m_und ms, m_sav ms, m_isv ms, m_buf ms, m_grp ms, m_pag ms⟩ : MM) σ0)
    refine A_callV1E (v := some (.int (dryIn (va_up (m_now ms) 1 v) f9))) (τ := mc b9 (⟨mayT (m_is ms) (bi (okF (m_is ms) (m_now ms) (nI f9))) (bi (inR v 0 9)), m_is ms, m_um ms, m_bd ms, m_pc ms, m_pa ms, m_sz ms, m_cu ms, m_st ms, m_tk ms, m_to ms, m_ps ms, (m_now ms), (m_now ms), m_und ms, m_sav ms, m_isv ms, m_buf ms, m_grp ms, m_pag ms⟩ : MM) σ0) (c_back b9 (⟨mayT (m_is ms) (bi (okF (m_is ms) (m_now ms) (nI f9))) (bi (inR v 0 9)), m_is ms, m_um ms, m_bd ms, m_pc ms, m_pa ms, m_sz ms, m_cu ms, m_st ms, m_tk ms, m_to ms, m_ps ms, x2_0, (m_now ms), m_und ms, m_sav ms, m_isv ms, m_buf ms, m_grp ms, m_pag ms⟩ : MM) σ0 (dryIn (va_up (m_now ms) 1 v) f9)) tX2_back q2557 (mc_0 _ _ _) rfl rfl dX2_dryByWind_39 (by decide) (Nat.le_of_eq (Nat.zero_add _)) (Nat.le_of_ble_eq_true rfl) ?_
    exact A_iret dX2_dryByWind_42 rfl ⟨_, by rw [gd, if_pos c1] <;> first | with_reducible rfl | (simp [-Int32.not_lt, -Int32.not_le, ixn (show f9 < 2000 by omega)]; done) | (simp [ixn (show f9 < 2000 by omega)]), rfl⟩
  · skip
    have c1 := bi_eq0.mp c1
    refine A_iconst (v := 0) dX2_dryByWind_20 (by decide) ?_
    exact A_iret dX2_dryByWind_21 rfl ⟨_, by rw [gd, if_neg c1], rfl⟩
theorem c_fallsIn {l : Launch} {g : GC} (b9 : Nat) (ms : MM) (σ0 : AH) (x : Int32) (h1 : WFc (m_now ms)) : AMet l g mX2_fallsIn 7 0 [.ref b9, .int x] (mc b9 ms σ0) (fun w9 τ9 => ∃ (y0 : AF), w9 = some (.int (gd (mayT (m_is ms) (bi (inR x 0 99)) 1) (itr passN (m_now ms) (ix x) 5 - (m_now ms) 5))) ∧ τ9 = mc b9 (⟨mayT (m_is ms) (bi (inR x 0 99)) 1, m_is ms, m_um ms, m_bd ms, m_pc ms, m_pa ms, m_sz ms, m_cu ms, m_st ms, m_tk ms, m_to ms, m_ps ms, m_now ms, y0, m_und ms, m_sav ms, m_isv ms, m_buf ms, m_grp ms, m_pag ms⟩ : MM) σ0) A_no := by
  refine A_of rfl (by decide) (Nat.le_of_ble_eq_true rfl) (L0 := [(0, .ref b9), (1, .int x)]) rfl ?_
  refine A_aload_n (i := 0) dX2_fallsIn_0 rfl rfl ?_
  refine A_aload_n (i := 0) dX2_fallsIn_1 rfl rfl ?_
  refine M_get 6 (v := .int (m_is ms)) (Nat.le_of_ble_eq_true rfl) q2235 rfl dX2_fallsIn_2 ?_
  refine A_iload_n (i := 1) dX2_fallsIn_5 rfl rfl ?_
  refine A_iconst (v := 0) dX2_fallsIn_6 (by decide) ?_
  refine A_bipush (v := 99) dX2_fallsIn_7 (by decide) ?_
  refine A_callS3E (v := some (.int (bi (inR x 0 99)))) (τ := mc b9 ms σ0) (c_in b9 ms σ0 x 0 99) tX2_in q2319 dX2_fallsIn_9 (by decide) (Nat.le_of_eq (Nat.zero_add _)) (Nat.le_of_ble_eq_true rfl) ?_
  refine A_callV2E (v := some (.int (bi (mayT (m_is ms) (bi (inR x 0 99)) 1 = 0)))) (τ := mc b9 (⟨mayT (m_is ms) (bi (inR x 0 99)) 1, m_is ms, m_um ms, m_bd ms, m_pc ms, m_pa ms, m_sz ms, m_cu ms, m_st ms, m_tk ms, m_to ms, m_ps ms, m_now ms, m_asd ms, m_und ms, m_sav ms, m_isv ms, m_buf ms, m_grp ms, m_pag ms⟩ : MM) σ0) (c_mayTwo b9 ms σ0 (m_is ms) (bi (inR x 0 99))) tX2_mayTwo q2565 (mc_0 _ _ _) rfl rfl dX2_fallsIn_12 (by decide) (Nat.le_of_eq (Nat.zero_add _)) (Nat.le_of_ble_eq_true rfl) ?_
  refine A_if_ne (tgt := 20) dX2_fallsIn_15 (by decide) (fun c1 => ?_) (fun c1 => ?_)
  · skip
    have c1 := bi_ne0.mp c1
    obtain ⟨k, hk, rfl⟩ := in6_ex (n := 99) (by omega) (mayT_y c1)
    refine A_aload_n (i := 0) dX2_fallsIn_20 rfl rfl ?_
    refine M_get 1 (v := .ref (b9 + 1)) (Nat.le_of_ble_eq_true rfl) q2230 rfl dX2_fallsIn_21 ?_
    refine A_iconst (v := 5) dX2_fallsIn_24 (by decide) ?_
    refine M_ald1 (n := 5) (v := m_now ms 5) (rfl) (by decide) (rfl) dX2_fallsIn_25 ?_
    refine A_istore_n (i := 2) dX2_fallsIn_26 rfl (Nat.le_of_ble_eq_true rfl) ?_
    refine A_aload_n (i := 0) dX2_fallsIn_27 rfl rfl ?_
    refine A_callV0E (v := none) (τ := mc b9 (⟨mayT (m_is ms) (bi (inR (nI k) 0 99)) 1, m_is ms, m_um ms, m_bd ms, m_pc ms, m_pa ms, m_sz ms, m_cu ms, m_st ms, m_tk ms, m_to ms, m_ps ms, m_now ms, (m_now ms), m_und ms, m_sav ms, m_isv ms, m_buf ms, m_grp ms, m_pag ms⟩ : MM) σ0) (c_thinks b9 (⟨mayT (m_is ms) (bi (inR (nI k) 0 99)) 1, m_is ms, m_um ms, m_bd ms, m_pc ms, m_pa ms, m_sz ms, m_cu ms, m_st ms, m_tk ms, m_to ms, m_ps ms, m_now ms, m_asd ms, m_und ms, m_sav ms, m_isv ms, m_buf ms, m_grp ms, m_pag ms⟩ : MM) σ0) tX2_thinks q2326 (mc_0 _ _ _) rfl rfl dX2_fallsIn_28 (by decide) (Nat.le_of_eq (Nat.zero_add _)) (Nat.le_of_ble_eq_true rfl) ?_
    refine A_iconst (v := 0) dX2_fallsIn_31 (by decide) ?_
    refine A_istore_n (i := 3) dX2_fallsIn_32 rfl (Nat.le_of_ble_eq_true rfl) ?_
    refine A_sub (L' := [(0, .ref b9), (1, .int (nI k)), (2, .int (m_now ms 5)), (3, .int (nI 0))]) ⟨rfl, rfl, rfl, rfl, trivial⟩ ?_
    refine A_for k (fun i33 => 0) (fun i33 => [(0, .ref b9), (1, .int (nI k)), (2, .int (m_now ms 5)), (3, .int (nI i33))]) (fun i33 => mc b9 (⟨mayT (m_is ms) (bi (inR (nI k) 0 99)) 1, m_is ms, m_um ms, m_bd ms, m_pc ms, m_pa ms, m_sz ms, m_cu ms, m_st ms, m_tk ms, m_to ms, m_ps ms, itr passN (m_now ms) i33, (m_now ms), m_und ms, m_sav ms, m_isv ms, m_buf ms, m_grp ms, m_pag ms⟩ : MM) σ0) (fun i33 => True) trivial (fun i33 hi33 hI33 ih33 => ?_) (fun hI33 => ?_)
    · skip
      refine A_iload_n (i := 3) dX2_fallsIn_33 rfl rfl ?_
      refine A_iload_n (i := 1) dX2_fallsIn_34 rfl rfl ?_
      refine A_icmp_ge_f (tgt := 48) dX2_fallsIn_35 (by decide) (br_lt rfl hi33 (by omega)) ?_
      have wi : WFc (itr passN (m_now ms) i33) := (cts_it _ _).wf h1
      refine A_aload_n (i := 0) dX2_fallsIn_38 rfl rfl ?_
      refine A_callV0E (v := none) (τ := mc b9 (⟨mayT (m_is ms) (bi (inR (nI k) 0 99)) 1, m_is ms, m_um ms, m_bd ms, m_pc ms, m_pa ms, m_sz ms, m_cu ms, m_st ms, m_tk ms, m_to ms, m_ps ms, itr passN (m_now ms) (i33 + 1), (m_now ms), m_und ms, m_sav ms, m_isv ms, m_buf ms, m_grp ms, m_pag ms⟩ : MM) σ0) (c_passes b9 (⟨mayT (m_is ms) (bi (inR (nI k) 0 99)) 1, m_is ms, m_um ms, m_bd ms, m_pc ms, m_pa ms, m_sz ms, m_cu ms, m_st ms, m_tk ms, m_to ms, m_ps ms, itr passN (m_now ms) i33, (m_now ms), m_und ms, m_sav ms, m_isv ms, m_buf ms, m_grp ms, m_pag ms⟩ : MM) σ0  (by first | assumption | omega)) tX2_passes q2541 (mc_0 _ _ _) rfl rfl dX2_fallsIn_39 (by decide) (Nat.le_of_eq (Nat.zero_add _)) (Nat.le_of_ble_eq_true rfl) ?_
      refine A_iinc (v := nI (i33 + 1)) dX2_fallsIn_42 rfl (nI_inc _ _) (Nat.le_of_ble_eq_true rfl) ?_
      refine A_goto (tgt := 33) dX2_fallsIn_45 (by decide) ?_
      refine A_sub (L' := [(0, .ref b9), (1, .int (nI k)), (2, .int (m_now ms 5)), (3, .int (nI (i33 + 1)))]) ⟨rfl, rfl, rfl, rfl, trivial⟩ ?_
      exact ih33 trivial
    · skip
      refine A_iload_n (i := 3) dX2_fallsIn_33 rfl rfl ?_
      refine A_iload_n (i := 1) dX2_fallsIn_34 rfl rfl ?_
      refine A_icmp_ge_t (tgt := 48) dX2_fallsIn_35 (by decide) (br_ge rfl) ?_
      refine A_aload_n (i := 0) dX2_fallsIn_48 rfl rfl ?_
      refine A_aload_n (i := 0) dX2_fallsIn_49 rfl rfl ?_
      refine M_get 1 (v := .ref (b9 + 1)) (Nat.le_of_ble_eq_true rfl) q2230 rfl dX2_fallsIn_50 ?_
      refine A_iconst (v := 5) dX2_fallsIn_53 (by decide) ?_
      refine M_ald1 (n := 5) (v := (itr passN (m_now ms) k) 5) (rfl) (by decide) (rfl) dX2_fallsIn_54 ?_
      refine A_iload_n (i := 2) dX2_fallsIn_55 rfl rfl ?_
      refine A_isub dX2_fallsIn_56 ?_
      refine A_callV1E (v := some (.int ((itr passN (m_now ms) k) 5 - m_now ms 5))) (τ := mc b9 (⟨mayT (m_is ms) (bi (inR (nI k) 0 99)) 1, m_is ms, m_um ms, m_bd ms, m_pc ms, m_pa ms, m_sz ms, m_cu ms, m_st ms, m_tk ms, m_to ms, m_ps ms, (m_now ms), (m_now ms), m_und ms, m_sav ms, m_isv ms, m_buf ms, m_grp ms, m_pag ms⟩ : MM) σ0) (c_back b9 (⟨mayT (m_is ms) (bi (inR (nI k) 0 99)) 1, m_is ms, m_um ms, m_bd ms, m_pc ms, m_pa ms, m_sz ms, m_cu ms, m_st ms, m_tk ms, m_to ms, m_ps ms, itr passN (m_now ms) k, (m_now ms), m_und ms, m_sav ms, m_isv ms, m_buf ms, m_grp ms, m_pag ms⟩ : MM) σ0 ((itr passN (m_now ms) k) 5 - m_now ms 5)) tX2_back q2557 (mc_0 _ _ _) rfl rfl dX2_fallsIn_57 (by decide) (Nat.le_of_eq (Nat.zero_add _)) (Nat.le_of_ble_eq_true rfl) ?_
      exact A_iret dX2_fallsIn_60 rfl ⟨_, by rw [gd, if_pos c1, ixn (show k < 2000 by omega)], rfl⟩
  · skip
    have c1 := bi_eq0.mp c1
    refine A_iconst (v := 0) dX2_fallsIn_18 (by decide) ?_
    exact A_iret dX2_fallsIn_19 rfl ⟨_, by rw [gd, if_neg c1], rfl⟩
theorem c_ironsUntil {l : Launch} {g : GC} (b9 : Nat) (ms : MM) (σ0 : AH) (f : Nat) (h : Nat) (h1 : WFd (m_now ms)) (h2 : f < nF (m_now ms)) (h3 : h < 4) : AMet l g mX2_ironsUntil 3 0 [.ref b9, .int (nI f), .int (nI h)] (mc b9 ms σ0) (fun w9 τ9 => ∃ (y0 : AF), w9 = some (.int (nI (ironK (m_now ms) f (nI h)))) ∧ τ9 = mc b9 (⟨m_thr ms, m_is ms, m_um ms, m_bd ms, m_pc ms, m_pa ms, m_sz ms, m_cu ms, m_st ms, m_tk ms, m_to ms, m_ps ms, m_now ms, y0, m_und ms, m_sav ms, m_isv ms, m_buf ms, m_grp ms, m_pag ms⟩ : MM) σ0) A_no := by
  refine A_of rfl (by decide) (Nat.le_of_ble_eq_true rfl) (L0 := [(0, .ref b9), (1, .int (nI f)), (2, .int (nI h))]) rfl ?_
  have h1c := h1.1
  have hF := h1c.2.2.2.2.2
  obtain ⟨a9, ha9, ea9⟩ := (h1.2 f h2).2.2.2.2.2.1
  have hK := ironK_lt (h := nI h) (show a9 < 10 by omega) h3 ea9 rfl
  refine A_iconst (v := 0) dX2_ironsUntil_0 (by decide) ?_
  refine A_istore_n (i := 3) dX2_ironsUntil_1 rfl (Nat.le_of_ble_eq_true rfl) ?_
  refine A_aload_n (i := 0) dX2_ironsUntil_2 rfl rfl ?_
  refine A_callV0E (v := none) (τ := mc b9 (⟨m_thr ms, m_is ms, m_um ms, m_bd ms, m_pc ms, m_pa ms, m_sz ms, m_cu ms, m_st ms, m_tk ms, m_to ms, m_ps ms, m_now ms, (m_now ms), m_und ms, m_sav ms, m_isv ms, m_buf ms, m_grp ms, m_pag ms⟩ : MM) σ0) (c_thinks b9 ms σ0) tX2_thinks q2326 (mc_0 _ _ _) rfl rfl dX2_ironsUntil_3 (by decide) (Nat.le_of_eq (Nat.zero_add _)) (Nat.le_of_ble_eq_true rfl) ?_
  refine A_sub (L' := [(0, .ref b9), (1, .int (nI f)), (2, .int (nI h)), (3, .int (nI 0))]) ⟨rfl, rfl, rfl, rfl, trivial⟩ ?_
  refine A_for (ironK (m_now ms) f (nI h)) (fun i6 => 0) (fun i6 => [(0, .ref b9), (1, .int (nI f)), (2, .int (nI h)), (3, .int (nI i6))]) (fun i6 => mc b9 (⟨m_thr ms, m_is ms, m_um ms, m_bd ms, m_pc ms, m_pa ms, m_sz ms, m_cu ms, m_st ms, m_tk ms, m_to ms, m_ps ms, itr (fun M => ironN M f (nI h)) (m_now ms) i6, (m_now ms), m_und ms, m_sav ms, m_isv ms, m_buf ms, m_grp ms, m_pag ms⟩ : MM) σ0) (fun i6 => True) trivial (fun i6 hi6 hI6 ih6 => ?_) (fun hI6 => ?_)
  · skip
    refine A_aload_n (i := 0) dX2_ironsUntil_6 rfl rfl ?_
    refine A_iload_n (i := 1) dX2_ironsUntil_7 rfl rfl ?_
    refine A_iconst (v := 5) dX2_ironsUntil_8 (by decide) ?_
    refine A_callV2E (v := some (.int (fl (itr (fun M => ironN M f (nI h)) (m_now ms) i6) f 5))) (τ := mc b9 (⟨m_thr ms, m_is ms, m_um ms, m_bd ms, m_pc ms, m_pa ms, m_sz ms, m_cu ms, m_st ms, m_tk ms, m_to ms, m_ps ms, itr (fun M => ironN M f (nI h)) (m_now ms) i6, (m_now ms), m_und ms, m_sav ms, m_isv ms, m_buf ms, m_grp ms, m_pag ms⟩ : MM) σ0) (c_ofFlag b9 (⟨m_thr ms, m_is ms, m_um ms, m_bd ms, m_pc ms, m_pa ms, m_sz ms, m_cu ms, m_st ms, m_tk ms, m_to ms, m_ps ms, itr (fun M => ironN M f (nI h)) (m_now ms) i6, (m_now ms), m_und ms, m_sav ms, m_isv ms, m_buf ms, m_grp ms, m_pag ms⟩ : MM) σ0 f 5 (by first | assumption | omega) (by first | assumption | omega)) tX2_ofFlag q2444 (mc_0 _ _ _) rfl rfl dX2_ironsUntil_9 (by decide) (Nat.le_of_eq (Nat.zero_add _)) (Nat.le_of_ble_eq_true rfl) ?_
    refine A_if_le_f (tgt := 27) dX2_ironsUntil_12 (by decide) (gF_not _ 10 0 i6 (Nat.zero_le _) hi6) ?_
    refine A_aload_n (i := 0) dX2_ironsUntil_15 rfl rfl ?_
    refine A_iload_n (i := 1) dX2_ironsUntil_16 rfl rfl ?_
    refine A_iload_n (i := 2) dX2_ironsUntil_17 rfl rfl ?_
    refine A_callV2E (v := none) (τ := mc b9 (⟨m_thr ms, m_is ms, m_um ms, m_bd ms, m_pc ms, m_pa ms, m_sz ms, m_cu ms, m_st ms, m_tk ms, m_to ms, m_ps ms, itr (fun M => ironN M f (nI h)) (m_now ms) (i6 + 1), (m_now ms), m_und ms, m_sav ms, m_isv ms, m_buf ms, m_grp ms, m_pag ms⟩ : MM) σ0) (c_irons b9 (⟨m_thr ms, m_is ms, m_um ms, m_bd ms, m_pc ms, m_pa ms, m_sz ms, m_cu ms, m_st ms, m_tk ms, m_to ms, m_ps ms, itr (fun M => ironN M f (nI h)) (m_now ms) i6, (m_now ms), m_und ms, m_sav ms, m_isv ms, m_buf ms, m_grp ms, m_pag ms⟩ : MM) σ0 f (nI h) (by first | assumption | omega)) tX2_irons q2844 (mc_0 _ _ _) rfl rfl dX2_ironsUntil_18 (by decide) (Nat.le_of_eq (Nat.zero_add _)) (Nat.le_of_ble_eq_true rfl) ?_
    refine A_iinc (v := nI (i6 + 1)) dX2_ironsUntil_21 rfl (nI_inc _ _) (Nat.le_of_ble_eq_true rfl) ?_
    refine A_goto (tgt := 6) dX2_ironsUntil_24 (by decide) ?_
    refine A_sub (L' := [(0, .ref b9), (1, .int (nI f)), (2, .int (nI h)), (3, .int (nI (i6 + 1)))]) ⟨rfl, rfl, rfl, rfl, trivial⟩ ?_
    exact ih6 trivial
  · skip
    refine A_aload_n (i := 0) dX2_ironsUntil_6 rfl rfl ?_
    refine A_iload_n (i := 1) dX2_ironsUntil_7 rfl rfl ?_
    refine A_iconst (v := 5) dX2_ironsUntil_8 (by decide) ?_
    refine A_callV2E (v := some (.int (fl (itr (fun M => ironN M f (nI h)) (m_now ms) (ironK (m_now ms) f (nI h))) f 5))) (τ := mc b9 (⟨m_thr ms, m_is ms, m_um ms, m_bd ms, m_pc ms, m_pa ms, m_sz ms, m_cu ms, m_st ms, m_tk ms, m_to ms, m_ps ms, itr (fun M => ironN M f (nI h)) (m_now ms) (ironK (m_now ms) f (nI h)), (m_now ms), m_und ms, m_sav ms, m_isv ms, m_buf ms, m_grp ms, m_pag ms⟩ : MM) σ0) (c_ofFlag b9 (⟨m_thr ms, m_is ms, m_um ms, m_bd ms, m_pc ms, m_pa ms, m_sz ms, m_cu ms, m_st ms, m_tk ms, m_to ms, m_ps ms, itr (fun M => ironN M f (nI h)) (m_now ms) (ironK (m_now ms) f (nI h)), (m_now ms), m_und ms, m_sav ms, m_isv ms, m_buf ms, m_grp ms, m_pag ms⟩ : MM) σ0 f 5 (by first | assumption | omega) (by first | assumption | omega)) tX2_ofFlag q2444 (mc_0 _ _ _) rfl rfl dX2_ironsUntil_9 (by decide) (Nat.le_of_eq (Nat.zero_add _)) (Nat.le_of_ble_eq_true rfl) ?_
    refine A_if_le_t (tgt := 27) dX2_ironsUntil_12 (by decide) (gF_at (fun k => fl (itr (fun M => ironN M f (nI h)) (m_now ms) k) f 5 ≤ 0) 10 0 hK) ?_
    refine A_aload_n (i := 0) dX2_ironsUntil_27 rfl rfl ?_
    refine A_iload_n (i := 3) dX2_ironsUntil_28 rfl rfl ?_
    refine A_callV1E (v := some (.int (nI (ironK (m_now ms) f (nI h))))) (τ := mc b9 (⟨m_thr ms, m_is ms, m_um ms, m_bd ms, m_pc ms, m_pa ms, m_sz ms, m_cu ms, m_st ms, m_tk ms, m_to ms, m_ps ms, (m_now ms), (m_now ms), m_und ms, m_sav ms, m_isv ms, m_buf ms, m_grp ms, m_pag ms⟩ : MM) σ0) (c_back b9 (⟨m_thr ms, m_is ms, m_um ms, m_bd ms, m_pc ms, m_pa ms, m_sz ms, m_cu ms, m_st ms, m_tk ms, m_to ms, m_ps ms, itr (fun M => ironN M f (nI h)) (m_now ms) (ironK (m_now ms) f (nI h)), (m_now ms), m_und ms, m_sav ms, m_isv ms, m_buf ms, m_grp ms, m_pag ms⟩ : MM) σ0 (nI (ironK (m_now ms) f (nI h)))) tX2_back q2557 (mc_0 _ _ _) rfl rfl dX2_ironsUntil_29 (by decide) (Nat.le_of_eq (Nat.zero_add _)) (Nat.le_of_ble_eq_true rfl) ?_
    exact A_iret dX2_ironsUntil_32 rfl ⟨_, rfl, rfl⟩
theorem c_ironsFor {l : Launch} {g : GC} (b9 : Nat) (ms : MM) (σ0 : AH) (f : Int32) (h : Int32) (h1 : WFd (m_now ms)) : AMet l g mX2_ironsFor 5 0 [.ref b9, .int f, .int h] (mc b9 ms σ0) (fun w9 τ9 => ∃ (y0 : AF), w9 = some (.int (gd (mayT (m_is ms) (bi (okF (m_is ms) (m_now ms) f)) (bi (inR h 0 3))) (ironForN (m_now ms) (ix f) h))) ∧ τ9 = mc b9 (⟨mayT (m_is ms) (bi (okF (m_is ms) (m_now ms) f)) (bi (inR h 0 3)), m_is ms, m_um ms, m_bd ms, m_pc ms, m_pa ms, m_sz ms, m_cu ms, m_st ms, m_tk ms, m_to ms, m_ps ms, m_now ms, y0, m_und ms, m_sav ms, m_isv ms, m_buf ms, m_grp ms, m_pag ms⟩ : MM) σ0) A_no := by
  refine A_of rfl (by decide) (Nat.le_of_ble_eq_true rfl) (L0 := [(0, .ref b9), (1, .int f), (2, .int h)]) rfl ?_
  have h1c := h1.1
  have hF := h1c.2.2.2.2.2
  refine A_aload_n (i := 0) dX2_ironsFor_0 rfl rfl ?_
  refine A_aload_n (i := 0) dX2_ironsFor_1 rfl rfl ?_
  refine M_get 6 (v := .int (m_is ms)) (Nat.le_of_ble_eq_true rfl) q2235 rfl dX2_ironsFor_2 ?_
  refine A_aload_n (i := 0) dX2_ironsFor_5 rfl rfl ?_
  refine A_iload_n (i := 1) dX2_ironsFor_6 rfl rfl ?_
  refine A_callV1E (v := some (.int (bi (okF (m_is ms) (m_now ms) f)))) (τ := mc b9 ms σ0) (c_isFlag b9 ms σ0 f) tX2_isFlag q2629 (mc_0 _ _ _) rfl rfl dX2_ironsFor_7 (by decide) (Nat.le_of_eq (Nat.zero_add _)) (Nat.le_of_ble_eq_true rfl) ?_
  refine A_iload_n (i := 2) dX2_ironsFor_10 rfl rfl ?_
  refine A_callS1E (v := some (.int (bi (inR h 0 3)))) (τ := mc b9 ms σ0) (c_isHeat b9 ms σ0 h) tX2_isHeat q2714 dX2_ironsFor_11 (by decide) (Nat.le_of_eq (Nat.zero_add _)) (Nat.le_of_ble_eq_true rfl) ?_
  refine A_callV3E (v := some (.int (bi (mayT (m_is ms) (bi (okF (m_is ms) (m_now ms) f)) (bi (inR h 0 3)) = 0)))) (τ := mc b9 (⟨mayT (m_is ms) (bi (okF (m_is ms) (m_now ms) f)) (bi (inR h 0 3)), m_is ms, m_um ms, m_bd ms, m_pc ms, m_pa ms, m_sz ms, m_cu ms, m_st ms, m_tk ms, m_to ms, m_ps ms, m_now ms, m_asd ms, m_und ms, m_sav ms, m_isv ms, m_buf ms, m_grp ms, m_pag ms⟩ : MM) σ0) (c_may b9 ms σ0 (m_is ms) (bi (okF (m_is ms) (m_now ms) f)) (bi (inR h 0 3))) tX2_may q2322 (mc_0 _ _ _) rfl rfl dX2_ironsFor_14 (by decide) (Nat.le_of_eq (Nat.zero_add _)) (Nat.le_of_ble_eq_true rfl) ?_
  refine A_if_ne (tgt := 22) dX2_ironsFor_17 (by decide) (fun c1 => ?_) (fun c1 => ?_)
  · skip
    have c1 := bi_ne0.mp c1
    obtain ⟨f9, hf9, rfl⟩ := okF_ex h1c (mayT_y c1)
    obtain ⟨h9, hh9, rfl⟩ := in6_ex (n := 3) (by omega) (mayT_z c1)
    refine A_aload_n (i := 0) dX2_ironsFor_22 rfl rfl ?_
    refine A_iload_n (i := 1) dX2_ironsFor_23 rfl rfl ?_
    refine A_iconst (v := 5) dX2_ironsFor_24 (by decide) ?_
    refine A_callV2E (v := some (.int (fl (m_now ms) f9 5))) (τ := mc b9 (⟨mayT (m_is ms) (bi (okF (m_is ms) (m_now ms) (nI f9))) (bi (inR (nI h9) 0 3)), m_is ms, m_um ms, m_bd ms, m_pc ms, m_pa ms, m_sz ms, m_cu ms, m_st ms, m_tk ms, m_to ms, m_ps ms, m_now ms, m_asd ms, m_und ms, m_sav ms, m_isv ms, m_buf ms, m_grp ms, m_pag ms⟩ : MM) σ0) (c_ofFlag b9 (⟨mayT (m_is ms) (bi (okF (m_is ms) (m_now ms) (nI f9))) (bi (inR (nI h9) 0 3)), m_is ms, m_um ms, m_bd ms, m_pc ms, m_pa ms, m_sz ms, m_cu ms, m_st ms, m_tk ms, m_to ms, m_ps ms, m_now ms, m_asd ms, m_und ms, m_sav ms, m_isv ms, m_buf ms, m_grp ms, m_pag ms⟩ : MM) σ0 f9 5 (by first | assumption | omega) (by first | assumption | omega)) tX2_ofFlag q2444 (mc_0 _ _ _) rfl rfl dX2_ironsFor_25 (by decide) (Nat.le_of_eq (Nat.zero_add _)) (Nat.le_of_ble_eq_true rfl) ?_
    refine A_if_ne (tgt := 33) dX2_ironsFor_28 (by decide) (fun c2 => ?_) (fun c2 => ?_)
    · skip
      refine A_aload_n (i := 0) dX2_ironsFor_33 rfl rfl ?_
      refine A_iload_n (i := 1) dX2_ironsFor_34 rfl rfl ?_
      refine A_iload_n (i := 2) dX2_ironsFor_35 rfl rfl ?_
      refine A_callV2E (v := some (.int (whyIronN (m_now ms) f9 (nI h9)))) (τ := mc b9 (⟨mayT (m_is ms) (bi (okF (m_is ms) (m_now ms) (nI f9))) (bi (inR (nI h9) 0 3)), m_is ms, m_um ms, m_bd ms, m_pc ms, m_pa ms, m_sz ms, m_cu ms, m_st ms, m_tk ms, m_to ms, m_ps ms, m_now ms, m_asd ms, m_und ms, m_sav ms, m_isv ms, m_buf ms, m_grp ms, m_pag ms⟩ : MM) σ0) (c_whyIron b9 (⟨mayT (m_is ms) (bi (okF (m_is ms) (m_now ms) (nI f9))) (bi (inR (nI h9) 0 3)), m_is ms, m_um ms, m_bd ms, m_pc ms, m_pa ms, m_sz ms, m_cu ms, m_st ms, m_tk ms, m_to ms, m_ps ms, m_now ms, m_asd ms, m_und ms, m_sav ms, m_isv ms, m_buf ms, m_grp ms, m_pag ms⟩ : MM) σ0 f9 (nI h9) (by first | assumption | omega)) tX2_whyIron q2721 (mc_0 _ _ _) rfl rfl dX2_ironsFor_36 (by decide) (Nat.le_of_eq (Nat.zero_add _)) (Nat.le_of_ble_eq_true rfl) ?_
      refine A_if_ne (tgt := 51) dX2_ironsFor_39 (by decide) (fun c3 => ?_) (fun c3 => ?_)
      · skip
        refine A_iconst (v := (-1)) dX2_ironsFor_51 (by decide) ?_
        exact A_iret dX2_ironsFor_52 rfl ⟨_, by rw [gd, if_pos c1] <;> first | with_reducible rfl | (simp [-Int32.not_lt, -Int32.not_le, ironForN, ixn (show f9 < 2000 by omega), c2, c3]; done) | (simp [ironForN, ixn (show f9 < 2000 by omega), c2, c3]), rfl⟩
      · skip
        refine A_aload_n (i := 0) dX2_ironsFor_42 rfl rfl ?_
        refine A_iload_n (i := 1) dX2_ironsFor_43 rfl rfl ?_
        refine A_iload_n (i := 2) dX2_ironsFor_44 rfl rfl ?_
        refine A_callV2 (c_ironsUntil b9 (⟨mayT (m_is ms) (bi (okF (m_is ms) (m_now ms) (nI f9))) (bi (inR (nI h9) 0 3)), m_is ms, m_um ms, m_bd ms, m_pc ms, m_pa ms, m_sz ms, m_cu ms, m_st ms, m_tk ms, m_to ms, m_ps ms, m_now ms, m_asd ms, m_und ms, m_sav ms, m_isv ms, m_buf ms, m_grp ms, m_pag ms⟩ : MM) σ0 f9 h9 (by first | assumption | omega) (by first | assumption | omega) (by first | assumption | omega)) tX2_ironsUntil q2840 (mc_0 _ _ _) rfl rfl dX2_ironsFor_45 (by decide) (Nat.le_of_eq (Nat.zero_add _)) (Nat.le_of_ble_eq_true rfl) (fun w9 τ9 h9 => ?_) (fun E9 q9 τ9 h9 => h9.elim)
        obtain ⟨x4_0, e91, e92⟩ := h9
        subst e91
        subst e92
        show AW _ _ _ _ _ _ _ _ _ (.int (nI (ironK (m_now ms) f9 (nI h9))) :: []) (mc b9 (⟨mayT (m_is ms) (bi (okF (m_is ms) (m_now ms) (nI f9))) (bi (inR (nI h9) 0 3)), m_is ms, m_um ms, m_bd ms, m_pc ms, m_pa ms, m_sz ms, m_cu ms, m_st ms, m_tk ms, m_to ms, m_ps ms, m_now ms, x4_0, m_und ms, m_sav ms, m_isv ms, m_buf ms, m_grp ms, m_pag ms⟩ : MM) σ0)
        refine A_goto (tgt := 52) dX2_ironsFor_48 (by decide) ?_
        exact A_iret dX2_ironsFor_52 rfl ⟨_, by rw [gd, if_pos c1] <;> first | with_reducible rfl | (simp [-Int32.not_lt, -Int32.not_le, ironForN, ixn (show f9 < 2000 by omega), c2, c3]; done) | (simp [ironForN, ixn (show f9 < 2000 by omega), c2, c3]), rfl⟩
    · skip
      refine A_iconst (v := 0) dX2_ironsFor_31 (by decide) ?_
      exact A_iret dX2_ironsFor_32 rfl ⟨_, by rw [gd, if_pos c1] <;> first | with_reducible rfl | (simp [-Int32.not_lt, -Int32.not_le, ironForN, ixn (show f9 < 2000 by omega), c2]; done) | (simp [ironForN, ixn (show f9 < 2000 by omega), c2]), rfl⟩
  · skip
    have c1 := bi_eq0.mp c1
    refine A_iconst (v := 0) dX2_ironsFor_20 (by decide) ?_
    exact A_iret dX2_ironsFor_21 rfl ⟨_, by rw [gd, if_neg c1], rfl⟩
theorem c_gap {l : Launch} {g : GC} (b9 : Nat) (ms : MM) (σ0 : AH)  (h1 : WFd (m_now ms)) : AMet l g mX2_gap 4 0 [.ref b9] (mc b9 ms σ0) (A_eq (some (.int (gd (mayT (m_is ms) 1 1) (gapN (m_now ms))))) (mc b9 (⟨mayT (m_is ms) 1 1, m_is ms, m_um ms, m_bd ms, m_pc ms, m_pa ms, m_sz ms, m_cu ms, m_st ms, m_tk ms, m_to ms, m_ps ms, m_now ms, m_asd ms, m_und ms, m_sav ms, m_isv ms, m_buf ms, m_grp ms, m_pag ms⟩ : MM) σ0)) A_no := by
  refine A_of rfl (by decide) (Nat.le_of_ble_eq_true rfl) (L0 := [(0, .ref b9)]) rfl ?_
  have h1c := h1.1
  have hF := h1c.2.2.2.2.2
  refine A_aload_n (i := 0) dX2_gap_0 rfl rfl ?_
  refine A_callV0E (v := some (.int (bi (mayT (m_is ms) 1 1 = 0)))) (τ := mc b9 (⟨mayT (m_is ms) 1 1, m_is ms, m_um ms, m_bd ms, m_pc ms, m_pa ms, m_sz ms, m_cu ms, m_st ms, m_tk ms, m_to ms, m_ps ms, m_now ms, m_asd ms, m_und ms, m_sav ms, m_isv ms, m_buf ms, m_grp ms, m_pag ms⟩ : MM) σ0) (c_mayLook b9 ms σ0) tX2_mayLook q2669 (mc_0 _ _ _) rfl rfl dX2_gap_1 (by decide) (Nat.le_of_eq (Nat.zero_add _)) (Nat.le_of_ble_eq_true rfl) ?_
  refine A_if_ne (tgt := 9) dX2_gap_4 (by decide) (fun c1 => ?_) (fun c1 => ?_)
  · skip
    have c1 := bi_ne0.mp c1
    refine A_iconst (v := 0) dX2_gap_9 (by decide) ?_
    refine A_istore_n (i := 1) dX2_gap_10 rfl (Nat.le_of_ble_eq_true rfl) ?_
    refine A_iconst (v := 0) dX2_gap_11 (by decide) ?_
    refine A_istore_n (i := 2) dX2_gap_12 rfl (Nat.le_of_ble_eq_true rfl) ?_
    refine A_iconst (v := 0) dX2_gap_13 (by decide) ?_
    refine A_istore_n (i := 3) dX2_gap_14 rfl (Nat.le_of_ble_eq_true rfl) ?_
    refine A_sub (L' := [(0, .ref b9), (1, .int (sm (fun f => if fl (m_now ms) f 8 = 3 then na (m_now ms) (ix (fl (m_now ms) f 0)) 1 else 0) 0)), (2, .int (sm (fun f => bi (¬ (fl (m_now ms) f 6 &&& fl (m_now ms) f 1) = 0)) 0)), (3, .int (nI 0))]) ⟨rfl, rfl, rfl, rfl, trivial⟩ ?_
    refine A_for (nF (m_now ms)) (fun i15 => 0) (fun i15 => [(0, .ref b9), (1, .int (sm (fun f => if fl (m_now ms) f 8 = 3 then na (m_now ms) (ix (fl (m_now ms) f 0)) 1 else 0) i15)), (2, .int (sm (fun f => bi (¬ (fl (m_now ms) f 6 &&& fl (m_now ms) f 1) = 0)) i15)), (3, .int (nI i15))]) (fun i15 => mc b9 (⟨mayT (m_is ms) 1 1, m_is ms, m_um ms, m_bd ms, m_pc ms, m_pa ms, m_sz ms, m_cu ms, m_st ms, m_tk ms, m_to ms, m_ps ms, m_now ms, m_asd ms, m_und ms, m_sav ms, m_isv ms, m_buf ms, m_grp ms, m_pag ms⟩ : MM) σ0) (fun i15 => True) trivial (fun i15 hi15 hI15 ih15 => ?_) (fun hI15 => ?_)
    · skip
      refine A_iload_n (i := 3) dX2_gap_15 rfl rfl ?_
      refine A_aload_n (i := 0) dX2_gap_16 rfl rfl ?_
      refine M_get 1 (v := .ref (b9 + 1)) (Nat.le_of_ble_eq_true rfl) q2230 rfl dX2_gap_17 ?_
      refine A_bipush (v := 10) dX2_gap_20 (by decide) ?_
      refine M_ald1 (n := 10) (v := m_now ms 10) (rfl) (by decide) (rfl) dX2_gap_22 ?_
      refine A_icmp_ge_f (tgt := 87) dX2_gap_23 (by decide) (br_lt h1c.2.2.2.2.1 hi15 (by omega)) ?_
      refine A_iload_n (i := 1) dX2_gap_26 rfl rfl ?_
      refine A_aload_n (i := 0) dX2_gap_27 rfl rfl ?_
      refine A_iload_n (i := 3) dX2_gap_28 rfl rfl ?_
      refine A_callV1E (v := some (.int (fl (m_now ms) i15 8))) (τ := mc b9 (⟨mayT (m_is ms) 1 1, m_is ms, m_um ms, m_bd ms, m_pc ms, m_pa ms, m_sz ms, m_cu ms, m_st ms, m_tk ms, m_to ms, m_ps ms, m_now ms, m_asd ms, m_und ms, m_sav ms, m_isv ms, m_buf ms, m_grp ms, m_pag ms⟩ : MM) σ0) (c_where b9 (⟨mayT (m_is ms) 1 1, m_is ms, m_um ms, m_bd ms, m_pc ms, m_pa ms, m_sz ms, m_cu ms, m_st ms, m_tk ms, m_to ms, m_ps ms, m_now ms, m_asd ms, m_und ms, m_sav ms, m_isv ms, m_buf ms, m_grp ms, m_pag ms⟩ : MM) σ0 i15 (by first | assumption | omega)) tX2_where q2440 (mc_0 _ _ _) rfl rfl dX2_gap_29 (by decide) (Nat.le_of_eq (Nat.zero_add _)) (Nat.le_of_ble_eq_true rfl) ?_
      refine A_iconst (v := 3) dX2_gap_32 (by decide) ?_
      refine A_icmp_ne (tgt := 50) dX2_gap_33 (by decide) (fun c2 => ?_) (fun c2 => ?_)
      · skip
        refine A_iconst (v := 0) dX2_gap_50 (by decide) ?_
        refine A_iadd dX2_gap_51 ?_
        refine A_int (w := sm (fun f => if fl (m_now ms) f 8 = 3 then na (m_now ms) (ix (fl (m_now ms) f 0)) 1 else 0) (i15 + 1)) (by rw [sm_s]; simp [c2]) ?_
        refine A_istore_n (i := 1) dX2_gap_52 rfl (Nat.le_of_ble_eq_true rfl) ?_
        refine A_iload_n (i := 2) dX2_gap_53 rfl rfl ?_
        refine A_aload_n (i := 0) dX2_gap_54 rfl rfl ?_
        refine A_iload_n (i := 3) dX2_gap_55 rfl rfl ?_
        refine A_bipush (v := 6) dX2_gap_56 (by decide) ?_
        refine A_callV2E (v := some (.int (fl (m_now ms) i15 6))) (τ := mc b9 (⟨mayT (m_is ms) 1 1, m_is ms, m_um ms, m_bd ms, m_pc ms, m_pa ms, m_sz ms, m_cu ms, m_st ms, m_tk ms, m_to ms, m_ps ms, m_now ms, m_asd ms, m_und ms, m_sav ms, m_isv ms, m_buf ms, m_grp ms, m_pag ms⟩ : MM) σ0) (c_ofFlag b9 (⟨mayT (m_is ms) 1 1, m_is ms, m_um ms, m_bd ms, m_pc ms, m_pa ms, m_sz ms, m_cu ms, m_st ms, m_tk ms, m_to ms, m_ps ms, m_now ms, m_asd ms, m_und ms, m_sav ms, m_isv ms, m_buf ms, m_grp ms, m_pag ms⟩ : MM) σ0 i15 6 (by first | assumption | omega) (by first | assumption | omega)) tX2_ofFlag q2444 (mc_0 _ _ _) rfl rfl dX2_gap_58 (by decide) (Nat.le_of_eq (Nat.zero_add _)) (Nat.le_of_ble_eq_true rfl) ?_
        refine A_aload_n (i := 0) dX2_gap_61 rfl rfl ?_
        refine A_iload_n (i := 3) dX2_gap_62 rfl rfl ?_
        refine A_iconst (v := 1) dX2_gap_63 (by decide) ?_
        refine A_callV2E (v := some (.int (fl (m_now ms) i15 1))) (τ := mc b9 (⟨mayT (m_is ms) 1 1, m_is ms, m_um ms, m_bd ms, m_pc ms, m_pa ms, m_sz ms, m_cu ms, m_st ms, m_tk ms, m_to ms, m_ps ms, m_now ms, m_asd ms, m_und ms, m_sav ms, m_isv ms, m_buf ms, m_grp ms, m_pag ms⟩ : MM) σ0) (c_ofFlag b9 (⟨mayT (m_is ms) 1 1, m_is ms, m_um ms, m_bd ms, m_pc ms, m_pa ms, m_sz ms, m_cu ms, m_st ms, m_tk ms, m_to ms, m_ps ms, m_now ms, m_asd ms, m_und ms, m_sav ms, m_isv ms, m_buf ms, m_grp ms, m_pag ms⟩ : MM) σ0 i15 1 (by first | assumption | omega) (by first | assumption | omega)) tX2_ofFlag q2444 (mc_0 _ _ _) rfl rfl dX2_gap_64 (by decide) (Nat.le_of_eq (Nat.zero_add _)) (Nat.le_of_ble_eq_true rfl) ?_
        refine A_iand dX2_gap_67 ?_
        refine A_if_eq (tgt := 75) dX2_gap_68 (by decide) (fun c3 => ?_) (fun c3 => ?_)
        · skip
          refine A_iconst (v := 0) dX2_gap_75 (by decide) ?_
          refine A_callS1E (v := some (.int (oneI 0))) (τ := mc b9 (⟨mayT (m_is ms) 1 1, m_is ms, m_um ms, m_bd ms, m_pc ms, m_pa ms, m_sz ms, m_cu ms, m_st ms, m_tk ms, m_to ms, m_ps ms, m_now ms, m_asd ms, m_und ms, m_sav ms, m_isv ms, m_buf ms, m_grp ms, m_pag ms⟩ : MM) σ0) (c_one b9 (⟨mayT (m_is ms) 1 1, m_is ms, m_um ms, m_bd ms, m_pc ms, m_pa ms, m_sz ms, m_cu ms, m_st ms, m_tk ms, m_to ms, m_ps ms, m_now ms, m_asd ms, m_und ms, m_sav ms, m_isv ms, m_buf ms, m_grp ms, m_pag ms⟩ : MM) σ0 0) tX2_one q2456 dX2_gap_76 (by decide) (Nat.le_of_eq (Nat.zero_add _)) (Nat.le_of_ble_eq_true rfl) ?_
          refine A_int (w := 0) (by decide) ?_
          refine A_iadd dX2_gap_79 ?_
          refine A_int (w := sm (fun f => bi (¬ (fl (m_now ms) f 6 &&& fl (m_now ms) f 1) = 0)) (i15 + 1)) (by rw [sm_s]; simp [bi, c2, c3]) ?_
          refine A_istore_n (i := 2) dX2_gap_80 rfl (Nat.le_of_ble_eq_true rfl) ?_
          refine A_iinc (v := nI (i15 + 1)) dX2_gap_81 rfl (nI_inc _ _) (Nat.le_of_ble_eq_true rfl) ?_
          refine A_goto (tgt := 15) dX2_gap_84 (by decide) ?_
          refine A_sub (L' := [(0, .ref b9), (1, .int (sm (fun f => if fl (m_now ms) f 8 = 3 then na (m_now ms) (ix (fl (m_now ms) f 0)) 1 else 0) (i15 + 1))), (2, .int (sm (fun f => bi (¬ (fl (m_now ms) f 6 &&& fl (m_now ms) f 1) = 0)) (i15 + 1))), (3, .int (nI (i15 + 1)))]) ⟨rfl, rfl, rfl, rfl, trivial⟩ ?_
          exact ih15 trivial
        · skip
          refine A_iconst (v := 1) dX2_gap_71 (by decide) ?_
          refine A_goto (tgt := 76) dX2_gap_72 (by decide) ?_
          refine A_callS1E (v := some (.int (oneI 1))) (τ := mc b9 (⟨mayT (m_is ms) 1 1, m_is ms, m_um ms, m_bd ms, m_pc ms, m_pa ms, m_sz ms, m_cu ms, m_st ms, m_tk ms, m_to ms, m_ps ms, m_now ms, m_asd ms, m_und ms, m_sav ms, m_isv ms, m_buf ms, m_grp ms, m_pag ms⟩ : MM) σ0) (c_one b9 (⟨mayT (m_is ms) 1 1, m_is ms, m_um ms, m_bd ms, m_pc ms, m_pa ms, m_sz ms, m_cu ms, m_st ms, m_tk ms, m_to ms, m_ps ms, m_now ms, m_asd ms, m_und ms, m_sav ms, m_isv ms, m_buf ms, m_grp ms, m_pag ms⟩ : MM) σ0 1) tX2_one q2456 dX2_gap_76 (by decide) (Nat.le_of_eq (Nat.zero_add _)) (Nat.le_of_ble_eq_true rfl) ?_
          refine A_int (w := 1) (by decide) ?_
          refine A_iadd dX2_gap_79 ?_
          refine A_int (w := sm (fun f => bi (¬ (fl (m_now ms) f 6 &&& fl (m_now ms) f 1) = 0)) (i15 + 1)) (by rw [sm_s]; simp [bi, c2, c3]) ?_
          refine A_istore_n (i := 2) dX2_gap_80 rfl (Nat.le_of_ble_eq_true rfl) ?_
          refine A_iinc (v := nI (i15 + 1)) dX2_gap_81 rfl (nI_inc _ _) (Nat.le_of_ble_eq_true rfl) ?_
          refine A_goto (tgt := 15) dX2_gap_84 (by decide) ?_
          refine A_sub (L' := [(0, .ref b9), (1, .int (sm (fun f => if fl (m_now ms) f 8 = 3 then na (m_now ms) (ix (fl (m_now ms) f 0)) 1 else 0) (i15 + 1))), (2, .int (sm (fun f => bi (¬ (fl (m_now ms) f 6 &&& fl (m_now ms) f 1) = 0)) (i15 + 1))), (3, .int (nI (i15 + 1)))]) ⟨rfl, rfl, rfl, rfl, trivial⟩ ?_
          exact ih15 trivial
      · skip
        refine A_aload_n (i := 0) dX2_gap_36 rfl rfl ?_
        refine A_aload_n (i := 0) dX2_gap_37 rfl rfl ?_
        refine A_iload_n (i := 3) dX2_gap_38 rfl rfl ?_
        refine A_iconst (v := 0) dX2_gap_39 (by decide) ?_
        refine A_callV2E (v := some (.int (fl (m_now ms) i15 0))) (τ := mc b9 (⟨mayT (m_is ms) 1 1, m_is ms, m_um ms, m_bd ms, m_pc ms, m_pa ms, m_sz ms, m_cu ms, m_st ms, m_tk ms, m_to ms, m_ps ms, m_now ms, m_asd ms, m_und ms, m_sav ms, m_isv ms, m_buf ms, m_grp ms, m_pag ms⟩ : MM) σ0) (c_ofFlag b9 (⟨mayT (m_is ms) 1 1, m_is ms, m_um ms, m_bd ms, m_pc ms, m_pa ms, m_sz ms, m_cu ms, m_st ms, m_tk ms, m_to ms, m_ps ms, m_now ms, m_asd ms, m_und ms, m_sav ms, m_isv ms, m_buf ms, m_grp ms, m_pag ms⟩ : MM) σ0 i15 0 (by first | assumption | omega) (by first | assumption | omega)) tX2_ofFlag q2444 (mc_0 _ _ _) rfl rfl dX2_gap_40 (by decide) (Nat.le_of_eq (Nat.zero_add _)) (Nat.le_of_ble_eq_true rfl) ?_
        obtain ⟨n9, hn9, en⟩ := (h1.2 i15 hi15).1
        have hN := h1c.2.1.2
        refine A_int (w := nI n9) (en) ?_
        refine A_iconst (v := 1) dX2_gap_43 (by decide) ?_
        refine A_callV2E (v := some (.int (na (m_now ms) n9 1))) (τ := mc b9 (⟨mayT (m_is ms) 1 1, m_is ms, m_um ms, m_bd ms, m_pc ms, m_pa ms, m_sz ms, m_cu ms, m_st ms, m_tk ms, m_to ms, m_ps ms, m_now ms, m_asd ms, m_und ms, m_sav ms, m_isv ms, m_buf ms, m_grp ms, m_pag ms⟩ : MM) σ0) (c_ofNation b9 (⟨mayT (m_is ms) 1 1, m_is ms, m_um ms, m_bd ms, m_pc ms, m_pa ms, m_sz ms, m_cu ms, m_st ms, m_tk ms, m_to ms, m_ps ms, m_now ms, m_asd ms, m_und ms, m_sav ms, m_isv ms, m_buf ms, m_grp ms, m_pag ms⟩ : MM) σ0 n9 1 (by first | assumption | omega) (by first | assumption | omega)) tX2_ofNation q2613 (mc_0 _ _ _) rfl rfl dX2_gap_44 (by decide) (Nat.le_of_eq (Nat.zero_add _)) (Nat.le_of_ble_eq_true rfl) ?_
        refine A_goto (tgt := 51) dX2_gap_47 (by decide) ?_
        refine A_iadd dX2_gap_51 ?_
        refine A_int (w := sm (fun f => if fl (m_now ms) f 8 = 3 then na (m_now ms) (ix (fl (m_now ms) f 0)) 1 else 0) (i15 + 1)) (by rw [sm_s]; simp [en, ixn (show n9 < 2000 by omega), c2]) ?_
        refine A_istore_n (i := 1) dX2_gap_52 rfl (Nat.le_of_ble_eq_true rfl) ?_
        refine A_iload_n (i := 2) dX2_gap_53 rfl rfl ?_
        refine A_aload_n (i := 0) dX2_gap_54 rfl rfl ?_
        refine A_iload_n (i := 3) dX2_gap_55 rfl rfl ?_
        refine A_bipush (v := 6) dX2_gap_56 (by decide) ?_
        refine A_callV2E (v := some (.int (fl (m_now ms) i15 6))) (τ := mc b9 (⟨mayT (m_is ms) 1 1, m_is ms, m_um ms, m_bd ms, m_pc ms, m_pa ms, m_sz ms, m_cu ms, m_st ms, m_tk ms, m_to ms, m_ps ms, m_now ms, m_asd ms, m_und ms, m_sav ms, m_isv ms, m_buf ms, m_grp ms, m_pag ms⟩ : MM) σ0) (c_ofFlag b9 (⟨mayT (m_is ms) 1 1, m_is ms, m_um ms, m_bd ms, m_pc ms, m_pa ms, m_sz ms, m_cu ms, m_st ms, m_tk ms, m_to ms, m_ps ms, m_now ms, m_asd ms, m_und ms, m_sav ms, m_isv ms, m_buf ms, m_grp ms, m_pag ms⟩ : MM) σ0 i15 6 (by first | assumption | omega) (by first | assumption | omega)) tX2_ofFlag q2444 (mc_0 _ _ _) rfl rfl dX2_gap_58 (by decide) (Nat.le_of_eq (Nat.zero_add _)) (Nat.le_of_ble_eq_true rfl) ?_
        refine A_aload_n (i := 0) dX2_gap_61 rfl rfl ?_
        refine A_iload_n (i := 3) dX2_gap_62 rfl rfl ?_
        refine A_iconst (v := 1) dX2_gap_63 (by decide) ?_
        refine A_callV2E (v := some (.int (fl (m_now ms) i15 1))) (τ := mc b9 (⟨mayT (m_is ms) 1 1, m_is ms, m_um ms, m_bd ms, m_pc ms, m_pa ms, m_sz ms, m_cu ms, m_st ms, m_tk ms, m_to ms, m_ps ms, m_now ms, m_asd ms, m_und ms, m_sav ms, m_isv ms, m_buf ms, m_grp ms, m_pag ms⟩ : MM) σ0) (c_ofFlag b9 (⟨mayT (m_is ms) 1 1, m_is ms, m_um ms, m_bd ms, m_pc ms, m_pa ms, m_sz ms, m_cu ms, m_st ms, m_tk ms, m_to ms, m_ps ms, m_now ms, m_asd ms, m_und ms, m_sav ms, m_isv ms, m_buf ms, m_grp ms, m_pag ms⟩ : MM) σ0 i15 1 (by first | assumption | omega) (by first | assumption | omega)) tX2_ofFlag q2444 (mc_0 _ _ _) rfl rfl dX2_gap_64 (by decide) (Nat.le_of_eq (Nat.zero_add _)) (Nat.le_of_ble_eq_true rfl) ?_
        refine A_iand dX2_gap_67 ?_
        refine A_if_eq (tgt := 75) dX2_gap_68 (by decide) (fun c4 => ?_) (fun c4 => ?_)
        · skip
          refine A_iconst (v := 0) dX2_gap_75 (by decide) ?_
          refine A_callS1E (v := some (.int (oneI 0))) (τ := mc b9 (⟨mayT (m_is ms) 1 1, m_is ms, m_um ms, m_bd ms, m_pc ms, m_pa ms, m_sz ms, m_cu ms, m_st ms, m_tk ms, m_to ms, m_ps ms, m_now ms, m_asd ms, m_und ms, m_sav ms, m_isv ms, m_buf ms, m_grp ms, m_pag ms⟩ : MM) σ0) (c_one b9 (⟨mayT (m_is ms) 1 1, m_is ms, m_um ms, m_bd ms, m_pc ms, m_pa ms, m_sz ms, m_cu ms, m_st ms, m_tk ms, m_to ms, m_ps ms, m_now ms, m_asd ms, m_und ms, m_sav ms, m_isv ms, m_buf ms, m_grp ms, m_pag ms⟩ : MM) σ0 0) tX2_one q2456 dX2_gap_76 (by decide) (Nat.le_of_eq (Nat.zero_add _)) (Nat.le_of_ble_eq_true rfl) ?_
          refine A_int (w := 0) (by decide) ?_
          refine A_iadd dX2_gap_79 ?_
          refine A_int (w := sm (fun f => bi (¬ (fl (m_now ms) f 6 &&& fl (m_now ms) f 1) = 0)) (i15 + 1)) (by rw [sm_s]; simp [bi, c2, c4]) ?_
          refine A_istore_n (i := 2) dX2_gap_80 rfl (Nat.le_of_ble_eq_true rfl) ?_
          refine A_iinc (v := nI (i15 + 1)) dX2_gap_81 rfl (nI_inc _ _) (Nat.le_of_ble_eq_true rfl) ?_
          refine A_goto (tgt := 15) dX2_gap_84 (by decide) ?_
          refine A_sub (L' := [(0, .ref b9), (1, .int (sm (fun f => if fl (m_now ms) f 8 = 3 then na (m_now ms) (ix (fl (m_now ms) f 0)) 1 else 0) (i15 + 1))), (2, .int (sm (fun f => bi (¬ (fl (m_now ms) f 6 &&& fl (m_now ms) f 1) = 0)) (i15 + 1))), (3, .int (nI (i15 + 1)))]) ⟨rfl, rfl, rfl, rfl, trivial⟩ ?_
          exact ih15 trivial
        · skip
          refine A_iconst (v := 1) dX2_gap_71 (by decide) ?_
          refine A_goto (tgt := 76) dX2_gap_72 (by decide) ?_
          refine A_callS1E (v := some (.int (oneI 1))) (τ := mc b9 (⟨mayT (m_is ms) 1 1, m_is ms, m_um ms, m_bd ms, m_pc ms, m_pa ms, m_sz ms, m_cu ms, m_st ms, m_tk ms, m_to ms, m_ps ms, m_now ms, m_asd ms, m_und ms, m_sav ms, m_isv ms, m_buf ms, m_grp ms, m_pag ms⟩ : MM) σ0) (c_one b9 (⟨mayT (m_is ms) 1 1, m_is ms, m_um ms, m_bd ms, m_pc ms, m_pa ms, m_sz ms, m_cu ms, m_st ms, m_tk ms, m_to ms, m_ps ms, m_now ms, m_asd ms, m_und ms, m_sav ms, m_isv ms, m_buf ms, m_grp ms, m_pag ms⟩ : MM) σ0 1) tX2_one q2456 dX2_gap_76 (by decide) (Nat.le_of_eq (Nat.zero_add _)) (Nat.le_of_ble_eq_true rfl) ?_
          refine A_int (w := 1) (by decide) ?_
          refine A_iadd dX2_gap_79 ?_
          refine A_int (w := sm (fun f => bi (¬ (fl (m_now ms) f 6 &&& fl (m_now ms) f 1) = 0)) (i15 + 1)) (by rw [sm_s]; simp [bi, c2, c4]) ?_
          refine A_istore_n (i := 2) dX2_gap_80 rfl (Nat.le_of_ble_eq_true rfl) ?_
          refine A_iinc (v := nI (i15 + 1)) dX2_gap_81 rfl (nI_inc _ _) (Nat.le_of_ble_eq_true rfl) ?_
          refine A_goto (tgt := 15) dX2_gap_84 (by decide) ?_
          refine A_sub (L' := [(0, .ref b9), (1, .int (sm (fun f => if fl (m_now ms) f 8 = 3 then na (m_now ms) (ix (fl (m_now ms) f 0)) 1 else 0) (i15 + 1))), (2, .int (sm (fun f => bi (¬ (fl (m_now ms) f 6 &&& fl (m_now ms) f 1) = 0)) (i15 + 1))), (3, .int (nI (i15 + 1)))]) ⟨rfl, rfl, rfl, rfl, trivial⟩ ?_
          exact ih15 trivial
    · skip
      refine A_iload_n (i := 3) dX2_gap_15 rfl rfl ?_
      refine A_aload_n (i := 0) dX2_gap_16 rfl rfl ?_
      refine M_get 1 (v := .ref (b9 + 1)) (Nat.le_of_ble_eq_true rfl) q2230 rfl dX2_gap_17 ?_
      refine A_bipush (v := 10) dX2_gap_20 (by decide) ?_
      refine M_ald1 (n := 10) (v := m_now ms 10) (rfl) (by decide) (rfl) dX2_gap_22 ?_
      refine A_icmp_ge_t (tgt := 87) dX2_gap_23 (by decide) (br_ge h1c.2.2.2.2.1) ?_
      refine A_aload_n (i := 0) dX2_gap_87 rfl rfl ?_
      refine A_iconst (v := 0) dX2_gap_88 (by decide) ?_
      refine A_callV1E (v := some (.int (atN (m_now ms) 0))) (τ := mc b9 (⟨mayT (m_is ms) 1 1, m_is ms, m_um ms, m_bd ms, m_pc ms, m_pa ms, m_sz ms, m_cu ms, m_st ms, m_tk ms, m_to ms, m_ps ms, m_now ms, m_asd ms, m_und ms, m_sav ms, m_isv ms, m_buf ms, m_grp ms, m_pag ms⟩ : MM) σ0) (c_flagsAt b9 (⟨mayT (m_is ms) 1 1, m_is ms, m_um ms, m_bd ms, m_pc ms, m_pa ms, m_sz ms, m_cu ms, m_st ms, m_tk ms, m_to ms, m_ps ms, m_now ms, m_asd ms, m_und ms, m_sav ms, m_isv ms, m_buf ms, m_grp ms, m_pag ms⟩ : MM) σ0 0 (by first | assumption | omega)) tX2_flagsAt q2581 (mc_0 _ _ _) rfl rfl dX2_gap_89 (by decide) (Nat.le_of_eq (Nat.zero_add _)) (Nat.le_of_ble_eq_true rfl) ?_
      refine A_aload_n (i := 0) dX2_gap_92 rfl rfl ?_
      refine A_iconst (v := 1) dX2_gap_93 (by decide) ?_
      refine A_callV1E (v := some (.int (atN (m_now ms) 1))) (τ := mc b9 (⟨mayT (m_is ms) 1 1, m_is ms, m_um ms, m_bd ms, m_pc ms, m_pa ms, m_sz ms, m_cu ms, m_st ms, m_tk ms, m_to ms, m_ps ms, m_now ms, m_asd ms, m_und ms, m_sav ms, m_isv ms, m_buf ms, m_grp ms, m_pag ms⟩ : MM) σ0) (c_flagsAt b9 (⟨mayT (m_is ms) 1 1, m_is ms, m_um ms, m_bd ms, m_pc ms, m_pa ms, m_sz ms, m_cu ms, m_st ms, m_tk ms, m_to ms, m_ps ms, m_now ms, m_asd ms, m_und ms, m_sav ms, m_isv ms, m_buf ms, m_grp ms, m_pag ms⟩ : MM) σ0 1 (by first | assumption | omega)) tX2_flagsAt q2581 (mc_0 _ _ _) rfl rfl dX2_gap_94 (by decide) (Nat.le_of_eq (Nat.zero_add _)) (Nat.le_of_ble_eq_true rfl) ?_
      refine A_iadd dX2_gap_97 ?_
      refine A_aload_n (i := 0) dX2_gap_98 rfl rfl ?_
      refine A_iconst (v := 2) dX2_gap_99 (by decide) ?_
      refine A_callV1E (v := some (.int (atN (m_now ms) 2))) (τ := mc b9 (⟨mayT (m_is ms) 1 1, m_is ms, m_um ms, m_bd ms, m_pc ms, m_pa ms, m_sz ms, m_cu ms, m_st ms, m_tk ms, m_to ms, m_ps ms, m_now ms, m_asd ms, m_und ms, m_sav ms, m_isv ms, m_buf ms, m_grp ms, m_pag ms⟩ : MM) σ0) (c_flagsAt b9 (⟨mayT (m_is ms) 1 1, m_is ms, m_um ms, m_bd ms, m_pc ms, m_pa ms, m_sz ms, m_cu ms, m_st ms, m_tk ms, m_to ms, m_ps ms, m_now ms, m_asd ms, m_und ms, m_sav ms, m_isv ms, m_buf ms, m_grp ms, m_pag ms⟩ : MM) σ0 2 (by first | assumption | omega)) tX2_flagsAt q2581 (mc_0 _ _ _) rfl rfl dX2_gap_100 (by decide) (Nat.le_of_eq (Nat.zero_add _)) (Nat.le_of_ble_eq_true rfl) ?_
      refine A_iadd dX2_gap_103 ?_
      refine A_aload_n (i := 0) dX2_gap_104 rfl rfl ?_
      refine A_iconst (v := 3) dX2_gap_105 (by decide) ?_
      refine A_callV1E (v := some (.int (atN (m_now ms) 3))) (τ := mc b9 (⟨mayT (m_is ms) 1 1, m_is ms, m_um ms, m_bd ms, m_pc ms, m_pa ms, m_sz ms, m_cu ms, m_st ms, m_tk ms, m_to ms, m_ps ms, m_now ms, m_asd ms, m_und ms, m_sav ms, m_isv ms, m_buf ms, m_grp ms, m_pag ms⟩ : MM) σ0) (c_flagsAt b9 (⟨mayT (m_is ms) 1 1, m_is ms, m_um ms, m_bd ms, m_pc ms, m_pa ms, m_sz ms, m_cu ms, m_st ms, m_tk ms, m_to ms, m_ps ms, m_now ms, m_asd ms, m_und ms, m_sav ms, m_isv ms, m_buf ms, m_grp ms, m_pag ms⟩ : MM) σ0 3 (by first | assumption | omega)) tX2_flagsAt q2581 (mc_0 _ _ _) rfl rfl dX2_gap_106 (by decide) (Nat.le_of_eq (Nat.zero_add _)) (Nat.le_of_ble_eq_true rfl) ?_
      refine A_iadd dX2_gap_109 ?_
      refine A_istore_n (i := 3) dX2_gap_110 rfl (Nat.le_of_ble_eq_true rfl) ?_
      refine A_iload_n (i := 2) dX2_gap_111 rfl rfl ?_
      refine A_aload_n (i := 0) dX2_gap_112 rfl rfl ?_
      refine M_get 1 (v := .ref (b9 + 1)) (Nat.le_of_ble_eq_true rfl) q2230 rfl dX2_gap_113 ?_
      refine A_bipush (v := 10) dX2_gap_116 (by decide) ?_
      refine M_ald1 (n := 10) (v := m_now ms 10) (rfl) (by decide) (rfl) dX2_gap_118 ?_
      refine A_iload_n (i := 3) dX2_gap_119 rfl rfl ?_
      refine A_isub dX2_gap_120 ?_
      refine A_mabs q2681 q1621 q150 q1622 dX2_gap_121 (by decide) (Nat.le_of_ble_eq_true rfl) ?_
      refine A_int (w := (ab ((m_now ms 10) - ((((atN (m_now ms) 0) + (atN (m_now ms) 1)) + (atN (m_now ms) 2)) + (atN (m_now ms) 3))))) rfl ?_
      refine A_iadd dX2_gap_124 ?_
      refine A_aload_n (i := 0) dX2_gap_125 rfl rfl ?_
      refine M_get 1 (v := .ref (b9 + 1)) (Nat.le_of_ble_eq_true rfl) q2230 rfl dX2_gap_126 ?_
      refine A_iconst (v := 2) dX2_gap_129 (by decide) ?_
      refine M_ald1 (n := 2) (v := m_now ms 2) (rfl) (by decide) (rfl) dX2_gap_130 ?_
      refine A_aload_n (i := 0) dX2_gap_131 rfl rfl ?_
      refine M_get 1 (v := .ref (b9 + 1)) (Nat.le_of_ble_eq_true rfl) q2230 rfl dX2_gap_132 ?_
      refine A_iconst (v := 3) dX2_gap_135 (by decide) ?_
      refine M_ald1 (n := 3) (v := m_now ms 3) (rfl) (by decide) (rfl) dX2_gap_136 ?_
      refine A_iadd dX2_gap_137 ?_
      refine A_iload_n (i := 1) dX2_gap_138 rfl rfl ?_
      refine A_isub dX2_gap_139 ?_
      refine A_mabs q2681 q1621 q150 q1622 dX2_gap_140 (by decide) (Nat.le_of_ble_eq_true rfl) ?_
      refine A_int (w := (ab (((m_now ms 2) + (m_now ms 3)) - sm (fun f => if fl (m_now ms) f 8 = 3 then na (m_now ms) (ix (fl (m_now ms) f 0)) 1 else 0) (nF (m_now ms))))) rfl ?_
      refine A_iadd dX2_gap_143 ?_
      exact A_iret dX2_gap_144 rfl ⟨by rw [gd, if_pos c1, gapN], rfl⟩
  · skip
    have c1 := bi_eq0.mp c1
    refine A_iconst (v := 0) dX2_gap_7 (by decide) ?_
    exact A_iret dX2_gap_8 rfl ⟨by rw [gd, if_neg c1], rfl⟩
theorem c_allDirt {l : Launch} {g : GC} (b9 : Nat) (ms : MM) (σ0 : AH)  (h1 : WFc (m_now ms)) : AMet l g mX2_allDirt 2 0 [.ref b9] (mc b9 ms σ0) (A_eq (some (.int (sm (fun f => fl (m_now ms) f 3) (nF (m_now ms))))) (mc b9 ms σ0)) A_no := by
  refine A_of rfl (by decide) (Nat.le_of_ble_eq_true rfl) (L0 := [(0, .ref b9)]) rfl ?_
  have hF := h1.2.2.2.2.2
  have hC := h1.1.2
  refine A_iconst (v := 0) dX2_allDirt_0 (by decide) ?_
  refine A_istore_n (i := 1) dX2_allDirt_1 rfl (Nat.le_of_ble_eq_true rfl) ?_
  refine A_iconst (v := 0) dX2_allDirt_2 (by decide) ?_
  refine A_istore_n (i := 2) dX2_allDirt_3 rfl (Nat.le_of_ble_eq_true rfl) ?_
  refine A_sub (L' := [(0, .ref b9), (1, .int (sm (fun f => fl (m_now ms) f 3) 0)), (2, .int (nI 0))]) ⟨rfl, rfl, rfl, trivial⟩ ?_
  refine A_for (nF (m_now ms)) (fun i4 => 0) (fun i4 => [(0, .ref b9), (1, .int (sm (fun f => fl (m_now ms) f 3) i4)), (2, .int (nI i4))]) (fun i4 => mc b9 ms σ0) (fun i4 => True) trivial (fun i4 hi4 hI4 ih4 => ?_) (fun hI4 => ?_)
  · skip
    refine A_iload_n (i := 2) dX2_allDirt_4 rfl rfl ?_
    refine A_aload_n (i := 0) dX2_allDirt_5 rfl rfl ?_
    refine M_get 1 (v := .ref (b9 + 1)) (Nat.le_of_ble_eq_true rfl) q2230 rfl dX2_allDirt_6 ?_
    refine A_bipush (v := 10) dX2_allDirt_9 (by decide) ?_
    refine M_ald1 (n := 10) (v := m_now ms 10) (rfl) (by decide) (rfl) dX2_allDirt_11 ?_
    refine A_icmp_ge_f (tgt := 30) dX2_allDirt_12 (by decide) (br_lt h1.2.2.2.2.1 hi4 (by omega)) ?_
    refine A_iload_n (i := 1) dX2_allDirt_15 rfl rfl ?_
    refine A_aload_n (i := 0) dX2_allDirt_16 rfl rfl ?_
    refine A_iload_n (i := 2) dX2_allDirt_17 rfl rfl ?_
    refine A_iconst (v := 3) dX2_allDirt_18 (by decide) ?_
    refine A_callV2E (v := some (.int (fl (m_now ms) i4 3))) (τ := mc b9 ms σ0) (c_ofFlag b9 ms σ0 i4 3 (by first | assumption | omega) (by first | assumption | omega)) tX2_ofFlag q2444 (mc_0 _ _ _) rfl rfl dX2_allDirt_19 (by decide) (Nat.le_of_eq (Nat.zero_add _)) (Nat.le_of_ble_eq_true rfl) ?_
    refine A_iadd dX2_allDirt_22 ?_
    refine A_istore_n (i := 1) dX2_allDirt_23 rfl (Nat.le_of_ble_eq_true rfl) ?_
    refine A_iinc (v := nI (i4 + 1)) dX2_allDirt_24 rfl (nI_inc _ _) (Nat.le_of_ble_eq_true rfl) ?_
    refine A_goto (tgt := 4) dX2_allDirt_27 (by decide) ?_
    refine A_sub (L' := [(0, .ref b9), (1, .int (sm (fun f => fl (m_now ms) f 3) (i4 + 1))), (2, .int (nI (i4 + 1)))]) ⟨rfl, rfl, rfl, trivial⟩ ?_
    exact ih4 trivial
  · skip
    refine A_iload_n (i := 2) dX2_allDirt_4 rfl rfl ?_
    refine A_aload_n (i := 0) dX2_allDirt_5 rfl rfl ?_
    refine M_get 1 (v := .ref (b9 + 1)) (Nat.le_of_ble_eq_true rfl) q2230 rfl dX2_allDirt_6 ?_
    refine A_bipush (v := 10) dX2_allDirt_9 (by decide) ?_
    refine M_ald1 (n := 10) (v := m_now ms 10) (rfl) (by decide) (rfl) dX2_allDirt_11 ?_
    refine A_icmp_ge_t (tgt := 30) dX2_allDirt_12 (by decide) (br_ge h1.2.2.2.2.1) ?_
    refine A_iload_n (i := 1) dX2_allDirt_30 rfl rfl ?_
    exact A_iret dX2_allDirt_31 rfl ⟨rfl, rfl⟩
theorem c_canJoin {l : Launch} {g : GC} (b9 : Nat) (ms : MM) (σ0 : AH) (f : Nat) (k : Int32) (h : Int32) (h1 : WFc (m_now ms)) (h2 : f < 12) : AMet l g mX2_canJoin 5 0 [.ref b9, .int (nI f), .int k, .int h] (mc b9 ms σ0) (A_eq (some (.int (bi (joinP (m_now ms) (m_grp ms) f k h)))) (mc b9 ms σ0)) A_no := by
  refine A_of rfl (by decide) (Nat.le_of_ble_eq_true rfl) (L0 := [(0, .ref b9), (1, .int (nI f)), (2, .int k), (3, .int h)]) rfl ?_
  refine A_iconst (v := 0) dX2_canJoin_0 (by decide) ?_
  refine A_istore dX2_canJoin_1 (Nat.le_of_ble_eq_true rfl) ?_
  refine A_sub (L' := [(0, .ref b9), (1, .int (nI f)), (2, .int k), (3, .int h), (4, .int (nI 0))]) ⟨rfl, rfl, rfl, rfl, rfl, trivial⟩ ?_
  refine A_for f (fun i3 => 0) (fun i3 => [(0, .ref b9), (1, .int (nI f)), (2, .int k), (3, .int h), (4, .int (nI i3))]) (fun i3 => mc b9 ms σ0) (fun i3 => ∀ j, j < i3 → ¬ (m_grp ms j = k ∧ ¬ mixN (m_now ms) j f h = 0)) (fun j hj => absurd hj (Nat.not_lt_zero j)) (fun i3 hi3 hI3 ih3 => ?_) (fun hI3 => ?_)
  · skip
    refine A_iload dX2_canJoin_3 rfl ?_
    refine A_iload_n (i := 1) dX2_canJoin_5 rfl rfl ?_
    refine A_icmp_ge_f (tgt := 39) dX2_canJoin_6 (by decide) (br_lt rfl hi3 (by omega)) ?_
    refine A_aload_n (i := 0) dX2_canJoin_9 rfl rfl ?_
    refine M_get 17 (v := .ref (b9 + 7)) (Nat.le_of_ble_eq_true rfl) q2246 rfl dX2_canJoin_10 ?_
    refine A_iload dX2_canJoin_13 rfl ?_
    refine M_ald7 (n := i3) (v := m_grp ms i3) (rfl) (by omega) (rfl) dX2_canJoin_15 ?_
    refine A_iload_n (i := 2) dX2_canJoin_16 rfl rfl ?_
    refine A_icmp_ne (tgt := 33) dX2_canJoin_17 (by decide) (fun c1 => ?_) (fun c1 => ?_)
    · skip
      refine A_iinc (v := nI (i3 + 1)) dX2_canJoin_33 rfl (nI_inc _ _) (Nat.le_of_ble_eq_true rfl) ?_
      refine A_goto (tgt := 3) dX2_canJoin_36 (by decide) ?_
      refine A_sub (L' := [(0, .ref b9), (1, .int (nI f)), (2, .int k), (3, .int h), (4, .int (nI (i3 + 1)))]) ⟨rfl, rfl, rfl, rfl, rfl, trivial⟩ ?_
      exact ih3 (fun j hj => (Nat.lt_or_ge j i3).elim (fun q => hI3 j q) (fun q => by rw [show j = i3 by omega]; simp [c1]))
    · skip
      refine A_aload_n (i := 0) dX2_canJoin_20 rfl rfl ?_
      refine A_iload dX2_canJoin_21 rfl ?_
      refine A_iload_n (i := 1) dX2_canJoin_23 rfl rfl ?_
      refine A_iload_n (i := 3) dX2_canJoin_24 rfl rfl ?_
      refine A_callV3E (v := some (.int (mixN (m_now ms) i3 f h))) (τ := mc b9 ms σ0) (c_mixes b9 ms σ0 i3 f h (by first | assumption | omega) (by first | assumption | omega) (by first | assumption | omega)) tX2_mixes q2769 (mc_0 _ _ _) rfl rfl dX2_canJoin_25 (by decide) (Nat.le_of_eq (Nat.zero_add _)) (Nat.le_of_ble_eq_true rfl) ?_
      refine A_if_eq (tgt := 33) dX2_canJoin_28 (by decide) (fun c2 => ?_) (fun c2 => ?_)
      · skip
        refine A_iinc (v := nI (i3 + 1)) dX2_canJoin_33 rfl (nI_inc _ _) (Nat.le_of_ble_eq_true rfl) ?_
        refine A_goto (tgt := 3) dX2_canJoin_36 (by decide) ?_
        refine A_sub (L' := [(0, .ref b9), (1, .int (nI f)), (2, .int k), (3, .int h), (4, .int (nI (i3 + 1)))]) ⟨rfl, rfl, rfl, rfl, rfl, trivial⟩ ?_
        exact ih3 (fun j hj => (Nat.lt_or_ge j i3).elim (fun q => hI3 j q) (fun q => by rw [show j = i3 by omega]; simp [c1, c2]))
      · skip
        refine A_iconst (v := 0) dX2_canJoin_31 (by decide) ?_
        exact A_zret dX2_canJoin_32 rfl (rfl) ⟨by rw [bi_f (fun hj => hj i3 hi3 ⟨c1, c2⟩)], rfl⟩
  · skip
    refine A_iload dX2_canJoin_3 rfl ?_
    refine A_iload_n (i := 1) dX2_canJoin_5 rfl rfl ?_
    refine A_icmp_ge_t (tgt := 39) dX2_canJoin_6 (by decide) (br_ge rfl) ?_
    refine A_iconst (v := 1) dX2_canJoin_39 (by decide) ?_
    exact A_zret dX2_canJoin_40 rfl (rfl) ⟨by rw [bi_t hI3], rfl⟩
