/-! THE MODEL 1: numbers of a world N (what the model's array now holds), small methods -/
def fl (N : AF) (f k : Nat) : Int32 := N (41 + 11 * f + k)
def na (N : AF) (n k : Nat) : Int32 := N (18 + 5 * n + k)
def nC (N : AF) : Nat := (N 6).toNatClampNeg
def nN (N : AF) : Nat := (N 7).toNatClampNeg
def nT (N : AF) : Nat := (N 8).toNatClampNeg
def nP (N : AF) : Nat := (N 9).toNatClampNeg
def nF (N : AF) : Nat := (N 10).toNatClampNeg
/-- the counts are counts -/
def WFc (N : AF) : Prop := (N 6 = nI (nC N) ∧ nC N ≤ 6) ∧ (N 7 = nI (nN N) ∧ nN N ≤ 4) ∧ (N 8 = nI (nT N) ∧ nT N ≤ 3) ∧ (N 9 = nI (nP N) ∧ nP N ≤ 8) ∧ (N 10 = nI (nF N) ∧ nF N ≤ 12)
def cnt (p : Nat → Prop) [DecidablePred p] : Nat → Int32
  | 0 => 0
  | n + 1 => cnt p n + bi (p n)
abbrev inR (v lo hi : Int32) : Prop := ¬ v < lo ∧ ¬ hi < v
abbrev hasB (s k : Int32) : Prop := (s >>> (k &&& 31)) &&& 1 = 1
def oneI (x : Int32) : Int32 := if x = 0 then 0 else 1
theorem oneI_bi (p : Prop) [Decidable p] : oneI (bi p) = bi p := by
  unfold oneI bi
  split <;> simp_all
def mayT (x y z : Int32) : Int32 := if x = 0 then 1 else if y = 0 then 2 else if z = 0 then 3 else 0
abbrev inBasket (N : AF) (f : Nat) : Prop := fl N f 8 = 0
abbrev inTub (N : AF) (f : Nat) (t : Int32) : Prop := fl N f 8 = 1 ∧ fl N f 9 = t
def setFl (N : AF) (f k : Nat) (v : Int32) : AF := va_up N (41 + 11 * f + k) v
def setNa (N : AF) (n k : Nat) (v : Int32) : AF := va_up N (18 + 5 * n + k) v
def goTo (N : AF) (f : Nat) (w a : Int32) : AF := setFl (setFl N f 8 w) f 9 a
theorem ix_fl (f k : Nat) : (41 : Int32) + (11 : Int32) * nI f + nI k = nI (41 + 11 * f + k) := by
  rw [show (41 : Int32) = nI 41 from rfl, show (11 : Int32) = nI 11 from rfl, pk_mul, nI_add, nI_add]
theorem ix_na (n k : Nat) : (18 : Int32) + (5 : Int32) * nI n + nI k = nI (18 + 5 * n + k) := by
  rw [show (18 : Int32) = nI 18 from rfl, show (5 : Int32) = nI 5 from rfl, pk_mul, nI_add, nI_add]
theorem thr_of (p : Prop) [Decidable p] : True := trivial
theorem c_thrown {l : Launch} {g : GC} (b9 : Nat) (ms : MM) (σ0 : AH)   : AMet l g mX2_thrown 1 0 [.ref b9] (mc b9 ms σ0) (A_eq (some (.int (m_thr ms))) (mc b9 ms σ0)) A_no := by
  refine A_of rfl (by decide) (Nat.le_of_ble_eq_true rfl) (L0 := [(0, .ref b9)]) rfl ?_
  refine A_aload_n (i := 0) dX2_thrown_0 rfl rfl ?_
  refine M_get 0 (v := .int (m_thr ms)) (Nat.le_of_ble_eq_true rfl) q2229 rfl dX2_thrown_1 ?_
  exact A_iret dX2_thrown_4 rfl ⟨rfl, rfl⟩
theorem c_in {l : Launch} {g : GC} (b9 : Nat) (ms : MM) (σ0 : AH) (v : Int32) (lo : Int32) (hi : Int32)  : AMet l g mX2_in 1 0 [.int v, .int lo, .int hi] (mc b9 ms σ0) (A_eq (some (.int (bi (inR v lo hi)))) (mc b9 ms σ0)) A_no := by
  refine A_of rfl (by decide) (Nat.le_of_ble_eq_true rfl) (L0 := [(0, .int v), (1, .int lo), (2, .int hi)]) rfl ?_
  refine A_iload_n (i := 1) dX2_in_0 rfl rfl ?_
  refine A_iload_n (i := 0) dX2_in_1 rfl rfl ?_
  refine A_icmp_gt (tgt := 14) dX2_in_2 (by decide) (fun c1 => ?_) (fun c1 => ?_)
  · skip
    refine A_iconst (v := 0) dX2_in_14 (by decide) ?_
    exact A_zret dX2_in_15 rfl (rfl) ⟨by simp [-Int32.not_lt, -Int32.not_le, bi, inR, c1], rfl⟩
  · skip
    refine A_iload_n (i := 0) dX2_in_5 rfl rfl ?_
    refine A_iload_n (i := 2) dX2_in_6 rfl rfl ?_
    refine A_icmp_gt (tgt := 14) dX2_in_7 (by decide) (fun c2 => ?_) (fun c2 => ?_)
    · skip
      refine A_iconst (v := 0) dX2_in_14 (by decide) ?_
      exact A_zret dX2_in_15 rfl (rfl) ⟨by simp [-Int32.not_lt, -Int32.not_le, bi, inR, c1, c2], rfl⟩
    · skip
      refine A_iconst (v := 1) dX2_in_10 (by decide) ?_
      refine A_goto (tgt := 15) dX2_in_11 (by decide) ?_
      exact A_zret dX2_in_15 rfl (rfl) ⟨by simp [-Int32.not_lt, -Int32.not_le, bi, inR, c1, c2], rfl⟩
theorem c_one {l : Launch} {g : GC} (b9 : Nat) (ms : MM) (σ0 : AH) (x : Int32)  : AMet l g mX2_one 1 0 [.int x] (mc b9 ms σ0) (A_eq (some (.int (oneI x))) (mc b9 ms σ0)) A_no := by
  refine A_of rfl (by decide) (Nat.le_of_ble_eq_true rfl) (L0 := [(0, .int x)]) rfl ?_
  refine A_iload_n (i := 0) dX2_one_0 rfl rfl ?_
  refine A_if_eq (tgt := 8) dX2_one_1 (by decide) (fun c1 => ?_) (fun c1 => ?_)
  · skip
    refine A_iconst (v := 0) dX2_one_8 (by decide) ?_
    exact A_iret dX2_one_9 rfl ⟨by simp [-Int32.not_lt, -Int32.not_le, oneI, c1], rfl⟩
  · skip
    refine A_iconst (v := 1) dX2_one_4 (by decide) ?_
    refine A_goto (tgt := 9) dX2_one_5 (by decide) ?_
    exact A_iret dX2_one_9 rfl ⟨by simp [-Int32.not_lt, -Int32.not_le, oneI, c1], rfl⟩
theorem c_has {l : Launch} {g : GC} (b9 : Nat) (ms : MM) (σ0 : AH) (s : Int32) (k : Int32)  : AMet l g mX2_has 1 0 [.int s, .int k] (mc b9 ms σ0) (A_eq (some (.int (bi (hasB s k)))) (mc b9 ms σ0)) A_no := by
  refine A_of rfl (by decide) (Nat.le_of_ble_eq_true rfl) (L0 := [(0, .int s), (1, .int k)]) rfl ?_
  refine A_iload_n (i := 0) dX2_has_0 rfl rfl ?_
  refine A_iload_n (i := 1) dX2_has_1 rfl rfl ?_
  refine A_ishr dX2_has_2 ?_
  refine A_iconst (v := 1) dX2_has_3 (by decide) ?_
  refine A_iand dX2_has_4 ?_
  refine A_iconst (v := 1) dX2_has_5 (by decide) ?_
  refine A_icmp_ne (tgt := 13) dX2_has_6 (by decide) (fun c1 => ?_) (fun c1 => ?_)
  · skip
    refine A_iconst (v := 0) dX2_has_13 (by decide) ?_
    exact A_zret dX2_has_14 rfl (rfl) ⟨by simp [-Int32.not_lt, -Int32.not_le, bi, hasB, c1], rfl⟩
  · skip
    refine A_iconst (v := 1) dX2_has_9 (by decide) ?_
    refine A_goto (tgt := 14) dX2_has_10 (by decide) ?_
    exact A_zret dX2_has_14 rfl (rfl) ⟨by simp [-Int32.not_lt, -Int32.not_le, bi, hasB, c1], rfl⟩
theorem c_may {l : Launch} {g : GC} (b9 : Nat) (ms : MM) (σ0 : AH) (x : Int32) (y : Int32) (z : Int32)  : AMet l g mX2_may 1 0 [.ref b9, .int x, .int y, .int z] (mc b9 ms σ0) (A_eq (some (.int (bi (mayT x y z = 0)))) (mc b9 (⟨mayT x y z, m_is ms, m_um ms, m_bd ms, m_pc ms, m_pa ms, m_sz ms, m_cu ms, m_st ms, m_tk ms, m_to ms, m_ps ms, m_now ms, m_asd ms, m_und ms, m_sav ms, m_isv ms, m_buf ms, m_grp ms, m_pag ms⟩ : MM) σ0)) A_no := by
  refine A_of rfl (by decide) (Nat.le_of_ble_eq_true rfl) (L0 := [(0, .ref b9), (1, .int x), (2, .int y), (3, .int z)]) rfl ?_
  refine A_aload_n (i := 0) dX2_may_0 rfl rfl ?_
  refine A_iload_n (i := 1) dX2_may_1 rfl rfl ?_
  refine A_if_ne (tgt := 9) dX2_may_2 (by decide) (fun c1 => ?_) (fun c1 => ?_)
  · skip
    refine A_iload_n (i := 2) dX2_may_9 rfl rfl ?_
    refine A_if_ne (tgt := 17) dX2_may_10 (by decide) (fun c2 => ?_) (fun c2 => ?_)
    · skip
      refine A_iload_n (i := 3) dX2_may_17 rfl rfl ?_
      refine A_if_eq (tgt := 25) dX2_may_18 (by decide) (fun c3 => ?_) (fun c3 => ?_)
      · skip
        refine A_iconst (v := 3) dX2_may_25 (by decide) ?_
        refine M_put 0 (ms' := (⟨3, m_is ms, m_um ms, m_bd ms, m_pc ms, m_pa ms, m_sz ms, m_cu ms, m_st ms, m_tk ms, m_to ms, m_ps ms, m_now ms, m_asd ms, m_und ms, m_sav ms, m_isv ms, m_buf ms, m_grp ms, m_pag ms⟩ : MM)) (Nat.le_of_ble_eq_true rfl) q2229 rfl rfl rfl rfl rfl dX2_may_26 ?_
        refine A_aload_n (i := 0) dX2_may_29 rfl rfl ?_
        refine M_get 0 (v := .int 3) (Nat.le_of_ble_eq_true rfl) q2229 rfl dX2_may_30 ?_
        refine A_if_ne_t (tgt := 40) dX2_may_33 (by decide) (by decide) ?_
        refine A_iconst (v := 0) dX2_may_40 (by decide) ?_
        exact A_zret dX2_may_41 rfl (rfl) ⟨by simp [bi, mayT, c1, c2, c3], by simp [mayT, c1, c2, c3] <;> rfl⟩
      · skip
        refine A_iconst (v := 0) dX2_may_21 (by decide) ?_
        refine A_goto (tgt := 26) dX2_may_22 (by decide) ?_
        refine M_put 0 (ms' := (⟨0, m_is ms, m_um ms, m_bd ms, m_pc ms, m_pa ms, m_sz ms, m_cu ms, m_st ms, m_tk ms, m_to ms, m_ps ms, m_now ms, m_asd ms, m_und ms, m_sav ms, m_isv ms, m_buf ms, m_grp ms, m_pag ms⟩ : MM)) (Nat.le_of_ble_eq_true rfl) q2229 rfl rfl rfl rfl rfl dX2_may_26 ?_
        refine A_aload_n (i := 0) dX2_may_29 rfl rfl ?_
        refine M_get 0 (v := .int 0) (Nat.le_of_ble_eq_true rfl) q2229 rfl dX2_may_30 ?_
        refine A_if_ne_f (tgt := 40) dX2_may_33 (by decide) (by decide) ?_
        refine A_iconst (v := 1) dX2_may_36 (by decide) ?_
        refine A_goto (tgt := 41) dX2_may_37 (by decide) ?_
        exact A_zret dX2_may_41 rfl (rfl) ⟨by simp [bi, mayT, c1, c2, c3], by simp [mayT, c1, c2, c3] <;> rfl⟩
    · skip
      refine A_iconst (v := 2) dX2_may_13 (by decide) ?_
      refine A_goto (tgt := 26) dX2_may_14 (by decide) ?_
      refine M_put 0 (ms' := (⟨2, m_is ms, m_um ms, m_bd ms, m_pc ms, m_pa ms, m_sz ms, m_cu ms, m_st ms, m_tk ms, m_to ms, m_ps ms, m_now ms, m_asd ms, m_und ms, m_sav ms, m_isv ms, m_buf ms, m_grp ms, m_pag ms⟩ : MM)) (Nat.le_of_ble_eq_true rfl) q2229 rfl rfl rfl rfl rfl dX2_may_26 ?_
      refine A_aload_n (i := 0) dX2_may_29 rfl rfl ?_
      refine M_get 0 (v := .int 2) (Nat.le_of_ble_eq_true rfl) q2229 rfl dX2_may_30 ?_
      refine A_if_ne_t (tgt := 40) dX2_may_33 (by decide) (by decide) ?_
      refine A_iconst (v := 0) dX2_may_40 (by decide) ?_
      exact A_zret dX2_may_41 rfl (rfl) ⟨by simp [bi, mayT, c1, c2], by simp [mayT, c1, c2] <;> rfl⟩
  · skip
    refine A_iconst (v := 1) dX2_may_5 (by decide) ?_
    refine A_goto (tgt := 26) dX2_may_6 (by decide) ?_
    refine M_put 0 (ms' := (⟨1, m_is ms, m_um ms, m_bd ms, m_pc ms, m_pa ms, m_sz ms, m_cu ms, m_st ms, m_tk ms, m_to ms, m_ps ms, m_now ms, m_asd ms, m_und ms, m_sav ms, m_isv ms, m_buf ms, m_grp ms, m_pag ms⟩ : MM)) (Nat.le_of_ble_eq_true rfl) q2229 rfl rfl rfl rfl rfl dX2_may_26 ?_
    refine A_aload_n (i := 0) dX2_may_29 rfl rfl ?_
    refine M_get 0 (v := .int 1) (Nat.le_of_ble_eq_true rfl) q2229 rfl dX2_may_30 ?_
    refine A_if_ne_t (tgt := 40) dX2_may_33 (by decide) (by decide) ?_
    refine A_iconst (v := 0) dX2_may_40 (by decide) ?_
    exact A_zret dX2_may_41 rfl (rfl) ⟨by simp [bi, mayT, c1], by simp [mayT, c1] <;> rfl⟩
theorem c_mayTwo {l : Launch} {g : GC} (b9 : Nat) (ms : MM) (σ0 : AH) (x : Int32) (y : Int32)  : AMet l g mX2_mayTwo 2 0 [.ref b9, .int x, .int y] (mc b9 ms σ0) (A_eq (some (.int (bi (mayT x y 1 = 0)))) (mc b9 (⟨mayT x y 1, m_is ms, m_um ms, m_bd ms, m_pc ms, m_pa ms, m_sz ms, m_cu ms, m_st ms, m_tk ms, m_to ms, m_ps ms, m_now ms, m_asd ms, m_und ms, m_sav ms, m_isv ms, m_buf ms, m_grp ms, m_pag ms⟩ : MM) σ0)) A_no := by
  refine A_of rfl (by decide) (Nat.le_of_ble_eq_true rfl) (L0 := [(0, .ref b9), (1, .int x), (2, .int y)]) rfl ?_
  refine A_aload_n (i := 0) dX2_mayTwo_0 rfl rfl ?_
  refine A_iload_n (i := 1) dX2_mayTwo_1 rfl rfl ?_
  refine A_iload_n (i := 2) dX2_mayTwo_2 rfl rfl ?_
  refine A_iconst (v := 1) dX2_mayTwo_3 (by decide) ?_
  refine A_callV3E (v := some (.int (bi (mayT x y 1 = 0)))) (τ := mc b9 (⟨mayT x y 1, m_is ms, m_um ms, m_bd ms, m_pc ms, m_pa ms, m_sz ms, m_cu ms, m_st ms, m_tk ms, m_to ms, m_ps ms, m_now ms, m_asd ms, m_und ms, m_sav ms, m_isv ms, m_buf ms, m_grp ms, m_pag ms⟩ : MM) σ0) (c_may b9 ms σ0 x y 1) tX2_may q2322 (mc_0 _ _ _) rfl rfl dX2_mayTwo_4 (by decide) (Nat.le_of_eq (Nat.zero_add _)) (Nat.le_of_ble_eq_true rfl) ?_
  exact A_zret dX2_mayTwo_7 rfl (nar_bi _) ⟨rfl, rfl⟩
theorem c_mayLook {l : Launch} {g : GC} (b9 : Nat) (ms : MM) (σ0 : AH)   : AMet l g mX2_mayLook 2 0 [.ref b9] (mc b9 ms σ0) (A_eq (some (.int (bi (mayT (m_is ms) 1 1 = 0)))) (mc b9 (⟨mayT (m_is ms) 1 1, m_is ms, m_um ms, m_bd ms, m_pc ms, m_pa ms, m_sz ms, m_cu ms, m_st ms, m_tk ms, m_to ms, m_ps ms, m_now ms, m_asd ms, m_und ms, m_sav ms, m_isv ms, m_buf ms, m_grp ms, m_pag ms⟩ : MM) σ0)) A_no := by
  refine A_of rfl (by decide) (Nat.le_of_ble_eq_true rfl) (L0 := [(0, .ref b9)]) rfl ?_
  refine A_aload_n (i := 0) dX2_mayLook_0 rfl rfl ?_
  refine A_aload_n (i := 0) dX2_mayLook_1 rfl rfl ?_
  refine M_get 6 (v := .int (m_is ms)) (Nat.le_of_ble_eq_true rfl) q2235 rfl dX2_mayLook_2 ?_
  refine A_iconst (v := 1) dX2_mayLook_5 (by decide) ?_
  refine A_iconst (v := 1) dX2_mayLook_6 (by decide) ?_
  refine A_callV3E (v := some (.int (bi (mayT (m_is ms) 1 1 = 0)))) (τ := mc b9 (⟨mayT (m_is ms) 1 1, m_is ms, m_um ms, m_bd ms, m_pc ms, m_pa ms, m_sz ms, m_cu ms, m_st ms, m_tk ms, m_to ms, m_ps ms, m_now ms, m_asd ms, m_und ms, m_sav ms, m_isv ms, m_buf ms, m_grp ms, m_pag ms⟩ : MM) σ0) (c_may b9 ms σ0 (m_is ms) 1 1) tX2_may q2322 (mc_0 _ _ _) rfl rfl dX2_mayLook_7 (by decide) (Nat.le_of_eq (Nat.zero_add _)) (Nat.le_of_ble_eq_true rfl) ?_
  exact A_zret dX2_mayLook_10 rfl (nar_bi _) ⟨rfl, rfl⟩
theorem c_ofFlag {l : Launch} {g : GC} (b9 : Nat) (ms : MM) (σ0 : AH) (f : Nat) (k : Nat) (h1 : f < 12) (h2 : k < 11) : AMet l g mX2_ofFlag 1 0 [.ref b9, .int (nI f), .int (nI k)] (mc b9 ms σ0) (A_eq (some (.int (fl (m_now ms) f k))) (mc b9 ms σ0)) A_no := by
  refine A_of rfl (by decide) (Nat.le_of_ble_eq_true rfl) (L0 := [(0, .ref b9), (1, .int (nI f)), (2, .int (nI k))]) rfl ?_
  refine A_aload_n (i := 0) dX2_ofFlag_0 rfl rfl ?_
  refine M_get 1 (v := .ref (b9 + 1)) (Nat.le_of_ble_eq_true rfl) q2230 rfl dX2_ofFlag_1 ?_
  refine A_bipush (v := 41) dX2_ofFlag_4 (by decide) ?_
  refine A_bipush (v := 11) dX2_ofFlag_6 (by decide) ?_
  refine A_iload_n (i := 1) dX2_ofFlag_8 rfl rfl ?_
  refine A_imul dX2_ofFlag_9 ?_
  refine A_int (w := nI (11 * f)) (pk_mul 11 f) ?_
  refine A_iadd dX2_ofFlag_10 ?_
  refine A_int (w := nI (41 + (11 * f))) (nI_add 41 (11 * f)) ?_
  refine A_iload_n (i := 2) dX2_ofFlag_11 rfl rfl ?_
  refine A_iadd dX2_ofFlag_12 ?_
  refine A_int (w := nI ((41 + (11 * f)) + k)) (nI_add (41 + (11 * f)) k) ?_
  refine M_ald1 (n := (41 + (11 * f)) + k) (v := m_now ms ((41 + (11 * f)) + k)) (rfl) (by omega) (rfl) dX2_ofFlag_13 ?_
  exact A_iret dX2_ofFlag_14 rfl ⟨rfl, rfl⟩
theorem c_ofNation {l : Launch} {g : GC} (b9 : Nat) (ms : MM) (σ0 : AH) (n : Nat) (k : Nat) (h1 : n < 4) (h2 : k < 5) : AMet l g mX2_ofNation 1 0 [.ref b9, .int (nI n), .int (nI k)] (mc b9 ms σ0) (A_eq (some (.int (na (m_now ms) n k))) (mc b9 ms σ0)) A_no := by
  refine A_of rfl (by decide) (Nat.le_of_ble_eq_true rfl) (L0 := [(0, .ref b9), (1, .int (nI n)), (2, .int (nI k))]) rfl ?_
  refine A_aload_n (i := 0) dX2_ofNation_0 rfl rfl ?_
  refine M_get 1 (v := .ref (b9 + 1)) (Nat.le_of_ble_eq_true rfl) q2230 rfl dX2_ofNation_1 ?_
  refine A_bipush (v := 18) dX2_ofNation_4 (by decide) ?_
  refine A_iconst (v := 5) dX2_ofNation_6 (by decide) ?_
  refine A_iload_n (i := 1) dX2_ofNation_7 rfl rfl ?_
  refine A_imul dX2_ofNation_8 ?_
  refine A_int (w := nI (5 * n)) (pk_mul 5 n) ?_
  refine A_iadd dX2_ofNation_9 ?_
  refine A_int (w := nI (18 + (5 * n))) (nI_add 18 (5 * n)) ?_
  refine A_iload_n (i := 2) dX2_ofNation_10 rfl rfl ?_
  refine A_iadd dX2_ofNation_11 ?_
  refine A_int (w := nI ((18 + (5 * n)) + k)) (nI_add (18 + (5 * n)) k) ?_
  refine M_ald1 (n := (18 + (5 * n)) + k) (v := m_now ms ((18 + (5 * n)) + k)) (rfl) (by omega) (rfl) dX2_ofNation_12 ?_
  exact A_iret dX2_ofNation_13 rfl ⟨rfl, rfl⟩
theorem c_putsFlag {l : Launch} {g : GC} (b9 : Nat) (ms : MM) (σ0 : AH) (f : Nat) (k : Nat) (v : Int32) (h1 : f < 12) (h2 : k < 11) : AMet l g mX2_putsFlag 1 0 [.ref b9, .int (nI f), .int (nI k), .int v] (mc b9 ms σ0) (A_eq (none) (mc b9 (⟨m_thr ms, m_is ms, m_um ms, m_bd ms, m_pc ms, m_pa ms, m_sz ms, m_cu ms, m_st ms, m_tk ms, m_to ms, m_ps ms, setFl (m_now ms) f k v, m_asd ms, m_und ms, m_sav ms, m_isv ms, m_buf ms, m_grp ms, m_pag ms⟩ : MM) σ0)) A_no := by
  refine A_of rfl (by decide) (Nat.le_of_ble_eq_true rfl) (L0 := [(0, .ref b9), (1, .int (nI f)), (2, .int (nI k)), (3, .int v)]) rfl ?_
  refine A_aload_n (i := 0) dX2_putsFlag_0 rfl rfl ?_
  refine M_get 1 (v := .ref (b9 + 1)) (Nat.le_of_ble_eq_true rfl) q2230 rfl dX2_putsFlag_1 ?_
  refine A_bipush (v := 41) dX2_putsFlag_4 (by decide) ?_
  refine A_bipush (v := 11) dX2_putsFlag_6 (by decide) ?_
  refine A_iload_n (i := 1) dX2_putsFlag_8 rfl rfl ?_
  refine A_imul dX2_putsFlag_9 ?_
  refine A_int (w := nI (11 * f)) (pk_mul 11 f) ?_
  refine A_iadd dX2_putsFlag_10 ?_
  refine A_int (w := nI (41 + (11 * f))) (nI_add 41 (11 * f)) ?_
  refine A_iload_n (i := 2) dX2_putsFlag_11 rfl rfl ?_
  refine A_iadd dX2_putsFlag_12 ?_
  refine A_int (w := nI ((41 + (11 * f)) + k)) (nI_add (41 + (11 * f)) k) ?_
  refine A_iload_n (i := 3) dX2_putsFlag_13 rfl rfl ?_
  refine M_ast1 (n := (41 + (11 * f)) + k) (na := va_up (m_now ms) ((41 + (11 * f)) + k) v) (rfl) (by omega) (rfl) dX2_putsFlag_14 ?_
  exact A_vret dX2_putsFlag_15 rfl ⟨rfl, rfl⟩
theorem c_putsNation {l : Launch} {g : GC} (b9 : Nat) (ms : MM) (σ0 : AH) (n : Nat) (k : Nat) (v : Int32) (h1 : n < 4) (h2 : k < 5) : AMet l g mX2_putsNation 1 0 [.ref b9, .int (nI n), .int (nI k), .int v] (mc b9 ms σ0) (A_eq (none) (mc b9 (⟨m_thr ms, m_is ms, m_um ms, m_bd ms, m_pc ms, m_pa ms, m_sz ms, m_cu ms, m_st ms, m_tk ms, m_to ms, m_ps ms, setNa (m_now ms) n k v, m_asd ms, m_und ms, m_sav ms, m_isv ms, m_buf ms, m_grp ms, m_pag ms⟩ : MM) σ0)) A_no := by
  refine A_of rfl (by decide) (Nat.le_of_ble_eq_true rfl) (L0 := [(0, .ref b9), (1, .int (nI n)), (2, .int (nI k)), (3, .int v)]) rfl ?_
  refine A_aload_n (i := 0) dX2_putsNation_0 rfl rfl ?_
  refine M_get 1 (v := .ref (b9 + 1)) (Nat.le_of_ble_eq_true rfl) q2230 rfl dX2_putsNation_1 ?_
  refine A_bipush (v := 18) dX2_putsNation_4 (by decide) ?_
  refine A_iconst (v := 5) dX2_putsNation_6 (by decide) ?_
  refine A_iload_n (i := 1) dX2_putsNation_7 rfl rfl ?_
  refine A_imul dX2_putsNation_8 ?_
  refine A_int (w := nI (5 * n)) (pk_mul 5 n) ?_
  refine A_iadd dX2_putsNation_9 ?_
  refine A_int (w := nI (18 + (5 * n))) (nI_add 18 (5 * n)) ?_
  refine A_iload_n (i := 2) dX2_putsNation_10 rfl rfl ?_
  refine A_iadd dX2_putsNation_11 ?_
  refine A_int (w := nI ((18 + (5 * n)) + k)) (nI_add (18 + (5 * n)) k) ?_
  refine A_iload_n (i := 3) dX2_putsNation_12 rfl rfl ?_
  refine M_ast1 (n := (18 + (5 * n)) + k) (na := va_up (m_now ms) ((18 + (5 * n)) + k) v) (rfl) (by omega) (rfl) dX2_putsNation_13 ?_
  exact A_vret dX2_putsNation_14 rfl ⟨rfl, rfl⟩
theorem c_where {l : Launch} {g : GC} (b9 : Nat) (ms : MM) (σ0 : AH) (f : Nat) (h1 : f < 12) : AMet l g mX2_where 2 0 [.ref b9, .int (nI f)] (mc b9 ms σ0) (A_eq (some (.int (fl (m_now ms) f 8))) (mc b9 ms σ0)) A_no := by
  refine A_of rfl (by decide) (Nat.le_of_ble_eq_true rfl) (L0 := [(0, .ref b9), (1, .int (nI f))]) rfl ?_
  refine A_aload_n (i := 0) dX2_where_0 rfl rfl ?_
  refine A_iload_n (i := 1) dX2_where_1 rfl rfl ?_
  refine A_bipush (v := 8) dX2_where_2 (by decide) ?_
  refine A_callV2E (v := some (.int (fl (m_now ms) f 8))) (τ := mc b9 ms σ0) (c_ofFlag b9 ms σ0 f 8 (by first | assumption | omega) (by first | assumption | omega)) tX2_ofFlag q2444 (mc_0 _ _ _) rfl rfl dX2_where_4 (by decide) (Nat.le_of_eq (Nat.zero_add _)) (Nat.le_of_ble_eq_true rfl) ?_
  exact A_iret dX2_where_7 rfl ⟨rfl, rfl⟩
theorem c_isInBasket {l : Launch} {g : GC} (b9 : Nat) (ms : MM) (σ0 : AH) (f : Nat) (h1 : f < 12) : AMet l g mX2_isInBasket 3 0 [.ref b9, .int (nI f)] (mc b9 ms σ0) (A_eq (some (.int (bi (inBasket (m_now ms) f)))) (mc b9 ms σ0)) A_no := by
  refine A_of rfl (by decide) (Nat.le_of_ble_eq_true rfl) (L0 := [(0, .ref b9), (1, .int (nI f))]) rfl ?_
  refine A_aload_n (i := 0) dX2_isInBasket_0 rfl rfl ?_
  refine A_iload_n (i := 1) dX2_isInBasket_1 rfl rfl ?_
  refine A_callV1E (v := some (.int (fl (m_now ms) f 8))) (τ := mc b9 ms σ0) (c_where b9 ms σ0 f (by first | assumption | omega)) tX2_where q2440 (mc_0 _ _ _) rfl rfl dX2_isInBasket_2 (by decide) (Nat.le_of_eq (Nat.zero_add _)) (Nat.le_of_ble_eq_true rfl) ?_
  refine A_if_ne (tgt := 12) dX2_isInBasket_5 (by decide) (fun c1 => ?_) (fun c1 => ?_)
  · skip
    refine A_iconst (v := 0) dX2_isInBasket_12 (by decide) ?_
    exact A_zret dX2_isInBasket_13 rfl (rfl) ⟨by simp [-Int32.not_lt, -Int32.not_le, bi, inBasket, c1], rfl⟩
  · skip
    refine A_iconst (v := 1) dX2_isInBasket_8 (by decide) ?_
    refine A_goto (tgt := 13) dX2_isInBasket_9 (by decide) ?_
    exact A_zret dX2_isInBasket_13 rfl (rfl) ⟨by simp [-Int32.not_lt, -Int32.not_le, bi, inBasket, c1], rfl⟩
theorem c_isInTub {l : Launch} {g : GC} (b9 : Nat) (ms : MM) (σ0 : AH) (f : Nat) (t : Int32) (h1 : f < 12) : AMet l g mX2_isInTub 3 0 [.ref b9, .int (nI f), .int t] (mc b9 ms σ0) (A_eq (some (.int (bi (inTub (m_now ms) f t)))) (mc b9 ms σ0)) A_no := by
  refine A_of rfl (by decide) (Nat.le_of_ble_eq_true rfl) (L0 := [(0, .ref b9), (1, .int (nI f)), (2, .int t)]) rfl ?_
  refine A_aload_n (i := 0) dX2_isInTub_0 rfl rfl ?_
  refine A_iload_n (i := 1) dX2_isInTub_1 rfl rfl ?_
  refine A_callV1E (v := some (.int (fl (m_now ms) f 8))) (τ := mc b9 ms σ0) (c_where b9 ms σ0 f (by first | assumption | omega)) tX2_where q2440 (mc_0 _ _ _) rfl rfl dX2_isInTub_2 (by decide) (Nat.le_of_eq (Nat.zero_add _)) (Nat.le_of_ble_eq_true rfl) ?_
  refine A_iconst (v := 1) dX2_isInTub_5 (by decide) ?_
  refine A_icmp_ne (tgt := 24) dX2_isInTub_6 (by decide) (fun c1 => ?_) (fun c1 => ?_)
  · skip
    refine A_iconst (v := 0) dX2_isInTub_24 (by decide) ?_
    exact A_zret dX2_isInTub_25 rfl (rfl) ⟨by simp [-Int32.not_lt, -Int32.not_le, bi, inTub, c1], rfl⟩
  · skip
    refine A_aload_n (i := 0) dX2_isInTub_9 rfl rfl ?_
    refine A_iload_n (i := 1) dX2_isInTub_10 rfl rfl ?_
    refine A_bipush (v := 9) dX2_isInTub_11 (by decide) ?_
    refine A_callV2E (v := some (.int (fl (m_now ms) f 9))) (τ := mc b9 ms σ0) (c_ofFlag b9 ms σ0 f 9 (by first | assumption | omega) (by first | assumption | omega)) tX2_ofFlag q2444 (mc_0 _ _ _) rfl rfl dX2_isInTub_13 (by decide) (Nat.le_of_eq (Nat.zero_add _)) (Nat.le_of_ble_eq_true rfl) ?_
    refine A_iload_n (i := 2) dX2_isInTub_16 rfl rfl ?_
    refine A_icmp_ne (tgt := 24) dX2_isInTub_17 (by decide) (fun c2 => ?_) (fun c2 => ?_)
    · skip
      refine A_iconst (v := 0) dX2_isInTub_24 (by decide) ?_
      exact A_zret dX2_isInTub_25 rfl (rfl) ⟨by simp [-Int32.not_lt, -Int32.not_le, bi, inTub, c1, c2], rfl⟩
    · skip
      refine A_iconst (v := 1) dX2_isInTub_20 (by decide) ?_
      refine A_goto (tgt := 25) dX2_isInTub_21 (by decide) ?_
      exact A_zret dX2_isInTub_25 rfl (rfl) ⟨by simp [-Int32.not_lt, -Int32.not_le, bi, inTub, c1, c2], rfl⟩
theorem c_goesTo {l : Launch} {g : GC} (b9 : Nat) (ms : MM) (σ0 : AH) (f : Nat) (w : Int32) (a : Int32) (h1 : f < 12) : AMet l g mX2_goesTo 2 0 [.ref b9, .int (nI f), .int w, .int a] (mc b9 ms σ0) (A_eq (none) (mc b9 (⟨m_thr ms, m_is ms, m_um ms, m_bd ms, m_pc ms, m_pa ms, m_sz ms, m_cu ms, m_st ms, m_tk ms, m_to ms, m_ps ms, goTo (m_now ms) f w a, m_asd ms, m_und ms, m_sav ms, m_isv ms, m_buf ms, m_grp ms, m_pag ms⟩ : MM) σ0)) A_no := by
  refine A_of rfl (by decide) (Nat.le_of_ble_eq_true rfl) (L0 := [(0, .ref b9), (1, .int (nI f)), (2, .int w), (3, .int a)]) rfl ?_
  refine A_aload_n (i := 0) dX2_goesTo_0 rfl rfl ?_
  refine A_iload_n (i := 1) dX2_goesTo_1 rfl rfl ?_
  refine A_bipush (v := 8) dX2_goesTo_2 (by decide) ?_
  refine A_iload_n (i := 2) dX2_goesTo_4 rfl rfl ?_
  refine A_callV3E (v := none) (τ := mc b9 (⟨m_thr ms, m_is ms, m_um ms, m_bd ms, m_pc ms, m_pa ms, m_sz ms, m_cu ms, m_st ms, m_tk ms, m_to ms, m_ps ms, setFl (m_now ms) f 8 w, m_asd ms, m_und ms, m_sav ms, m_isv ms, m_buf ms, m_grp ms, m_pag ms⟩ : MM) σ0) (c_putsFlag b9 ms σ0 f 8 w (by first | assumption | omega) (by first | assumption | omega)) tX2_putsFlag q2415 (mc_0 _ _ _) rfl rfl dX2_goesTo_5 (by decide) (Nat.le_of_eq (Nat.zero_add _)) (Nat.le_of_ble_eq_true rfl) ?_
  refine A_aload_n (i := 0) dX2_goesTo_8 rfl rfl ?_
  refine A_iload_n (i := 1) dX2_goesTo_9 rfl rfl ?_
  refine A_bipush (v := 9) dX2_goesTo_10 (by decide) ?_
  refine A_iload_n (i := 3) dX2_goesTo_12 rfl rfl ?_
  refine A_callV3E (v := none) (τ := mc b9 (⟨m_thr ms, m_is ms, m_um ms, m_bd ms, m_pc ms, m_pa ms, m_sz ms, m_cu ms, m_st ms, m_tk ms, m_to ms, m_ps ms, setFl (setFl (m_now ms) f 8 w) f 9 a, m_asd ms, m_und ms, m_sav ms, m_isv ms, m_buf ms, m_grp ms, m_pag ms⟩ : MM) σ0) (c_putsFlag b9 (⟨m_thr ms, m_is ms, m_um ms, m_bd ms, m_pc ms, m_pa ms, m_sz ms, m_cu ms, m_st ms, m_tk ms, m_to ms, m_ps ms, setFl (m_now ms) f 8 w, m_asd ms, m_und ms, m_sav ms, m_isv ms, m_buf ms, m_grp ms, m_pag ms⟩ : MM) σ0 f 9 a (by first | assumption | omega) (by first | assumption | omega)) tX2_putsFlag q2415 (mc_0 _ _ _) rfl rfl dX2_goesTo_13 (by decide) (Nat.le_of_eq (Nat.zero_add _)) (Nat.le_of_ble_eq_true rfl) ?_
  exact A_vret dX2_goesTo_16 rfl ⟨rfl, rfl⟩
