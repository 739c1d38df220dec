/-! THE MODEL 5: copies, what would be -/
theorem cpy0 {f h : AF} (i j : Nat) : va_cpy f h i j 0 = h := by
  funext q
  unfold va_cpy
  exact if_neg (by omega)
theorem cpyS {f h : AF} (i j k : Nat) : va_up (va_cpy f h i j k) (j + k) (f (i + k)) = va_cpy f h i j (k + 1) := by
  funext q
  unfold va_up va_cpy
  by_cases e : q = j + k
  · subst e
    rw [if_pos rfl, if_pos (by omega), Nat.add_sub_cancel_left]
  · rw [if_neg e]
    by_cases c : j ≤ q ∧ q < j + k
    · rw [if_pos c, if_pos (by omega)]
    · rw [if_neg c, if_neg (by omega)]
theorem h_put_put (σ : AH) (c : Nat) (e e' : AE) : h_put (h_put σ c e) c e' = h_put σ c e' := by
  refine Prod.ext (funext fun q => ?_) rfl
  unfold h_put
  dsimp only
  by_cases hq : q = c <;> simp [hq]
theorem h_put_self {σ : AH} {c : Nat} {e : AE} (h : σ.1 c = some e) : h_put σ c e = σ := by
  refine Prod.ext (funext fun q => ?_) rfl
  unfold h_put
  dsimp only
  by_cases hq : q = c
  · subst hq
    rw [if_pos rfl, h]
  · rw [if_neg hq]
theorem h_put_at (σ : AH) (c : Nat) (e : AE) : (h_put σ c e).1 c = some e := by simp [h_put]
theorem h_put_ne {σ : AH} {c q : Nat} (e : AE) (h : q ≠ c) : (h_put σ c e).1 q = σ.1 q := by simp [h_put, h]
/-- lays(a, i, c, j): 173 numbers -/
theorem c_lays {l : Launch} {g : GC} (σ : AH) (a c i j n1 n2 : Nat) (f h : AF) (ha : σ.1 a = some (.inl (.int, (n1, .inl f)))) (hc : σ.1 c = some (.inl (.int, (n2, .inl h)))) (hne : a ≠ c) (h1 : i + 173 ≤ n1) (h2 : j + 173 ≤ n2) (h3 : n1 < 10000) (h4 : n2 < 10000) : AMet l g mX2_lays 1 0 [.ref a, .int (nI i), .ref c, .int (nI j)] σ (A_eq none (h_put σ c (.inl (.int, (n2, .inl (va_cpy f h i j 173)))))) A_no := by
  refine A_of rfl (by decide) (Nat.le_of_ble_eq_true rfl) (L0 := [(0, .ref a), (1, .int (nI i)), (2, .ref c), (3, .int (nI j))]) rfl ?_
  refine A_iconst (v := 0) dX2_lays_0 (by decide) ?_
  refine A_istore dX2_lays_1 (Nat.le_of_ble_eq_true rfl) ?_
  refine A_sub (L' := [(0, .ref a), (1, .int (nI i)), (2, .ref c), (3, .int (nI j)), (4, .int (nI 0))]) ⟨rfl, rfl, rfl, rfl, rfl, trivial⟩ ?_
  rw [show σ = h_put σ c (.inl (.int, (n2, .inl (va_cpy f h i j 0)))) by rw [cpy0, h_put_self hc]]
  rw [h_put_put]
  refine A_for 173 (fun k => 0) (fun k => [(0, .ref a), (1, .int (nI i)), (2, .ref c), (3, .int (nI j)), (4, .int (nI k))]) (fun k => h_put σ c (.inl (.int, (n2, .inl (va_cpy f h i j k))))) (fun k => True) trivial (fun k hk hI ih => ?_) (fun hI => ?_)
  · refine A_iload dX2_lays_3 rfl ?_
    refine A_sipush (v := 173) dX2_lays_5 (by decide) ?_
    refine A_icmp_ge_f (tgt := 29) dX2_lays_8 (by decide) (br_lt (n := 173) rfl hk (by omega)) ?_
    refine A_aload_n (i := 2) dX2_lays_11 rfl rfl ?_
    refine A_iload_n (i := 3) dX2_lays_12 rfl rfl ?_
    refine A_iload dX2_lays_13 rfl ?_
    refine A_iadd dX2_lays_15 ?_
    refine A_int (w := nI (j + k)) (nI_add j k) ?_
    refine A_aload_n (i := 0) dX2_lays_16 rfl rfl ?_
    refine A_iload_n (i := 1) dX2_lays_17 rfl rfl ?_
    refine A_iload dX2_lays_18 rfl ?_
    refine A_iadd dX2_lays_20 ?_
    refine A_int (w := nI (i + k)) (nI_add i k) ?_
    refine A_iald ((h_put_ne _ hne).trans ha) (vp_in_nI (by omega) (by omega)) dX2_lays_21 ?_
    refine A_iast (h_put_at _ _ _) (vp_in_nI (by omega) (by omega)) dX2_lays_22 ?_
    rw [nI_clamp (show i + k < 2 ^ 31 by omega), nI_clamp (show j + k < 2 ^ 31 by omega), h_put_put, cpyS]
    refine A_iinc (v := nI (k + 1)) dX2_lays_23 rfl (nI_inc _ _) (Nat.le_of_ble_eq_true rfl) ?_
    refine A_goto (tgt := 3) dX2_lays_26 (by decide) ?_
    refine A_sub (L' := [(0, .ref a), (1, .int (nI i)), (2, .ref c), (3, .int (nI j)), (4, .int (nI (k + 1)))]) ⟨rfl, rfl, rfl, rfl, rfl, trivial⟩ ?_
    exact ih trivial
  · refine A_iload dX2_lays_3 rfl ?_
    refine A_sipush (v := 173) dX2_lays_5 (by decide) ?_
    refine A_icmp_ge_t (tgt := 29) dX2_lays_8 (by decide) (br_ge (n := 173) rfl) ?_
    exact A_vret dX2_lays_29 rfl ⟨rfl, rfl⟩
/-- a heap that describes the same cells -/
theorem A_eqv {l : Launch} {g : GC} {mi : MI} {d b : Nat} {Q : Option Value → AH → Prop} {X : String → Nat → AH → Prop} {pc : Nat} {L : List (Nat × Value)} {st : List Value} {σ σ' : AH} (h : ∀ H, g_P g σ H → g_P g σ' H) (kk : AW l g mi d b Q X pc L st σ') : AW l g mi d b Q X pc L st σ :=
  fun p e R s m args below meth c H locs cells slots ls C hP hL hl => kk p e R s m args below meth c H locs cells slots ls C (h H hP) hL hl
theorem arr_eqv {g : GC} {σ : AH} {a n : Nat} {ty : FieldType} {f f' : AF} (h : σ.1 a = some (.inl (ty, (n, .inl f)))) (e : ∀ j, j < n → f j = f' j) : ∀ H, g_P g σ H → g_P g (h_put σ a (.inl (ty, (n, .inl f')))) H := by
  intro H hP
  refine hP.put h rfl (fun _ _ => rfl) ?_
  have h9 := (hP.2.2.1 a _ h).2.2
  show H[a]? = some (vp_cell _ (n, .inl f'))
  rw [show H[a]? = some (vp_cell _ (n, .inl f)) from h9]
  congr 1
  rw [vp_cell_i, vp_cell_i]
  unfold arrV
  congr 1
  apply Array.ext
  · simp
  · intro i h1 h2
    simp at h1
    simp [e i h1]
/-- one world out of a row of worlds -/
def wld (A : AF) (k : Nat) : AF := fun i => A (k * 173 + i)
def setWld (A N : AF) (k : Nat) : AF := fun q => if k * 173 ≤ q ∧ q < k * 173 + 173 then N (q - k * 173) else A q
theorem wld_same (A N : AF) (k : Nat) : ∀ j, j < 173 → wld (setWld A N k) k j = N j := fun j h => by
  unfold wld setWld
  rw [if_pos (by omega), Nat.add_sub_cancel_left]
theorem wld_ne (A N : AF) {k i : Nat} (h : i ≠ k) : ∀ j, j < 173 → wld (setWld A N k) i j = wld A i j := fun j hj => by
  unfold wld setWld
  rw [if_neg]
  omega
theorem c_thinks {l : Launch} {g : GC} (b9 : Nat) (ms : MM) (σ0 : AH)   : AMet l g mX2_thinks 2 0 [.ref b9] (mc b9 ms σ0) (A_eq (none) (mc b9 (⟨m_thr ms, m_is ms, m_um ms, m_bd ms, m_pc ms, m_pa ms, m_sz ms, m_cu ms, m_st ms, m_tk ms, m_to ms, m_ps ms, m_now ms, (m_now ms), m_und ms, m_sav ms, m_isv ms, m_buf ms, m_grp ms, m_pag ms⟩ : MM) σ0)) A_no := by
  refine A_of rfl (by decide) (Nat.le_of_ble_eq_true rfl) (L0 := [(0, .ref b9)]) rfl ?_
  refine A_aload_n (i := 0) dX2_thinks_0 rfl rfl ?_
  refine M_get 1 (v := .ref (b9 + 1)) (Nat.le_of_ble_eq_true rfl) q2230 rfl dX2_thinks_1 ?_
  refine A_iconst (v := 0) dX2_thinks_4 (by decide) ?_
  refine A_aload_n (i := 0) dX2_thinks_5 rfl rfl ?_
  refine M_get 2 (v := .ref (b9 + 2)) (Nat.le_of_ble_eq_true rfl) q2231 rfl dX2_thinks_6 ?_
  refine A_iconst (v := 0) dX2_thinks_9 (by decide) ?_
  refine A_callS4E (v := none) (τ := h_put (mc b9 ms σ0) (b9 + 2) (.inl (.int, (173, .inl (va_cpy (m_now ms) (m_asd ms) 0 0 173))))) (c_lays _ _ _ 0 0 173 173 _ _ (mc_1 _ _ _) (mc_2 _ _ _) (by omega) (by omega) (by omega) (by omega) (by omega)) tX2_lays q2330 dX2_thinks_10 (by decide) (Nat.le_of_eq (Nat.zero_add _)) (Nat.le_of_ble_eq_true rfl) ?_
  refine A_eqv (arr_eqv (h_put_at _ _ _) (f' := (m_now ms)) (fun j hj => by unfold va_cpy; rw [if_pos (by omega)]; simp)) ?_
  rw [h_put_put, mc_put2]
  show AW _ _ _ _ _ _ _ _ _ _ (mc b9 (⟨m_thr ms, m_is ms, m_um ms, m_bd ms, m_pc ms, m_pa ms, m_sz ms, m_cu ms, m_st ms, m_tk ms, m_to ms, m_ps ms, m_now ms, (m_now ms), m_und ms, m_sav ms, m_isv ms, m_buf ms, m_grp ms, m_pag ms⟩ : MM) σ0)
  exact A_vret dX2_thinks_13 rfl ⟨rfl, rfl⟩
theorem c_back {l : Launch} {g : GC} (b9 : Nat) (ms : MM) (σ0 : AH) (r : Int32)  : AMet l g mX2_back 2 0 [.ref b9, .int r] (mc b9 ms σ0) (A_eq (some (.int r)) (mc b9 (⟨m_thr ms, m_is ms, m_um ms, m_bd ms, m_pc ms, m_pa ms, m_sz ms, m_cu ms, m_st ms, m_tk ms, m_to ms, m_ps ms, (m_asd ms), m_asd ms, m_und ms, m_sav ms, m_isv ms, m_buf ms, m_grp ms, m_pag ms⟩ : MM) σ0)) A_no := by
  refine A_of rfl (by decide) (Nat.le_of_ble_eq_true rfl) (L0 := [(0, .ref b9), (1, .int r)]) rfl ?_
  refine A_aload_n (i := 0) dX2_back_0 rfl rfl ?_
  refine M_get 2 (v := .ref (b9 + 2)) (Nat.le_of_ble_eq_true rfl) q2231 rfl dX2_back_1 ?_
  refine A_iconst (v := 0) dX2_back_4 (by decide) ?_
  refine A_aload_n (i := 0) dX2_back_5 rfl rfl ?_
  refine M_get 1 (v := .ref (b9 + 1)) (Nat.le_of_ble_eq_true rfl) q2230 rfl dX2_back_6 ?_
  refine A_iconst (v := 0) dX2_back_9 (by decide) ?_
  refine A_callS4E (v := none) (τ := h_put (mc b9 ms σ0) (b9 + 1) (.inl (.int, (173, .inl (va_cpy (m_asd ms) (m_now ms) 0 0 173))))) (c_lays _ _ _ 0 0 173 173 _ _ (mc_2 _ _ _) (mc_1 _ _ _) (by omega) (by omega) (by omega) (by omega) (by omega)) tX2_lays q2330 dX2_back_10 (by decide) (Nat.le_of_eq (Nat.zero_add _)) (Nat.le_of_ble_eq_true rfl) ?_
  refine A_eqv (arr_eqv (h_put_at _ _ _) (f' := (m_asd ms)) (fun j hj => by unfold va_cpy; rw [if_pos (by omega)]; simp)) ?_
  rw [h_put_put, mc_put1]
  show AW _ _ _ _ _ _ _ _ _ _ (mc b9 (⟨m_thr ms, m_is ms, m_um ms, m_bd ms, m_pc ms, m_pa ms, m_sz ms, m_cu ms, m_st ms, m_tk ms, m_to ms, m_ps ms, (m_asd ms), m_asd ms, m_und ms, m_sav ms, m_isv ms, m_buf ms, m_grp ms, m_pag ms⟩ : MM) σ0)
  refine A_iload_n (i := 1) dX2_back_13 rfl rfl ?_
  exact A_iret dX2_back_14 rfl ⟨rfl, rfl⟩
