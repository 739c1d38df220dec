/-! THE MODEL 8: changes -/
def gq {α : Type} (t : Int32) (a b : α) : α := if t = 0 then a else b
theorem gq_t {α : Type} {t : Int32} (h : t = 0) (a b : α) : gq t a b = a := if_pos h
theorem gq_f {α : Type} {t : Int32} (h : ¬ t = 0) (a b : α) : gq t a b = b := if_neg h
def shU (A : AF) (i : Nat) : AF := fun q => if q < i then A (q + 173) else A q
theorem shU_0 (A : AF) : shU A 0 = A := rfl
theorem shU_s (A : AF) (i : Nat) : va_up (shU A i) i (shU A i (i + 173)) = shU A (i + 1) := by
  funext q
  unfold va_up shU
  by_cases e : q = i
  · subst e
    rw [if_pos rfl, if_neg (by omega), if_pos (by omega)]
  · rw [if_neg e]
    by_cases c : q < i
    · rw [if_pos c, if_pos (by omega)]
    · rw [if_neg c, if_neg (by omega)]
def remU (A N : AF) (u : Nat) : AF := if u = 8 then setWld (shU A 1211) N 7 else setWld A N u
def remC (u : Nat) : Nat := if u = 8 then 8 else u + 1
def stN (N : AF) (f : Nat) : Int32 := sm (fun c => bi (hasB (fl N f 6) (nI c))) (nC N)
def blN (N : AF) (f : Nat) : AF := setFl (setFl N f 6 0) f 7 (fl (setFl N f 6 0) f 7 + 1)
def leU (N : AF) (n : Int32) : Nat → AF
  | 0 => N
  | k + 1 => if fl (leU N n k) k 0 = n then goTo (leU N n k) k 3 (-1) else leU N n k
theorem leU_s (N : AF) (n : Int32) (k : Nat) : leU N n (k + 1) = if fl (leU N n k) k 0 = n then goTo (leU N n k) k 3 (-1) else leU N n k := rfl
theorem hdr_leU (N : AF) (n : Int32) : ∀ k, hdr (leU N n k) N
  | 0 => hdr.rf
  | k + 1 => by
    rw [leU_s]
    split
    · exact (hdr_goTo _ _ _ _).tr (hdr_leU N n k)
    · exact hdr_leU N n k
def clU (N : AF) (t : Int32) : Nat → AF
  | 0 => N
  | k + 1 => if inTub (clU N t k) k t then goTo (clU N t k) k 0 (-1) else clU N t k
theorem clU_s (N : AF) (t : Int32) (k : Nat) : clU N t (k + 1) = if inTub (clU N t k) k t then goTo (clU N t k) k 0 (-1) else clU N t k := rfl
theorem hdr_clU (N : AF) (t : Int32) : ∀ k, hdr (clU N t k) N
  | 0 => hdr.rf
  | k + 1 => by
    rw [clU_s]
    split
    · exact (hdr_goTo _ _ _ _).tr (hdr_clU N t k)
    · exact hdr_clU N t k
abbrev haP (N : AF) (f : Nat) : Prop := ¬ fl N f 4 = 0 ∧ canHangN N f
def haU (N : AF) : Nat → AF
  | 0 => N
  | k + 1 => if haP (haU N k) k then goTo (haU N k) k 2 (freeN (haU N k)) else haU N k
theorem haU_s (N : AF) (k : Nat) : haU N (k + 1) = if haP (haU N k) k then goTo (haU N k) k 2 (freeN (haU N k)) else haU N k := rfl
theorem hdr_haU (N : AF) : ∀ k, hdr (haU N k) N
  | 0 => hdr.rf
  | k + 1 => by
    rw [haU_s]
    split
    · exact (hdr_goTo _ _ _ _).tr (hdr_haU N k)
    · exact hdr_haU N k
def haC (N : AF) (n : Nat) : Int32 := sm (fun k => bi (haP (haU N k) k)) n
def clrU (N : AF) (f : Nat) : Nat → AF
  | 0 => N
  | k + 1 => setFl (clrU N f k) f k 0
theorem clrU_s (N : AF) (f k : Nat) : clrU N f (k + 1) = setFl (clrU N f k) f k 0 := rfl
def af1 (N : AF) (n o c d : Int32) : AF := setFl (setFl (setFl (setFl (clrU N (nF N) 11) (nF N) 0 n) (nF N) 1 o) (nF N) 2 c) (nF N) 3 d
def addN (N : AF) (n o c d : Int32) : AF := va_up (goTo (af1 N n o c d) (nF N) 0 (-1)) 10 (goTo (af1 N n o c d) (nF N) 0 (-1) 10 + 1)
def ho1 (N : AF) (n : Nat) : AF := va_up N 2 (N 2 + payN N n (N 0))
def ho2 (N : AF) (n : Nat) : AF := va_up (ho1 N n) 3 (ho1 N n 3 + ((flagsN (ho1 N n) (nI n) * na (ho1 N n) n 1) - payN N n (N 0)))
def ho3 (N : AF) (n : Nat) : AF := setNa (ho2 N n) n 3 1
def ho4 (N : AF) (n : Nat) : AF := setNa (ho3 N n) n 4 (lateN (ho3 N n) n (ho3 N n 0))
def hoN (N : AF) (n : Nat) : AF := leU (ho4 N n) (nI n) (nF (ho4 N n))
theorem cts_na (N : AF) (n k : Nat) (v : Int32) : cts (setNa N n k v) N := cts_up _ _ _ (by omega)
theorem cts_ho1 (N : AF) (n : Nat) : cts (ho1 N n) N := cts_up _ _ _ (by omega)
theorem cts_ho2 (N : AF) (n : Nat) : cts (ho2 N n) N := (cts_up _ _ _ (by omega)).tr (cts_ho1 N n)
theorem cts_ho3 (N : AF) (n : Nat) : cts (ho3 N n) N := (cts_na _ _ _ _).tr (cts_ho2 N n)
theorem cts_ho4 (N : AF) (n : Nat) : cts (ho4 N n) N := (cts_na _ _ _ _).tr (cts_ho3 N n)
theorem c_remembers {l : Launch} {g : GC} (b9 : Nat) (ms : MM) (σ0 : AH) (u : Nat) (h1 : u ≤ 8) : AMet l g mX2_remembers 2 0 [.ref b9] (mc b9 (⟨m_thr ms, m_is ms, nI u, m_bd ms, m_pc ms, m_pa ms, m_sz ms, m_cu ms, m_st ms, m_tk ms, m_to ms, m_ps ms, m_now ms, m_asd ms, m_und ms, m_sav ms, m_isv ms, m_buf ms, m_grp ms, m_pag ms⟩ : MM) σ0) (A_eq (none) (mc b9 (⟨m_thr ms, m_is ms, nI (remC u), m_bd ms, m_pc ms, m_pa ms, m_sz ms, m_cu ms, m_st ms, m_tk ms, m_to ms, m_ps ms, m_now ms, m_asd ms, remU (m_und ms) (m_now ms) u, m_sav ms, m_isv ms, m_buf ms, m_grp ms, m_pag ms⟩ : MM) σ0)) A_no := by
  refine A_of rfl (by decide) (Nat.le_of_ble_eq_true rfl) (L0 := [(0, .ref b9)]) rfl ?_
  refine A_aload_n (i := 0) dX2_remembers_0 rfl rfl ?_
  refine M_get 7 (v := .int (nI u)) (Nat.le_of_ble_eq_true rfl) q2236 rfl dX2_remembers_1 ?_
  refine A_bipush (v := 8) dX2_remembers_4 (by decide) ?_
  refine A_icmp_ne (tgt := 50) dX2_remembers_6 (by decide) (fun c1 => ?_) (fun c1 => ?_)
  · skip
    have hu : ¬ u = 8 := nIne c1
    refine A_aload_n (i := 0) dX2_remembers_50 rfl rfl ?_
    refine M_get 1 (v := .ref (b9 + 1)) (Nat.le_of_ble_eq_true rfl) q2230 rfl dX2_remembers_51 ?_
    refine A_iconst (v := 0) dX2_remembers_54 (by decide) ?_
    refine A_aload_n (i := 0) dX2_remembers_55 rfl rfl ?_
    refine M_get 3 (v := .ref (b9 + 3)) (Nat.le_of_ble_eq_true rfl) q2232 rfl dX2_remembers_56 ?_
    refine A_aload_n (i := 0) dX2_remembers_59 rfl rfl ?_
    refine M_get 7 (v := .int (nI u)) (Nat.le_of_ble_eq_true rfl) q2236 rfl dX2_remembers_60 ?_
    refine A_sipush (v := 173) dX2_remembers_63 (by decide) ?_
    refine A_imul dX2_remembers_66 ?_
    refine A_int (w := nI (u * 173)) (pk_mul u 173) ?_
    refine A_callS4E (v := none) (τ := h_put (mc b9 (⟨m_thr ms, m_is ms, nI u, m_bd ms, m_pc ms, m_pa ms, m_sz ms, m_cu ms, m_st ms, m_tk ms, m_to ms, m_ps ms, m_now ms, m_asd ms, m_und ms, m_sav ms, m_isv ms, m_buf ms, m_grp ms, m_pag ms⟩ : MM) σ0) (b9 + 3) (.inl (.int, (1384, .inl (va_cpy (m_now ms) (m_und ms) 0 (u * 173) 173))))) (c_lays _ _ _ 0 (u * 173) 173 1384 _ _ (mc_1 _ _ _) (mc_3 _ _ _) (by omega) (by omega) (by omega) (by omega) (by omega)) tX2_lays q2330 dX2_remembers_67 (by decide) (Nat.le_of_eq (Nat.zero_add _)) (Nat.le_of_ble_eq_true rfl) ?_
    refine A_eqv (arr_eqv (h_put_at _ _ _) (f' := setWld (m_und ms) (m_now ms) u) (fun j hj => by unfold va_cpy setWld; simp)) ?_
    rw [h_put_put, mc_put3]
    show AW _ _ _ _ _ _ _ _ _ _ (mc b9 (⟨m_thr ms, m_is ms, nI u, m_bd ms, m_pc ms, m_pa ms, m_sz ms, m_cu ms, m_st ms, m_tk ms, m_to ms, m_ps ms, m_now ms, m_asd ms, setWld (m_und ms) (m_now ms) u, m_sav ms, m_isv ms, m_buf ms, m_grp ms, m_pag ms⟩ : MM) σ0)
    refine A_aload_n (i := 0) dX2_remembers_70 rfl rfl ?_
    refine A_dup dX2_remembers_71 rfl ?_
    refine M_get 7 (v := .int (nI u)) (Nat.le_of_ble_eq_true rfl) q2236 rfl dX2_remembers_72 ?_
    refine A_iconst (v := 1) dX2_remembers_75 (by decide) ?_
    refine A_iadd dX2_remembers_76 ?_
    refine A_int (w := nI (u + 1)) (nI_add u 1) ?_
    refine M_put 7 (ms' := (⟨m_thr ms, m_is ms, nI (u + 1), m_bd ms, m_pc ms, m_pa ms, m_sz ms, m_cu ms, m_st ms, m_tk ms, m_to ms, m_ps ms, m_now ms, m_asd ms, setWld (m_und ms) (m_now ms) u, m_sav ms, m_isv ms, m_buf ms, m_grp ms, m_pag ms⟩ : MM)) (Nat.le_of_ble_eq_true rfl) q2236 rfl rfl rfl rfl rfl dX2_remembers_77 ?_
    exact A_vret dX2_remembers_80 rfl ⟨rfl, by rw [remU, remC, if_neg (nIne c1), if_neg (nIne c1)] <;> rfl⟩
  · skip
    have e8 : u = 8 := nIeq (by omega) (by omega) c1
    subst e8
    refine A_iconst (v := 0) dX2_remembers_9 (by decide) ?_
    refine A_istore_n (i := 1) dX2_remembers_10 rfl (Nat.le_of_ble_eq_true rfl) ?_
    refine A_sub (L' := [(0, .ref b9), (1, .int (nI 0))]) ⟨rfl, rfl, trivial⟩ ?_
    refine A_for 1211 (fun i11 => 0) (fun i11 => [(0, .ref b9), (1, .int (nI i11))]) (fun i11 => mc b9 (⟨m_thr ms, m_is ms, nI 8, m_bd ms, m_pc ms, m_pa ms, m_sz ms, m_cu ms, m_st ms, m_tk ms, m_to ms, m_ps ms, m_now ms, m_asd ms, shU (m_und ms) i11, m_sav ms, m_isv ms, m_buf ms, m_grp ms, m_pag ms⟩ : MM) σ0) (fun i11 => True) trivial (fun i11 hi11 hI11 ih11 => ?_) (fun hI11 => ?_)
    · skip
      refine A_iload_n (i := 1) dX2_remembers_11 rfl rfl ?_
      refine A_sipush (v := 1211) dX2_remembers_12 (by decide) ?_
      refine A_icmp_ge_f (tgt := 40) dX2_remembers_15 (by decide) (br_lt (n := 1211) rfl hi11 (by omega)) ?_
      refine A_aload_n (i := 0) dX2_remembers_18 rfl rfl ?_
      refine M_get 3 (v := .ref (b9 + 3)) (Nat.le_of_ble_eq_true rfl) q2232 rfl dX2_remembers_19 ?_
      refine A_iload_n (i := 1) dX2_remembers_22 rfl rfl ?_
      refine A_aload_n (i := 0) dX2_remembers_23 rfl rfl ?_
      refine M_get 3 (v := .ref (b9 + 3)) (Nat.le_of_ble_eq_true rfl) q2232 rfl dX2_remembers_24 ?_
      refine A_iload_n (i := 1) dX2_remembers_27 rfl rfl ?_
      refine A_sipush (v := 173) dX2_remembers_28 (by decide) ?_
      refine A_iadd dX2_remembers_31 ?_
      refine A_int (w := nI (i11 + 173)) (nI_add i11 173) ?_
      refine M_ald3 (n := i11 + 173) (v := (shU (m_und ms) i11) (i11 + 173)) (rfl) (by omega) (rfl) dX2_remembers_32 ?_
      refine M_ast3 (n := i11) (na := shU (m_und ms) (i11 + 1)) (rfl) (by omega) (shU_s _ _) dX2_remembers_33 ?_
      refine A_iinc (v := nI (i11 + 1)) dX2_remembers_34 rfl (nI_inc _ _) (Nat.le_of_ble_eq_true rfl) ?_
      refine A_goto (tgt := 11) dX2_remembers_37 (by decide) ?_
      refine A_sub (L' := [(0, .ref b9), (1, .int (nI (i11 + 1)))]) ⟨rfl, rfl, trivial⟩ ?_
      exact ih11 trivial
    · skip
      refine A_iload_n (i := 1) dX2_remembers_11 rfl rfl ?_
      refine A_sipush (v := 1211) dX2_remembers_12 (by decide) ?_
      refine A_icmp_ge_t (tgt := 40) dX2_remembers_15 (by decide) (br_ge (n := 1211) rfl) ?_
      refine A_aload_n (i := 0) dX2_remembers_40 rfl rfl ?_
      refine A_dup dX2_remembers_41 rfl ?_
      refine M_get 7 (v := .int (nI 8)) (Nat.le_of_ble_eq_true rfl) q2236 rfl dX2_remembers_42 ?_
      refine A_iconst (v := 1) dX2_remembers_45 (by decide) ?_
      refine A_isub dX2_remembers_46 ?_
      refine A_int (w := nI 7) (by decide) ?_
      refine M_put 7 (ms' := (⟨m_thr ms, m_is ms, nI 7, m_bd ms, m_pc ms, m_pa ms, m_sz ms, m_cu ms, m_st ms, m_tk ms, m_to ms, m_ps ms, m_now ms, m_asd ms, shU (m_und ms) 1211, m_sav ms, m_isv ms, m_buf ms, m_grp ms, m_pag ms⟩ : MM)) (Nat.le_of_ble_eq_true rfl) q2236 rfl rfl rfl rfl rfl dX2_remembers_47 ?_
      skip
      refine A_aload_n (i := 0) dX2_remembers_50 rfl rfl ?_
      refine M_get 1 (v := .ref (b9 + 1)) (Nat.le_of_ble_eq_true rfl) q2230 rfl dX2_remembers_51 ?_
      refine A_iconst (v := 0) dX2_remembers_54 (by decide) ?_
      refine A_aload_n (i := 0) dX2_remembers_55 rfl rfl ?_
      refine M_get 3 (v := .ref (b9 + 3)) (Nat.le_of_ble_eq_true rfl) q2232 rfl dX2_remembers_56 ?_
      refine A_aload_n (i := 0) dX2_remembers_59 rfl rfl ?_
      refine M_get 7 (v := .int (nI 7)) (Nat.le_of_ble_eq_true rfl) q2236 rfl dX2_remembers_60 ?_
      refine A_sipush (v := 173) dX2_remembers_63 (by decide) ?_
      refine A_imul dX2_remembers_66 ?_
      refine A_int (w := nI (7 * 173)) (pk_mul 7 173) ?_
      refine A_callS4E (v := none) (τ := h_put (mc b9 (⟨m_thr ms, m_is ms, nI 7, m_bd ms, m_pc ms, m_pa ms, m_sz ms, m_cu ms, m_st ms, m_tk ms, m_to ms, m_ps ms, m_now ms, m_asd ms, shU (m_und ms) 1211, m_sav ms, m_isv ms, m_buf ms, m_grp ms, m_pag ms⟩ : MM) σ0) (b9 + 3) (.inl (.int, (1384, .inl (va_cpy (m_now ms) (shU (m_und ms) 1211) 0 (7 * 173) 173))))) (c_lays _ _ _ 0 (7 * 173) 173 1384 _ _ (mc_1 _ _ _) (mc_3 _ _ _) (by omega) (by omega) (by omega) (by omega) (by omega)) tX2_lays q2330 dX2_remembers_67 (by decide) (Nat.le_of_eq (Nat.zero_add _)) (Nat.le_of_ble_eq_true rfl) ?_
      refine A_eqv (arr_eqv (h_put_at _ _ _) (f' := setWld (shU (m_und ms) 1211) (m_now ms) 7) (fun j hj => by unfold va_cpy setWld; simp)) ?_
      rw [h_put_put, mc_put3]
      show AW _ _ _ _ _ _ _ _ _ _ (mc b9 (⟨m_thr ms, m_is ms, nI 7, m_bd ms, m_pc ms, m_pa ms, m_sz ms, m_cu ms, m_st ms, m_tk ms, m_to ms, m_ps ms, m_now ms, m_asd ms, setWld (shU (m_und ms) 1211) (m_now ms) 7, m_sav ms, m_isv ms, m_buf ms, m_grp ms, m_pag ms⟩ : MM) σ0)
      refine A_aload_n (i := 0) dX2_remembers_70 rfl rfl ?_
      refine A_dup dX2_remembers_71 rfl ?_
      refine M_get 7 (v := .int (nI 7)) (Nat.le_of_ble_eq_true rfl) q2236 rfl dX2_remembers_72 ?_
      refine A_iconst (v := 1) dX2_remembers_75 (by decide) ?_
      refine A_iadd dX2_remembers_76 ?_
      refine A_int (w := nI (7 + 1)) (nI_add 7 1) ?_
      refine M_put 7 (ms' := (⟨m_thr ms, m_is ms, nI (7 + 1), m_bd ms, m_pc ms, m_pa ms, m_sz ms, m_cu ms, m_st ms, m_tk ms, m_to ms, m_ps ms, m_now ms, m_asd ms, setWld (shU (m_und ms) 1211) (m_now ms) 7, m_sav ms, m_isv ms, m_buf ms, m_grp ms, m_pag ms⟩ : MM)) (Nat.le_of_ble_eq_true rfl) q2236 rfl rfl rfl rfl rfl dX2_remembers_77 ?_
      exact A_vret dX2_remembers_80 rfl ⟨rfl, rfl⟩
theorem c_put {l : Launch} {g : GC} (b9 : Nat) (ms : MM) (σ0 : AH) (u : Nat) (f : Int32) (t : Int32) (h1 : WFc (m_now ms)) (h2 : u ≤ 8) : AMet l g mX2_put 6 0 [.ref b9, .int f, .int t] (mc b9 (⟨m_thr ms, m_is ms, nI u, m_bd ms, m_pc ms, m_pa ms, m_sz ms, m_cu ms, m_st ms, m_tk ms, m_to ms, m_ps ms, m_now ms, m_asd ms, m_und ms, m_sav ms, m_isv ms, m_buf ms, m_grp ms, m_pag ms⟩ : MM) σ0) (A_eq (some (.int (gd (mayT (m_is ms) (bi (okB (m_is ms) (m_now ms) f t)) (bi (okB (m_is ms) (m_now ms) f t ∧ whyPutN (m_now ms) (ix f) (ix t) = 0))) (manyT (putIn (m_now ms) (ix f) t) t)))) (mc b9 (⟨mayT (m_is ms) (bi (okB (m_is ms) (m_now ms) f t)) (bi (okB (m_is ms) (m_now ms) f t ∧ whyPutN (m_now ms) (ix f) (ix t) = 0)), m_is ms, nI (gq (mayT (m_is ms) (bi (okB (m_is ms) (m_now ms) f t)) (bi (okB (m_is ms) (m_now ms) f t ∧ whyPutN (m_now ms) (ix f) (ix t) = 0))) (remC u) u), m_bd ms, m_pc ms, m_pa ms, m_sz ms, m_cu ms, m_st ms, m_tk ms, m_to ms, m_ps ms, gq (mayT (m_is ms) (bi (okB (m_is ms) (m_now ms) f t)) (bi (okB (m_is ms) (m_now ms) f t ∧ whyPutN (m_now ms) (ix f) (ix t) = 0))) (putIn (m_now ms) (ix f) t) (m_now ms), m_asd ms, gq (mayT (m_is ms) (bi (okB (m_is ms) (m_now ms) f t)) (bi (okB (m_is ms) (m_now ms) f t ∧ whyPutN (m_now ms) (ix f) (ix t) = 0))) (remU (m_und ms) (m_now ms) u) (m_und ms), m_sav ms, m_isv ms, m_buf ms, m_grp ms, m_pag ms⟩ : MM) σ0)) A_no := by
  refine A_of rfl (by decide) (Nat.le_of_ble_eq_true rfl) (L0 := [(0, .ref b9), (1, .int f), (2, .int t)]) rfl ?_
  have hF := h1.2.2.2.2.2
  have hC := h1.1.2
  have hT := h1.2.2.1.2
  refine A_aload_n (i := 0) dX2_put_0 rfl rfl ?_
  refine A_iload_n (i := 1) dX2_put_1 rfl rfl ?_
  refine A_callV1E (v := some (.int (bi (okF (m_is ms) (m_now ms) f)))) (τ := mc b9 (⟨m_thr ms, m_is ms, nI u, m_bd ms, m_pc ms, m_pa ms, m_sz ms, m_cu ms, m_st ms, m_tk ms, m_to ms, m_ps ms, m_now ms, m_asd ms, m_und ms, m_sav ms, m_isv ms, m_buf ms, m_grp ms, m_pag ms⟩ : MM) σ0) (c_isFlag b9 (⟨m_thr ms, m_is ms, nI u, m_bd ms, m_pc ms, m_pa ms, m_sz ms, m_cu ms, m_st ms, m_tk ms, m_to ms, m_ps ms, m_now ms, m_asd ms, m_und ms, m_sav ms, m_isv ms, m_buf ms, m_grp ms, m_pag ms⟩ : MM) σ0 f) tX2_isFlag q2629 (mc_0 _ _ _) rfl rfl dX2_put_2 (by decide) (Nat.le_of_eq (Nat.zero_add _)) (Nat.le_of_ble_eq_true rfl) ?_
  refine A_if_eq (tgt := 20) dX2_put_5 (by decide) (fun c1 => ?_) (fun c1 => ?_)
  · skip
    have c1 := bi_eq0.mp c1
    refine A_iconst (v := 0) dX2_put_20 (by decide) ?_
    refine A_int (w := bi (okB (m_is ms) (m_now ms) f t)) ((bi_f (fun h9 => c1 h9.1)).symm) ?_
    refine A_istore_n (i := 3) dX2_put_21 rfl (Nat.le_of_ble_eq_true rfl) ?_
    refine A_aload_n (i := 0) dX2_put_22 rfl rfl ?_
    refine A_aload_n (i := 0) dX2_put_23 rfl rfl ?_
    refine M_get 6 (v := .int (m_is ms)) (Nat.le_of_ble_eq_true rfl) q2235 rfl dX2_put_24 ?_
    refine A_iload_n (i := 3) dX2_put_27 rfl rfl ?_
    refine A_iload_n (i := 3) dX2_put_28 rfl rfl ?_
    refine A_if_eq (tgt := 45) dX2_put_29 (by decide) (fun c2 => ?_) (fun c2 => ?_)
    · skip
      have c2 := bi_eq0.mp c2
      refine A_iconst (v := 0) dX2_put_45 (by decide) ?_
      refine A_int (w := bi (okB (m_is ms) (m_now ms) f t ∧ whyPutN (m_now ms) (ix f) (ix t) = 0)) ((bi_f (fun h9 => c2 h9.1)).symm) ?_
      refine A_callV3E (v := some (.int (bi (mayT (m_is ms) (bi (okB (m_is ms) (m_now ms) f t)) (bi (okB (m_is ms) (m_now ms) f t ∧ whyPutN (m_now ms) (ix f) (ix t) = 0)) = 0)))) (τ := mc b9 (⟨mayT (m_is ms) (bi (okB (m_is ms) (m_now ms) f t)) (bi (okB (m_is ms) (m_now ms) f t ∧ whyPutN (m_now ms) (ix f) (ix t) = 0)), m_is ms, nI u, m_bd ms, m_pc ms, m_pa ms, m_sz ms, m_cu ms, m_st ms, m_tk ms, m_to ms, m_ps ms, m_now ms, m_asd ms, m_und ms, m_sav ms, m_isv ms, m_buf ms, m_grp ms, m_pag ms⟩ : MM) σ0) (c_may b9 (⟨m_thr ms, m_is ms, nI u, m_bd ms, m_pc ms, m_pa ms, m_sz ms, m_cu ms, m_st ms, m_tk ms, m_to ms, m_ps ms, m_now ms, m_asd ms, m_und ms, m_sav ms, m_isv ms, m_buf ms, m_grp ms, m_pag ms⟩ : MM) σ0 (m_is ms) (bi (okB (m_is ms) (m_now ms) f t)) (bi (okB (m_is ms) (m_now ms) f t ∧ whyPutN (m_now ms) (ix f) (ix t) = 0))) tX2_may q2322 (mc_0 _ _ _) rfl rfl dX2_put_46 (by decide) (Nat.le_of_eq (Nat.zero_add _)) (Nat.le_of_ble_eq_true rfl) ?_
      refine A_if_ne (tgt := 54) dX2_put_49 (by decide) (fun c3 => ?_) (fun c3 => ?_)
      · skip
        have c3 := bi_ne0.mp c3
        exact (show False from (fun h9 => c2 h9.1) (mayT_z c3)).elim
      · skip
        have c3 := bi_eq0.mp c3
        refine A_iconst (v := 0) dX2_put_52 (by decide) ?_
        exact A_iret dX2_put_53 rfl ⟨by rw [gd, if_neg c3], by simp only [gq_f c3]⟩
    · skip
      have c2 := bi_ne0.mp c2
      obtain ⟨f9, hf9, rfl⟩ := okF_ex h1 c2.1
      obtain ⟨t9, ht9, rfl⟩ := okT_ex h1 c2.2
      have w2 : WFc (putIn (m_now ms) f9 (nI t9)) := (cts_putIn _ _ _).wf h1
      try rw [ixn (show f9 < 2000 by omega)]
      try rw [ixn (show t9 < 2000 by omega)]
      refine A_aload_n (i := 0) dX2_put_32 rfl rfl ?_
      refine A_iload_n (i := 1) dX2_put_33 rfl rfl ?_
      refine A_iload_n (i := 2) dX2_put_34 rfl rfl ?_
      refine A_callV2E (v := some (.int (whyPutN (m_now ms) f9 t9))) (τ := mc b9 (⟨m_thr ms, m_is ms, nI u, m_bd ms, m_pc ms, m_pa ms, m_sz ms, m_cu ms, m_st ms, m_tk ms, m_to ms, m_ps ms, m_now ms, m_asd ms, m_und ms, m_sav ms, m_isv ms, m_buf ms, m_grp ms, m_pag ms⟩ : MM) σ0) (c_whyPut b9 (⟨m_thr ms, m_is ms, nI u, m_bd ms, m_pc ms, m_pa ms, m_sz ms, m_cu ms, m_st ms, m_tk ms, m_to ms, m_ps ms, m_now ms, m_asd ms, m_und ms, m_sav ms, m_isv ms, m_buf ms, m_grp ms, m_pag ms⟩ : MM) σ0 f9 t9 (by first | assumption | omega) (by first | assumption | omega) (by first | assumption | omega)) tX2_whyPut q2432 (mc_0 _ _ _) rfl rfl dX2_put_35 (by decide) (Nat.le_of_eq (Nat.zero_add _)) (Nat.le_of_ble_eq_true rfl) ?_
      refine A_if_ne (tgt := 45) dX2_put_38 (by decide) (fun c4 => ?_) (fun c4 => ?_)
      · skip
        refine A_iconst (v := 0) dX2_put_45 (by decide) ?_
        refine A_int (w := bi (okB (m_is ms) (m_now ms) (nI f9) (nI t9) ∧ whyPutN (m_now ms) f9 t9 = 0)) ((bi_f (fun h9 => by first | exact c4 (h9.2) | exact absurd (h9.2) c4 | exact (h9.2) c4)).symm) ?_
        refine A_callV3E (v := some (.int (bi (mayT (m_is ms) (bi (okB (m_is ms) (m_now ms) (nI f9) (nI t9))) (bi (okB (m_is ms) (m_now ms) (nI f9) (nI t9) ∧ whyPutN (m_now ms) f9 t9 = 0)) = 0)))) (τ := mc b9 (⟨mayT (m_is ms) (bi (okB (m_is ms) (m_now ms) (nI f9) (nI t9))) (bi (okB (m_is ms) (m_now ms) (nI f9) (nI t9) ∧ whyPutN (m_now ms) f9 t9 = 0)), m_is ms, nI u, m_bd ms, m_pc ms, m_pa ms, m_sz ms, m_cu ms, m_st ms, m_tk ms, m_to ms, m_ps ms, m_now ms, m_asd ms, m_und ms, m_sav ms, m_isv ms, m_buf ms, m_grp ms, m_pag ms⟩ : MM) σ0) (c_may b9 (⟨m_thr ms, m_is ms, nI u, m_bd ms, m_pc ms, m_pa ms, m_sz ms, m_cu ms, m_st ms, m_tk ms, m_to ms, m_ps ms, m_now ms, m_asd ms, m_und ms, m_sav ms, m_isv ms, m_buf ms, m_grp ms, m_pag ms⟩ : MM) σ0 (m_is ms) (bi (okB (m_is ms) (m_now ms) (nI f9) (nI t9))) (bi (okB (m_is ms) (m_now ms) (nI f9) (nI t9) ∧ whyPutN (m_now ms) f9 t9 = 0))) tX2_may q2322 (mc_0 _ _ _) rfl rfl dX2_put_46 (by decide) (Nat.le_of_eq (Nat.zero_add _)) (Nat.le_of_ble_eq_true rfl) ?_
        refine A_if_ne (tgt := 54) dX2_put_49 (by decide) (fun c5 => ?_) (fun c5 => ?_)
        · skip
          have c5 := bi_ne0.mp c5
          exact (show False from (fun h9 => by first | exact c4 (h9.2) | exact absurd (h9.2) c4 | exact (h9.2) c4) (mayT_z c5)).elim
        · skip
          have c5 := bi_eq0.mp c5
          refine A_iconst (v := 0) dX2_put_52 (by decide) ?_
          exact A_iret dX2_put_53 rfl ⟨by rw [gd, if_neg c5], by simp only [gq_f c5]⟩
      · skip
        refine A_iconst (v := 1) dX2_put_41 (by decide) ?_
        refine A_goto (tgt := 46) dX2_put_42 (by decide) ?_
        refine A_int (w := bi (okB (m_is ms) (m_now ms) (nI f9) (nI t9) ∧ whyPutN (m_now ms) f9 t9 = 0)) ((bi_t ⟨c2, c4⟩).symm) ?_
        refine A_callV3E (v := some (.int (bi (mayT (m_is ms) (bi (okB (m_is ms) (m_now ms) (nI f9) (nI t9))) (bi (okB (m_is ms) (m_now ms) (nI f9) (nI t9) ∧ whyPutN (m_now ms) f9 t9 = 0)) = 0)))) (τ := mc b9 (⟨mayT (m_is ms) (bi (okB (m_is ms) (m_now ms) (nI f9) (nI t9))) (bi (okB (m_is ms) (m_now ms) (nI f9) (nI t9) ∧ whyPutN (m_now ms) f9 t9 = 0)), m_is ms, nI u, m_bd ms, m_pc ms, m_pa ms, m_sz ms, m_cu ms, m_st ms, m_tk ms, m_to ms, m_ps ms, m_now ms, m_asd ms, m_und ms, m_sav ms, m_isv ms, m_buf ms, m_grp ms, m_pag ms⟩ : MM) σ0) (c_may b9 (⟨m_thr ms, m_is ms, nI u, m_bd ms, m_pc ms, m_pa ms, m_sz ms, m_cu ms, m_st ms, m_tk ms, m_to ms, m_ps ms, m_now ms, m_asd ms, m_und ms, m_sav ms, m_isv ms, m_buf ms, m_grp ms, m_pag ms⟩ : MM) σ0 (m_is ms) (bi (okB (m_is ms) (m_now ms) (nI f9) (nI t9))) (bi (okB (m_is ms) (m_now ms) (nI f9) (nI t9) ∧ whyPutN (m_now ms) f9 t9 = 0))) tX2_may q2322 (mc_0 _ _ _) rfl rfl dX2_put_46 (by decide) (Nat.le_of_eq (Nat.zero_add _)) (Nat.le_of_ble_eq_true rfl) ?_
        refine A_if_ne (tgt := 54) dX2_put_49 (by decide) (fun c6 => ?_) (fun c6 => ?_)
        · skip
          have c6 := bi_ne0.mp c6
          refine A_aload_n (i := 0) dX2_put_54 rfl rfl ?_
          refine A_callV0E (v := none) (τ := mc b9 (⟨mayT (m_is ms) (bi (okB (m_is ms) (m_now ms) (nI f9) (nI t9))) (bi (okB (m_is ms) (m_now ms) (nI f9) (nI t9) ∧ whyPutN (m_now ms) f9 t9 = 0)), m_is ms, nI (remC u), m_bd ms, m_pc ms, m_pa ms, m_sz ms, m_cu ms, m_st ms, m_tk ms, m_to ms, m_ps ms, m_now ms, m_asd ms, remU (m_und ms) (m_now ms) u, m_sav ms, m_isv ms, m_buf ms, m_grp ms, m_pag ms⟩ : MM) σ0) (c_remembers b9 (⟨mayT (m_is ms) (bi (okB (m_is ms) (m_now ms) (nI f9) (nI t9))) (bi (okB (m_is ms) (m_now ms) (nI f9) (nI t9) ∧ whyPutN (m_now ms) f9 t9 = 0)), m_is ms, nI u, m_bd ms, m_pc ms, m_pa ms, m_sz ms, m_cu ms, m_st ms, m_tk ms, m_to ms, m_ps ms, m_now ms, m_asd ms, m_und ms, m_sav ms, m_isv ms, m_buf ms, m_grp ms, m_pag ms⟩ : MM) σ0 u (by first | assumption | omega)) tX2_remembers q2899 (mc_0 _ _ _) rfl rfl dX2_put_55 (by decide) (Nat.le_of_eq (Nat.zero_add _)) (Nat.le_of_ble_eq_true rfl) ?_
          refine A_aload_n (i := 0) dX2_put_58 rfl rfl ?_
          refine A_iload_n (i := 1) dX2_put_59 rfl rfl ?_
          refine A_iload_n (i := 2) dX2_put_60 rfl rfl ?_
          refine A_callV2E (v := none) (τ := mc b9 (⟨mayT (m_is ms) (bi (okB (m_is ms) (m_now ms) (nI f9) (nI t9))) (bi (okB (m_is ms) (m_now ms) (nI f9) (nI t9) ∧ whyPutN (m_now ms) f9 t9 = 0)), m_is ms, nI (remC u), m_bd ms, m_pc ms, m_pa ms, m_sz ms, m_cu ms, m_st ms, m_tk ms, m_to ms, m_ps ms, putIn (m_now ms) f9 (nI t9), m_asd ms, remU (m_und ms) (m_now ms) u, m_sav ms, m_isv ms, m_buf ms, m_grp ms, m_pag ms⟩ : MM) σ0) (c_putsInto b9 (⟨mayT (m_is ms) (bi (okB (m_is ms) (m_now ms) (nI f9) (nI t9))) (bi (okB (m_is ms) (m_now ms) (nI f9) (nI t9) ∧ whyPutN (m_now ms) f9 t9 = 0)), m_is ms, nI (remC u), m_bd ms, m_pc ms, m_pa ms, m_sz ms, m_cu ms, m_st ms, m_tk ms, m_to ms, m_ps ms, m_now ms, m_asd ms, remU (m_und ms) (m_now ms) u, m_sav ms, m_isv ms, m_buf ms, m_grp ms, m_pag ms⟩ : MM) σ0 f9 (nI t9) (by first | assumption | omega)) tX2_putsInto q2459 (mc_0 _ _ _) rfl rfl dX2_put_61 (by decide) (Nat.le_of_eq (Nat.zero_add _)) (Nat.le_of_ble_eq_true rfl) ?_
          refine A_aload_n (i := 0) dX2_put_64 rfl rfl ?_
          refine A_iload_n (i := 2) dX2_put_65 rfl rfl ?_
          refine A_callV1E (v := some (.int (manyT (putIn (m_now ms) f9 (nI t9)) (nI t9)))) (τ := mc b9 (⟨mayT (m_is ms) (bi (okB (m_is ms) (m_now ms) (nI f9) (nI t9))) (bi (okB (m_is ms) (m_now ms) (nI f9) (nI t9) ∧ whyPutN (m_now ms) f9 t9 = 0)), m_is ms, nI (remC u), m_bd ms, m_pc ms, m_pa ms, m_sz ms, m_cu ms, m_st ms, m_tk ms, m_to ms, m_ps ms, putIn (m_now ms) f9 (nI t9), m_asd ms, remU (m_und ms) (m_now ms) u, m_sav ms, m_isv ms, m_buf ms, m_grp ms, m_pag ms⟩ : MM) σ0) (c_manyIn b9 (⟨mayT (m_is ms) (bi (okB (m_is ms) (m_now ms) (nI f9) (nI t9))) (bi (okB (m_is ms) (m_now ms) (nI f9) (nI t9) ∧ whyPutN (m_now ms) f9 t9 = 0)), m_is ms, nI (remC u), m_bd ms, m_pc ms, m_pa ms, m_sz ms, m_cu ms, m_st ms, m_tk ms, m_to ms, m_ps ms, putIn (m_now ms) f9 (nI t9), m_asd ms, remU (m_und ms) (m_now ms) u, m_sav ms, m_isv ms, m_buf ms, m_grp ms, m_pag ms⟩ : MM) σ0 (nI t9) (by first | assumption | omega)) tX2_manyIn q2448 (mc_0 _ _ _) rfl rfl dX2_put_66 (by decide) (Nat.le_of_eq (Nat.zero_add _)) (Nat.le_of_ble_eq_true rfl) ?_
          exact A_iret dX2_put_69 rfl ⟨by rw [gd, if_pos c6], by simp only [gq_t c6] <;> rfl⟩
        · skip
          have c6 := bi_eq0.mp c6
          refine A_iconst (v := 0) dX2_put_52 (by decide) ?_
          exact A_iret dX2_put_53 rfl ⟨by rw [gd, if_neg c6], by simp only [gq_f c6]⟩
  · skip
    have c1 := bi_ne0.mp c1
    refine A_aload_n (i := 0) dX2_put_8 rfl rfl ?_
    refine A_iload_n (i := 2) dX2_put_9 rfl rfl ?_
    refine A_callV1E (v := some (.int (bi (okT (m_is ms) (m_now ms) t)))) (τ := mc b9 (⟨m_thr ms, m_is ms, nI u, m_bd ms, m_pc ms, m_pa ms, m_sz ms, m_cu ms, m_st ms, m_tk ms, m_to ms, m_ps ms, m_now ms, m_asd ms, m_und ms, m_sav ms, m_isv ms, m_buf ms, m_grp ms, m_pag ms⟩ : MM) σ0) (c_isTub b9 (⟨m_thr ms, m_is ms, nI u, m_bd ms, m_pc ms, m_pa ms, m_sz ms, m_cu ms, m_st ms, m_tk ms, m_to ms, m_ps ms, m_now ms, m_asd ms, m_und ms, m_sav ms, m_isv ms, m_buf ms, m_grp ms, m_pag ms⟩ : MM) σ0 t) tX2_isTub q2637 (mc_0 _ _ _) rfl rfl dX2_put_10 (by decide) (Nat.le_of_eq (Nat.zero_add _)) (Nat.le_of_ble_eq_true rfl) ?_
    refine A_if_eq (tgt := 20) dX2_put_13 (by decide) (fun c7 => ?_) (fun c7 => ?_)
    · skip
      have c7 := bi_eq0.mp c7
      refine A_iconst (v := 0) dX2_put_20 (by decide) ?_
      refine A_int (w := bi (okB (m_is ms) (m_now ms) f t)) ((bi_f (fun h9 => c7 h9.2)).symm) ?_
      refine A_istore_n (i := 3) dX2_put_21 rfl (Nat.le_of_ble_eq_true rfl) ?_
      refine A_aload_n (i := 0) dX2_put_22 rfl rfl ?_
      refine A_aload_n (i := 0) dX2_put_23 rfl rfl ?_
      refine M_get 6 (v := .int (m_is ms)) (Nat.le_of_ble_eq_true rfl) q2235 rfl dX2_put_24 ?_
      refine A_iload_n (i := 3) dX2_put_27 rfl rfl ?_
      refine A_iload_n (i := 3) dX2_put_28 rfl rfl ?_
      refine A_if_eq (tgt := 45) dX2_put_29 (by decide) (fun c8 => ?_) (fun c8 => ?_)
      · skip
        have c8 := bi_eq0.mp c8
        refine A_iconst (v := 0) dX2_put_45 (by decide) ?_
        refine A_int (w := bi (okB (m_is ms) (m_now ms) f t ∧ whyPutN (m_now ms) (ix f) (ix t) = 0)) ((bi_f (fun h9 => c8 h9.1)).symm) ?_
        refine A_callV3E (v := some (.int (bi (mayT (m_is ms) (bi (okB (m_is ms) (m_now ms) f t)) (bi (okB (m_is ms) (m_now ms) f t ∧ whyPutN (m_now ms) (ix f) (ix t) = 0)) = 0)))) (τ := mc b9 (⟨mayT (m_is ms) (bi (okB (m_is ms) (m_now ms) f t)) (bi (okB (m_is ms) (m_now ms) f t ∧ whyPutN (m_now ms) (ix f) (ix t) = 0)), m_is ms, nI u, m_bd ms, m_pc ms, m_pa ms, m_sz ms, m_cu ms, m_st ms, m_tk ms, m_to ms, m_ps ms, m_now ms, m_asd ms, m_und ms, m_sav ms, m_isv ms, m_buf ms, m_grp ms, m_pag ms⟩ : MM) σ0) (c_may b9 (⟨m_thr ms, m_is ms, nI u, m_bd ms, m_pc ms, m_pa ms, m_sz ms, m_cu ms, m_st ms, m_tk ms, m_to ms, m_ps ms, m_now ms, m_asd ms, m_und ms, m_sav ms, m_isv ms, m_buf ms, m_grp ms, m_pag ms⟩ : MM) σ0 (m_is ms) (bi (okB (m_is ms) (m_now ms) f t)) (bi (okB (m_is ms) (m_now ms) f t ∧ whyPutN (m_now ms) (ix f) (ix t) = 0))) tX2_may q2322 (mc_0 _ _ _) rfl rfl dX2_put_46 (by decide) (Nat.le_of_eq (Nat.zero_add _)) (Nat.le_of_ble_eq_true rfl) ?_
        refine A_if_ne (tgt := 54) dX2_put_49 (by decide) (fun c9 => ?_) (fun c9 => ?_)
        · skip
          have c9 := bi_ne0.mp c9
          exact (show False from (fun h9 => c8 h9.1) (mayT_z c9)).elim
        · skip
          have c9 := bi_eq0.mp c9
          refine A_iconst (v := 0) dX2_put_52 (by decide) ?_
          exact A_iret dX2_put_53 rfl ⟨by rw [gd, if_neg c9], by simp only [gq_f c9]⟩
      · skip
        have c8 := bi_ne0.mp c8
        obtain ⟨f9, hf9, rfl⟩ := okF_ex h1 c8.1
        obtain ⟨t9, ht9, rfl⟩ := okT_ex h1 c8.2
        have w2 : WFc (putIn (m_now ms) f9 (nI t9)) := (cts_putIn _ _ _).wf h1
        try rw [ixn (show f9 < 2000 by omega)]
        try rw [ixn (show t9 < 2000 by omega)]
        refine A_aload_n (i := 0) dX2_put_32 rfl rfl ?_
        refine A_iload_n (i := 1) dX2_put_33 rfl rfl ?_
        refine A_iload_n (i := 2) dX2_put_34 rfl rfl ?_
        refine A_callV2E (v := some (.int (whyPutN (m_now ms) f9 t9))) (τ := mc b9 (⟨m_thr ms, m_is ms, nI u, m_bd ms, m_pc ms, m_pa ms, m_sz ms, m_cu ms, m_st ms, m_tk ms, m_to ms, m_ps ms, m_now ms, m_asd ms, m_und ms, m_sav ms, m_isv ms, m_buf ms, m_grp ms, m_pag ms⟩ : MM) σ0) (c_whyPut b9 (⟨m_thr ms, m_is ms, nI u, m_bd ms, m_pc ms, m_pa ms, m_sz ms, m_cu ms, m_st ms, m_tk ms, m_to ms, m_ps ms, m_now ms, m_asd ms, m_und ms, m_sav ms, m_isv ms, m_buf ms, m_grp ms, m_pag ms⟩ : MM) σ0 f9 t9 (by first | assumption | omega) (by first | assumption | omega) (by first | assumption | omega)) tX2_whyPut q2432 (mc_0 _ _ _) rfl rfl dX2_put_35 (by decide) (Nat.le_of_eq (Nat.zero_add _)) (Nat.le_of_ble_eq_true rfl) ?_
        refine A_if_ne (tgt := 45) dX2_put_38 (by decide) (fun c10 => ?_) (fun c10 => ?_)
        · skip
          refine A_iconst (v := 0) dX2_put_45 (by decide) ?_
          refine A_int (w := bi (okB (m_is ms) (m_now ms) (nI f9) (nI t9) ∧ whyPutN (m_now ms) f9 t9 = 0)) ((bi_f (fun h9 => by first | exact c10 (h9.2) | exact absurd (h9.2) c10 | exact (h9.2) c10)).symm) ?_
          refine A_callV3E (v := some (.int (bi (mayT (m_is ms) (bi (okB (m_is ms) (m_now ms) (nI f9) (nI t9))) (bi (okB (m_is ms) (m_now ms) (nI f9) (nI t9) ∧ whyPutN (m_now ms) f9 t9 = 0)) = 0)))) (τ := mc b9 (⟨mayT (m_is ms) (bi (okB (m_is ms) (m_now ms) (nI f9) (nI t9))) (bi (okB (m_is ms) (m_now ms) (nI f9) (nI t9) ∧ whyPutN (m_now ms) f9 t9 = 0)), m_is ms, nI u, m_bd ms, m_pc ms, m_pa ms, m_sz ms, m_cu ms, m_st ms, m_tk ms, m_to ms, m_ps ms, m_now ms, m_asd ms, m_und ms, m_sav ms, m_isv ms, m_buf ms, m_grp ms, m_pag ms⟩ : MM) σ0) (c_may b9 (⟨m_thr ms, m_is ms, nI u, m_bd ms, m_pc ms, m_pa ms, m_sz ms, m_cu ms, m_st ms, m_tk ms, m_to ms, m_ps ms, m_now ms, m_asd ms, m_und ms, m_sav ms, m_isv ms, m_buf ms, m_grp ms, m_pag ms⟩ : MM) σ0 (m_is ms) (bi (okB (m_is ms) (m_now ms) (nI f9) (nI t9))) (bi (okB (m_is ms) (m_now ms) (nI f9) (nI t9) ∧ whyPutN (m_now ms) f9 t9 = 0))) tX2_may q2322 (mc_0 _ _ _) rfl rfl dX2_put_46 (by decide) (Nat.le_of_eq (Nat.zero_add _)) (Nat.le_of_ble_eq_true rfl) ?_
          refine A_if_ne (tgt := 54) dX2_put_49 (by decide) (fun c11 => ?_) (fun c11 => ?_)
          · skip
            have c11 := bi_ne0.mp c11
            exact (show False from (fun h9 => by first | exact c10 (h9.2) | exact absurd (h9.2) c10 | exact (h9.2) c10) (mayT_z c11)).elim
          · skip
            have c11 := bi_eq0.mp c11
            refine A_iconst (v := 0) dX2_put_52 (by decide) ?_
            exact A_iret dX2_put_53 rfl ⟨by rw [gd, if_neg c11], by simp only [gq_f c11]⟩
        · skip
          refine A_iconst (v := 1) dX2_put_41 (by decide) ?_
          refine A_goto (tgt := 46) dX2_put_42 (by decide) ?_
          refine A_int (w := bi (okB (m_is ms) (m_now ms) (nI f9) (nI t9) ∧ whyPutN (m_now ms) f9 t9 = 0)) ((bi_t ⟨c8, c10⟩).symm) ?_
          refine A_callV3E (v := some (.int (bi (mayT (m_is ms) (bi (okB (m_is ms) (m_now ms) (nI f9) (nI t9))) (bi (okB (m_is ms) (m_now ms) (nI f9) (nI t9) ∧ whyPutN (m_now ms) f9 t9 = 0)) = 0)))) (τ := mc b9 (⟨mayT (m_is ms) (bi (okB (m_is ms) (m_now ms) (nI f9) (nI t9))) (bi (okB (m_is ms) (m_now ms) (nI f9) (nI t9) ∧ whyPutN (m_now ms) f9 t9 = 0)), m_is ms, nI u, m_bd ms, m_pc ms, m_pa ms, m_sz ms, m_cu ms, m_st ms, m_tk ms, m_to ms, m_ps ms, m_now ms, m_asd ms, m_und ms, m_sav ms, m_isv ms, m_buf ms, m_grp ms, m_pag ms⟩ : MM) σ0) (c_may b9 (⟨m_thr ms, m_is ms, nI u, m_bd ms, m_pc ms, m_pa ms, m_sz ms, m_cu ms, m_st ms, m_tk ms, m_to ms, m_ps ms, m_now ms, m_asd ms, m_und ms, m_sav ms, m_isv ms, m_buf ms, m_grp ms, m_pag ms⟩ : MM) σ0 (m_is ms) (bi (okB (m_is ms) (m_now ms) (nI f9) (nI t9))) (bi (okB (m_is ms) (m_now ms) (nI f9) (nI t9) ∧ whyPutN (m_now ms) f9 t9 = 0))) tX2_may q2322 (mc_0 _ _ _) rfl rfl dX2_put_46 (by decide) (Nat.le_of_eq (Nat.zero_add _)) (Nat.le_of_ble_eq_true rfl) ?_
          refine A_if_ne (tgt := 54) dX2_put_49 (by decide) (fun c12 => ?_) (fun c12 => ?_)
          · skip
            have c12 := bi_ne0.mp c12
            refine A_aload_n (i := 0) dX2_put_54 rfl rfl ?_
            refine A_callV0E (v := none) (τ := mc b9 (⟨mayT (m_is ms) (bi (okB (m_is ms) (m_now ms) (nI f9) (nI t9))) (bi (okB (m_is ms) (m_now ms) (nI f9) (nI t9) ∧ whyPutN (m_now ms) f9 t9 = 0)), m_is ms, nI (remC u), m_bd ms, m_pc ms, m_pa ms, m_sz ms, m_cu ms, m_st ms, m_tk ms, m_to ms, m_ps ms, m_now ms, m_asd ms, remU (m_und ms) (m_now ms) u, m_sav ms, m_isv ms, m_buf ms, m_grp ms, m_pag ms⟩ : MM) σ0) (c_remembers b9 (⟨mayT (m_is ms) (bi (okB (m_is ms) (m_now ms) (nI f9) (nI t9))) (bi (okB (m_is ms) (m_now ms) (nI f9) (nI t9) ∧ whyPutN (m_now ms) f9 t9 = 0)), m_is ms, nI u, m_bd ms, m_pc ms, m_pa ms, m_sz ms, m_cu ms, m_st ms, m_tk ms, m_to ms, m_ps ms, m_now ms, m_asd ms, m_und ms, m_sav ms, m_isv ms, m_buf ms, m_grp ms, m_pag ms⟩ : MM) σ0 u (by first | assumption | omega)) tX2_remembers q2899 (mc_0 _ _ _) rfl rfl dX2_put_55 (by decide) (Nat.le_of_eq (Nat.zero_add _)) (Nat.le_of_ble_eq_true rfl) ?_
            refine A_aload_n (i := 0) dX2_put_58 rfl rfl ?_
            refine A_iload_n (i := 1) dX2_put_59 rfl rfl ?_
            refine A_iload_n (i := 2) dX2_put_60 rfl rfl ?_
            refine A_callV2E (v := none) (τ := mc b9 (⟨mayT (m_is ms) (bi (okB (m_is ms) (m_now ms) (nI f9) (nI t9))) (bi (okB (m_is ms) (m_now ms) (nI f9) (nI t9) ∧ whyPutN (m_now ms) f9 t9 = 0)), m_is ms, nI (remC u), m_bd ms, m_pc ms, m_pa ms, m_sz ms, m_cu ms, m_st ms, m_tk ms, m_to ms, m_ps ms, putIn (m_now ms) f9 (nI t9), m_asd ms, remU (m_und ms) (m_now ms) u, m_sav ms, m_isv ms, m_buf ms, m_grp ms, m_pag ms⟩ : MM) σ0) (c_putsInto b9 (⟨mayT (m_is ms) (bi (okB (m_is ms) (m_now ms) (nI f9) (nI t9))) (bi (okB (m_is ms) (m_now ms) (nI f9) (nI t9) ∧ whyPutN (m_now ms) f9 t9 = 0)), m_is ms, nI (remC u), m_bd ms, m_pc ms, m_pa ms, m_sz ms, m_cu ms, m_st ms, m_tk ms, m_to ms, m_ps ms, m_now ms, m_asd ms, remU (m_und ms) (m_now ms) u, m_sav ms, m_isv ms, m_buf ms, m_grp ms, m_pag ms⟩ : MM) σ0 f9 (nI t9) (by first | assumption | omega)) tX2_putsInto q2459 (mc_0 _ _ _) rfl rfl dX2_put_61 (by decide) (Nat.le_of_eq (Nat.zero_add _)) (Nat.le_of_ble_eq_true rfl) ?_
            refine A_aload_n (i := 0) dX2_put_64 rfl rfl ?_
            refine A_iload_n (i := 2) dX2_put_65 rfl rfl ?_
            refine A_callV1E (v := some (.int (manyT (putIn (m_now ms) f9 (nI t9)) (nI t9)))) (τ := mc b9 (⟨mayT (m_is ms) (bi (okB (m_is ms) (m_now ms) (nI f9) (nI t9))) (bi (okB (m_is ms) (m_now ms) (nI f9) (nI t9) ∧ whyPutN (m_now ms) f9 t9 = 0)), m_is ms, nI (remC u), m_bd ms, m_pc ms, m_pa ms, m_sz ms, m_cu ms, m_st ms, m_tk ms, m_to ms, m_ps ms, putIn (m_now ms) f9 (nI t9), m_asd ms, remU (m_und ms) (m_now ms) u, m_sav ms, m_isv ms, m_buf ms, m_grp ms, m_pag ms⟩ : MM) σ0) (c_manyIn b9 (⟨mayT (m_is ms) (bi (okB (m_is ms) (m_now ms) (nI f9) (nI t9))) (bi (okB (m_is ms) (m_now ms) (nI f9) (nI t9) ∧ whyPutN (m_now ms) f9 t9 = 0)), m_is ms, nI (remC u), m_bd ms, m_pc ms, m_pa ms, m_sz ms, m_cu ms, m_st ms, m_tk ms, m_to ms, m_ps ms, putIn (m_now ms) f9 (nI t9), m_asd ms, remU (m_und ms) (m_now ms) u, m_sav ms, m_isv ms, m_buf ms, m_grp ms, m_pag ms⟩ : MM) σ0 (nI t9) (by first | assumption | omega)) tX2_manyIn q2448 (mc_0 _ _ _) rfl rfl dX2_put_66 (by decide) (Nat.le_of_eq (Nat.zero_add _)) (Nat.le_of_ble_eq_true rfl) ?_
            exact A_iret dX2_put_69 rfl ⟨by rw [gd, if_pos c12], by simp only [gq_t c12] <;> rfl⟩
          · skip
            have c12 := bi_eq0.mp c12
            refine A_iconst (v := 0) dX2_put_52 (by decide) ?_
            exact A_iret dX2_put_53 rfl ⟨by rw [gd, if_neg c12], by simp only [gq_f c12]⟩
    · skip
      have c7 := bi_ne0.mp c7
      refine A_iconst (v := 1) dX2_put_16 (by decide) ?_
      refine A_goto (tgt := 21) dX2_put_17 (by decide) ?_
      refine A_int (w := bi (okB (m_is ms) (m_now ms) f t)) ((bi_t ⟨c1, c7⟩).symm) ?_
      refine A_istore_n (i := 3) dX2_put_21 rfl (Nat.le_of_ble_eq_true rfl) ?_
      refine A_aload_n (i := 0) dX2_put_22 rfl rfl ?_
      refine A_aload_n (i := 0) dX2_put_23 rfl rfl ?_
      refine M_get 6 (v := .int (m_is ms)) (Nat.le_of_ble_eq_true rfl) q2235 rfl dX2_put_24 ?_
      refine A_iload_n (i := 3) dX2_put_27 rfl rfl ?_
      refine A_iload_n (i := 3) dX2_put_28 rfl rfl ?_
      refine A_if_eq (tgt := 45) dX2_put_29 (by decide) (fun c13 => ?_) (fun c13 => ?_)
      · skip
        have c13 := bi_eq0.mp c13
        refine A_iconst (v := 0) dX2_put_45 (by decide) ?_
        refine A_int (w := bi (okB (m_is ms) (m_now ms) f t ∧ whyPutN (m_now ms) (ix f) (ix t) = 0)) ((bi_f (fun h9 => c13 h9.1)).symm) ?_
        refine A_callV3E (v := some (.int (bi (mayT (m_is ms) (bi (okB (m_is ms) (m_now ms) f t)) (bi (okB (m_is ms) (m_now ms) f t ∧ whyPutN (m_now ms) (ix f) (ix t) = 0)) = 0)))) (τ := mc b9 (⟨mayT (m_is ms) (bi (okB (m_is ms) (m_now ms) f t)) (bi (okB (m_is ms) (m_now ms) f t ∧ whyPutN (m_now ms) (ix f) (ix t) = 0)), m_is ms, nI u, m_bd ms, m_pc ms, m_pa ms, m_sz ms, m_cu ms, m_st ms, m_tk ms, m_to ms, m_ps ms, m_now ms, m_asd ms, m_und ms, m_sav ms, m_isv ms, m_buf ms, m_grp ms, m_pag ms⟩ : MM) σ0) (c_may b9 (⟨m_thr ms, m_is ms, nI u, m_bd ms, m_pc ms, m_pa ms, m_sz ms, m_cu ms, m_st ms, m_tk ms, m_to ms, m_ps ms, m_now ms, m_asd ms, m_und ms, m_sav ms, m_isv ms, m_buf ms, m_grp ms, m_pag ms⟩ : MM) σ0 (m_is ms) (bi (okB (m_is ms) (m_now ms) f t)) (bi (okB (m_is ms) (m_now ms) f t ∧ whyPutN (m_now ms) (ix f) (ix t) = 0))) tX2_may q2322 (mc_0 _ _ _) rfl rfl dX2_put_46 (by decide) (Nat.le_of_eq (Nat.zero_add _)) (Nat.le_of_ble_eq_true rfl) ?_
        refine A_if_ne (tgt := 54) dX2_put_49 (by decide) (fun c14 => ?_) (fun c14 => ?_)
        · skip
          have c14 := bi_ne0.mp c14
          exact (show False from (fun h9 => c13 h9.1) (mayT_z c14)).elim
        · skip
          have c14 := bi_eq0.mp c14
          refine A_iconst (v := 0) dX2_put_52 (by decide) ?_
          exact A_iret dX2_put_53 rfl ⟨by rw [gd, if_neg c14], by simp only [gq_f c14]⟩
      · skip
        have c13 := bi_ne0.mp c13
        obtain ⟨f9, hf9, rfl⟩ := okF_ex h1 c13.1
        obtain ⟨t9, ht9, rfl⟩ := okT_ex h1 c13.2
        have w2 : WFc (putIn (m_now ms) f9 (nI t9)) := (cts_putIn _ _ _).wf h1
        try rw [ixn (show f9 < 2000 by omega)]
        try rw [ixn (show t9 < 2000 by omega)]
        refine A_aload_n (i := 0) dX2_put_32 rfl rfl ?_
        refine A_iload_n (i := 1) dX2_put_33 rfl rfl ?_
        refine A_iload_n (i := 2) dX2_put_34 rfl rfl ?_
        refine A_callV2E (v := some (.int (whyPutN (m_now ms) f9 t9))) (τ := mc b9 (⟨m_thr ms, m_is ms, nI u, m_bd ms, m_pc ms, m_pa ms, m_sz ms, m_cu ms, m_st ms, m_tk ms, m_to ms, m_ps ms, m_now ms, m_asd ms, m_und ms, m_sav ms, m_isv ms, m_buf ms, m_grp ms, m_pag ms⟩ : MM) σ0) (c_whyPut b9 (⟨m_thr ms, m_is ms, nI u, m_bd ms, m_pc ms, m_pa ms, m_sz ms, m_cu ms, m_st ms, m_tk ms, m_to ms, m_ps ms, m_now ms, m_asd ms, m_und ms, m_sav ms, m_isv ms, m_buf ms, m_grp ms, m_pag ms⟩ : MM) σ0 f9 t9 (by first | assumption | omega) (by first | assumption | omega) (by first | assumption | omega)) tX2_whyPut q2432 (mc_0 _ _ _) rfl rfl dX2_put_35 (by decide) (Nat.le_of_eq (Nat.zero_add _)) (Nat.le_of_ble_eq_true rfl) ?_
        refine A_if_ne (tgt := 45) dX2_put_38 (by decide) (fun c15 => ?_) (fun c15 => ?_)
        · skip
          refine A_iconst (v := 0) dX2_put_45 (by decide) ?_
          refine A_int (w := bi (okB (m_is ms) (m_now ms) (nI f9) (nI t9) ∧ whyPutN (m_now ms) f9 t9 = 0)) ((bi_f (fun h9 => by first | exact c15 (h9.2) | exact absurd (h9.2) c15 | exact (h9.2) c15)).symm) ?_
          refine A_callV3E (v := some (.int (bi (mayT (m_is ms) (bi (okB (m_is ms) (m_now ms) (nI f9) (nI t9))) (bi (okB (m_is ms) (m_now ms) (nI f9) (nI t9) ∧ whyPutN (m_now ms) f9 t9 = 0)) = 0)))) (τ := mc b9 (⟨mayT (m_is ms) (bi (okB (m_is ms) (m_now ms) (nI f9) (nI t9))) (bi (okB (m_is ms) (m_now ms) (nI f9) (nI t9) ∧ whyPutN (m_now ms) f9 t9 = 0)), m_is ms, nI u, m_bd ms, m_pc ms, m_pa ms, m_sz ms, m_cu ms, m_st ms, m_tk ms, m_to ms, m_ps ms, m_now ms, m_asd ms, m_und ms, m_sav ms, m_isv ms, m_buf ms, m_grp ms, m_pag ms⟩ : MM) σ0) (c_may b9 (⟨m_thr ms, m_is ms, nI u, m_bd ms, m_pc ms, m_pa ms, m_sz ms, m_cu ms, m_st ms, m_tk ms, m_to ms, m_ps ms, m_now ms, m_asd ms, m_und ms, m_sav ms, m_isv ms, m_buf ms, m_grp ms, m_pag ms⟩ : MM) σ0 (m_is ms) (bi (okB (m_is ms) (m_now ms) (nI f9) (nI t9))) (bi (okB (m_is ms) (m_now ms) (nI f9) (nI t9) ∧ whyPutN (m_now ms) f9 t9 = 0))) tX2_may q2322 (mc_0 _ _ _) rfl rfl dX2_put_46 (by decide) (Nat.le_of_eq (Nat.zero_add _)) (Nat.le_of_ble_eq_true rfl) ?_
          refine A_if_ne (tgt := 54) dX2_put_49 (by decide) (fun c16 => ?_) (fun c16 => ?_)
          · skip
            have c16 := bi_ne0.mp c16
            exact (show False from (fun h9 => by first | exact c15 (h9.2) | exact absurd (h9.2) c15 | exact (h9.2) c15) (mayT_z c16)).elim
          · skip
            have c16 := bi_eq0.mp c16
            refine A_iconst (v := 0) dX2_put_52 (by decide) ?_
            exact A_iret dX2_put_53 rfl ⟨by rw [gd, if_neg c16], by simp only [gq_f c16]⟩
        · skip
          refine A_iconst (v := 1) dX2_put_41 (by decide) ?_
          refine A_goto (tgt := 46) dX2_put_42 (by decide) ?_
          refine A_int (w := bi (okB (m_is ms) (m_now ms) (nI f9) (nI t9) ∧ whyPutN (m_now ms) f9 t9 = 0)) ((bi_t ⟨c13, c15⟩).symm) ?_
          refine A_callV3E (v := some (.int (bi (mayT (m_is ms) (bi (okB (m_is ms) (m_now ms) (nI f9) (nI t9))) (bi (okB (m_is ms) (m_now ms) (nI f9) (nI t9) ∧ whyPutN (m_now ms) f9 t9 = 0)) = 0)))) (τ := mc b9 (⟨mayT (m_is ms) (bi (okB (m_is ms) (m_now ms) (nI f9) (nI t9))) (bi (okB (m_is ms) (m_now ms) (nI f9) (nI t9) ∧ whyPutN (m_now ms) f9 t9 = 0)), m_is ms, nI u, m_bd ms, m_pc ms, m_pa ms, m_sz ms, m_cu ms, m_st ms, m_tk ms, m_to ms, m_ps ms, m_now ms, m_asd ms, m_und ms, m_sav ms, m_isv ms, m_buf ms, m_grp ms, m_pag ms⟩ : MM) σ0) (c_may b9 (⟨m_thr ms, m_is ms, nI u, m_bd ms, m_pc ms, m_pa ms, m_sz ms, m_cu ms, m_st ms, m_tk ms, m_to ms, m_ps ms, m_now ms, m_asd ms, m_und ms, m_sav ms, m_isv ms, m_buf ms, m_grp ms, m_pag ms⟩ : MM) σ0 (m_is ms) (bi (okB (m_is ms) (m_now ms) (nI f9) (nI t9))) (bi (okB (m_is ms) (m_now ms) (nI f9) (nI t9) ∧ whyPutN (m_now ms) f9 t9 = 0))) tX2_may q2322 (mc_0 _ _ _) rfl rfl dX2_put_46 (by decide) (Nat.le_of_eq (Nat.zero_add _)) (Nat.le_of_ble_eq_true rfl) ?_
          refine A_if_ne (tgt := 54) dX2_put_49 (by decide) (fun c17 => ?_) (fun c17 => ?_)
          · skip
            have c17 := bi_ne0.mp c17
            refine A_aload_n (i := 0) dX2_put_54 rfl rfl ?_
            refine A_callV0E (v := none) (τ := mc b9 (⟨mayT (m_is ms) (bi (okB (m_is ms) (m_now ms) (nI f9) (nI t9))) (bi (okB (m_is ms) (m_now ms) (nI f9) (nI t9) ∧ whyPutN (m_now ms) f9 t9 = 0)), m_is ms, nI (remC u), m_bd ms, m_pc ms, m_pa ms, m_sz ms, m_cu ms, m_st ms, m_tk ms, m_to ms, m_ps ms, m_now ms, m_asd ms, remU (m_und ms) (m_now ms) u, m_sav ms, m_isv ms, m_buf ms, m_grp ms, m_pag ms⟩ : MM) σ0) (c_remembers b9 (⟨mayT (m_is ms) (bi (okB (m_is ms) (m_now ms) (nI f9) (nI t9))) (bi (okB (m_is ms) (m_now ms) (nI f9) (nI t9) ∧ whyPutN (m_now ms) f9 t9 = 0)), m_is ms, nI u, m_bd ms, m_pc ms, m_pa ms, m_sz ms, m_cu ms, m_st ms, m_tk ms, m_to ms, m_ps ms, m_now ms, m_asd ms, m_und ms, m_sav ms, m_isv ms, m_buf ms, m_grp ms, m_pag ms⟩ : MM) σ0 u (by first | assumption | omega)) tX2_remembers q2899 (mc_0 _ _ _) rfl rfl dX2_put_55 (by decide) (Nat.le_of_eq (Nat.zero_add _)) (Nat.le_of_ble_eq_true rfl) ?_
            refine A_aload_n (i := 0) dX2_put_58 rfl rfl ?_
            refine A_iload_n (i := 1) dX2_put_59 rfl rfl ?_
            refine A_iload_n (i := 2) dX2_put_60 rfl rfl ?_
            refine A_callV2E (v := none) (τ := mc b9 (⟨mayT (m_is ms) (bi (okB (m_is ms) (m_now ms) (nI f9) (nI t9))) (bi (okB (m_is ms) (m_now ms) (nI f9) (nI t9) ∧ whyPutN (m_now ms) f9 t9 = 0)), m_is ms, nI (remC u), m_bd ms, m_pc ms, m_pa ms, m_sz ms, m_cu ms, m_st ms, m_tk ms, m_to ms, m_ps ms, putIn (m_now ms) f9 (nI t9), m_asd ms, remU (m_und ms) (m_now ms) u, m_sav ms, m_isv ms, m_buf ms, m_grp ms, m_pag ms⟩ : MM) σ0) (c_putsInto b9 (⟨mayT (m_is ms) (bi (okB (m_is ms) (m_now ms) (nI f9) (nI t9))) (bi (okB (m_is ms) (m_now ms) (nI f9) (nI t9) ∧ whyPutN (m_now ms) f9 t9 = 0)), m_is ms, nI (remC u), m_bd ms, m_pc ms, m_pa ms, m_sz ms, m_cu ms, m_st ms, m_tk ms, m_to ms, m_ps ms, m_now ms, m_asd ms, remU (m_und ms) (m_now ms) u, m_sav ms, m_isv ms, m_buf ms, m_grp ms, m_pag ms⟩ : MM) σ0 f9 (nI t9) (by first | assumption | omega)) tX2_putsInto q2459 (mc_0 _ _ _) rfl rfl dX2_put_61 (by decide) (Nat.le_of_eq (Nat.zero_add _)) (Nat.le_of_ble_eq_true rfl) ?_
            refine A_aload_n (i := 0) dX2_put_64 rfl rfl ?_
            refine A_iload_n (i := 2) dX2_put_65 rfl rfl ?_
            refine A_callV1E (v := some (.int (manyT (putIn (m_now ms) f9 (nI t9)) (nI t9)))) (τ := mc b9 (⟨mayT (m_is ms) (bi (okB (m_is ms) (m_now ms) (nI f9) (nI t9))) (bi (okB (m_is ms) (m_now ms) (nI f9) (nI t9) ∧ whyPutN (m_now ms) f9 t9 = 0)), m_is ms, nI (remC u), m_bd ms, m_pc ms, m_pa ms, m_sz ms, m_cu ms, m_st ms, m_tk ms, m_to ms, m_ps ms, putIn (m_now ms) f9 (nI t9), m_asd ms, remU (m_und ms) (m_now ms) u, m_sav ms, m_isv ms, m_buf ms, m_grp ms, m_pag ms⟩ : MM) σ0) (c_manyIn b9 (⟨mayT (m_is ms) (bi (okB (m_is ms) (m_now ms) (nI f9) (nI t9))) (bi (okB (m_is ms) (m_now ms) (nI f9) (nI t9) ∧ whyPutN (m_now ms) f9 t9 = 0)), m_is ms, nI (remC u), m_bd ms, m_pc ms, m_pa ms, m_sz ms, m_cu ms, m_st ms, m_tk ms, m_to ms, m_ps ms, putIn (m_now ms) f9 (nI t9), m_asd ms, remU (m_und ms) (m_now ms) u, m_sav ms, m_isv ms, m_buf ms, m_grp ms, m_pag ms⟩ : MM) σ0 (nI t9) (by first | assumption | omega)) tX2_manyIn q2448 (mc_0 _ _ _) rfl rfl dX2_put_66 (by decide) (Nat.le_of_eq (Nat.zero_add _)) (Nat.le_of_ble_eq_true rfl) ?_
            exact A_iret dX2_put_69 rfl ⟨by rw [gd, if_pos c17], by simp only [gq_t c17] <;> rfl⟩
          · skip
            have c17 := bi_eq0.mp c17
            refine A_iconst (v := 0) dX2_put_52 (by decide) ?_
            exact A_iret dX2_put_53 rfl ⟨by rw [gd, if_neg c17], by simp only [gq_f c17]⟩
theorem c_wash {l : Launch} {g : GC} (b9 : Nat) (ms : MM) (σ0 : AH) (u : Nat) (t : Int32) (h : Int32) (h1 : WFc (m_now ms)) (h2 : u ≤ 8) : AMet l g mX2_wash 7 0 [.ref b9, .int t, .int h] (mc b9 (⟨m_thr ms, m_is ms, nI u, m_bd ms, m_pc ms, m_pa ms, m_sz ms, m_cu ms, m_st ms, m_tk ms, m_to ms, m_ps ms, m_now ms, m_asd ms, m_und ms, m_sav ms, m_isv ms, m_buf ms, m_grp ms, m_pag ms⟩ : MM) σ0) (A_eq (some (.int (gd (mayT (m_is ms) (bi (okT (m_is ms) (m_now ms) t)) (bi (okT (m_is ms) (m_now ms) t ∧ inR h 0 3 ∧ whyWashN (m_now ms) t h = 0))) (stainBy (m_now ms) t h)))) (mc b9 (⟨mayT (m_is ms) (bi (okT (m_is ms) (m_now ms) t)) (bi (okT (m_is ms) (m_now ms) t ∧ inR h 0 3 ∧ whyWashN (m_now ms) t h = 0)), m_is ms, nI (gq (mayT (m_is ms) (bi (okT (m_is ms) (m_now ms) t)) (bi (okT (m_is ms) (m_now ms) t ∧ inR h 0 3 ∧ whyWashN (m_now ms) t h = 0))) (remC u) u), m_bd ms, m_pc ms, m_pa ms, m_sz ms, m_cu ms, m_st ms, m_tk ms, m_to ms, m_ps ms, gq (mayT (m_is ms) (bi (okT (m_is ms) (m_now ms) t)) (bi (okT (m_is ms) (m_now ms) t ∧ inR h 0 3 ∧ whyWashN (m_now ms) t h = 0))) (washN (m_now ms) t h) (m_now ms), m_asd ms, gq (mayT (m_is ms) (bi (okT (m_is ms) (m_now ms) t)) (bi (okT (m_is ms) (m_now ms) t ∧ inR h 0 3 ∧ whyWashN (m_now ms) t h = 0))) (remU (m_und ms) (m_now ms) u) (m_und ms), m_sav ms, m_isv ms, m_buf ms, m_grp ms, m_pag ms⟩ : MM) σ0)) A_no := by
  refine A_of rfl (by decide) (Nat.le_of_ble_eq_true rfl) (L0 := [(0, .ref b9), (1, .int t), (2, .int h)]) rfl ?_
  refine A_aload_n (i := 0) dX2_wash_0 rfl rfl ?_
  refine A_iload_n (i := 1) dX2_wash_1 rfl rfl ?_
  refine A_callV1E (v := some (.int (bi (okT (m_is ms) (m_now ms) t)))) (τ := mc b9 (⟨m_thr ms, m_is ms, nI u, m_bd ms, m_pc ms, m_pa ms, m_sz ms, m_cu ms, m_st ms, m_tk ms, m_to ms, m_ps ms, m_now ms, m_asd ms, m_und ms, m_sav ms, m_isv ms, m_buf ms, m_grp ms, m_pag ms⟩ : MM) σ0) (c_isTub b9 (⟨m_thr ms, m_is ms, nI u, m_bd ms, m_pc ms, m_pa ms, m_sz ms, m_cu ms, m_st ms, m_tk ms, m_to ms, m_ps ms, m_now ms, m_asd ms, m_und ms, m_sav ms, m_isv ms, m_buf ms, m_grp ms, m_pag ms⟩ : MM) σ0 t) tX2_isTub q2637 (mc_0 _ _ _) rfl rfl dX2_wash_2 (by decide) (Nat.le_of_eq (Nat.zero_add _)) (Nat.le_of_ble_eq_true rfl) ?_
  refine A_istore_n (i := 3) dX2_wash_5 rfl (Nat.le_of_ble_eq_true rfl) ?_
  refine A_aload_n (i := 0) dX2_wash_6 rfl rfl ?_
  refine A_aload_n (i := 0) dX2_wash_7 rfl rfl ?_
  refine M_get 6 (v := .int (m_is ms)) (Nat.le_of_ble_eq_true rfl) q2235 rfl dX2_wash_8 ?_
  refine A_iload_n (i := 3) dX2_wash_11 rfl rfl ?_
  refine A_iload_n (i := 3) dX2_wash_12 rfl rfl ?_
  refine A_if_eq (tgt := 36) dX2_wash_13 (by decide) (fun c1 => ?_) (fun c1 => ?_)
  · skip
    have c1 := bi_eq0.mp c1
    refine A_iconst (v := 0) dX2_wash_36 (by decide) ?_
    refine A_int (w := bi (okT (m_is ms) (m_now ms) t ∧ inR h 0 3 ∧ whyWashN (m_now ms) t h = 0)) ((bi_f (fun h9 => c1 h9.1)).symm) ?_
    refine A_callV3E (v := some (.int (bi (mayT (m_is ms) (bi (okT (m_is ms) (m_now ms) t)) (bi (okT (m_is ms) (m_now ms) t ∧ inR h 0 3 ∧ whyWashN (m_now ms) t h = 0)) = 0)))) (τ := mc b9 (⟨mayT (m_is ms) (bi (okT (m_is ms) (m_now ms) t)) (bi (okT (m_is ms) (m_now ms) t ∧ inR h 0 3 ∧ whyWashN (m_now ms) t h = 0)), m_is ms, nI u, m_bd ms, m_pc ms, m_pa ms, m_sz ms, m_cu ms, m_st ms, m_tk ms, m_to ms, m_ps ms, m_now ms, m_asd ms, m_und ms, m_sav ms, m_isv ms, m_buf ms, m_grp ms, m_pag ms⟩ : MM) σ0) (c_may b9 (⟨m_thr ms, m_is ms, nI u, m_bd ms, m_pc ms, m_pa ms, m_sz ms, m_cu ms, m_st ms, m_tk ms, m_to ms, m_ps ms, m_now ms, m_asd ms, m_und ms, m_sav ms, m_isv ms, m_buf ms, m_grp ms, m_pag ms⟩ : MM) σ0 (m_is ms) (bi (okT (m_is ms) (m_now ms) t)) (bi (okT (m_is ms) (m_now ms) t ∧ inR h 0 3 ∧ whyWashN (m_now ms) t h = 0))) tX2_may q2322 (mc_0 _ _ _) rfl rfl dX2_wash_37 (by decide) (Nat.le_of_eq (Nat.zero_add _)) (Nat.le_of_ble_eq_true rfl) ?_
    refine A_if_ne (tgt := 45) dX2_wash_40 (by decide) (fun c2 => ?_) (fun c2 => ?_)
    · skip
      have c2 := bi_ne0.mp c2
      exact (show False from (fun h9 => c1 h9.1) (mayT_z c2)).elim
    · skip
      have c2 := bi_eq0.mp c2
      refine A_iconst (v := 0) dX2_wash_43 (by decide) ?_
      exact A_iret dX2_wash_44 rfl ⟨by rw [gd, if_neg c2], by simp only [gq_f c2]⟩
  · skip
    have c1 := bi_ne0.mp c1
    refine A_iload_n (i := 2) dX2_wash_16 rfl rfl ?_
    refine A_callS1E (v := some (.int (bi (inR h 0 3)))) (τ := mc b9 (⟨m_thr ms, m_is ms, nI u, m_bd ms, m_pc ms, m_pa ms, m_sz ms, m_cu ms, m_st ms, m_tk ms, m_to ms, m_ps ms, m_now ms, m_asd ms, m_und ms, m_sav ms, m_isv ms, m_buf ms, m_grp ms, m_pag ms⟩ : MM) σ0) (c_isHeat b9 (⟨m_thr ms, m_is ms, nI u, m_bd ms, m_pc ms, m_pa ms, m_sz ms, m_cu ms, m_st ms, m_tk ms, m_to ms, m_ps ms, m_now ms, m_asd ms, m_und ms, m_sav ms, m_isv ms, m_buf ms, m_grp ms, m_pag ms⟩ : MM) σ0 h) tX2_isHeat q2714 dX2_wash_17 (by decide) (Nat.le_of_eq (Nat.zero_add _)) (Nat.le_of_ble_eq_true rfl) ?_
    refine A_if_eq (tgt := 36) dX2_wash_20 (by decide) (fun c3 => ?_) (fun c3 => ?_)
    · skip
      have c3 := bi_eq0.mp c3
      refine A_iconst (v := 0) dX2_wash_36 (by decide) ?_
      refine A_int (w := bi (okT (m_is ms) (m_now ms) t ∧ inR h 0 3 ∧ whyWashN (m_now ms) t h = 0)) ((bi_f (fun h9 => by first | exact c3 (h9.2.1) | exact absurd (h9.2.1) c3 | exact (h9.2.1) c3)).symm) ?_
      refine A_callV3E (v := some (.int (bi (mayT (m_is ms) (bi (okT (m_is ms) (m_now ms) t)) (bi (okT (m_is ms) (m_now ms) t ∧ inR h 0 3 ∧ whyWashN (m_now ms) t h = 0)) = 0)))) (τ := mc b9 (⟨mayT (m_is ms) (bi (okT (m_is ms) (m_now ms) t)) (bi (okT (m_is ms) (m_now ms) t ∧ inR h 0 3 ∧ whyWashN (m_now ms) t h = 0)), m_is ms, nI u, m_bd ms, m_pc ms, m_pa ms, m_sz ms, m_cu ms, m_st ms, m_tk ms, m_to ms, m_ps ms, m_now ms, m_asd ms, m_und ms, m_sav ms, m_isv ms, m_buf ms, m_grp ms, m_pag ms⟩ : MM) σ0) (c_may b9 (⟨m_thr ms, m_is ms, nI u, m_bd ms, m_pc ms, m_pa ms, m_sz ms, m_cu ms, m_st ms, m_tk ms, m_to ms, m_ps ms, m_now ms, m_asd ms, m_und ms, m_sav ms, m_isv ms, m_buf ms, m_grp ms, m_pag ms⟩ : MM) σ0 (m_is ms) (bi (okT (m_is ms) (m_now ms) t)) (bi (okT (m_is ms) (m_now ms) t ∧ inR h 0 3 ∧ whyWashN (m_now ms) t h = 0))) tX2_may q2322 (mc_0 _ _ _) rfl rfl dX2_wash_37 (by decide) (Nat.le_of_eq (Nat.zero_add _)) (Nat.le_of_ble_eq_true rfl) ?_
      refine A_if_ne (tgt := 45) dX2_wash_40 (by decide) (fun c4 => ?_) (fun c4 => ?_)
      · skip
        have c4 := bi_ne0.mp c4
        exact (show False from (fun h9 => by first | exact c3 (h9.2.1) | exact absurd (h9.2.1) c3 | exact (h9.2.1) c3) (mayT_z c4)).elim
      · skip
        have c4 := bi_eq0.mp c4
        refine A_iconst (v := 0) dX2_wash_43 (by decide) ?_
        exact A_iret dX2_wash_44 rfl ⟨by rw [gd, if_neg c4], by simp only [gq_f c4]⟩
    · skip
      have c3 := bi_ne0.mp c3
      refine A_aload_n (i := 0) dX2_wash_23 rfl rfl ?_
      refine A_iload_n (i := 1) dX2_wash_24 rfl rfl ?_
      refine A_iload_n (i := 2) dX2_wash_25 rfl rfl ?_
      refine A_callV2E (v := some (.int (whyWashN (m_now ms) t h))) (τ := mc b9 (⟨m_thr ms, m_is ms, nI u, m_bd ms, m_pc ms, m_pa ms, m_sz ms, m_cu ms, m_st ms, m_tk ms, m_to ms, m_ps ms, m_now ms, m_asd ms, m_und ms, m_sav ms, m_isv ms, m_buf ms, m_grp ms, m_pag ms⟩ : MM) σ0) (c_whyWash b9 (⟨m_thr ms, m_is ms, nI u, m_bd ms, m_pc ms, m_pa ms, m_sz ms, m_cu ms, m_st ms, m_tk ms, m_to ms, m_ps ms, m_now ms, m_asd ms, m_und ms, m_sav ms, m_isv ms, m_buf ms, m_grp ms, m_pag ms⟩ : MM) σ0 t h (by first | assumption | omega)) tX2_whyWash q2468 (mc_0 _ _ _) rfl rfl dX2_wash_26 (by decide) (Nat.le_of_eq (Nat.zero_add _)) (Nat.le_of_ble_eq_true rfl) ?_
      refine A_if_ne (tgt := 36) dX2_wash_29 (by decide) (fun c5 => ?_) (fun c5 => ?_)
      · skip
        refine A_iconst (v := 0) dX2_wash_36 (by decide) ?_
        refine A_int (w := bi (okT (m_is ms) (m_now ms) t ∧ inR h 0 3 ∧ whyWashN (m_now ms) t h = 0)) ((bi_f (fun h9 => by first | exact c5 (h9.2.2) | exact absurd (h9.2.2) c5 | exact (h9.2.2) c5)).symm) ?_
        refine A_callV3E (v := some (.int (bi (mayT (m_is ms) (bi (okT (m_is ms) (m_now ms) t)) (bi (okT (m_is ms) (m_now ms) t ∧ inR h 0 3 ∧ whyWashN (m_now ms) t h = 0)) = 0)))) (τ := mc b9 (⟨mayT (m_is ms) (bi (okT (m_is ms) (m_now ms) t)) (bi (okT (m_is ms) (m_now ms) t ∧ inR h 0 3 ∧ whyWashN (m_now ms) t h = 0)), m_is ms, nI u, m_bd ms, m_pc ms, m_pa ms, m_sz ms, m_cu ms, m_st ms, m_tk ms, m_to ms, m_ps ms, m_now ms, m_asd ms, m_und ms, m_sav ms, m_isv ms, m_buf ms, m_grp ms, m_pag ms⟩ : MM) σ0) (c_may b9 (⟨m_thr ms, m_is ms, nI u, m_bd ms, m_pc ms, m_pa ms, m_sz ms, m_cu ms, m_st ms, m_tk ms, m_to ms, m_ps ms, m_now ms, m_asd ms, m_und ms, m_sav ms, m_isv ms, m_buf ms, m_grp ms, m_pag ms⟩ : MM) σ0 (m_is ms) (bi (okT (m_is ms) (m_now ms) t)) (bi (okT (m_is ms) (m_now ms) t ∧ inR h 0 3 ∧ whyWashN (m_now ms) t h = 0))) tX2_may q2322 (mc_0 _ _ _) rfl rfl dX2_wash_37 (by decide) (Nat.le_of_eq (Nat.zero_add _)) (Nat.le_of_ble_eq_true rfl) ?_
        refine A_if_ne (tgt := 45) dX2_wash_40 (by decide) (fun c6 => ?_) (fun c6 => ?_)
        · skip
          have c6 := bi_ne0.mp c6
          exact (show False from (fun h9 => by first | exact c5 (h9.2.2) | exact absurd (h9.2.2) c5 | exact (h9.2.2) c5) (mayT_z c6)).elim
        · skip
          have c6 := bi_eq0.mp c6
          refine A_iconst (v := 0) dX2_wash_43 (by decide) ?_
          exact A_iret dX2_wash_44 rfl ⟨by rw [gd, if_neg c6], by simp only [gq_f c6]⟩
      · skip
        refine A_iconst (v := 1) dX2_wash_32 (by decide) ?_
        refine A_goto (tgt := 37) dX2_wash_33 (by decide) ?_
        refine A_int (w := bi (okT (m_is ms) (m_now ms) t ∧ inR h 0 3 ∧ whyWashN (m_now ms) t h = 0)) ((bi_t ⟨c1, c3, c5⟩).symm) ?_
        refine A_callV3E (v := some (.int (bi (mayT (m_is ms) (bi (okT (m_is ms) (m_now ms) t)) (bi (okT (m_is ms) (m_now ms) t ∧ inR h 0 3 ∧ whyWashN (m_now ms) t h = 0)) = 0)))) (τ := mc b9 (⟨mayT (m_is ms) (bi (okT (m_is ms) (m_now ms) t)) (bi (okT (m_is ms) (m_now ms) t ∧ inR h 0 3 ∧ whyWashN (m_now ms) t h = 0)), m_is ms, nI u, m_bd ms, m_pc ms, m_pa ms, m_sz ms, m_cu ms, m_st ms, m_tk ms, m_to ms, m_ps ms, m_now ms, m_asd ms, m_und ms, m_sav ms, m_isv ms, m_buf ms, m_grp ms, m_pag ms⟩ : MM) σ0) (c_may b9 (⟨m_thr ms, m_is ms, nI u, m_bd ms, m_pc ms, m_pa ms, m_sz ms, m_cu ms, m_st ms, m_tk ms, m_to ms, m_ps ms, m_now ms, m_asd ms, m_und ms, m_sav ms, m_isv ms, m_buf ms, m_grp ms, m_pag ms⟩ : MM) σ0 (m_is ms) (bi (okT (m_is ms) (m_now ms) t)) (bi (okT (m_is ms) (m_now ms) t ∧ inR h 0 3 ∧ whyWashN (m_now ms) t h = 0))) tX2_may q2322 (mc_0 _ _ _) rfl rfl dX2_wash_37 (by decide) (Nat.le_of_eq (Nat.zero_add _)) (Nat.le_of_ble_eq_true rfl) ?_
        refine A_if_ne (tgt := 45) dX2_wash_40 (by decide) (fun c7 => ?_) (fun c7 => ?_)
        · skip
          have c7 := bi_ne0.mp c7
          refine A_aload_n (i := 0) dX2_wash_45 rfl rfl ?_
          refine A_callV0E (v := none) (τ := mc b9 (⟨mayT (m_is ms) (bi (okT (m_is ms) (m_now ms) t)) (bi (okT (m_is ms) (m_now ms) t ∧ inR h 0 3 ∧ whyWashN (m_now ms) t h = 0)), m_is ms, nI (remC u), m_bd ms, m_pc ms, m_pa ms, m_sz ms, m_cu ms, m_st ms, m_tk ms, m_to ms, m_ps ms, m_now ms, m_asd ms, remU (m_und ms) (m_now ms) u, m_sav ms, m_isv ms, m_buf ms, m_grp ms, m_pag ms⟩ : MM) σ0) (c_remembers b9 (⟨mayT (m_is ms) (bi (okT (m_is ms) (m_now ms) t)) (bi (okT (m_is ms) (m_now ms) t ∧ inR h 0 3 ∧ whyWashN (m_now ms) t h = 0)), m_is ms, nI u, m_bd ms, m_pc ms, m_pa ms, m_sz ms, m_cu ms, m_st ms, m_tk ms, m_to ms, m_ps ms, m_now ms, m_asd ms, m_und ms, m_sav ms, m_isv ms, m_buf ms, m_grp ms, m_pag ms⟩ : MM) σ0 u (by first | assumption | omega)) tX2_remembers q2899 (mc_0 _ _ _) rfl rfl dX2_wash_46 (by decide) (Nat.le_of_eq (Nat.zero_add _)) (Nat.le_of_ble_eq_true rfl) ?_
          refine A_aload_n (i := 0) dX2_wash_49 rfl rfl ?_
          refine A_iload_n (i := 1) dX2_wash_50 rfl rfl ?_
          refine A_iload_n (i := 2) dX2_wash_51 rfl rfl ?_
          refine A_callV2E (v := some (.int (stainBy (m_now ms) t h))) (τ := mc b9 (⟨mayT (m_is ms) (bi (okT (m_is ms) (m_now ms) t)) (bi (okT (m_is ms) (m_now ms) t ∧ inR h 0 3 ∧ whyWashN (m_now ms) t h = 0)), m_is ms, nI (remC u), m_bd ms, m_pc ms, m_pa ms, m_sz ms, m_cu ms, m_st ms, m_tk ms, m_to ms, m_ps ms, washN (m_now ms) t h, m_asd ms, remU (m_und ms) (m_now ms) u, m_sav ms, m_isv ms, m_buf ms, m_grp ms, m_pag ms⟩ : MM) σ0) (c_washes b9 (⟨mayT (m_is ms) (bi (okT (m_is ms) (m_now ms) t)) (bi (okT (m_is ms) (m_now ms) t ∧ inR h 0 3 ∧ whyWashN (m_now ms) t h = 0)), m_is ms, nI (remC u), m_bd ms, m_pc ms, m_pa ms, m_sz ms, m_cu ms, m_st ms, m_tk ms, m_to ms, m_ps ms, m_now ms, m_asd ms, remU (m_und ms) (m_now ms) u, m_sav ms, m_isv ms, m_buf ms, m_grp ms, m_pag ms⟩ : MM) σ0 t h (by first | assumption | omega)) tX2_washes q2477 (mc_0 _ _ _) rfl rfl dX2_wash_52 (by decide) (Nat.le_of_eq (Nat.zero_add _)) (Nat.le_of_ble_eq_true rfl) ?_
          exact A_iret dX2_wash_55 rfl ⟨by rw [gd, if_pos c7], by simp only [gq_t c7] <;> rfl⟩
        · skip
          have c7 := bi_eq0.mp c7
          refine A_iconst (v := 0) dX2_wash_43 (by decide) ?_
          exact A_iret dX2_wash_44 rfl ⟨by rw [gd, if_neg c7], by simp only [gq_f c7]⟩
theorem c_hang {l : Launch} {g : GC} (b9 : Nat) (ms : MM) (σ0 : AH) (u : Nat) (f : Int32) (h1 : WFc (m_now ms)) (h2 : u ≤ 8) : AMet l g mX2_hang 6 0 [.ref b9, .int f] (mc b9 (⟨m_thr ms, m_is ms, nI u, m_bd ms, m_pc ms, m_pa ms, m_sz ms, m_cu ms, m_st ms, m_tk ms, m_to ms, m_ps ms, m_now ms, m_asd ms, m_und ms, m_sav ms, m_isv ms, m_buf ms, m_grp ms, m_pag ms⟩ : MM) σ0) (A_eq (some (.int (gd (mayT (m_is ms) (bi (okF (m_is ms) (m_now ms) f)) (bi (okF (m_is ms) (m_now ms) f ∧ canHangN (m_now ms) (ix f)))) (fl (goTo (m_now ms) (ix f) 2 (freeN (m_now ms))) (ix f) 9)))) (mc b9 (⟨mayT (m_is ms) (bi (okF (m_is ms) (m_now ms) f)) (bi (okF (m_is ms) (m_now ms) f ∧ canHangN (m_now ms) (ix f))), m_is ms, nI (gq (mayT (m_is ms) (bi (okF (m_is ms) (m_now ms) f)) (bi (okF (m_is ms) (m_now ms) f ∧ canHangN (m_now ms) (ix f)))) (remC u) u), m_bd ms, m_pc ms, m_pa ms, m_sz ms, m_cu ms, m_st ms, m_tk ms, m_to ms, m_ps ms, gq (mayT (m_is ms) (bi (okF (m_is ms) (m_now ms) f)) (bi (okF (m_is ms) (m_now ms) f ∧ canHangN (m_now ms) (ix f)))) (goTo (m_now ms) (ix f) 2 (freeN (m_now ms))) (m_now ms), m_asd ms, gq (mayT (m_is ms) (bi (okF (m_is ms) (m_now ms) f)) (bi (okF (m_is ms) (m_now ms) f ∧ canHangN (m_now ms) (ix f)))) (remU (m_und ms) (m_now ms) u) (m_und ms), m_sav ms, m_isv ms, m_buf ms, m_grp ms, m_pag ms⟩ : MM) σ0)) A_no := by
  refine A_of rfl (by decide) (Nat.le_of_ble_eq_true rfl) (L0 := [(0, .ref b9), (1, .int f)]) rfl ?_
  have hF := h1.2.2.2.2.2
  have hC := h1.1.2
  refine A_aload_n (i := 0) dX2_hang_0 rfl rfl ?_
  refine A_iload_n (i := 1) dX2_hang_1 rfl rfl ?_
  refine A_callV1E (v := some (.int (bi (okF (m_is ms) (m_now ms) f)))) (τ := mc b9 (⟨m_thr ms, m_is ms, nI u, m_bd ms, m_pc ms, m_pa ms, m_sz ms, m_cu ms, m_st ms, m_tk ms, m_to ms, m_ps ms, m_now ms, m_asd ms, m_und ms, m_sav ms, m_isv ms, m_buf ms, m_grp ms, m_pag ms⟩ : MM) σ0) (c_isFlag b9 (⟨m_thr ms, m_is ms, nI u, m_bd ms, m_pc ms, m_pa ms, m_sz ms, m_cu ms, m_st ms, m_tk ms, m_to ms, m_ps ms, m_now ms, m_asd ms, m_und ms, m_sav ms, m_isv ms, m_buf ms, m_grp ms, m_pag ms⟩ : MM) σ0 f) tX2_isFlag q2629 (mc_0 _ _ _) rfl rfl dX2_hang_2 (by decide) (Nat.le_of_eq (Nat.zero_add _)) (Nat.le_of_ble_eq_true rfl) ?_
  refine A_istore_n (i := 2) dX2_hang_5 rfl (Nat.le_of_ble_eq_true rfl) ?_
  refine A_aload_n (i := 0) dX2_hang_6 rfl rfl ?_
  refine A_aload_n (i := 0) dX2_hang_7 rfl rfl ?_
  refine M_get 6 (v := .int (m_is ms)) (Nat.le_of_ble_eq_true rfl) q2235 rfl dX2_hang_8 ?_
  refine A_iload_n (i := 2) dX2_hang_11 rfl rfl ?_
  refine A_iload_n (i := 2) dX2_hang_12 rfl rfl ?_
  refine A_if_eq (tgt := 28) dX2_hang_13 (by decide) (fun c1 => ?_) (fun c1 => ?_)
  · skip
    have c1 := bi_eq0.mp c1
    refine A_iconst (v := 0) dX2_hang_28 (by decide) ?_
    refine A_int (w := bi (okF (m_is ms) (m_now ms) f ∧ canHangN (m_now ms) (ix f))) ((bi_f (fun h9 => c1 h9.1)).symm) ?_
    refine A_callV3E (v := some (.int (bi (mayT (m_is ms) (bi (okF (m_is ms) (m_now ms) f)) (bi (okF (m_is ms) (m_now ms) f ∧ canHangN (m_now ms) (ix f))) = 0)))) (τ := mc b9 (⟨mayT (m_is ms) (bi (okF (m_is ms) (m_now ms) f)) (bi (okF (m_is ms) (m_now ms) f ∧ canHangN (m_now ms) (ix f))), m_is ms, nI u, m_bd ms, m_pc ms, m_pa ms, m_sz ms, m_cu ms, m_st ms, m_tk ms, m_to ms, m_ps ms, m_now ms, m_asd ms, m_und ms, m_sav ms, m_isv ms, m_buf ms, m_grp ms, m_pag ms⟩ : MM) σ0) (c_may b9 (⟨m_thr ms, m_is ms, nI u, m_bd ms, m_pc ms, m_pa ms, m_sz ms, m_cu ms, m_st ms, m_tk ms, m_to ms, m_ps ms, m_now ms, m_asd ms, m_und ms, m_sav ms, m_isv ms, m_buf ms, m_grp ms, m_pag ms⟩ : MM) σ0 (m_is ms) (bi (okF (m_is ms) (m_now ms) f)) (bi (okF (m_is ms) (m_now ms) f ∧ canHangN (m_now ms) (ix f)))) tX2_may q2322 (mc_0 _ _ _) rfl rfl dX2_hang_29 (by decide) (Nat.le_of_eq (Nat.zero_add _)) (Nat.le_of_ble_eq_true rfl) ?_
    refine A_if_ne (tgt := 37) dX2_hang_32 (by decide) (fun c2 => ?_) (fun c2 => ?_)
    · skip
      have c2 := bi_ne0.mp c2
      exact (show False from (fun h9 => c1 h9.1) (mayT_z c2)).elim
    · skip
      have c2 := bi_eq0.mp c2
      refine A_iconst (v := 0) dX2_hang_35 (by decide) ?_
      exact A_iret dX2_hang_36 rfl ⟨by rw [gd, if_neg c2], by simp only [gq_f c2]⟩
  · skip
    have c1 := bi_ne0.mp c1
    obtain ⟨f9, hf9, rfl⟩ := okF_ex h1 c1
    try rw [ixn (show f9 < 2000 by omega)]
    refine A_aload_n (i := 0) dX2_hang_16 rfl rfl ?_
    refine A_iload_n (i := 1) dX2_hang_17 rfl rfl ?_
    refine A_callV1E (v := some (.int (bi (canHangN (m_now ms) f9)))) (τ := mc b9 (⟨m_thr ms, m_is ms, nI u, m_bd ms, m_pc ms, m_pa ms, m_sz ms, m_cu ms, m_st ms, m_tk ms, m_to ms, m_ps ms, m_now ms, m_asd ms, m_und ms, m_sav ms, m_isv ms, m_buf ms, m_grp ms, m_pag ms⟩ : MM) σ0) (c_canHang b9 (⟨m_thr ms, m_is ms, nI u, m_bd ms, m_pc ms, m_pa ms, m_sz ms, m_cu ms, m_st ms, m_tk ms, m_to ms, m_ps ms, m_now ms, m_asd ms, m_und ms, m_sav ms, m_isv ms, m_buf ms, m_grp ms, m_pag ms⟩ : MM) σ0 f9 (by first | assumption | omega) (by first | assumption | omega)) tX2_canHang q2515 (mc_0 _ _ _) rfl rfl dX2_hang_18 (by decide) (Nat.le_of_eq (Nat.zero_add _)) (Nat.le_of_ble_eq_true rfl) ?_
    refine A_if_eq (tgt := 28) dX2_hang_21 (by decide) (fun c3 => ?_) (fun c3 => ?_)
    · skip
      have c3 := bi_eq0.mp c3
      refine A_iconst (v := 0) dX2_hang_28 (by decide) ?_
      refine A_int (w := bi (okF (m_is ms) (m_now ms) (nI f9) ∧ canHangN (m_now ms) f9)) ((bi_f (fun h9 => by first | exact c3 (h9.2) | exact absurd (h9.2) c3 | exact (h9.2) c3)).symm) ?_
      refine A_callV3E (v := some (.int (bi (mayT (m_is ms) (bi (okF (m_is ms) (m_now ms) (nI f9))) (bi (okF (m_is ms) (m_now ms) (nI f9) ∧ canHangN (m_now ms) f9)) = 0)))) (τ := mc b9 (⟨mayT (m_is ms) (bi (okF (m_is ms) (m_now ms) (nI f9))) (bi (okF (m_is ms) (m_now ms) (nI f9) ∧ canHangN (m_now ms) f9)), m_is ms, nI u, m_bd ms, m_pc ms, m_pa ms, m_sz ms, m_cu ms, m_st ms, m_tk ms, m_to ms, m_ps ms, m_now ms, m_asd ms, m_und ms, m_sav ms, m_isv ms, m_buf ms, m_grp ms, m_pag ms⟩ : MM) σ0) (c_may b9 (⟨m_thr ms, m_is ms, nI u, m_bd ms, m_pc ms, m_pa ms, m_sz ms, m_cu ms, m_st ms, m_tk ms, m_to ms, m_ps ms, m_now ms, m_asd ms, m_und ms, m_sav ms, m_isv ms, m_buf ms, m_grp ms, m_pag ms⟩ : MM) σ0 (m_is ms) (bi (okF (m_is ms) (m_now ms) (nI f9))) (bi (okF (m_is ms) (m_now ms) (nI f9) ∧ canHangN (m_now ms) f9))) tX2_may q2322 (mc_0 _ _ _) rfl rfl dX2_hang_29 (by decide) (Nat.le_of_eq (Nat.zero_add _)) (Nat.le_of_ble_eq_true rfl) ?_
      refine A_if_ne (tgt := 37) dX2_hang_32 (by decide) (fun c4 => ?_) (fun c4 => ?_)
      · skip
        have c4 := bi_ne0.mp c4
        exact (show False from (fun h9 => by first | exact c3 (h9.2) | exact absurd (h9.2) c3 | exact (h9.2) c3) (mayT_z c4)).elim
      · skip
        have c4 := bi_eq0.mp c4
        refine A_iconst (v := 0) dX2_hang_35 (by decide) ?_
        exact A_iret dX2_hang_36 rfl ⟨by rw [gd, if_neg c4], by simp only [gq_f c4]⟩
    · skip
      have c3 := bi_ne0.mp c3
      refine A_iconst (v := 1) dX2_hang_24 (by decide) ?_
      refine A_goto (tgt := 29) dX2_hang_25 (by decide) ?_
      refine A_int (w := bi (okF (m_is ms) (m_now ms) (nI f9) ∧ canHangN (m_now ms) f9)) ((bi_t ⟨c1, c3⟩).symm) ?_
      refine A_callV3E (v := some (.int (bi (mayT (m_is ms) (bi (okF (m_is ms) (m_now ms) (nI f9))) (bi (okF (m_is ms) (m_now ms) (nI f9) ∧ canHangN (m_now ms) f9)) = 0)))) (τ := mc b9 (⟨mayT (m_is ms) (bi (okF (m_is ms) (m_now ms) (nI f9))) (bi (okF (m_is ms) (m_now ms) (nI f9) ∧ canHangN (m_now ms) f9)), m_is ms, nI u, m_bd ms, m_pc ms, m_pa ms, m_sz ms, m_cu ms, m_st ms, m_tk ms, m_to ms, m_ps ms, m_now ms, m_asd ms, m_und ms, m_sav ms, m_isv ms, m_buf ms, m_grp ms, m_pag ms⟩ : MM) σ0) (c_may b9 (⟨m_thr ms, m_is ms, nI u, m_bd ms, m_pc ms, m_pa ms, m_sz ms, m_cu ms, m_st ms, m_tk ms, m_to ms, m_ps ms, m_now ms, m_asd ms, m_und ms, m_sav ms, m_isv ms, m_buf ms, m_grp ms, m_pag ms⟩ : MM) σ0 (m_is ms) (bi (okF (m_is ms) (m_now ms) (nI f9))) (bi (okF (m_is ms) (m_now ms) (nI f9) ∧ canHangN (m_now ms) f9))) tX2_may q2322 (mc_0 _ _ _) rfl rfl dX2_hang_29 (by decide) (Nat.le_of_eq (Nat.zero_add _)) (Nat.le_of_ble_eq_true rfl) ?_
      refine A_if_ne (tgt := 37) dX2_hang_32 (by decide) (fun c5 => ?_) (fun c5 => ?_)
      · skip
        have c5 := bi_ne0.mp c5
        refine A_aload_n (i := 0) dX2_hang_37 rfl rfl ?_
        refine A_callV0E (v := none) (τ := mc b9 (⟨mayT (m_is ms) (bi (okF (m_is ms) (m_now ms) (nI f9))) (bi (okF (m_is ms) (m_now ms) (nI f9) ∧ canHangN (m_now ms) f9)), m_is ms, nI (remC u), m_bd ms, m_pc ms, m_pa ms, m_sz ms, m_cu ms, m_st ms, m_tk ms, m_to ms, m_ps ms, m_now ms, m_asd ms, remU (m_und ms) (m_now ms) u, m_sav ms, m_isv ms, m_buf ms, m_grp ms, m_pag ms⟩ : MM) σ0) (c_remembers b9 (⟨mayT (m_is ms) (bi (okF (m_is ms) (m_now ms) (nI f9))) (bi (okF (m_is ms) (m_now ms) (nI f9) ∧ canHangN (m_now ms) f9)), m_is ms, nI u, m_bd ms, m_pc ms, m_pa ms, m_sz ms, m_cu ms, m_st ms, m_tk ms, m_to ms, m_ps ms, m_now ms, m_asd ms, m_und ms, m_sav ms, m_isv ms, m_buf ms, m_grp ms, m_pag ms⟩ : MM) σ0 u (by first | assumption | omega)) tX2_remembers q2899 (mc_0 _ _ _) rfl rfl dX2_hang_38 (by decide) (Nat.le_of_eq (Nat.zero_add _)) (Nat.le_of_ble_eq_true rfl) ?_
        refine A_aload_n (i := 0) dX2_hang_41 rfl rfl ?_
        refine A_iload_n (i := 1) dX2_hang_42 rfl rfl ?_
        refine A_callV1E (v := none) (τ := mc b9 (⟨mayT (m_is ms) (bi (okF (m_is ms) (m_now ms) (nI f9))) (bi (okF (m_is ms) (m_now ms) (nI f9) ∧ canHangN (m_now ms) f9)), m_is ms, nI (remC u), m_bd ms, m_pc ms, m_pa ms, m_sz ms, m_cu ms, m_st ms, m_tk ms, m_to ms, m_ps ms, goTo (m_now ms) f9 2 (freeN (m_now ms)), m_asd ms, remU (m_und ms) (m_now ms) u, m_sav ms, m_isv ms, m_buf ms, m_grp ms, m_pag ms⟩ : MM) σ0) (c_hangs b9 (⟨mayT (m_is ms) (bi (okF (m_is ms) (m_now ms) (nI f9))) (bi (okF (m_is ms) (m_now ms) (nI f9) ∧ canHangN (m_now ms) f9)), m_is ms, nI (remC u), m_bd ms, m_pc ms, m_pa ms, m_sz ms, m_cu ms, m_st ms, m_tk ms, m_to ms, m_ps ms, m_now ms, m_asd ms, remU (m_und ms) (m_now ms) u, m_sav ms, m_isv ms, m_buf ms, m_grp ms, m_pag ms⟩ : MM) σ0 f9 (by first | assumption | omega) (by first | assumption | omega)) tX2_hangs q2527 (mc_0 _ _ _) rfl rfl dX2_hang_43 (by decide) (Nat.le_of_eq (Nat.zero_add _)) (Nat.le_of_ble_eq_true rfl) ?_
        refine A_aload_n (i := 0) dX2_hang_46 rfl rfl ?_
        refine A_iload_n (i := 1) dX2_hang_47 rfl rfl ?_
        refine A_bipush (v := 9) dX2_hang_48 (by decide) ?_
        refine A_callV2E (v := some (.int (fl (goTo (m_now ms) f9 2 (freeN (m_now ms))) f9 9))) (τ := mc b9 (⟨mayT (m_is ms) (bi (okF (m_is ms) (m_now ms) (nI f9))) (bi (okF (m_is ms) (m_now ms) (nI f9) ∧ canHangN (m_now ms) f9)), m_is ms, nI (remC u), m_bd ms, m_pc ms, m_pa ms, m_sz ms, m_cu ms, m_st ms, m_tk ms, m_to ms, m_ps ms, goTo (m_now ms) f9 2 (freeN (m_now ms)), m_asd ms, remU (m_und ms) (m_now ms) u, m_sav ms, m_isv ms, m_buf ms, m_grp ms, m_pag ms⟩ : MM) σ0) (c_ofFlag b9 (⟨mayT (m_is ms) (bi (okF (m_is ms) (m_now ms) (nI f9))) (bi (okF (m_is ms) (m_now ms) (nI f9) ∧ canHangN (m_now ms) f9)), m_is ms, nI (remC u), m_bd ms, m_pc ms, m_pa ms, m_sz ms, m_cu ms, m_st ms, m_tk ms, m_to ms, m_ps ms, goTo (m_now ms) f9 2 (freeN (m_now ms)), m_asd ms, remU (m_und ms) (m_now ms) u, m_sav ms, m_isv ms, m_buf ms, m_grp ms, m_pag ms⟩ : MM) σ0 f9 9 (by first | assumption | omega) (by first | assumption | omega)) tX2_ofFlag q2444 (mc_0 _ _ _) rfl rfl dX2_hang_50 (by decide) (Nat.le_of_eq (Nat.zero_add _)) (Nat.le_of_ble_eq_true rfl) ?_
        exact A_iret dX2_hang_53 rfl ⟨by rw [gd, if_pos c5], by simp only [gq_t c5] <;> rfl⟩
      · skip
        have c5 := bi_eq0.mp c5
        refine A_iconst (v := 0) dX2_hang_35 (by decide) ?_
        exact A_iret dX2_hang_36 rfl ⟨by rw [gd, if_neg c5], by simp only [gq_f c5]⟩
theorem c_takeDown {l : Launch} {g : GC} (b9 : Nat) (ms : MM) (σ0 : AH) (u : Nat) (f : Int32) (h1 : WFc (m_now ms)) (h2 : u ≤ 8) : AMet l g mX2_takeDown 3 0 [.ref b9, .int f] (mc b9 (⟨m_thr ms, m_is ms, nI u, m_bd ms, m_pc ms, m_pa ms, m_sz ms, m_cu ms, m_st ms, m_tk ms, m_to ms, m_ps ms, m_now ms, m_asd ms, m_und ms, m_sav ms, m_isv ms, m_buf ms, m_grp ms, m_pag ms⟩ : MM) σ0) (A_eq (some (.int (gd (mayT (m_is ms) (bi (okF (m_is ms) (m_now ms) f)) (bi (okF (m_is ms) (m_now ms) f ∧ (fl (m_now ms) (ix f) 8 = 1 ∨ fl (m_now ms) (ix f) 8 = 2)))) (fl (goTo (m_now ms) (ix f) 0 (-1)) (ix f) 4)))) (mc b9 (⟨mayT (m_is ms) (bi (okF (m_is ms) (m_now ms) f)) (bi (okF (m_is ms) (m_now ms) f ∧ (fl (m_now ms) (ix f) 8 = 1 ∨ fl (m_now ms) (ix f) 8 = 2))), m_is ms, nI (gq (mayT (m_is ms) (bi (okF (m_is ms) (m_now ms) f)) (bi (okF (m_is ms) (m_now ms) f ∧ (fl (m_now ms) (ix f) 8 = 1 ∨ fl (m_now ms) (ix f) 8 = 2)))) (remC u) u), m_bd ms, m_pc ms, m_pa ms, m_sz ms, m_cu ms, m_st ms, m_tk ms, m_to ms, m_ps ms, gq (mayT (m_is ms) (bi (okF (m_is ms) (m_now ms) f)) (bi (okF (m_is ms) (m_now ms) f ∧ (fl (m_now ms) (ix f) 8 = 1 ∨ fl (m_now ms) (ix f) 8 = 2)))) (goTo (m_now ms) (ix f) 0 (-1)) (m_now ms), m_asd ms, gq (mayT (m_is ms) (bi (okF (m_is ms) (m_now ms) f)) (bi (okF (m_is ms) (m_now ms) f ∧ (fl (m_now ms) (ix f) 8 = 1 ∨ fl (m_now ms) (ix f) 8 = 2)))) (remU (m_und ms) (m_now ms) u) (m_und ms), m_sav ms, m_isv ms, m_buf ms, m_grp ms, m_pag ms⟩ : MM) σ0)) A_no := by
  refine A_of rfl (by decide) (Nat.le_of_ble_eq_true rfl) (L0 := [(0, .ref b9), (1, .int f)]) rfl ?_
  have hF := h1.2.2.2.2.2
  have hC := h1.1.2
  refine A_aload_n (i := 0) dX2_takeDown_0 rfl rfl ?_
  refine A_iload_n (i := 1) dX2_takeDown_1 rfl rfl ?_
  refine A_callV1E (v := some (.int (bi (okF (m_is ms) (m_now ms) f)))) (τ := mc b9 (⟨m_thr ms, m_is ms, nI u, m_bd ms, m_pc ms, m_pa ms, m_sz ms, m_cu ms, m_st ms, m_tk ms, m_to ms, m_ps ms, m_now ms, m_asd ms, m_und ms, m_sav ms, m_isv ms, m_buf ms, m_grp ms, m_pag ms⟩ : MM) σ0) (c_isFlag b9 (⟨m_thr ms, m_is ms, nI u, m_bd ms, m_pc ms, m_pa ms, m_sz ms, m_cu ms, m_st ms, m_tk ms, m_to ms, m_ps ms, m_now ms, m_asd ms, m_und ms, m_sav ms, m_isv ms, m_buf ms, m_grp ms, m_pag ms⟩ : MM) σ0 f) tX2_isFlag q2629 (mc_0 _ _ _) rfl rfl dX2_takeDown_2 (by decide) (Nat.le_of_eq (Nat.zero_add _)) (Nat.le_of_ble_eq_true rfl) ?_
  refine A_istore_n (i := 2) dX2_takeDown_5 rfl (Nat.le_of_ble_eq_true rfl) ?_
  refine A_aload_n (i := 0) dX2_takeDown_6 rfl rfl ?_
  refine A_aload_n (i := 0) dX2_takeDown_7 rfl rfl ?_
  refine M_get 6 (v := .int (m_is ms)) (Nat.le_of_ble_eq_true rfl) q2235 rfl dX2_takeDown_8 ?_
  refine A_iload_n (i := 2) dX2_takeDown_11 rfl rfl ?_
  refine A_iload_n (i := 2) dX2_takeDown_12 rfl rfl ?_
  refine A_if_eq (tgt := 38) dX2_takeDown_13 (by decide) (fun c1 => ?_) (fun c1 => ?_)
  · skip
    have c1 := bi_eq0.mp c1
    refine A_iconst (v := 0) dX2_takeDown_38 (by decide) ?_
    refine A_int (w := bi (okF (m_is ms) (m_now ms) f ∧ (fl (m_now ms) (ix f) 8 = 1 ∨ fl (m_now ms) (ix f) 8 = 2))) ((bi_f (fun h9 => c1 h9.1)).symm) ?_
    refine A_callV3E (v := some (.int (bi (mayT (m_is ms) (bi (okF (m_is ms) (m_now ms) f)) (bi (okF (m_is ms) (m_now ms) f ∧ (fl (m_now ms) (ix f) 8 = 1 ∨ fl (m_now ms) (ix f) 8 = 2))) = 0)))) (τ := mc b9 (⟨mayT (m_is ms) (bi (okF (m_is ms) (m_now ms) f)) (bi (okF (m_is ms) (m_now ms) f ∧ (fl (m_now ms) (ix f) 8 = 1 ∨ fl (m_now ms) (ix f) 8 = 2))), m_is ms, nI u, m_bd ms, m_pc ms, m_pa ms, m_sz ms, m_cu ms, m_st ms, m_tk ms, m_to ms, m_ps ms, m_now ms, m_asd ms, m_und ms, m_sav ms, m_isv ms, m_buf ms, m_grp ms, m_pag ms⟩ : MM) σ0) (c_may b9 (⟨m_thr ms, m_is ms, nI u, m_bd ms, m_pc ms, m_pa ms, m_sz ms, m_cu ms, m_st ms, m_tk ms, m_to ms, m_ps ms, m_now ms, m_asd ms, m_und ms, m_sav ms, m_isv ms, m_buf ms, m_grp ms, m_pag ms⟩ : MM) σ0 (m_is ms) (bi (okF (m_is ms) (m_now ms) f)) (bi (okF (m_is ms) (m_now ms) f ∧ (fl (m_now ms) (ix f) 8 = 1 ∨ fl (m_now ms) (ix f) 8 = 2)))) tX2_may q2322 (mc_0 _ _ _) rfl rfl dX2_takeDown_39 (by decide) (Nat.le_of_eq (Nat.zero_add _)) (Nat.le_of_ble_eq_true rfl) ?_
    refine A_if_ne (tgt := 47) dX2_takeDown_42 (by decide) (fun c2 => ?_) (fun c2 => ?_)
    · skip
      have c2 := bi_ne0.mp c2
      exact (show False from (fun h9 => c1 h9.1) (mayT_z c2)).elim
    · skip
      have c2 := bi_eq0.mp c2
      refine A_iconst (v := 0) dX2_takeDown_45 (by decide) ?_
      exact A_iret dX2_takeDown_46 rfl ⟨by rw [gd, if_neg c2], by simp only [gq_f c2]⟩
  · skip
    have c1 := bi_ne0.mp c1
    obtain ⟨f9, hf9, rfl⟩ := okF_ex h1 c1
    try rw [ixn (show f9 < 2000 by omega)]
    refine A_aload_n (i := 0) dX2_takeDown_16 rfl rfl ?_
    refine A_iload_n (i := 1) dX2_takeDown_17 rfl rfl ?_
    refine A_callV1E (v := some (.int (fl (m_now ms) f9 8))) (τ := mc b9 (⟨m_thr ms, m_is ms, nI u, m_bd ms, m_pc ms, m_pa ms, m_sz ms, m_cu ms, m_st ms, m_tk ms, m_to ms, m_ps ms, m_now ms, m_asd ms, m_und ms, m_sav ms, m_isv ms, m_buf ms, m_grp ms, m_pag ms⟩ : MM) σ0) (c_where b9 (⟨m_thr ms, m_is ms, nI u, m_bd ms, m_pc ms, m_pa ms, m_sz ms, m_cu ms, m_st ms, m_tk ms, m_to ms, m_ps ms, m_now ms, m_asd ms, m_und ms, m_sav ms, m_isv ms, m_buf ms, m_grp ms, m_pag ms⟩ : MM) σ0 f9 (by first | assumption | omega)) tX2_where q2440 (mc_0 _ _ _) rfl rfl dX2_takeDown_18 (by decide) (Nat.le_of_eq (Nat.zero_add _)) (Nat.le_of_ble_eq_true rfl) ?_
    refine A_iconst (v := 1) dX2_takeDown_21 (by decide) ?_
    refine A_icmp_eq (tgt := 34) dX2_takeDown_22 (by decide) (fun c3 => ?_) (fun c3 => ?_)
    · skip
      refine A_iconst (v := 1) dX2_takeDown_34 (by decide) ?_
      refine A_goto (tgt := 39) dX2_takeDown_35 (by decide) ?_
      refine A_int (w := bi (okF (m_is ms) (m_now ms) (nI f9) ∧ (fl (m_now ms) f9 8 = 1 ∨ fl (m_now ms) f9 8 = 2))) ((bi_t ⟨c1, Or.inl c3⟩).symm) ?_
      refine A_callV3E (v := some (.int (bi (mayT (m_is ms) (bi (okF (m_is ms) (m_now ms) (nI f9))) (bi (okF (m_is ms) (m_now ms) (nI f9) ∧ (fl (m_now ms) f9 8 = 1 ∨ fl (m_now ms) f9 8 = 2))) = 0)))) (τ := mc b9 (⟨mayT (m_is ms) (bi (okF (m_is ms) (m_now ms) (nI f9))) (bi (okF (m_is ms) (m_now ms) (nI f9) ∧ (fl (m_now ms) f9 8 = 1 ∨ fl (m_now ms) f9 8 = 2))), m_is ms, nI u, m_bd ms, m_pc ms, m_pa ms, m_sz ms, m_cu ms, m_st ms, m_tk ms, m_to ms, m_ps ms, m_now ms, m_asd ms, m_und ms, m_sav ms, m_isv ms, m_buf ms, m_grp ms, m_pag ms⟩ : MM) σ0) (c_may b9 (⟨m_thr ms, m_is ms, nI u, m_bd ms, m_pc ms, m_pa ms, m_sz ms, m_cu ms, m_st ms, m_tk ms, m_to ms, m_ps ms, m_now ms, m_asd ms, m_und ms, m_sav ms, m_isv ms, m_buf ms, m_grp ms, m_pag ms⟩ : MM) σ0 (m_is ms) (bi (okF (m_is ms) (m_now ms) (nI f9))) (bi (okF (m_is ms) (m_now ms) (nI f9) ∧ (fl (m_now ms) f9 8 = 1 ∨ fl (m_now ms) f9 8 = 2)))) tX2_may q2322 (mc_0 _ _ _) rfl rfl dX2_takeDown_39 (by decide) (Nat.le_of_eq (Nat.zero_add _)) (Nat.le_of_ble_eq_true rfl) ?_
      refine A_if_ne (tgt := 47) dX2_takeDown_42 (by decide) (fun c4 => ?_) (fun c4 => ?_)
      · skip
        have c4 := bi_ne0.mp c4
        refine A_aload_n (i := 0) dX2_takeDown_47 rfl rfl ?_
        refine A_callV0E (v := none) (τ := mc b9 (⟨mayT (m_is ms) (bi (okF (m_is ms) (m_now ms) (nI f9))) (bi (okF (m_is ms) (m_now ms) (nI f9) ∧ (fl (m_now ms) f9 8 = 1 ∨ fl (m_now ms) f9 8 = 2))), m_is ms, nI (remC u), m_bd ms, m_pc ms, m_pa ms, m_sz ms, m_cu ms, m_st ms, m_tk ms, m_to ms, m_ps ms, m_now ms, m_asd ms, remU (m_und ms) (m_now ms) u, m_sav ms, m_isv ms, m_buf ms, m_grp ms, m_pag ms⟩ : MM) σ0) (c_remembers b9 (⟨mayT (m_is ms) (bi (okF (m_is ms) (m_now ms) (nI f9))) (bi (okF (m_is ms) (m_now ms) (nI f9) ∧ (fl (m_now ms) f9 8 = 1 ∨ fl (m_now ms) f9 8 = 2))), m_is ms, nI u, m_bd ms, m_pc ms, m_pa ms, m_sz ms, m_cu ms, m_st ms, m_tk ms, m_to ms, m_ps ms, m_now ms, m_asd ms, m_und ms, m_sav ms, m_isv ms, m_buf ms, m_grp ms, m_pag ms⟩ : MM) σ0 u (by first | assumption | omega)) tX2_remembers q2899 (mc_0 _ _ _) rfl rfl dX2_takeDown_48 (by decide) (Nat.le_of_eq (Nat.zero_add _)) (Nat.le_of_ble_eq_true rfl) ?_
        refine A_aload_n (i := 0) dX2_takeDown_51 rfl rfl ?_
        refine A_iload_n (i := 1) dX2_takeDown_52 rfl rfl ?_
        refine A_iconst (v := 0) dX2_takeDown_53 (by decide) ?_
        refine A_iconst (v := (-1)) dX2_takeDown_54 (by decide) ?_
        refine A_callV3E (v := none) (τ := mc b9 (⟨mayT (m_is ms) (bi (okF (m_is ms) (m_now ms) (nI f9))) (bi (okF (m_is ms) (m_now ms) (nI f9) ∧ (fl (m_now ms) f9 8 = 1 ∨ fl (m_now ms) f9 8 = 2))), m_is ms, nI (remC u), m_bd ms, m_pc ms, m_pa ms, m_sz ms, m_cu ms, m_st ms, m_tk ms, m_to ms, m_ps ms, goTo (m_now ms) f9 0 (-1), m_asd ms, remU (m_und ms) (m_now ms) u, m_sav ms, m_isv ms, m_buf ms, m_grp ms, m_pag ms⟩ : MM) σ0) (c_goesTo b9 (⟨mayT (m_is ms) (bi (okF (m_is ms) (m_now ms) (nI f9))) (bi (okF (m_is ms) (m_now ms) (nI f9) ∧ (fl (m_now ms) f9 8 = 1 ∨ fl (m_now ms) f9 8 = 2))), m_is ms, nI (remC u), m_bd ms, m_pc ms, m_pa ms, m_sz ms, m_cu ms, m_st ms, m_tk ms, m_to ms, m_ps ms, m_now ms, m_asd ms, remU (m_und ms) (m_now ms) u, m_sav ms, m_isv ms, m_buf ms, m_grp ms, m_pag ms⟩ : MM) σ0 f9 0 (-1) (by first | assumption | omega)) tX2_goesTo q2419 (mc_0 _ _ _) rfl rfl dX2_takeDown_55 (by decide) (Nat.le_of_eq (Nat.zero_add _)) (Nat.le_of_ble_eq_true rfl) ?_
        refine A_aload_n (i := 0) dX2_takeDown_58 rfl rfl ?_
        refine A_iload_n (i := 1) dX2_takeDown_59 rfl rfl ?_
        refine A_iconst (v := 4) dX2_takeDown_60 (by decide) ?_
        refine A_callV2E (v := some (.int (fl (goTo (m_now ms) f9 0 (-1)) f9 4))) (τ := mc b9 (⟨mayT (m_is ms) (bi (okF (m_is ms) (m_now ms) (nI f9))) (bi (okF (m_is ms) (m_now ms) (nI f9) ∧ (fl (m_now ms) f9 8 = 1 ∨ fl (m_now ms) f9 8 = 2))), m_is ms, nI (remC u), m_bd ms, m_pc ms, m_pa ms, m_sz ms, m_cu ms, m_st ms, m_tk ms, m_to ms, m_ps ms, goTo (m_now ms) f9 0 (-1), m_asd ms, remU (m_und ms) (m_now ms) u, m_sav ms, m_isv ms, m_buf ms, m_grp ms, m_pag ms⟩ : MM) σ0) (c_ofFlag b9 (⟨mayT (m_is ms) (bi (okF (m_is ms) (m_now ms) (nI f9))) (bi (okF (m_is ms) (m_now ms) (nI f9) ∧ (fl (m_now ms) f9 8 = 1 ∨ fl (m_now ms) f9 8 = 2))), m_is ms, nI (remC u), m_bd ms, m_pc ms, m_pa ms, m_sz ms, m_cu ms, m_st ms, m_tk ms, m_to ms, m_ps ms, goTo (m_now ms) f9 0 (-1), m_asd ms, remU (m_und ms) (m_now ms) u, m_sav ms, m_isv ms, m_buf ms, m_grp ms, m_pag ms⟩ : MM) σ0 f9 4 (by first | assumption | omega) (by first | assumption | omega)) tX2_ofFlag q2444 (mc_0 _ _ _) rfl rfl dX2_takeDown_61 (by decide) (Nat.le_of_eq (Nat.zero_add _)) (Nat.le_of_ble_eq_true rfl) ?_
        exact A_iret dX2_takeDown_64 rfl ⟨by rw [gd, if_pos c4], by simp only [gq_t c4] <;> rfl⟩
      · skip
        have c4 := bi_eq0.mp c4
        refine A_iconst (v := 0) dX2_takeDown_45 (by decide) ?_
        exact A_iret dX2_takeDown_46 rfl ⟨by rw [gd, if_neg c4], by simp only [gq_f c4]⟩
    · skip
      refine A_aload_n (i := 0) dX2_takeDown_25 rfl rfl ?_
      refine A_iload_n (i := 1) dX2_takeDown_26 rfl rfl ?_
      refine A_callV1E (v := some (.int (fl (m_now ms) f9 8))) (τ := mc b9 (⟨m_thr ms, m_is ms, nI u, m_bd ms, m_pc ms, m_pa ms, m_sz ms, m_cu ms, m_st ms, m_tk ms, m_to ms, m_ps ms, m_now ms, m_asd ms, m_und ms, m_sav ms, m_isv ms, m_buf ms, m_grp ms, m_pag ms⟩ : MM) σ0) (c_where b9 (⟨m_thr ms, m_is ms, nI u, m_bd ms, m_pc ms, m_pa ms, m_sz ms, m_cu ms, m_st ms, m_tk ms, m_to ms, m_ps ms, m_now ms, m_asd ms, m_und ms, m_sav ms, m_isv ms, m_buf ms, m_grp ms, m_pag ms⟩ : MM) σ0 f9 (by first | assumption | omega)) tX2_where q2440 (mc_0 _ _ _) rfl rfl dX2_takeDown_27 (by decide) (Nat.le_of_eq (Nat.zero_add _)) (Nat.le_of_ble_eq_true rfl) ?_
      refine A_iconst (v := 2) dX2_takeDown_30 (by decide) ?_
      refine A_icmp_ne (tgt := 38) dX2_takeDown_31 (by decide) (fun c5 => ?_) (fun c5 => ?_)
      · skip
        refine A_iconst (v := 0) dX2_takeDown_38 (by decide) ?_
        refine A_int (w := bi (okF (m_is ms) (m_now ms) (nI f9) ∧ (fl (m_now ms) f9 8 = 1 ∨ fl (m_now ms) f9 8 = 2))) ((bi_f (fun h9 => h9.2.elim c3 c5)).symm) ?_
        refine A_callV3E (v := some (.int (bi (mayT (m_is ms) (bi (okF (m_is ms) (m_now ms) (nI f9))) (bi (okF (m_is ms) (m_now ms) (nI f9) ∧ (fl (m_now ms) f9 8 = 1 ∨ fl (m_now ms) f9 8 = 2))) = 0)))) (τ := mc b9 (⟨mayT (m_is ms) (bi (okF (m_is ms) (m_now ms) (nI f9))) (bi (okF (m_is ms) (m_now ms) (nI f9) ∧ (fl (m_now ms) f9 8 = 1 ∨ fl (m_now ms) f9 8 = 2))), m_is ms, nI u, m_bd ms, m_pc ms, m_pa ms, m_sz ms, m_cu ms, m_st ms, m_tk ms, m_to ms, m_ps ms, m_now ms, m_asd ms, m_und ms, m_sav ms, m_isv ms, m_buf ms, m_grp ms, m_pag ms⟩ : MM) σ0) (c_may b9 (⟨m_thr ms, m_is ms, nI u, m_bd ms, m_pc ms, m_pa ms, m_sz ms, m_cu ms, m_st ms, m_tk ms, m_to ms, m_ps ms, m_now ms, m_asd ms, m_und ms, m_sav ms, m_isv ms, m_buf ms, m_grp ms, m_pag ms⟩ : MM) σ0 (m_is ms) (bi (okF (m_is ms) (m_now ms) (nI f9))) (bi (okF (m_is ms) (m_now ms) (nI f9) ∧ (fl (m_now ms) f9 8 = 1 ∨ fl (m_now ms) f9 8 = 2)))) tX2_may q2322 (mc_0 _ _ _) rfl rfl dX2_takeDown_39 (by decide) (Nat.le_of_eq (Nat.zero_add _)) (Nat.le_of_ble_eq_true rfl) ?_
        refine A_if_ne (tgt := 47) dX2_takeDown_42 (by decide) (fun c6 => ?_) (fun c6 => ?_)
        · skip
          have c6 := bi_ne0.mp c6
          exact (show False from (fun h9 => h9.2.elim c3 c5) (mayT_z c6)).elim
        · skip
          have c6 := bi_eq0.mp c6
          refine A_iconst (v := 0) dX2_takeDown_45 (by decide) ?_
          exact A_iret dX2_takeDown_46 rfl ⟨by rw [gd, if_neg c6], by simp only [gq_f c6]⟩
      · skip
        refine A_iconst (v := 1) dX2_takeDown_34 (by decide) ?_
        refine A_goto (tgt := 39) dX2_takeDown_35 (by decide) ?_
        refine A_int (w := bi (okF (m_is ms) (m_now ms) (nI f9) ∧ (fl (m_now ms) f9 8 = 1 ∨ fl (m_now ms) f9 8 = 2))) ((bi_t ⟨c1, Or.inr c5⟩).symm) ?_
        refine A_callV3E (v := some (.int (bi (mayT (m_is ms) (bi (okF (m_is ms) (m_now ms) (nI f9))) (bi (okF (m_is ms) (m_now ms) (nI f9) ∧ (fl (m_now ms) f9 8 = 1 ∨ fl (m_now ms) f9 8 = 2))) = 0)))) (τ := mc b9 (⟨mayT (m_is ms) (bi (okF (m_is ms) (m_now ms) (nI f9))) (bi (okF (m_is ms) (m_now ms) (nI f9) ∧ (fl (m_now ms) f9 8 = 1 ∨ fl (m_now ms) f9 8 = 2))), m_is ms, nI u, m_bd ms, m_pc ms, m_pa ms, m_sz ms, m_cu ms, m_st ms, m_tk ms, m_to ms, m_ps ms, m_now ms, m_asd ms, m_und ms, m_sav ms, m_isv ms, m_buf ms, m_grp ms, m_pag ms⟩ : MM) σ0) (c_may b9 (⟨m_thr ms, m_is ms, nI u, m_bd ms, m_pc ms, m_pa ms, m_sz ms, m_cu ms, m_st ms, m_tk ms, m_to ms, m_ps ms, m_now ms, m_asd ms, m_und ms, m_sav ms, m_isv ms, m_buf ms, m_grp ms, m_pag ms⟩ : MM) σ0 (m_is ms) (bi (okF (m_is ms) (m_now ms) (nI f9))) (bi (okF (m_is ms) (m_now ms) (nI f9) ∧ (fl (m_now ms) f9 8 = 1 ∨ fl (m_now ms) f9 8 = 2)))) tX2_may q2322 (mc_0 _ _ _) rfl rfl dX2_takeDown_39 (by decide) (Nat.le_of_eq (Nat.zero_add _)) (Nat.le_of_ble_eq_true rfl) ?_
        refine A_if_ne (tgt := 47) dX2_takeDown_42 (by decide) (fun c7 => ?_) (fun c7 => ?_)
        · skip
          have c7 := bi_ne0.mp c7
          refine A_aload_n (i := 0) dX2_takeDown_47 rfl rfl ?_
          refine A_callV0E (v := none) (τ := mc b9 (⟨mayT (m_is ms) (bi (okF (m_is ms) (m_now ms) (nI f9))) (bi (okF (m_is ms) (m_now ms) (nI f9) ∧ (fl (m_now ms) f9 8 = 1 ∨ fl (m_now ms) f9 8 = 2))), m_is ms, nI (remC u), m_bd ms, m_pc ms, m_pa ms, m_sz ms, m_cu ms, m_st ms, m_tk ms, m_to ms, m_ps ms, m_now ms, m_asd ms, remU (m_und ms) (m_now ms) u, m_sav ms, m_isv ms, m_buf ms, m_grp ms, m_pag ms⟩ : MM) σ0) (c_remembers b9 (⟨mayT (m_is ms) (bi (okF (m_is ms) (m_now ms) (nI f9))) (bi (okF (m_is ms) (m_now ms) (nI f9) ∧ (fl (m_now ms) f9 8 = 1 ∨ fl (m_now ms) f9 8 = 2))), m_is ms, nI u, m_bd ms, m_pc ms, m_pa ms, m_sz ms, m_cu ms, m_st ms, m_tk ms, m_to ms, m_ps ms, m_now ms, m_asd ms, m_und ms, m_sav ms, m_isv ms, m_buf ms, m_grp ms, m_pag ms⟩ : MM) σ0 u (by first | assumption | omega)) tX2_remembers q2899 (mc_0 _ _ _) rfl rfl dX2_takeDown_48 (by decide) (Nat.le_of_eq (Nat.zero_add _)) (Nat.le_of_ble_eq_true rfl) ?_
          refine A_aload_n (i := 0) dX2_takeDown_51 rfl rfl ?_
          refine A_iload_n (i := 1) dX2_takeDown_52 rfl rfl ?_
          refine A_iconst (v := 0) dX2_takeDown_53 (by decide) ?_
          refine A_iconst (v := (-1)) dX2_takeDown_54 (by decide) ?_
          refine A_callV3E (v := none) (τ := mc b9 (⟨mayT (m_is ms) (bi (okF (m_is ms) (m_now ms) (nI f9))) (bi (okF (m_is ms) (m_now ms) (nI f9) ∧ (fl (m_now ms) f9 8 = 1 ∨ fl (m_now ms) f9 8 = 2))), m_is ms, nI (remC u), m_bd ms, m_pc ms, m_pa ms, m_sz ms, m_cu ms, m_st ms, m_tk ms, m_to ms, m_ps ms, goTo (m_now ms) f9 0 (-1), m_asd ms, remU (m_und ms) (m_now ms) u, m_sav ms, m_isv ms, m_buf ms, m_grp ms, m_pag ms⟩ : MM) σ0) (c_goesTo b9 (⟨mayT (m_is ms) (bi (okF (m_is ms) (m_now ms) (nI f9))) (bi (okF (m_is ms) (m_now ms) (nI f9) ∧ (fl (m_now ms) f9 8 = 1 ∨ fl (m_now ms) f9 8 = 2))), m_is ms, nI (remC u), m_bd ms, m_pc ms, m_pa ms, m_sz ms, m_cu ms, m_st ms, m_tk ms, m_to ms, m_ps ms, m_now ms, m_asd ms, remU (m_und ms) (m_now ms) u, m_sav ms, m_isv ms, m_buf ms, m_grp ms, m_pag ms⟩ : MM) σ0 f9 0 (-1) (by first | assumption | omega)) tX2_goesTo q2419 (mc_0 _ _ _) rfl rfl dX2_takeDown_55 (by decide) (Nat.le_of_eq (Nat.zero_add _)) (Nat.le_of_ble_eq_true rfl) ?_
          refine A_aload_n (i := 0) dX2_takeDown_58 rfl rfl ?_
          refine A_iload_n (i := 1) dX2_takeDown_59 rfl rfl ?_
          refine A_iconst (v := 4) dX2_takeDown_60 (by decide) ?_
          refine A_callV2E (v := some (.int (fl (goTo (m_now ms) f9 0 (-1)) f9 4))) (τ := mc b9 (⟨mayT (m_is ms) (bi (okF (m_is ms) (m_now ms) (nI f9))) (bi (okF (m_is ms) (m_now ms) (nI f9) ∧ (fl (m_now ms) f9 8 = 1 ∨ fl (m_now ms) f9 8 = 2))), m_is ms, nI (remC u), m_bd ms, m_pc ms, m_pa ms, m_sz ms, m_cu ms, m_st ms, m_tk ms, m_to ms, m_ps ms, goTo (m_now ms) f9 0 (-1), m_asd ms, remU (m_und ms) (m_now ms) u, m_sav ms, m_isv ms, m_buf ms, m_grp ms, m_pag ms⟩ : MM) σ0) (c_ofFlag b9 (⟨mayT (m_is ms) (bi (okF (m_is ms) (m_now ms) (nI f9))) (bi (okF (m_is ms) (m_now ms) (nI f9) ∧ (fl (m_now ms) f9 8 = 1 ∨ fl (m_now ms) f9 8 = 2))), m_is ms, nI (remC u), m_bd ms, m_pc ms, m_pa ms, m_sz ms, m_cu ms, m_st ms, m_tk ms, m_to ms, m_ps ms, goTo (m_now ms) f9 0 (-1), m_asd ms, remU (m_und ms) (m_now ms) u, m_sav ms, m_isv ms, m_buf ms, m_grp ms, m_pag ms⟩ : MM) σ0 f9 4 (by first | assumption | omega) (by first | assumption | omega)) tX2_ofFlag q2444 (mc_0 _ _ _) rfl rfl dX2_takeDown_61 (by decide) (Nat.le_of_eq (Nat.zero_add _)) (Nat.le_of_ble_eq_true rfl) ?_
          exact A_iret dX2_takeDown_64 rfl ⟨by rw [gd, if_pos c7], by simp only [gq_t c7] <;> rfl⟩
        · skip
          have c7 := bi_eq0.mp c7
          refine A_iconst (v := 0) dX2_takeDown_45 (by decide) ?_
          exact A_iret dX2_takeDown_46 rfl ⟨by rw [gd, if_neg c7], by simp only [gq_f c7]⟩
theorem c_iron {l : Launch} {g : GC} (b9 : Nat) (ms : MM) (σ0 : AH) (u : Nat) (f : Int32) (h : Int32) (h1 : WFc (m_now ms)) (h2 : u ≤ 8) : AMet l g mX2_iron 5 0 [.ref b9, .int f, .int h] (mc b9 (⟨m_thr ms, m_is ms, nI u, m_bd ms, m_pc ms, m_pa ms, m_sz ms, m_cu ms, m_st ms, m_tk ms, m_to ms, m_ps ms, m_now ms, m_asd ms, m_und ms, m_sav ms, m_isv ms, m_buf ms, m_grp ms, m_pag ms⟩ : MM) σ0) (A_eq (some (.int (gd (mayT (m_is ms) (bi (okF (m_is ms) (m_now ms) f)) (bi (okF (m_is ms) (m_now ms) f ∧ inR h 0 3 ∧ whyIronN (m_now ms) (ix f) h = 0))) (fl (ironN (m_now ms) (ix f) h) (ix f) 5)))) (mc b9 (⟨mayT (m_is ms) (bi (okF (m_is ms) (m_now ms) f)) (bi (okF (m_is ms) (m_now ms) f ∧ inR h 0 3 ∧ whyIronN (m_now ms) (ix f) h = 0)), m_is ms, nI (gq (mayT (m_is ms) (bi (okF (m_is ms) (m_now ms) f)) (bi (okF (m_is ms) (m_now ms) f ∧ inR h 0 3 ∧ whyIronN (m_now ms) (ix f) h = 0))) (remC u) u), m_bd ms, m_pc ms, m_pa ms, m_sz ms, m_cu ms, m_st ms, m_tk ms, m_to ms, m_ps ms, gq (mayT (m_is ms) (bi (okF (m_is ms) (m_now ms) f)) (bi (okF (m_is ms) (m_now ms) f ∧ inR h 0 3 ∧ whyIronN (m_now ms) (ix f) h = 0))) (ironN (m_now ms) (ix f) h) (m_now ms), m_asd ms, gq (mayT (m_is ms) (bi (okF (m_is ms) (m_now ms) f)) (bi (okF (m_is ms) (m_now ms) f ∧ inR h 0 3 ∧ whyIronN (m_now ms) (ix f) h = 0))) (remU (m_und ms) (m_now ms) u) (m_und ms), m_sav ms, m_isv ms, m_buf ms, m_grp ms, m_pag ms⟩ : MM) σ0)) A_no := by
  refine A_of rfl (by decide) (Nat.le_of_ble_eq_true rfl) (L0 := [(0, .ref b9), (1, .int f), (2, .int h)]) rfl ?_
  have hF := h1.2.2.2.2.2
  have hC := h1.1.2
  refine A_aload_n (i := 0) dX2_iron_0 rfl rfl ?_
  refine A_iload_n (i := 1) dX2_iron_1 rfl rfl ?_
  refine A_callV1E (v := some (.int (bi (okF (m_is ms) (m_now ms) f)))) (τ := mc b9 (⟨m_thr ms, m_is ms, nI u, m_bd ms, m_pc ms, m_pa ms, m_sz ms, m_cu ms, m_st ms, m_tk ms, m_to ms, m_ps ms, m_now ms, m_asd ms, m_und ms, m_sav ms, m_isv ms, m_buf ms, m_grp ms, m_pag ms⟩ : MM) σ0) (c_isFlag b9 (⟨m_thr ms, m_is ms, nI u, m_bd ms, m_pc ms, m_pa ms, m_sz ms, m_cu ms, m_st ms, m_tk ms, m_to ms, m_ps ms, m_now ms, m_asd ms, m_und ms, m_sav ms, m_isv ms, m_buf ms, m_grp ms, m_pag ms⟩ : MM) σ0 f) tX2_isFlag q2629 (mc_0 _ _ _) rfl rfl dX2_iron_2 (by decide) (Nat.le_of_eq (Nat.zero_add _)) (Nat.le_of_ble_eq_true rfl) ?_
  refine A_istore_n (i := 3) dX2_iron_5 rfl (Nat.le_of_ble_eq_true rfl) ?_
  refine A_aload_n (i := 0) dX2_iron_6 rfl rfl ?_
  refine A_aload_n (i := 0) dX2_iron_7 rfl rfl ?_
  refine M_get 6 (v := .int (m_is ms)) (Nat.le_of_ble_eq_true rfl) q2235 rfl dX2_iron_8 ?_
  refine A_iload_n (i := 3) dX2_iron_11 rfl rfl ?_
  refine A_iload_n (i := 3) dX2_iron_12 rfl rfl ?_
  refine A_if_eq (tgt := 36) dX2_iron_13 (by decide) (fun c1 => ?_) (fun c1 => ?_)
  · skip
    have c1 := bi_eq0.mp c1
    refine A_iconst (v := 0) dX2_iron_36 (by decide) ?_
    refine A_int (w := bi (okF (m_is ms) (m_now ms) f ∧ inR h 0 3 ∧ whyIronN (m_now ms) (ix f) h = 0)) ((bi_f (fun h9 => c1 h9.1)).symm) ?_
    refine A_callV3E (v := some (.int (bi (mayT (m_is ms) (bi (okF (m_is ms) (m_now ms) f)) (bi (okF (m_is ms) (m_now ms) f ∧ inR h 0 3 ∧ whyIronN (m_now ms) (ix f) h = 0)) = 0)))) (τ := mc b9 (⟨mayT (m_is ms) (bi (okF (m_is ms) (m_now ms) f)) (bi (okF (m_is ms) (m_now ms) f ∧ inR h 0 3 ∧ whyIronN (m_now ms) (ix f) h = 0)), m_is ms, nI u, m_bd ms, m_pc ms, m_pa ms, m_sz ms, m_cu ms, m_st ms, m_tk ms, m_to ms, m_ps ms, m_now ms, m_asd ms, m_und ms, m_sav ms, m_isv ms, m_buf ms, m_grp ms, m_pag ms⟩ : MM) σ0) (c_may b9 (⟨m_thr ms, m_is ms, nI u, m_bd ms, m_pc ms, m_pa ms, m_sz ms, m_cu ms, m_st ms, m_tk ms, m_to ms, m_ps ms, m_now ms, m_asd ms, m_und ms, m_sav ms, m_isv ms, m_buf ms, m_grp ms, m_pag ms⟩ : MM) σ0 (m_is ms) (bi (okF (m_is ms) (m_now ms) f)) (bi (okF (m_is ms) (m_now ms) f ∧ inR h 0 3 ∧ whyIronN (m_now ms) (ix f) h = 0))) tX2_may q2322 (mc_0 _ _ _) rfl rfl dX2_iron_37 (by decide) (Nat.le_of_eq (Nat.zero_add _)) (Nat.le_of_ble_eq_true rfl) ?_
    refine A_if_ne (tgt := 45) dX2_iron_40 (by decide) (fun c2 => ?_) (fun c2 => ?_)
    · skip
      have c2 := bi_ne0.mp c2
      exact (show False from (fun h9 => c1 h9.1) (mayT_z c2)).elim
    · skip
      have c2 := bi_eq0.mp c2
      refine A_iconst (v := 0) dX2_iron_43 (by decide) ?_
      exact A_iret dX2_iron_44 rfl ⟨by rw [gd, if_neg c2], by simp only [gq_f c2]⟩
  · skip
    have c1 := bi_ne0.mp c1
    obtain ⟨f9, hf9, rfl⟩ := okF_ex h1 c1
    try rw [ixn (show f9 < 2000 by omega)]
    refine A_iload_n (i := 2) dX2_iron_16 rfl rfl ?_
    refine A_callS1E (v := some (.int (bi (inR h 0 3)))) (τ := mc b9 (⟨m_thr ms, m_is ms, nI u, m_bd ms, m_pc ms, m_pa ms, m_sz ms, m_cu ms, m_st ms, m_tk ms, m_to ms, m_ps ms, m_now ms, m_asd ms, m_und ms, m_sav ms, m_isv ms, m_buf ms, m_grp ms, m_pag ms⟩ : MM) σ0) (c_isHeat b9 (⟨m_thr ms, m_is ms, nI u, m_bd ms, m_pc ms, m_pa ms, m_sz ms, m_cu ms, m_st ms, m_tk ms, m_to ms, m_ps ms, m_now ms, m_asd ms, m_und ms, m_sav ms, m_isv ms, m_buf ms, m_grp ms, m_pag ms⟩ : MM) σ0 h) tX2_isHeat q2714 dX2_iron_17 (by decide) (Nat.le_of_eq (Nat.zero_add _)) (Nat.le_of_ble_eq_true rfl) ?_
    refine A_if_eq (tgt := 36) dX2_iron_20 (by decide) (fun c3 => ?_) (fun c3 => ?_)
    · skip
      have c3 := bi_eq0.mp c3
      refine A_iconst (v := 0) dX2_iron_36 (by decide) ?_
      refine A_int (w := bi (okF (m_is ms) (m_now ms) (nI f9) ∧ inR h 0 3 ∧ whyIronN (m_now ms) f9 h = 0)) ((bi_f (fun h9 => by first | exact c3 (h9.2.1) | exact absurd (h9.2.1) c3 | exact (h9.2.1) c3)).symm) ?_
      refine A_callV3E (v := some (.int (bi (mayT (m_is ms) (bi (okF (m_is ms) (m_now ms) (nI f9))) (bi (okF (m_is ms) (m_now ms) (nI f9) ∧ inR h 0 3 ∧ whyIronN (m_now ms) f9 h = 0)) = 0)))) (τ := mc b9 (⟨mayT (m_is ms) (bi (okF (m_is ms) (m_now ms) (nI f9))) (bi (okF (m_is ms) (m_now ms) (nI f9) ∧ inR h 0 3 ∧ whyIronN (m_now ms) f9 h = 0)), m_is ms, nI u, m_bd ms, m_pc ms, m_pa ms, m_sz ms, m_cu ms, m_st ms, m_tk ms, m_to ms, m_ps ms, m_now ms, m_asd ms, m_und ms, m_sav ms, m_isv ms, m_buf ms, m_grp ms, m_pag ms⟩ : MM) σ0) (c_may b9 (⟨m_thr ms, m_is ms, nI u, m_bd ms, m_pc ms, m_pa ms, m_sz ms, m_cu ms, m_st ms, m_tk ms, m_to ms, m_ps ms, m_now ms, m_asd ms, m_und ms, m_sav ms, m_isv ms, m_buf ms, m_grp ms, m_pag ms⟩ : MM) σ0 (m_is ms) (bi (okF (m_is ms) (m_now ms) (nI f9))) (bi (okF (m_is ms) (m_now ms) (nI f9) ∧ inR h 0 3 ∧ whyIronN (m_now ms) f9 h = 0))) tX2_may q2322 (mc_0 _ _ _) rfl rfl dX2_iron_37 (by decide) (Nat.le_of_eq (Nat.zero_add _)) (Nat.le_of_ble_eq_true rfl) ?_
      refine A_if_ne (tgt := 45) dX2_iron_40 (by decide) (fun c4 => ?_) (fun c4 => ?_)
      · skip
        have c4 := bi_ne0.mp c4
        exact (show False from (fun h9 => by first | exact c3 (h9.2.1) | exact absurd (h9.2.1) c3 | exact (h9.2.1) c3) (mayT_z c4)).elim
      · skip
        have c4 := bi_eq0.mp c4
        refine A_iconst (v := 0) dX2_iron_43 (by decide) ?_
        exact A_iret dX2_iron_44 rfl ⟨by rw [gd, if_neg c4], by simp only [gq_f c4]⟩
    · skip
      have c3 := bi_ne0.mp c3
      refine A_aload_n (i := 0) dX2_iron_23 rfl rfl ?_
      refine A_iload_n (i := 1) dX2_iron_24 rfl rfl ?_
      refine A_iload_n (i := 2) dX2_iron_25 rfl rfl ?_
      refine A_callV2E (v := some (.int (whyIronN (m_now ms) f9 h))) (τ := mc b9 (⟨m_thr ms, m_is ms, nI u, m_bd ms, m_pc ms, m_pa ms, m_sz ms, m_cu ms, m_st ms, m_tk ms, m_to ms, m_ps ms, m_now ms, m_asd ms, m_und ms, m_sav ms, m_isv ms, m_buf ms, m_grp ms, m_pag ms⟩ : MM) σ0) (c_whyIron b9 (⟨m_thr ms, m_is ms, nI u, m_bd ms, m_pc ms, m_pa ms, m_sz ms, m_cu ms, m_st ms, m_tk ms, m_to ms, m_ps ms, m_now ms, m_asd ms, m_und ms, m_sav ms, m_isv ms, m_buf ms, m_grp ms, m_pag ms⟩ : MM) σ0 f9 h (by first | assumption | omega)) tX2_whyIron q2721 (mc_0 _ _ _) rfl rfl dX2_iron_26 (by decide) (Nat.le_of_eq (Nat.zero_add _)) (Nat.le_of_ble_eq_true rfl) ?_
      refine A_if_ne (tgt := 36) dX2_iron_29 (by decide) (fun c5 => ?_) (fun c5 => ?_)
      · skip
        refine A_iconst (v := 0) dX2_iron_36 (by decide) ?_
        refine A_int (w := bi (okF (m_is ms) (m_now ms) (nI f9) ∧ inR h 0 3 ∧ whyIronN (m_now ms) f9 h = 0)) ((bi_f (fun h9 => by first | exact c5 (h9.2.2) | exact absurd (h9.2.2) c5 | exact (h9.2.2) c5)).symm) ?_
        refine A_callV3E (v := some (.int (bi (mayT (m_is ms) (bi (okF (m_is ms) (m_now ms) (nI f9))) (bi (okF (m_is ms) (m_now ms) (nI f9) ∧ inR h 0 3 ∧ whyIronN (m_now ms) f9 h = 0)) = 0)))) (τ := mc b9 (⟨mayT (m_is ms) (bi (okF (m_is ms) (m_now ms) (nI f9))) (bi (okF (m_is ms) (m_now ms) (nI f9) ∧ inR h 0 3 ∧ whyIronN (m_now ms) f9 h = 0)), m_is ms, nI u, m_bd ms, m_pc ms, m_pa ms, m_sz ms, m_cu ms, m_st ms, m_tk ms, m_to ms, m_ps ms, m_now ms, m_asd ms, m_und ms, m_sav ms, m_isv ms, m_buf ms, m_grp ms, m_pag ms⟩ : MM) σ0) (c_may b9 (⟨m_thr ms, m_is ms, nI u, m_bd ms, m_pc ms, m_pa ms, m_sz ms, m_cu ms, m_st ms, m_tk ms, m_to ms, m_ps ms, m_now ms, m_asd ms, m_und ms, m_sav ms, m_isv ms, m_buf ms, m_grp ms, m_pag ms⟩ : MM) σ0 (m_is ms) (bi (okF (m_is ms) (m_now ms) (nI f9))) (bi (okF (m_is ms) (m_now ms) (nI f9) ∧ inR h 0 3 ∧ whyIronN (m_now ms) f9 h = 0))) tX2_may q2322 (mc_0 _ _ _) rfl rfl dX2_iron_37 (by decide) (Nat.le_of_eq (Nat.zero_add _)) (Nat.le_of_ble_eq_true rfl) ?_
        refine A_if_ne (tgt := 45) dX2_iron_40 (by decide) (fun c6 => ?_) (fun c6 => ?_)
        · skip
          have c6 := bi_ne0.mp c6
          exact (show False from (fun h9 => by first | exact c5 (h9.2.2) | exact absurd (h9.2.2) c5 | exact (h9.2.2) c5) (mayT_z c6)).elim
        · skip
          have c6 := bi_eq0.mp c6
          refine A_iconst (v := 0) dX2_iron_43 (by decide) ?_
          exact A_iret dX2_iron_44 rfl ⟨by rw [gd, if_neg c6], by simp only [gq_f c6]⟩
      · skip
        refine A_iconst (v := 1) dX2_iron_32 (by decide) ?_
        refine A_goto (tgt := 37) dX2_iron_33 (by decide) ?_
        refine A_int (w := bi (okF (m_is ms) (m_now ms) (nI f9) ∧ inR h 0 3 ∧ whyIronN (m_now ms) f9 h = 0)) ((bi_t ⟨c1, c3, c5⟩).symm) ?_
        refine A_callV3E (v := some (.int (bi (mayT (m_is ms) (bi (okF (m_is ms) (m_now ms) (nI f9))) (bi (okF (m_is ms) (m_now ms) (nI f9) ∧ inR h 0 3 ∧ whyIronN (m_now ms) f9 h = 0)) = 0)))) (τ := mc b9 (⟨mayT (m_is ms) (bi (okF (m_is ms) (m_now ms) (nI f9))) (bi (okF (m_is ms) (m_now ms) (nI f9) ∧ inR h 0 3 ∧ whyIronN (m_now ms) f9 h = 0)), m_is ms, nI u, m_bd ms, m_pc ms, m_pa ms, m_sz ms, m_cu ms, m_st ms, m_tk ms, m_to ms, m_ps ms, m_now ms, m_asd ms, m_und ms, m_sav ms, m_isv ms, m_buf ms, m_grp ms, m_pag ms⟩ : MM) σ0) (c_may b9 (⟨m_thr ms, m_is ms, nI u, m_bd ms, m_pc ms, m_pa ms, m_sz ms, m_cu ms, m_st ms, m_tk ms, m_to ms, m_ps ms, m_now ms, m_asd ms, m_und ms, m_sav ms, m_isv ms, m_buf ms, m_grp ms, m_pag ms⟩ : MM) σ0 (m_is ms) (bi (okF (m_is ms) (m_now ms) (nI f9))) (bi (okF (m_is ms) (m_now ms) (nI f9) ∧ inR h 0 3 ∧ whyIronN (m_now ms) f9 h = 0))) tX2_may q2322 (mc_0 _ _ _) rfl rfl dX2_iron_37 (by decide) (Nat.le_of_eq (Nat.zero_add _)) (Nat.le_of_ble_eq_true rfl) ?_
        refine A_if_ne (tgt := 45) dX2_iron_40 (by decide) (fun c7 => ?_) (fun c7 => ?_)
        · skip
          have c7 := bi_ne0.mp c7
          refine A_aload_n (i := 0) dX2_iron_45 rfl rfl ?_
          refine A_callV0E (v := none) (τ := mc b9 (⟨mayT (m_is ms) (bi (okF (m_is ms) (m_now ms) (nI f9))) (bi (okF (m_is ms) (m_now ms) (nI f9) ∧ inR h 0 3 ∧ whyIronN (m_now ms) f9 h = 0)), m_is ms, nI (remC u), m_bd ms, m_pc ms, m_pa ms, m_sz ms, m_cu ms, m_st ms, m_tk ms, m_to ms, m_ps ms, m_now ms, m_asd ms, remU (m_und ms) (m_now ms) u, m_sav ms, m_isv ms, m_buf ms, m_grp ms, m_pag ms⟩ : MM) σ0) (c_remembers b9 (⟨mayT (m_is ms) (bi (okF (m_is ms) (m_now ms) (nI f9))) (bi (okF (m_is ms) (m_now ms) (nI f9) ∧ inR h 0 3 ∧ whyIronN (m_now ms) f9 h = 0)), m_is ms, nI u, m_bd ms, m_pc ms, m_pa ms, m_sz ms, m_cu ms, m_st ms, m_tk ms, m_to ms, m_ps ms, m_now ms, m_asd ms, m_und ms, m_sav ms, m_isv ms, m_buf ms, m_grp ms, m_pag ms⟩ : MM) σ0 u (by first | assumption | omega)) tX2_remembers q2899 (mc_0 _ _ _) rfl rfl dX2_iron_46 (by decide) (Nat.le_of_eq (Nat.zero_add _)) (Nat.le_of_ble_eq_true rfl) ?_
          refine A_aload_n (i := 0) dX2_iron_49 rfl rfl ?_
          refine A_iload_n (i := 1) dX2_iron_50 rfl rfl ?_
          refine A_iload_n (i := 2) dX2_iron_51 rfl rfl ?_
          refine A_callV2E (v := none) (τ := mc b9 (⟨mayT (m_is ms) (bi (okF (m_is ms) (m_now ms) (nI f9))) (bi (okF (m_is ms) (m_now ms) (nI f9) ∧ inR h 0 3 ∧ whyIronN (m_now ms) f9 h = 0)), m_is ms, nI (remC u), m_bd ms, m_pc ms, m_pa ms, m_sz ms, m_cu ms, m_st ms, m_tk ms, m_to ms, m_ps ms, ironN (m_now ms) f9 h, m_asd ms, remU (m_und ms) (m_now ms) u, m_sav ms, m_isv ms, m_buf ms, m_grp ms, m_pag ms⟩ : MM) σ0) (c_irons b9 (⟨mayT (m_is ms) (bi (okF (m_is ms) (m_now ms) (nI f9))) (bi (okF (m_is ms) (m_now ms) (nI f9) ∧ inR h 0 3 ∧ whyIronN (m_now ms) f9 h = 0)), m_is ms, nI (remC u), m_bd ms, m_pc ms, m_pa ms, m_sz ms, m_cu ms, m_st ms, m_tk ms, m_to ms, m_ps ms, m_now ms, m_asd ms, remU (m_und ms) (m_now ms) u, m_sav ms, m_isv ms, m_buf ms, m_grp ms, m_pag ms⟩ : MM) σ0 f9 h (by first | assumption | omega)) tX2_irons q2844 (mc_0 _ _ _) rfl rfl dX2_iron_52 (by decide) (Nat.le_of_eq (Nat.zero_add _)) (Nat.le_of_ble_eq_true rfl) ?_
          refine A_aload_n (i := 0) dX2_iron_55 rfl rfl ?_
          refine A_iload_n (i := 1) dX2_iron_56 rfl rfl ?_
          refine A_iconst (v := 5) dX2_iron_57 (by decide) ?_
          refine A_callV2E (v := some (.int (fl (ironN (m_now ms) f9 h) f9 5))) (τ := mc b9 (⟨mayT (m_is ms) (bi (okF (m_is ms) (m_now ms) (nI f9))) (bi (okF (m_is ms) (m_now ms) (nI f9) ∧ inR h 0 3 ∧ whyIronN (m_now ms) f9 h = 0)), m_is ms, nI (remC u), m_bd ms, m_pc ms, m_pa ms, m_sz ms, m_cu ms, m_st ms, m_tk ms, m_to ms, m_ps ms, ironN (m_now ms) f9 h, m_asd ms, remU (m_und ms) (m_now ms) u, m_sav ms, m_isv ms, m_buf ms, m_grp ms, m_pag ms⟩ : MM) σ0) (c_ofFlag b9 (⟨mayT (m_is ms) (bi (okF (m_is ms) (m_now ms) (nI f9))) (bi (okF (m_is ms) (m_now ms) (nI f9) ∧ inR h 0 3 ∧ whyIronN (m_now ms) f9 h = 0)), m_is ms, nI (remC u), m_bd ms, m_pc ms, m_pa ms, m_sz ms, m_cu ms, m_st ms, m_tk ms, m_to ms, m_ps ms, ironN (m_now ms) f9 h, m_asd ms, remU (m_und ms) (m_now ms) u, m_sav ms, m_isv ms, m_buf ms, m_grp ms, m_pag ms⟩ : MM) σ0 f9 5 (by first | assumption | omega) (by first | assumption | omega)) tX2_ofFlag q2444 (mc_0 _ _ _) rfl rfl dX2_iron_58 (by decide) (Nat.le_of_eq (Nat.zero_add _)) (Nat.le_of_ble_eq_true rfl) ?_
          exact A_iret dX2_iron_61 rfl ⟨by rw [gd, if_pos c7], by simp only [gq_t c7] <;> rfl⟩
        · skip
          have c7 := bi_eq0.mp c7
          refine A_iconst (v := 0) dX2_iron_43 (by decide) ?_
          exact A_iret dX2_iron_44 rfl ⟨by rw [gd, if_neg c7], by simp only [gq_f c7]⟩
theorem c_stainsOf {l : Launch} {g : GC} (b9 : Nat) (ms : MM) (σ0 : AH) (f : Nat) (h1 : WFc (m_now ms)) (h2 : f < 12) : AMet l g mX2_stainsOf 2 0 [.ref b9, .int (nI f)] (mc b9 ms σ0) (A_eq (some (.int (stN (m_now ms) f))) (mc b9 ms σ0)) A_no := by
  refine A_of rfl (by decide) (Nat.le_of_ble_eq_true rfl) (L0 := [(0, .ref b9), (1, .int (nI f))]) rfl ?_
  have hF := h1.2.2.2.2.2
  have hC := h1.1.2
  refine A_iconst (v := 0) dX2_stainsOf_0 (by decide) ?_
  refine A_istore_n (i := 2) dX2_stainsOf_1 rfl (Nat.le_of_ble_eq_true rfl) ?_
  refine A_iconst (v := 0) dX2_stainsOf_2 (by decide) ?_
  refine A_istore_n (i := 3) dX2_stainsOf_3 rfl (Nat.le_of_ble_eq_true rfl) ?_
  refine A_sub (L' := [(0, .ref b9), (1, .int (nI f)), (2, .int (sm (fun c => bi (hasB (fl (m_now ms) f 6) (nI c))) 0)), (3, .int (nI 0))]) ⟨rfl, rfl, rfl, rfl, trivial⟩ ?_
  refine A_for (nC (m_now ms)) (fun i4 => 0) (fun i4 => [(0, .ref b9), (1, .int (nI f)), (2, .int (sm (fun c => bi (hasB (fl (m_now ms) f 6) (nI c))) i4)), (3, .int (nI i4))]) (fun i4 => mc b9 ms σ0) (fun i4 => True) trivial (fun i4 hi4 hI4 ih4 => ?_) (fun hI4 => ?_)
  · skip
    refine A_iload_n (i := 3) dX2_stainsOf_4 rfl rfl ?_
    refine A_aload_n (i := 0) dX2_stainsOf_5 rfl rfl ?_
    refine M_get 1 (v := .ref (b9 + 1)) (Nat.le_of_ble_eq_true rfl) q2230 rfl dX2_stainsOf_6 ?_
    refine A_bipush (v := 6) dX2_stainsOf_9 (by decide) ?_
    refine M_ald1 (n := 6) (v := m_now ms 6) (rfl) (by decide) (rfl) dX2_stainsOf_11 ?_
    refine A_icmp_ge_f (tgt := 38) dX2_stainsOf_12 (by decide) (br_lt h1.1.1 hi4 (by omega)) ?_
    refine A_iload_n (i := 2) dX2_stainsOf_15 rfl rfl ?_
    refine A_aload_n (i := 0) dX2_stainsOf_16 rfl rfl ?_
    refine A_iload_n (i := 1) dX2_stainsOf_17 rfl rfl ?_
    refine A_bipush (v := 6) dX2_stainsOf_18 (by decide) ?_
    refine A_callV2E (v := some (.int (fl (m_now ms) f 6))) (τ := mc b9 ms σ0) (c_ofFlag b9 ms σ0 f 6 (by first | assumption | omega) (by first | assumption | omega)) tX2_ofFlag q2444 (mc_0 _ _ _) rfl rfl dX2_stainsOf_20 (by decide) (Nat.le_of_eq (Nat.zero_add _)) (Nat.le_of_ble_eq_true rfl) ?_
    refine A_iload_n (i := 3) dX2_stainsOf_23 rfl rfl ?_
    refine A_callS2E (v := some (.int (bi (hasB (fl (m_now ms) f 6) (nI i4))))) (τ := mc b9 ms σ0) (c_has b9 ms σ0 (fl (m_now ms) f 6) (nI i4)) tX2_has q2408 dX2_stainsOf_24 (by decide) (Nat.le_of_eq (Nat.zero_add _)) (Nat.le_of_ble_eq_true rfl) ?_
    refine A_callS1E (v := some (.int (oneI (bi (hasB (fl (m_now ms) f 6) (nI i4)))))) (τ := mc b9 ms σ0) (c_one b9 ms σ0 (bi (hasB (fl (m_now ms) f 6) (nI i4)))) tX2_one q2456 dX2_stainsOf_27 (by decide) (Nat.le_of_eq (Nat.zero_add _)) (Nat.le_of_ble_eq_true rfl) ?_
    refine A_int (w := (bi (hasB (fl (m_now ms) f 6) (nI i4)))) (oneI_bi _) ?_
    refine A_iadd dX2_stainsOf_30 ?_
    refine A_istore_n (i := 2) dX2_stainsOf_31 rfl (Nat.le_of_ble_eq_true rfl) ?_
    refine A_iinc (v := nI (i4 + 1)) dX2_stainsOf_32 rfl (nI_inc _ _) (Nat.le_of_ble_eq_true rfl) ?_
    refine A_goto (tgt := 4) dX2_stainsOf_35 (by decide) ?_
    refine A_sub (L' := [(0, .ref b9), (1, .int (nI f)), (2, .int (sm (fun c => bi (hasB (fl (m_now ms) f 6) (nI c))) (i4 + 1))), (3, .int (nI (i4 + 1)))]) ⟨rfl, rfl, rfl, rfl, trivial⟩ ?_
    exact ih4 trivial
  · skip
    refine A_iload_n (i := 3) dX2_stainsOf_4 rfl rfl ?_
    refine A_aload_n (i := 0) dX2_stainsOf_5 rfl rfl ?_
    refine M_get 1 (v := .ref (b9 + 1)) (Nat.le_of_ble_eq_true rfl) q2230 rfl dX2_stainsOf_6 ?_
    refine A_bipush (v := 6) dX2_stainsOf_9 (by decide) ?_
    refine M_ald1 (n := 6) (v := m_now ms 6) (rfl) (by decide) (rfl) dX2_stainsOf_11 ?_
    refine A_icmp_ge_t (tgt := 38) dX2_stainsOf_12 (by decide) (br_ge h1.1.1) ?_
    refine A_iload_n (i := 2) dX2_stainsOf_38 rfl rfl ?_
    exact A_iret dX2_stainsOf_39 rfl ⟨rfl, rfl⟩
theorem c_bleach {l : Launch} {g : GC} (b9 : Nat) (ms : MM) (σ0 : AH) (u : Nat) (f : Int32) (h1 : WFc (m_now ms)) (h2 : u ≤ 8) : AMet l g mX2_bleach 5 0 [.ref b9, .int f] (mc b9 (⟨m_thr ms, m_is ms, nI u, m_bd ms, m_pc ms, m_pa ms, m_sz ms, m_cu ms, m_st ms, m_tk ms, m_to ms, m_ps ms, m_now ms, m_asd ms, m_und ms, m_sav ms, m_isv ms, m_buf ms, m_grp ms, m_pag ms⟩ : MM) σ0) (A_eq (some (.int (gd (mayT (m_is ms) (bi (okF (m_is ms) (m_now ms) f)) (bi (okF (m_is ms) (m_now ms) f ∧ whyBlN (m_now ms) (ix f) = 0))) (stN (m_now ms) (ix f))))) (mc b9 (⟨mayT (m_is ms) (bi (okF (m_is ms) (m_now ms) f)) (bi (okF (m_is ms) (m_now ms) f ∧ whyBlN (m_now ms) (ix f) = 0)), m_is ms, nI (gq (mayT (m_is ms) (bi (okF (m_is ms) (m_now ms) f)) (bi (okF (m_is ms) (m_now ms) f ∧ whyBlN (m_now ms) (ix f) = 0))) (remC u) u), m_bd ms, m_pc ms, m_pa ms, m_sz ms, m_cu ms, m_st ms, m_tk ms, m_to ms, m_ps ms, gq (mayT (m_is ms) (bi (okF (m_is ms) (m_now ms) f)) (bi (okF (m_is ms) (m_now ms) f ∧ whyBlN (m_now ms) (ix f) = 0))) (blN (m_now ms) (ix f)) (m_now ms), m_asd ms, gq (mayT (m_is ms) (bi (okF (m_is ms) (m_now ms) f)) (bi (okF (m_is ms) (m_now ms) f ∧ whyBlN (m_now ms) (ix f) = 0))) (remU (m_und ms) (m_now ms) u) (m_und ms), m_sav ms, m_isv ms, m_buf ms, m_grp ms, m_pag ms⟩ : MM) σ0)) A_no := by
  refine A_of rfl (by decide) (Nat.le_of_ble_eq_true rfl) (L0 := [(0, .ref b9), (1, .int f)]) rfl ?_
  have hF := h1.2.2.2.2.2
  have hC := h1.1.2
  refine A_aload_n (i := 0) dX2_bleach_0 rfl rfl ?_
  refine A_iload_n (i := 1) dX2_bleach_1 rfl rfl ?_
  refine A_callV1E (v := some (.int (bi (okF (m_is ms) (m_now ms) f)))) (τ := mc b9 (⟨m_thr ms, m_is ms, nI u, m_bd ms, m_pc ms, m_pa ms, m_sz ms, m_cu ms, m_st ms, m_tk ms, m_to ms, m_ps ms, m_now ms, m_asd ms, m_und ms, m_sav ms, m_isv ms, m_buf ms, m_grp ms, m_pag ms⟩ : MM) σ0) (c_isFlag b9 (⟨m_thr ms, m_is ms, nI u, m_bd ms, m_pc ms, m_pa ms, m_sz ms, m_cu ms, m_st ms, m_tk ms, m_to ms, m_ps ms, m_now ms, m_asd ms, m_und ms, m_sav ms, m_isv ms, m_buf ms, m_grp ms, m_pag ms⟩ : MM) σ0 f) tX2_isFlag q2629 (mc_0 _ _ _) rfl rfl dX2_bleach_2 (by decide) (Nat.le_of_eq (Nat.zero_add _)) (Nat.le_of_ble_eq_true rfl) ?_
  refine A_istore_n (i := 2) dX2_bleach_5 rfl (Nat.le_of_ble_eq_true rfl) ?_
  refine A_aload_n (i := 0) dX2_bleach_6 rfl rfl ?_
  refine A_aload_n (i := 0) dX2_bleach_7 rfl rfl ?_
  refine M_get 6 (v := .int (m_is ms)) (Nat.le_of_ble_eq_true rfl) q2235 rfl dX2_bleach_8 ?_
  refine A_iload_n (i := 2) dX2_bleach_11 rfl rfl ?_
  refine A_iload_n (i := 2) dX2_bleach_12 rfl rfl ?_
  refine A_if_eq (tgt := 28) dX2_bleach_13 (by decide) (fun c1 => ?_) (fun c1 => ?_)
  · skip
    have c1 := bi_eq0.mp c1
    refine A_iconst (v := 0) dX2_bleach_28 (by decide) ?_
    refine A_int (w := bi (okF (m_is ms) (m_now ms) f ∧ whyBlN (m_now ms) (ix f) = 0)) ((bi_f (fun h9 => c1 h9.1)).symm) ?_
    refine A_callV3E (v := some (.int (bi (mayT (m_is ms) (bi (okF (m_is ms) (m_now ms) f)) (bi (okF (m_is ms) (m_now ms) f ∧ whyBlN (m_now ms) (ix f) = 0)) = 0)))) (τ := mc b9 (⟨mayT (m_is ms) (bi (okF (m_is ms) (m_now ms) f)) (bi (okF (m_is ms) (m_now ms) f ∧ whyBlN (m_now ms) (ix f) = 0)), m_is ms, nI u, m_bd ms, m_pc ms, m_pa ms, m_sz ms, m_cu ms, m_st ms, m_tk ms, m_to ms, m_ps ms, m_now ms, m_asd ms, m_und ms, m_sav ms, m_isv ms, m_buf ms, m_grp ms, m_pag ms⟩ : MM) σ0) (c_may b9 (⟨m_thr ms, m_is ms, nI u, m_bd ms, m_pc ms, m_pa ms, m_sz ms, m_cu ms, m_st ms, m_tk ms, m_to ms, m_ps ms, m_now ms, m_asd ms, m_und ms, m_sav ms, m_isv ms, m_buf ms, m_grp ms, m_pag ms⟩ : MM) σ0 (m_is ms) (bi (okF (m_is ms) (m_now ms) f)) (bi (okF (m_is ms) (m_now ms) f ∧ whyBlN (m_now ms) (ix f) = 0))) tX2_may q2322 (mc_0 _ _ _) rfl rfl dX2_bleach_29 (by decide) (Nat.le_of_eq (Nat.zero_add _)) (Nat.le_of_ble_eq_true rfl) ?_
    refine A_if_ne (tgt := 37) dX2_bleach_32 (by decide) (fun c2 => ?_) (fun c2 => ?_)
    · skip
      have c2 := bi_ne0.mp c2
      exact (show False from (fun h9 => c1 h9.1) (mayT_z c2)).elim
    · skip
      have c2 := bi_eq0.mp c2
      refine A_iconst (v := 0) dX2_bleach_35 (by decide) ?_
      exact A_iret dX2_bleach_36 rfl ⟨by rw [gd, if_neg c2], by simp only [gq_f c2]⟩
  · skip
    have c1 := bi_ne0.mp c1
    obtain ⟨f9, hf9, rfl⟩ := okF_ex h1 c1
    try rw [ixn (show f9 < 2000 by omega)]
    refine A_aload_n (i := 0) dX2_bleach_16 rfl rfl ?_
    refine A_iload_n (i := 1) dX2_bleach_17 rfl rfl ?_
    refine A_callV1E (v := some (.int (whyBlN (m_now ms) f9))) (τ := mc b9 (⟨m_thr ms, m_is ms, nI u, m_bd ms, m_pc ms, m_pa ms, m_sz ms, m_cu ms, m_st ms, m_tk ms, m_to ms, m_ps ms, m_now ms, m_asd ms, m_und ms, m_sav ms, m_isv ms, m_buf ms, m_grp ms, m_pag ms⟩ : MM) σ0) (c_whyBleach b9 (⟨m_thr ms, m_is ms, nI u, m_bd ms, m_pc ms, m_pa ms, m_sz ms, m_cu ms, m_st ms, m_tk ms, m_to ms, m_ps ms, m_now ms, m_asd ms, m_und ms, m_sav ms, m_isv ms, m_buf ms, m_grp ms, m_pag ms⟩ : MM) σ0 f9 (by first | assumption | omega)) tX2_whyBleach q2729 (mc_0 _ _ _) rfl rfl dX2_bleach_18 (by decide) (Nat.le_of_eq (Nat.zero_add _)) (Nat.le_of_ble_eq_true rfl) ?_
    refine A_if_ne (tgt := 28) dX2_bleach_21 (by decide) (fun c3 => ?_) (fun c3 => ?_)
    · skip
      refine A_iconst (v := 0) dX2_bleach_28 (by decide) ?_
      refine A_int (w := bi (okF (m_is ms) (m_now ms) (nI f9) ∧ whyBlN (m_now ms) f9 = 0)) ((bi_f (fun h9 => by first | exact c3 (h9.2) | exact absurd (h9.2) c3 | exact (h9.2) c3)).symm) ?_
      refine A_callV3E (v := some (.int (bi (mayT (m_is ms) (bi (okF (m_is ms) (m_now ms) (nI f9))) (bi (okF (m_is ms) (m_now ms) (nI f9) ∧ whyBlN (m_now ms) f9 = 0)) = 0)))) (τ := mc b9 (⟨mayT (m_is ms) (bi (okF (m_is ms) (m_now ms) (nI f9))) (bi (okF (m_is ms) (m_now ms) (nI f9) ∧ whyBlN (m_now ms) f9 = 0)), m_is ms, nI u, m_bd ms, m_pc ms, m_pa ms, m_sz ms, m_cu ms, m_st ms, m_tk ms, m_to ms, m_ps ms, m_now ms, m_asd ms, m_und ms, m_sav ms, m_isv ms, m_buf ms, m_grp ms, m_pag ms⟩ : MM) σ0) (c_may b9 (⟨m_thr ms, m_is ms, nI u, m_bd ms, m_pc ms, m_pa ms, m_sz ms, m_cu ms, m_st ms, m_tk ms, m_to ms, m_ps ms, m_now ms, m_asd ms, m_und ms, m_sav ms, m_isv ms, m_buf ms, m_grp ms, m_pag ms⟩ : MM) σ0 (m_is ms) (bi (okF (m_is ms) (m_now ms) (nI f9))) (bi (okF (m_is ms) (m_now ms) (nI f9) ∧ whyBlN (m_now ms) f9 = 0))) tX2_may q2322 (mc_0 _ _ _) rfl rfl dX2_bleach_29 (by decide) (Nat.le_of_eq (Nat.zero_add _)) (Nat.le_of_ble_eq_true rfl) ?_
      refine A_if_ne (tgt := 37) dX2_bleach_32 (by decide) (fun c4 => ?_) (fun c4 => ?_)
      · skip
        have c4 := bi_ne0.mp c4
        exact (show False from (fun h9 => by first | exact c3 (h9.2) | exact absurd (h9.2) c3 | exact (h9.2) c3) (mayT_z c4)).elim
      · skip
        have c4 := bi_eq0.mp c4
        refine A_iconst (v := 0) dX2_bleach_35 (by decide) ?_
        exact A_iret dX2_bleach_36 rfl ⟨by rw [gd, if_neg c4], by simp only [gq_f c4]⟩
    · skip
      refine A_iconst (v := 1) dX2_bleach_24 (by decide) ?_
      refine A_goto (tgt := 29) dX2_bleach_25 (by decide) ?_
      refine A_int (w := bi (okF (m_is ms) (m_now ms) (nI f9) ∧ whyBlN (m_now ms) f9 = 0)) ((bi_t ⟨c1, c3⟩).symm) ?_
      refine A_callV3E (v := some (.int (bi (mayT (m_is ms) (bi (okF (m_is ms) (m_now ms) (nI f9))) (bi (okF (m_is ms) (m_now ms) (nI f9) ∧ whyBlN (m_now ms) f9 = 0)) = 0)))) (τ := mc b9 (⟨mayT (m_is ms) (bi (okF (m_is ms) (m_now ms) (nI f9))) (bi (okF (m_is ms) (m_now ms) (nI f9) ∧ whyBlN (m_now ms) f9 = 0)), m_is ms, nI u, m_bd ms, m_pc ms, m_pa ms, m_sz ms, m_cu ms, m_st ms, m_tk ms, m_to ms, m_ps ms, m_now ms, m_asd ms, m_und ms, m_sav ms, m_isv ms, m_buf ms, m_grp ms, m_pag ms⟩ : MM) σ0) (c_may b9 (⟨m_thr ms, m_is ms, nI u, m_bd ms, m_pc ms, m_pa ms, m_sz ms, m_cu ms, m_st ms, m_tk ms, m_to ms, m_ps ms, m_now ms, m_asd ms, m_und ms, m_sav ms, m_isv ms, m_buf ms, m_grp ms, m_pag ms⟩ : MM) σ0 (m_is ms) (bi (okF (m_is ms) (m_now ms) (nI f9))) (bi (okF (m_is ms) (m_now ms) (nI f9) ∧ whyBlN (m_now ms) f9 = 0))) tX2_may q2322 (mc_0 _ _ _) rfl rfl dX2_bleach_29 (by decide) (Nat.le_of_eq (Nat.zero_add _)) (Nat.le_of_ble_eq_true rfl) ?_
      refine A_if_ne (tgt := 37) dX2_bleach_32 (by decide) (fun c5 => ?_) (fun c5 => ?_)
      · skip
        have c5 := bi_ne0.mp c5
        refine A_aload_n (i := 0) dX2_bleach_37 rfl rfl ?_
        refine A_callV0E (v := none) (τ := mc b9 (⟨mayT (m_is ms) (bi (okF (m_is ms) (m_now ms) (nI f9))) (bi (okF (m_is ms) (m_now ms) (nI f9) ∧ whyBlN (m_now ms) f9 = 0)), m_is ms, nI (remC u), m_bd ms, m_pc ms, m_pa ms, m_sz ms, m_cu ms, m_st ms, m_tk ms, m_to ms, m_ps ms, m_now ms, m_asd ms, remU (m_und ms) (m_now ms) u, m_sav ms, m_isv ms, m_buf ms, m_grp ms, m_pag ms⟩ : MM) σ0) (c_remembers b9 (⟨mayT (m_is ms) (bi (okF (m_is ms) (m_now ms) (nI f9))) (bi (okF (m_is ms) (m_now ms) (nI f9) ∧ whyBlN (m_now ms) f9 = 0)), m_is ms, nI u, m_bd ms, m_pc ms, m_pa ms, m_sz ms, m_cu ms, m_st ms, m_tk ms, m_to ms, m_ps ms, m_now ms, m_asd ms, m_und ms, m_sav ms, m_isv ms, m_buf ms, m_grp ms, m_pag ms⟩ : MM) σ0 u (by first | assumption | omega)) tX2_remembers q2899 (mc_0 _ _ _) rfl rfl dX2_bleach_38 (by decide) (Nat.le_of_eq (Nat.zero_add _)) (Nat.le_of_ble_eq_true rfl) ?_
        refine A_aload_n (i := 0) dX2_bleach_41 rfl rfl ?_
        refine A_iload_n (i := 1) dX2_bleach_42 rfl rfl ?_
        refine A_callV1E (v := some (.int (stN (m_now ms) f9))) (τ := mc b9 (⟨mayT (m_is ms) (bi (okF (m_is ms) (m_now ms) (nI f9))) (bi (okF (m_is ms) (m_now ms) (nI f9) ∧ whyBlN (m_now ms) f9 = 0)), m_is ms, nI (remC u), m_bd ms, m_pc ms, m_pa ms, m_sz ms, m_cu ms, m_st ms, m_tk ms, m_to ms, m_ps ms, m_now ms, m_asd ms, remU (m_und ms) (m_now ms) u, m_sav ms, m_isv ms, m_buf ms, m_grp ms, m_pag ms⟩ : MM) σ0) (c_stainsOf b9 (⟨mayT (m_is ms) (bi (okF (m_is ms) (m_now ms) (nI f9))) (bi (okF (m_is ms) (m_now ms) (nI f9) ∧ whyBlN (m_now ms) f9 = 0)), m_is ms, nI (remC u), m_bd ms, m_pc ms, m_pa ms, m_sz ms, m_cu ms, m_st ms, m_tk ms, m_to ms, m_ps ms, m_now ms, m_asd ms, remU (m_und ms) (m_now ms) u, m_sav ms, m_isv ms, m_buf ms, m_grp ms, m_pag ms⟩ : MM) σ0 f9 (by first | assumption | omega) (by first | assumption | omega)) tX2_stainsOf q2931 (mc_0 _ _ _) rfl rfl dX2_bleach_43 (by decide) (Nat.le_of_eq (Nat.zero_add _)) (Nat.le_of_ble_eq_true rfl) ?_
        refine A_istore_n (i := 3) dX2_bleach_46 rfl (Nat.le_of_ble_eq_true rfl) ?_
        refine A_aload_n (i := 0) dX2_bleach_47 rfl rfl ?_
        refine A_iload_n (i := 1) dX2_bleach_48 rfl rfl ?_
        refine A_bipush (v := 6) dX2_bleach_49 (by decide) ?_
        refine A_iconst (v := 0) dX2_bleach_51 (by decide) ?_
        refine A_callV3E (v := none) (τ := mc b9 (⟨mayT (m_is ms) (bi (okF (m_is ms) (m_now ms) (nI f9))) (bi (okF (m_is ms) (m_now ms) (nI f9) ∧ whyBlN (m_now ms) f9 = 0)), m_is ms, nI (remC u), m_bd ms, m_pc ms, m_pa ms, m_sz ms, m_cu ms, m_st ms, m_tk ms, m_to ms, m_ps ms, setFl (m_now ms) f9 6 0, m_asd ms, remU (m_und ms) (m_now ms) u, m_sav ms, m_isv ms, m_buf ms, m_grp ms, m_pag ms⟩ : MM) σ0) (c_putsFlag b9 (⟨mayT (m_is ms) (bi (okF (m_is ms) (m_now ms) (nI f9))) (bi (okF (m_is ms) (m_now ms) (nI f9) ∧ whyBlN (m_now ms) f9 = 0)), m_is ms, nI (remC u), m_bd ms, m_pc ms, m_pa ms, m_sz ms, m_cu ms, m_st ms, m_tk ms, m_to ms, m_ps ms, m_now ms, m_asd ms, remU (m_und ms) (m_now ms) u, m_sav ms, m_isv ms, m_buf ms, m_grp ms, m_pag ms⟩ : MM) σ0 f9 6 0 (by first | assumption | omega) (by first | assumption | omega)) tX2_putsFlag q2415 (mc_0 _ _ _) rfl rfl dX2_bleach_52 (by decide) (Nat.le_of_eq (Nat.zero_add _)) (Nat.le_of_ble_eq_true rfl) ?_
        refine A_aload_n (i := 0) dX2_bleach_55 rfl rfl ?_
        refine A_iload_n (i := 1) dX2_bleach_56 rfl rfl ?_
        refine A_bipush (v := 7) dX2_bleach_57 (by decide) ?_
        refine A_aload_n (i := 0) dX2_bleach_59 rfl rfl ?_
        refine A_iload_n (i := 1) dX2_bleach_60 rfl rfl ?_
        refine A_bipush (v := 7) dX2_bleach_61 (by decide) ?_
        refine A_callV2E (v := some (.int (fl (setFl (m_now ms) f9 6 0) f9 7))) (τ := mc b9 (⟨mayT (m_is ms) (bi (okF (m_is ms) (m_now ms) (nI f9))) (bi (okF (m_is ms) (m_now ms) (nI f9) ∧ whyBlN (m_now ms) f9 = 0)), m_is ms, nI (remC u), m_bd ms, m_pc ms, m_pa ms, m_sz ms, m_cu ms, m_st ms, m_tk ms, m_to ms, m_ps ms, setFl (m_now ms) f9 6 0, m_asd ms, remU (m_und ms) (m_now ms) u, m_sav ms, m_isv ms, m_buf ms, m_grp ms, m_pag ms⟩ : MM) σ0) (c_ofFlag b9 (⟨mayT (m_is ms) (bi (okF (m_is ms) (m_now ms) (nI f9))) (bi (okF (m_is ms) (m_now ms) (nI f9) ∧ whyBlN (m_now ms) f9 = 0)), m_is ms, nI (remC u), m_bd ms, m_pc ms, m_pa ms, m_sz ms, m_cu ms, m_st ms, m_tk ms, m_to ms, m_ps ms, setFl (m_now ms) f9 6 0, m_asd ms, remU (m_und ms) (m_now ms) u, m_sav ms, m_isv ms, m_buf ms, m_grp ms, m_pag ms⟩ : MM) σ0 f9 7 (by first | assumption | omega) (by first | assumption | omega)) tX2_ofFlag q2444 (mc_0 _ _ _) rfl rfl dX2_bleach_63 (by decide) (Nat.le_of_eq (Nat.zero_add _)) (Nat.le_of_ble_eq_true rfl) ?_
        refine A_iconst (v := 1) dX2_bleach_66 (by decide) ?_
        refine A_iadd dX2_bleach_67 ?_
        refine A_callV3E (v := none) (τ := mc b9 (⟨mayT (m_is ms) (bi (okF (m_is ms) (m_now ms) (nI f9))) (bi (okF (m_is ms) (m_now ms) (nI f9) ∧ whyBlN (m_now ms) f9 = 0)), m_is ms, nI (remC u), m_bd ms, m_pc ms, m_pa ms, m_sz ms, m_cu ms, m_st ms, m_tk ms, m_to ms, m_ps ms, blN (m_now ms) f9, m_asd ms, remU (m_und ms) (m_now ms) u, m_sav ms, m_isv ms, m_buf ms, m_grp ms, m_pag ms⟩ : MM) σ0) (c_putsFlag b9 (⟨mayT (m_is ms) (bi (okF (m_is ms) (m_now ms) (nI f9))) (bi (okF (m_is ms) (m_now ms) (nI f9) ∧ whyBlN (m_now ms) f9 = 0)), m_is ms, nI (remC u), m_bd ms, m_pc ms, m_pa ms, m_sz ms, m_cu ms, m_st ms, m_tk ms, m_to ms, m_ps ms, setFl (m_now ms) f9 6 0, m_asd ms, remU (m_und ms) (m_now ms) u, m_sav ms, m_isv ms, m_buf ms, m_grp ms, m_pag ms⟩ : MM) σ0 f9 7 ((fl (setFl (m_now ms) f9 6 0) f9 7) + 1) (by first | assumption | omega) (by first | assumption | omega)) tX2_putsFlag q2415 (mc_0 _ _ _) rfl rfl dX2_bleach_68 (by decide) (Nat.le_of_eq (Nat.zero_add _)) (Nat.le_of_ble_eq_true rfl) ?_
        refine A_iload_n (i := 3) dX2_bleach_71 rfl rfl ?_
        exact A_iret dX2_bleach_72 rfl ⟨by rw [gd, if_pos c5], by simp only [gq_t c5] <;> rfl⟩
      · skip
        have c5 := bi_eq0.mp c5
        refine A_iconst (v := 0) dX2_bleach_35 (by decide) ?_
        exact A_iret dX2_bleach_36 rfl ⟨by rw [gd, if_neg c5], by simp only [gq_f c5]⟩
theorem c_leaves {l : Launch} {g : GC} (b9 : Nat) (ms : MM) (σ0 : AH) (n : Int32) (h1 : WFc (m_now ms)) : AMet l g mX2_leaves 3 0 [.ref b9, .int n] (mc b9 ms σ0) (A_eq (none) (mc b9 (⟨m_thr ms, m_is ms, m_um ms, m_bd ms, m_pc ms, m_pa ms, m_sz ms, m_cu ms, m_st ms, m_tk ms, m_to ms, m_ps ms, leU (m_now ms) n (nF (m_now ms)), m_asd ms, m_und ms, m_sav ms, m_isv ms, m_buf ms, m_grp ms, m_pag ms⟩ : MM) σ0)) A_no := by
  refine A_of rfl (by decide) (Nat.le_of_ble_eq_true rfl) (L0 := [(0, .ref b9), (1, .int n)]) rfl ?_
  have hF := h1.2.2.2.2.2
  have hC := h1.1.2
  refine A_iconst (v := 0) dX2_leaves_0 (by decide) ?_
  refine A_istore_n (i := 2) dX2_leaves_1 rfl (Nat.le_of_ble_eq_true rfl) ?_
  refine A_sub (L' := [(0, .ref b9), (1, .int n), (2, .int (nI 0))]) ⟨rfl, rfl, rfl, trivial⟩ ?_
  refine A_for (nF (m_now ms)) (fun i2 => 0) (fun i2 => [(0, .ref b9), (1, .int n), (2, .int (nI i2))]) (fun i2 => mc b9 (⟨m_thr ms, m_is ms, m_um ms, m_bd ms, m_pc ms, m_pa ms, m_sz ms, m_cu ms, m_st ms, m_tk ms, m_to ms, m_ps ms, leU (m_now ms) n i2, m_asd ms, m_und ms, m_sav ms, m_isv ms, m_buf ms, m_grp ms, m_pag ms⟩ : MM) σ0) (fun i2 => True) trivial (fun i2 hi2 hI2 ih2 => ?_) (fun hI2 => ?_)
  · skip
    refine A_iload_n (i := 2) dX2_leaves_2 rfl rfl ?_
    refine A_aload_n (i := 0) dX2_leaves_3 rfl rfl ?_
    refine M_get 1 (v := .ref (b9 + 1)) (Nat.le_of_ble_eq_true rfl) q2230 rfl dX2_leaves_4 ?_
    refine A_bipush (v := 10) dX2_leaves_7 (by decide) ?_
    refine M_ald1 (n := 10) (v := (leU (m_now ms) n i2) 10) (rfl) (by decide) (rfl) dX2_leaves_9 ?_
    refine A_icmp_ge_f (tgt := 36) dX2_leaves_10 (by decide) (br_lt ((hdr_leU _ _ _).eqF h1) hi2 (by omega)) ?_
    refine A_aload_n (i := 0) dX2_leaves_13 rfl rfl ?_
    refine A_iload_n (i := 2) dX2_leaves_14 rfl rfl ?_
    refine A_iconst (v := 0) dX2_leaves_15 (by decide) ?_
    refine A_callV2E (v := some (.int (fl (leU (m_now ms) n i2) i2 0))) (τ := mc b9 (⟨m_thr ms, m_is ms, m_um ms, m_bd ms, m_pc ms, m_pa ms, m_sz ms, m_cu ms, m_st ms, m_tk ms, m_to ms, m_ps ms, leU (m_now ms) n i2, m_asd ms, m_und ms, m_sav ms, m_isv ms, m_buf ms, m_grp ms, m_pag ms⟩ : MM) σ0) (c_ofFlag b9 (⟨m_thr ms, m_is ms, m_um ms, m_bd ms, m_pc ms, m_pa ms, m_sz ms, m_cu ms, m_st ms, m_tk ms, m_to ms, m_ps ms, leU (m_now ms) n i2, m_asd ms, m_und ms, m_sav ms, m_isv ms, m_buf ms, m_grp ms, m_pag ms⟩ : MM) σ0 i2 0 (by first | assumption | omega) (by first | assumption | omega)) tX2_ofFlag q2444 (mc_0 _ _ _) rfl rfl dX2_leaves_16 (by decide) (Nat.le_of_eq (Nat.zero_add _)) (Nat.le_of_ble_eq_true rfl) ?_
    refine A_iload_n (i := 1) dX2_leaves_19 rfl rfl ?_
    refine A_icmp_ne (tgt := 30) dX2_leaves_20 (by decide) (fun c1 => ?_) (fun c1 => ?_)
    · skip
      refine A_iinc (v := nI (i2 + 1)) dX2_leaves_30 rfl (nI_inc _ _) (Nat.le_of_ble_eq_true rfl) ?_
      refine A_goto (tgt := 2) dX2_leaves_33 (by decide) ?_
      refine A_sub (L' := [(0, .ref b9), (1, .int n), (2, .int (nI (i2 + 1)))]) ⟨rfl, rfl, rfl, trivial⟩ ?_
      rw [show mc b9 (⟨m_thr ms, m_is ms, m_um ms, m_bd ms, m_pc ms, m_pa ms, m_sz ms, m_cu ms, m_st ms, m_tk ms, m_to ms, m_ps ms, leU (m_now ms) n i2, m_asd ms, m_und ms, m_sav ms, m_isv ms, m_buf ms, m_grp ms, m_pag ms⟩ : MM) σ0 = mc b9 (s_now (leU (m_now ms) n (i2 + 1)) ms) σ0 by rw [leU_s, if_neg c1] <;> rfl]
      exact ih2 trivial
    · skip
      refine A_aload_n (i := 0) dX2_leaves_23 rfl rfl ?_
      refine A_iload_n (i := 2) dX2_leaves_24 rfl rfl ?_
      refine A_iconst (v := 3) dX2_leaves_25 (by decide) ?_
      refine A_iconst (v := (-1)) dX2_leaves_26 (by decide) ?_
      refine A_callV3E (v := none) (τ := mc b9 (⟨m_thr ms, m_is ms, m_um ms, m_bd ms, m_pc ms, m_pa ms, m_sz ms, m_cu ms, m_st ms, m_tk ms, m_to ms, m_ps ms, goTo (leU (m_now ms) n i2) i2 3 (-1), m_asd ms, m_und ms, m_sav ms, m_isv ms, m_buf ms, m_grp ms, m_pag ms⟩ : MM) σ0) (c_goesTo b9 (⟨m_thr ms, m_is ms, m_um ms, m_bd ms, m_pc ms, m_pa ms, m_sz ms, m_cu ms, m_st ms, m_tk ms, m_to ms, m_ps ms, leU (m_now ms) n i2, m_asd ms, m_und ms, m_sav ms, m_isv ms, m_buf ms, m_grp ms, m_pag ms⟩ : MM) σ0 i2 3 (-1) (by first | assumption | omega)) tX2_goesTo q2419 (mc_0 _ _ _) rfl rfl dX2_leaves_27 (by decide) (Nat.le_of_eq (Nat.zero_add _)) (Nat.le_of_ble_eq_true rfl) ?_
      refine A_iinc (v := nI (i2 + 1)) dX2_leaves_30 rfl (nI_inc _ _) (Nat.le_of_ble_eq_true rfl) ?_
      refine A_goto (tgt := 2) dX2_leaves_33 (by decide) ?_
      refine A_sub (L' := [(0, .ref b9), (1, .int n), (2, .int (nI (i2 + 1)))]) ⟨rfl, rfl, rfl, trivial⟩ ?_
      rw [show mc b9 (⟨m_thr ms, m_is ms, m_um ms, m_bd ms, m_pc ms, m_pa ms, m_sz ms, m_cu ms, m_st ms, m_tk ms, m_to ms, m_ps ms, goTo (leU (m_now ms) n i2) i2 3 (-1), m_asd ms, m_und ms, m_sav ms, m_isv ms, m_buf ms, m_grp ms, m_pag ms⟩ : MM) σ0 = mc b9 (s_now (leU (m_now ms) n (i2 + 1)) ms) σ0 by rw [leU_s, if_pos c1] <;> rfl]
      exact ih2 trivial
  · skip
    refine A_iload_n (i := 2) dX2_leaves_2 rfl rfl ?_
    refine A_aload_n (i := 0) dX2_leaves_3 rfl rfl ?_
    refine M_get 1 (v := .ref (b9 + 1)) (Nat.le_of_ble_eq_true rfl) q2230 rfl dX2_leaves_4 ?_
    refine A_bipush (v := 10) dX2_leaves_7 (by decide) ?_
    refine M_ald1 (n := 10) (v := (leU (m_now ms) n (nF (m_now ms))) 10) (rfl) (by decide) (rfl) dX2_leaves_9 ?_
    refine A_icmp_ge_t (tgt := 36) dX2_leaves_10 (by decide) (br_ge ((hdr_leU _ _ _).eqF h1)) ?_
    exact A_vret dX2_leaves_36 rfl ⟨rfl, rfl⟩
theorem c_handOver {l : Launch} {g : GC} (b9 : Nat) (ms : MM) (σ0 : AH) (u : Nat) (n : Int32) (h1 : WFc (m_now ms)) (h2 : u ≤ 8) : AMet l g mX2_handOver 6 0 [.ref b9, .int n] (mc b9 (⟨m_thr ms, m_is ms, nI u, m_bd ms, m_pc ms, m_pa ms, m_sz ms, m_cu ms, m_st ms, m_tk ms, m_to ms, m_ps ms, m_now ms, m_asd ms, m_und ms, m_sav ms, m_isv ms, m_buf ms, m_grp ms, m_pag ms⟩ : MM) σ0) (A_eq (some (.int (gd (mayT (m_is ms) (bi (okN (m_is ms) (m_now ms) n)) (bi (okN (m_is ms) (m_now ms) n ∧ ¬ flagsN (m_now ms) n ≤ 0 ∧ ¬ na (m_now ms) (ix n) 3 = 1 ∧ culpN (m_now ms) n = -1))) (payN (m_now ms) (ix n) ((m_now ms) 0))))) (mc b9 (⟨mayT (m_is ms) (bi (okN (m_is ms) (m_now ms) n)) (bi (okN (m_is ms) (m_now ms) n ∧ ¬ flagsN (m_now ms) n ≤ 0 ∧ ¬ na (m_now ms) (ix n) 3 = 1 ∧ culpN (m_now ms) n = -1)), m_is ms, nI (gq (mayT (m_is ms) (bi (okN (m_is ms) (m_now ms) n)) (bi (okN (m_is ms) (m_now ms) n ∧ ¬ flagsN (m_now ms) n ≤ 0 ∧ ¬ na (m_now ms) (ix n) 3 = 1 ∧ culpN (m_now ms) n = -1))) (remC u) u), m_bd ms, m_pc ms, m_pa ms, m_sz ms, m_cu ms, m_st ms, m_tk ms, m_to ms, m_ps ms, gq (mayT (m_is ms) (bi (okN (m_is ms) (m_now ms) n)) (bi (okN (m_is ms) (m_now ms) n ∧ ¬ flagsN (m_now ms) n ≤ 0 ∧ ¬ na (m_now ms) (ix n) 3 = 1 ∧ culpN (m_now ms) n = -1))) (hoN (m_now ms) (ix n)) (m_now ms), m_asd ms, gq (mayT (m_is ms) (bi (okN (m_is ms) (m_now ms) n)) (bi (okN (m_is ms) (m_now ms) n ∧ ¬ flagsN (m_now ms) n ≤ 0 ∧ ¬ na (m_now ms) (ix n) 3 = 1 ∧ culpN (m_now ms) n = -1))) (remU (m_und ms) (m_now ms) u) (m_und ms), m_sav ms, m_isv ms, m_buf ms, m_grp ms, m_pag ms⟩ : MM) σ0)) A_no := by
  refine A_of rfl (by decide) (Nat.le_of_ble_eq_true rfl) (L0 := [(0, .ref b9), (1, .int n)]) rfl ?_
  have hF := h1.2.2.2.2.2
  have hC := h1.1.2
  have v1 : ∀ k, WFc (ho1 (m_now ms) k) := fun k => (cts_ho1 _ _).wf h1
  have v2 : ∀ k, WFc (ho2 (m_now ms) k) := fun k => (cts_ho2 _ _).wf h1
  have v4 : ∀ k, WFc (ho4 (m_now ms) k) := fun k => (cts_ho4 _ _).wf h1
  refine A_aload_n (i := 0) dX2_handOver_0 rfl rfl ?_
  refine A_iload_n (i := 1) dX2_handOver_1 rfl rfl ?_
  refine A_callV1E (v := some (.int (bi (okN (m_is ms) (m_now ms) n)))) (τ := mc b9 (⟨m_thr ms, m_is ms, nI u, m_bd ms, m_pc ms, m_pa ms, m_sz ms, m_cu ms, m_st ms, m_tk ms, m_to ms, m_ps ms, m_now ms, m_asd ms, m_und ms, m_sav ms, m_isv ms, m_buf ms, m_grp ms, m_pag ms⟩ : MM) σ0) (c_isNation b9 (⟨m_thr ms, m_is ms, nI u, m_bd ms, m_pc ms, m_pa ms, m_sz ms, m_cu ms, m_st ms, m_tk ms, m_to ms, m_ps ms, m_now ms, m_asd ms, m_und ms, m_sav ms, m_isv ms, m_buf ms, m_grp ms, m_pag ms⟩ : MM) σ0 n) tX2_isNation q2601 (mc_0 _ _ _) rfl rfl dX2_handOver_2 (by decide) (Nat.le_of_eq (Nat.zero_add _)) (Nat.le_of_ble_eq_true rfl) ?_
  refine A_istore_n (i := 2) dX2_handOver_5 rfl (Nat.le_of_ble_eq_true rfl) ?_
  refine A_aload_n (i := 0) dX2_handOver_6 rfl rfl ?_
  refine A_aload_n (i := 0) dX2_handOver_7 rfl rfl ?_
  refine M_get 6 (v := .int (m_is ms)) (Nat.le_of_ble_eq_true rfl) q2235 rfl dX2_handOver_8 ?_
  refine A_iload_n (i := 2) dX2_handOver_11 rfl rfl ?_
  refine A_iload_n (i := 2) dX2_handOver_12 rfl rfl ?_
  refine A_if_eq (tgt := 45) dX2_handOver_13 (by decide) (fun c1 => ?_) (fun c1 => ?_)
  · skip
    have c1 := bi_eq0.mp c1
    refine A_iconst (v := 0) dX2_handOver_45 (by decide) ?_
    refine A_int (w := bi (okN (m_is ms) (m_now ms) n ∧ ¬ flagsN (m_now ms) n ≤ 0 ∧ ¬ na (m_now ms) (ix n) 3 = 1 ∧ culpN (m_now ms) n = -1)) ((bi_f (fun h9 => c1 h9.1)).symm) ?_
    refine A_callV3E (v := some (.int (bi (mayT (m_is ms) (bi (okN (m_is ms) (m_now ms) n)) (bi (okN (m_is ms) (m_now ms) n ∧ ¬ flagsN (m_now ms) n ≤ 0 ∧ ¬ na (m_now ms) (ix n) 3 = 1 ∧ culpN (m_now ms) n = -1)) = 0)))) (τ := mc b9 (⟨mayT (m_is ms) (bi (okN (m_is ms) (m_now ms) n)) (bi (okN (m_is ms) (m_now ms) n ∧ ¬ flagsN (m_now ms) n ≤ 0 ∧ ¬ na (m_now ms) (ix n) 3 = 1 ∧ culpN (m_now ms) n = -1)), m_is ms, nI u, m_bd ms, m_pc ms, m_pa ms, m_sz ms, m_cu ms, m_st ms, m_tk ms, m_to ms, m_ps ms, m_now ms, m_asd ms, m_und ms, m_sav ms, m_isv ms, m_buf ms, m_grp ms, m_pag ms⟩ : MM) σ0) (c_may b9 (⟨m_thr ms, m_is ms, nI u, m_bd ms, m_pc ms, m_pa ms, m_sz ms, m_cu ms, m_st ms, m_tk ms, m_to ms, m_ps ms, m_now ms, m_asd ms, m_und ms, m_sav ms, m_isv ms, m_buf ms, m_grp ms, m_pag ms⟩ : MM) σ0 (m_is ms) (bi (okN (m_is ms) (m_now ms) n)) (bi (okN (m_is ms) (m_now ms) n ∧ ¬ flagsN (m_now ms) n ≤ 0 ∧ ¬ na (m_now ms) (ix n) 3 = 1 ∧ culpN (m_now ms) n = -1))) tX2_may q2322 (mc_0 _ _ _) rfl rfl dX2_handOver_46 (by decide) (Nat.le_of_eq (Nat.zero_add _)) (Nat.le_of_ble_eq_true rfl) ?_
    refine A_if_ne (tgt := 54) dX2_handOver_49 (by decide) (fun c2 => ?_) (fun c2 => ?_)
    · skip
      have c2 := bi_ne0.mp c2
      exact (show False from (fun h9 => c1 h9.1) (mayT_z c2)).elim
    · skip
      have c2 := bi_eq0.mp c2
      refine A_iconst (v := 0) dX2_handOver_52 (by decide) ?_
      exact A_iret dX2_handOver_53 rfl ⟨by rw [gd, if_neg c2], by simp only [gq_f c2]⟩
  · skip
    have c1 := bi_ne0.mp c1
    obtain ⟨n9, hn9, rfl⟩ := okN_ex h1 c1
    have hN := h1.2.1.2
    try rw [ixn (show n9 < 2000 by omega)]
    refine A_aload_n (i := 0) dX2_handOver_16 rfl rfl ?_
    refine A_iload_n (i := 1) dX2_handOver_17 rfl rfl ?_
    refine A_callV1E (v := some (.int (flagsN (m_now ms) (nI n9)))) (τ := mc b9 (⟨m_thr ms, m_is ms, nI u, m_bd ms, m_pc ms, m_pa ms, m_sz ms, m_cu ms, m_st ms, m_tk ms, m_to ms, m_ps ms, m_now ms, m_asd ms, m_und ms, m_sav ms, m_isv ms, m_buf ms, m_grp ms, m_pag ms⟩ : MM) σ0) (c_flagsOf b9 (⟨m_thr ms, m_is ms, nI u, m_bd ms, m_pc ms, m_pa ms, m_sz ms, m_cu ms, m_st ms, m_tk ms, m_to ms, m_ps ms, m_now ms, m_asd ms, m_und ms, m_sav ms, m_isv ms, m_buf ms, m_grp ms, m_pag ms⟩ : MM) σ0 (nI n9) (by first | assumption | omega)) tX2_flagsOf q2605 (mc_0 _ _ _) rfl rfl dX2_handOver_18 (by decide) (Nat.le_of_eq (Nat.zero_add _)) (Nat.le_of_ble_eq_true rfl) ?_
    refine A_if_le (tgt := 45) dX2_handOver_21 (by decide) (fun c3 => ?_) (fun c3 => ?_)
    · skip
      refine A_iconst (v := 0) dX2_handOver_45 (by decide) ?_
      refine A_int (w := bi (okN (m_is ms) (m_now ms) (nI n9) ∧ ¬ flagsN (m_now ms) (nI n9) ≤ 0 ∧ ¬ na (m_now ms) n9 3 = 1 ∧ culpN (m_now ms) (nI n9) = -1)) ((bi_f (fun h9 => by first | exact c3 (h9.2.1) | exact absurd (h9.2.1) c3 | exact (h9.2.1) c3)).symm) ?_
      refine A_callV3E (v := some (.int (bi (mayT (m_is ms) (bi (okN (m_is ms) (m_now ms) (nI n9))) (bi (okN (m_is ms) (m_now ms) (nI n9) ∧ ¬ flagsN (m_now ms) (nI n9) ≤ 0 ∧ ¬ na (m_now ms) n9 3 = 1 ∧ culpN (m_now ms) (nI n9) = -1)) = 0)))) (τ := mc b9 (⟨mayT (m_is ms) (bi (okN (m_is ms) (m_now ms) (nI n9))) (bi (okN (m_is ms) (m_now ms) (nI n9) ∧ ¬ flagsN (m_now ms) (nI n9) ≤ 0 ∧ ¬ na (m_now ms) n9 3 = 1 ∧ culpN (m_now ms) (nI n9) = -1)), m_is ms, nI u, m_bd ms, m_pc ms, m_pa ms, m_sz ms, m_cu ms, m_st ms, m_tk ms, m_to ms, m_ps ms, m_now ms, m_asd ms, m_und ms, m_sav ms, m_isv ms, m_buf ms, m_grp ms, m_pag ms⟩ : MM) σ0) (c_may b9 (⟨m_thr ms, m_is ms, nI u, m_bd ms, m_pc ms, m_pa ms, m_sz ms, m_cu ms, m_st ms, m_tk ms, m_to ms, m_ps ms, m_now ms, m_asd ms, m_und ms, m_sav ms, m_isv ms, m_buf ms, m_grp ms, m_pag ms⟩ : MM) σ0 (m_is ms) (bi (okN (m_is ms) (m_now ms) (nI n9))) (bi (okN (m_is ms) (m_now ms) (nI n9) ∧ ¬ flagsN (m_now ms) (nI n9) ≤ 0 ∧ ¬ na (m_now ms) n9 3 = 1 ∧ culpN (m_now ms) (nI n9) = -1))) tX2_may q2322 (mc_0 _ _ _) rfl rfl dX2_handOver_46 (by decide) (Nat.le_of_eq (Nat.zero_add _)) (Nat.le_of_ble_eq_true rfl) ?_
      refine A_if_ne (tgt := 54) dX2_handOver_49 (by decide) (fun c4 => ?_) (fun c4 => ?_)
      · skip
        have c4 := bi_ne0.mp c4
        exact (show False from (fun h9 => by first | exact c3 (h9.2.1) | exact absurd (h9.2.1) c3 | exact (h9.2.1) c3) (mayT_z c4)).elim
      · skip
        have c4 := bi_eq0.mp c4
        refine A_iconst (v := 0) dX2_handOver_52 (by decide) ?_
        exact A_iret dX2_handOver_53 rfl ⟨by rw [gd, if_neg c4], by simp only [gq_f c4]⟩
    · skip
      refine A_aload_n (i := 0) dX2_handOver_24 rfl rfl ?_
      refine A_iload_n (i := 1) dX2_handOver_25 rfl rfl ?_
      refine A_callV1E (v := some (.int (bi (na (m_now ms) n9 3 = 1)))) (τ := mc b9 (⟨m_thr ms, m_is ms, nI u, m_bd ms, m_pc ms, m_pa ms, m_sz ms, m_cu ms, m_st ms, m_tk ms, m_to ms, m_ps ms, m_now ms, m_asd ms, m_und ms, m_sav ms, m_isv ms, m_buf ms, m_grp ms, m_pag ms⟩ : MM) σ0) (c_isHanded b9 (⟨m_thr ms, m_is ms, nI u, m_bd ms, m_pc ms, m_pa ms, m_sz ms, m_cu ms, m_st ms, m_tk ms, m_to ms, m_ps ms, m_now ms, m_asd ms, m_und ms, m_sav ms, m_isv ms, m_buf ms, m_grp ms, m_pag ms⟩ : MM) σ0 n9 (by first | assumption | omega)) tX2_isHanded q2617 (mc_0 _ _ _) rfl rfl dX2_handOver_26 (by decide) (Nat.le_of_eq (Nat.zero_add _)) (Nat.le_of_ble_eq_true rfl) ?_
      refine A_if_ne (tgt := 45) dX2_handOver_29 (by decide) (fun c5 => ?_) (fun c5 => ?_)
      · skip
        have c5 := bi_ne0.mp c5
        refine A_iconst (v := 0) dX2_handOver_45 (by decide) ?_
        refine A_int (w := bi (okN (m_is ms) (m_now ms) (nI n9) ∧ ¬ flagsN (m_now ms) (nI n9) ≤ 0 ∧ ¬ na (m_now ms) n9 3 = 1 ∧ culpN (m_now ms) (nI n9) = -1)) ((bi_f (fun h9 => by first | exact c5 (h9.2.2.1) | exact absurd (h9.2.2.1) c5 | exact (h9.2.2.1) c5)).symm) ?_
        refine A_callV3E (v := some (.int (bi (mayT (m_is ms) (bi (okN (m_is ms) (m_now ms) (nI n9))) (bi (okN (m_is ms) (m_now ms) (nI n9) ∧ ¬ flagsN (m_now ms) (nI n9) ≤ 0 ∧ ¬ na (m_now ms) n9 3 = 1 ∧ culpN (m_now ms) (nI n9) = -1)) = 0)))) (τ := mc b9 (⟨mayT (m_is ms) (bi (okN (m_is ms) (m_now ms) (nI n9))) (bi (okN (m_is ms) (m_now ms) (nI n9) ∧ ¬ flagsN (m_now ms) (nI n9) ≤ 0 ∧ ¬ na (m_now ms) n9 3 = 1 ∧ culpN (m_now ms) (nI n9) = -1)), m_is ms, nI u, m_bd ms, m_pc ms, m_pa ms, m_sz ms, m_cu ms, m_st ms, m_tk ms, m_to ms, m_ps ms, m_now ms, m_asd ms, m_und ms, m_sav ms, m_isv ms, m_buf ms, m_grp ms, m_pag ms⟩ : MM) σ0) (c_may b9 (⟨m_thr ms, m_is ms, nI u, m_bd ms, m_pc ms, m_pa ms, m_sz ms, m_cu ms, m_st ms, m_tk ms, m_to ms, m_ps ms, m_now ms, m_asd ms, m_und ms, m_sav ms, m_isv ms, m_buf ms, m_grp ms, m_pag ms⟩ : MM) σ0 (m_is ms) (bi (okN (m_is ms) (m_now ms) (nI n9))) (bi (okN (m_is ms) (m_now ms) (nI n9) ∧ ¬ flagsN (m_now ms) (nI n9) ≤ 0 ∧ ¬ na (m_now ms) n9 3 = 1 ∧ culpN (m_now ms) (nI n9) = -1))) tX2_may q2322 (mc_0 _ _ _) rfl rfl dX2_handOver_46 (by decide) (Nat.le_of_eq (Nat.zero_add _)) (Nat.le_of_ble_eq_true rfl) ?_
        refine A_if_ne (tgt := 54) dX2_handOver_49 (by decide) (fun c6 => ?_) (fun c6 => ?_)
        · skip
          have c6 := bi_ne0.mp c6
          exact (show False from (fun h9 => by first | exact c5 (h9.2.2.1) | exact absurd (h9.2.2.1) c5 | exact (h9.2.2.1) c5) (mayT_z c6)).elim
        · skip
          have c6 := bi_eq0.mp c6
          refine A_iconst (v := 0) dX2_handOver_52 (by decide) ?_
          exact A_iret dX2_handOver_53 rfl ⟨by rw [gd, if_neg c6], by simp only [gq_f c6]⟩
      · skip
        have c5 := bi_eq0.mp c5
        refine A_aload_n (i := 0) dX2_handOver_32 rfl rfl ?_
        refine A_iload_n (i := 1) dX2_handOver_33 rfl rfl ?_
        refine A_callV1E (v := some (.int (culpN (m_now ms) (nI n9)))) (τ := mc b9 (⟨m_thr ms, m_is ms, nI u, m_bd ms, m_pc ms, m_pa ms, m_sz ms, m_cu ms, m_st ms, m_tk ms, m_to ms, m_ps ms, m_now ms, m_asd ms, m_und ms, m_sav ms, m_isv ms, m_buf ms, m_grp ms, m_pag ms⟩ : MM) σ0) (c_culpritOf b9 (⟨m_thr ms, m_is ms, nI u, m_bd ms, m_pc ms, m_pa ms, m_sz ms, m_cu ms, m_st ms, m_tk ms, m_to ms, m_ps ms, m_now ms, m_asd ms, m_und ms, m_sav ms, m_isv ms, m_buf ms, m_grp ms, m_pag ms⟩ : MM) σ0 (nI n9) (by first | assumption | omega)) tX2_culpritOf q2698 (mc_0 _ _ _) rfl rfl dX2_handOver_34 (by decide) (Nat.le_of_eq (Nat.zero_add _)) (Nat.le_of_ble_eq_true rfl) ?_
        refine A_iconst (v := (-1)) dX2_handOver_37 (by decide) ?_
        refine A_icmp_ne (tgt := 45) dX2_handOver_38 (by decide) (fun c7 => ?_) (fun c7 => ?_)
        · skip
          refine A_iconst (v := 0) dX2_handOver_45 (by decide) ?_
          refine A_int (w := bi (okN (m_is ms) (m_now ms) (nI n9) ∧ ¬ flagsN (m_now ms) (nI n9) ≤ 0 ∧ ¬ na (m_now ms) n9 3 = 1 ∧ culpN (m_now ms) (nI n9) = -1)) ((bi_f (fun h9 => by first | exact c7 (h9.2.2.2) | exact absurd (h9.2.2.2) c7 | exact (h9.2.2.2) c7)).symm) ?_
          refine A_callV3E (v := some (.int (bi (mayT (m_is ms) (bi (okN (m_is ms) (m_now ms) (nI n9))) (bi (okN (m_is ms) (m_now ms) (nI n9) ∧ ¬ flagsN (m_now ms) (nI n9) ≤ 0 ∧ ¬ na (m_now ms) n9 3 = 1 ∧ culpN (m_now ms) (nI n9) = -1)) = 0)))) (τ := mc b9 (⟨mayT (m_is ms) (bi (okN (m_is ms) (m_now ms) (nI n9))) (bi (okN (m_is ms) (m_now ms) (nI n9) ∧ ¬ flagsN (m_now ms) (nI n9) ≤ 0 ∧ ¬ na (m_now ms) n9 3 = 1 ∧ culpN (m_now ms) (nI n9) = -1)), m_is ms, nI u, m_bd ms, m_pc ms, m_pa ms, m_sz ms, m_cu ms, m_st ms, m_tk ms, m_to ms, m_ps ms, m_now ms, m_asd ms, m_und ms, m_sav ms, m_isv ms, m_buf ms, m_grp ms, m_pag ms⟩ : MM) σ0) (c_may b9 (⟨m_thr ms, m_is ms, nI u, m_bd ms, m_pc ms, m_pa ms, m_sz ms, m_cu ms, m_st ms, m_tk ms, m_to ms, m_ps ms, m_now ms, m_asd ms, m_und ms, m_sav ms, m_isv ms, m_buf ms, m_grp ms, m_pag ms⟩ : MM) σ0 (m_is ms) (bi (okN (m_is ms) (m_now ms) (nI n9))) (bi (okN (m_is ms) (m_now ms) (nI n9) ∧ ¬ flagsN (m_now ms) (nI n9) ≤ 0 ∧ ¬ na (m_now ms) n9 3 = 1 ∧ culpN (m_now ms) (nI n9) = -1))) tX2_may q2322 (mc_0 _ _ _) rfl rfl dX2_handOver_46 (by decide) (Nat.le_of_eq (Nat.zero_add _)) (Nat.le_of_ble_eq_true rfl) ?_
          refine A_if_ne (tgt := 54) dX2_handOver_49 (by decide) (fun c8 => ?_) (fun c8 => ?_)
          · skip
            have c8 := bi_ne0.mp c8
            exact (show False from (fun h9 => by first | exact c7 (h9.2.2.2) | exact absurd (h9.2.2.2) c7 | exact (h9.2.2.2) c7) (mayT_z c8)).elim
          · skip
            have c8 := bi_eq0.mp c8
            refine A_iconst (v := 0) dX2_handOver_52 (by decide) ?_
            exact A_iret dX2_handOver_53 rfl ⟨by rw [gd, if_neg c8], by simp only [gq_f c8]⟩
        · skip
          refine A_iconst (v := 1) dX2_handOver_41 (by decide) ?_
          refine A_goto (tgt := 46) dX2_handOver_42 (by decide) ?_
          refine A_int (w := bi (okN (m_is ms) (m_now ms) (nI n9) ∧ ¬ flagsN (m_now ms) (nI n9) ≤ 0 ∧ ¬ na (m_now ms) n9 3 = 1 ∧ culpN (m_now ms) (nI n9) = -1)) ((bi_t ⟨c1, c3, c5, c7⟩).symm) ?_
          refine A_callV3E (v := some (.int (bi (mayT (m_is ms) (bi (okN (m_is ms) (m_now ms) (nI n9))) (bi (okN (m_is ms) (m_now ms) (nI n9) ∧ ¬ flagsN (m_now ms) (nI n9) ≤ 0 ∧ ¬ na (m_now ms) n9 3 = 1 ∧ culpN (m_now ms) (nI n9) = -1)) = 0)))) (τ := mc b9 (⟨mayT (m_is ms) (bi (okN (m_is ms) (m_now ms) (nI n9))) (bi (okN (m_is ms) (m_now ms) (nI n9) ∧ ¬ flagsN (m_now ms) (nI n9) ≤ 0 ∧ ¬ na (m_now ms) n9 3 = 1 ∧ culpN (m_now ms) (nI n9) = -1)), m_is ms, nI u, m_bd ms, m_pc ms, m_pa ms, m_sz ms, m_cu ms, m_st ms, m_tk ms, m_to ms, m_ps ms, m_now ms, m_asd ms, m_und ms, m_sav ms, m_isv ms, m_buf ms, m_grp ms, m_pag ms⟩ : MM) σ0) (c_may b9 (⟨m_thr ms, m_is ms, nI u, m_bd ms, m_pc ms, m_pa ms, m_sz ms, m_cu ms, m_st ms, m_tk ms, m_to ms, m_ps ms, m_now ms, m_asd ms, m_und ms, m_sav ms, m_isv ms, m_buf ms, m_grp ms, m_pag ms⟩ : MM) σ0 (m_is ms) (bi (okN (m_is ms) (m_now ms) (nI n9))) (bi (okN (m_is ms) (m_now ms) (nI n9) ∧ ¬ flagsN (m_now ms) (nI n9) ≤ 0 ∧ ¬ na (m_now ms) n9 3 = 1 ∧ culpN (m_now ms) (nI n9) = -1))) tX2_may q2322 (mc_0 _ _ _) rfl rfl dX2_handOver_46 (by decide) (Nat.le_of_eq (Nat.zero_add _)) (Nat.le_of_ble_eq_true rfl) ?_
          refine A_if_ne (tgt := 54) dX2_handOver_49 (by decide) (fun c9 => ?_) (fun c9 => ?_)
          · skip
            have c9 := bi_ne0.mp c9
            refine A_aload_n (i := 0) dX2_handOver_54 rfl rfl ?_
            refine A_callV0E (v := none) (τ := mc b9 (⟨mayT (m_is ms) (bi (okN (m_is ms) (m_now ms) (nI n9))) (bi (okN (m_is ms) (m_now ms) (nI n9) ∧ ¬ flagsN (m_now ms) (nI n9) ≤ 0 ∧ ¬ na (m_now ms) n9 3 = 1 ∧ culpN (m_now ms) (nI n9) = -1)), m_is ms, nI (remC u), m_bd ms, m_pc ms, m_pa ms, m_sz ms, m_cu ms, m_st ms, m_tk ms, m_to ms, m_ps ms, m_now ms, m_asd ms, remU (m_und ms) (m_now ms) u, m_sav ms, m_isv ms, m_buf ms, m_grp ms, m_pag ms⟩ : MM) σ0) (c_remembers b9 (⟨mayT (m_is ms) (bi (okN (m_is ms) (m_now ms) (nI n9))) (bi (okN (m_is ms) (m_now ms) (nI n9) ∧ ¬ flagsN (m_now ms) (nI n9) ≤ 0 ∧ ¬ na (m_now ms) n9 3 = 1 ∧ culpN (m_now ms) (nI n9) = -1)), m_is ms, nI u, m_bd ms, m_pc ms, m_pa ms, m_sz ms, m_cu ms, m_st ms, m_tk ms, m_to ms, m_ps ms, m_now ms, m_asd ms, m_und ms, m_sav ms, m_isv ms, m_buf ms, m_grp ms, m_pag ms⟩ : MM) σ0 u (by first | assumption | omega)) tX2_remembers q2899 (mc_0 _ _ _) rfl rfl dX2_handOver_55 (by decide) (Nat.le_of_eq (Nat.zero_add _)) (Nat.le_of_ble_eq_true rfl) ?_
            refine A_aload_n (i := 0) dX2_handOver_58 rfl rfl ?_
            refine A_iload_n (i := 1) dX2_handOver_59 rfl rfl ?_
            refine A_aload_n (i := 0) dX2_handOver_60 rfl rfl ?_
            refine M_get 1 (v := .ref (b9 + 1)) (Nat.le_of_ble_eq_true rfl) q2230 rfl dX2_handOver_61 ?_
            refine A_iconst (v := 0) dX2_handOver_64 (by decide) ?_
            refine M_ald1 (n := 0) (v := m_now ms 0) (rfl) (by decide) (rfl) dX2_handOver_65 ?_
            refine A_callV2E (v := some (.int (payN (m_now ms) n9 (m_now ms 0)))) (τ := mc b9 (⟨mayT (m_is ms) (bi (okN (m_is ms) (m_now ms) (nI n9))) (bi (okN (m_is ms) (m_now ms) (nI n9) ∧ ¬ flagsN (m_now ms) (nI n9) ≤ 0 ∧ ¬ na (m_now ms) n9 3 = 1 ∧ culpN (m_now ms) (nI n9) = -1)), m_is ms, nI (remC u), m_bd ms, m_pc ms, m_pa ms, m_sz ms, m_cu ms, m_st ms, m_tk ms, m_to ms, m_ps ms, m_now ms, m_asd ms, remU (m_und ms) (m_now ms) u, m_sav ms, m_isv ms, m_buf ms, m_grp ms, m_pag ms⟩ : MM) σ0) (c_payAt b9 (⟨mayT (m_is ms) (bi (okN (m_is ms) (m_now ms) (nI n9))) (bi (okN (m_is ms) (m_now ms) (nI n9) ∧ ¬ flagsN (m_now ms) (nI n9) ≤ 0 ∧ ¬ na (m_now ms) n9 3 = 1 ∧ culpN (m_now ms) (nI n9) = -1)), m_is ms, nI (remC u), m_bd ms, m_pc ms, m_pa ms, m_sz ms, m_cu ms, m_st ms, m_tk ms, m_to ms, m_ps ms, m_now ms, m_asd ms, remU (m_und ms) (m_now ms) u, m_sav ms, m_isv ms, m_buf ms, m_grp ms, m_pag ms⟩ : MM) σ0 n9 (m_now ms 0) (by first | assumption | omega) (by first | assumption | omega)) tX2_payAt q2820 (mc_0 _ _ _) rfl rfl dX2_handOver_66 (by decide) (Nat.le_of_eq (Nat.zero_add _)) (Nat.le_of_ble_eq_true rfl) ?_
            refine A_istore_n (i := 3) dX2_handOver_69 rfl (Nat.le_of_ble_eq_true rfl) ?_
            refine A_aload_n (i := 0) dX2_handOver_70 rfl rfl ?_
            refine M_get 1 (v := .ref (b9 + 1)) (Nat.le_of_ble_eq_true rfl) q2230 rfl dX2_handOver_71 ?_
            refine A_iconst (v := 2) dX2_handOver_74 (by decide) ?_
            refine A_dup2 dX2_handOver_75 rfl rfl ?_
            refine M_ald1 (n := 2) (v := m_now ms 2) (rfl) (by decide) (rfl) dX2_handOver_76 ?_
            refine A_iload_n (i := 3) dX2_handOver_77 rfl rfl ?_
            refine A_iadd dX2_handOver_78 ?_
            refine M_ast1 (n := 2) (na := ho1 (m_now ms) n9) (rfl) (by decide) (rfl) dX2_handOver_79 ?_
            refine A_aload_n (i := 0) dX2_handOver_80 rfl rfl ?_
            refine M_get 1 (v := .ref (b9 + 1)) (Nat.le_of_ble_eq_true rfl) q2230 rfl dX2_handOver_81 ?_
            refine A_iconst (v := 3) dX2_handOver_84 (by decide) ?_
            refine A_dup2 dX2_handOver_85 rfl rfl ?_
            refine M_ald1 (n := 3) (v := (ho1 (m_now ms) n9) 3) (rfl) (by decide) (rfl) dX2_handOver_86 ?_
            refine A_aload_n (i := 0) dX2_handOver_87 rfl rfl ?_
            refine A_iload_n (i := 1) dX2_handOver_88 rfl rfl ?_
            have w1 := v1 n9
            refine A_callV1E (v := some (.int (flagsN (ho1 (m_now ms) n9) (nI n9)))) (τ := mc b9 (⟨mayT (m_is ms) (bi (okN (m_is ms) (m_now ms) (nI n9))) (bi (okN (m_is ms) (m_now ms) (nI n9) ∧ ¬ flagsN (m_now ms) (nI n9) ≤ 0 ∧ ¬ na (m_now ms) n9 3 = 1 ∧ culpN (m_now ms) (nI n9) = -1)), m_is ms, nI (remC u), m_bd ms, m_pc ms, m_pa ms, m_sz ms, m_cu ms, m_st ms, m_tk ms, m_to ms, m_ps ms, ho1 (m_now ms) n9, m_asd ms, remU (m_und ms) (m_now ms) u, m_sav ms, m_isv ms, m_buf ms, m_grp ms, m_pag ms⟩ : MM) σ0) (c_flagsOf b9 (⟨mayT (m_is ms) (bi (okN (m_is ms) (m_now ms) (nI n9))) (bi (okN (m_is ms) (m_now ms) (nI n9) ∧ ¬ flagsN (m_now ms) (nI n9) ≤ 0 ∧ ¬ na (m_now ms) n9 3 = 1 ∧ culpN (m_now ms) (nI n9) = -1)), m_is ms, nI (remC u), m_bd ms, m_pc ms, m_pa ms, m_sz ms, m_cu ms, m_st ms, m_tk ms, m_to ms, m_ps ms, ho1 (m_now ms) n9, m_asd ms, remU (m_und ms) (m_now ms) u, m_sav ms, m_isv ms, m_buf ms, m_grp ms, m_pag ms⟩ : MM) σ0 (nI n9) (by first | assumption | omega)) tX2_flagsOf q2605 (mc_0 _ _ _) rfl rfl dX2_handOver_89 (by decide) (Nat.le_of_eq (Nat.zero_add _)) (Nat.le_of_ble_eq_true rfl) ?_
            refine A_aload_n (i := 0) dX2_handOver_92 rfl rfl ?_
            refine A_iload_n (i := 1) dX2_handOver_93 rfl rfl ?_
            refine A_iconst (v := 1) dX2_handOver_94 (by decide) ?_
            refine A_callV2E (v := some (.int (na (ho1 (m_now ms) n9) n9 1))) (τ := mc b9 (⟨mayT (m_is ms) (bi (okN (m_is ms) (m_now ms) (nI n9))) (bi (okN (m_is ms) (m_now ms) (nI n9) ∧ ¬ flagsN (m_now ms) (nI n9) ≤ 0 ∧ ¬ na (m_now ms) n9 3 = 1 ∧ culpN (m_now ms) (nI n9) = -1)), m_is ms, nI (remC u), m_bd ms, m_pc ms, m_pa ms, m_sz ms, m_cu ms, m_st ms, m_tk ms, m_to ms, m_ps ms, ho1 (m_now ms) n9, m_asd ms, remU (m_und ms) (m_now ms) u, m_sav ms, m_isv ms, m_buf ms, m_grp ms, m_pag ms⟩ : MM) σ0) (c_ofNation b9 (⟨mayT (m_is ms) (bi (okN (m_is ms) (m_now ms) (nI n9))) (bi (okN (m_is ms) (m_now ms) (nI n9) ∧ ¬ flagsN (m_now ms) (nI n9) ≤ 0 ∧ ¬ na (m_now ms) n9 3 = 1 ∧ culpN (m_now ms) (nI n9) = -1)), m_is ms, nI (remC u), m_bd ms, m_pc ms, m_pa ms, m_sz ms, m_cu ms, m_st ms, m_tk ms, m_to ms, m_ps ms, ho1 (m_now ms) n9, m_asd ms, remU (m_und ms) (m_now ms) u, m_sav ms, m_isv ms, m_buf ms, m_grp ms, m_pag ms⟩ : MM) σ0 n9 1 (by first | assumption | omega) (by first | assumption | omega)) tX2_ofNation q2613 (mc_0 _ _ _) rfl rfl dX2_handOver_95 (by decide) (Nat.le_of_eq (Nat.zero_add _)) (Nat.le_of_ble_eq_true rfl) ?_
            refine A_imul dX2_handOver_98 ?_
            refine A_iload_n (i := 3) dX2_handOver_99 rfl rfl ?_
            refine A_isub dX2_handOver_100 ?_
            refine A_iadd dX2_handOver_101 ?_
            refine M_ast1 (n := 3) (na := ho2 (m_now ms) n9) (rfl) (by decide) (rfl) dX2_handOver_102 ?_
            refine A_aload_n (i := 0) dX2_handOver_103 rfl rfl ?_
            refine A_iload_n (i := 1) dX2_handOver_104 rfl rfl ?_
            refine A_iconst (v := 3) dX2_handOver_105 (by decide) ?_
            refine A_iconst (v := 1) dX2_handOver_106 (by decide) ?_
            refine A_callV3E (v := none) (τ := mc b9 (⟨mayT (m_is ms) (bi (okN (m_is ms) (m_now ms) (nI n9))) (bi (okN (m_is ms) (m_now ms) (nI n9) ∧ ¬ flagsN (m_now ms) (nI n9) ≤ 0 ∧ ¬ na (m_now ms) n9 3 = 1 ∧ culpN (m_now ms) (nI n9) = -1)), m_is ms, nI (remC u), m_bd ms, m_pc ms, m_pa ms, m_sz ms, m_cu ms, m_st ms, m_tk ms, m_to ms, m_ps ms, ho3 (m_now ms) n9, m_asd ms, remU (m_und ms) (m_now ms) u, m_sav ms, m_isv ms, m_buf ms, m_grp ms, m_pag ms⟩ : MM) σ0) (c_putsNation b9 (⟨mayT (m_is ms) (bi (okN (m_is ms) (m_now ms) (nI n9))) (bi (okN (m_is ms) (m_now ms) (nI n9) ∧ ¬ flagsN (m_now ms) (nI n9) ≤ 0 ∧ ¬ na (m_now ms) n9 3 = 1 ∧ culpN (m_now ms) (nI n9) = -1)), m_is ms, nI (remC u), m_bd ms, m_pc ms, m_pa ms, m_sz ms, m_cu ms, m_st ms, m_tk ms, m_to ms, m_ps ms, ho2 (m_now ms) n9, m_asd ms, remU (m_und ms) (m_now ms) u, m_sav ms, m_isv ms, m_buf ms, m_grp ms, m_pag ms⟩ : MM) σ0 n9 3 1 (by first | assumption | omega) (by first | assumption | omega)) tX2_putsNation q2390 (mc_0 _ _ _) rfl rfl dX2_handOver_107 (by decide) (Nat.le_of_eq (Nat.zero_add _)) (Nat.le_of_ble_eq_true rfl) ?_
            refine A_aload_n (i := 0) dX2_handOver_110 rfl rfl ?_
            refine A_iload_n (i := 1) dX2_handOver_111 rfl rfl ?_
            refine A_iconst (v := 4) dX2_handOver_112 (by decide) ?_
            refine A_aload_n (i := 0) dX2_handOver_113 rfl rfl ?_
            refine A_iload_n (i := 1) dX2_handOver_114 rfl rfl ?_
            refine A_aload_n (i := 0) dX2_handOver_115 rfl rfl ?_
            refine M_get 1 (v := .ref (b9 + 1)) (Nat.le_of_ble_eq_true rfl) q2230 rfl dX2_handOver_116 ?_
            refine A_iconst (v := 0) dX2_handOver_119 (by decide) ?_
            refine M_ald1 (n := 0) (v := (ho3 (m_now ms) n9) 0) (rfl) (by decide) (rfl) dX2_handOver_120 ?_
            refine A_callV2E (v := some (.int (lateN (ho3 (m_now ms) n9) n9 ((ho3 (m_now ms) n9) 0)))) (τ := mc b9 (⟨mayT (m_is ms) (bi (okN (m_is ms) (m_now ms) (nI n9))) (bi (okN (m_is ms) (m_now ms) (nI n9) ∧ ¬ flagsN (m_now ms) (nI n9) ≤ 0 ∧ ¬ na (m_now ms) n9 3 = 1 ∧ culpN (m_now ms) (nI n9) = -1)), m_is ms, nI (remC u), m_bd ms, m_pc ms, m_pa ms, m_sz ms, m_cu ms, m_st ms, m_tk ms, m_to ms, m_ps ms, ho3 (m_now ms) n9, m_asd ms, remU (m_und ms) (m_now ms) u, m_sav ms, m_isv ms, m_buf ms, m_grp ms, m_pag ms⟩ : MM) σ0) (c_lateAt b9 (⟨mayT (m_is ms) (bi (okN (m_is ms) (m_now ms) (nI n9))) (bi (okN (m_is ms) (m_now ms) (nI n9) ∧ ¬ flagsN (m_now ms) (nI n9) ≤ 0 ∧ ¬ na (m_now ms) n9 3 = 1 ∧ culpN (m_now ms) (nI n9) = -1)), m_is ms, nI (remC u), m_bd ms, m_pc ms, m_pa ms, m_sz ms, m_cu ms, m_st ms, m_tk ms, m_to ms, m_ps ms, ho3 (m_now ms) n9, m_asd ms, remU (m_und ms) (m_now ms) u, m_sav ms, m_isv ms, m_buf ms, m_grp ms, m_pag ms⟩ : MM) σ0 n9 ((ho3 (m_now ms) n9) 0) (by first | assumption | omega)) tX2_lateAt q2621 (mc_0 _ _ _) rfl rfl dX2_handOver_121 (by decide) (Nat.le_of_eq (Nat.zero_add _)) (Nat.le_of_ble_eq_true rfl) ?_
            refine A_callV3E (v := none) (τ := mc b9 (⟨mayT (m_is ms) (bi (okN (m_is ms) (m_now ms) (nI n9))) (bi (okN (m_is ms) (m_now ms) (nI n9) ∧ ¬ flagsN (m_now ms) (nI n9) ≤ 0 ∧ ¬ na (m_now ms) n9 3 = 1 ∧ culpN (m_now ms) (nI n9) = -1)), m_is ms, nI (remC u), m_bd ms, m_pc ms, m_pa ms, m_sz ms, m_cu ms, m_st ms, m_tk ms, m_to ms, m_ps ms, ho4 (m_now ms) n9, m_asd ms, remU (m_und ms) (m_now ms) u, m_sav ms, m_isv ms, m_buf ms, m_grp ms, m_pag ms⟩ : MM) σ0) (c_putsNation b9 (⟨mayT (m_is ms) (bi (okN (m_is ms) (m_now ms) (nI n9))) (bi (okN (m_is ms) (m_now ms) (nI n9) ∧ ¬ flagsN (m_now ms) (nI n9) ≤ 0 ∧ ¬ na (m_now ms) n9 3 = 1 ∧ culpN (m_now ms) (nI n9) = -1)), m_is ms, nI (remC u), m_bd ms, m_pc ms, m_pa ms, m_sz ms, m_cu ms, m_st ms, m_tk ms, m_to ms, m_ps ms, ho3 (m_now ms) n9, m_asd ms, remU (m_und ms) (m_now ms) u, m_sav ms, m_isv ms, m_buf ms, m_grp ms, m_pag ms⟩ : MM) σ0 n9 4 (lateN (ho3 (m_now ms) n9) n9 ((ho3 (m_now ms) n9) 0)) (by first | assumption | omega) (by first | assumption | omega)) tX2_putsNation q2390 (mc_0 _ _ _) rfl rfl dX2_handOver_124 (by decide) (Nat.le_of_eq (Nat.zero_add _)) (Nat.le_of_ble_eq_true rfl) ?_
            refine A_aload_n (i := 0) dX2_handOver_127 rfl rfl ?_
            refine A_iload_n (i := 1) dX2_handOver_128 rfl rfl ?_
            have w4 := v4 n9
            refine A_callV1E (v := none) (τ := mc b9 (⟨mayT (m_is ms) (bi (okN (m_is ms) (m_now ms) (nI n9))) (bi (okN (m_is ms) (m_now ms) (nI n9) ∧ ¬ flagsN (m_now ms) (nI n9) ≤ 0 ∧ ¬ na (m_now ms) n9 3 = 1 ∧ culpN (m_now ms) (nI n9) = -1)), m_is ms, nI (remC u), m_bd ms, m_pc ms, m_pa ms, m_sz ms, m_cu ms, m_st ms, m_tk ms, m_to ms, m_ps ms, hoN (m_now ms) n9, m_asd ms, remU (m_und ms) (m_now ms) u, m_sav ms, m_isv ms, m_buf ms, m_grp ms, m_pag ms⟩ : MM) σ0) (c_leaves b9 (⟨mayT (m_is ms) (bi (okN (m_is ms) (m_now ms) (nI n9))) (bi (okN (m_is ms) (m_now ms) (nI n9) ∧ ¬ flagsN (m_now ms) (nI n9) ≤ 0 ∧ ¬ na (m_now ms) n9 3 = 1 ∧ culpN (m_now ms) (nI n9) = -1)), m_is ms, nI (remC u), m_bd ms, m_pc ms, m_pa ms, m_sz ms, m_cu ms, m_st ms, m_tk ms, m_to ms, m_ps ms, ho4 (m_now ms) n9, m_asd ms, remU (m_und ms) (m_now ms) u, m_sav ms, m_isv ms, m_buf ms, m_grp ms, m_pag ms⟩ : MM) σ0 (nI n9) (by first | assumption | omega)) tX2_leaves q2939 (mc_0 _ _ _) rfl rfl dX2_handOver_129 (by decide) (Nat.le_of_eq (Nat.zero_add _)) (Nat.le_of_ble_eq_true rfl) ?_
            refine A_iload_n (i := 3) dX2_handOver_132 rfl rfl ?_
            exact A_iret dX2_handOver_133 rfl ⟨by rw [gd, if_pos c9], by simp only [gq_t c9] <;> rfl⟩
          · skip
            have c9 := bi_eq0.mp c9
            refine A_iconst (v := 0) dX2_handOver_52 (by decide) ?_
            exact A_iret dX2_handOver_53 rfl ⟨by rw [gd, if_neg c9], by simp only [gq_f c9]⟩
theorem in1_ex {x : Int32} {n : Nat} (hn : n ≤ 1000) (h : inR x 1 (nI n)) : ∃ k, 1 ≤ k ∧ k ≤ n ∧ x = nI k := by
  obtain ⟨h1, h2⟩ := h
  have h0 : ¬ x < 0 := fun h => h1 (Int32.lt_trans h (by decide))
  obtain ⟨j, hj, rfl⟩ := nI_of h0
  refine ⟨j, ?_, ?_, rfl⟩
  · rcases Nat.eq_zero_or_pos j with q | q
    · subst q; exact absurd (by decide) h1
    · exact q
  · rcases Nat.lt_or_ge n j with q | q
    · exact absurd (nI_lt q hj) h2
    · exact q
theorem c_pass {l : Launch} {g : GC} (b9 : Nat) (ms : MM) (σ0 : AH) (u : Nat) (x : Int32) (h1 : WFc (m_now ms)) (h2 : u ≤ 8) : AMet l g mX2_pass 7 0 [.ref b9, .int x] (mc b9 (⟨m_thr ms, m_is ms, nI u, m_bd ms, m_pc ms, m_pa ms, m_sz ms, m_cu ms, m_st ms, m_tk ms, m_to ms, m_ps ms, m_now ms, m_asd ms, m_und ms, m_sav ms, m_isv ms, m_buf ms, m_grp ms, m_pag ms⟩ : MM) σ0) (A_eq (some (.int (gd (mayT (m_is ms) (bi (inR x 1 50)) 1) (itr passN (m_now ms) (ix x) 5 - (m_now ms) 5)))) (mc b9 (⟨mayT (m_is ms) (bi (inR x 1 50)) 1, m_is ms, nI (gq (mayT (m_is ms) (bi (inR x 1 50)) 1) (remC u) u), m_bd ms, m_pc ms, m_pa ms, m_sz ms, m_cu ms, m_st ms, m_tk ms, m_to ms, m_ps ms, gq (mayT (m_is ms) (bi (inR x 1 50)) 1) (itr passN (m_now ms) (ix x)) (m_now ms), m_asd ms, gq (mayT (m_is ms) (bi (inR x 1 50)) 1) (remU (m_und ms) (m_now ms) u) (m_und ms), m_sav ms, m_isv ms, m_buf ms, m_grp ms, m_pag ms⟩ : MM) σ0)) A_no := by
  refine A_of rfl (by decide) (Nat.le_of_ble_eq_true rfl) (L0 := [(0, .ref b9), (1, .int x)]) rfl ?_
  refine A_aload_n (i := 0) dX2_pass_0 rfl rfl ?_
  refine A_aload_n (i := 0) dX2_pass_1 rfl rfl ?_
  refine M_get 6 (v := .int (m_is ms)) (Nat.le_of_ble_eq_true rfl) q2235 rfl dX2_pass_2 ?_
  refine A_iload_n (i := 1) dX2_pass_5 rfl rfl ?_
  refine A_iconst (v := 1) dX2_pass_6 (by decide) ?_
  refine A_bipush (v := 50) dX2_pass_7 (by decide) ?_
  refine A_callS3E (v := some (.int (bi (inR x 1 50)))) (τ := mc b9 (⟨m_thr ms, m_is ms, nI u, m_bd ms, m_pc ms, m_pa ms, m_sz ms, m_cu ms, m_st ms, m_tk ms, m_to ms, m_ps ms, m_now ms, m_asd ms, m_und ms, m_sav ms, m_isv ms, m_buf ms, m_grp ms, m_pag ms⟩ : MM) σ0) (c_in b9 (⟨m_thr ms, m_is ms, nI u, m_bd ms, m_pc ms, m_pa ms, m_sz ms, m_cu ms, m_st ms, m_tk ms, m_to ms, m_ps ms, m_now ms, m_asd ms, m_und ms, m_sav ms, m_isv ms, m_buf ms, m_grp ms, m_pag ms⟩ : MM) σ0 x 1 50) tX2_in q2319 dX2_pass_9 (by decide) (Nat.le_of_eq (Nat.zero_add _)) (Nat.le_of_ble_eq_true rfl) ?_
  refine A_callV2E (v := some (.int (bi (mayT (m_is ms) (bi (inR x 1 50)) 1 = 0)))) (τ := mc b9 (⟨mayT (m_is ms) (bi (inR x 1 50)) 1, m_is ms, nI u, m_bd ms, m_pc ms, m_pa ms, m_sz ms, m_cu ms, m_st ms, m_tk ms, m_to ms, m_ps ms, m_now ms, m_asd ms, m_und ms, m_sav ms, m_isv ms, m_buf ms, m_grp ms, m_pag ms⟩ : MM) σ0) (c_mayTwo b9 (⟨m_thr ms, m_is ms, nI u, m_bd ms, m_pc ms, m_pa ms, m_sz ms, m_cu ms, m_st ms, m_tk ms, m_to ms, m_ps ms, m_now ms, m_asd ms, m_und ms, m_sav ms, m_isv ms, m_buf ms, m_grp ms, m_pag ms⟩ : MM) σ0 (m_is ms) (bi (inR x 1 50))) tX2_mayTwo q2565 (mc_0 _ _ _) rfl rfl dX2_pass_12 (by decide) (Nat.le_of_eq (Nat.zero_add _)) (Nat.le_of_ble_eq_true rfl) ?_
  refine A_if_ne (tgt := 20) dX2_pass_15 (by decide) (fun c1 => ?_) (fun c1 => ?_)
  · skip
    have c1 := bi_ne0.mp c1
    obtain ⟨k, hk1, hk, rfl⟩ := in1_ex (n := 50) (by omega) (mayT_y c1)
    try rw [ixn (show k < 2000 by omega)]
    refine A_aload_n (i := 0) dX2_pass_20 rfl rfl ?_
    refine A_callV0E (v := none) (τ := mc b9 (⟨mayT (m_is ms) (bi (inR (nI k) 1 50)) 1, m_is ms, nI (remC u), m_bd ms, m_pc ms, m_pa ms, m_sz ms, m_cu ms, m_st ms, m_tk ms, m_to ms, m_ps ms, m_now ms, m_asd ms, remU (m_und ms) (m_now ms) u, m_sav ms, m_isv ms, m_buf ms, m_grp ms, m_pag ms⟩ : MM) σ0) (c_remembers b9 (⟨mayT (m_is ms) (bi (inR (nI k) 1 50)) 1, m_is ms, nI u, m_bd ms, m_pc ms, m_pa ms, m_sz ms, m_cu ms, m_st ms, m_tk ms, m_to ms, m_ps ms, m_now ms, m_asd ms, m_und ms, m_sav ms, m_isv ms, m_buf ms, m_grp ms, m_pag ms⟩ : MM) σ0 u (by first | assumption | omega)) tX2_remembers q2899 (mc_0 _ _ _) rfl rfl dX2_pass_21 (by decide) (Nat.le_of_eq (Nat.zero_add _)) (Nat.le_of_ble_eq_true rfl) ?_
    refine A_aload_n (i := 0) dX2_pass_24 rfl rfl ?_
    refine M_get 1 (v := .ref (b9 + 1)) (Nat.le_of_ble_eq_true rfl) q2230 rfl dX2_pass_25 ?_
    refine A_iconst (v := 5) dX2_pass_28 (by decide) ?_
    refine M_ald1 (n := 5) (v := m_now ms 5) (rfl) (by decide) (rfl) dX2_pass_29 ?_
    refine A_istore_n (i := 2) dX2_pass_30 rfl (Nat.le_of_ble_eq_true rfl) ?_
    refine A_iconst (v := 0) dX2_pass_31 (by decide) ?_
    refine A_istore_n (i := 3) dX2_pass_32 rfl (Nat.le_of_ble_eq_true rfl) ?_
    refine A_sub (L' := [(0, .ref b9), (1, .int (nI k)), (2, .int (m_now ms 5)), (3, .int (nI 0))]) ⟨rfl, rfl, rfl, rfl, trivial⟩ ?_
    refine A_for k (fun i33 => 0) (fun i33 => [(0, .ref b9), (1, .int (nI k)), (2, .int (m_now ms 5)), (3, .int (nI i33))]) (fun i33 => mc b9 (⟨mayT (m_is ms) (bi (inR (nI k) 1 50)) 1, m_is ms, nI (remC u), m_bd ms, m_pc ms, m_pa ms, m_sz ms, m_cu ms, m_st ms, m_tk ms, m_to ms, m_ps ms, itr passN (m_now ms) i33, m_asd ms, remU (m_und ms) (m_now ms) u, m_sav ms, m_isv ms, m_buf ms, m_grp ms, m_pag ms⟩ : MM) σ0) (fun i33 => True) trivial (fun i33 hi33 hI33 ih33 => ?_) (fun hI33 => ?_)
    · skip
      refine A_iload_n (i := 3) dX2_pass_33 rfl rfl ?_
      refine A_iload_n (i := 1) dX2_pass_34 rfl rfl ?_
      refine A_icmp_ge_f (tgt := 48) dX2_pass_35 (by decide) (br_lt rfl hi33 (by omega)) ?_
      have wi : WFc (itr passN (m_now ms) i33) := (cts_it _ _).wf h1
      refine A_aload_n (i := 0) dX2_pass_38 rfl rfl ?_
      refine A_callV0E (v := none) (τ := mc b9 (⟨mayT (m_is ms) (bi (inR (nI k) 1 50)) 1, m_is ms, nI (remC u), m_bd ms, m_pc ms, m_pa ms, m_sz ms, m_cu ms, m_st ms, m_tk ms, m_to ms, m_ps ms, itr passN (m_now ms) (i33 + 1), m_asd ms, remU (m_und ms) (m_now ms) u, m_sav ms, m_isv ms, m_buf ms, m_grp ms, m_pag ms⟩ : MM) σ0) (c_passes b9 (⟨mayT (m_is ms) (bi (inR (nI k) 1 50)) 1, m_is ms, nI (remC u), m_bd ms, m_pc ms, m_pa ms, m_sz ms, m_cu ms, m_st ms, m_tk ms, m_to ms, m_ps ms, itr passN (m_now ms) i33, m_asd ms, remU (m_und ms) (m_now ms) u, m_sav ms, m_isv ms, m_buf ms, m_grp ms, m_pag ms⟩ : MM) σ0  (by first | assumption | omega)) tX2_passes q2541 (mc_0 _ _ _) rfl rfl dX2_pass_39 (by decide) (Nat.le_of_eq (Nat.zero_add _)) (Nat.le_of_ble_eq_true rfl) ?_
      refine A_iinc (v := nI (i33 + 1)) dX2_pass_42 rfl (nI_inc _ _) (Nat.le_of_ble_eq_true rfl) ?_
      refine A_goto (tgt := 33) dX2_pass_45 (by decide) ?_
      refine A_sub (L' := [(0, .ref b9), (1, .int (nI k)), (2, .int (m_now ms 5)), (3, .int (nI (i33 + 1)))]) ⟨rfl, rfl, rfl, rfl, trivial⟩ ?_
      exact ih33 trivial
    · skip
      refine A_iload_n (i := 3) dX2_pass_33 rfl rfl ?_
      refine A_iload_n (i := 1) dX2_pass_34 rfl rfl ?_
      refine A_icmp_ge_t (tgt := 48) dX2_pass_35 (by decide) (br_ge rfl) ?_
      refine A_aload_n (i := 0) dX2_pass_48 rfl rfl ?_
      refine M_get 1 (v := .ref (b9 + 1)) (Nat.le_of_ble_eq_true rfl) q2230 rfl dX2_pass_49 ?_
      refine A_iconst (v := 5) dX2_pass_52 (by decide) ?_
      refine M_ald1 (n := 5) (v := (itr passN (m_now ms) k) 5) (rfl) (by decide) (rfl) dX2_pass_53 ?_
      refine A_iload_n (i := 2) dX2_pass_54 rfl rfl ?_
      refine A_isub dX2_pass_55 ?_
      exact A_iret dX2_pass_56 rfl ⟨by rw [gd, if_pos c1], by simp only [gq_t c1] <;> rfl⟩
  · skip
    have c1 := bi_eq0.mp c1
    refine A_iconst (v := 0) dX2_pass_18 (by decide) ?_
    exact A_iret dX2_pass_19 rfl ⟨by rw [gd, if_neg c1], by simp only [gq_f c1]⟩
theorem c_setWind {l : Launch} {g : GC} (b9 : Nat) (ms : MM) (σ0 : AH) (u : Nat) (x : Int32) (h1 : u ≤ 8) : AMet l g mX2_setWind 3 0 [.ref b9, .int x] (mc b9 (⟨m_thr ms, m_is ms, nI u, m_bd ms, m_pc ms, m_pa ms, m_sz ms, m_cu ms, m_st ms, m_tk ms, m_to ms, m_ps ms, m_now ms, m_asd ms, m_und ms, m_sav ms, m_isv ms, m_buf ms, m_grp ms, m_pag ms⟩ : MM) σ0) (A_eq (some (.int (gd (mayT (m_is ms) (bi (inR x 0 9)) 1) ((m_now ms) 1)))) (mc b9 (⟨mayT (m_is ms) (bi (inR x 0 9)) 1, m_is ms, nI (gq (mayT (m_is ms) (bi (inR x 0 9)) 1) (remC u) u), m_bd ms, m_pc ms, m_pa ms, m_sz ms, m_cu ms, m_st ms, m_tk ms, m_to ms, m_ps ms, gq (mayT (m_is ms) (bi (inR x 0 9)) 1) (va_up (m_now ms) 1 x) (m_now ms), m_asd ms, gq (mayT (m_is ms) (bi (inR x 0 9)) 1) (remU (m_und ms) (m_now ms) u) (m_und ms), m_sav ms, m_isv ms, m_buf ms, m_grp ms, m_pag ms⟩ : MM) σ0)) A_no := by
  refine A_of rfl (by decide) (Nat.le_of_ble_eq_true rfl) (L0 := [(0, .ref b9), (1, .int x)]) rfl ?_
  refine A_aload_n (i := 0) dX2_setWind_0 rfl rfl ?_
  refine A_aload_n (i := 0) dX2_setWind_1 rfl rfl ?_
  refine M_get 6 (v := .int (m_is ms)) (Nat.le_of_ble_eq_true rfl) q2235 rfl dX2_setWind_2 ?_
  refine A_iload_n (i := 1) dX2_setWind_5 rfl rfl ?_
  refine A_callS1E (v := some (.int (bi (inR x 0 9)))) (τ := mc b9 (⟨m_thr ms, m_is ms, nI u, m_bd ms, m_pc ms, m_pa ms, m_sz ms, m_cu ms, m_st ms, m_tk ms, m_to ms, m_ps ms, m_now ms, m_asd ms, m_und ms, m_sav ms, m_isv ms, m_buf ms, m_grp ms, m_pag ms⟩ : MM) σ0) (c_isWind b9 (⟨m_thr ms, m_is ms, nI u, m_bd ms, m_pc ms, m_pa ms, m_sz ms, m_cu ms, m_st ms, m_tk ms, m_to ms, m_ps ms, m_now ms, m_asd ms, m_und ms, m_sav ms, m_isv ms, m_buf ms, m_grp ms, m_pag ms⟩ : MM) σ0 x) tX2_isWind q2805 dX2_setWind_6 (by decide) (Nat.le_of_eq (Nat.zero_add _)) (Nat.le_of_ble_eq_true rfl) ?_
  refine A_callV2E (v := some (.int (bi (mayT (m_is ms) (bi (inR x 0 9)) 1 = 0)))) (τ := mc b9 (⟨mayT (m_is ms) (bi (inR x 0 9)) 1, m_is ms, nI u, m_bd ms, m_pc ms, m_pa ms, m_sz ms, m_cu ms, m_st ms, m_tk ms, m_to ms, m_ps ms, m_now ms, m_asd ms, m_und ms, m_sav ms, m_isv ms, m_buf ms, m_grp ms, m_pag ms⟩ : MM) σ0) (c_mayTwo b9 (⟨m_thr ms, m_is ms, nI u, m_bd ms, m_pc ms, m_pa ms, m_sz ms, m_cu ms, m_st ms, m_tk ms, m_to ms, m_ps ms, m_now ms, m_asd ms, m_und ms, m_sav ms, m_isv ms, m_buf ms, m_grp ms, m_pag ms⟩ : MM) σ0 (m_is ms) (bi (inR x 0 9))) tX2_mayTwo q2565 (mc_0 _ _ _) rfl rfl dX2_setWind_9 (by decide) (Nat.le_of_eq (Nat.zero_add _)) (Nat.le_of_ble_eq_true rfl) ?_
  refine A_if_ne (tgt := 17) dX2_setWind_12 (by decide) (fun c1 => ?_) (fun c1 => ?_)
  · skip
    have c1 := bi_ne0.mp c1
    refine A_aload_n (i := 0) dX2_setWind_17 rfl rfl ?_
    refine A_callV0E (v := none) (τ := mc b9 (⟨mayT (m_is ms) (bi (inR x 0 9)) 1, m_is ms, nI (remC u), m_bd ms, m_pc ms, m_pa ms, m_sz ms, m_cu ms, m_st ms, m_tk ms, m_to ms, m_ps ms, m_now ms, m_asd ms, remU (m_und ms) (m_now ms) u, m_sav ms, m_isv ms, m_buf ms, m_grp ms, m_pag ms⟩ : MM) σ0) (c_remembers b9 (⟨mayT (m_is ms) (bi (inR x 0 9)) 1, m_is ms, nI u, m_bd ms, m_pc ms, m_pa ms, m_sz ms, m_cu ms, m_st ms, m_tk ms, m_to ms, m_ps ms, m_now ms, m_asd ms, m_und ms, m_sav ms, m_isv ms, m_buf ms, m_grp ms, m_pag ms⟩ : MM) σ0 u (by first | assumption | omega)) tX2_remembers q2899 (mc_0 _ _ _) rfl rfl dX2_setWind_18 (by decide) (Nat.le_of_eq (Nat.zero_add _)) (Nat.le_of_ble_eq_true rfl) ?_
    refine A_aload_n (i := 0) dX2_setWind_21 rfl rfl ?_
    refine M_get 1 (v := .ref (b9 + 1)) (Nat.le_of_ble_eq_true rfl) q2230 rfl dX2_setWind_22 ?_
    refine A_iconst (v := 1) dX2_setWind_25 (by decide) ?_
    refine M_ald1 (n := 1) (v := m_now ms 1) (rfl) (by decide) (rfl) dX2_setWind_26 ?_
    refine A_istore_n (i := 2) dX2_setWind_27 rfl (Nat.le_of_ble_eq_true rfl) ?_
    refine A_aload_n (i := 0) dX2_setWind_28 rfl rfl ?_
    refine M_get 1 (v := .ref (b9 + 1)) (Nat.le_of_ble_eq_true rfl) q2230 rfl dX2_setWind_29 ?_
    refine A_iconst (v := 1) dX2_setWind_32 (by decide) ?_
    refine A_iload_n (i := 1) dX2_setWind_33 rfl rfl ?_
    refine M_ast1 (n := 1) (na := va_up (m_now ms) 1 x) (rfl) (by decide) (rfl) dX2_setWind_34 ?_
    refine A_iload_n (i := 2) dX2_setWind_35 rfl rfl ?_
    exact A_iret dX2_setWind_36 rfl ⟨by rw [gd, if_pos c1], by simp only [gq_t c1] <;> rfl⟩
  · skip
    have c1 := bi_eq0.mp c1
    refine A_iconst (v := 0) dX2_setWind_15 (by decide) ?_
    exact A_iret dX2_setWind_16 rfl ⟨by rw [gd, if_neg c1], by simp only [gq_f c1]⟩
theorem c_clearTub {l : Launch} {g : GC} (b9 : Nat) (ms : MM) (σ0 : AH) (u : Nat) (t : Int32) (h1 : WFc (m_now ms)) (h2 : u ≤ 8) : AMet l g mX2_clearTub 5 0 [.ref b9, .int t] (mc b9 (⟨m_thr ms, m_is ms, nI u, m_bd ms, m_pc ms, m_pa ms, m_sz ms, m_cu ms, m_st ms, m_tk ms, m_to ms, m_ps ms, m_now ms, m_asd ms, m_und ms, m_sav ms, m_isv ms, m_buf ms, m_grp ms, m_pag ms⟩ : MM) σ0) (A_eq (some (.int (gd (mayT (m_is ms) (bi (okT (m_is ms) (m_now ms) t)) 1) (manyT (m_now ms) t)))) (mc b9 (⟨mayT (m_is ms) (bi (okT (m_is ms) (m_now ms) t)) 1, m_is ms, nI (gq (mayT (m_is ms) (bi (okT (m_is ms) (m_now ms) t)) 1) (remC u) u), m_bd ms, m_pc ms, m_pa ms, m_sz ms, m_cu ms, m_st ms, m_tk ms, m_to ms, m_ps ms, gq (mayT (m_is ms) (bi (okT (m_is ms) (m_now ms) t)) 1) (clU (m_now ms) t (nF (m_now ms))) (m_now ms), m_asd ms, gq (mayT (m_is ms) (bi (okT (m_is ms) (m_now ms) t)) 1) (remU (m_und ms) (m_now ms) u) (m_und ms), m_sav ms, m_isv ms, m_buf ms, m_grp ms, m_pag ms⟩ : MM) σ0)) A_no := by
  refine A_of rfl (by decide) (Nat.le_of_ble_eq_true rfl) (L0 := [(0, .ref b9), (1, .int t)]) rfl ?_
  have hF := h1.2.2.2.2.2
  have hC := h1.1.2
  refine A_aload_n (i := 0) dX2_clearTub_0 rfl rfl ?_
  refine A_iload_n (i := 1) dX2_clearTub_1 rfl rfl ?_
  refine A_callV1E (v := some (.int (bi (mayT (m_is ms) (bi (okT (m_is ms) (m_now ms) t)) 1 = 0)))) (τ := mc b9 (⟨mayT (m_is ms) (bi (okT (m_is ms) (m_now ms) t)) 1, m_is ms, nI u, m_bd ms, m_pc ms, m_pa ms, m_sz ms, m_cu ms, m_st ms, m_tk ms, m_to ms, m_ps ms, m_now ms, m_asd ms, m_und ms, m_sav ms, m_isv ms, m_buf ms, m_grp ms, m_pag ms⟩ : MM) σ0) (c_mayTub b9 (⟨m_thr ms, m_is ms, nI u, m_bd ms, m_pc ms, m_pa ms, m_sz ms, m_cu ms, m_st ms, m_tk ms, m_to ms, m_ps ms, m_now ms, m_asd ms, m_und ms, m_sav ms, m_isv ms, m_buf ms, m_grp ms, m_pag ms⟩ : MM) σ0 t) tX2_mayTub q2649 (mc_0 _ _ _) rfl rfl dX2_clearTub_2 (by decide) (Nat.le_of_eq (Nat.zero_add _)) (Nat.le_of_ble_eq_true rfl) ?_
  refine A_if_ne (tgt := 10) dX2_clearTub_5 (by decide) (fun c1 => ?_) (fun c1 => ?_)
  · skip
    have c1 := bi_ne0.mp c1
    refine A_aload_n (i := 0) dX2_clearTub_10 rfl rfl ?_
    refine A_callV0E (v := none) (τ := mc b9 (⟨mayT (m_is ms) (bi (okT (m_is ms) (m_now ms) t)) 1, m_is ms, nI (remC u), m_bd ms, m_pc ms, m_pa ms, m_sz ms, m_cu ms, m_st ms, m_tk ms, m_to ms, m_ps ms, m_now ms, m_asd ms, remU (m_und ms) (m_now ms) u, m_sav ms, m_isv ms, m_buf ms, m_grp ms, m_pag ms⟩ : MM) σ0) (c_remembers b9 (⟨mayT (m_is ms) (bi (okT (m_is ms) (m_now ms) t)) 1, m_is ms, nI u, m_bd ms, m_pc ms, m_pa ms, m_sz ms, m_cu ms, m_st ms, m_tk ms, m_to ms, m_ps ms, m_now ms, m_asd ms, m_und ms, m_sav ms, m_isv ms, m_buf ms, m_grp ms, m_pag ms⟩ : MM) σ0 u (by first | assumption | omega)) tX2_remembers q2899 (mc_0 _ _ _) rfl rfl dX2_clearTub_11 (by decide) (Nat.le_of_eq (Nat.zero_add _)) (Nat.le_of_ble_eq_true rfl) ?_
    refine A_aload_n (i := 0) dX2_clearTub_14 rfl rfl ?_
    refine A_iload_n (i := 1) dX2_clearTub_15 rfl rfl ?_
    refine A_callV1E (v := some (.int (manyT (m_now ms) t))) (τ := mc b9 (⟨mayT (m_is ms) (bi (okT (m_is ms) (m_now ms) t)) 1, m_is ms, nI (remC u), m_bd ms, m_pc ms, m_pa ms, m_sz ms, m_cu ms, m_st ms, m_tk ms, m_to ms, m_ps ms, m_now ms, m_asd ms, remU (m_und ms) (m_now ms) u, m_sav ms, m_isv ms, m_buf ms, m_grp ms, m_pag ms⟩ : MM) σ0) (c_manyIn b9 (⟨mayT (m_is ms) (bi (okT (m_is ms) (m_now ms) t)) 1, m_is ms, nI (remC u), m_bd ms, m_pc ms, m_pa ms, m_sz ms, m_cu ms, m_st ms, m_tk ms, m_to ms, m_ps ms, m_now ms, m_asd ms, remU (m_und ms) (m_now ms) u, m_sav ms, m_isv ms, m_buf ms, m_grp ms, m_pag ms⟩ : MM) σ0 t (by first | assumption | omega)) tX2_manyIn q2448 (mc_0 _ _ _) rfl rfl dX2_clearTub_16 (by decide) (Nat.le_of_eq (Nat.zero_add _)) (Nat.le_of_ble_eq_true rfl) ?_
    refine A_istore_n (i := 2) dX2_clearTub_19 rfl (Nat.le_of_ble_eq_true rfl) ?_
    refine A_iconst (v := 0) dX2_clearTub_20 (by decide) ?_
    refine A_istore_n (i := 3) dX2_clearTub_21 rfl (Nat.le_of_ble_eq_true rfl) ?_
    refine A_sub (L' := [(0, .ref b9), (1, .int t), (2, .int (manyT (m_now ms) t)), (3, .int (nI 0))]) ⟨rfl, rfl, rfl, rfl, trivial⟩ ?_
    refine A_for (nF (m_now ms)) (fun i22 => 0) (fun i22 => [(0, .ref b9), (1, .int t), (2, .int (manyT (m_now ms) t)), (3, .int (nI i22))]) (fun i22 => mc b9 (⟨mayT (m_is ms) (bi (okT (m_is ms) (m_now ms) t)) 1, m_is ms, nI (remC u), m_bd ms, m_pc ms, m_pa ms, m_sz ms, m_cu ms, m_st ms, m_tk ms, m_to ms, m_ps ms, clU (m_now ms) t i22, m_asd ms, remU (m_und ms) (m_now ms) u, m_sav ms, m_isv ms, m_buf ms, m_grp ms, m_pag ms⟩ : MM) σ0) (fun i22 => True) trivial (fun i22 hi22 hI22 ih22 => ?_) (fun hI22 => ?_)
    · skip
      refine A_iload_n (i := 3) dX2_clearTub_22 rfl rfl ?_
      refine A_aload_n (i := 0) dX2_clearTub_23 rfl rfl ?_
      refine M_get 1 (v := .ref (b9 + 1)) (Nat.le_of_ble_eq_true rfl) q2230 rfl dX2_clearTub_24 ?_
      refine A_bipush (v := 10) dX2_clearTub_27 (by decide) ?_
      refine M_ald1 (n := 10) (v := (clU (m_now ms) t i22) 10) (rfl) (by decide) (rfl) dX2_clearTub_29 ?_
      refine A_icmp_ge_f (tgt := 55) dX2_clearTub_30 (by decide) (br_lt ((hdr_clU _ _ _).eqF h1) hi22 (by omega)) ?_
      refine A_aload_n (i := 0) dX2_clearTub_33 rfl rfl ?_
      refine A_iload_n (i := 3) dX2_clearTub_34 rfl rfl ?_
      refine A_iload_n (i := 1) dX2_clearTub_35 rfl rfl ?_
      refine A_callV2E (v := some (.int (bi (inTub (clU (m_now ms) t i22) i22 t)))) (τ := mc b9 (⟨mayT (m_is ms) (bi (okT (m_is ms) (m_now ms) t)) 1, m_is ms, nI (remC u), m_bd ms, m_pc ms, m_pa ms, m_sz ms, m_cu ms, m_st ms, m_tk ms, m_to ms, m_ps ms, clU (m_now ms) t i22, m_asd ms, remU (m_und ms) (m_now ms) u, m_sav ms, m_isv ms, m_buf ms, m_grp ms, m_pag ms⟩ : MM) σ0) (c_isInTub b9 (⟨mayT (m_is ms) (bi (okT (m_is ms) (m_now ms) t)) 1, m_is ms, nI (remC u), m_bd ms, m_pc ms, m_pa ms, m_sz ms, m_cu ms, m_st ms, m_tk ms, m_to ms, m_ps ms, clU (m_now ms) t i22, m_asd ms, remU (m_und ms) (m_now ms) u, m_sav ms, m_isv ms, m_buf ms, m_grp ms, m_pag ms⟩ : MM) σ0 i22 t (by first | assumption | omega)) tX2_isInTub q2452 (mc_0 _ _ _) rfl rfl dX2_clearTub_36 (by decide) (Nat.le_of_eq (Nat.zero_add _)) (Nat.le_of_ble_eq_true rfl) ?_
      refine A_if_eq (tgt := 49) dX2_clearTub_39 (by decide) (fun c2 => ?_) (fun c2 => ?_)
      · skip
        have c2 := bi_eq0.mp c2
        refine A_iinc (v := nI (i22 + 1)) dX2_clearTub_49 rfl (nI_inc _ _) (Nat.le_of_ble_eq_true rfl) ?_
        refine A_goto (tgt := 22) dX2_clearTub_52 (by decide) ?_
        refine A_sub (L' := [(0, .ref b9), (1, .int t), (2, .int (manyT (m_now ms) t)), (3, .int (nI (i22 + 1)))]) ⟨rfl, rfl, rfl, rfl, trivial⟩ ?_
        rw [show mc b9 (⟨mayT (m_is ms) (bi (okT (m_is ms) (m_now ms) t)) 1, m_is ms, nI (remC u), m_bd ms, m_pc ms, m_pa ms, m_sz ms, m_cu ms, m_st ms, m_tk ms, m_to ms, m_ps ms, clU (m_now ms) t i22, m_asd ms, remU (m_und ms) (m_now ms) u, m_sav ms, m_isv ms, m_buf ms, m_grp ms, m_pag ms⟩ : MM) σ0 = mc b9 (s_now (clU (m_now ms) t (i22 + 1)) (⟨mayT (m_is ms) (bi (okT (m_is ms) (m_now ms) t)) 1, m_is ms, nI (remC u), m_bd ms, m_pc ms, m_pa ms, m_sz ms, m_cu ms, m_st ms, m_tk ms, m_to ms, m_ps ms, clU (m_now ms) t i22, m_asd ms, remU (m_und ms) (m_now ms) u, m_sav ms, m_isv ms, m_buf ms, m_grp ms, m_pag ms⟩ : MM)) σ0 by rw [clU_s, if_neg c2] <;> rfl]
        exact ih22 trivial
      · skip
        have c2 := bi_ne0.mp c2
        refine A_aload_n (i := 0) dX2_clearTub_42 rfl rfl ?_
        refine A_iload_n (i := 3) dX2_clearTub_43 rfl rfl ?_
        refine A_iconst (v := 0) dX2_clearTub_44 (by decide) ?_
        refine A_iconst (v := (-1)) dX2_clearTub_45 (by decide) ?_
        refine A_callV3E (v := none) (τ := mc b9 (⟨mayT (m_is ms) (bi (okT (m_is ms) (m_now ms) t)) 1, m_is ms, nI (remC u), m_bd ms, m_pc ms, m_pa ms, m_sz ms, m_cu ms, m_st ms, m_tk ms, m_to ms, m_ps ms, goTo (clU (m_now ms) t i22) i22 0 (-1), m_asd ms, remU (m_und ms) (m_now ms) u, m_sav ms, m_isv ms, m_buf ms, m_grp ms, m_pag ms⟩ : MM) σ0) (c_goesTo b9 (⟨mayT (m_is ms) (bi (okT (m_is ms) (m_now ms) t)) 1, m_is ms, nI (remC u), m_bd ms, m_pc ms, m_pa ms, m_sz ms, m_cu ms, m_st ms, m_tk ms, m_to ms, m_ps ms, clU (m_now ms) t i22, m_asd ms, remU (m_und ms) (m_now ms) u, m_sav ms, m_isv ms, m_buf ms, m_grp ms, m_pag ms⟩ : MM) σ0 i22 0 (-1) (by first | assumption | omega)) tX2_goesTo q2419 (mc_0 _ _ _) rfl rfl dX2_clearTub_46 (by decide) (Nat.le_of_eq (Nat.zero_add _)) (Nat.le_of_ble_eq_true rfl) ?_
        refine A_iinc (v := nI (i22 + 1)) dX2_clearTub_49 rfl (nI_inc _ _) (Nat.le_of_ble_eq_true rfl) ?_
        refine A_goto (tgt := 22) dX2_clearTub_52 (by decide) ?_
        refine A_sub (L' := [(0, .ref b9), (1, .int t), (2, .int (manyT (m_now ms) t)), (3, .int (nI (i22 + 1)))]) ⟨rfl, rfl, rfl, rfl, trivial⟩ ?_
        rw [show mc b9 (⟨mayT (m_is ms) (bi (okT (m_is ms) (m_now ms) t)) 1, m_is ms, nI (remC u), m_bd ms, m_pc ms, m_pa ms, m_sz ms, m_cu ms, m_st ms, m_tk ms, m_to ms, m_ps ms, goTo (clU (m_now ms) t i22) i22 0 (-1), m_asd ms, remU (m_und ms) (m_now ms) u, m_sav ms, m_isv ms, m_buf ms, m_grp ms, m_pag ms⟩ : MM) σ0 = mc b9 (s_now (clU (m_now ms) t (i22 + 1)) (⟨mayT (m_is ms) (bi (okT (m_is ms) (m_now ms) t)) 1, m_is ms, nI (remC u), m_bd ms, m_pc ms, m_pa ms, m_sz ms, m_cu ms, m_st ms, m_tk ms, m_to ms, m_ps ms, goTo (clU (m_now ms) t i22) i22 0 (-1), m_asd ms, remU (m_und ms) (m_now ms) u, m_sav ms, m_isv ms, m_buf ms, m_grp ms, m_pag ms⟩ : MM)) σ0 by rw [clU_s, if_pos c2] <;> rfl]
        exact ih22 trivial
    · skip
      refine A_iload_n (i := 3) dX2_clearTub_22 rfl rfl ?_
      refine A_aload_n (i := 0) dX2_clearTub_23 rfl rfl ?_
      refine M_get 1 (v := .ref (b9 + 1)) (Nat.le_of_ble_eq_true rfl) q2230 rfl dX2_clearTub_24 ?_
      refine A_bipush (v := 10) dX2_clearTub_27 (by decide) ?_
      refine M_ald1 (n := 10) (v := (clU (m_now ms) t (nF (m_now ms))) 10) (rfl) (by decide) (rfl) dX2_clearTub_29 ?_
      refine A_icmp_ge_t (tgt := 55) dX2_clearTub_30 (by decide) (br_ge ((hdr_clU _ _ _).eqF h1)) ?_
      refine A_iload_n (i := 2) dX2_clearTub_55 rfl rfl ?_
      exact A_iret dX2_clearTub_56 rfl ⟨by rw [gd, if_pos c1], by simp only [gq_t c1] <;> rfl⟩
  · skip
    have c1 := bi_eq0.mp c1
    refine A_iconst (v := 0) dX2_clearTub_8 (by decide) ?_
    exact A_iret dX2_clearTub_9 rfl ⟨by rw [gd, if_neg c1], by simp only [gq_f c1]⟩
