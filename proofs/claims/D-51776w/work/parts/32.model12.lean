/-! THE MODEL 12: tokens -/
theorem A_join {l : Launch} {g : GC} {mi : MI} {d b : Nat} {Q : Option Value → AH → Prop} {X : String → Nat → AH → Prop} {pc : Nat} {L : List (Nat × Value)} {st : List Value} {σ : AH} {pc' : Nat} {L' : List (Nat × Value)} {st' : List Value} {σ' : AH} (h : AW l g mi d b Q X pc' L' st' σ') (k : AW l g mi d b Q X pc' L' st' σ' → AW l g mi d b Q X pc L st σ) : AW l g mi d b Q X pc L st σ := k h
theorem nI_subl (a b : Nat) : nI (a + b) - nI a = nI b := by
  rw [← nI_add, Int32.add_comm, Int32.add_sub_cancel]
theorem nI_eqi {a b : Nat} (ha : a < 2 ^ 31) (hb : b < 2 ^ 31) : nI a = nI b ↔ a = b := by
  constructor
  · intro h
    have h1 := congrArg Int32.toNatClampNeg h
    rwa [nI_clamp ha, nI_clamp hb] at h1
  · intro h; rw [h]
theorem nI_lti {a b : Nat} (ha : a < 2 ^ 31) (hb : b < 2 ^ 31) : nI a < nI b ↔ a < b := by
  rw [Int32.lt_iff_toInt_lt, nI_toInt ha, nI_toInt hb]; omega
theorem nI_lei {a b : Nat} (ha : a < 2 ^ 31) (hb : b < 2 ^ 31) : nI a ≤ nI b ↔ a ≤ b := by
  rw [Int32.le_iff_toInt_le, nI_toInt ha, nI_toInt hb]; omega
theorem goes_e {B : AF} {n S : Nat} {p : PT} (h0 : p.2.2.2.2.2.1 ≤ 0) (hS : S = spN B n p) (h : S = n) : goesS B n p = (p.1, S, S, 1, p.2.2.2.2) := by rw [goes_0 h0, ← hS, tok_e h]
theorem goes_l {B : AF} {n S E : Nat} {p : PT} {v : Int32} (h0 : p.2.2.2.2.2.1 ≤ 0) (hS : S = spN B n p) (h : ¬ S = n) (h1 : leP B n S) (hE : E = leN B n S) (hv : (if E - S ≤ 6 then (2 : Int32) else 0) = v) : goesS B n p = (p.1, E, S, v, p.2.2.2.2) := by rw [goes_0 h0, ← hS, tok_l h h1, ← hE, hv]
theorem goes_d {B : AF} {n S E : Nat} {p : PT} {v : Int32} (h0 : p.2.2.2.2.2.1 ≤ 0) (hS : S = spN B n p) (h : ¬ S = n) (h1 : ¬ leP B n S) (h2 : diP B n S) (hE : E = diN B n S) (hv : (if E - S ≤ 2 then (3 : Int32) else 0) = v) : goesS B n p = (p.1, E, S, v, tv B S (E - S), p.2.2.2.2.2) := by rw [goes_0 h0, ← hS, tok_d h h1 h2, ← hE, hv]
theorem goes_s {B : AF} {n S : Nat} {p : PT} {v : Int32} (h0 : p.2.2.2.2.2.1 ≤ 0) (hS : S = spN B n p) (h : ¬ S = n) (h1 : ¬ leP B n S) (h2 : ¬ diP B n S) (hv : (if B S = 59 then (4 : Int32) else 0) = v) : goesS B n p = (p.1, S + 1, S, v, p.2.2.2.2) := by rw [goes_0 h0, ← hS, tok_o h h1 h2, hv]
theorem c_isLetter {l : Launch} {g : GC} (b9 : Nat) (ms : MM) (σ0 : AH) (n : Nat) (B : AF) (k : Nat) (h1 : k ≤ n) (h2 : n ≤ 500) : AMet l g mX2_isLetter 2 0 [.ref b9, .int (nI k)] (mc b9 (⟨m_thr ms, m_is ms, m_um ms, m_bd ms, m_pc ms, m_pa ms, nI n, m_cu ms, m_st ms, m_tk ms, m_to ms, m_ps ms, m_now ms, m_asd ms, m_und ms, m_sav ms, m_isv ms, B, m_grp ms, m_pag ms⟩ : MM) σ0) (A_eq (some (.int (bi (leP B n k)))) (mc b9 (⟨m_thr ms, m_is ms, m_um ms, m_bd ms, m_pc ms, m_pa ms, nI n, m_cu ms, m_st ms, m_tk ms, m_to ms, m_ps ms, m_now ms, m_asd ms, m_und ms, m_sav ms, m_isv ms, B, m_grp ms, m_pag ms⟩ : MM) σ0)) A_no := by
  refine A_of rfl (by decide) (Nat.le_of_ble_eq_true rfl) (L0 := [(0, .ref b9), (1, .int (nI k))]) rfl ?_
  refine A_iload_n (i := 1) dX2_isLetter_0 rfl rfl ?_
  refine A_aload_n (i := 0) dX2_isLetter_1 rfl rfl ?_
  refine M_get 12 (v := .int (nI n)) (Nat.le_of_ble_eq_true rfl) q2241 rfl dX2_isLetter_2 ?_
  refine A_icmp_ge (tgt := 28) dX2_isLetter_5 (by decide) (fun c1 => ?_) (fun c1 => ?_)
  · skip
    refine A_iconst (v := 0) dX2_isLetter_28 (by decide) ?_
    exact A_zret dX2_isLetter_29 rfl (rfl) ⟨by rw [bi_f (fun h => absurd c1 (nI_ge h.1 (by omega)))], rfl⟩
  · skip
    have hk := (Nat.lt_of_not_le (fun h => c1 (nI_le h (by omega))))
    refine A_aload_n (i := 0) dX2_isLetter_8 rfl rfl ?_
    refine M_get 8 (v := .ref (b9 + 6)) (Nat.le_of_ble_eq_true rfl) q2237 rfl dX2_isLetter_9 ?_
    refine A_iload_n (i := 1) dX2_isLetter_12 rfl rfl ?_
    refine M_ald6 (n := k) (v := B k) (rfl) (by omega) (rfl) dX2_isLetter_13 ?_
    refine A_bipush (v := 97) dX2_isLetter_14 (by decide) ?_
    refine A_bipush (v := 122) dX2_isLetter_16 (by decide) ?_
    refine A_callS3E (v := some (.int (bi (inR (B k) 97 122)))) (τ := mc b9 (⟨m_thr ms, m_is ms, m_um ms, m_bd ms, m_pc ms, m_pa ms, nI n, m_cu ms, m_st ms, m_tk ms, m_to ms, m_ps ms, m_now ms, m_asd ms, m_und ms, m_sav ms, m_isv ms, B, m_grp ms, m_pag ms⟩ : MM) σ0) (c_in b9 (⟨m_thr ms, m_is ms, m_um ms, m_bd ms, m_pc ms, m_pa ms, nI n, m_cu ms, m_st ms, m_tk ms, m_to ms, m_ps ms, m_now ms, m_asd ms, m_und ms, m_sav ms, m_isv ms, B, m_grp ms, m_pag ms⟩ : MM) σ0 (B k) 97 122) tX2_in q2319 dX2_isLetter_18 (by decide) (Nat.le_of_eq (Nat.zero_add _)) (Nat.le_of_ble_eq_true rfl) ?_
    refine A_if_eq (tgt := 28) dX2_isLetter_21 (by decide) (fun c2 => ?_) (fun c2 => ?_)
    · skip
      have c2 := bi_eq0.mp c2
      refine A_iconst (v := 0) dX2_isLetter_28 (by decide) ?_
      exact A_zret dX2_isLetter_29 rfl (rfl) ⟨by rw [bi_f (fun h => c2 h.2)], rfl⟩
    · skip
      have c2 := bi_ne0.mp c2
      refine A_iconst (v := 1) dX2_isLetter_24 (by decide) ?_
      refine A_goto (tgt := 29) dX2_isLetter_25 (by decide) ?_
      exact A_zret dX2_isLetter_29 rfl (rfl) ⟨by rw [bi_t ⟨hk, c2⟩], rfl⟩
theorem c_isDigit {l : Launch} {g : GC} (b9 : Nat) (ms : MM) (σ0 : AH) (n : Nat) (B : AF) (k : Nat) (h1 : k ≤ n) (h2 : n ≤ 500) : AMet l g mX2_isDigit 2 0 [.ref b9, .int (nI k)] (mc b9 (⟨m_thr ms, m_is ms, m_um ms, m_bd ms, m_pc ms, m_pa ms, nI n, m_cu ms, m_st ms, m_tk ms, m_to ms, m_ps ms, m_now ms, m_asd ms, m_und ms, m_sav ms, m_isv ms, B, m_grp ms, m_pag ms⟩ : MM) σ0) (A_eq (some (.int (bi (diP B n k)))) (mc b9 (⟨m_thr ms, m_is ms, m_um ms, m_bd ms, m_pc ms, m_pa ms, nI n, m_cu ms, m_st ms, m_tk ms, m_to ms, m_ps ms, m_now ms, m_asd ms, m_und ms, m_sav ms, m_isv ms, B, m_grp ms, m_pag ms⟩ : MM) σ0)) A_no := by
  refine A_of rfl (by decide) (Nat.le_of_ble_eq_true rfl) (L0 := [(0, .ref b9), (1, .int (nI k))]) rfl ?_
  refine A_iload_n (i := 1) dX2_isDigit_0 rfl rfl ?_
  refine A_aload_n (i := 0) dX2_isDigit_1 rfl rfl ?_
  refine M_get 12 (v := .int (nI n)) (Nat.le_of_ble_eq_true rfl) q2241 rfl dX2_isDigit_2 ?_
  refine A_icmp_ge (tgt := 28) dX2_isDigit_5 (by decide) (fun c1 => ?_) (fun c1 => ?_)
  · skip
    refine A_iconst (v := 0) dX2_isDigit_28 (by decide) ?_
    exact A_zret dX2_isDigit_29 rfl (rfl) ⟨by rw [bi_f (fun h => absurd c1 (nI_ge h.1 (by omega)))], rfl⟩
  · skip
    have hk := (Nat.lt_of_not_le (fun h => c1 (nI_le h (by omega))))
    refine A_aload_n (i := 0) dX2_isDigit_8 rfl rfl ?_
    refine M_get 8 (v := .ref (b9 + 6)) (Nat.le_of_ble_eq_true rfl) q2237 rfl dX2_isDigit_9 ?_
    refine A_iload_n (i := 1) dX2_isDigit_12 rfl rfl ?_
    refine M_ald6 (n := k) (v := B k) (rfl) (by omega) (rfl) dX2_isDigit_13 ?_
    refine A_bipush (v := 48) dX2_isDigit_14 (by decide) ?_
    refine A_bipush (v := 57) dX2_isDigit_16 (by decide) ?_
    refine A_callS3E (v := some (.int (bi (inR (B k) 48 57)))) (τ := mc b9 (⟨m_thr ms, m_is ms, m_um ms, m_bd ms, m_pc ms, m_pa ms, nI n, m_cu ms, m_st ms, m_tk ms, m_to ms, m_ps ms, m_now ms, m_asd ms, m_und ms, m_sav ms, m_isv ms, B, m_grp ms, m_pag ms⟩ : MM) σ0) (c_in b9 (⟨m_thr ms, m_is ms, m_um ms, m_bd ms, m_pc ms, m_pa ms, nI n, m_cu ms, m_st ms, m_tk ms, m_to ms, m_ps ms, m_now ms, m_asd ms, m_und ms, m_sav ms, m_isv ms, B, m_grp ms, m_pag ms⟩ : MM) σ0 (B k) 48 57) tX2_in q2319 dX2_isDigit_18 (by decide) (Nat.le_of_eq (Nat.zero_add _)) (Nat.le_of_ble_eq_true rfl) ?_
    refine A_if_eq (tgt := 28) dX2_isDigit_21 (by decide) (fun c2 => ?_) (fun c2 => ?_)
    · skip
      have c2 := bi_eq0.mp c2
      refine A_iconst (v := 0) dX2_isDigit_28 (by decide) ?_
      exact A_zret dX2_isDigit_29 rfl (rfl) ⟨by rw [bi_f (fun h => c2 h.2)], rfl⟩
    · skip
      have c2 := bi_ne0.mp c2
      refine A_iconst (v := 1) dX2_isDigit_24 (by decide) ?_
      refine A_goto (tgt := 29) dX2_isDigit_25 (by decide) ?_
      exact A_zret dX2_isDigit_29 rfl (rfl) ⟨by rw [bi_t ⟨hk, c2⟩], rfl⟩
theorem c_goes {l : Launch} {g : GC} (b9 : Nat) (ms : MM) (σ0 : AH) (n : Nat) (p : PT) (B : AF) (h1 : p.2.1 ≤ n) (h2 : n ≤ 500) : AMet l g mX2_goes 3 0 [.ref b9] (mc b9 (⟨m_thr ms, m_is ms, m_um ms, m_bd ms, p.2.2.2.2.2.1, p.2.2.2.2.2.2, nI n, nI p.2.1, nI p.2.2.1, p.2.2.2.1, p.2.2.2.2.1, m_ps ms, p.1, m_asd ms, m_und ms, m_sav ms, m_isv ms, B, m_grp ms, m_pag ms⟩ : MM) σ0) (A_eq (none) (mc b9 (⟨m_thr ms, m_is ms, m_um ms, m_bd ms, (goesS B n p).2.2.2.2.2.1, (goesS B n p).2.2.2.2.2.2, nI n, nI (goesS B n p).2.1, nI (goesS B n p).2.2.1, (goesS B n p).2.2.2.1, (goesS B n p).2.2.2.2.1, m_ps ms, (goesS B n p).1, m_asd ms, m_und ms, m_sav ms, m_isv ms, B, m_grp ms, m_pag ms⟩ : MM) σ0)) A_no := by
  refine A_of rfl (by decide) (Nat.le_of_ble_eq_true rfl) (L0 := [(0, .ref b9)]) rfl ?_
  obtain ⟨S, hS⟩ : ∃ S, S = spN B n p := ⟨_, rfl⟩
  have hS1 : p.2.1 ≤ S := by rw [hS]; exact spN_ge _ _ _
  have hS2 : S ≤ n := by rw [hS]; exact spN_le h1
  have hS3 : ∀ k, p.2.1 ≤ k → k < S → spP B n k := fun k a b => spN_in a (by rw [← hS]; exact b)
  have hS4 : ¬ spP B n S := by rw [hS]; exact spN_out _ _ _
  obtain ⟨E, hE⟩ : ∃ E, E = leN B n S := ⟨_, rfl⟩
  have hE1 : S ≤ E := by rw [hE]; exact leN_ge _ _ _
  have hE3 : ∀ k, S ≤ k → k < E → leP B n k := fun k a b => leN_in a (by rw [← hE]; exact b)
  have hE4 : ¬ leP B n E := by rw [hE]; exact leN_out _ _ _
  have hE5 : E ≤ n := by rw [hE]; exact leN_le hS2
  have hE2 : S + (E - S) = E := by omega
  obtain ⟨D, hD⟩ : ∃ D, D = diN B n S := ⟨_, rfl⟩
  have hD1 : S ≤ D := by rw [hD]; exact diN_ge _ _ _
  have hD3 : ∀ k, S ≤ k → k < D → diP B n k := fun k a b => diN_in a (by rw [← hD]; exact b)
  have hD4 : ¬ diP B n D := by rw [hD]; exact diN_out _ _ _
  have hD5 : D ≤ n := by rw [hD]; exact diN_le hS2
  have hD2 : S + (D - S) = D := by omega
  refine A_aload_n (i := 0) dX2_goes_0 rfl rfl ?_
  refine M_get 10 (v := .int p.2.2.2.2.2.1) (Nat.le_of_ble_eq_true rfl) q2239 rfl dX2_goes_1 ?_
  refine A_if_le (tgt := 8) dX2_goes_4 (by decide) (fun c1 => ?_) (fun c1 => ?_)
  · skip
    refine A_sub (L' := [(0, .ref b9)]) ⟨rfl, trivial⟩ ?_
    refine A_for (S - p.2.1) (fun i8 => 0) (fun i8 => [(0, .ref b9)]) (fun i8 => mc b9 (⟨m_thr ms, m_is ms, m_um ms, m_bd ms, p.2.2.2.2.2.1, p.2.2.2.2.2.2, nI n, nI (p.2.1 + i8), nI p.2.2.1, p.2.2.2.1, p.2.2.2.2.1, m_ps ms, p.1, m_asd ms, m_und ms, m_sav ms, m_isv ms, B, m_grp ms, m_pag ms⟩ : MM) σ0) (fun i8 => True) trivial (fun i8 hi8 hI8 ih8 => ?_) (fun hI8 => ?_)
    · skip
      refine A_aload_n (i := 0) dX2_goes_8 rfl rfl ?_
      have hsp := hS3 (p.2.1 + i8) (by omega) (by omega)
      refine M_get 13 (v := .int (nI (p.2.1 + i8))) (Nat.le_of_ble_eq_true rfl) q2242 rfl dX2_goes_9 ?_
      refine A_aload_n (i := 0) dX2_goes_12 rfl rfl ?_
      refine M_get 12 (v := .int (nI n)) (Nat.le_of_ble_eq_true rfl) q2241 rfl dX2_goes_13 ?_
      refine A_icmp_ge_f (tgt := 46) dX2_goes_16 (by decide) (nI_ge hsp.1 (by omega)) ?_
      refine A_aload_n (i := 0) dX2_goes_19 rfl rfl ?_
      refine M_get 8 (v := .ref (b9 + 6)) (Nat.le_of_ble_eq_true rfl) q2237 rfl dX2_goes_20 ?_
      refine A_aload_n (i := 0) dX2_goes_23 rfl rfl ?_
      refine M_get 13 (v := .int (nI (p.2.1 + i8))) (Nat.le_of_ble_eq_true rfl) q2242 rfl dX2_goes_24 ?_
      refine M_ald6 (n := p.2.1 + i8) (v := B (p.2.1 + i8)) (rfl) (by omega) (rfl) dX2_goes_27 ?_
      refine A_bipush (v := 32) dX2_goes_28 (by decide) ?_
      refine A_icmp_ne_f (tgt := 46) dX2_goes_30 (by decide) (hsp.2) ?_
      refine A_aload_n (i := 0) dX2_goes_33 rfl rfl ?_
      refine A_dup dX2_goes_34 rfl ?_
      refine M_get 13 (v := .int (nI (p.2.1 + i8))) (Nat.le_of_ble_eq_true rfl) q2242 rfl dX2_goes_35 ?_
      refine A_iconst (v := 1) dX2_goes_38 (by decide) ?_
      refine A_iadd dX2_goes_39 ?_
      refine A_int (w := nI ((p.2.1 + i8) + 1)) (nI_add (p.2.1 + i8) 1) ?_
      refine M_putT_cu q2242 rfl dX2_goes_40 ?_
      refine A_goto (tgt := 8) dX2_goes_43 (by decide) ?_
      refine A_sub (L' := [(0, .ref b9)]) ⟨rfl, trivial⟩ ?_
      exact ih8 trivial
    · skip
      refine A_st (σ' := mc b9 (⟨m_thr ms, m_is ms, m_um ms, m_bd ms, p.2.2.2.2.2.1, p.2.2.2.2.2.2, nI n, nI S, nI p.2.2.1, p.2.2.2.1, p.2.2.2.2.1, m_ps ms, p.1, m_asd ms, m_und ms, m_sav ms, m_isv ms, B, m_grp ms, m_pag ms⟩ : MM) σ0) (by rw [show p.2.1 + (S - p.2.1) = S by omega]) ?_
      refine A_aload_n (i := 0) dX2_goes_8 rfl rfl ?_
      refine A_join (pc' := 46) (L' := [(0, .ref b9)]) (st' := []) (σ' := mc b9 (⟨m_thr ms, m_is ms, m_um ms, m_bd ms, p.2.2.2.2.2.1, p.2.2.2.2.2.2, nI n, nI S, nI p.2.2.1, p.2.2.2.1, p.2.2.2.2.1, m_ps ms, p.1, m_asd ms, m_und ms, m_sav ms, m_isv ms, B, m_grp ms, m_pag ms⟩ : MM) σ0) ?_ (fun j46 => ?_)
      · skip
        refine A_aload_n (i := 0) dX2_goes_46 rfl rfl ?_
        refine A_aload_n (i := 0) dX2_goes_47 rfl rfl ?_
        refine M_get 13 (v := .int (nI S)) (Nat.le_of_ble_eq_true rfl) q2242 rfl dX2_goes_48 ?_
        refine M_putT_st q2243 rfl dX2_goes_51 ?_
        refine A_aload_n (i := 0) dX2_goes_54 rfl rfl ?_
        refine A_aload_n (i := 0) dX2_goes_55 rfl rfl ?_
        refine M_get 13 (v := .int (nI S)) (Nat.le_of_ble_eq_true rfl) q2242 rfl dX2_goes_56 ?_
        refine A_aload_n (i := 0) dX2_goes_59 rfl rfl ?_
        refine M_get 12 (v := .int (nI n)) (Nat.le_of_ble_eq_true rfl) q2241 rfl dX2_goes_60 ?_
        refine A_icmp_ne (tgt := 70) dX2_goes_63 (by decide) (fun c2 => ?_) (fun c2 => ?_)
        · skip
          refine A_iconst (v := 0) dX2_goes_70 (by decide) ?_
          refine M_putT_tk q2244 rfl dX2_goes_71 ?_
          refine A_aload_n (i := 0) dX2_goes_74 rfl rfl ?_
          refine M_get 15 (v := .int 0) (Nat.le_of_ble_eq_true rfl) q2244 rfl dX2_goes_75 ?_
          refine A_iconst (v := 1) dX2_goes_78 (by decide) ?_
          refine A_icmp_ne_t (tgt := 83) dX2_goes_79 (by decide) (by decide) ?_
          refine A_aload_n (i := 0) dX2_goes_83 rfl rfl ?_
          refine A_aload_n (i := 0) dX2_goes_84 rfl rfl ?_
          refine M_get 13 (v := .int (nI S)) (Nat.le_of_ble_eq_true rfl) q2242 rfl dX2_goes_85 ?_
          refine A_callV1E (v := some (.int (bi (leP B n S)))) (τ := mc b9 (⟨m_thr ms, m_is ms, m_um ms, m_bd ms, p.2.2.2.2.2.1, p.2.2.2.2.2.2, nI n, nI S, nI S, 0, p.2.2.2.2.1, m_ps ms, p.1, m_asd ms, m_und ms, m_sav ms, m_isv ms, B, m_grp ms, m_pag ms⟩ : MM) σ0) (c_isLetter b9 (⟨m_thr ms, m_is ms, m_um ms, m_bd ms, p.2.2.2.2.2.1, p.2.2.2.2.2.2, nI n, nI S, nI S, 0, p.2.2.2.2.1, m_ps ms, p.1, m_asd ms, m_und ms, m_sav ms, m_isv ms, B, m_grp ms, m_pag ms⟩ : MM) σ0 n B S (by first | assumption | omega) (by first | assumption | omega)) tX2_isLetter q2341 (mc_0 _ _ _) rfl rfl dX2_goes_88 (by decide) (Nat.le_of_eq (Nat.zero_add _)) (Nat.le_of_ble_eq_true rfl) ?_
          refine A_if_eq (tgt := 142) dX2_goes_91 (by decide) (fun c3 => ?_) (fun c3 => ?_)
          · skip
            have c3 := bi_eq0.mp c3
            refine A_aload_n (i := 0) dX2_goes_142 rfl rfl ?_
            refine A_aload_n (i := 0) dX2_goes_143 rfl rfl ?_
            refine M_get 13 (v := .int (nI S)) (Nat.le_of_ble_eq_true rfl) q2242 rfl dX2_goes_144 ?_
            refine A_callV1E (v := some (.int (bi (diP B n S)))) (τ := mc b9 (⟨m_thr ms, m_is ms, m_um ms, m_bd ms, p.2.2.2.2.2.1, p.2.2.2.2.2.2, nI n, nI S, nI S, 0, p.2.2.2.2.1, m_ps ms, p.1, m_asd ms, m_und ms, m_sav ms, m_isv ms, B, m_grp ms, m_pag ms⟩ : MM) σ0) (c_isDigit b9 (⟨m_thr ms, m_is ms, m_um ms, m_bd ms, p.2.2.2.2.2.1, p.2.2.2.2.2.2, nI n, nI S, nI S, 0, p.2.2.2.2.1, m_ps ms, p.1, m_asd ms, m_und ms, m_sav ms, m_isv ms, B, m_grp ms, m_pag ms⟩ : MM) σ0 n B S (by first | assumption | omega) (by first | assumption | omega)) tX2_isDigit q2345 (mc_0 _ _ _) rfl rfl dX2_goes_147 (by decide) (Nat.le_of_eq (Nat.zero_add _)) (Nat.le_of_ble_eq_true rfl) ?_
            refine A_if_eq (tgt := 242) dX2_goes_150 (by decide) (fun c4 => ?_) (fun c4 => ?_)
            · skip
              have c4 := bi_eq0.mp c4
              have hSn : S < n := by have e9 : ¬ S = n := fun h => c2 (by rw [h]); omega
              refine A_aload_n (i := 0) dX2_goes_242 rfl rfl ?_
              refine A_aload_n (i := 0) dX2_goes_243 rfl rfl ?_
              refine M_get 8 (v := .ref (b9 + 6)) (Nat.le_of_ble_eq_true rfl) q2237 rfl dX2_goes_244 ?_
              refine A_aload_n (i := 0) dX2_goes_247 rfl rfl ?_
              refine M_get 13 (v := .int (nI S)) (Nat.le_of_ble_eq_true rfl) q2242 rfl dX2_goes_248 ?_
              refine M_ald6 (n := S) (v := B S) (rfl) (by omega) (rfl) dX2_goes_251 ?_
              refine A_bipush (v := 59) dX2_goes_252 (by decide) ?_
              refine A_icmp_ne (tgt := 261) dX2_goes_254 (by decide) (fun c5 => ?_) (fun c5 => ?_)
              · skip
                refine A_iconst (v := 0) dX2_goes_261 (by decide) ?_
                refine M_putT_tk q2244 rfl dX2_goes_262 ?_
                refine A_aload_n (i := 0) dX2_goes_265 rfl rfl ?_
                refine A_dup dX2_goes_266 rfl ?_
                refine M_get 13 (v := .int (nI S)) (Nat.le_of_ble_eq_true rfl) q2242 rfl dX2_goes_267 ?_
                refine A_iconst (v := 1) dX2_goes_270 (by decide) ?_
                refine A_iadd dX2_goes_271 ?_
                refine A_int (w := nI (S + 1)) (nI_add S 1) ?_
                refine M_putT_cu q2242 rfl dX2_goes_272 ?_
                exact A_vret dX2_goes_275 rfl ⟨rfl, by rw [goes_s c1 hS (fun h => c2 (by rw [h])) c3 c4 (if_neg c5)]⟩
              · skip
                refine A_iconst (v := 4) dX2_goes_257 (by decide) ?_
                refine A_goto (tgt := 262) dX2_goes_258 (by decide) ?_
                refine M_putT_tk q2244 rfl dX2_goes_262 ?_
                refine A_aload_n (i := 0) dX2_goes_265 rfl rfl ?_
                refine A_dup dX2_goes_266 rfl ?_
                refine M_get 13 (v := .int (nI S)) (Nat.le_of_ble_eq_true rfl) q2242 rfl dX2_goes_267 ?_
                refine A_iconst (v := 1) dX2_goes_270 (by decide) ?_
                refine A_iadd dX2_goes_271 ?_
                refine A_int (w := nI (S + 1)) (nI_add S 1) ?_
                refine M_putT_cu q2242 rfl dX2_goes_272 ?_
                exact A_vret dX2_goes_275 rfl ⟨rfl, by rw [goes_s c1 hS (fun h => c2 (by rw [h])) c3 c4 (if_pos c5)]⟩
            · skip
              have c4 := bi_ne0.mp c4
              refine A_aload_n (i := 0) dX2_goes_153 rfl rfl ?_
              refine A_iconst (v := 0) dX2_goes_154 (by decide) ?_
              refine M_putT_to q2245 rfl dX2_goes_155 ?_
              refine A_sub (L' := [(0, .ref b9)]) ⟨rfl, trivial⟩ ?_
              refine A_for (D - S) (fun i158 => 0) (fun i158 => [(0, .ref b9)]) (fun i158 => mc b9 (⟨m_thr ms, m_is ms, m_um ms, m_bd ms, p.2.2.2.2.2.1, p.2.2.2.2.2.2, nI n, nI (S + i158), nI S, 0, tv B S i158, m_ps ms, p.1, m_asd ms, m_und ms, m_sav ms, m_isv ms, B, m_grp ms, m_pag ms⟩ : MM) σ0) (fun i158 => True) trivial (fun i158 hi158 hI158 ih158 => ?_) (fun hI158 => ?_)
              · skip
                refine A_aload_n (i := 0) dX2_goes_158 rfl rfl ?_
                refine A_aload_n (i := 0) dX2_goes_159 rfl rfl ?_
                refine M_get 13 (v := .int (nI (S + i158))) (Nat.le_of_ble_eq_true rfl) q2242 rfl dX2_goes_160 ?_
                refine A_callV1E (v := some (.int (bi (diP B n (S + i158))))) (τ := mc b9 (⟨m_thr ms, m_is ms, m_um ms, m_bd ms, p.2.2.2.2.2.1, p.2.2.2.2.2.2, nI n, nI (S + i158), nI S, 0, tv B S i158, m_ps ms, p.1, m_asd ms, m_und ms, m_sav ms, m_isv ms, B, m_grp ms, m_pag ms⟩ : MM) σ0) (c_isDigit b9 (⟨m_thr ms, m_is ms, m_um ms, m_bd ms, p.2.2.2.2.2.1, p.2.2.2.2.2.2, nI n, nI (S + i158), nI S, 0, tv B S i158, m_ps ms, p.1, m_asd ms, m_und ms, m_sav ms, m_isv ms, B, m_grp ms, m_pag ms⟩ : MM) σ0 n B (S + i158) (by omega) (by first | assumption | omega)) tX2_isDigit q2345 (mc_0 _ _ _) rfl rfl dX2_goes_163 (by decide) (Nat.le_of_eq (Nat.zero_add _)) (Nat.le_of_ble_eq_true rfl) ?_
                refine A_if_eq_f (tgt := 219) dX2_goes_166 (by decide) (bi_ne0.mpr (hD3 (S + i158) (by omega) (by omega))) ?_
                have hdi := (hD3 (S + i158) (by omega) (by omega)).1
                refine A_aload_n (i := 0) dX2_goes_169 rfl rfl ?_
                refine M_get 13 (v := .int (nI (S + i158))) (Nat.le_of_ble_eq_true rfl) q2242 rfl dX2_goes_170 ?_
                refine A_aload_n (i := 0) dX2_goes_173 rfl rfl ?_
                refine M_get 14 (v := .int (nI S)) (Nat.le_of_ble_eq_true rfl) q2243 rfl dX2_goes_174 ?_
                refine A_isub dX2_goes_177 ?_
                refine A_int (w := nI i158) (nI_subl _ _) ?_
                refine A_iconst (v := 2) dX2_goes_178 (by decide) ?_
                refine A_icmp_ge (tgt := 206) dX2_goes_179 (by decide) (fun c6 => ?_) (fun c6 => ?_)
                · skip
                  refine A_aload_n (i := 0) dX2_goes_206 rfl rfl ?_
                  refine A_dup dX2_goes_207 rfl ?_
                  refine M_get 13 (v := .int (nI (S + i158))) (Nat.le_of_ble_eq_true rfl) q2242 rfl dX2_goes_208 ?_
                  refine A_iconst (v := 1) dX2_goes_211 (by decide) ?_
                  refine A_iadd dX2_goes_212 ?_
                  refine A_int (w := nI ((S + i158) + 1)) (nI_add (S + i158) 1) ?_
                  refine M_putT_cu q2242 rfl dX2_goes_213 ?_
                  refine A_goto (tgt := 158) dX2_goes_216 (by decide) ?_
                  refine A_sub (L' := [(0, .ref b9)]) ⟨rfl, trivial⟩ ?_
                  refine A_st (σ' := mc b9 (⟨m_thr ms, m_is ms, m_um ms, m_bd ms, p.2.2.2.2.2.1, p.2.2.2.2.2.2, nI n, nI ((S + i158) + 1), nI S, 0, tv B S (i158 + 1), m_ps ms, p.1, m_asd ms, m_und ms, m_sav ms, m_isv ms, B, m_grp ms, m_pag ms⟩ : MM) σ0) (by rw [tv_s, if_neg (fun h => absurd c6 (nI_ge (b := 2) h (by omega)))]) ?_
                  exact ih158 trivial
                · skip
                  refine A_aload_n (i := 0) dX2_goes_182 rfl rfl ?_
                  refine A_bipush (v := 10) dX2_goes_183 (by decide) ?_
                  refine A_aload_n (i := 0) dX2_goes_185 rfl rfl ?_
                  refine M_get 16 (v := .int (tv B S i158)) (Nat.le_of_ble_eq_true rfl) q2245 rfl dX2_goes_186 ?_
                  refine A_imul dX2_goes_189 ?_
                  refine A_aload_n (i := 0) dX2_goes_190 rfl rfl ?_
                  refine M_get 8 (v := .ref (b9 + 6)) (Nat.le_of_ble_eq_true rfl) q2237 rfl dX2_goes_191 ?_
                  refine A_aload_n (i := 0) dX2_goes_194 rfl rfl ?_
                  refine M_get 13 (v := .int (nI (S + i158))) (Nat.le_of_ble_eq_true rfl) q2242 rfl dX2_goes_195 ?_
                  refine M_ald6 (n := S + i158) (v := B (S + i158)) (rfl) (by omega) (rfl) dX2_goes_198 ?_
                  refine A_iadd dX2_goes_199 ?_
                  refine A_bipush (v := 48) dX2_goes_200 (by decide) ?_
                  refine A_isub dX2_goes_202 ?_
                  refine M_putT_to q2245 rfl dX2_goes_203 ?_
                  refine A_aload_n (i := 0) dX2_goes_206 rfl rfl ?_
                  refine A_dup dX2_goes_207 rfl ?_
                  refine M_get 13 (v := .int (nI (S + i158))) (Nat.le_of_ble_eq_true rfl) q2242 rfl dX2_goes_208 ?_
                  refine A_iconst (v := 1) dX2_goes_211 (by decide) ?_
                  refine A_iadd dX2_goes_212 ?_
                  refine A_int (w := nI ((S + i158) + 1)) (nI_add (S + i158) 1) ?_
                  refine M_putT_cu q2242 rfl dX2_goes_213 ?_
                  refine A_goto (tgt := 158) dX2_goes_216 (by decide) ?_
                  refine A_sub (L' := [(0, .ref b9)]) ⟨rfl, trivial⟩ ?_
                  refine A_st (σ' := mc b9 (⟨m_thr ms, m_is ms, m_um ms, m_bd ms, p.2.2.2.2.2.1, p.2.2.2.2.2.2, nI n, nI ((S + i158) + 1), nI S, 0, tv B S (i158 + 1), m_ps ms, p.1, m_asd ms, m_und ms, m_sav ms, m_isv ms, B, m_grp ms, m_pag ms⟩ : MM) σ0) (by rw [tv_s, if_pos (Nat.lt_of_not_le (fun h => c6 (nI_le (a := 2) h (by omega))))]) ?_
                  exact ih158 trivial
              · skip
                refine A_aload_n (i := 0) dX2_goes_158 rfl rfl ?_
                refine A_aload_n (i := 0) dX2_goes_159 rfl rfl ?_
                refine M_get 13 (v := .int (nI (S + (D - S)))) (Nat.le_of_ble_eq_true rfl) q2242 rfl dX2_goes_160 ?_
                refine A_callV1E (v := some (.int (bi (diP B n (S + (D - S)))))) (τ := mc b9 (⟨m_thr ms, m_is ms, m_um ms, m_bd ms, p.2.2.2.2.2.1, p.2.2.2.2.2.2, nI n, nI (S + (D - S)), nI S, 0, tv B S (D - S), m_ps ms, p.1, m_asd ms, m_und ms, m_sav ms, m_isv ms, B, m_grp ms, m_pag ms⟩ : MM) σ0) (c_isDigit b9 (⟨m_thr ms, m_is ms, m_um ms, m_bd ms, p.2.2.2.2.2.1, p.2.2.2.2.2.2, nI n, nI (S + (D - S)), nI S, 0, tv B S (D - S), m_ps ms, p.1, m_asd ms, m_und ms, m_sav ms, m_isv ms, B, m_grp ms, m_pag ms⟩ : MM) σ0 n B (S + (D - S)) (by omega) (by first | assumption | omega)) tX2_isDigit q2345 (mc_0 _ _ _) rfl rfl dX2_goes_163 (by decide) (Nat.le_of_eq (Nat.zero_add _)) (Nat.le_of_ble_eq_true rfl) ?_
                refine A_if_eq_t (tgt := 219) dX2_goes_166 (by decide) (bi_eq0.mpr (by rw [hD2]; exact hD4)) ?_
                refine A_aload_n (i := 0) dX2_goes_219 rfl rfl ?_
                refine A_aload_n (i := 0) dX2_goes_220 rfl rfl ?_
                refine M_get 13 (v := .int (nI (S + (D - S)))) (Nat.le_of_ble_eq_true rfl) q2242 rfl dX2_goes_221 ?_
                refine A_aload_n (i := 0) dX2_goes_224 rfl rfl ?_
                refine M_get 14 (v := .int (nI S)) (Nat.le_of_ble_eq_true rfl) q2243 rfl dX2_goes_225 ?_
                refine A_isub dX2_goes_228 ?_
                refine A_int (w := nI (D - S)) (nI_subl _ _) ?_
                refine A_iconst (v := 2) dX2_goes_229 (by decide) ?_
                refine A_icmp_gt (tgt := 237) dX2_goes_230 (by decide) (fun c7 => ?_) (fun c7 => ?_)
                · skip
                  refine A_iconst (v := 0) dX2_goes_237 (by decide) ?_
                  refine M_putT_tk q2244 rfl dX2_goes_238 ?_
                  exact A_vret dX2_goes_241 rfl ⟨rfl, by rw [goes_d c1 hS (fun h => c2 (by rw [h])) c3 c4 hD (if_neg (fun h => absurd c7 (nI_nlt (a := 2) (by omega) (by omega)))), hD2]⟩
                · skip
                  refine A_iconst (v := 3) dX2_goes_233 (by decide) ?_
                  refine A_goto (tgt := 238) dX2_goes_234 (by decide) ?_
                  refine M_putT_tk q2244 rfl dX2_goes_238 ?_
                  exact A_vret dX2_goes_241 rfl ⟨rfl, by rw [goes_d c1 hS (fun h => c2 (by rw [h])) c3 c4 hD (if_pos (Nat.le_of_not_lt (fun h => c7 (nI_lt (a := 2) (by omega) (by omega))))), hD2]⟩
          · skip
            have c3 := bi_ne0.mp c3
            refine A_sub (L' := [(0, .ref b9)]) ⟨rfl, trivial⟩ ?_
            refine A_for (E - S) (fun i94 => 0) (fun i94 => [(0, .ref b9)]) (fun i94 => mc b9 (⟨m_thr ms, m_is ms, m_um ms, m_bd ms, p.2.2.2.2.2.1, p.2.2.2.2.2.2, nI n, nI (S + i94), nI S, 0, p.2.2.2.2.1, m_ps ms, p.1, m_asd ms, m_und ms, m_sav ms, m_isv ms, B, m_grp ms, m_pag ms⟩ : MM) σ0) (fun i94 => True) trivial (fun i94 hi94 hI94 ih94 => ?_) (fun hI94 => ?_)
            · skip
              refine A_aload_n (i := 0) dX2_goes_94 rfl rfl ?_
              refine A_aload_n (i := 0) dX2_goes_95 rfl rfl ?_
              refine M_get 13 (v := .int (nI (S + i94))) (Nat.le_of_ble_eq_true rfl) q2242 rfl dX2_goes_96 ?_
              refine A_callV1E (v := some (.int (bi (leP B n (S + i94))))) (τ := mc b9 (⟨m_thr ms, m_is ms, m_um ms, m_bd ms, p.2.2.2.2.2.1, p.2.2.2.2.2.2, nI n, nI (S + i94), nI S, 0, p.2.2.2.2.1, m_ps ms, p.1, m_asd ms, m_und ms, m_sav ms, m_isv ms, B, m_grp ms, m_pag ms⟩ : MM) σ0) (c_isLetter b9 (⟨m_thr ms, m_is ms, m_um ms, m_bd ms, p.2.2.2.2.2.1, p.2.2.2.2.2.2, nI n, nI (S + i94), nI S, 0, p.2.2.2.2.1, m_ps ms, p.1, m_asd ms, m_und ms, m_sav ms, m_isv ms, B, m_grp ms, m_pag ms⟩ : MM) σ0 n B (S + i94) (by omega) (by first | assumption | omega)) tX2_isLetter q2341 (mc_0 _ _ _) rfl rfl dX2_goes_99 (by decide) (Nat.le_of_eq (Nat.zero_add _)) (Nat.le_of_ble_eq_true rfl) ?_
              refine A_if_eq_f (tgt := 118) dX2_goes_102 (by decide) (bi_ne0.mpr (hE3 (S + i94) (by omega) (by omega))) ?_
              refine A_aload_n (i := 0) dX2_goes_105 rfl rfl ?_
              refine A_dup dX2_goes_106 rfl ?_
              refine M_get 13 (v := .int (nI (S + i94))) (Nat.le_of_ble_eq_true rfl) q2242 rfl dX2_goes_107 ?_
              refine A_iconst (v := 1) dX2_goes_110 (by decide) ?_
              refine A_iadd dX2_goes_111 ?_
              refine A_int (w := nI ((S + i94) + 1)) (nI_add (S + i94) 1) ?_
              refine M_putT_cu q2242 rfl dX2_goes_112 ?_
              refine A_goto (tgt := 94) dX2_goes_115 (by decide) ?_
              refine A_sub (L' := [(0, .ref b9)]) ⟨rfl, trivial⟩ ?_
              exact ih94 trivial
            · skip
              refine A_aload_n (i := 0) dX2_goes_94 rfl rfl ?_
              refine A_aload_n (i := 0) dX2_goes_95 rfl rfl ?_
              refine M_get 13 (v := .int (nI (S + (E - S)))) (Nat.le_of_ble_eq_true rfl) q2242 rfl dX2_goes_96 ?_
              refine A_callV1E (v := some (.int (bi (leP B n (S + (E - S)))))) (τ := mc b9 (⟨m_thr ms, m_is ms, m_um ms, m_bd ms, p.2.2.2.2.2.1, p.2.2.2.2.2.2, nI n, nI (S + (E - S)), nI S, 0, p.2.2.2.2.1, m_ps ms, p.1, m_asd ms, m_und ms, m_sav ms, m_isv ms, B, m_grp ms, m_pag ms⟩ : MM) σ0) (c_isLetter b9 (⟨m_thr ms, m_is ms, m_um ms, m_bd ms, p.2.2.2.2.2.1, p.2.2.2.2.2.2, nI n, nI (S + (E - S)), nI S, 0, p.2.2.2.2.1, m_ps ms, p.1, m_asd ms, m_und ms, m_sav ms, m_isv ms, B, m_grp ms, m_pag ms⟩ : MM) σ0 n B (S + (E - S)) (by omega) (by first | assumption | omega)) tX2_isLetter q2341 (mc_0 _ _ _) rfl rfl dX2_goes_99 (by decide) (Nat.le_of_eq (Nat.zero_add _)) (Nat.le_of_ble_eq_true rfl) ?_
              refine A_if_eq_t (tgt := 118) dX2_goes_102 (by decide) (bi_eq0.mpr (by rw [hE2]; exact hE4)) ?_
              refine A_aload_n (i := 0) dX2_goes_118 rfl rfl ?_
              refine A_aload_n (i := 0) dX2_goes_119 rfl rfl ?_
              refine M_get 13 (v := .int (nI (S + (E - S)))) (Nat.le_of_ble_eq_true rfl) q2242 rfl dX2_goes_120 ?_
              refine A_aload_n (i := 0) dX2_goes_123 rfl rfl ?_
              refine M_get 14 (v := .int (nI S)) (Nat.le_of_ble_eq_true rfl) q2243 rfl dX2_goes_124 ?_
              refine A_isub dX2_goes_127 ?_
              refine A_int (w := nI (E - S)) (nI_subl _ _) ?_
              refine A_bipush (v := 6) dX2_goes_128 (by decide) ?_
              refine A_icmp_gt (tgt := 137) dX2_goes_130 (by decide) (fun c8 => ?_) (fun c8 => ?_)
              · skip
                refine A_iconst (v := 0) dX2_goes_137 (by decide) ?_
                refine M_putT_tk q2244 rfl dX2_goes_138 ?_
                exact A_vret dX2_goes_141 rfl ⟨rfl, by rw [goes_l c1 hS (fun h => c2 (by rw [h])) c3 hE (if_neg (fun h => absurd c8 (nI_nlt (a := 6) (by omega) (by omega)))), hE2]⟩
              · skip
                refine A_iconst (v := 2) dX2_goes_133 (by decide) ?_
                refine A_goto (tgt := 138) dX2_goes_134 (by decide) ?_
                refine M_putT_tk q2244 rfl dX2_goes_138 ?_
                exact A_vret dX2_goes_141 rfl ⟨rfl, by rw [goes_l c1 hS (fun h => c2 (by rw [h])) c3 hE (if_pos (Nat.le_of_not_lt (fun h => c8 (nI_lt (a := 6) (by omega) (by omega))))), hE2]⟩
        · skip
          refine A_iconst (v := 1) dX2_goes_66 (by decide) ?_
          refine A_goto (tgt := 71) dX2_goes_67 (by decide) ?_
          refine M_putT_tk q2244 rfl dX2_goes_71 ?_
          refine A_aload_n (i := 0) dX2_goes_74 rfl rfl ?_
          refine M_get 15 (v := .int 1) (Nat.le_of_ble_eq_true rfl) q2244 rfl dX2_goes_75 ?_
          refine A_iconst (v := 1) dX2_goes_78 (by decide) ?_
          refine A_icmp_ne_f (tgt := 83) dX2_goes_79 (by decide) (by decide) ?_
          exact A_vret dX2_goes_82 rfl ⟨rfl, by rw [goes_e c1 hS ((nI_eqi (by omega) (by omega)).mp c2)]⟩
      · skip
        refine M_get 13 (v := .int (nI S)) (Nat.le_of_ble_eq_true rfl) q2242 rfl dX2_goes_9 ?_
        refine A_aload_n (i := 0) dX2_goes_12 rfl rfl ?_
        refine M_get 12 (v := .int (nI n)) (Nat.le_of_ble_eq_true rfl) q2241 rfl dX2_goes_13 ?_
        refine A_icmp_ge (tgt := 46) dX2_goes_16 (by decide) (fun c9 => ?_) (fun c9 => ?_)
        · skip
          refine A_sub (L' := [(0, .ref b9)]) ⟨rfl, trivial⟩ ?_
          exact j46
        · skip
          have hSn : S < n := Nat.lt_of_not_le (fun h => c9 (nI_le h (by omega)))
          refine A_aload_n (i := 0) dX2_goes_19 rfl rfl ?_
          refine M_get 8 (v := .ref (b9 + 6)) (Nat.le_of_ble_eq_true rfl) q2237 rfl dX2_goes_20 ?_
          refine A_aload_n (i := 0) dX2_goes_23 rfl rfl ?_
          refine M_get 13 (v := .int (nI S)) (Nat.le_of_ble_eq_true rfl) q2242 rfl dX2_goes_24 ?_
          refine M_ald6 (n := S) (v := B S) (rfl) (by omega) (rfl) dX2_goes_27 ?_
          refine A_bipush (v := 32) dX2_goes_28 (by decide) ?_
          refine A_icmp_ne (tgt := 46) dX2_goes_30 (by decide) (fun c10 => ?_) (fun c10 => ?_)
          · skip
            refine A_sub (L' := [(0, .ref b9)]) ⟨rfl, trivial⟩ ?_
            exact j46
          · skip
            exact absurd ⟨Nat.lt_of_not_le (fun h => c9 (nI_le h (by omega))), c10⟩ hS4
  · skip
    exact A_vret dX2_goes_7 rfl ⟨rfl, by rw [goes_x c1]⟩
