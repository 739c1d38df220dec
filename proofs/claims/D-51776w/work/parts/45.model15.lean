/-! THE MODEL 15: words, the text, load -/
theorem nI_sub {a b : Nat} (h : b ≤ a) : nI a - nI b = nI (a - b) := by
  obtain ⟨k, rfl⟩ := Nat.exists_eq_add_of_le h
  rw [nI_subl, Nat.add_sub_cancel_left]
theorem nhV_18 (p : PT) : inR (nhV 1 8 p) 1 8 := by
  by_cases h : (nhS 1 8 p).2.2.2.2.2.1 ≤ 0
  · exact nhV_in (by decide) p h
  · rw [nhV_x h]; decide
theorem te2_ok {B : AF} {n : Nat} {p : PT} (h : pOK n (te1 B n p)) : pOK n (te2 B n p) := by
  have h1 : pOK n (nuS B n 1 8 (te1 B n p)) := nu_ok h
  unfold te2
  exact pN_ok h1 (wfc_9 h1.2.2.2 (nhV_18 _))
def zrU (N : AF) (i : Nat) : AF := fun q => if q < i then 0 else N q
theorem zrU_s (N : AF) (i : Nat) : va_up (zrU N i) i 0 = zrU N (i + 1) := by
  funext q
  unfold va_up zrU
  by_cases e : q = i
  · rw [if_pos e, if_pos (by omega)]
  · rw [if_neg e]
    by_cases c : q < i
    · rw [if_pos c, if_pos (by omega)]
    · rw [if_neg c, if_neg (by omega)]
theorem zrU_0 (N : AF) : zrU N 0 = N := by
  funext q
  exact if_neg (Nat.not_lt_zero q)
theorem wfc_zr (N : AF) : WFc (zrU N 173) := by
  have e0 : (0 : Int32) = nI (0 : Int32).toNatClampNeg := by decide
  exact ⟨⟨e0, (by decide : (0 : Int32).toNatClampNeg ≤ 6)⟩, ⟨e0, (by decide : (0 : Int32).toNatClampNeg ≤ 4)⟩, ⟨e0, (by decide : (0 : Int32).toNatClampNeg ≤ 3)⟩, ⟨e0, (by decide : (0 : Int32).toNatClampNeg ≤ 8)⟩, e0, (by decide : (0 : Int32).toNatClampNeg ≤ 12)⟩
/-- the parser's state at its end -/
def ldR (B N : AF) (s0 : Nat) (tk to : Int32) (n : Nat) : PT := teS B n (zrU N 173, 0, s0, tk, to, 0, -1)
theorem c_isWord {l : Launch} {g : GC} (b9 : Nat) (ms : MM) (σ0 : AH) (n : Nat) (p : PT) (B : AF) (w : List Int32) (a : Nat) (h1 : pOK n p) (h2 : n ≤ 500) (h3 : o_str g a w) (h4 : okC7 w = true) (h5 : w.length ≤ 100) : AMet l g mX2_isWord 5 0 [.ref b9, .ref a] (mc b9 (⟨m_thr ms, m_is ms, m_um ms, m_bd ms, p.2.2.2.2.2.1, p.2.2.2.2.2.2, nI n, nI p.2.1, nI p.2.2.1, p.2.2.2.1, p.2.2.2.2.1, m_ps ms, p.1, m_asd ms, m_und ms, m_sav ms, m_isv ms, B, m_grp ms, m_pag ms⟩ : MM) σ0) (A_eq (some (.int (bi (wordP B w p)))) (mc b9 (⟨m_thr ms, m_is ms, m_um ms, m_bd ms, p.2.2.2.2.2.1, p.2.2.2.2.2.2, nI n, nI p.2.1, nI p.2.2.1, p.2.2.2.1, p.2.2.2.2.1, m_ps ms, p.1, m_asd ms, m_und ms, m_sav ms, m_isv ms, B, m_grp ms, m_pag ms⟩ : MM) σ0)) A_no := by
  refine A_of rfl (by decide) (Nat.le_of_ble_eq_true rfl) (L0 := [(0, .ref b9), (1, .ref a)]) rfl ?_
  have hs : o_str g a w := h3
  refine A_aload_n (i := 0) dX2_isWord_0 rfl rfl ?_
  refine A_iconst (v := 2) dX2_isWord_1 (by decide) ?_
  refine A_callV1E (v := some (.int (bi (isP 2 p)))) (τ := mc b9 (⟨m_thr ms, m_is ms, m_um ms, m_bd ms, p.2.2.2.2.2.1, p.2.2.2.2.2.2, nI n, nI p.2.1, nI p.2.2.1, p.2.2.2.1, p.2.2.2.2.1, m_ps ms, p.1, m_asd ms, m_und ms, m_sav ms, m_isv ms, B, m_grp ms, m_pag ms⟩ : MM) σ0) (c_is b9 (⟨m_thr ms, m_is ms, m_um ms, m_bd ms, p.2.2.2.2.2.1, p.2.2.2.2.2.2, nI n, nI p.2.1, nI p.2.2.1, p.2.2.2.1, p.2.2.2.2.1, m_ps ms, p.1, m_asd ms, m_und ms, m_sav ms, m_isv ms, B, m_grp ms, m_pag ms⟩ : MM) σ0 p B 2) tX2_is q2354 (mc_0 _ _ _) rfl rfl dX2_isWord_2 (by decide) (Nat.le_of_eq (Nat.zero_add _)) (Nat.le_of_ble_eq_true rfl) ?_
  refine A_if_eq (tgt := 24) dX2_isWord_5 (by decide) (fun c1 => ?_) (fun c1 => ?_)
  · skip
    have c1 := bi_eq0.mp c1
    refine A_iconst (v := 0) dX2_isWord_24 (by decide) ?_
    exact A_zret dX2_isWord_25 rfl (rfl) ⟨by rw [bi_f (fun h => c1 h.1)], rfl⟩
  · skip
    have c1 := bi_ne0.mp c1
    refine A_aload_n (i := 0) dX2_isWord_8 rfl rfl ?_
    refine M_get 13 (v := .int (nI p.2.1)) (Nat.le_of_ble_eq_true rfl) q2242 rfl dX2_isWord_9 ?_
    refine A_aload_n (i := 0) dX2_isWord_12 rfl rfl ?_
    refine M_get 14 (v := .int (nI p.2.2.1)) (Nat.le_of_ble_eq_true rfl) q2243 rfl dX2_isWord_13 ?_
    refine A_isub dX2_isWord_16 ?_
    refine A_int (w := nI (p.2.1 - p.2.2.1)) (nI_sub h1.2.1) ?_
    refine A_aload_n (i := 1) dX2_isWord_17 rfl rfl ?_
    refine A_callVO0E (b' := 0) (v := some (.int (nI w.length))) (τ := mc b9 (⟨m_thr ms, m_is ms, m_um ms, m_bd ms, p.2.2.2.2.2.1, p.2.2.2.2.2.2, nI n, nI p.2.1, nI p.2.2.1, p.2.2.2.1, p.2.2.2.2.1, m_ps ms, p.1, m_asd ms, m_und ms, m_sav ms, m_isv ms, B, m_grp ms, m_pag ms⟩ : MM) σ0) (c_strlen _ a w hs (by omega)) tJ4_length q2358 (hs.elim fun _ h9 => h9.1) dX2_isWord_18 (by decide) (Nat.le_of_ble_eq_true rfl) (Nat.le_of_ble_eq_true rfl) ?_
    refine A_icmp_eq (tgt := 26) dX2_isWord_21 (by decide) (fun c2 => ?_) (fun c2 => ?_)
    · skip
      have hlen : p.2.1 - p.2.2.1 = w.length := (nI_eqi (by have := h1.1; omega) (by omega)).mp c2
      have hcn := h1.1
      refine A_iconst (v := 0) dX2_isWord_26 (by decide) ?_
      refine A_istore_n (i := 2) dX2_isWord_27 rfl (Nat.le_of_ble_eq_true rfl) ?_
      refine A_sub (L' := [(0, .ref b9), (1, .ref a), (2, .int (nI 0))]) ⟨rfl, rfl, rfl, trivial⟩ ?_
      refine A_for w.length (fun i28 => 0) (fun i28 => [(0, .ref b9), (1, .ref a), (2, .int (nI i28))]) (fun i28 => mc b9 (⟨m_thr ms, m_is ms, m_um ms, m_bd ms, p.2.2.2.2.2.1, p.2.2.2.2.2.2, nI n, nI p.2.1, nI p.2.2.1, p.2.2.2.1, p.2.2.2.2.1, m_ps ms, p.1, m_asd ms, m_und ms, m_sav ms, m_isv ms, B, m_grp ms, m_pag ms⟩ : MM) σ0) (fun i28 => ∀ k, k < i28 → B (p.2.2.1 + k) = w.getD k 0) (fun k hk => absurd hk (Nat.not_lt_zero k)) (fun i28 hi28 hI28 ih28 => ?_) (fun hI28 => ?_)
      · skip
        refine A_iload_n (i := 2) dX2_isWord_28 rfl rfl ?_
        refine A_aload_n (i := 1) dX2_isWord_29 rfl rfl ?_
        refine A_callVO0E (b' := 0) (v := some (.int (nI w.length))) (τ := mc b9 (⟨m_thr ms, m_is ms, m_um ms, m_bd ms, p.2.2.2.2.2.1, p.2.2.2.2.2.2, nI n, nI p.2.1, nI p.2.2.1, p.2.2.2.1, p.2.2.2.2.1, m_ps ms, p.1, m_asd ms, m_und ms, m_sav ms, m_isv ms, B, m_grp ms, m_pag ms⟩ : MM) σ0) (c_strlen _ a w hs (by omega)) tJ4_length q2358 (hs.elim fun _ h9 => h9.1) dX2_isWord_30 (by decide) (Nat.le_of_ble_eq_true rfl) (Nat.le_of_ble_eq_true rfl) ?_
        refine A_icmp_ge_f (tgt := 63) dX2_isWord_33 (by decide) (nI_ge hi28 (by omega)) ?_
        refine A_aload_n (i := 0) dX2_isWord_36 rfl rfl ?_
        refine M_get 8 (v := .ref (b9 + 6)) (Nat.le_of_ble_eq_true rfl) q2237 rfl dX2_isWord_37 ?_
        refine A_aload_n (i := 0) dX2_isWord_40 rfl rfl ?_
        refine M_get 14 (v := .int (nI p.2.2.1)) (Nat.le_of_ble_eq_true rfl) q2243 rfl dX2_isWord_41 ?_
        refine A_iload_n (i := 2) dX2_isWord_44 rfl rfl ?_
        refine A_iadd dX2_isWord_45 ?_
        refine A_int (w := nI (p.2.2.1 + i28)) (nI_add p.2.2.1 i28) ?_
        refine M_ald6 (n := p.2.2.1 + i28) (v := B (p.2.2.1 + i28)) (rfl) (by omega) (rfl) dX2_isWord_46 ?_
        refine A_aload_n (i := 1) dX2_isWord_47 rfl rfl ?_
        refine A_iload_n (i := 2) dX2_isWord_48 rfl rfl ?_
        refine A_callVO1E (b' := 0) (v := some (.int (w.getD i28 0))) (τ := mc b9 (⟨m_thr ms, m_is ms, m_um ms, m_bd ms, p.2.2.2.2.2.1, p.2.2.2.2.2.2, nI n, nI p.2.1, nI p.2.2.1, p.2.2.2.1, p.2.2.2.2.1, m_ps ms, p.1, m_asd ms, m_und ms, m_sav ms, m_isv ms, B, m_grp ms, m_pag ms⟩ : MM) σ0) (c_strchar _ a w i28 hs hi28 (by omega) h4) tJ4_charAt q2359 (hs.elim fun _ h9 => h9.1) dX2_isWord_49 (by decide) (Nat.le_of_ble_eq_true rfl) (Nat.le_of_ble_eq_true rfl) ?_
        refine A_icmp_eq (tgt := 57) dX2_isWord_52 (by decide) (fun c3 => ?_) (fun c3 => ?_)
        · skip
          refine A_iinc (v := nI (i28 + 1)) dX2_isWord_57 rfl (nI_inc _ _) (Nat.le_of_ble_eq_true rfl) ?_
          refine A_goto (tgt := 28) dX2_isWord_60 (by decide) ?_
          refine A_sub (L' := [(0, .ref b9), (1, .ref a), (2, .int (nI (i28 + 1)))]) ⟨rfl, rfl, rfl, trivial⟩ ?_
          exact ih28 (fun k hk => (Nat.lt_succ_iff_lt_or_eq.mp hk).elim (hI28 k) (fun e => by subst e; exact c3))
        · skip
          refine A_iconst (v := 0) dX2_isWord_55 (by decide) ?_
          exact A_zret dX2_isWord_56 rfl (rfl) ⟨by rw [bi_f (fun h => c3 (h.2.2 i28 hi28))], rfl⟩
      · skip
        refine A_iload_n (i := 2) dX2_isWord_28 rfl rfl ?_
        refine A_aload_n (i := 1) dX2_isWord_29 rfl rfl ?_
        refine A_callVO0E (b' := 0) (v := some (.int (nI w.length))) (τ := mc b9 (⟨m_thr ms, m_is ms, m_um ms, m_bd ms, p.2.2.2.2.2.1, p.2.2.2.2.2.2, nI n, nI p.2.1, nI p.2.2.1, p.2.2.2.1, p.2.2.2.2.1, m_ps ms, p.1, m_asd ms, m_und ms, m_sav ms, m_isv ms, B, m_grp ms, m_pag ms⟩ : MM) σ0) (c_strlen _ a w hs (by omega)) tJ4_length q2358 (hs.elim fun _ h9 => h9.1) dX2_isWord_30 (by decide) (Nat.le_of_ble_eq_true rfl) (Nat.le_of_ble_eq_true rfl) ?_
        refine A_icmp_ge_t (tgt := 63) dX2_isWord_33 (by decide) (Int32.le_refl _) ?_
        refine A_iconst (v := 1) dX2_isWord_63 (by decide) ?_
        exact A_zret dX2_isWord_64 rfl (rfl) ⟨by rw [bi_t ⟨c1, hlen, fun k hk => hI28 k hk⟩], rfl⟩
    · skip
      refine A_iconst (v := 0) dX2_isWord_24 (by decide) ?_
      exact A_zret dX2_isWord_25 rfl (rfl) ⟨by rw [bi_f (fun h => c2 (by rw [h.2.1]))], rfl⟩
theorem c_readsDeed {l : Launch} {g : GC} (b9 : Nat) (ms : MM) (σ0 : AH) (n : Nat) (p : PT) (B : AF) (h1 : pOK n p) (h2 : n ≤ 500) : AMet l g mX2_readsDeed 8 0 [.ref b9] (mc b9 (⟨m_thr ms, m_is ms, m_um ms, m_bd ms, p.2.2.2.2.2.1, p.2.2.2.2.2.2, nI n, nI p.2.1, nI p.2.2.1, p.2.2.2.1, p.2.2.2.2.1, m_ps ms, p.1, m_asd ms, m_und ms, m_sav ms, m_isv ms, B, m_grp ms, m_pag ms⟩ : MM) σ0) (A_eq (none) (mc b9 (⟨m_thr ms, m_is ms, m_um ms, m_bd ms, (deS B n p).2.2.2.2.2.1, (deS B n p).2.2.2.2.2.2, nI n, nI (deS B n p).2.1, nI (deS B n p).2.2.1, (deS B n p).2.2.2.1, (deS B n p).2.2.2.2.1, m_ps ms, (deS B n p).1, m_asd ms, m_und ms, m_sav ms, m_isv ms, B, m_grp ms, m_pag ms⟩ : MM) σ0)) A_no := by
  refine A_of rfl (by decide) (Nat.le_of_ble_eq_true rfl) (L0 := [(0, .ref b9)]) rfl ?_
  refine A_aload_n (i := 0) dX2_readsDeed_0 rfl rfl ?_
  refine A_ok (fun hg1 => ?_)
  obtain ⟨a1, la1, ha1⟩ := litM185 hg1
  refine A_ldcO la1 dX2_readsDeed_1 ?_
  refine A_callV1E (v := some (.int (bi (wordP B wPut p)))) (τ := mc b9 (⟨m_thr ms, m_is ms, m_um ms, m_bd ms, p.2.2.2.2.2.1, p.2.2.2.2.2.2, nI n, nI p.2.1, nI p.2.2.1, p.2.2.2.1, p.2.2.2.2.1, m_ps ms, p.1, m_asd ms, m_und ms, m_sav ms, m_isv ms, B, m_grp ms, m_pag ms⟩ : MM) σ0) (c_isWord b9 (⟨m_thr ms, m_is ms, m_um ms, m_bd ms, p.2.2.2.2.2.1, p.2.2.2.2.2.2, nI n, nI p.2.1, nI p.2.2.1, p.2.2.2.1, p.2.2.2.2.1, m_ps ms, p.1, m_asd ms, m_und ms, m_sav ms, m_isv ms, B, m_grp ms, m_pag ms⟩ : MM) σ0 n p B wPut a1 (h1) (h2) (ha1) (by decide) (by decide)) tX2_isWord q2350 (mc_0 _ _ _) rfl rfl dX2_readsDeed_3 (by decide) (Nat.le_of_eq (Nat.zero_add _)) (Nat.le_of_ble_eq_true rfl) ?_
  refine A_if_eq (tgt := 16) dX2_readsDeed_6 (by decide) (fun c1 => ?_) (fun c1 => ?_)
  · skip
    have c1 := bi_eq0.mp c1
    refine A_aload_n (i := 0) dX2_readsDeed_16 rfl rfl ?_
    refine A_ok (fun hg17 => ?_)
    obtain ⟨a17, la17, ha17⟩ := litM190 hg17
    refine A_ldcO la17 dX2_readsDeed_17 ?_
    refine A_callV1E (v := some (.int (bi (wordP B wWash p)))) (τ := mc b9 (⟨m_thr ms, m_is ms, m_um ms, m_bd ms, p.2.2.2.2.2.1, p.2.2.2.2.2.2, nI n, nI p.2.1, nI p.2.2.1, p.2.2.2.1, p.2.2.2.2.1, m_ps ms, p.1, m_asd ms, m_und ms, m_sav ms, m_isv ms, B, m_grp ms, m_pag ms⟩ : MM) σ0) (c_isWord b9 (⟨m_thr ms, m_is ms, m_um ms, m_bd ms, p.2.2.2.2.2.1, p.2.2.2.2.2.2, nI n, nI p.2.1, nI p.2.2.1, p.2.2.2.1, p.2.2.2.2.1, m_ps ms, p.1, m_asd ms, m_und ms, m_sav ms, m_isv ms, B, m_grp ms, m_pag ms⟩ : MM) σ0 n p B wWash a17 (h1) (h2) (ha17) (by decide) (by decide)) tX2_isWord q2350 (mc_0 _ _ _) rfl rfl dX2_readsDeed_19 (by decide) (Nat.le_of_eq (Nat.zero_add _)) (Nat.le_of_ble_eq_true rfl) ?_
    refine A_if_eq (tgt := 32) dX2_readsDeed_22 (by decide) (fun c2 => ?_) (fun c2 => ?_)
    · skip
      have c2 := bi_eq0.mp c2
      refine A_aload_n (i := 0) dX2_readsDeed_32 rfl rfl ?_
      refine A_ok (fun hg33 => ?_)
      obtain ⟨a33, la33, ha33⟩ := litM195 hg33
      refine A_ldcO la33 dX2_readsDeed_33 ?_
      refine A_callV1E (v := some (.int (bi (wordP B wHang p)))) (τ := mc b9 (⟨m_thr ms, m_is ms, m_um ms, m_bd ms, p.2.2.2.2.2.1, p.2.2.2.2.2.2, nI n, nI p.2.1, nI p.2.2.1, p.2.2.2.1, p.2.2.2.2.1, m_ps ms, p.1, m_asd ms, m_und ms, m_sav ms, m_isv ms, B, m_grp ms, m_pag ms⟩ : MM) σ0) (c_isWord b9 (⟨m_thr ms, m_is ms, m_um ms, m_bd ms, p.2.2.2.2.2.1, p.2.2.2.2.2.2, nI n, nI p.2.1, nI p.2.2.1, p.2.2.2.1, p.2.2.2.2.1, m_ps ms, p.1, m_asd ms, m_und ms, m_sav ms, m_isv ms, B, m_grp ms, m_pag ms⟩ : MM) σ0 n p B wHang a33 (h1) (h2) (ha33) (by decide) (by decide)) tX2_isWord q2350 (mc_0 _ _ _) rfl rfl dX2_readsDeed_35 (by decide) (Nat.le_of_eq (Nat.zero_add _)) (Nat.le_of_ble_eq_true rfl) ?_
      refine A_if_eq (tgt := 48) dX2_readsDeed_38 (by decide) (fun c3 => ?_) (fun c3 => ?_)
      · skip
        have c3 := bi_eq0.mp c3
        refine A_aload_n (i := 0) dX2_readsDeed_48 rfl rfl ?_
        refine A_ok (fun hg49 => ?_)
        obtain ⟨a49, la49, ha49⟩ := litM200 hg49
        refine A_ldcO la49 dX2_readsDeed_49 ?_
        refine A_callV1E (v := some (.int (bi (wordP B wWind p)))) (τ := mc b9 (⟨m_thr ms, m_is ms, m_um ms, m_bd ms, p.2.2.2.2.2.1, p.2.2.2.2.2.2, nI n, nI p.2.1, nI p.2.2.1, p.2.2.2.1, p.2.2.2.2.1, m_ps ms, p.1, m_asd ms, m_und ms, m_sav ms, m_isv ms, B, m_grp ms, m_pag ms⟩ : MM) σ0) (c_isWord b9 (⟨m_thr ms, m_is ms, m_um ms, m_bd ms, p.2.2.2.2.2.1, p.2.2.2.2.2.2, nI n, nI p.2.1, nI p.2.2.1, p.2.2.2.1, p.2.2.2.2.1, m_ps ms, p.1, m_asd ms, m_und ms, m_sav ms, m_isv ms, B, m_grp ms, m_pag ms⟩ : MM) σ0 n p B wWind a49 (h1) (h2) (ha49) (by decide) (by decide)) tX2_isWord q2350 (mc_0 _ _ _) rfl rfl dX2_readsDeed_51 (by decide) (Nat.le_of_eq (Nat.zero_add _)) (Nat.le_of_ble_eq_true rfl) ?_
        refine A_if_eq (tgt := 64) dX2_readsDeed_54 (by decide) (fun c4 => ?_) (fun c4 => ?_)
        · skip
          have c4 := bi_eq0.mp c4
          refine A_aload_n (i := 0) dX2_readsDeed_64 rfl rfl ?_
          refine A_ok (fun hg65 => ?_)
          obtain ⟨a65, la65, ha65⟩ := litM205 hg65
          refine A_ldcO la65 dX2_readsDeed_65 ?_
          refine A_callV1E (v := some (.int (bi (wordP B wPass p)))) (τ := mc b9 (⟨m_thr ms, m_is ms, m_um ms, m_bd ms, p.2.2.2.2.2.1, p.2.2.2.2.2.2, nI n, nI p.2.1, nI p.2.2.1, p.2.2.2.1, p.2.2.2.2.1, m_ps ms, p.1, m_asd ms, m_und ms, m_sav ms, m_isv ms, B, m_grp ms, m_pag ms⟩ : MM) σ0) (c_isWord b9 (⟨m_thr ms, m_is ms, m_um ms, m_bd ms, p.2.2.2.2.2.1, p.2.2.2.2.2.2, nI n, nI p.2.1, nI p.2.2.1, p.2.2.2.1, p.2.2.2.2.1, m_ps ms, p.1, m_asd ms, m_und ms, m_sav ms, m_isv ms, B, m_grp ms, m_pag ms⟩ : MM) σ0 n p B wPass a65 (h1) (h2) (ha65) (by decide) (by decide)) tX2_isWord q2350 (mc_0 _ _ _) rfl rfl dX2_readsDeed_67 (by decide) (Nat.le_of_eq (Nat.zero_add _)) (Nat.le_of_ble_eq_true rfl) ?_
          refine A_if_eq (tgt := 80) dX2_readsDeed_70 (by decide) (fun c5 => ?_) (fun c5 => ?_)
          · skip
            have c5 := bi_eq0.mp c5
            refine A_aload_n (i := 0) dX2_readsDeed_80 rfl rfl ?_
            refine A_iconst (v := 1) dX2_readsDeed_81 (by decide) ?_
            refine A_callV1E (v := none) (τ := mc b9 (⟨m_thr ms, m_is ms, m_um ms, m_bd ms, (fltS 1 p).2.2.2.2.2.1, (fltS 1 p).2.2.2.2.2.2, nI n, nI (fltS 1 p).2.1, nI (fltS 1 p).2.2.1, (fltS 1 p).2.2.2.1, (fltS 1 p).2.2.2.2.1, m_ps ms, (fltS 1 p).1, m_asd ms, m_und ms, m_sav ms, m_isv ms, B, m_grp ms, m_pag ms⟩ : MM) σ0) (c_faults b9 (⟨m_thr ms, m_is ms, m_um ms, m_bd ms, p.2.2.2.2.2.1, p.2.2.2.2.2.2, nI n, nI p.2.1, nI p.2.2.1, p.2.2.2.1, p.2.2.2.2.1, m_ps ms, p.1, m_asd ms, m_und ms, m_sav ms, m_isv ms, B, m_grp ms, m_pag ms⟩ : MM) σ0 p B 1) tX2_faults q2360 (mc_0 _ _ _) rfl rfl dX2_readsDeed_82 (by decide) (Nat.le_of_eq (Nat.zero_add _)) (Nat.le_of_ble_eq_true rfl) ?_
            exact A_vret dX2_readsDeed_85 rfl ⟨rfl, by rw [deS, if_neg c1, if_neg c2, if_neg c3, if_neg c4, if_neg c5]⟩
          · skip
            have c5 := bi_ne0.mp c5
            refine A_aload_n (i := 0) dX2_readsDeed_73 rfl rfl ?_
            refine A_callV0E (v := none) (τ := mc b9 (⟨m_thr ms, m_is ms, m_um ms, m_bd ms, (paS B n p).2.2.2.2.2.1, (paS B n p).2.2.2.2.2.2, nI n, nI (paS B n p).2.1, nI (paS B n p).2.2.1, (paS B n p).2.2.2.1, (paS B n p).2.2.2.2.1, m_ps ms, (paS B n p).1, m_asd ms, m_und ms, m_sav ms, m_isv ms, B, m_grp ms, m_pag ms⟩ : MM) σ0) (c_readsPass b9 (⟨m_thr ms, m_is ms, m_um ms, m_bd ms, p.2.2.2.2.2.1, p.2.2.2.2.2.2, nI n, nI p.2.1, nI p.2.2.1, p.2.2.2.1, p.2.2.2.2.1, m_ps ms, p.1, m_asd ms, m_und ms, m_sav ms, m_isv ms, B, m_grp ms, m_pag ms⟩ : MM) σ0 n p B (h1) (h2)) tX2_readsPass q2537 (mc_0 _ _ _) rfl rfl dX2_readsDeed_74 (by decide) (Nat.le_of_eq (Nat.zero_add _)) (Nat.le_of_ble_eq_true rfl) ?_
            refine A_goto (tgt := 85) dX2_readsDeed_77 (by decide) ?_
            exact A_vret dX2_readsDeed_85 rfl ⟨rfl, by rw [deS, if_neg c1, if_neg c2, if_neg c3, if_neg c4, if_pos c5]⟩
        · skip
          have c4 := bi_ne0.mp c4
          refine A_aload_n (i := 0) dX2_readsDeed_57 rfl rfl ?_
          refine A_callV0E (v := none) (τ := mc b9 (⟨m_thr ms, m_is ms, m_um ms, m_bd ms, (wiS B n p).2.2.2.2.2.1, (wiS B n p).2.2.2.2.2.2, nI n, nI (wiS B n p).2.1, nI (wiS B n p).2.2.1, (wiS B n p).2.2.2.1, (wiS B n p).2.2.2.2.1, m_ps ms, (wiS B n p).1, m_asd ms, m_und ms, m_sav ms, m_isv ms, B, m_grp ms, m_pag ms⟩ : MM) σ0) (c_readsWind b9 (⟨m_thr ms, m_is ms, m_um ms, m_bd ms, p.2.2.2.2.2.1, p.2.2.2.2.2.2, nI n, nI p.2.1, nI p.2.2.1, p.2.2.2.1, p.2.2.2.2.1, m_ps ms, p.1, m_asd ms, m_und ms, m_sav ms, m_isv ms, B, m_grp ms, m_pag ms⟩ : MM) σ0 n p B (h1) (h2)) tX2_readsWind q2532 (mc_0 _ _ _) rfl rfl dX2_readsDeed_58 (by decide) (Nat.le_of_eq (Nat.zero_add _)) (Nat.le_of_ble_eq_true rfl) ?_
          refine A_goto (tgt := 85) dX2_readsDeed_61 (by decide) ?_
          exact A_vret dX2_readsDeed_85 rfl ⟨rfl, by rw [deS, if_neg c1, if_neg c2, if_neg c3, if_pos c4]⟩
      · skip
        have c3 := bi_ne0.mp c3
        refine A_aload_n (i := 0) dX2_readsDeed_41 rfl rfl ?_
        refine A_callV0E (v := none) (τ := mc b9 (⟨m_thr ms, m_is ms, m_um ms, m_bd ms, (haS B n p).2.2.2.2.2.1, (haS B n p).2.2.2.2.2.2, nI n, nI (haS B n p).2.1, nI (haS B n p).2.2.1, (haS B n p).2.2.2.1, (haS B n p).2.2.2.2.1, m_ps ms, (haS B n p).1, m_asd ms, m_und ms, m_sav ms, m_isv ms, B, m_grp ms, m_pag ms⟩ : MM) σ0) (c_readsHang b9 (⟨m_thr ms, m_is ms, m_um ms, m_bd ms, p.2.2.2.2.2.1, p.2.2.2.2.2.2, nI n, nI p.2.1, nI p.2.2.1, p.2.2.2.1, p.2.2.2.2.1, m_ps ms, p.1, m_asd ms, m_und ms, m_sav ms, m_isv ms, B, m_grp ms, m_pag ms⟩ : MM) σ0 n p B (h1) (h2)) tX2_readsHang q2511 (mc_0 _ _ _) rfl rfl dX2_readsDeed_42 (by decide) (Nat.le_of_eq (Nat.zero_add _)) (Nat.le_of_ble_eq_true rfl) ?_
        refine A_goto (tgt := 85) dX2_readsDeed_45 (by decide) ?_
        exact A_vret dX2_readsDeed_85 rfl ⟨rfl, by rw [deS, if_neg c1, if_neg c2, if_pos c3]⟩
    · skip
      have c2 := bi_ne0.mp c2
      refine A_aload_n (i := 0) dX2_readsDeed_25 rfl rfl ?_
      refine A_callV0E (v := none) (τ := mc b9 (⟨m_thr ms, m_is ms, m_um ms, m_bd ms, (waS B n p).2.2.2.2.2.1, (waS B n p).2.2.2.2.2.2, nI n, nI (waS B n p).2.1, nI (waS B n p).2.2.1, (waS B n p).2.2.2.1, (waS B n p).2.2.2.2.1, m_ps ms, (waS B n p).1, m_asd ms, m_und ms, m_sav ms, m_isv ms, B, m_grp ms, m_pag ms⟩ : MM) σ0) (c_readsWash b9 (⟨m_thr ms, m_is ms, m_um ms, m_bd ms, p.2.2.2.2.2.1, p.2.2.2.2.2.2, nI n, nI p.2.1, nI p.2.2.1, p.2.2.2.1, p.2.2.2.2.1, m_ps ms, p.1, m_asd ms, m_und ms, m_sav ms, m_isv ms, B, m_grp ms, m_pag ms⟩ : MM) σ0 n p B (h1) (h2)) tX2_readsWash q2464 (mc_0 _ _ _) rfl rfl dX2_readsDeed_26 (by decide) (Nat.le_of_eq (Nat.zero_add _)) (Nat.le_of_ble_eq_true rfl) ?_
      refine A_goto (tgt := 85) dX2_readsDeed_29 (by decide) ?_
      exact A_vret dX2_readsDeed_85 rfl ⟨rfl, by rw [deS, if_neg c1, if_pos c2]⟩
  · skip
    have c1 := bi_ne0.mp c1
    refine A_aload_n (i := 0) dX2_readsDeed_9 rfl rfl ?_
    refine A_callV0E (v := none) (τ := mc b9 (⟨m_thr ms, m_is ms, m_um ms, m_bd ms, (puS B n p).2.2.2.2.2.1, (puS B n p).2.2.2.2.2.2, nI n, nI (puS B n p).2.1, nI (puS B n p).2.2.1, (puS B n p).2.2.2.1, (puS B n p).2.2.2.2.1, m_ps ms, (puS B n p).1, m_asd ms, m_und ms, m_sav ms, m_isv ms, B, m_grp ms, m_pag ms⟩ : MM) σ0) (c_readsPut b9 (⟨m_thr ms, m_is ms, m_um ms, m_bd ms, p.2.2.2.2.2.1, p.2.2.2.2.2.2, nI n, nI p.2.1, nI p.2.2.1, p.2.2.2.1, p.2.2.2.2.1, m_ps ms, p.1, m_asd ms, m_und ms, m_sav ms, m_isv ms, B, m_grp ms, m_pag ms⟩ : MM) σ0 n p B (h1) (h2)) tX2_readsPut q2428 (mc_0 _ _ _) rfl rfl dX2_readsDeed_10 (by decide) (Nat.le_of_eq (Nat.zero_add _)) (Nat.le_of_ble_eq_true rfl) ?_
    refine A_goto (tgt := 85) dX2_readsDeed_13 (by decide) ?_
    exact A_vret dX2_readsDeed_85 rfl ⟨rfl, by rw [deS, if_pos c1]⟩
theorem c_readsThing {l : Launch} {g : GC} (b9 : Nat) (ms : MM) (σ0 : AH) (n : Nat) (p : PT) (B : AF) (h1 : pOK n p) (h2 : n ≤ 500) : AMet l g mX2_readsThing 9 0 [.ref b9] (mc b9 (⟨m_thr ms, m_is ms, m_um ms, m_bd ms, p.2.2.2.2.2.1, p.2.2.2.2.2.2, nI n, nI p.2.1, nI p.2.2.1, p.2.2.2.1, p.2.2.2.2.1, m_ps ms, p.1, m_asd ms, m_und ms, m_sav ms, m_isv ms, B, m_grp ms, m_pag ms⟩ : MM) σ0) (A_eq (none) (mc b9 (⟨m_thr ms, m_is ms, m_um ms, m_bd ms, (thS B n p).2.2.2.2.2.1, (thS B n p).2.2.2.2.2.2, nI n, nI (thS B n p).2.1, nI (thS B n p).2.2.1, (thS B n p).2.2.2.1, (thS B n p).2.2.2.2.1, m_ps ms, (thS B n p).1, m_asd ms, m_und ms, m_sav ms, m_isv ms, B, m_grp ms, m_pag ms⟩ : MM) σ0)) A_no := by
  refine A_of rfl (by decide) (Nat.le_of_ble_eq_true rfl) (L0 := [(0, .ref b9)]) rfl ?_
  refine A_aload_n (i := 0) dX2_readsThing_0 rfl rfl ?_
  refine A_ok (fun hg1 => ?_)
  obtain ⟨a1, la1, ha1⟩ := litM158 hg1
  refine A_ldcO la1 dX2_readsThing_1 ?_
  refine A_callV1E (v := some (.int (bi (wordP B wColour p)))) (τ := mc b9 (⟨m_thr ms, m_is ms, m_um ms, m_bd ms, p.2.2.2.2.2.1, p.2.2.2.2.2.2, nI n, nI p.2.1, nI p.2.2.1, p.2.2.2.1, p.2.2.2.2.1, m_ps ms, p.1, m_asd ms, m_und ms, m_sav ms, m_isv ms, B, m_grp ms, m_pag ms⟩ : MM) σ0) (c_isWord b9 (⟨m_thr ms, m_is ms, m_um ms, m_bd ms, p.2.2.2.2.2.1, p.2.2.2.2.2.2, nI n, nI p.2.1, nI p.2.2.1, p.2.2.2.1, p.2.2.2.2.1, m_ps ms, p.1, m_asd ms, m_und ms, m_sav ms, m_isv ms, B, m_grp ms, m_pag ms⟩ : MM) σ0 n p B wColour a1 (h1) (h2) (ha1) (by decide) (by decide)) tX2_isWord q2350 (mc_0 _ _ _) rfl rfl dX2_readsThing_3 (by decide) (Nat.le_of_eq (Nat.zero_add _)) (Nat.le_of_ble_eq_true rfl) ?_
  refine A_if_eq (tgt := 16) dX2_readsThing_6 (by decide) (fun c1 => ?_) (fun c1 => ?_)
  · skip
    have c1 := bi_eq0.mp c1
    refine A_aload_n (i := 0) dX2_readsThing_16 rfl rfl ?_
    refine A_ok (fun hg17 => ?_)
    obtain ⟨a17, la17, ha17⟩ := litM167 hg17
    refine A_ldcO la17 dX2_readsThing_17 ?_
    refine A_callV1E (v := some (.int (bi (wordP B wNation p)))) (τ := mc b9 (⟨m_thr ms, m_is ms, m_um ms, m_bd ms, p.2.2.2.2.2.1, p.2.2.2.2.2.2, nI n, nI p.2.1, nI p.2.2.1, p.2.2.2.1, p.2.2.2.2.1, m_ps ms, p.1, m_asd ms, m_und ms, m_sav ms, m_isv ms, B, m_grp ms, m_pag ms⟩ : MM) σ0) (c_isWord b9 (⟨m_thr ms, m_is ms, m_um ms, m_bd ms, p.2.2.2.2.2.1, p.2.2.2.2.2.2, nI n, nI p.2.1, nI p.2.2.1, p.2.2.2.1, p.2.2.2.2.1, m_ps ms, p.1, m_asd ms, m_und ms, m_sav ms, m_isv ms, B, m_grp ms, m_pag ms⟩ : MM) σ0 n p B wNation a17 (h1) (h2) (ha17) (by decide) (by decide)) tX2_isWord q2350 (mc_0 _ _ _) rfl rfl dX2_readsThing_19 (by decide) (Nat.le_of_eq (Nat.zero_add _)) (Nat.le_of_ble_eq_true rfl) ?_
    refine A_if_eq (tgt := 32) dX2_readsThing_22 (by decide) (fun c2 => ?_) (fun c2 => ?_)
    · skip
      have c2 := bi_eq0.mp c2
      refine A_aload_n (i := 0) dX2_readsThing_32 rfl rfl ?_
      refine A_ok (fun hg33 => ?_)
      obtain ⟨a33, la33, ha33⟩ := litM172 hg33
      refine A_ldcO la33 dX2_readsThing_33 ?_
      refine A_callV1E (v := some (.int (bi (wordP B wTub p)))) (τ := mc b9 (⟨m_thr ms, m_is ms, m_um ms, m_bd ms, p.2.2.2.2.2.1, p.2.2.2.2.2.2, nI n, nI p.2.1, nI p.2.2.1, p.2.2.2.1, p.2.2.2.2.1, m_ps ms, p.1, m_asd ms, m_und ms, m_sav ms, m_isv ms, B, m_grp ms, m_pag ms⟩ : MM) σ0) (c_isWord b9 (⟨m_thr ms, m_is ms, m_um ms, m_bd ms, p.2.2.2.2.2.1, p.2.2.2.2.2.2, nI n, nI p.2.1, nI p.2.2.1, p.2.2.2.1, p.2.2.2.2.1, m_ps ms, p.1, m_asd ms, m_und ms, m_sav ms, m_isv ms, B, m_grp ms, m_pag ms⟩ : MM) σ0 n p B wTub a33 (h1) (h2) (ha33) (by decide) (by decide)) tX2_isWord q2350 (mc_0 _ _ _) rfl rfl dX2_readsThing_35 (by decide) (Nat.le_of_eq (Nat.zero_add _)) (Nat.le_of_ble_eq_true rfl) ?_
      refine A_if_eq (tgt := 48) dX2_readsThing_38 (by decide) (fun c3 => ?_) (fun c3 => ?_)
      · skip
        have c3 := bi_eq0.mp c3
        refine A_aload_n (i := 0) dX2_readsThing_48 rfl rfl ?_
        refine A_ok (fun hg49 => ?_)
        obtain ⟨a49, la49, ha49⟩ := litM177 hg49
        refine A_ldcO la49 dX2_readsThing_49 ?_
        refine A_callV1E (v := some (.int (bi (wordP B wFlag p)))) (τ := mc b9 (⟨m_thr ms, m_is ms, m_um ms, m_bd ms, p.2.2.2.2.2.1, p.2.2.2.2.2.2, nI n, nI p.2.1, nI p.2.2.1, p.2.2.2.1, p.2.2.2.2.1, m_ps ms, p.1, m_asd ms, m_und ms, m_sav ms, m_isv ms, B, m_grp ms, m_pag ms⟩ : MM) σ0) (c_isWord b9 (⟨m_thr ms, m_is ms, m_um ms, m_bd ms, p.2.2.2.2.2.1, p.2.2.2.2.2.2, nI n, nI p.2.1, nI p.2.2.1, p.2.2.2.1, p.2.2.2.2.1, m_ps ms, p.1, m_asd ms, m_und ms, m_sav ms, m_isv ms, B, m_grp ms, m_pag ms⟩ : MM) σ0 n p B wFlag a49 (h1) (h2) (ha49) (by decide) (by decide)) tX2_isWord q2350 (mc_0 _ _ _) rfl rfl dX2_readsThing_51 (by decide) (Nat.le_of_eq (Nat.zero_add _)) (Nat.le_of_ble_eq_true rfl) ?_
        refine A_if_eq (tgt := 64) dX2_readsThing_54 (by decide) (fun c4 => ?_) (fun c4 => ?_)
        · skip
          have c4 := bi_eq0.mp c4
          refine A_aload_n (i := 0) dX2_readsThing_64 rfl rfl ?_
          refine A_callV0E (v := none) (τ := mc b9 (⟨m_thr ms, m_is ms, m_um ms, m_bd ms, (deS B n p).2.2.2.2.2.1, (deS B n p).2.2.2.2.2.2, nI n, nI (deS B n p).2.1, nI (deS B n p).2.2.1, (deS B n p).2.2.2.1, (deS B n p).2.2.2.2.1, m_ps ms, (deS B n p).1, m_asd ms, m_und ms, m_sav ms, m_isv ms, B, m_grp ms, m_pag ms⟩ : MM) σ0) (c_readsDeed b9 (⟨m_thr ms, m_is ms, m_um ms, m_bd ms, p.2.2.2.2.2.1, p.2.2.2.2.2.2, nI n, nI p.2.1, nI p.2.2.1, p.2.2.2.1, p.2.2.2.2.1, m_ps ms, p.1, m_asd ms, m_und ms, m_sav ms, m_isv ms, B, m_grp ms, m_pag ms⟩ : MM) σ0 n p B (h1) (h2)) tX2_readsDeed q2423 (mc_0 _ _ _) rfl rfl dX2_readsThing_65 (by decide) (Nat.le_of_eq (Nat.zero_add _)) (Nat.le_of_ble_eq_true rfl) ?_
          exact A_vret dX2_readsThing_68 rfl ⟨rfl, by rw [thS, if_neg c1, if_neg c2, if_neg c3, if_neg c4]⟩
        · skip
          have c4 := bi_ne0.mp c4
          refine A_aload_n (i := 0) dX2_readsThing_57 rfl rfl ?_
          refine A_callV0E (v := none) (τ := mc b9 (⟨m_thr ms, m_is ms, m_um ms, m_bd ms, (fgS B n p).2.2.2.2.2.1, (fgS B n p).2.2.2.2.2.2, nI n, nI (fgS B n p).2.1, nI (fgS B n p).2.2.1, (fgS B n p).2.2.2.1, (fgS B n p).2.2.2.2.1, m_ps ms, (fgS B n p).1, m_asd ms, m_und ms, m_sav ms, m_isv ms, B, m_grp ms, m_pag ms⟩ : MM) σ0) (c_readsFlag b9 (⟨m_thr ms, m_is ms, m_um ms, m_bd ms, p.2.2.2.2.2.1, p.2.2.2.2.2.2, nI n, nI p.2.1, nI p.2.2.1, p.2.2.2.1, p.2.2.2.2.1, m_ps ms, p.1, m_asd ms, m_und ms, m_sav ms, m_isv ms, B, m_grp ms, m_pag ms⟩ : MM) σ0 n p B (h1) (h2)) tX2_readsFlag q2400 (mc_0 _ _ _) rfl rfl dX2_readsThing_58 (by decide) (Nat.le_of_eq (Nat.zero_add _)) (Nat.le_of_ble_eq_true rfl) ?_
          refine A_goto (tgt := 68) dX2_readsThing_61 (by decide) ?_
          exact A_vret dX2_readsThing_68 rfl ⟨rfl, by rw [thS, if_neg c1, if_neg c2, if_neg c3, if_pos c4]⟩
      · skip
        have c3 := bi_ne0.mp c3
        refine A_aload_n (i := 0) dX2_readsThing_41 rfl rfl ?_
        refine A_callV0E (v := none) (τ := mc b9 (⟨m_thr ms, m_is ms, m_um ms, m_bd ms, (tuS B n p).2.2.2.2.2.1, (tuS B n p).2.2.2.2.2.2, nI n, nI (tuS B n p).2.1, nI (tuS B n p).2.2.1, (tuS B n p).2.2.2.1, (tuS B n p).2.2.2.2.1, m_ps ms, (tuS B n p).1, m_asd ms, m_und ms, m_sav ms, m_isv ms, B, m_grp ms, m_pag ms⟩ : MM) σ0) (c_readsTub b9 (⟨m_thr ms, m_is ms, m_um ms, m_bd ms, p.2.2.2.2.2.1, p.2.2.2.2.2.2, nI n, nI p.2.1, nI p.2.2.1, p.2.2.2.1, p.2.2.2.2.1, m_ps ms, p.1, m_asd ms, m_und ms, m_sav ms, m_isv ms, B, m_grp ms, m_pag ms⟩ : MM) σ0 n p B (h1) (h2)) tX2_readsTub q2395 (mc_0 _ _ _) rfl rfl dX2_readsThing_42 (by decide) (Nat.le_of_eq (Nat.zero_add _)) (Nat.le_of_ble_eq_true rfl) ?_
        refine A_goto (tgt := 68) dX2_readsThing_45 (by decide) ?_
        exact A_vret dX2_readsThing_68 rfl ⟨rfl, by rw [thS, if_neg c1, if_neg c2, if_pos c3]⟩
    · skip
      have c2 := bi_ne0.mp c2
      refine A_aload_n (i := 0) dX2_readsThing_25 rfl rfl ?_
      refine A_callV0E (v := none) (τ := mc b9 (⟨m_thr ms, m_is ms, m_um ms, m_bd ms, (naS B n p).2.2.2.2.2.1, (naS B n p).2.2.2.2.2.2, nI n, nI (naS B n p).2.1, nI (naS B n p).2.2.1, (naS B n p).2.2.2.1, (naS B n p).2.2.2.2.1, m_ps ms, (naS B n p).1, m_asd ms, m_und ms, m_sav ms, m_isv ms, B, m_grp ms, m_pag ms⟩ : MM) σ0) (c_readsNation b9 (⟨m_thr ms, m_is ms, m_um ms, m_bd ms, p.2.2.2.2.2.1, p.2.2.2.2.2.2, nI n, nI p.2.1, nI p.2.2.1, p.2.2.2.1, p.2.2.2.2.1, m_ps ms, p.1, m_asd ms, m_und ms, m_sav ms, m_isv ms, B, m_grp ms, m_pag ms⟩ : MM) σ0 n p B (h1) (h2)) tX2_readsNation q2386 (mc_0 _ _ _) rfl rfl dX2_readsThing_26 (by decide) (Nat.le_of_eq (Nat.zero_add _)) (Nat.le_of_ble_eq_true rfl) ?_
      refine A_goto (tgt := 68) dX2_readsThing_29 (by decide) ?_
      exact A_vret dX2_readsThing_68 rfl ⟨rfl, by rw [thS, if_neg c1, if_pos c2]⟩
  · skip
    have c1 := bi_ne0.mp c1
    refine A_aload_n (i := 0) dX2_readsThing_9 rfl rfl ?_
    refine A_callV0E (v := none) (τ := mc b9 (⟨m_thr ms, m_is ms, m_um ms, m_bd ms, (coS B n p).2.2.2.2.2.1, (coS B n p).2.2.2.2.2.2, nI n, nI (coS B n p).2.1, nI (coS B n p).2.2.1, (coS B n p).2.2.2.1, (coS B n p).2.2.2.2.1, m_ps ms, (coS B n p).1, m_asd ms, m_und ms, m_sav ms, m_isv ms, B, m_grp ms, m_pag ms⟩ : MM) σ0) (c_readsColour b9 (⟨m_thr ms, m_is ms, m_um ms, m_bd ms, p.2.2.2.2.2.1, p.2.2.2.2.2.2, nI n, nI p.2.1, nI p.2.2.1, p.2.2.2.1, p.2.2.2.2.1, m_ps ms, p.1, m_asd ms, m_und ms, m_sav ms, m_isv ms, B, m_grp ms, m_pag ms⟩ : MM) σ0 n p B (h1) (h2)) tX2_readsColour q2377 (mc_0 _ _ _) rfl rfl dX2_readsThing_10 (by decide) (Nat.le_of_eq (Nat.zero_add _)) (Nat.le_of_ble_eq_true rfl) ?_
    refine A_goto (tgt := 68) dX2_readsThing_13 (by decide) ?_
    exact A_vret dX2_readsThing_68 rfl ⟨rfl, by rw [thS, if_pos c1]⟩
theorem c_readsText {l : Launch} {g : GC} (b9 : Nat) (ms : MM) (σ0 : AH) (n : Nat) (p : PT) (B : AF) (h1 : p.2.2.2.2.2.1 = 0) (h2 : n ≤ 500) (h3 : p.2.1 ≤ n) (h4 : WFc p.1) : AMet l g mX2_readsText 10 0 [.ref b9] (mc b9 (⟨m_thr ms, m_is ms, m_um ms, m_bd ms, p.2.2.2.2.2.1, p.2.2.2.2.2.2, nI n, nI p.2.1, nI p.2.2.1, p.2.2.2.1, p.2.2.2.2.1, m_ps ms, p.1, m_asd ms, m_und ms, m_sav ms, m_isv ms, B, m_grp ms, m_pag ms⟩ : MM) σ0) (A_eq (none) (mc b9 (⟨m_thr ms, m_is ms, m_um ms, m_bd ms, (teS B n p).2.2.2.2.2.1, (teS B n p).2.2.2.2.2.2, nI n, nI (teS B n p).2.1, nI (teS B n p).2.2.1, (teS B n p).2.2.2.1, (teS B n p).2.2.2.2.1, m_ps ms, (teS B n p).1, m_asd ms, m_und ms, m_sav ms, m_isv ms, B, m_grp ms, m_pag ms⟩ : MM) σ0)) A_no := by
  refine A_of rfl (by decide) (Nat.le_of_ble_eq_true rfl) (L0 := [(0, .ref b9)]) rfl ?_
  refine A_aload_n (i := 0) dX2_readsText_0 rfl rfl ?_
  refine A_callV0E (v := none) (τ := mc b9 (⟨m_thr ms, m_is ms, m_um ms, m_bd ms, (goesS B n p).2.2.2.2.2.1, (goesS B n p).2.2.2.2.2.2, nI n, nI (goesS B n p).2.1, nI (goesS B n p).2.2.1, (goesS B n p).2.2.2.1, (goesS B n p).2.2.2.2.1, m_ps ms, (goesS B n p).1, m_asd ms, m_und ms, m_sav ms, m_isv ms, B, m_grp ms, m_pag ms⟩ : MM) σ0) (c_goes b9 (⟨m_thr ms, m_is ms, m_um ms, m_bd ms, p.2.2.2.2.2.1, p.2.2.2.2.2.2, nI n, nI p.2.1, nI p.2.2.1, p.2.2.2.1, p.2.2.2.2.1, m_ps ms, p.1, m_asd ms, m_und ms, m_sav ms, m_isv ms, B, m_grp ms, m_pag ms⟩ : MM) σ0 n p B (h3) (h2)) tX2_goes q2337 (mc_0 _ _ _) rfl rfl dX2_readsText_1 (by decide) (Nat.le_of_eq (Nat.zero_add _)) (Nat.le_of_ble_eq_true rfl) ?_
  obtain ⟨p1, e_p1⟩ : ∃ q, q = goesS B n p := ⟨_, rfl⟩
  have k_p1 : pOK n p1 := by rw [e_p1]; exact goes_ok0 h1 h3 h4
  rw [← e_p1]
  refine A_aload_n (i := 0) dX2_readsText_4 rfl rfl ?_
  refine A_ok (fun hg5 => ?_)
  obtain ⟨a5, la5, ha5⟩ := litM210 hg5
  refine A_ldcO la5 dX2_readsText_5 ?_
  refine A_callV1E (v := some (.int (bi (wordP B wLine p1)))) (τ := mc b9 (⟨m_thr ms, m_is ms, m_um ms, m_bd ms, p1.2.2.2.2.2.1, p1.2.2.2.2.2.2, nI n, nI p1.2.1, nI p1.2.2.1, p1.2.2.2.1, p1.2.2.2.2.1, m_ps ms, p1.1, m_asd ms, m_und ms, m_sav ms, m_isv ms, B, m_grp ms, m_pag ms⟩ : MM) σ0) (c_isWord b9 (⟨m_thr ms, m_is ms, m_um ms, m_bd ms, p1.2.2.2.2.2.1, p1.2.2.2.2.2.2, nI n, nI p1.2.1, nI p1.2.2.1, p1.2.2.2.1, p1.2.2.2.2.1, m_ps ms, p1.1, m_asd ms, m_und ms, m_sav ms, m_isv ms, B, m_grp ms, m_pag ms⟩ : MM) σ0 n p1 B wLine a5 (k_p1) (h2) (ha5) (by decide) (by decide)) tX2_isWord q2350 (mc_0 _ _ _) rfl rfl dX2_readsText_7 (by decide) (Nat.le_of_eq (Nat.zero_add _)) (Nat.le_of_ble_eq_true rfl) ?_
  refine A_if_ne (tgt := 18) dX2_readsText_10 (by decide) (fun c1 => ?_) (fun c1 => ?_)
  · skip
    have c1 := bi_ne0.mp c1
    obtain ⟨p2, e_p2⟩ : ∃ q, q = (if wordP B wLine p1 then p1 else fltS 1 p1) := ⟨_, rfl⟩
    have k_p2 : pOK n p2 := by rw [e_p2, if_pos c1]; exact k_p1
    refine A_st (σ' := mc b9 (⟨m_thr ms, m_is ms, m_um ms, m_bd ms, p2.2.2.2.2.2.1, p2.2.2.2.2.2.2, nI n, nI p2.2.1, nI p2.2.2.1, p2.2.2.2.1, p2.2.2.2.2.1, m_ps ms, p2.1, m_asd ms, m_und ms, m_sav ms, m_isv ms, B, m_grp ms, m_pag ms⟩ : MM) σ0) (by rw [e_p2, if_pos c1]) ?_
    refine A_aload_n (i := 0) dX2_readsText_18 rfl rfl ?_
    refine A_callV0E (v := none) (τ := mc b9 (⟨m_thr ms, m_is ms, m_um ms, m_bd ms, (goesS B n p2).2.2.2.2.2.1, (goesS B n p2).2.2.2.2.2.2, nI n, nI (goesS B n p2).2.1, nI (goesS B n p2).2.2.1, (goesS B n p2).2.2.2.1, (goesS B n p2).2.2.2.2.1, m_ps ms, (goesS B n p2).1, m_asd ms, m_und ms, m_sav ms, m_isv ms, B, m_grp ms, m_pag ms⟩ : MM) σ0) (c_goes b9 (⟨m_thr ms, m_is ms, m_um ms, m_bd ms, p2.2.2.2.2.2.1, p2.2.2.2.2.2.2, nI n, nI p2.2.1, nI p2.2.2.1, p2.2.2.2.1, p2.2.2.2.2.1, m_ps ms, p2.1, m_asd ms, m_und ms, m_sav ms, m_isv ms, B, m_grp ms, m_pag ms⟩ : MM) σ0 n p2 B (k_p2.1) (h2)) tX2_goes q2337 (mc_0 _ _ _) rfl rfl dX2_readsText_19 (by decide) (Nat.le_of_eq (Nat.zero_add _)) (Nat.le_of_ble_eq_true rfl) ?_
    obtain ⟨p3, e_p3⟩ : ∃ q, q = goesS B n p2 := ⟨_, rfl⟩
    have k_p3 : pOK n p3 := by rw [e_p3]; exact (goes_ok k_p2)
    rw [← e_p3]
    refine A_aload_n (i := 0) dX2_readsText_22 rfl rfl ?_
    refine M_get 1 (v := .ref (b9 + 1)) (Nat.le_of_ble_eq_true rfl) q2230 rfl dX2_readsText_23 ?_
    refine A_bipush (v := 9) dX2_readsText_26 (by decide) ?_
    refine A_aload_n (i := 0) dX2_readsText_28 rfl rfl ?_
    refine A_iconst (v := 1) dX2_readsText_29 (by decide) ?_
    refine A_bipush (v := 8) dX2_readsText_30 (by decide) ?_
    refine A_callV2E (v := some (.int (nhV 1 8 p3))) (τ := mc b9 (⟨m_thr ms, m_is ms, m_um ms, m_bd ms, (nuS B n 1 8 p3).2.2.2.2.2.1, (nuS B n 1 8 p3).2.2.2.2.2.2, nI n, nI (nuS B n 1 8 p3).2.1, nI (nuS B n 1 8 p3).2.2.1, (nuS B n 1 8 p3).2.2.2.1, (nuS B n 1 8 p3).2.2.2.2.1, m_ps ms, (nuS B n 1 8 p3).1, m_asd ms, m_und ms, m_sav ms, m_isv ms, B, m_grp ms, m_pag ms⟩ : MM) σ0) (c_number b9 (⟨m_thr ms, m_is ms, m_um ms, m_bd ms, p3.2.2.2.2.2.1, p3.2.2.2.2.2.2, nI n, nI p3.2.1, nI p3.2.2.1, p3.2.2.2.1, p3.2.2.2.2.1, m_ps ms, p3.1, m_asd ms, m_und ms, m_sav ms, m_isv ms, B, m_grp ms, m_pag ms⟩ : MM) σ0 n p3 B 1 8 (k_p3) (h2)) tX2_number q2364 (mc_0 _ _ _) rfl rfl dX2_readsText_32 (by decide) (Nat.le_of_eq (Nat.zero_add _)) (Nat.le_of_ble_eq_true rfl) ?_
    obtain ⟨p4, e_p4⟩ : ∃ q, q = nuS B n 1 8 p3 := ⟨_, rfl⟩
    have k_p4 : pOK n p4 := by rw [e_p4]; exact (nu_ok k_p3)
    rw [← e_p4]
    refine M_astT1 (n := 9) (na := va_up p4.1 9 (nhV 1 8 p3)) (rfl) (by decide) (rfl) dX2_readsText_35 ?_
    have e3 : te1 B n p = p3 := by rw [te1, ← e_p1, ← e_p2, ← e_p3]
    obtain ⟨p5, e_p5⟩ : ∃ q, q = te2 B n p := ⟨_, rfl⟩
    have k_p5 : pOK n p5 := by rw [e_p5]; exact te2_ok (by rw [e3]; exact k_p3)
    refine A_st (σ' := mc b9 (⟨m_thr ms, m_is ms, m_um ms, m_bd ms, p5.2.2.2.2.2.1, p5.2.2.2.2.2.2, nI n, nI p5.2.1, nI p5.2.2.1, p5.2.2.2.1, p5.2.2.2.2.1, m_ps ms, p5.1, m_asd ms, m_und ms, m_sav ms, m_isv ms, B, m_grp ms, m_pag ms⟩ : MM) σ0) (by rw [e_p5, te2, e3, ← e_p4] <;> rfl) ?_
    obtain ⟨K, hK⟩ : ∃ K, K = liK B n p5 := ⟨_, rfl⟩
    have hKi : ∀ k, k < K → isP 4 (liU B n p5 k) := fun k hk => li_in (by rw [← hK]; exact hk)
    have hKo : ¬ isP 4 (liU B n p5 K) := by rw [hK]; exact li_out k_p5
    refine A_sub (L' := [(0, .ref b9)]) ⟨rfl, trivial⟩ ?_
    refine A_for K (fun i36 => 0) (fun i36 => [(0, .ref b9)]) (fun i36 => mc b9 (⟨m_thr ms, m_is ms, m_um ms, m_bd ms, (liU B n p5 i36).2.2.2.2.2.1, (liU B n p5 i36).2.2.2.2.2.2, nI n, nI (liU B n p5 i36).2.1, nI (liU B n p5 i36).2.2.1, (liU B n p5 i36).2.2.2.1, (liU B n p5 i36).2.2.2.2.1, m_ps ms, (liU B n p5 i36).1, m_asd ms, m_und ms, m_sav ms, m_isv ms, B, m_grp ms, m_pag ms⟩ : MM) σ0) (fun i36 => True) trivial (fun i36 hi36 hI36 ih36 => ?_) (fun hI36 => ?_)
    · skip
      refine A_aload_n (i := 0) dX2_readsText_36 rfl rfl ?_
      refine A_iconst (v := 4) dX2_readsText_37 (by decide) ?_
      refine A_callV1E (v := some (.int (bi (isP 4 (liU B n p5 i36))))) (τ := mc b9 (⟨m_thr ms, m_is ms, m_um ms, m_bd ms, (liU B n p5 i36).2.2.2.2.2.1, (liU B n p5 i36).2.2.2.2.2.2, nI n, nI (liU B n p5 i36).2.1, nI (liU B n p5 i36).2.2.1, (liU B n p5 i36).2.2.2.1, (liU B n p5 i36).2.2.2.2.1, m_ps ms, (liU B n p5 i36).1, m_asd ms, m_und ms, m_sav ms, m_isv ms, B, m_grp ms, m_pag ms⟩ : MM) σ0) (c_is b9 (⟨m_thr ms, m_is ms, m_um ms, m_bd ms, (liU B n p5 i36).2.2.2.2.2.1, (liU B n p5 i36).2.2.2.2.2.2, nI n, nI (liU B n p5 i36).2.1, nI (liU B n p5 i36).2.2.1, (liU B n p5 i36).2.2.2.1, (liU B n p5 i36).2.2.2.2.1, m_ps ms, (liU B n p5 i36).1, m_asd ms, m_und ms, m_sav ms, m_isv ms, B, m_grp ms, m_pag ms⟩ : MM) σ0 (liU B n p5 i36) B 4) tX2_is q2354 (mc_0 _ _ _) rfl rfl dX2_readsText_38 (by decide) (Nat.le_of_eq (Nat.zero_add _)) (Nat.le_of_ble_eq_true rfl) ?_
      refine A_if_eq_f (tgt := 55) dX2_readsText_41 (by decide) (bi_ne0.mpr (hKi i36 hi36)) ?_
      refine A_aload_n (i := 0) dX2_readsText_44 rfl rfl ?_
      refine A_callV0E (v := none) (τ := mc b9 (⟨m_thr ms, m_is ms, m_um ms, m_bd ms, (goesS B n (liU B n p5 i36)).2.2.2.2.2.1, (goesS B n (liU B n p5 i36)).2.2.2.2.2.2, nI n, nI (goesS B n (liU B n p5 i36)).2.1, nI (goesS B n (liU B n p5 i36)).2.2.1, (goesS B n (liU B n p5 i36)).2.2.2.1, (goesS B n (liU B n p5 i36)).2.2.2.2.1, m_ps ms, (goesS B n (liU B n p5 i36)).1, m_asd ms, m_und ms, m_sav ms, m_isv ms, B, m_grp ms, m_pag ms⟩ : MM) σ0) (c_goes b9 (⟨m_thr ms, m_is ms, m_um ms, m_bd ms, (liU B n p5 i36).2.2.2.2.2.1, (liU B n p5 i36).2.2.2.2.2.2, nI n, nI (liU B n p5 i36).2.1, nI (liU B n p5 i36).2.2.1, (liU B n p5 i36).2.2.2.1, (liU B n p5 i36).2.2.2.2.1, m_ps ms, (liU B n p5 i36).1, m_asd ms, m_und ms, m_sav ms, m_isv ms, B, m_grp ms, m_pag ms⟩ : MM) σ0 n (liU B n p5 i36) B ((li_ok k_p5 i36).1) (h2)) tX2_goes q2337 (mc_0 _ _ _) rfl rfl dX2_readsText_45 (by decide) (Nat.le_of_eq (Nat.zero_add _)) (Nat.le_of_ble_eq_true rfl) ?_
      refine A_aload_n (i := 0) dX2_readsText_48 rfl rfl ?_
      refine A_callV0E (v := none) (τ := mc b9 (⟨m_thr ms, m_is ms, m_um ms, m_bd ms, (thS B n (goesS B n (liU B n p5 i36))).2.2.2.2.2.1, (thS B n (goesS B n (liU B n p5 i36))).2.2.2.2.2.2, nI n, nI (thS B n (goesS B n (liU B n p5 i36))).2.1, nI (thS B n (goesS B n (liU B n p5 i36))).2.2.1, (thS B n (goesS B n (liU B n p5 i36))).2.2.2.1, (thS B n (goesS B n (liU B n p5 i36))).2.2.2.2.1, m_ps ms, (thS B n (goesS B n (liU B n p5 i36))).1, m_asd ms, m_und ms, m_sav ms, m_isv ms, B, m_grp ms, m_pag ms⟩ : MM) σ0) (c_readsThing b9 (⟨m_thr ms, m_is ms, m_um ms, m_bd ms, (goesS B n (liU B n p5 i36)).2.2.2.2.2.1, (goesS B n (liU B n p5 i36)).2.2.2.2.2.2, nI n, nI (goesS B n (liU B n p5 i36)).2.1, nI (goesS B n (liU B n p5 i36)).2.2.1, (goesS B n (liU B n p5 i36)).2.2.2.1, (goesS B n (liU B n p5 i36)).2.2.2.2.1, m_ps ms, (goesS B n (liU B n p5 i36)).1, m_asd ms, m_und ms, m_sav ms, m_isv ms, B, m_grp ms, m_pag ms⟩ : MM) σ0 n (goesS B n (liU B n p5 i36)) B ((goes_ok (li_ok k_p5 i36))) (h2)) tX2_readsThing q2372 (mc_0 _ _ _) rfl rfl dX2_readsText_49 (by decide) (Nat.le_of_eq (Nat.zero_add _)) (Nat.le_of_ble_eq_true rfl) ?_
      refine A_goto (tgt := 36) dX2_readsText_52 (by decide) ?_
      refine A_sub (L' := [(0, .ref b9)]) ⟨rfl, trivial⟩ ?_
      refine A_st (σ' := mc b9 (⟨m_thr ms, m_is ms, m_um ms, m_bd ms, (liU B n p5 (i36 + 1)).2.2.2.2.2.1, (liU B n p5 (i36 + 1)).2.2.2.2.2.2, nI n, nI (liU B n p5 (i36 + 1)).2.1, nI (liU B n p5 (i36 + 1)).2.2.1, (liU B n p5 (i36 + 1)).2.2.2.1, (liU B n p5 (i36 + 1)).2.2.2.2.1, m_ps ms, (liU B n p5 (i36 + 1)).1, m_asd ms, m_und ms, m_sav ms, m_isv ms, B, m_grp ms, m_pag ms⟩ : MM) σ0) (by rw [liU_s]) ?_
      exact ih36 trivial
    · skip
      refine A_aload_n (i := 0) dX2_readsText_36 rfl rfl ?_
      refine A_iconst (v := 4) dX2_readsText_37 (by decide) ?_
      refine A_callV1E (v := some (.int (bi (isP 4 (liU B n p5 K))))) (τ := mc b9 (⟨m_thr ms, m_is ms, m_um ms, m_bd ms, (liU B n p5 K).2.2.2.2.2.1, (liU B n p5 K).2.2.2.2.2.2, nI n, nI (liU B n p5 K).2.1, nI (liU B n p5 K).2.2.1, (liU B n p5 K).2.2.2.1, (liU B n p5 K).2.2.2.2.1, m_ps ms, (liU B n p5 K).1, m_asd ms, m_und ms, m_sav ms, m_isv ms, B, m_grp ms, m_pag ms⟩ : MM) σ0) (c_is b9 (⟨m_thr ms, m_is ms, m_um ms, m_bd ms, (liU B n p5 K).2.2.2.2.2.1, (liU B n p5 K).2.2.2.2.2.2, nI n, nI (liU B n p5 K).2.1, nI (liU B n p5 K).2.2.1, (liU B n p5 K).2.2.2.1, (liU B n p5 K).2.2.2.2.1, m_ps ms, (liU B n p5 K).1, m_asd ms, m_und ms, m_sav ms, m_isv ms, B, m_grp ms, m_pag ms⟩ : MM) σ0 (liU B n p5 K) B 4) tX2_is q2354 (mc_0 _ _ _) rfl rfl dX2_readsText_38 (by decide) (Nat.le_of_eq (Nat.zero_add _)) (Nat.le_of_ble_eq_true rfl) ?_
      refine A_if_eq_t (tgt := 55) dX2_readsText_41 (by decide) (bi_eq0.mpr hKo) ?_
      obtain ⟨p6, e_p6⟩ : ∃ q, q = liU B n p5 K := ⟨_, rfl⟩
      have k_p6 : pOK n p6 := by rw [e_p6]; exact li_ok k_p5 K
      rw [← e_p6]
      have e6 : te3 B n p = p6 := by rw [te3, ← e_p5, ← hK, ← e_p6]
      refine A_aload_n (i := 0) dX2_readsText_55 rfl rfl ?_
      refine A_iconst (v := 1) dX2_readsText_56 (by decide) ?_
      refine A_callV1E (v := some (.int (bi (isP 1 p6)))) (τ := mc b9 (⟨m_thr ms, m_is ms, m_um ms, m_bd ms, p6.2.2.2.2.2.1, p6.2.2.2.2.2.2, nI n, nI p6.2.1, nI p6.2.2.1, p6.2.2.2.1, p6.2.2.2.2.1, m_ps ms, p6.1, m_asd ms, m_und ms, m_sav ms, m_isv ms, B, m_grp ms, m_pag ms⟩ : MM) σ0) (c_is b9 (⟨m_thr ms, m_is ms, m_um ms, m_bd ms, p6.2.2.2.2.2.1, p6.2.2.2.2.2.2, nI n, nI p6.2.1, nI p6.2.2.1, p6.2.2.2.1, p6.2.2.2.2.1, m_ps ms, p6.1, m_asd ms, m_und ms, m_sav ms, m_isv ms, B, m_grp ms, m_pag ms⟩ : MM) σ0 p6 B 1) tX2_is q2354 (mc_0 _ _ _) rfl rfl dX2_readsText_57 (by decide) (Nat.le_of_eq (Nat.zero_add _)) (Nat.le_of_ble_eq_true rfl) ?_
      refine A_if_ne (tgt := 68) dX2_readsText_60 (by decide) (fun c2 => ?_) (fun c2 => ?_)
      · skip
        have c2 := bi_ne0.mp c2
        obtain ⟨p7, e_p7⟩ : ∃ q, q = te4 B n p := ⟨_, rfl⟩
        refine A_st (σ' := mc b9 (⟨m_thr ms, m_is ms, m_um ms, m_bd ms, p7.2.2.2.2.2.1, p7.2.2.2.2.2.2, nI n, nI p7.2.1, nI p7.2.2.1, p7.2.2.2.1, p7.2.2.2.2.1, m_ps ms, p7.1, m_asd ms, m_und ms, m_sav ms, m_isv ms, B, m_grp ms, m_pag ms⟩ : MM) σ0) (by rw [e_p7, te4, e6, if_pos c2]) ?_
        refine A_aload_n (i := 0) dX2_readsText_68 rfl rfl ?_
        refine M_get 1 (v := .ref (b9 + 1)) (Nat.le_of_ble_eq_true rfl) q2230 rfl dX2_readsText_69 ?_
        refine A_bipush (v := 6) dX2_readsText_72 (by decide) ?_
        refine M_ald1 (n := 6) (v := p7.1 6) (rfl) (by decide) (rfl) dX2_readsText_74 ?_
        refine A_if_eq (tgt := 98) dX2_readsText_75 (by decide) (fun c3 => ?_) (fun c3 => ?_)
        · skip
          refine A_aload_n (i := 0) dX2_readsText_98 rfl rfl ?_
          refine A_iconst (v := 4) dX2_readsText_99 (by decide) ?_
          refine A_callV1E (v := none) (τ := mc b9 (⟨m_thr ms, m_is ms, m_um ms, m_bd ms, (fltS 4 p7).2.2.2.2.2.1, (fltS 4 p7).2.2.2.2.2.2, nI n, nI (fltS 4 p7).2.1, nI (fltS 4 p7).2.2.1, (fltS 4 p7).2.2.2.1, (fltS 4 p7).2.2.2.2.1, m_ps ms, (fltS 4 p7).1, m_asd ms, m_und ms, m_sav ms, m_isv ms, B, m_grp ms, m_pag ms⟩ : MM) σ0) (c_faults b9 (⟨m_thr ms, m_is ms, m_um ms, m_bd ms, p7.2.2.2.2.2.1, p7.2.2.2.2.2.2, nI n, nI p7.2.1, nI p7.2.2.1, p7.2.2.2.1, p7.2.2.2.2.1, m_ps ms, p7.1, m_asd ms, m_und ms, m_sav ms, m_isv ms, B, m_grp ms, m_pag ms⟩ : MM) σ0 p7 B 4) tX2_faults q2360 (mc_0 _ _ _) rfl rfl dX2_readsText_100 (by decide) (Nat.le_of_eq (Nat.zero_add _)) (Nat.le_of_ble_eq_true rfl) ?_
          exact A_vret dX2_readsText_103 rfl ⟨rfl, by rw [teS, ← e_p7, if_pos (Or.inl c3)]⟩
        · skip
          refine A_aload_n (i := 0) dX2_readsText_78 rfl rfl ?_
          refine M_get 1 (v := .ref (b9 + 1)) (Nat.le_of_ble_eq_true rfl) q2230 rfl dX2_readsText_79 ?_
          refine A_bipush (v := 7) dX2_readsText_82 (by decide) ?_
          refine M_ald1 (n := 7) (v := p7.1 7) (rfl) (by decide) (rfl) dX2_readsText_84 ?_
          refine A_if_eq (tgt := 98) dX2_readsText_85 (by decide) (fun c4 => ?_) (fun c4 => ?_)
          · skip
            refine A_aload_n (i := 0) dX2_readsText_98 rfl rfl ?_
            refine A_iconst (v := 4) dX2_readsText_99 (by decide) ?_
            refine A_callV1E (v := none) (τ := mc b9 (⟨m_thr ms, m_is ms, m_um ms, m_bd ms, (fltS 4 p7).2.2.2.2.2.1, (fltS 4 p7).2.2.2.2.2.2, nI n, nI (fltS 4 p7).2.1, nI (fltS 4 p7).2.2.1, (fltS 4 p7).2.2.2.1, (fltS 4 p7).2.2.2.2.1, m_ps ms, (fltS 4 p7).1, m_asd ms, m_und ms, m_sav ms, m_isv ms, B, m_grp ms, m_pag ms⟩ : MM) σ0) (c_faults b9 (⟨m_thr ms, m_is ms, m_um ms, m_bd ms, p7.2.2.2.2.2.1, p7.2.2.2.2.2.2, nI n, nI p7.2.1, nI p7.2.2.1, p7.2.2.2.1, p7.2.2.2.2.1, m_ps ms, p7.1, m_asd ms, m_und ms, m_sav ms, m_isv ms, B, m_grp ms, m_pag ms⟩ : MM) σ0 p7 B 4) tX2_faults q2360 (mc_0 _ _ _) rfl rfl dX2_readsText_100 (by decide) (Nat.le_of_eq (Nat.zero_add _)) (Nat.le_of_ble_eq_true rfl) ?_
            exact A_vret dX2_readsText_103 rfl ⟨rfl, by rw [teS, ← e_p7, if_pos (Or.inr (Or.inl c4))]⟩
          · skip
            refine A_aload_n (i := 0) dX2_readsText_88 rfl rfl ?_
            refine M_get 1 (v := .ref (b9 + 1)) (Nat.le_of_ble_eq_true rfl) q2230 rfl dX2_readsText_89 ?_
            refine A_bipush (v := 8) dX2_readsText_92 (by decide) ?_
            refine M_ald1 (n := 8) (v := p7.1 8) (rfl) (by decide) (rfl) dX2_readsText_94 ?_
            refine A_if_ne (tgt := 103) dX2_readsText_95 (by decide) (fun c5 => ?_) (fun c5 => ?_)
            · skip
              exact A_vret dX2_readsText_103 rfl ⟨rfl, by rw [teS, ← e_p7, if_neg (fun h => h.elim c3 (fun h => h.elim c4 c5))]⟩
            · skip
              refine A_aload_n (i := 0) dX2_readsText_98 rfl rfl ?_
              refine A_iconst (v := 4) dX2_readsText_99 (by decide) ?_
              refine A_callV1E (v := none) (τ := mc b9 (⟨m_thr ms, m_is ms, m_um ms, m_bd ms, (fltS 4 p7).2.2.2.2.2.1, (fltS 4 p7).2.2.2.2.2.2, nI n, nI (fltS 4 p7).2.1, nI (fltS 4 p7).2.2.1, (fltS 4 p7).2.2.2.1, (fltS 4 p7).2.2.2.2.1, m_ps ms, (fltS 4 p7).1, m_asd ms, m_und ms, m_sav ms, m_isv ms, B, m_grp ms, m_pag ms⟩ : MM) σ0) (c_faults b9 (⟨m_thr ms, m_is ms, m_um ms, m_bd ms, p7.2.2.2.2.2.1, p7.2.2.2.2.2.2, nI n, nI p7.2.1, nI p7.2.2.1, p7.2.2.2.1, p7.2.2.2.2.1, m_ps ms, p7.1, m_asd ms, m_und ms, m_sav ms, m_isv ms, B, m_grp ms, m_pag ms⟩ : MM) σ0 p7 B 4) tX2_faults q2360 (mc_0 _ _ _) rfl rfl dX2_readsText_100 (by decide) (Nat.le_of_eq (Nat.zero_add _)) (Nat.le_of_ble_eq_true rfl) ?_
              exact A_vret dX2_readsText_103 rfl ⟨rfl, by rw [teS, ← e_p7, if_pos (Or.inr (Or.inr c5))]⟩
      · skip
        have c2 := bi_eq0.mp c2
        refine A_aload_n (i := 0) dX2_readsText_63 rfl rfl ?_
        refine A_iconst (v := 1) dX2_readsText_64 (by decide) ?_
        refine A_callV1E (v := none) (τ := mc b9 (⟨m_thr ms, m_is ms, m_um ms, m_bd ms, (fltS 1 p6).2.2.2.2.2.1, (fltS 1 p6).2.2.2.2.2.2, nI n, nI (fltS 1 p6).2.1, nI (fltS 1 p6).2.2.1, (fltS 1 p6).2.2.2.1, (fltS 1 p6).2.2.2.2.1, m_ps ms, (fltS 1 p6).1, m_asd ms, m_und ms, m_sav ms, m_isv ms, B, m_grp ms, m_pag ms⟩ : MM) σ0) (c_faults b9 (⟨m_thr ms, m_is ms, m_um ms, m_bd ms, p6.2.2.2.2.2.1, p6.2.2.2.2.2.2, nI n, nI p6.2.1, nI p6.2.2.1, p6.2.2.2.1, p6.2.2.2.2.1, m_ps ms, p6.1, m_asd ms, m_und ms, m_sav ms, m_isv ms, B, m_grp ms, m_pag ms⟩ : MM) σ0 p6 B 1) tX2_faults q2360 (mc_0 _ _ _) rfl rfl dX2_readsText_65 (by decide) (Nat.le_of_eq (Nat.zero_add _)) (Nat.le_of_ble_eq_true rfl) ?_
        obtain ⟨p7, e_p7⟩ : ∃ q, q = te4 B n p := ⟨_, rfl⟩
        refine A_st (σ' := mc b9 (⟨m_thr ms, m_is ms, m_um ms, m_bd ms, p7.2.2.2.2.2.1, p7.2.2.2.2.2.2, nI n, nI p7.2.1, nI p7.2.2.1, p7.2.2.2.1, p7.2.2.2.2.1, m_ps ms, p7.1, m_asd ms, m_und ms, m_sav ms, m_isv ms, B, m_grp ms, m_pag ms⟩ : MM) σ0) (by rw [e_p7, te4, e6, if_neg c2]) ?_
        refine A_aload_n (i := 0) dX2_readsText_68 rfl rfl ?_
        refine M_get 1 (v := .ref (b9 + 1)) (Nat.le_of_ble_eq_true rfl) q2230 rfl dX2_readsText_69 ?_
        refine A_bipush (v := 6) dX2_readsText_72 (by decide) ?_
        refine M_ald1 (n := 6) (v := p7.1 6) (rfl) (by decide) (rfl) dX2_readsText_74 ?_
        refine A_if_eq (tgt := 98) dX2_readsText_75 (by decide) (fun c6 => ?_) (fun c6 => ?_)
        · skip
          refine A_aload_n (i := 0) dX2_readsText_98 rfl rfl ?_
          refine A_iconst (v := 4) dX2_readsText_99 (by decide) ?_
          refine A_callV1E (v := none) (τ := mc b9 (⟨m_thr ms, m_is ms, m_um ms, m_bd ms, (fltS 4 p7).2.2.2.2.2.1, (fltS 4 p7).2.2.2.2.2.2, nI n, nI (fltS 4 p7).2.1, nI (fltS 4 p7).2.2.1, (fltS 4 p7).2.2.2.1, (fltS 4 p7).2.2.2.2.1, m_ps ms, (fltS 4 p7).1, m_asd ms, m_und ms, m_sav ms, m_isv ms, B, m_grp ms, m_pag ms⟩ : MM) σ0) (c_faults b9 (⟨m_thr ms, m_is ms, m_um ms, m_bd ms, p7.2.2.2.2.2.1, p7.2.2.2.2.2.2, nI n, nI p7.2.1, nI p7.2.2.1, p7.2.2.2.1, p7.2.2.2.2.1, m_ps ms, p7.1, m_asd ms, m_und ms, m_sav ms, m_isv ms, B, m_grp ms, m_pag ms⟩ : MM) σ0 p7 B 4) tX2_faults q2360 (mc_0 _ _ _) rfl rfl dX2_readsText_100 (by decide) (Nat.le_of_eq (Nat.zero_add _)) (Nat.le_of_ble_eq_true rfl) ?_
          exact A_vret dX2_readsText_103 rfl ⟨rfl, by rw [teS, ← e_p7, if_pos (Or.inl c6)]⟩
        · skip
          refine A_aload_n (i := 0) dX2_readsText_78 rfl rfl ?_
          refine M_get 1 (v := .ref (b9 + 1)) (Nat.le_of_ble_eq_true rfl) q2230 rfl dX2_readsText_79 ?_
          refine A_bipush (v := 7) dX2_readsText_82 (by decide) ?_
          refine M_ald1 (n := 7) (v := p7.1 7) (rfl) (by decide) (rfl) dX2_readsText_84 ?_
          refine A_if_eq (tgt := 98) dX2_readsText_85 (by decide) (fun c7 => ?_) (fun c7 => ?_)
          · skip
            refine A_aload_n (i := 0) dX2_readsText_98 rfl rfl ?_
            refine A_iconst (v := 4) dX2_readsText_99 (by decide) ?_
            refine A_callV1E (v := none) (τ := mc b9 (⟨m_thr ms, m_is ms, m_um ms, m_bd ms, (fltS 4 p7).2.2.2.2.2.1, (fltS 4 p7).2.2.2.2.2.2, nI n, nI (fltS 4 p7).2.1, nI (fltS 4 p7).2.2.1, (fltS 4 p7).2.2.2.1, (fltS 4 p7).2.2.2.2.1, m_ps ms, (fltS 4 p7).1, m_asd ms, m_und ms, m_sav ms, m_isv ms, B, m_grp ms, m_pag ms⟩ : MM) σ0) (c_faults b9 (⟨m_thr ms, m_is ms, m_um ms, m_bd ms, p7.2.2.2.2.2.1, p7.2.2.2.2.2.2, nI n, nI p7.2.1, nI p7.2.2.1, p7.2.2.2.1, p7.2.2.2.2.1, m_ps ms, p7.1, m_asd ms, m_und ms, m_sav ms, m_isv ms, B, m_grp ms, m_pag ms⟩ : MM) σ0 p7 B 4) tX2_faults q2360 (mc_0 _ _ _) rfl rfl dX2_readsText_100 (by decide) (Nat.le_of_eq (Nat.zero_add _)) (Nat.le_of_ble_eq_true rfl) ?_
            exact A_vret dX2_readsText_103 rfl ⟨rfl, by rw [teS, ← e_p7, if_pos (Or.inr (Or.inl c7))]⟩
          · skip
            refine A_aload_n (i := 0) dX2_readsText_88 rfl rfl ?_
            refine M_get 1 (v := .ref (b9 + 1)) (Nat.le_of_ble_eq_true rfl) q2230 rfl dX2_readsText_89 ?_
            refine A_bipush (v := 8) dX2_readsText_92 (by decide) ?_
            refine M_ald1 (n := 8) (v := p7.1 8) (rfl) (by decide) (rfl) dX2_readsText_94 ?_
            refine A_if_ne (tgt := 103) dX2_readsText_95 (by decide) (fun c8 => ?_) (fun c8 => ?_)
            · skip
              exact A_vret dX2_readsText_103 rfl ⟨rfl, by rw [teS, ← e_p7, if_neg (fun h => h.elim c6 (fun h => h.elim c7 c8))]⟩
            · skip
              refine A_aload_n (i := 0) dX2_readsText_98 rfl rfl ?_
              refine A_iconst (v := 4) dX2_readsText_99 (by decide) ?_
              refine A_callV1E (v := none) (τ := mc b9 (⟨m_thr ms, m_is ms, m_um ms, m_bd ms, (fltS 4 p7).2.2.2.2.2.1, (fltS 4 p7).2.2.2.2.2.2, nI n, nI (fltS 4 p7).2.1, nI (fltS 4 p7).2.2.1, (fltS 4 p7).2.2.2.1, (fltS 4 p7).2.2.2.2.1, m_ps ms, (fltS 4 p7).1, m_asd ms, m_und ms, m_sav ms, m_isv ms, B, m_grp ms, m_pag ms⟩ : MM) σ0) (c_faults b9 (⟨m_thr ms, m_is ms, m_um ms, m_bd ms, p7.2.2.2.2.2.1, p7.2.2.2.2.2.2, nI n, nI p7.2.1, nI p7.2.2.1, p7.2.2.2.1, p7.2.2.2.2.1, m_ps ms, p7.1, m_asd ms, m_und ms, m_sav ms, m_isv ms, B, m_grp ms, m_pag ms⟩ : MM) σ0 p7 B 4) tX2_faults q2360 (mc_0 _ _ _) rfl rfl dX2_readsText_100 (by decide) (Nat.le_of_eq (Nat.zero_add _)) (Nat.le_of_ble_eq_true rfl) ?_
              exact A_vret dX2_readsText_103 rfl ⟨rfl, by rw [teS, ← e_p7, if_pos (Or.inr (Or.inr c8))]⟩
  · skip
    have c1 := bi_eq0.mp c1
    refine A_aload_n (i := 0) dX2_readsText_13 rfl rfl ?_
    refine A_iconst (v := 1) dX2_readsText_14 (by decide) ?_
    refine A_callV1E (v := none) (τ := mc b9 (⟨m_thr ms, m_is ms, m_um ms, m_bd ms, (fltS 1 p1).2.2.2.2.2.1, (fltS 1 p1).2.2.2.2.2.2, nI n, nI (fltS 1 p1).2.1, nI (fltS 1 p1).2.2.1, (fltS 1 p1).2.2.2.1, (fltS 1 p1).2.2.2.2.1, m_ps ms, (fltS 1 p1).1, m_asd ms, m_und ms, m_sav ms, m_isv ms, B, m_grp ms, m_pag ms⟩ : MM) σ0) (c_faults b9 (⟨m_thr ms, m_is ms, m_um ms, m_bd ms, p1.2.2.2.2.2.1, p1.2.2.2.2.2.2, nI n, nI p1.2.1, nI p1.2.2.1, p1.2.2.2.1, p1.2.2.2.2.1, m_ps ms, p1.1, m_asd ms, m_und ms, m_sav ms, m_isv ms, B, m_grp ms, m_pag ms⟩ : MM) σ0 p1 B 1) tX2_faults q2360 (mc_0 _ _ _) rfl rfl dX2_readsText_15 (by decide) (Nat.le_of_eq (Nat.zero_add _)) (Nat.le_of_ble_eq_true rfl) ?_
    obtain ⟨p2, e_p2⟩ : ∃ q, q = (if wordP B wLine p1 then p1 else fltS 1 p1) := ⟨_, rfl⟩
    have k_p2 : pOK n p2 := by rw [e_p2, if_neg c1]; exact flt_ok (by decide) k_p1
    refine A_st (σ' := mc b9 (⟨m_thr ms, m_is ms, m_um ms, m_bd ms, p2.2.2.2.2.2.1, p2.2.2.2.2.2.2, nI n, nI p2.2.1, nI p2.2.2.1, p2.2.2.2.1, p2.2.2.2.2.1, m_ps ms, p2.1, m_asd ms, m_und ms, m_sav ms, m_isv ms, B, m_grp ms, m_pag ms⟩ : MM) σ0) (by rw [e_p2, if_neg c1]) ?_
    refine A_aload_n (i := 0) dX2_readsText_18 rfl rfl ?_
    refine A_callV0E (v := none) (τ := mc b9 (⟨m_thr ms, m_is ms, m_um ms, m_bd ms, (goesS B n p2).2.2.2.2.2.1, (goesS B n p2).2.2.2.2.2.2, nI n, nI (goesS B n p2).2.1, nI (goesS B n p2).2.2.1, (goesS B n p2).2.2.2.1, (goesS B n p2).2.2.2.2.1, m_ps ms, (goesS B n p2).1, m_asd ms, m_und ms, m_sav ms, m_isv ms, B, m_grp ms, m_pag ms⟩ : MM) σ0) (c_goes b9 (⟨m_thr ms, m_is ms, m_um ms, m_bd ms, p2.2.2.2.2.2.1, p2.2.2.2.2.2.2, nI n, nI p2.2.1, nI p2.2.2.1, p2.2.2.2.1, p2.2.2.2.2.1, m_ps ms, p2.1, m_asd ms, m_und ms, m_sav ms, m_isv ms, B, m_grp ms, m_pag ms⟩ : MM) σ0 n p2 B (k_p2.1) (h2)) tX2_goes q2337 (mc_0 _ _ _) rfl rfl dX2_readsText_19 (by decide) (Nat.le_of_eq (Nat.zero_add _)) (Nat.le_of_ble_eq_true rfl) ?_
    obtain ⟨p3, e_p3⟩ : ∃ q, q = goesS B n p2 := ⟨_, rfl⟩
    have k_p3 : pOK n p3 := by rw [e_p3]; exact (goes_ok k_p2)
    rw [← e_p3]
    refine A_aload_n (i := 0) dX2_readsText_22 rfl rfl ?_
    refine M_get 1 (v := .ref (b9 + 1)) (Nat.le_of_ble_eq_true rfl) q2230 rfl dX2_readsText_23 ?_
    refine A_bipush (v := 9) dX2_readsText_26 (by decide) ?_
    refine A_aload_n (i := 0) dX2_readsText_28 rfl rfl ?_
    refine A_iconst (v := 1) dX2_readsText_29 (by decide) ?_
    refine A_bipush (v := 8) dX2_readsText_30 (by decide) ?_
    refine A_callV2E (v := some (.int (nhV 1 8 p3))) (τ := mc b9 (⟨m_thr ms, m_is ms, m_um ms, m_bd ms, (nuS B n 1 8 p3).2.2.2.2.2.1, (nuS B n 1 8 p3).2.2.2.2.2.2, nI n, nI (nuS B n 1 8 p3).2.1, nI (nuS B n 1 8 p3).2.2.1, (nuS B n 1 8 p3).2.2.2.1, (nuS B n 1 8 p3).2.2.2.2.1, m_ps ms, (nuS B n 1 8 p3).1, m_asd ms, m_und ms, m_sav ms, m_isv ms, B, m_grp ms, m_pag ms⟩ : MM) σ0) (c_number b9 (⟨m_thr ms, m_is ms, m_um ms, m_bd ms, p3.2.2.2.2.2.1, p3.2.2.2.2.2.2, nI n, nI p3.2.1, nI p3.2.2.1, p3.2.2.2.1, p3.2.2.2.2.1, m_ps ms, p3.1, m_asd ms, m_und ms, m_sav ms, m_isv ms, B, m_grp ms, m_pag ms⟩ : MM) σ0 n p3 B 1 8 (k_p3) (h2)) tX2_number q2364 (mc_0 _ _ _) rfl rfl dX2_readsText_32 (by decide) (Nat.le_of_eq (Nat.zero_add _)) (Nat.le_of_ble_eq_true rfl) ?_
    obtain ⟨p4, e_p4⟩ : ∃ q, q = nuS B n 1 8 p3 := ⟨_, rfl⟩
    have k_p4 : pOK n p4 := by rw [e_p4]; exact (nu_ok k_p3)
    rw [← e_p4]
    refine M_astT1 (n := 9) (na := va_up p4.1 9 (nhV 1 8 p3)) (rfl) (by decide) (rfl) dX2_readsText_35 ?_
    have e3 : te1 B n p = p3 := by rw [te1, ← e_p1, ← e_p2, ← e_p3]
    obtain ⟨p5, e_p5⟩ : ∃ q, q = te2 B n p := ⟨_, rfl⟩
    have k_p5 : pOK n p5 := by rw [e_p5]; exact te2_ok (by rw [e3]; exact k_p3)
    refine A_st (σ' := mc b9 (⟨m_thr ms, m_is ms, m_um ms, m_bd ms, p5.2.2.2.2.2.1, p5.2.2.2.2.2.2, nI n, nI p5.2.1, nI p5.2.2.1, p5.2.2.2.1, p5.2.2.2.2.1, m_ps ms, p5.1, m_asd ms, m_und ms, m_sav ms, m_isv ms, B, m_grp ms, m_pag ms⟩ : MM) σ0) (by rw [e_p5, te2, e3, ← e_p4] <;> rfl) ?_
    obtain ⟨K, hK⟩ : ∃ K, K = liK B n p5 := ⟨_, rfl⟩
    have hKi : ∀ k, k < K → isP 4 (liU B n p5 k) := fun k hk => li_in (by rw [← hK]; exact hk)
    have hKo : ¬ isP 4 (liU B n p5 K) := by rw [hK]; exact li_out k_p5
    refine A_sub (L' := [(0, .ref b9)]) ⟨rfl, trivial⟩ ?_
    refine A_for K (fun i36 => 0) (fun i36 => [(0, .ref b9)]) (fun i36 => mc b9 (⟨m_thr ms, m_is ms, m_um ms, m_bd ms, (liU B n p5 i36).2.2.2.2.2.1, (liU B n p5 i36).2.2.2.2.2.2, nI n, nI (liU B n p5 i36).2.1, nI (liU B n p5 i36).2.2.1, (liU B n p5 i36).2.2.2.1, (liU B n p5 i36).2.2.2.2.1, m_ps ms, (liU B n p5 i36).1, m_asd ms, m_und ms, m_sav ms, m_isv ms, B, m_grp ms, m_pag ms⟩ : MM) σ0) (fun i36 => True) trivial (fun i36 hi36 hI36 ih36 => ?_) (fun hI36 => ?_)
    · skip
      refine A_aload_n (i := 0) dX2_readsText_36 rfl rfl ?_
      refine A_iconst (v := 4) dX2_readsText_37 (by decide) ?_
      refine A_callV1E (v := some (.int (bi (isP 4 (liU B n p5 i36))))) (τ := mc b9 (⟨m_thr ms, m_is ms, m_um ms, m_bd ms, (liU B n p5 i36).2.2.2.2.2.1, (liU B n p5 i36).2.2.2.2.2.2, nI n, nI (liU B n p5 i36).2.1, nI (liU B n p5 i36).2.2.1, (liU B n p5 i36).2.2.2.1, (liU B n p5 i36).2.2.2.2.1, m_ps ms, (liU B n p5 i36).1, m_asd ms, m_und ms, m_sav ms, m_isv ms, B, m_grp ms, m_pag ms⟩ : MM) σ0) (c_is b9 (⟨m_thr ms, m_is ms, m_um ms, m_bd ms, (liU B n p5 i36).2.2.2.2.2.1, (liU B n p5 i36).2.2.2.2.2.2, nI n, nI (liU B n p5 i36).2.1, nI (liU B n p5 i36).2.2.1, (liU B n p5 i36).2.2.2.1, (liU B n p5 i36).2.2.2.2.1, m_ps ms, (liU B n p5 i36).1, m_asd ms, m_und ms, m_sav ms, m_isv ms, B, m_grp ms, m_pag ms⟩ : MM) σ0 (liU B n p5 i36) B 4) tX2_is q2354 (mc_0 _ _ _) rfl rfl dX2_readsText_38 (by decide) (Nat.le_of_eq (Nat.zero_add _)) (Nat.le_of_ble_eq_true rfl) ?_
      refine A_if_eq_f (tgt := 55) dX2_readsText_41 (by decide) (bi_ne0.mpr (hKi i36 hi36)) ?_
      refine A_aload_n (i := 0) dX2_readsText_44 rfl rfl ?_
      refine A_callV0E (v := none) (τ := mc b9 (⟨m_thr ms, m_is ms, m_um ms, m_bd ms, (goesS B n (liU B n p5 i36)).2.2.2.2.2.1, (goesS B n (liU B n p5 i36)).2.2.2.2.2.2, nI n, nI (goesS B n (liU B n p5 i36)).2.1, nI (goesS B n (liU B n p5 i36)).2.2.1, (goesS B n (liU B n p5 i36)).2.2.2.1, (goesS B n (liU B n p5 i36)).2.2.2.2.1, m_ps ms, (goesS B n (liU B n p5 i36)).1, m_asd ms, m_und ms, m_sav ms, m_isv ms, B, m_grp ms, m_pag ms⟩ : MM) σ0) (c_goes b9 (⟨m_thr ms, m_is ms, m_um ms, m_bd ms, (liU B n p5 i36).2.2.2.2.2.1, (liU B n p5 i36).2.2.2.2.2.2, nI n, nI (liU B n p5 i36).2.1, nI (liU B n p5 i36).2.2.1, (liU B n p5 i36).2.2.2.1, (liU B n p5 i36).2.2.2.2.1, m_ps ms, (liU B n p5 i36).1, m_asd ms, m_und ms, m_sav ms, m_isv ms, B, m_grp ms, m_pag ms⟩ : MM) σ0 n (liU B n p5 i36) B ((li_ok k_p5 i36).1) (h2)) tX2_goes q2337 (mc_0 _ _ _) rfl rfl dX2_readsText_45 (by decide) (Nat.le_of_eq (Nat.zero_add _)) (Nat.le_of_ble_eq_true rfl) ?_
      refine A_aload_n (i := 0) dX2_readsText_48 rfl rfl ?_
      refine A_callV0E (v := none) (τ := mc b9 (⟨m_thr ms, m_is ms, m_um ms, m_bd ms, (thS B n (goesS B n (liU B n p5 i36))).2.2.2.2.2.1, (thS B n (goesS B n (liU B n p5 i36))).2.2.2.2.2.2, nI n, nI (thS B n (goesS B n (liU B n p5 i36))).2.1, nI (thS B n (goesS B n (liU B n p5 i36))).2.2.1, (thS B n (goesS B n (liU B n p5 i36))).2.2.2.1, (thS B n (goesS B n (liU B n p5 i36))).2.2.2.2.1, m_ps ms, (thS B n (goesS B n (liU B n p5 i36))).1, m_asd ms, m_und ms, m_sav ms, m_isv ms, B, m_grp ms, m_pag ms⟩ : MM) σ0) (c_readsThing b9 (⟨m_thr ms, m_is ms, m_um ms, m_bd ms, (goesS B n (liU B n p5 i36)).2.2.2.2.2.1, (goesS B n (liU B n p5 i36)).2.2.2.2.2.2, nI n, nI (goesS B n (liU B n p5 i36)).2.1, nI (goesS B n (liU B n p5 i36)).2.2.1, (goesS B n (liU B n p5 i36)).2.2.2.1, (goesS B n (liU B n p5 i36)).2.2.2.2.1, m_ps ms, (goesS B n (liU B n p5 i36)).1, m_asd ms, m_und ms, m_sav ms, m_isv ms, B, m_grp ms, m_pag ms⟩ : MM) σ0 n (goesS B n (liU B n p5 i36)) B ((goes_ok (li_ok k_p5 i36))) (h2)) tX2_readsThing q2372 (mc_0 _ _ _) rfl rfl dX2_readsText_49 (by decide) (Nat.le_of_eq (Nat.zero_add _)) (Nat.le_of_ble_eq_true rfl) ?_
      refine A_goto (tgt := 36) dX2_readsText_52 (by decide) ?_
      refine A_sub (L' := [(0, .ref b9)]) ⟨rfl, trivial⟩ ?_
      refine A_st (σ' := mc b9 (⟨m_thr ms, m_is ms, m_um ms, m_bd ms, (liU B n p5 (i36 + 1)).2.2.2.2.2.1, (liU B n p5 (i36 + 1)).2.2.2.2.2.2, nI n, nI (liU B n p5 (i36 + 1)).2.1, nI (liU B n p5 (i36 + 1)).2.2.1, (liU B n p5 (i36 + 1)).2.2.2.1, (liU B n p5 (i36 + 1)).2.2.2.2.1, m_ps ms, (liU B n p5 (i36 + 1)).1, m_asd ms, m_und ms, m_sav ms, m_isv ms, B, m_grp ms, m_pag ms⟩ : MM) σ0) (by rw [liU_s]) ?_
      exact ih36 trivial
    · skip
      refine A_aload_n (i := 0) dX2_readsText_36 rfl rfl ?_
      refine A_iconst (v := 4) dX2_readsText_37 (by decide) ?_
      refine A_callV1E (v := some (.int (bi (isP 4 (liU B n p5 K))))) (τ := mc b9 (⟨m_thr ms, m_is ms, m_um ms, m_bd ms, (liU B n p5 K).2.2.2.2.2.1, (liU B n p5 K).2.2.2.2.2.2, nI n, nI (liU B n p5 K).2.1, nI (liU B n p5 K).2.2.1, (liU B n p5 K).2.2.2.1, (liU B n p5 K).2.2.2.2.1, m_ps ms, (liU B n p5 K).1, m_asd ms, m_und ms, m_sav ms, m_isv ms, B, m_grp ms, m_pag ms⟩ : MM) σ0) (c_is b9 (⟨m_thr ms, m_is ms, m_um ms, m_bd ms, (liU B n p5 K).2.2.2.2.2.1, (liU B n p5 K).2.2.2.2.2.2, nI n, nI (liU B n p5 K).2.1, nI (liU B n p5 K).2.2.1, (liU B n p5 K).2.2.2.1, (liU B n p5 K).2.2.2.2.1, m_ps ms, (liU B n p5 K).1, m_asd ms, m_und ms, m_sav ms, m_isv ms, B, m_grp ms, m_pag ms⟩ : MM) σ0 (liU B n p5 K) B 4) tX2_is q2354 (mc_0 _ _ _) rfl rfl dX2_readsText_38 (by decide) (Nat.le_of_eq (Nat.zero_add _)) (Nat.le_of_ble_eq_true rfl) ?_
      refine A_if_eq_t (tgt := 55) dX2_readsText_41 (by decide) (bi_eq0.mpr hKo) ?_
      obtain ⟨p6, e_p6⟩ : ∃ q, q = liU B n p5 K := ⟨_, rfl⟩
      have k_p6 : pOK n p6 := by rw [e_p6]; exact li_ok k_p5 K
      rw [← e_p6]
      have e6 : te3 B n p = p6 := by rw [te3, ← e_p5, ← hK, ← e_p6]
      refine A_aload_n (i := 0) dX2_readsText_55 rfl rfl ?_
      refine A_iconst (v := 1) dX2_readsText_56 (by decide) ?_
      refine A_callV1E (v := some (.int (bi (isP 1 p6)))) (τ := mc b9 (⟨m_thr ms, m_is ms, m_um ms, m_bd ms, p6.2.2.2.2.2.1, p6.2.2.2.2.2.2, nI n, nI p6.2.1, nI p6.2.2.1, p6.2.2.2.1, p6.2.2.2.2.1, m_ps ms, p6.1, m_asd ms, m_und ms, m_sav ms, m_isv ms, B, m_grp ms, m_pag ms⟩ : MM) σ0) (c_is b9 (⟨m_thr ms, m_is ms, m_um ms, m_bd ms, p6.2.2.2.2.2.1, p6.2.2.2.2.2.2, nI n, nI p6.2.1, nI p6.2.2.1, p6.2.2.2.1, p6.2.2.2.2.1, m_ps ms, p6.1, m_asd ms, m_und ms, m_sav ms, m_isv ms, B, m_grp ms, m_pag ms⟩ : MM) σ0 p6 B 1) tX2_is q2354 (mc_0 _ _ _) rfl rfl dX2_readsText_57 (by decide) (Nat.le_of_eq (Nat.zero_add _)) (Nat.le_of_ble_eq_true rfl) ?_
      refine A_if_ne (tgt := 68) dX2_readsText_60 (by decide) (fun c9 => ?_) (fun c9 => ?_)
      · skip
        have c9 := bi_ne0.mp c9
        obtain ⟨p7, e_p7⟩ : ∃ q, q = te4 B n p := ⟨_, rfl⟩
        refine A_st (σ' := mc b9 (⟨m_thr ms, m_is ms, m_um ms, m_bd ms, p7.2.2.2.2.2.1, p7.2.2.2.2.2.2, nI n, nI p7.2.1, nI p7.2.2.1, p7.2.2.2.1, p7.2.2.2.2.1, m_ps ms, p7.1, m_asd ms, m_und ms, m_sav ms, m_isv ms, B, m_grp ms, m_pag ms⟩ : MM) σ0) (by rw [e_p7, te4, e6, if_pos c9]) ?_
        refine A_aload_n (i := 0) dX2_readsText_68 rfl rfl ?_
        refine M_get 1 (v := .ref (b9 + 1)) (Nat.le_of_ble_eq_true rfl) q2230 rfl dX2_readsText_69 ?_
        refine A_bipush (v := 6) dX2_readsText_72 (by decide) ?_
        refine M_ald1 (n := 6) (v := p7.1 6) (rfl) (by decide) (rfl) dX2_readsText_74 ?_
        refine A_if_eq (tgt := 98) dX2_readsText_75 (by decide) (fun c10 => ?_) (fun c10 => ?_)
        · skip
          refine A_aload_n (i := 0) dX2_readsText_98 rfl rfl ?_
          refine A_iconst (v := 4) dX2_readsText_99 (by decide) ?_
          refine A_callV1E (v := none) (τ := mc b9 (⟨m_thr ms, m_is ms, m_um ms, m_bd ms, (fltS 4 p7).2.2.2.2.2.1, (fltS 4 p7).2.2.2.2.2.2, nI n, nI (fltS 4 p7).2.1, nI (fltS 4 p7).2.2.1, (fltS 4 p7).2.2.2.1, (fltS 4 p7).2.2.2.2.1, m_ps ms, (fltS 4 p7).1, m_asd ms, m_und ms, m_sav ms, m_isv ms, B, m_grp ms, m_pag ms⟩ : MM) σ0) (c_faults b9 (⟨m_thr ms, m_is ms, m_um ms, m_bd ms, p7.2.2.2.2.2.1, p7.2.2.2.2.2.2, nI n, nI p7.2.1, nI p7.2.2.1, p7.2.2.2.1, p7.2.2.2.2.1, m_ps ms, p7.1, m_asd ms, m_und ms, m_sav ms, m_isv ms, B, m_grp ms, m_pag ms⟩ : MM) σ0 p7 B 4) tX2_faults q2360 (mc_0 _ _ _) rfl rfl dX2_readsText_100 (by decide) (Nat.le_of_eq (Nat.zero_add _)) (Nat.le_of_ble_eq_true rfl) ?_
          exact A_vret dX2_readsText_103 rfl ⟨rfl, by rw [teS, ← e_p7, if_pos (Or.inl c10)]⟩
        · skip
          refine A_aload_n (i := 0) dX2_readsText_78 rfl rfl ?_
          refine M_get 1 (v := .ref (b9 + 1)) (Nat.le_of_ble_eq_true rfl) q2230 rfl dX2_readsText_79 ?_
          refine A_bipush (v := 7) dX2_readsText_82 (by decide) ?_
          refine M_ald1 (n := 7) (v := p7.1 7) (rfl) (by decide) (rfl) dX2_readsText_84 ?_
          refine A_if_eq (tgt := 98) dX2_readsText_85 (by decide) (fun c11 => ?_) (fun c11 => ?_)
          · skip
            refine A_aload_n (i := 0) dX2_readsText_98 rfl rfl ?_
            refine A_iconst (v := 4) dX2_readsText_99 (by decide) ?_
            refine A_callV1E (v := none) (τ := mc b9 (⟨m_thr ms, m_is ms, m_um ms, m_bd ms, (fltS 4 p7).2.2.2.2.2.1, (fltS 4 p7).2.2.2.2.2.2, nI n, nI (fltS 4 p7).2.1, nI (fltS 4 p7).2.2.1, (fltS 4 p7).2.2.2.1, (fltS 4 p7).2.2.2.2.1, m_ps ms, (fltS 4 p7).1, m_asd ms, m_und ms, m_sav ms, m_isv ms, B, m_grp ms, m_pag ms⟩ : MM) σ0) (c_faults b9 (⟨m_thr ms, m_is ms, m_um ms, m_bd ms, p7.2.2.2.2.2.1, p7.2.2.2.2.2.2, nI n, nI p7.2.1, nI p7.2.2.1, p7.2.2.2.1, p7.2.2.2.2.1, m_ps ms, p7.1, m_asd ms, m_und ms, m_sav ms, m_isv ms, B, m_grp ms, m_pag ms⟩ : MM) σ0 p7 B 4) tX2_faults q2360 (mc_0 _ _ _) rfl rfl dX2_readsText_100 (by decide) (Nat.le_of_eq (Nat.zero_add _)) (Nat.le_of_ble_eq_true rfl) ?_
            exact A_vret dX2_readsText_103 rfl ⟨rfl, by rw [teS, ← e_p7, if_pos (Or.inr (Or.inl c11))]⟩
          · skip
            refine A_aload_n (i := 0) dX2_readsText_88 rfl rfl ?_
            refine M_get 1 (v := .ref (b9 + 1)) (Nat.le_of_ble_eq_true rfl) q2230 rfl dX2_readsText_89 ?_
            refine A_bipush (v := 8) dX2_readsText_92 (by decide) ?_
            refine M_ald1 (n := 8) (v := p7.1 8) (rfl) (by decide) (rfl) dX2_readsText_94 ?_
            refine A_if_ne (tgt := 103) dX2_readsText_95 (by decide) (fun c12 => ?_) (fun c12 => ?_)
            · skip
              exact A_vret dX2_readsText_103 rfl ⟨rfl, by rw [teS, ← e_p7, if_neg (fun h => h.elim c10 (fun h => h.elim c11 c12))]⟩
            · skip
              refine A_aload_n (i := 0) dX2_readsText_98 rfl rfl ?_
              refine A_iconst (v := 4) dX2_readsText_99 (by decide) ?_
              refine A_callV1E (v := none) (τ := mc b9 (⟨m_thr ms, m_is ms, m_um ms, m_bd ms, (fltS 4 p7).2.2.2.2.2.1, (fltS 4 p7).2.2.2.2.2.2, nI n, nI (fltS 4 p7).2.1, nI (fltS 4 p7).2.2.1, (fltS 4 p7).2.2.2.1, (fltS 4 p7).2.2.2.2.1, m_ps ms, (fltS 4 p7).1, m_asd ms, m_und ms, m_sav ms, m_isv ms, B, m_grp ms, m_pag ms⟩ : MM) σ0) (c_faults b9 (⟨m_thr ms, m_is ms, m_um ms, m_bd ms, p7.2.2.2.2.2.1, p7.2.2.2.2.2.2, nI n, nI p7.2.1, nI p7.2.2.1, p7.2.2.2.1, p7.2.2.2.2.1, m_ps ms, p7.1, m_asd ms, m_und ms, m_sav ms, m_isv ms, B, m_grp ms, m_pag ms⟩ : MM) σ0 p7 B 4) tX2_faults q2360 (mc_0 _ _ _) rfl rfl dX2_readsText_100 (by decide) (Nat.le_of_eq (Nat.zero_add _)) (Nat.le_of_ble_eq_true rfl) ?_
              exact A_vret dX2_readsText_103 rfl ⟨rfl, by rw [teS, ← e_p7, if_pos (Or.inr (Or.inr c12))]⟩
      · skip
        have c9 := bi_eq0.mp c9
        refine A_aload_n (i := 0) dX2_readsText_63 rfl rfl ?_
        refine A_iconst (v := 1) dX2_readsText_64 (by decide) ?_
        refine A_callV1E (v := none) (τ := mc b9 (⟨m_thr ms, m_is ms, m_um ms, m_bd ms, (fltS 1 p6).2.2.2.2.2.1, (fltS 1 p6).2.2.2.2.2.2, nI n, nI (fltS 1 p6).2.1, nI (fltS 1 p6).2.2.1, (fltS 1 p6).2.2.2.1, (fltS 1 p6).2.2.2.2.1, m_ps ms, (fltS 1 p6).1, m_asd ms, m_und ms, m_sav ms, m_isv ms, B, m_grp ms, m_pag ms⟩ : MM) σ0) (c_faults b9 (⟨m_thr ms, m_is ms, m_um ms, m_bd ms, p6.2.2.2.2.2.1, p6.2.2.2.2.2.2, nI n, nI p6.2.1, nI p6.2.2.1, p6.2.2.2.1, p6.2.2.2.2.1, m_ps ms, p6.1, m_asd ms, m_und ms, m_sav ms, m_isv ms, B, m_grp ms, m_pag ms⟩ : MM) σ0 p6 B 1) tX2_faults q2360 (mc_0 _ _ _) rfl rfl dX2_readsText_65 (by decide) (Nat.le_of_eq (Nat.zero_add _)) (Nat.le_of_ble_eq_true rfl) ?_
        obtain ⟨p7, e_p7⟩ : ∃ q, q = te4 B n p := ⟨_, rfl⟩
        refine A_st (σ' := mc b9 (⟨m_thr ms, m_is ms, m_um ms, m_bd ms, p7.2.2.2.2.2.1, p7.2.2.2.2.2.2, nI n, nI p7.2.1, nI p7.2.2.1, p7.2.2.2.1, p7.2.2.2.2.1, m_ps ms, p7.1, m_asd ms, m_und ms, m_sav ms, m_isv ms, B, m_grp ms, m_pag ms⟩ : MM) σ0) (by rw [e_p7, te4, e6, if_neg c9]) ?_
        refine A_aload_n (i := 0) dX2_readsText_68 rfl rfl ?_
        refine M_get 1 (v := .ref (b9 + 1)) (Nat.le_of_ble_eq_true rfl) q2230 rfl dX2_readsText_69 ?_
        refine A_bipush (v := 6) dX2_readsText_72 (by decide) ?_
        refine M_ald1 (n := 6) (v := p7.1 6) (rfl) (by decide) (rfl) dX2_readsText_74 ?_
        refine A_if_eq (tgt := 98) dX2_readsText_75 (by decide) (fun c13 => ?_) (fun c13 => ?_)
        · skip
          refine A_aload_n (i := 0) dX2_readsText_98 rfl rfl ?_
          refine A_iconst (v := 4) dX2_readsText_99 (by decide) ?_
          refine A_callV1E (v := none) (τ := mc b9 (⟨m_thr ms, m_is ms, m_um ms, m_bd ms, (fltS 4 p7).2.2.2.2.2.1, (fltS 4 p7).2.2.2.2.2.2, nI n, nI (fltS 4 p7).2.1, nI (fltS 4 p7).2.2.1, (fltS 4 p7).2.2.2.1, (fltS 4 p7).2.2.2.2.1, m_ps ms, (fltS 4 p7).1, m_asd ms, m_und ms, m_sav ms, m_isv ms, B, m_grp ms, m_pag ms⟩ : MM) σ0) (c_faults b9 (⟨m_thr ms, m_is ms, m_um ms, m_bd ms, p7.2.2.2.2.2.1, p7.2.2.2.2.2.2, nI n, nI p7.2.1, nI p7.2.2.1, p7.2.2.2.1, p7.2.2.2.2.1, m_ps ms, p7.1, m_asd ms, m_und ms, m_sav ms, m_isv ms, B, m_grp ms, m_pag ms⟩ : MM) σ0 p7 B 4) tX2_faults q2360 (mc_0 _ _ _) rfl rfl dX2_readsText_100 (by decide) (Nat.le_of_eq (Nat.zero_add _)) (Nat.le_of_ble_eq_true rfl) ?_
          exact A_vret dX2_readsText_103 rfl ⟨rfl, by rw [teS, ← e_p7, if_pos (Or.inl c13)]⟩
        · skip
          refine A_aload_n (i := 0) dX2_readsText_78 rfl rfl ?_
          refine M_get 1 (v := .ref (b9 + 1)) (Nat.le_of_ble_eq_true rfl) q2230 rfl dX2_readsText_79 ?_
          refine A_bipush (v := 7) dX2_readsText_82 (by decide) ?_
          refine M_ald1 (n := 7) (v := p7.1 7) (rfl) (by decide) (rfl) dX2_readsText_84 ?_
          refine A_if_eq (tgt := 98) dX2_readsText_85 (by decide) (fun c14 => ?_) (fun c14 => ?_)
          · skip
            refine A_aload_n (i := 0) dX2_readsText_98 rfl rfl ?_
            refine A_iconst (v := 4) dX2_readsText_99 (by decide) ?_
            refine A_callV1E (v := none) (τ := mc b9 (⟨m_thr ms, m_is ms, m_um ms, m_bd ms, (fltS 4 p7).2.2.2.2.2.1, (fltS 4 p7).2.2.2.2.2.2, nI n, nI (fltS 4 p7).2.1, nI (fltS 4 p7).2.2.1, (fltS 4 p7).2.2.2.1, (fltS 4 p7).2.2.2.2.1, m_ps ms, (fltS 4 p7).1, m_asd ms, m_und ms, m_sav ms, m_isv ms, B, m_grp ms, m_pag ms⟩ : MM) σ0) (c_faults b9 (⟨m_thr ms, m_is ms, m_um ms, m_bd ms, p7.2.2.2.2.2.1, p7.2.2.2.2.2.2, nI n, nI p7.2.1, nI p7.2.2.1, p7.2.2.2.1, p7.2.2.2.2.1, m_ps ms, p7.1, m_asd ms, m_und ms, m_sav ms, m_isv ms, B, m_grp ms, m_pag ms⟩ : MM) σ0 p7 B 4) tX2_faults q2360 (mc_0 _ _ _) rfl rfl dX2_readsText_100 (by decide) (Nat.le_of_eq (Nat.zero_add _)) (Nat.le_of_ble_eq_true rfl) ?_
            exact A_vret dX2_readsText_103 rfl ⟨rfl, by rw [teS, ← e_p7, if_pos (Or.inr (Or.inl c14))]⟩
          · skip
            refine A_aload_n (i := 0) dX2_readsText_88 rfl rfl ?_
            refine M_get 1 (v := .ref (b9 + 1)) (Nat.le_of_ble_eq_true rfl) q2230 rfl dX2_readsText_89 ?_
            refine A_bipush (v := 8) dX2_readsText_92 (by decide) ?_
            refine M_ald1 (n := 8) (v := p7.1 8) (rfl) (by decide) (rfl) dX2_readsText_94 ?_
            refine A_if_ne (tgt := 103) dX2_readsText_95 (by decide) (fun c15 => ?_) (fun c15 => ?_)
            · skip
              exact A_vret dX2_readsText_103 rfl ⟨rfl, by rw [teS, ← e_p7, if_neg (fun h => h.elim c13 (fun h => h.elim c14 c15))]⟩
            · skip
              refine A_aload_n (i := 0) dX2_readsText_98 rfl rfl ?_
              refine A_iconst (v := 4) dX2_readsText_99 (by decide) ?_
              refine A_callV1E (v := none) (τ := mc b9 (⟨m_thr ms, m_is ms, m_um ms, m_bd ms, (fltS 4 p7).2.2.2.2.2.1, (fltS 4 p7).2.2.2.2.2.2, nI n, nI (fltS 4 p7).2.1, nI (fltS 4 p7).2.2.1, (fltS 4 p7).2.2.2.1, (fltS 4 p7).2.2.2.2.1, m_ps ms, (fltS 4 p7).1, m_asd ms, m_und ms, m_sav ms, m_isv ms, B, m_grp ms, m_pag ms⟩ : MM) σ0) (c_faults b9 (⟨m_thr ms, m_is ms, m_um ms, m_bd ms, p7.2.2.2.2.2.1, p7.2.2.2.2.2.2, nI n, nI p7.2.1, nI p7.2.2.1, p7.2.2.2.1, p7.2.2.2.2.1, m_ps ms, p7.1, m_asd ms, m_und ms, m_sav ms, m_isv ms, B, m_grp ms, m_pag ms⟩ : MM) σ0 p7 B 4) tX2_faults q2360 (mc_0 _ _ _) rfl rfl dX2_readsText_100 (by decide) (Nat.le_of_eq (Nat.zero_add _)) (Nat.le_of_ble_eq_true rfl) ?_
              exact A_vret dX2_readsText_103 rfl ⟨rfl, by rw [teS, ← e_p7, if_pos (Or.inr (Or.inr c15))]⟩
