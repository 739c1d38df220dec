/-! THE MODEL 9: hanging all, a new flag, undo, slots, shares, groups -/
theorem haC_s (N : AF) (n : Nat) : haC N (n + 1) = haC N n + bi (haP (haU N n) n) := rfl
theorem sm_ex {p : Nat → Prop} [DecidablePred p] : ∀ n, ∃ m, m ≤ n ∧ sm (fun k => bi (p k)) n = nI m
  | 0 => ⟨0, Nat.le_refl _, rfl⟩
  | n + 1 => by
    obtain ⟨m, h1, h2⟩ := sm_ex (p := p) n
    rw [sm_s, h2]
    by_cases c : p n
    · exact ⟨m + 1, by omega, by rw [bi_t c]; exact nI_add m 1⟩
    · exact ⟨m, by omega, by rw [bi_f c]; exact nI_add m 0⟩
theorem smd_ex {f : Nat → Int32} {n : Nat} (h : ∀ k, k < n → ∃ x, x ≤ 9 ∧ f k = nI x) : ∃ m, m ≤ 9 * n ∧ sm f n = nI m := by
  induction n with
  | zero => exact ⟨0, Nat.le_refl _, rfl⟩
  | succ n ih =>
    obtain ⟨m, h1, h2⟩ := ih (fun k hk => h k (by omega))
    obtain ⟨x, h3, h4⟩ := h n (by omega)
    exact ⟨m + x, by omega, by rw [sm_s, h2, h4]; exact nI_add m x⟩
theorem ready_n : ∀ a, a < 25 → ∀ b, b < 13 → ¬ b = 0 → vf_n32 (FP.fdiv (FP.i2f (nI a)) (FP.i2f (nI b))) := by
  unfold vf_n32
  decide +kernel
theorem mean_n : ∀ a, a < 109 → ∀ b, b < 13 → ¬ b = 0 → vf_n64 (FP.ddiv (FP.i2d (nI a)) (FP.i2d (nI b))) := by
  unfold vf_n64
  decide +kernel
/-- the group that k joins, out of the groups up to now -/
def gJ (N G : AF) (h : Int32) (m k : Nat) : Nat := gF (fun q => joinP N G k (nI q) h) 0 m
abbrev gP (N : AF) (h : Int32) (k : Nat) : Prop := inBasket N k ∧ ¬ fl N k 3 = 0 ∧ h ≤ fl N k 2
def gU (N : AF) (h : Int32) : Nat → AF × Nat
  | 0 => (fun _ => 0, 0)
  | k + 1 => if gP N h k then (va_up (gU N h k).1 k (nI (gJ N (gU N h k).1 h (gU N h k).2 k)), max (gU N h k).2 (gJ N (gU N h k).1 h (gU N h k).2 k + 1)) else (va_up (gU N h k).1 k (-1), (gU N h k).2)
theorem gU_s (N : AF) (h : Int32) (k : Nat) : gU N h (k + 1) = if gP N h k then (va_up (gU N h k).1 k (nI (gJ N (gU N h k).1 h (gU N h k).2 k)), max (gU N h k).2 (gJ N (gU N h k).1 h (gU N h k).2 k + 1)) else (va_up (gU N h k).1 k (-1), (gU N h k).2) := rfl
theorem gJ_le (N G : AF) (h : Int32) (m k : Nat) : gJ N G h m k ≤ m := by
  have := (gF_le (fun q => joinP N G k (nI q) h) m 0).2
  unfold gJ
  omega
theorem gU_le (N : AF) (h : Int32) : ∀ k, (gU N h k).2 ≤ k
  | 0 => Nat.le_refl _
  | k + 1 => by
    have h1 := gU_le N h k
    have h2 := gJ_le N (gU N h k).1 h (gU N h k).2 k
    rw [gU_s]
    split <;> simp only [] <;> omega
theorem join_congr {N G G' : AF} {f : Nat} {k h : Int32} (e : ∀ j, j < f → G j = G' j) : joinP N G f k h ↔ joinP N G' f k h :=
  ⟨fun w j hj => by rw [← e j hj]; exact w j hj, fun w j hj => by rw [e j hj]; exact w j hj⟩
theorem gJ_congr {N G G' : AF} {h : Int32} {m f : Nat} (e : ∀ j, j < f → G j = G' j) : gJ N G h m f = gJ N G' h m f := by
  have h9 : ∀ k i, gF (fun q => joinP N G f (nI q) h) i k = gF (fun q => joinP N G' f (nI q) h) i k := by
    intro k
    induction k with
    | zero => intro i; rfl
    | succ k ih =>
      intro i
      unfold gF
      by_cases c : joinP N G f (nI i) h
      · rw [if_pos c, if_pos ((join_congr e).mp c)]
      · rw [if_neg c, if_neg (fun w => c ((join_congr e).mpr w)), ih]
  exact h9 m 0
theorem gJ_not {N G : AF} {h : Int32} {m k q : Nat} (hq : q < gJ N G h m k) : ¬ joinP N G k (nI q) h := gF_not (fun q => joinP N G k (nI q) h) m 0 q (Nat.zero_le _) hq
theorem gJ_at {N G : AF} {h : Int32} {m k : Nat} (hq : gJ N G h m k < m) : joinP N G k (nI (gJ N G h m k)) h := gF_at (fun q => joinP N G k (nI q) h) m 0 (by rw [Nat.zero_add]; exact hq)
theorem lt_nle {m n : Nat} (hn : n < 2 ^ 31) (h : ¬ nI m ≤ nI n) : n < m := by
  rcases Nat.lt_or_ge n m with q | q
  · exact q
  · exact absurd (Int32.not_lt.mp (nI_nlt q hn)) h
theorem up_up (A : AF) (k : Nat) (v w : Int32) : va_up (va_up A k v) k w = va_up A k w := by
  funext q
  unfold va_up
  by_cases e : q = k <;> simp [e]
theorem gU_in {N : AF} {h : Int32} {k : Nat} {u : AF} {v : Int32} (hu : ∀ j, j < k → u j = (gU N h k).1 j) (he : (gU N h (k + 1)).1 = va_up (gU N h k).1 k v) : ∀ j, j < k + 1 → va_up u k v j = (gU N h (k + 1)).1 j := by
  intro j hj
  rw [he]
  unfold va_up
  by_cases e : j = k
  · rw [if_pos e, if_pos e]
  · rw [if_neg e, if_neg e]
    exact hu j (by omega)
theorem mx_nI {a b : Nat} (ha : a < 2 ^ 31) (hb : b < 2 ^ 31) : mx (nI a) (nI b) = nI (max a b) := by
  unfold mx
  rcases Nat.lt_or_ge a b with q | q
  · rw [if_pos (nI_lt q hb), Nat.max_eq_right (by omega)]
  · rw [if_neg (nI_nlt q ha), Nat.max_eq_left q]
theorem c_hangAll {l : Launch} {g : GC} (b9 : Nat) (ms : MM) (σ0 : AH) (u : Nat) (h1 : WFc (m_now ms)) (h2 : u ≤ 8) : AMet l g mX2_hangAll 6 0 [.ref b9] (mc b9 (⟨m_thr ms, m_is ms, nI u, m_bd ms, m_pc ms, m_pa ms, m_sz ms, m_cu ms, m_st ms, m_tk ms, m_to ms, m_ps ms, m_now ms, m_asd ms, m_und ms, m_sav ms, m_isv ms, m_buf ms, m_grp ms, m_pag ms⟩ : MM) σ0) (A_eq (some (.int (gd (mayT (m_is ms) 1 1) (haC (m_now ms) (nF (m_now ms)))))) (mc b9 (⟨mayT (m_is ms) 1 1, m_is ms, nI (gq (mayT (m_is ms) 1 1) (remC u) u), m_bd ms, m_pc ms, m_pa ms, m_sz ms, m_cu ms, m_st ms, m_tk ms, m_to ms, m_ps ms, gq (mayT (m_is ms) 1 1) (haU (m_now ms) (nF (m_now ms))) (m_now ms), m_asd ms, gq (mayT (m_is ms) 1 1) (remU (m_und ms) (m_now ms) u) (m_und ms), m_sav ms, m_isv ms, m_buf ms, m_grp ms, m_pag ms⟩ : MM) σ0)) A_no := by
  refine A_of rfl (by decide) (Nat.le_of_ble_eq_true rfl) (L0 := [(0, .ref b9)]) rfl ?_
  have hF := h1.2.2.2.2.2
  have hC := h1.1.2
  refine A_aload_n (i := 0) dX2_hangAll_0 rfl rfl ?_
  refine A_callV0E (v := some (.int (bi (mayT (m_is ms) 1 1 = 0)))) (τ := mc b9 (⟨mayT (m_is ms) 1 1, m_is ms, nI u, m_bd ms, m_pc ms, m_pa ms, m_sz ms, m_cu ms, m_st ms, m_tk ms, m_to ms, m_ps ms, m_now ms, m_asd ms, m_und ms, m_sav ms, m_isv ms, m_buf ms, m_grp ms, m_pag ms⟩ : MM) σ0) (c_mayLook b9 (⟨m_thr ms, m_is ms, nI u, m_bd ms, m_pc ms, m_pa ms, m_sz ms, m_cu ms, m_st ms, m_tk ms, m_to ms, m_ps ms, m_now ms, m_asd ms, m_und ms, m_sav ms, m_isv ms, m_buf ms, m_grp ms, m_pag ms⟩ : MM) σ0) tX2_mayLook q2669 (mc_0 _ _ _) rfl rfl dX2_hangAll_1 (by decide) (Nat.le_of_eq (Nat.zero_add _)) (Nat.le_of_ble_eq_true rfl) ?_
  refine A_if_ne (tgt := 9) dX2_hangAll_4 (by decide) (fun c1 => ?_) (fun c1 => ?_)
  · skip
    have c1 := bi_ne0.mp c1
    refine A_aload_n (i := 0) dX2_hangAll_9 rfl rfl ?_
    refine A_callV0E (v := none) (τ := mc b9 (⟨mayT (m_is ms) 1 1, m_is ms, nI (remC u), m_bd ms, m_pc ms, m_pa ms, m_sz ms, m_cu ms, m_st ms, m_tk ms, m_to ms, m_ps ms, m_now ms, m_asd ms, remU (m_und ms) (m_now ms) u, m_sav ms, m_isv ms, m_buf ms, m_grp ms, m_pag ms⟩ : MM) σ0) (c_remembers b9 (⟨mayT (m_is ms) 1 1, m_is ms, nI u, m_bd ms, m_pc ms, m_pa ms, m_sz ms, m_cu ms, m_st ms, m_tk ms, m_to ms, m_ps ms, m_now ms, m_asd ms, m_und ms, m_sav ms, m_isv ms, m_buf ms, m_grp ms, m_pag ms⟩ : MM) σ0 u (by first | assumption | omega)) tX2_remembers q2899 (mc_0 _ _ _) rfl rfl dX2_hangAll_10 (by decide) (Nat.le_of_eq (Nat.zero_add _)) (Nat.le_of_ble_eq_true rfl) ?_
    refine A_iconst (v := 0) dX2_hangAll_13 (by decide) ?_
    refine A_istore_n (i := 1) dX2_hangAll_14 rfl (Nat.le_of_ble_eq_true rfl) ?_
    refine A_iconst (v := 0) dX2_hangAll_15 (by decide) ?_
    refine A_istore_n (i := 2) dX2_hangAll_16 rfl (Nat.le_of_ble_eq_true rfl) ?_
    refine A_sub (L' := [(0, .ref b9), (1, .int (haC (m_now ms) 0)), (2, .int (nI 0))]) ⟨rfl, rfl, rfl, trivial⟩ ?_
    refine A_for (nF (m_now ms)) (fun i17 => 0) (fun i17 => [(0, .ref b9), (1, .int (haC (m_now ms) i17)), (2, .int (nI i17))]) (fun i17 => mc b9 (⟨mayT (m_is ms) 1 1, m_is ms, nI (remC u), m_bd ms, m_pc ms, m_pa ms, m_sz ms, m_cu ms, m_st ms, m_tk ms, m_to ms, m_ps ms, haU (m_now ms) i17, m_asd ms, remU (m_und ms) (m_now ms) u, m_sav ms, m_isv ms, m_buf ms, m_grp ms, m_pag ms⟩ : MM) σ0) (fun i17 => True) trivial (fun i17 hi17 hI17 ih17 => ?_) (fun hI17 => ?_)
    · skip
      refine A_iload_n (i := 2) dX2_hangAll_17 rfl rfl ?_
      refine A_aload_n (i := 0) dX2_hangAll_18 rfl rfl ?_
      refine M_get 1 (v := .ref (b9 + 1)) (Nat.le_of_ble_eq_true rfl) q2230 rfl dX2_hangAll_19 ?_
      refine A_bipush (v := 10) dX2_hangAll_22 (by decide) ?_
      refine M_ald1 (n := 10) (v := (haU (m_now ms) i17) 10) (rfl) (by decide) (rfl) dX2_hangAll_24 ?_
      refine A_icmp_ge_f (tgt := 62) dX2_hangAll_25 (by decide) (br_lt ((hdr_haU _ _).eqF h1) hi17 (by omega)) ?_
      have wi : WFc (haU (m_now ms) i17) := (hdr_haU _ _).wf h1
      refine A_aload_n (i := 0) dX2_hangAll_28 rfl rfl ?_
      refine A_iload_n (i := 2) dX2_hangAll_29 rfl rfl ?_
      refine A_iconst (v := 4) dX2_hangAll_30 (by decide) ?_
      refine A_callV2E (v := some (.int (fl (haU (m_now ms) i17) i17 4))) (τ := mc b9 (⟨mayT (m_is ms) 1 1, m_is ms, nI (remC u), m_bd ms, m_pc ms, m_pa ms, m_sz ms, m_cu ms, m_st ms, m_tk ms, m_to ms, m_ps ms, haU (m_now ms) i17, m_asd ms, remU (m_und ms) (m_now ms) u, m_sav ms, m_isv ms, m_buf ms, m_grp ms, m_pag ms⟩ : MM) σ0) (c_ofFlag b9 (⟨mayT (m_is ms) 1 1, m_is ms, nI (remC u), m_bd ms, m_pc ms, m_pa ms, m_sz ms, m_cu ms, m_st ms, m_tk ms, m_to ms, m_ps ms, haU (m_now ms) i17, m_asd ms, remU (m_und ms) (m_now ms) u, m_sav ms, m_isv ms, m_buf ms, m_grp ms, m_pag ms⟩ : MM) σ0 i17 4 (by first | assumption | omega) (by first | assumption | omega)) tX2_ofFlag q2444 (mc_0 _ _ _) rfl rfl dX2_hangAll_31 (by decide) (Nat.le_of_eq (Nat.zero_add _)) (Nat.le_of_ble_eq_true rfl) ?_
      refine A_if_eq (tgt := 56) dX2_hangAll_34 (by decide) (fun c2 => ?_) (fun c2 => ?_)
      · skip
        refine A_iinc (v := nI (i17 + 1)) dX2_hangAll_56 rfl (nI_inc _ _) (Nat.le_of_ble_eq_true rfl) ?_
        refine A_goto (tgt := 17) dX2_hangAll_59 (by decide) ?_
        refine A_sub (L' := [(0, .ref b9), (1, .int (haC (m_now ms) (i17 + 1))), (2, .int (nI (i17 + 1)))]) ⟨rfl, lg_eq (by rw [haC_s, bi_f (fun h9 => h9.1 c2)] <;> simp), rfl, trivial⟩ ?_
        rw [show mc b9 (⟨mayT (m_is ms) 1 1, m_is ms, nI (remC u), m_bd ms, m_pc ms, m_pa ms, m_sz ms, m_cu ms, m_st ms, m_tk ms, m_to ms, m_ps ms, haU (m_now ms) i17, m_asd ms, remU (m_und ms) (m_now ms) u, m_sav ms, m_isv ms, m_buf ms, m_grp ms, m_pag ms⟩ : MM) σ0 = mc b9 (s_now (haU (m_now ms) (i17 + 1)) (⟨mayT (m_is ms) 1 1, m_is ms, nI (remC u), m_bd ms, m_pc ms, m_pa ms, m_sz ms, m_cu ms, m_st ms, m_tk ms, m_to ms, m_ps ms, haU (m_now ms) i17, m_asd ms, remU (m_und ms) (m_now ms) u, m_sav ms, m_isv ms, m_buf ms, m_grp ms, m_pag ms⟩ : MM)) σ0 by rw [haU_s, if_neg (fun h9 => h9.1 c2)] <;> rfl]
        exact ih17 trivial
      · skip
        refine A_aload_n (i := 0) dX2_hangAll_37 rfl rfl ?_
        refine A_iload_n (i := 2) dX2_hangAll_38 rfl rfl ?_
        refine A_callV1E (v := some (.int (bi (canHangN (haU (m_now ms) i17) i17)))) (τ := mc b9 (⟨mayT (m_is ms) 1 1, m_is ms, nI (remC u), m_bd ms, m_pc ms, m_pa ms, m_sz ms, m_cu ms, m_st ms, m_tk ms, m_to ms, m_ps ms, haU (m_now ms) i17, m_asd ms, remU (m_und ms) (m_now ms) u, m_sav ms, m_isv ms, m_buf ms, m_grp ms, m_pag ms⟩ : MM) σ0) (c_canHang b9 (⟨mayT (m_is ms) 1 1, m_is ms, nI (remC u), m_bd ms, m_pc ms, m_pa ms, m_sz ms, m_cu ms, m_st ms, m_tk ms, m_to ms, m_ps ms, haU (m_now ms) i17, m_asd ms, remU (m_und ms) (m_now ms) u, m_sav ms, m_isv ms, m_buf ms, m_grp ms, m_pag ms⟩ : MM) σ0 i17 (by first | assumption | omega) (by first | assumption | omega)) tX2_canHang q2515 (mc_0 _ _ _) rfl rfl dX2_hangAll_39 (by decide) (Nat.le_of_eq (Nat.zero_add _)) (Nat.le_of_ble_eq_true rfl) ?_
        refine A_if_ne (tgt := 48) dX2_hangAll_42 (by decide) (fun c3 => ?_) (fun c3 => ?_)
        · skip
          have c3 := bi_ne0.mp c3
          refine A_aload_n (i := 0) dX2_hangAll_48 rfl rfl ?_
          refine A_iload_n (i := 2) dX2_hangAll_49 rfl rfl ?_
          refine A_callV1E (v := none) (τ := mc b9 (⟨mayT (m_is ms) 1 1, m_is ms, nI (remC u), m_bd ms, m_pc ms, m_pa ms, m_sz ms, m_cu ms, m_st ms, m_tk ms, m_to ms, m_ps ms, goTo (haU (m_now ms) i17) i17 2 (freeN (haU (m_now ms) i17)), m_asd ms, remU (m_und ms) (m_now ms) u, m_sav ms, m_isv ms, m_buf ms, m_grp ms, m_pag ms⟩ : MM) σ0) (c_hangs b9 (⟨mayT (m_is ms) 1 1, m_is ms, nI (remC u), m_bd ms, m_pc ms, m_pa ms, m_sz ms, m_cu ms, m_st ms, m_tk ms, m_to ms, m_ps ms, haU (m_now ms) i17, m_asd ms, remU (m_und ms) (m_now ms) u, m_sav ms, m_isv ms, m_buf ms, m_grp ms, m_pag ms⟩ : MM) σ0 i17 (by first | assumption | omega) (by first | assumption | omega)) tX2_hangs q2527 (mc_0 _ _ _) rfl rfl dX2_hangAll_50 (by decide) (Nat.le_of_eq (Nat.zero_add _)) (Nat.le_of_ble_eq_true rfl) ?_
          refine A_iinc (v := (haC (m_now ms) i17 + 1)) dX2_hangAll_53 rfl (rfl) (Nat.le_of_ble_eq_true rfl) ?_
          refine A_iinc (v := nI (i17 + 1)) dX2_hangAll_56 rfl (nI_inc _ _) (Nat.le_of_ble_eq_true rfl) ?_
          refine A_goto (tgt := 17) dX2_hangAll_59 (by decide) ?_
          refine A_sub (L' := [(0, .ref b9), (1, .int (haC (m_now ms) (i17 + 1))), (2, .int (nI (i17 + 1)))]) ⟨rfl, lg_eq (by rw [haC_s, bi_t ⟨c2, c3⟩] <;> simp), rfl, trivial⟩ ?_
          rw [show mc b9 (⟨mayT (m_is ms) 1 1, m_is ms, nI (remC u), m_bd ms, m_pc ms, m_pa ms, m_sz ms, m_cu ms, m_st ms, m_tk ms, m_to ms, m_ps ms, goTo (haU (m_now ms) i17) i17 2 (freeN (haU (m_now ms) i17)), m_asd ms, remU (m_und ms) (m_now ms) u, m_sav ms, m_isv ms, m_buf ms, m_grp ms, m_pag ms⟩ : MM) σ0 = mc b9 (s_now (haU (m_now ms) (i17 + 1)) (⟨mayT (m_is ms) 1 1, m_is ms, nI (remC u), m_bd ms, m_pc ms, m_pa ms, m_sz ms, m_cu ms, m_st ms, m_tk ms, m_to ms, m_ps ms, goTo (haU (m_now ms) i17) i17 2 (freeN (haU (m_now ms) i17)), m_asd ms, remU (m_und ms) (m_now ms) u, m_sav ms, m_isv ms, m_buf ms, m_grp ms, m_pag ms⟩ : MM)) σ0 by rw [haU_s, if_pos ⟨c2, c3⟩] <;> rfl]
          exact ih17 trivial
        · skip
          have c3 := bi_eq0.mp c3
          refine A_goto (tgt := 56) dX2_hangAll_45 (by decide) ?_
          refine A_iinc (v := nI (i17 + 1)) dX2_hangAll_56 rfl (nI_inc _ _) (Nat.le_of_ble_eq_true rfl) ?_
          refine A_goto (tgt := 17) dX2_hangAll_59 (by decide) ?_
          refine A_sub (L' := [(0, .ref b9), (1, .int (haC (m_now ms) (i17 + 1))), (2, .int (nI (i17 + 1)))]) ⟨rfl, lg_eq (by rw [haC_s, bi_f (fun h9 => c3 h9.2)] <;> simp), rfl, trivial⟩ ?_
          rw [show mc b9 (⟨mayT (m_is ms) 1 1, m_is ms, nI (remC u), m_bd ms, m_pc ms, m_pa ms, m_sz ms, m_cu ms, m_st ms, m_tk ms, m_to ms, m_ps ms, haU (m_now ms) i17, m_asd ms, remU (m_und ms) (m_now ms) u, m_sav ms, m_isv ms, m_buf ms, m_grp ms, m_pag ms⟩ : MM) σ0 = mc b9 (s_now (haU (m_now ms) (i17 + 1)) (⟨mayT (m_is ms) 1 1, m_is ms, nI (remC u), m_bd ms, m_pc ms, m_pa ms, m_sz ms, m_cu ms, m_st ms, m_tk ms, m_to ms, m_ps ms, haU (m_now ms) i17, m_asd ms, remU (m_und ms) (m_now ms) u, m_sav ms, m_isv ms, m_buf ms, m_grp ms, m_pag ms⟩ : MM)) σ0 by rw [haU_s, if_neg (fun h9 => c3 h9.2)] <;> rfl]
          exact ih17 trivial
    · skip
      refine A_iload_n (i := 2) dX2_hangAll_17 rfl rfl ?_
      refine A_aload_n (i := 0) dX2_hangAll_18 rfl rfl ?_
      refine M_get 1 (v := .ref (b9 + 1)) (Nat.le_of_ble_eq_true rfl) q2230 rfl dX2_hangAll_19 ?_
      refine A_bipush (v := 10) dX2_hangAll_22 (by decide) ?_
      refine M_ald1 (n := 10) (v := (haU (m_now ms) (nF (m_now ms))) 10) (rfl) (by decide) (rfl) dX2_hangAll_24 ?_
      refine A_icmp_ge_t (tgt := 62) dX2_hangAll_25 (by decide) (br_ge ((hdr_haU _ _).eqF h1)) ?_
      refine A_iload_n (i := 1) dX2_hangAll_62 rfl rfl ?_
      exact A_iret dX2_hangAll_63 rfl ⟨by rw [gd, if_pos c1], by simp only [gq_t c1] <;> rfl⟩
  · skip
    have c1 := bi_eq0.mp c1
    refine A_iconst (v := 0) dX2_hangAll_7 (by decide) ?_
    exact A_iret dX2_hangAll_8 rfl ⟨by rw [gd, if_neg c1], by simp only [gq_f c1]⟩
theorem c_addsFlag {l : Launch} {g : GC} (b9 : Nat) (ms : MM) (σ0 : AH) (n : Int32) (o : Int32) (c : Int32) (d : Int32) (h1 : WFc (m_now ms)) (h2 : nF (m_now ms) < 12) : AMet l g mX2_addsFlag 3 0 [.ref b9, .int n, .int o, .int c, .int d] (mc b9 ms σ0) (A_eq (some (.int (nI (nF (m_now ms))))) (mc b9 (⟨m_thr ms, m_is ms, m_um ms, m_bd ms, m_pc ms, m_pa ms, m_sz ms, m_cu ms, m_st ms, m_tk ms, m_to ms, m_ps ms, addN (m_now ms) n o c d, m_asd ms, m_und ms, m_sav ms, m_isv ms, m_buf ms, m_grp ms, m_pag ms⟩ : MM) σ0)) A_no := by
  refine A_of rfl (by decide) (Nat.le_of_ble_eq_true rfl) (L0 := [(0, .ref b9), (1, .int n), (2, .int o), (3, .int c), (4, .int d)]) rfl ?_
  have hF := h1.2.2.2.2.2
  have hC := h1.1.2
  refine A_aload_n (i := 0) dX2_addsFlag_0 rfl rfl ?_
  refine M_get 1 (v := .ref (b9 + 1)) (Nat.le_of_ble_eq_true rfl) q2230 rfl dX2_addsFlag_1 ?_
  refine A_bipush (v := 10) dX2_addsFlag_4 (by decide) ?_
  refine M_ald1 (n := 10) (v := m_now ms 10) (rfl) (by decide) (rfl) dX2_addsFlag_6 ?_
  refine A_int (w := nI (nF (m_now ms))) (h1.2.2.2.2.1) ?_
  refine A_istore dX2_addsFlag_7 (Nat.le_of_ble_eq_true rfl) ?_
  refine A_iconst (v := 0) dX2_addsFlag_9 (by decide) ?_
  refine A_istore dX2_addsFlag_10 (Nat.le_of_ble_eq_true rfl) ?_
  refine A_sub (L' := [(0, .ref b9), (1, .int n), (2, .int o), (3, .int c), (4, .int d), (5, .int (nI (nF (m_now ms)))), (6, .int (nI 0))]) ⟨rfl, rfl, rfl, rfl, rfl, rfl, rfl, trivial⟩ ?_
  refine A_for 11 (fun i12 => 0) (fun i12 => [(0, .ref b9), (1, .int n), (2, .int o), (3, .int c), (4, .int d), (5, .int (nI (nF (m_now ms)))), (6, .int (nI i12))]) (fun i12 => mc b9 (⟨m_thr ms, m_is ms, m_um ms, m_bd ms, m_pc ms, m_pa ms, m_sz ms, m_cu ms, m_st ms, m_tk ms, m_to ms, m_ps ms, clrU (m_now ms) (nF (m_now ms)) i12, m_asd ms, m_und ms, m_sav ms, m_isv ms, m_buf ms, m_grp ms, m_pag ms⟩ : MM) σ0) (fun i12 => True) trivial (fun i12 hi12 hI12 ih12 => ?_) (fun hI12 => ?_)
  · skip
    refine A_iload dX2_addsFlag_12 rfl ?_
    refine A_bipush (v := 11) dX2_addsFlag_14 (by decide) ?_
    refine A_icmp_ge_f (tgt := 34) dX2_addsFlag_16 (by decide) (br_lt (n := 11) rfl hi12 (by omega)) ?_
    refine A_aload_n (i := 0) dX2_addsFlag_19 rfl rfl ?_
    refine A_iload dX2_addsFlag_20 rfl ?_
    refine A_iload dX2_addsFlag_22 rfl ?_
    refine A_iconst (v := 0) dX2_addsFlag_24 (by decide) ?_
    refine A_callV3E (v := none) (τ := mc b9 (⟨m_thr ms, m_is ms, m_um ms, m_bd ms, m_pc ms, m_pa ms, m_sz ms, m_cu ms, m_st ms, m_tk ms, m_to ms, m_ps ms, clrU (m_now ms) (nF (m_now ms)) (i12 + 1), m_asd ms, m_und ms, m_sav ms, m_isv ms, m_buf ms, m_grp ms, m_pag ms⟩ : MM) σ0) (c_putsFlag b9 (⟨m_thr ms, m_is ms, m_um ms, m_bd ms, m_pc ms, m_pa ms, m_sz ms, m_cu ms, m_st ms, m_tk ms, m_to ms, m_ps ms, clrU (m_now ms) (nF (m_now ms)) i12, m_asd ms, m_und ms, m_sav ms, m_isv ms, m_buf ms, m_grp ms, m_pag ms⟩ : MM) σ0 (nF (m_now ms)) i12 0 (by first | assumption | omega) (by first | assumption | omega)) tX2_putsFlag q2415 (mc_0 _ _ _) rfl rfl dX2_addsFlag_25 (by decide) (Nat.le_of_eq (Nat.zero_add _)) (Nat.le_of_ble_eq_true rfl) ?_
    refine A_iinc (v := nI (i12 + 1)) dX2_addsFlag_28 rfl (nI_inc _ _) (Nat.le_of_ble_eq_true rfl) ?_
    refine A_goto (tgt := 12) dX2_addsFlag_31 (by decide) ?_
    refine A_sub (L' := [(0, .ref b9), (1, .int n), (2, .int o), (3, .int c), (4, .int d), (5, .int (nI (nF (m_now ms)))), (6, .int (nI (i12 + 1)))]) ⟨rfl, rfl, rfl, rfl, rfl, rfl, rfl, trivial⟩ ?_
    exact ih12 trivial
  · skip
    refine A_iload dX2_addsFlag_12 rfl ?_
    refine A_bipush (v := 11) dX2_addsFlag_14 (by decide) ?_
    refine A_icmp_ge_t (tgt := 34) dX2_addsFlag_16 (by decide) (br_ge (n := 11) rfl) ?_
    refine A_aload_n (i := 0) dX2_addsFlag_34 rfl rfl ?_
    refine A_iload dX2_addsFlag_35 rfl ?_
    refine A_iconst (v := 0) dX2_addsFlag_37 (by decide) ?_
    refine A_iload_n (i := 1) dX2_addsFlag_38 rfl rfl ?_
    refine A_callV3E (v := none) (τ := mc b9 (⟨m_thr ms, m_is ms, m_um ms, m_bd ms, m_pc ms, m_pa ms, m_sz ms, m_cu ms, m_st ms, m_tk ms, m_to ms, m_ps ms, setFl (clrU (m_now ms) (nF (m_now ms)) 11) (nF (m_now ms)) 0 n, m_asd ms, m_und ms, m_sav ms, m_isv ms, m_buf ms, m_grp ms, m_pag ms⟩ : MM) σ0) (c_putsFlag b9 (⟨m_thr ms, m_is ms, m_um ms, m_bd ms, m_pc ms, m_pa ms, m_sz ms, m_cu ms, m_st ms, m_tk ms, m_to ms, m_ps ms, clrU (m_now ms) (nF (m_now ms)) 11, m_asd ms, m_und ms, m_sav ms, m_isv ms, m_buf ms, m_grp ms, m_pag ms⟩ : MM) σ0 (nF (m_now ms)) 0 n (by first | assumption | omega) (by first | assumption | omega)) tX2_putsFlag q2415 (mc_0 _ _ _) rfl rfl dX2_addsFlag_39 (by decide) (Nat.le_of_eq (Nat.zero_add _)) (Nat.le_of_ble_eq_true rfl) ?_
    refine A_aload_n (i := 0) dX2_addsFlag_42 rfl rfl ?_
    refine A_iload dX2_addsFlag_43 rfl ?_
    refine A_iconst (v := 1) dX2_addsFlag_45 (by decide) ?_
    refine A_iload_n (i := 2) dX2_addsFlag_46 rfl rfl ?_
    refine A_callV3E (v := none) (τ := mc b9 (⟨m_thr ms, m_is ms, m_um ms, m_bd ms, m_pc ms, m_pa ms, m_sz ms, m_cu ms, m_st ms, m_tk ms, m_to ms, m_ps ms, setFl (setFl (clrU (m_now ms) (nF (m_now ms)) 11) (nF (m_now ms)) 0 n) (nF (m_now ms)) 1 o, m_asd ms, m_und ms, m_sav ms, m_isv ms, m_buf ms, m_grp ms, m_pag ms⟩ : MM) σ0) (c_putsFlag b9 (⟨m_thr ms, m_is ms, m_um ms, m_bd ms, m_pc ms, m_pa ms, m_sz ms, m_cu ms, m_st ms, m_tk ms, m_to ms, m_ps ms, setFl (clrU (m_now ms) (nF (m_now ms)) 11) (nF (m_now ms)) 0 n, m_asd ms, m_und ms, m_sav ms, m_isv ms, m_buf ms, m_grp ms, m_pag ms⟩ : MM) σ0 (nF (m_now ms)) 1 o (by first | assumption | omega) (by first | assumption | omega)) tX2_putsFlag q2415 (mc_0 _ _ _) rfl rfl dX2_addsFlag_47 (by decide) (Nat.le_of_eq (Nat.zero_add _)) (Nat.le_of_ble_eq_true rfl) ?_
    refine A_aload_n (i := 0) dX2_addsFlag_50 rfl rfl ?_
    refine A_iload dX2_addsFlag_51 rfl ?_
    refine A_iconst (v := 2) dX2_addsFlag_53 (by decide) ?_
    refine A_iload_n (i := 3) dX2_addsFlag_54 rfl rfl ?_
    refine A_callV3E (v := none) (τ := mc b9 (⟨m_thr ms, m_is ms, m_um ms, m_bd ms, m_pc ms, m_pa ms, m_sz ms, m_cu ms, m_st ms, m_tk ms, m_to ms, m_ps ms, setFl (setFl (setFl (clrU (m_now ms) (nF (m_now ms)) 11) (nF (m_now ms)) 0 n) (nF (m_now ms)) 1 o) (nF (m_now ms)) 2 c, m_asd ms, m_und ms, m_sav ms, m_isv ms, m_buf ms, m_grp ms, m_pag ms⟩ : MM) σ0) (c_putsFlag b9 (⟨m_thr ms, m_is ms, m_um ms, m_bd ms, m_pc ms, m_pa ms, m_sz ms, m_cu ms, m_st ms, m_tk ms, m_to ms, m_ps ms, setFl (setFl (clrU (m_now ms) (nF (m_now ms)) 11) (nF (m_now ms)) 0 n) (nF (m_now ms)) 1 o, m_asd ms, m_und ms, m_sav ms, m_isv ms, m_buf ms, m_grp ms, m_pag ms⟩ : MM) σ0 (nF (m_now ms)) 2 c (by first | assumption | omega) (by first | assumption | omega)) tX2_putsFlag q2415 (mc_0 _ _ _) rfl rfl dX2_addsFlag_55 (by decide) (Nat.le_of_eq (Nat.zero_add _)) (Nat.le_of_ble_eq_true rfl) ?_
    refine A_aload_n (i := 0) dX2_addsFlag_58 rfl rfl ?_
    refine A_iload dX2_addsFlag_59 rfl ?_
    refine A_iconst (v := 3) dX2_addsFlag_61 (by decide) ?_
    refine A_iload dX2_addsFlag_62 rfl ?_
    refine A_callV3E (v := none) (τ := mc b9 (⟨m_thr ms, m_is ms, m_um ms, m_bd ms, m_pc ms, m_pa ms, m_sz ms, m_cu ms, m_st ms, m_tk ms, m_to ms, m_ps ms, af1 (m_now ms) n o c d, m_asd ms, m_und ms, m_sav ms, m_isv ms, m_buf ms, m_grp ms, m_pag ms⟩ : MM) σ0) (c_putsFlag b9 (⟨m_thr ms, m_is ms, m_um ms, m_bd ms, m_pc ms, m_pa ms, m_sz ms, m_cu ms, m_st ms, m_tk ms, m_to ms, m_ps ms, setFl (setFl (setFl (clrU (m_now ms) (nF (m_now ms)) 11) (nF (m_now ms)) 0 n) (nF (m_now ms)) 1 o) (nF (m_now ms)) 2 c, m_asd ms, m_und ms, m_sav ms, m_isv ms, m_buf ms, m_grp ms, m_pag ms⟩ : MM) σ0 (nF (m_now ms)) 3 d (by first | assumption | omega) (by first | assumption | omega)) tX2_putsFlag q2415 (mc_0 _ _ _) rfl rfl dX2_addsFlag_64 (by decide) (Nat.le_of_eq (Nat.zero_add _)) (Nat.le_of_ble_eq_true rfl) ?_
    refine A_aload_n (i := 0) dX2_addsFlag_67 rfl rfl ?_
    refine A_iload dX2_addsFlag_68 rfl ?_
    refine A_iconst (v := 0) dX2_addsFlag_70 (by decide) ?_
    refine A_iconst (v := (-1)) dX2_addsFlag_71 (by decide) ?_
    refine A_callV3E (v := none) (τ := mc b9 (⟨m_thr ms, m_is ms, m_um ms, m_bd ms, m_pc ms, m_pa ms, m_sz ms, m_cu ms, m_st ms, m_tk ms, m_to ms, m_ps ms, goTo (af1 (m_now ms) n o c d) (nF (m_now ms)) 0 (-1), m_asd ms, m_und ms, m_sav ms, m_isv ms, m_buf ms, m_grp ms, m_pag ms⟩ : MM) σ0) (c_goesTo b9 (⟨m_thr ms, m_is ms, m_um ms, m_bd ms, m_pc ms, m_pa ms, m_sz ms, m_cu ms, m_st ms, m_tk ms, m_to ms, m_ps ms, af1 (m_now ms) n o c d, m_asd ms, m_und ms, m_sav ms, m_isv ms, m_buf ms, m_grp ms, m_pag ms⟩ : MM) σ0 (nF (m_now ms)) 0 (-1) (by first | assumption | omega)) tX2_goesTo q2419 (mc_0 _ _ _) rfl rfl dX2_addsFlag_72 (by decide) (Nat.le_of_eq (Nat.zero_add _)) (Nat.le_of_ble_eq_true rfl) ?_
    refine A_aload_n (i := 0) dX2_addsFlag_75 rfl rfl ?_
    refine M_get 1 (v := .ref (b9 + 1)) (Nat.le_of_ble_eq_true rfl) q2230 rfl dX2_addsFlag_76 ?_
    refine A_bipush (v := 10) dX2_addsFlag_79 (by decide) ?_
    refine A_dup2 dX2_addsFlag_81 rfl rfl ?_
    refine M_ald1 (n := 10) (v := (goTo (af1 (m_now ms) n o c d) (nF (m_now ms)) 0 (-1)) 10) (rfl) (by decide) (rfl) dX2_addsFlag_82 ?_
    refine A_iconst (v := 1) dX2_addsFlag_83 (by decide) ?_
    refine A_iadd dX2_addsFlag_84 ?_
    refine M_ast1 (n := 10) (na := addN (m_now ms) n o c d) (rfl) (by decide) (rfl) dX2_addsFlag_85 ?_
    refine A_iload dX2_addsFlag_86 rfl ?_
    exact A_iret dX2_addsFlag_88 rfl ⟨rfl, rfl⟩
theorem c_addFlag {l : Launch} {g : GC} (b9 : Nat) (ms : MM) (σ0 : AH) (u : Nat) (n : Int32) (o : Int32) (c : Int32) (d : Int32) (h1 : WFc (m_now ms)) (h2 : u ≤ 8) : AMet l g mX2_addFlag 4 0 [.ref b9, .int n, .int o, .int c, .int d] (mc b9 (⟨m_thr ms, m_is ms, nI u, m_bd ms, m_pc ms, m_pa ms, m_sz ms, m_cu ms, m_st ms, m_tk ms, m_to ms, m_ps ms, m_now ms, m_asd ms, m_und ms, m_sav ms, m_isv ms, m_buf ms, m_grp ms, m_pag ms⟩ : MM) σ0) (A_eq (some (.int (gd (mayT (m_is ms) (bi (okN (m_is ms) (m_now ms) n)) (bi (okN (m_is ms) (m_now ms) n ∧ inR o 1 ((1 <<< ((m_now ms) 6 &&& 31)) - 1) ∧ inR c 0 3 ∧ inR d 0 9 ∧ ¬ na (m_now ms) (ix n) 3 = 1 ∧ ¬ 12 ≤ (m_now ms) 10))) (nI (nF (m_now ms)))))) (mc b9 (⟨mayT (m_is ms) (bi (okN (m_is ms) (m_now ms) n)) (bi (okN (m_is ms) (m_now ms) n ∧ inR o 1 ((1 <<< ((m_now ms) 6 &&& 31)) - 1) ∧ inR c 0 3 ∧ inR d 0 9 ∧ ¬ na (m_now ms) (ix n) 3 = 1 ∧ ¬ 12 ≤ (m_now ms) 10)), m_is ms, nI (gq (mayT (m_is ms) (bi (okN (m_is ms) (m_now ms) n)) (bi (okN (m_is ms) (m_now ms) n ∧ inR o 1 ((1 <<< ((m_now ms) 6 &&& 31)) - 1) ∧ inR c 0 3 ∧ inR d 0 9 ∧ ¬ na (m_now ms) (ix n) 3 = 1 ∧ ¬ 12 ≤ (m_now ms) 10))) (remC u) u), m_bd ms, m_pc ms, m_pa ms, m_sz ms, m_cu ms, m_st ms, m_tk ms, m_to ms, m_ps ms, gq (mayT (m_is ms) (bi (okN (m_is ms) (m_now ms) n)) (bi (okN (m_is ms) (m_now ms) n ∧ inR o 1 ((1 <<< ((m_now ms) 6 &&& 31)) - 1) ∧ inR c 0 3 ∧ inR d 0 9 ∧ ¬ na (m_now ms) (ix n) 3 = 1 ∧ ¬ 12 ≤ (m_now ms) 10))) (addN (m_now ms) n o c d) (m_now ms), m_asd ms, gq (mayT (m_is ms) (bi (okN (m_is ms) (m_now ms) n)) (bi (okN (m_is ms) (m_now ms) n ∧ inR o 1 ((1 <<< ((m_now ms) 6 &&& 31)) - 1) ∧ inR c 0 3 ∧ inR d 0 9 ∧ ¬ na (m_now ms) (ix n) 3 = 1 ∧ ¬ 12 ≤ (m_now ms) 10))) (remU (m_und ms) (m_now ms) u) (m_und ms), m_sav ms, m_isv ms, m_buf ms, m_grp ms, m_pag ms⟩ : MM) σ0)) A_no := by
  refine A_of rfl (by decide) (Nat.le_of_ble_eq_true rfl) (L0 := [(0, .ref b9), (1, .int n), (2, .int o), (3, .int c), (4, .int d)]) rfl ?_
  have hF := h1.2.2.2.2.2
  have hC := h1.1.2
  refine A_aload_n (i := 0) dX2_addFlag_0 rfl rfl ?_
  refine A_iload_n (i := 1) dX2_addFlag_1 rfl rfl ?_
  refine A_callV1E (v := some (.int (bi (okN (m_is ms) (m_now ms) n)))) (τ := mc b9 (⟨m_thr ms, m_is ms, nI u, m_bd ms, m_pc ms, m_pa ms, m_sz ms, m_cu ms, m_st ms, m_tk ms, m_to ms, m_ps ms, m_now ms, m_asd ms, m_und ms, m_sav ms, m_isv ms, m_buf ms, m_grp ms, m_pag ms⟩ : MM) σ0) (c_isNation b9 (⟨m_thr ms, m_is ms, nI u, m_bd ms, m_pc ms, m_pa ms, m_sz ms, m_cu ms, m_st ms, m_tk ms, m_to ms, m_ps ms, m_now ms, m_asd ms, m_und ms, m_sav ms, m_isv ms, m_buf ms, m_grp ms, m_pag ms⟩ : MM) σ0 n) tX2_isNation q2601 (mc_0 _ _ _) rfl rfl dX2_addFlag_2 (by decide) (Nat.le_of_eq (Nat.zero_add _)) (Nat.le_of_ble_eq_true rfl) ?_
  refine A_istore dX2_addFlag_5 (Nat.le_of_ble_eq_true rfl) ?_
  refine A_iload dX2_addFlag_7 rfl ?_
  refine A_if_eq (tgt := 55) dX2_addFlag_9 (by decide) (fun c1 => ?_) (fun c1 => ?_)
  · skip
    have c1 := bi_eq0.mp c1
    refine A_iconst (v := 0) dX2_addFlag_55 (by decide) ?_
    refine A_int (w := bi (okN (m_is ms) (m_now ms) n ∧ inR o 1 ((1 <<< ((m_now ms) 6 &&& 31)) - 1) ∧ inR c 0 3 ∧ inR d 0 9)) ((bi_f (fun h9 => c1 h9.1)).symm) ?_
    refine A_istore dX2_addFlag_56 (Nat.le_of_ble_eq_true rfl) ?_
    refine A_aload_n (i := 0) dX2_addFlag_58 rfl rfl ?_
    refine A_aload_n (i := 0) dX2_addFlag_59 rfl rfl ?_
    refine M_get 6 (v := .int (m_is ms)) (Nat.le_of_ble_eq_true rfl) q2235 rfl dX2_addFlag_60 ?_
    refine A_iload dX2_addFlag_63 rfl ?_
    refine A_iload dX2_addFlag_65 rfl ?_
    refine A_if_eq_t (tgt := 94) dX2_addFlag_67 (by decide) (bi_f (fun h9 => c1 h9.1)) ?_
    refine A_iconst (v := 0) dX2_addFlag_94 (by decide) ?_
    refine A_int (w := bi (okN (m_is ms) (m_now ms) n ∧ inR o 1 ((1 <<< (m_now ms 6 &&& 31)) - 1) ∧ inR c 0 3 ∧ inR d 0 9 ∧ ¬ na (m_now ms) (ix n) 3 = 1 ∧ ¬ 12 ≤ m_now ms 10)) ((bi_f (fun h9 => absurd (show okN (m_is ms) (m_now ms) n ∧ inR o 1 ((1 <<< ((m_now ms) 6 &&& 31)) - 1) ∧ inR c 0 3 ∧ inR d 0 9 from ⟨h9.1, h9.2.1, h9.2.2.1, h9.2.2.2.1⟩) (fun h9 => c1 h9.1))).symm) ?_
    refine A_callV3E (v := some (.int (bi (mayT (m_is ms) (bi (okN (m_is ms) (m_now ms) n)) (bi (okN (m_is ms) (m_now ms) n ∧ inR o 1 ((1 <<< (m_now ms 6 &&& 31)) - 1) ∧ inR c 0 3 ∧ inR d 0 9 ∧ ¬ na (m_now ms) (ix n) 3 = 1 ∧ ¬ 12 ≤ m_now ms 10)) = 0)))) (τ := mc b9 (⟨mayT (m_is ms) (bi (okN (m_is ms) (m_now ms) n)) (bi (okN (m_is ms) (m_now ms) n ∧ inR o 1 ((1 <<< (m_now ms 6 &&& 31)) - 1) ∧ inR c 0 3 ∧ inR d 0 9 ∧ ¬ na (m_now ms) (ix n) 3 = 1 ∧ ¬ 12 ≤ m_now ms 10)), m_is ms, nI u, m_bd ms, m_pc ms, m_pa ms, m_sz ms, m_cu ms, m_st ms, m_tk ms, m_to ms, m_ps ms, m_now ms, m_asd ms, m_und ms, m_sav ms, m_isv ms, m_buf ms, m_grp ms, m_pag ms⟩ : MM) σ0) (c_may b9 (⟨m_thr ms, m_is ms, nI u, m_bd ms, m_pc ms, m_pa ms, m_sz ms, m_cu ms, m_st ms, m_tk ms, m_to ms, m_ps ms, m_now ms, m_asd ms, m_und ms, m_sav ms, m_isv ms, m_buf ms, m_grp ms, m_pag ms⟩ : MM) σ0 (m_is ms) (bi (okN (m_is ms) (m_now ms) n)) (bi (okN (m_is ms) (m_now ms) n ∧ inR o 1 ((1 <<< (m_now ms 6 &&& 31)) - 1) ∧ inR c 0 3 ∧ inR d 0 9 ∧ ¬ na (m_now ms) (ix n) 3 = 1 ∧ ¬ 12 ≤ m_now ms 10))) tX2_may q2322 (mc_0 _ _ _) rfl rfl dX2_addFlag_95 (by decide) (Nat.le_of_eq (Nat.zero_add _)) (Nat.le_of_ble_eq_true rfl) ?_
    refine A_if_ne (tgt := 103) dX2_addFlag_98 (by decide) (fun c2 => ?_) (fun c2 => ?_)
    · skip
      have c2 := bi_ne0.mp c2
      exact (show False from (fun h9 => absurd (show okN (m_is ms) (m_now ms) n ∧ inR o 1 ((1 <<< ((m_now ms) 6 &&& 31)) - 1) ∧ inR c 0 3 ∧ inR d 0 9 from ⟨h9.1, h9.2.1, h9.2.2.1, h9.2.2.2.1⟩) (fun h9 => c1 h9.1)) (mayT_z c2)).elim
    · skip
      have c2 := bi_eq0.mp c2
      refine A_iconst (v := 0) dX2_addFlag_101 (by decide) ?_
      exact A_iret dX2_addFlag_102 rfl ⟨by rw [gd, if_neg c2], by simp only [gq_f c2]⟩
  · skip
    have c1 := bi_ne0.mp c1
    refine A_iload_n (i := 2) dX2_addFlag_12 rfl rfl ?_
    refine A_iconst (v := 1) dX2_addFlag_13 (by decide) ?_
    refine A_iconst (v := 1) dX2_addFlag_14 (by decide) ?_
    refine A_aload_n (i := 0) dX2_addFlag_15 rfl rfl ?_
    refine M_get 1 (v := .ref (b9 + 1)) (Nat.le_of_ble_eq_true rfl) q2230 rfl dX2_addFlag_16 ?_
    refine A_bipush (v := 6) dX2_addFlag_19 (by decide) ?_
    refine M_ald1 (n := 6) (v := m_now ms 6) (rfl) (by decide) (rfl) dX2_addFlag_21 ?_
    refine A_ishl dX2_addFlag_22 ?_
    refine A_iconst (v := 1) dX2_addFlag_23 (by decide) ?_
    refine A_isub dX2_addFlag_24 ?_
    refine A_callS3E (v := some (.int (bi (inR o 1 (((1 : Int32) <<< ((m_now ms 6) &&& 31)) - 1))))) (τ := mc b9 (⟨m_thr ms, m_is ms, nI u, m_bd ms, m_pc ms, m_pa ms, m_sz ms, m_cu ms, m_st ms, m_tk ms, m_to ms, m_ps ms, m_now ms, m_asd ms, m_und ms, m_sav ms, m_isv ms, m_buf ms, m_grp ms, m_pag ms⟩ : MM) σ0) (c_in b9 (⟨m_thr ms, m_is ms, nI u, m_bd ms, m_pc ms, m_pa ms, m_sz ms, m_cu ms, m_st ms, m_tk ms, m_to ms, m_ps ms, m_now ms, m_asd ms, m_und ms, m_sav ms, m_isv ms, m_buf ms, m_grp ms, m_pag ms⟩ : MM) σ0 o 1 (((1 : Int32) <<< ((m_now ms 6) &&& 31)) - 1)) tX2_in q2319 dX2_addFlag_25 (by decide) (Nat.le_of_eq (Nat.zero_add _)) (Nat.le_of_ble_eq_true rfl) ?_
    refine A_if_eq (tgt := 55) dX2_addFlag_28 (by decide) (fun c3 => ?_) (fun c3 => ?_)
    · skip
      have c3 := bi_eq0.mp c3
      refine A_iconst (v := 0) dX2_addFlag_55 (by decide) ?_
      refine A_int (w := bi (okN (m_is ms) (m_now ms) n ∧ inR o 1 ((1 <<< ((m_now ms) 6 &&& 31)) - 1) ∧ inR c 0 3 ∧ inR d 0 9)) ((bi_f (fun h9 => c3 h9.2.1)).symm) ?_
      refine A_istore dX2_addFlag_56 (Nat.le_of_ble_eq_true rfl) ?_
      refine A_aload_n (i := 0) dX2_addFlag_58 rfl rfl ?_
      refine A_aload_n (i := 0) dX2_addFlag_59 rfl rfl ?_
      refine M_get 6 (v := .int (m_is ms)) (Nat.le_of_ble_eq_true rfl) q2235 rfl dX2_addFlag_60 ?_
      refine A_iload dX2_addFlag_63 rfl ?_
      refine A_iload dX2_addFlag_65 rfl ?_
      refine A_if_eq_t (tgt := 94) dX2_addFlag_67 (by decide) (bi_f (fun h9 => c3 h9.2.1)) ?_
      refine A_iconst (v := 0) dX2_addFlag_94 (by decide) ?_
      refine A_int (w := bi (okN (m_is ms) (m_now ms) n ∧ inR o 1 ((1 <<< (m_now ms 6 &&& 31)) - 1) ∧ inR c 0 3 ∧ inR d 0 9 ∧ ¬ na (m_now ms) (ix n) 3 = 1 ∧ ¬ 12 ≤ m_now ms 10)) ((bi_f (fun h9 => absurd (show okN (m_is ms) (m_now ms) n ∧ inR o 1 ((1 <<< ((m_now ms) 6 &&& 31)) - 1) ∧ inR c 0 3 ∧ inR d 0 9 from ⟨h9.1, h9.2.1, h9.2.2.1, h9.2.2.2.1⟩) (fun h9 => c3 h9.2.1))).symm) ?_
      refine A_callV3E (v := some (.int (bi (mayT (m_is ms) (bi (okN (m_is ms) (m_now ms) n)) (bi (okN (m_is ms) (m_now ms) n ∧ inR o 1 ((1 <<< (m_now ms 6 &&& 31)) - 1) ∧ inR c 0 3 ∧ inR d 0 9 ∧ ¬ na (m_now ms) (ix n) 3 = 1 ∧ ¬ 12 ≤ m_now ms 10)) = 0)))) (τ := mc b9 (⟨mayT (m_is ms) (bi (okN (m_is ms) (m_now ms) n)) (bi (okN (m_is ms) (m_now ms) n ∧ inR o 1 ((1 <<< (m_now ms 6 &&& 31)) - 1) ∧ inR c 0 3 ∧ inR d 0 9 ∧ ¬ na (m_now ms) (ix n) 3 = 1 ∧ ¬ 12 ≤ m_now ms 10)), m_is ms, nI u, m_bd ms, m_pc ms, m_pa ms, m_sz ms, m_cu ms, m_st ms, m_tk ms, m_to ms, m_ps ms, m_now ms, m_asd ms, m_und ms, m_sav ms, m_isv ms, m_buf ms, m_grp ms, m_pag ms⟩ : MM) σ0) (c_may b9 (⟨m_thr ms, m_is ms, nI u, m_bd ms, m_pc ms, m_pa ms, m_sz ms, m_cu ms, m_st ms, m_tk ms, m_to ms, m_ps ms, m_now ms, m_asd ms, m_und ms, m_sav ms, m_isv ms, m_buf ms, m_grp ms, m_pag ms⟩ : MM) σ0 (m_is ms) (bi (okN (m_is ms) (m_now ms) n)) (bi (okN (m_is ms) (m_now ms) n ∧ inR o 1 ((1 <<< (m_now ms 6 &&& 31)) - 1) ∧ inR c 0 3 ∧ inR d 0 9 ∧ ¬ na (m_now ms) (ix n) 3 = 1 ∧ ¬ 12 ≤ m_now ms 10))) tX2_may q2322 (mc_0 _ _ _) rfl rfl dX2_addFlag_95 (by decide) (Nat.le_of_eq (Nat.zero_add _)) (Nat.le_of_ble_eq_true rfl) ?_
      refine A_if_ne (tgt := 103) dX2_addFlag_98 (by decide) (fun c4 => ?_) (fun c4 => ?_)
      · skip
        have c4 := bi_ne0.mp c4
        exact (show False from (fun h9 => absurd (show okN (m_is ms) (m_now ms) n ∧ inR o 1 ((1 <<< ((m_now ms) 6 &&& 31)) - 1) ∧ inR c 0 3 ∧ inR d 0 9 from ⟨h9.1, h9.2.1, h9.2.2.1, h9.2.2.2.1⟩) (fun h9 => c3 h9.2.1)) (mayT_z c4)).elim
      · skip
        have c4 := bi_eq0.mp c4
        refine A_iconst (v := 0) dX2_addFlag_101 (by decide) ?_
        exact A_iret dX2_addFlag_102 rfl ⟨by rw [gd, if_neg c4], by simp only [gq_f c4]⟩
    · skip
      have c3 := bi_ne0.mp c3
      refine A_iload_n (i := 3) dX2_addFlag_31 rfl rfl ?_
      refine A_iconst (v := 0) dX2_addFlag_32 (by decide) ?_
      refine A_iconst (v := 3) dX2_addFlag_33 (by decide) ?_
      refine A_callS3E (v := some (.int (bi (inR c 0 3)))) (τ := mc b9 (⟨m_thr ms, m_is ms, nI u, m_bd ms, m_pc ms, m_pa ms, m_sz ms, m_cu ms, m_st ms, m_tk ms, m_to ms, m_ps ms, m_now ms, m_asd ms, m_und ms, m_sav ms, m_isv ms, m_buf ms, m_grp ms, m_pag ms⟩ : MM) σ0) (c_in b9 (⟨m_thr ms, m_is ms, nI u, m_bd ms, m_pc ms, m_pa ms, m_sz ms, m_cu ms, m_st ms, m_tk ms, m_to ms, m_ps ms, m_now ms, m_asd ms, m_und ms, m_sav ms, m_isv ms, m_buf ms, m_grp ms, m_pag ms⟩ : MM) σ0 c 0 3) tX2_in q2319 dX2_addFlag_34 (by decide) (Nat.le_of_eq (Nat.zero_add _)) (Nat.le_of_ble_eq_true rfl) ?_
      refine A_if_eq (tgt := 55) dX2_addFlag_37 (by decide) (fun c5 => ?_) (fun c5 => ?_)
      · skip
        have c5 := bi_eq0.mp c5
        refine A_iconst (v := 0) dX2_addFlag_55 (by decide) ?_
        refine A_int (w := bi (okN (m_is ms) (m_now ms) n ∧ inR o 1 ((1 <<< ((m_now ms) 6 &&& 31)) - 1) ∧ inR c 0 3 ∧ inR d 0 9)) ((bi_f (fun h9 => c5 h9.2.2.1)).symm) ?_
        refine A_istore dX2_addFlag_56 (Nat.le_of_ble_eq_true rfl) ?_
        refine A_aload_n (i := 0) dX2_addFlag_58 rfl rfl ?_
        refine A_aload_n (i := 0) dX2_addFlag_59 rfl rfl ?_
        refine M_get 6 (v := .int (m_is ms)) (Nat.le_of_ble_eq_true rfl) q2235 rfl dX2_addFlag_60 ?_
        refine A_iload dX2_addFlag_63 rfl ?_
        refine A_iload dX2_addFlag_65 rfl ?_
        refine A_if_eq_t (tgt := 94) dX2_addFlag_67 (by decide) (bi_f (fun h9 => c5 h9.2.2.1)) ?_
        refine A_iconst (v := 0) dX2_addFlag_94 (by decide) ?_
        refine A_int (w := bi (okN (m_is ms) (m_now ms) n ∧ inR o 1 ((1 <<< (m_now ms 6 &&& 31)) - 1) ∧ inR c 0 3 ∧ inR d 0 9 ∧ ¬ na (m_now ms) (ix n) 3 = 1 ∧ ¬ 12 ≤ m_now ms 10)) ((bi_f (fun h9 => absurd (show okN (m_is ms) (m_now ms) n ∧ inR o 1 ((1 <<< ((m_now ms) 6 &&& 31)) - 1) ∧ inR c 0 3 ∧ inR d 0 9 from ⟨h9.1, h9.2.1, h9.2.2.1, h9.2.2.2.1⟩) (fun h9 => c5 h9.2.2.1))).symm) ?_
        refine A_callV3E (v := some (.int (bi (mayT (m_is ms) (bi (okN (m_is ms) (m_now ms) n)) (bi (okN (m_is ms) (m_now ms) n ∧ inR o 1 ((1 <<< (m_now ms 6 &&& 31)) - 1) ∧ inR c 0 3 ∧ inR d 0 9 ∧ ¬ na (m_now ms) (ix n) 3 = 1 ∧ ¬ 12 ≤ m_now ms 10)) = 0)))) (τ := mc b9 (⟨mayT (m_is ms) (bi (okN (m_is ms) (m_now ms) n)) (bi (okN (m_is ms) (m_now ms) n ∧ inR o 1 ((1 <<< (m_now ms 6 &&& 31)) - 1) ∧ inR c 0 3 ∧ inR d 0 9 ∧ ¬ na (m_now ms) (ix n) 3 = 1 ∧ ¬ 12 ≤ m_now ms 10)), m_is ms, nI u, m_bd ms, m_pc ms, m_pa ms, m_sz ms, m_cu ms, m_st ms, m_tk ms, m_to ms, m_ps ms, m_now ms, m_asd ms, m_und ms, m_sav ms, m_isv ms, m_buf ms, m_grp ms, m_pag ms⟩ : MM) σ0) (c_may b9 (⟨m_thr ms, m_is ms, nI u, m_bd ms, m_pc ms, m_pa ms, m_sz ms, m_cu ms, m_st ms, m_tk ms, m_to ms, m_ps ms, m_now ms, m_asd ms, m_und ms, m_sav ms, m_isv ms, m_buf ms, m_grp ms, m_pag ms⟩ : MM) σ0 (m_is ms) (bi (okN (m_is ms) (m_now ms) n)) (bi (okN (m_is ms) (m_now ms) n ∧ inR o 1 ((1 <<< (m_now ms 6 &&& 31)) - 1) ∧ inR c 0 3 ∧ inR d 0 9 ∧ ¬ na (m_now ms) (ix n) 3 = 1 ∧ ¬ 12 ≤ m_now ms 10))) tX2_may q2322 (mc_0 _ _ _) rfl rfl dX2_addFlag_95 (by decide) (Nat.le_of_eq (Nat.zero_add _)) (Nat.le_of_ble_eq_true rfl) ?_
        refine A_if_ne (tgt := 103) dX2_addFlag_98 (by decide) (fun c6 => ?_) (fun c6 => ?_)
        · skip
          have c6 := bi_ne0.mp c6
          exact (show False from (fun h9 => absurd (show okN (m_is ms) (m_now ms) n ∧ inR o 1 ((1 <<< ((m_now ms) 6 &&& 31)) - 1) ∧ inR c 0 3 ∧ inR d 0 9 from ⟨h9.1, h9.2.1, h9.2.2.1, h9.2.2.2.1⟩) (fun h9 => c5 h9.2.2.1)) (mayT_z c6)).elim
        · skip
          have c6 := bi_eq0.mp c6
          refine A_iconst (v := 0) dX2_addFlag_101 (by decide) ?_
          exact A_iret dX2_addFlag_102 rfl ⟨by rw [gd, if_neg c6], by simp only [gq_f c6]⟩
      · skip
        have c5 := bi_ne0.mp c5
        refine A_iload dX2_addFlag_40 rfl ?_
        refine A_iconst (v := 0) dX2_addFlag_42 (by decide) ?_
        refine A_bipush (v := 9) dX2_addFlag_43 (by decide) ?_
        refine A_callS3E (v := some (.int (bi (inR d 0 9)))) (τ := mc b9 (⟨m_thr ms, m_is ms, nI u, m_bd ms, m_pc ms, m_pa ms, m_sz ms, m_cu ms, m_st ms, m_tk ms, m_to ms, m_ps ms, m_now ms, m_asd ms, m_und ms, m_sav ms, m_isv ms, m_buf ms, m_grp ms, m_pag ms⟩ : MM) σ0) (c_in b9 (⟨m_thr ms, m_is ms, nI u, m_bd ms, m_pc ms, m_pa ms, m_sz ms, m_cu ms, m_st ms, m_tk ms, m_to ms, m_ps ms, m_now ms, m_asd ms, m_und ms, m_sav ms, m_isv ms, m_buf ms, m_grp ms, m_pag ms⟩ : MM) σ0 d 0 9) tX2_in q2319 dX2_addFlag_45 (by decide) (Nat.le_of_eq (Nat.zero_add _)) (Nat.le_of_ble_eq_true rfl) ?_
        refine A_if_eq (tgt := 55) dX2_addFlag_48 (by decide) (fun c7 => ?_) (fun c7 => ?_)
        · skip
          have c7 := bi_eq0.mp c7
          refine A_iconst (v := 0) dX2_addFlag_55 (by decide) ?_
          refine A_int (w := bi (okN (m_is ms) (m_now ms) n ∧ inR o 1 ((1 <<< ((m_now ms) 6 &&& 31)) - 1) ∧ inR c 0 3 ∧ inR d 0 9)) ((bi_f (fun h9 => c7 h9.2.2.2)).symm) ?_
          refine A_istore dX2_addFlag_56 (Nat.le_of_ble_eq_true rfl) ?_
          refine A_aload_n (i := 0) dX2_addFlag_58 rfl rfl ?_
          refine A_aload_n (i := 0) dX2_addFlag_59 rfl rfl ?_
          refine M_get 6 (v := .int (m_is ms)) (Nat.le_of_ble_eq_true rfl) q2235 rfl dX2_addFlag_60 ?_
          refine A_iload dX2_addFlag_63 rfl ?_
          refine A_iload dX2_addFlag_65 rfl ?_
          refine A_if_eq_t (tgt := 94) dX2_addFlag_67 (by decide) (bi_f (fun h9 => c7 h9.2.2.2)) ?_
          refine A_iconst (v := 0) dX2_addFlag_94 (by decide) ?_
          refine A_int (w := bi (okN (m_is ms) (m_now ms) n ∧ inR o 1 ((1 <<< (m_now ms 6 &&& 31)) - 1) ∧ inR c 0 3 ∧ inR d 0 9 ∧ ¬ na (m_now ms) (ix n) 3 = 1 ∧ ¬ 12 ≤ m_now ms 10)) ((bi_f (fun h9 => absurd (show okN (m_is ms) (m_now ms) n ∧ inR o 1 ((1 <<< ((m_now ms) 6 &&& 31)) - 1) ∧ inR c 0 3 ∧ inR d 0 9 from ⟨h9.1, h9.2.1, h9.2.2.1, h9.2.2.2.1⟩) (fun h9 => c7 h9.2.2.2))).symm) ?_
          refine A_callV3E (v := some (.int (bi (mayT (m_is ms) (bi (okN (m_is ms) (m_now ms) n)) (bi (okN (m_is ms) (m_now ms) n ∧ inR o 1 ((1 <<< (m_now ms 6 &&& 31)) - 1) ∧ inR c 0 3 ∧ inR d 0 9 ∧ ¬ na (m_now ms) (ix n) 3 = 1 ∧ ¬ 12 ≤ m_now ms 10)) = 0)))) (τ := mc b9 (⟨mayT (m_is ms) (bi (okN (m_is ms) (m_now ms) n)) (bi (okN (m_is ms) (m_now ms) n ∧ inR o 1 ((1 <<< (m_now ms 6 &&& 31)) - 1) ∧ inR c 0 3 ∧ inR d 0 9 ∧ ¬ na (m_now ms) (ix n) 3 = 1 ∧ ¬ 12 ≤ m_now ms 10)), m_is ms, nI u, m_bd ms, m_pc ms, m_pa ms, m_sz ms, m_cu ms, m_st ms, m_tk ms, m_to ms, m_ps ms, m_now ms, m_asd ms, m_und ms, m_sav ms, m_isv ms, m_buf ms, m_grp ms, m_pag ms⟩ : MM) σ0) (c_may b9 (⟨m_thr ms, m_is ms, nI u, m_bd ms, m_pc ms, m_pa ms, m_sz ms, m_cu ms, m_st ms, m_tk ms, m_to ms, m_ps ms, m_now ms, m_asd ms, m_und ms, m_sav ms, m_isv ms, m_buf ms, m_grp ms, m_pag ms⟩ : MM) σ0 (m_is ms) (bi (okN (m_is ms) (m_now ms) n)) (bi (okN (m_is ms) (m_now ms) n ∧ inR o 1 ((1 <<< (m_now ms 6 &&& 31)) - 1) ∧ inR c 0 3 ∧ inR d 0 9 ∧ ¬ na (m_now ms) (ix n) 3 = 1 ∧ ¬ 12 ≤ m_now ms 10))) tX2_may q2322 (mc_0 _ _ _) rfl rfl dX2_addFlag_95 (by decide) (Nat.le_of_eq (Nat.zero_add _)) (Nat.le_of_ble_eq_true rfl) ?_
          refine A_if_ne (tgt := 103) dX2_addFlag_98 (by decide) (fun c8 => ?_) (fun c8 => ?_)
          · skip
            have c8 := bi_ne0.mp c8
            exact (show False from (fun h9 => absurd (show okN (m_is ms) (m_now ms) n ∧ inR o 1 ((1 <<< ((m_now ms) 6 &&& 31)) - 1) ∧ inR c 0 3 ∧ inR d 0 9 from ⟨h9.1, h9.2.1, h9.2.2.1, h9.2.2.2.1⟩) (fun h9 => c7 h9.2.2.2)) (mayT_z c8)).elim
          · skip
            have c8 := bi_eq0.mp c8
            refine A_iconst (v := 0) dX2_addFlag_101 (by decide) ?_
            exact A_iret dX2_addFlag_102 rfl ⟨by rw [gd, if_neg c8], by simp only [gq_f c8]⟩
        · skip
          have c7 := bi_ne0.mp c7
          refine A_iconst (v := 1) dX2_addFlag_51 (by decide) ?_
          refine A_goto (tgt := 56) dX2_addFlag_52 (by decide) ?_
          refine A_int (w := bi (okN (m_is ms) (m_now ms) n ∧ inR o 1 ((1 <<< ((m_now ms) 6 &&& 31)) - 1) ∧ inR c 0 3 ∧ inR d 0 9)) ((bi_t ⟨c1, c3, c5, c7⟩).symm) ?_
          refine A_istore dX2_addFlag_56 (Nat.le_of_ble_eq_true rfl) ?_
          refine A_aload_n (i := 0) dX2_addFlag_58 rfl rfl ?_
          refine A_aload_n (i := 0) dX2_addFlag_59 rfl rfl ?_
          refine M_get 6 (v := .int (m_is ms)) (Nat.le_of_ble_eq_true rfl) q2235 rfl dX2_addFlag_60 ?_
          refine A_iload dX2_addFlag_63 rfl ?_
          refine A_iload dX2_addFlag_65 rfl ?_
          refine A_if_eq_f (tgt := 94) dX2_addFlag_67 (by decide) (bi_ne0.mpr ⟨c1, c3, c5, c7⟩) ?_
          obtain ⟨n9, hn9, rfl⟩ := okN_ex h1 (And.left (show okN (m_is ms) (m_now ms) n ∧ inR o 1 ((1 <<< ((m_now ms) 6 &&& 31)) - 1) ∧ inR c 0 3 ∧ inR d 0 9 from ⟨c1, c3, c5, c7⟩))
          have hN := h1.2.1.2
          try rw [ixn (show n9 < 2000 by omega)]
          refine A_aload_n (i := 0) dX2_addFlag_70 rfl rfl ?_
          refine A_iload_n (i := 1) dX2_addFlag_71 rfl rfl ?_
          refine A_callV1E (v := some (.int (bi (na (m_now ms) n9 3 = 1)))) (τ := mc b9 (⟨m_thr ms, m_is ms, nI u, m_bd ms, m_pc ms, m_pa ms, m_sz ms, m_cu ms, m_st ms, m_tk ms, m_to ms, m_ps ms, m_now ms, m_asd ms, m_und ms, m_sav ms, m_isv ms, m_buf ms, m_grp ms, m_pag ms⟩ : MM) σ0) (c_isHanded b9 (⟨m_thr ms, m_is ms, nI u, m_bd ms, m_pc ms, m_pa ms, m_sz ms, m_cu ms, m_st ms, m_tk ms, m_to ms, m_ps ms, m_now ms, m_asd ms, m_und ms, m_sav ms, m_isv ms, m_buf ms, m_grp ms, m_pag ms⟩ : MM) σ0 n9 (by first | assumption | omega)) tX2_isHanded q2617 (mc_0 _ _ _) rfl rfl dX2_addFlag_72 (by decide) (Nat.le_of_eq (Nat.zero_add _)) (Nat.le_of_ble_eq_true rfl) ?_
          refine A_if_ne (tgt := 94) dX2_addFlag_75 (by decide) (fun c9 => ?_) (fun c9 => ?_)
          · skip
            have c9 := bi_ne0.mp c9
            refine A_iconst (v := 0) dX2_addFlag_94 (by decide) ?_
            refine A_int (w := bi (okN (m_is ms) (m_now ms) (nI n9) ∧ inR o 1 ((1 <<< (m_now ms 6 &&& 31)) - 1) ∧ inR c 0 3 ∧ inR d 0 9 ∧ ¬ na (m_now ms) n9 3 = 1 ∧ ¬ 12 ≤ m_now ms 10)) ((bi_f (fun h9 => h9.2.2.2.2.1 c9)).symm) ?_
            refine A_callV3E (v := some (.int (bi (mayT (m_is ms) (bi (okN (m_is ms) (m_now ms) (nI n9))) (bi (okN (m_is ms) (m_now ms) (nI n9) ∧ inR o 1 ((1 <<< (m_now ms 6 &&& 31)) - 1) ∧ inR c 0 3 ∧ inR d 0 9 ∧ ¬ na (m_now ms) n9 3 = 1 ∧ ¬ 12 ≤ m_now ms 10)) = 0)))) (τ := mc b9 (⟨mayT (m_is ms) (bi (okN (m_is ms) (m_now ms) (nI n9))) (bi (okN (m_is ms) (m_now ms) (nI n9) ∧ inR o 1 ((1 <<< (m_now ms 6 &&& 31)) - 1) ∧ inR c 0 3 ∧ inR d 0 9 ∧ ¬ na (m_now ms) n9 3 = 1 ∧ ¬ 12 ≤ m_now ms 10)), m_is ms, nI u, m_bd ms, m_pc ms, m_pa ms, m_sz ms, m_cu ms, m_st ms, m_tk ms, m_to ms, m_ps ms, m_now ms, m_asd ms, m_und ms, m_sav ms, m_isv ms, m_buf ms, m_grp ms, m_pag ms⟩ : MM) σ0) (c_may b9 (⟨m_thr ms, m_is ms, nI u, m_bd ms, m_pc ms, m_pa ms, m_sz ms, m_cu ms, m_st ms, m_tk ms, m_to ms, m_ps ms, m_now ms, m_asd ms, m_und ms, m_sav ms, m_isv ms, m_buf ms, m_grp ms, m_pag ms⟩ : MM) σ0 (m_is ms) (bi (okN (m_is ms) (m_now ms) (nI n9))) (bi (okN (m_is ms) (m_now ms) (nI n9) ∧ inR o 1 ((1 <<< (m_now ms 6 &&& 31)) - 1) ∧ inR c 0 3 ∧ inR d 0 9 ∧ ¬ na (m_now ms) n9 3 = 1 ∧ ¬ 12 ≤ m_now ms 10))) tX2_may q2322 (mc_0 _ _ _) rfl rfl dX2_addFlag_95 (by decide) (Nat.le_of_eq (Nat.zero_add _)) (Nat.le_of_ble_eq_true rfl) ?_
            refine A_if_ne (tgt := 103) dX2_addFlag_98 (by decide) (fun c10 => ?_) (fun c10 => ?_)
            · skip
              have c10 := bi_ne0.mp c10
              exact (show False from (fun h9 => h9.2.2.2.2.1 c9) (mayT_z c10)).elim
            · skip
              have c10 := bi_eq0.mp c10
              refine A_iconst (v := 0) dX2_addFlag_101 (by decide) ?_
              exact A_iret dX2_addFlag_102 rfl ⟨by rw [gd, if_neg c10], by simp only [gq_f c10]⟩
          · skip
            have c9 := bi_eq0.mp c9
            refine A_aload_n (i := 0) dX2_addFlag_78 rfl rfl ?_
            refine M_get 1 (v := .ref (b9 + 1)) (Nat.le_of_ble_eq_true rfl) q2230 rfl dX2_addFlag_79 ?_
            refine A_bipush (v := 10) dX2_addFlag_82 (by decide) ?_
            refine M_ald1 (n := 10) (v := m_now ms 10) (rfl) (by decide) (rfl) dX2_addFlag_84 ?_
            refine A_bipush (v := 12) dX2_addFlag_85 (by decide) ?_
            refine A_icmp_ge (tgt := 94) dX2_addFlag_87 (by decide) (fun c11 => ?_) (fun c11 => ?_)
            · skip
              refine A_iconst (v := 0) dX2_addFlag_94 (by decide) ?_
              refine A_int (w := bi (okN (m_is ms) (m_now ms) (nI n9) ∧ inR o 1 ((1 <<< (m_now ms 6 &&& 31)) - 1) ∧ inR c 0 3 ∧ inR d 0 9 ∧ ¬ na (m_now ms) n9 3 = 1 ∧ ¬ 12 ≤ m_now ms 10)) ((bi_f (fun h9 => h9.2.2.2.2.2 c11)).symm) ?_
              refine A_callV3E (v := some (.int (bi (mayT (m_is ms) (bi (okN (m_is ms) (m_now ms) (nI n9))) (bi (okN (m_is ms) (m_now ms) (nI n9) ∧ inR o 1 ((1 <<< (m_now ms 6 &&& 31)) - 1) ∧ inR c 0 3 ∧ inR d 0 9 ∧ ¬ na (m_now ms) n9 3 = 1 ∧ ¬ 12 ≤ m_now ms 10)) = 0)))) (τ := mc b9 (⟨mayT (m_is ms) (bi (okN (m_is ms) (m_now ms) (nI n9))) (bi (okN (m_is ms) (m_now ms) (nI n9) ∧ inR o 1 ((1 <<< (m_now ms 6 &&& 31)) - 1) ∧ inR c 0 3 ∧ inR d 0 9 ∧ ¬ na (m_now ms) n9 3 = 1 ∧ ¬ 12 ≤ m_now ms 10)), m_is ms, nI u, m_bd ms, m_pc ms, m_pa ms, m_sz ms, m_cu ms, m_st ms, m_tk ms, m_to ms, m_ps ms, m_now ms, m_asd ms, m_und ms, m_sav ms, m_isv ms, m_buf ms, m_grp ms, m_pag ms⟩ : MM) σ0) (c_may b9 (⟨m_thr ms, m_is ms, nI u, m_bd ms, m_pc ms, m_pa ms, m_sz ms, m_cu ms, m_st ms, m_tk ms, m_to ms, m_ps ms, m_now ms, m_asd ms, m_und ms, m_sav ms, m_isv ms, m_buf ms, m_grp ms, m_pag ms⟩ : MM) σ0 (m_is ms) (bi (okN (m_is ms) (m_now ms) (nI n9))) (bi (okN (m_is ms) (m_now ms) (nI n9) ∧ inR o 1 ((1 <<< (m_now ms 6 &&& 31)) - 1) ∧ inR c 0 3 ∧ inR d 0 9 ∧ ¬ na (m_now ms) n9 3 = 1 ∧ ¬ 12 ≤ m_now ms 10))) tX2_may q2322 (mc_0 _ _ _) rfl rfl dX2_addFlag_95 (by decide) (Nat.le_of_eq (Nat.zero_add _)) (Nat.le_of_ble_eq_true rfl) ?_
              refine A_if_ne (tgt := 103) dX2_addFlag_98 (by decide) (fun c12 => ?_) (fun c12 => ?_)
              · skip
                have c12 := bi_ne0.mp c12
                exact (show False from (fun h9 => h9.2.2.2.2.2 c11) (mayT_z c12)).elim
              · skip
                have c12 := bi_eq0.mp c12
                refine A_iconst (v := 0) dX2_addFlag_101 (by decide) ?_
                exact A_iret dX2_addFlag_102 rfl ⟨by rw [gd, if_neg c12], by simp only [gq_f c12]⟩
            · skip
              refine A_iconst (v := 1) dX2_addFlag_90 (by decide) ?_
              refine A_goto (tgt := 95) dX2_addFlag_91 (by decide) ?_
              refine A_int (w := bi (okN (m_is ms) (m_now ms) (nI n9) ∧ inR o 1 ((1 <<< (m_now ms 6 &&& 31)) - 1) ∧ inR c 0 3 ∧ inR d 0 9 ∧ ¬ na (m_now ms) n9 3 = 1 ∧ ¬ 12 ≤ m_now ms 10)) ((bi_t ⟨c1, c3, c5, c7, c9, c11⟩).symm) ?_
              refine A_callV3E (v := some (.int (bi (mayT (m_is ms) (bi (okN (m_is ms) (m_now ms) (nI n9))) (bi (okN (m_is ms) (m_now ms) (nI n9) ∧ inR o 1 ((1 <<< (m_now ms 6 &&& 31)) - 1) ∧ inR c 0 3 ∧ inR d 0 9 ∧ ¬ na (m_now ms) n9 3 = 1 ∧ ¬ 12 ≤ m_now ms 10)) = 0)))) (τ := mc b9 (⟨mayT (m_is ms) (bi (okN (m_is ms) (m_now ms) (nI n9))) (bi (okN (m_is ms) (m_now ms) (nI n9) ∧ inR o 1 ((1 <<< (m_now ms 6 &&& 31)) - 1) ∧ inR c 0 3 ∧ inR d 0 9 ∧ ¬ na (m_now ms) n9 3 = 1 ∧ ¬ 12 ≤ m_now ms 10)), m_is ms, nI u, m_bd ms, m_pc ms, m_pa ms, m_sz ms, m_cu ms, m_st ms, m_tk ms, m_to ms, m_ps ms, m_now ms, m_asd ms, m_und ms, m_sav ms, m_isv ms, m_buf ms, m_grp ms, m_pag ms⟩ : MM) σ0) (c_may b9 (⟨m_thr ms, m_is ms, nI u, m_bd ms, m_pc ms, m_pa ms, m_sz ms, m_cu ms, m_st ms, m_tk ms, m_to ms, m_ps ms, m_now ms, m_asd ms, m_und ms, m_sav ms, m_isv ms, m_buf ms, m_grp ms, m_pag ms⟩ : MM) σ0 (m_is ms) (bi (okN (m_is ms) (m_now ms) (nI n9))) (bi (okN (m_is ms) (m_now ms) (nI n9) ∧ inR o 1 ((1 <<< (m_now ms 6 &&& 31)) - 1) ∧ inR c 0 3 ∧ inR d 0 9 ∧ ¬ na (m_now ms) n9 3 = 1 ∧ ¬ 12 ≤ m_now ms 10))) tX2_may q2322 (mc_0 _ _ _) rfl rfl dX2_addFlag_95 (by decide) (Nat.le_of_eq (Nat.zero_add _)) (Nat.le_of_ble_eq_true rfl) ?_
              refine A_if_ne (tgt := 103) dX2_addFlag_98 (by decide) (fun c13 => ?_) (fun c13 => ?_)
              · skip
                have c13 := bi_ne0.mp c13
                have hlt : nF (m_now ms) < 12 := lt_nle (m := 12) (by omega) (h1.2.2.2.2.1 ▸ (mayT_z c13).2.2.2.2.2)
                refine A_aload_n (i := 0) dX2_addFlag_103 rfl rfl ?_
                refine A_callV0E (v := none) (τ := mc b9 (⟨mayT (m_is ms) (bi (okN (m_is ms) (m_now ms) (nI n9))) (bi (okN (m_is ms) (m_now ms) (nI n9) ∧ inR o 1 ((1 <<< (m_now ms 6 &&& 31)) - 1) ∧ inR c 0 3 ∧ inR d 0 9 ∧ ¬ na (m_now ms) n9 3 = 1 ∧ ¬ 12 ≤ m_now ms 10)), m_is ms, nI (remC u), m_bd ms, m_pc ms, m_pa ms, m_sz ms, m_cu ms, m_st ms, m_tk ms, m_to ms, m_ps ms, m_now ms, m_asd ms, remU (m_und ms) (m_now ms) u, m_sav ms, m_isv ms, m_buf ms, m_grp ms, m_pag ms⟩ : MM) σ0) (c_remembers b9 (⟨mayT (m_is ms) (bi (okN (m_is ms) (m_now ms) (nI n9))) (bi (okN (m_is ms) (m_now ms) (nI n9) ∧ inR o 1 ((1 <<< (m_now ms 6 &&& 31)) - 1) ∧ inR c 0 3 ∧ inR d 0 9 ∧ ¬ na (m_now ms) n9 3 = 1 ∧ ¬ 12 ≤ m_now ms 10)), m_is ms, nI u, m_bd ms, m_pc ms, m_pa ms, m_sz ms, m_cu ms, m_st ms, m_tk ms, m_to ms, m_ps ms, m_now ms, m_asd ms, m_und ms, m_sav ms, m_isv ms, m_buf ms, m_grp ms, m_pag ms⟩ : MM) σ0 u (by first | assumption | omega)) tX2_remembers q2899 (mc_0 _ _ _) rfl rfl dX2_addFlag_104 (by decide) (Nat.le_of_eq (Nat.zero_add _)) (Nat.le_of_ble_eq_true rfl) ?_
                refine A_aload_n (i := 0) dX2_addFlag_107 rfl rfl ?_
                refine A_iload_n (i := 1) dX2_addFlag_108 rfl rfl ?_
                refine A_iload_n (i := 2) dX2_addFlag_109 rfl rfl ?_
                refine A_iload_n (i := 3) dX2_addFlag_110 rfl rfl ?_
                refine A_iload dX2_addFlag_111 rfl ?_
                refine A_callV4E (v := some (.int (nI (nF (m_now ms))))) (τ := mc b9 (⟨mayT (m_is ms) (bi (okN (m_is ms) (m_now ms) (nI n9))) (bi (okN (m_is ms) (m_now ms) (nI n9) ∧ inR o 1 ((1 <<< (m_now ms 6 &&& 31)) - 1) ∧ inR c 0 3 ∧ inR d 0 9 ∧ ¬ na (m_now ms) n9 3 = 1 ∧ ¬ 12 ≤ m_now ms 10)), m_is ms, nI (remC u), m_bd ms, m_pc ms, m_pa ms, m_sz ms, m_cu ms, m_st ms, m_tk ms, m_to ms, m_ps ms, addN (m_now ms) (nI n9) o c d, m_asd ms, remU (m_und ms) (m_now ms) u, m_sav ms, m_isv ms, m_buf ms, m_grp ms, m_pag ms⟩ : MM) σ0) (c_addsFlag b9 (⟨mayT (m_is ms) (bi (okN (m_is ms) (m_now ms) (nI n9))) (bi (okN (m_is ms) (m_now ms) (nI n9) ∧ inR o 1 ((1 <<< (m_now ms 6 &&& 31)) - 1) ∧ inR c 0 3 ∧ inR d 0 9 ∧ ¬ na (m_now ms) n9 3 = 1 ∧ ¬ 12 ≤ m_now ms 10)), m_is ms, nI (remC u), m_bd ms, m_pc ms, m_pa ms, m_sz ms, m_cu ms, m_st ms, m_tk ms, m_to ms, m_ps ms, m_now ms, m_asd ms, remU (m_und ms) (m_now ms) u, m_sav ms, m_isv ms, m_buf ms, m_grp ms, m_pag ms⟩ : MM) σ0 (nI n9) o c d (by first | assumption | omega) (by first | assumption | omega)) tX2_addsFlag q2411 (mc_0 _ _ _) rfl rfl dX2_addFlag_113 (by decide) (Nat.le_of_eq (Nat.zero_add _)) (Nat.le_of_ble_eq_true rfl) ?_
                exact A_iret dX2_addFlag_116 rfl ⟨by rw [gd, if_pos c13], by simp only [gq_t c13] <;> rfl⟩
              · skip
                have c13 := bi_eq0.mp c13
                refine A_iconst (v := 0) dX2_addFlag_101 (by decide) ?_
                exact A_iret dX2_addFlag_102 rfl ⟨by rw [gd, if_neg c13], by simp only [gq_f c13]⟩
theorem c_undoable {l : Launch} {g : GC} (b9 : Nat) (ms : MM) (σ0 : AH)   : AMet l g mX2_undoable 1 0 [.ref b9] (mc b9 ms σ0) (A_eq (some (.int (m_um ms))) (mc b9 (⟨0, m_is ms, m_um ms, m_bd ms, m_pc ms, m_pa ms, m_sz ms, m_cu ms, m_st ms, m_tk ms, m_to ms, m_ps ms, m_now ms, m_asd ms, m_und ms, m_sav ms, m_isv ms, m_buf ms, m_grp ms, m_pag ms⟩ : MM) σ0)) A_no := by
  refine A_of rfl (by decide) (Nat.le_of_ble_eq_true rfl) (L0 := [(0, .ref b9)]) rfl ?_
  refine A_aload_n (i := 0) dX2_undoable_0 rfl rfl ?_
  refine A_iconst (v := 0) dX2_undoable_1 (by decide) ?_
  refine M_put 0 (ms' := (⟨0, m_is ms, m_um ms, m_bd ms, m_pc ms, m_pa ms, m_sz ms, m_cu ms, m_st ms, m_tk ms, m_to ms, m_ps ms, m_now ms, m_asd ms, m_und ms, m_sav ms, m_isv ms, m_buf ms, m_grp ms, m_pag ms⟩ : MM)) (Nat.le_of_ble_eq_true rfl) q2229 rfl rfl rfl rfl rfl dX2_undoable_2 ?_
  refine A_aload_n (i := 0) dX2_undoable_5 rfl rfl ?_
  refine M_get 7 (v := .int (m_um ms)) (Nat.le_of_ble_eq_true rfl) q2236 rfl dX2_undoable_6 ?_
  exact A_iret dX2_undoable_9 rfl ⟨rfl, rfl⟩
theorem c_parseError {l : Launch} {g : GC} (b9 : Nat) (ms : MM) (σ0 : AH)   : AMet l g mX2_parseError 1 0 [.ref b9] (mc b9 ms σ0) (A_eq (some (.int (m_pc ms))) (mc b9 (⟨0, m_is ms, m_um ms, m_bd ms, m_pc ms, m_pa ms, m_sz ms, m_cu ms, m_st ms, m_tk ms, m_to ms, m_ps ms, m_now ms, m_asd ms, m_und ms, m_sav ms, m_isv ms, m_buf ms, m_grp ms, m_pag ms⟩ : MM) σ0)) A_no := by
  refine A_of rfl (by decide) (Nat.le_of_ble_eq_true rfl) (L0 := [(0, .ref b9)]) rfl ?_
  refine A_aload_n (i := 0) dX2_parseError_0 rfl rfl ?_
  refine A_iconst (v := 0) dX2_parseError_1 (by decide) ?_
  refine M_put 0 (ms' := (⟨0, m_is ms, m_um ms, m_bd ms, m_pc ms, m_pa ms, m_sz ms, m_cu ms, m_st ms, m_tk ms, m_to ms, m_ps ms, m_now ms, m_asd ms, m_und ms, m_sav ms, m_isv ms, m_buf ms, m_grp ms, m_pag ms⟩ : MM)) (Nat.le_of_ble_eq_true rfl) q2229 rfl rfl rfl rfl rfl dX2_parseError_2 ?_
  refine A_aload_n (i := 0) dX2_parseError_5 rfl rfl ?_
  refine M_get 10 (v := .int (m_pc ms)) (Nat.le_of_ble_eq_true rfl) q2239 rfl dX2_parseError_6 ?_
  exact A_iret dX2_parseError_9 rfl ⟨rfl, rfl⟩
theorem c_errorPosition {l : Launch} {g : GC} (b9 : Nat) (ms : MM) (σ0 : AH)   : AMet l g mX2_errorPosition 1 0 [.ref b9] (mc b9 ms σ0) (A_eq (some (.int (m_pa ms))) (mc b9 (⟨0, m_is ms, m_um ms, m_bd ms, m_pc ms, m_pa ms, m_sz ms, m_cu ms, m_st ms, m_tk ms, m_to ms, m_ps ms, m_now ms, m_asd ms, m_und ms, m_sav ms, m_isv ms, m_buf ms, m_grp ms, m_pag ms⟩ : MM) σ0)) A_no := by
  refine A_of rfl (by decide) (Nat.le_of_ble_eq_true rfl) (L0 := [(0, .ref b9)]) rfl ?_
  refine A_aload_n (i := 0) dX2_errorPosition_0 rfl rfl ?_
  refine A_iconst (v := 0) dX2_errorPosition_1 (by decide) ?_
  refine M_put 0 (ms' := (⟨0, m_is ms, m_um ms, m_bd ms, m_pc ms, m_pa ms, m_sz ms, m_cu ms, m_st ms, m_tk ms, m_to ms, m_ps ms, m_now ms, m_asd ms, m_und ms, m_sav ms, m_isv ms, m_buf ms, m_grp ms, m_pag ms⟩ : MM)) (Nat.le_of_ble_eq_true rfl) q2229 rfl rfl rfl rfl rfl dX2_errorPosition_2 ?_
  refine A_aload_n (i := 0) dX2_errorPosition_5 rfl rfl ?_
  refine M_get 11 (v := .int (m_pa ms)) (Nat.le_of_ble_eq_true rfl) q2240 rfl dX2_errorPosition_6 ?_
  exact A_iret dX2_errorPosition_9 rfl ⟨rfl, rfl⟩
theorem c_buffered {l : Launch} {g : GC} (b9 : Nat) (ms : MM) (σ0 : AH)   : AMet l g mX2_buffered 1 0 [.ref b9] (mc b9 ms σ0) (A_eq (some (.int (m_bd ms))) (mc b9 (⟨0, m_is ms, m_um ms, m_bd ms, m_pc ms, m_pa ms, m_sz ms, m_cu ms, m_st ms, m_tk ms, m_to ms, m_ps ms, m_now ms, m_asd ms, m_und ms, m_sav ms, m_isv ms, m_buf ms, m_grp ms, m_pag ms⟩ : MM) σ0)) A_no := by
  refine A_of rfl (by decide) (Nat.le_of_ble_eq_true rfl) (L0 := [(0, .ref b9)]) rfl ?_
  refine A_aload_n (i := 0) dX2_buffered_0 rfl rfl ?_
  refine A_iconst (v := 0) dX2_buffered_1 (by decide) ?_
  refine M_put 0 (ms' := (⟨0, m_is ms, m_um ms, m_bd ms, m_pc ms, m_pa ms, m_sz ms, m_cu ms, m_st ms, m_tk ms, m_to ms, m_ps ms, m_now ms, m_asd ms, m_und ms, m_sav ms, m_isv ms, m_buf ms, m_grp ms, m_pag ms⟩ : MM)) (Nat.le_of_ble_eq_true rfl) q2229 rfl rfl rfl rfl rfl dX2_buffered_2 ?_
  refine A_aload_n (i := 0) dX2_buffered_5 rfl rfl ?_
  refine M_get 9 (v := .int (m_bd ms)) (Nat.le_of_ble_eq_true rfl) q2238 rfl dX2_buffered_6 ?_
  exact A_iret dX2_buffered_9 rfl ⟨rfl, rfl⟩
theorem pos_ex {u : Nat} (h : 0 < nI u) : ∃ k, u = k + 1 := by
  cases u with
  | zero => exact absurd h (by decide)
  | succ k => exact ⟨k, rfl⟩
theorem mayT_w {x y z : Int32} (h : mayT x y z = 0) : ¬ x = 0 := mayT_x h
theorem c_undo {l : Launch} {g : GC} (b9 : Nat) (ms : MM) (σ0 : AH) (u : Nat) (h1 : u ≤ 8) : AMet l g mX2_undo 2 0 [.ref b9] (mc b9 (⟨m_thr ms, m_is ms, nI u, m_bd ms, m_pc ms, m_pa ms, m_sz ms, m_cu ms, m_st ms, m_tk ms, m_to ms, m_ps ms, m_now ms, m_asd ms, m_und ms, m_sav ms, m_isv ms, m_buf ms, m_grp ms, m_pag ms⟩ : MM) σ0) (A_eq (some (.int (gd (mayT (bi (0 < nI u)) 1 1) (nI (u - 1))))) (mc b9 (⟨mayT (bi (0 < nI u)) 1 1, m_is ms, gq (mayT (bi (0 < nI u)) 1 1) (nI (u - 1)) (nI u), m_bd ms, m_pc ms, m_pa ms, m_sz ms, m_cu ms, m_st ms, m_tk ms, m_to ms, m_ps ms, gq (mayT (bi (0 < nI u)) 1 1) (wld (m_und ms) (u - 1)) (m_now ms), m_asd ms, m_und ms, m_sav ms, m_isv ms, m_buf ms, m_grp ms, m_pag ms⟩ : MM) σ0)) A_no := by
  refine A_of rfl (by decide) (Nat.le_of_ble_eq_true rfl) (L0 := [(0, .ref b9)]) rfl ?_
  refine A_aload_n (i := 0) dX2_undo_0 rfl rfl ?_
  refine A_aload_n (i := 0) dX2_undo_1 rfl rfl ?_
  refine M_get 7 (v := .int (nI u)) (Nat.le_of_ble_eq_true rfl) q2236 rfl dX2_undo_2 ?_
  refine A_if_le (tgt := 12) dX2_undo_5 (by decide) (fun c1 => ?_) (fun c1 => ?_)
  · skip
    refine A_iconst (v := 0) dX2_undo_12 (by decide) ?_
    refine A_int (w := bi (0 < nI u)) ((bi_f (Int32.not_lt.mpr c1)).symm) ?_
    refine A_iconst (v := 1) dX2_undo_13 (by decide) ?_
    refine A_iconst (v := 1) dX2_undo_14 (by decide) ?_
    refine A_callV3E (v := some (.int (bi (mayT (bi (0 < nI u)) 1 1 = 0)))) (τ := mc b9 (⟨mayT (bi (0 < nI u)) 1 1, m_is ms, nI u, m_bd ms, m_pc ms, m_pa ms, m_sz ms, m_cu ms, m_st ms, m_tk ms, m_to ms, m_ps ms, m_now ms, m_asd ms, m_und ms, m_sav ms, m_isv ms, m_buf ms, m_grp ms, m_pag ms⟩ : MM) σ0) (c_may b9 (⟨m_thr ms, m_is ms, nI u, m_bd ms, m_pc ms, m_pa ms, m_sz ms, m_cu ms, m_st ms, m_tk ms, m_to ms, m_ps ms, m_now ms, m_asd ms, m_und ms, m_sav ms, m_isv ms, m_buf ms, m_grp ms, m_pag ms⟩ : MM) σ0 (bi (0 < nI u)) 1 1) tX2_may q2322 (mc_0 _ _ _) rfl rfl dX2_undo_15 (by decide) (Nat.le_of_eq (Nat.zero_add _)) (Nat.le_of_ble_eq_true rfl) ?_
    refine A_if_ne (tgt := 23) dX2_undo_18 (by decide) (fun c2 => ?_) (fun c2 => ?_)
    · skip
      have c2 := bi_ne0.mp c2
      obtain ⟨k, rfl⟩ := pos_ex (bi_ne0.mp (mayT_x c2))
      refine A_aload_n (i := 0) dX2_undo_23 rfl rfl ?_
      refine A_dup dX2_undo_24 rfl ?_
      refine M_get 7 (v := .int (nI (k + 1))) (Nat.le_of_ble_eq_true rfl) q2236 rfl dX2_undo_25 ?_
      refine A_iconst (v := 1) dX2_undo_28 (by decide) ?_
      refine A_isub dX2_undo_29 ?_
      refine A_int (w := nI k) (nI_pred _) ?_
      refine M_put 7 (ms' := (⟨mayT (bi (0 < nI (k + 1))) 1 1, m_is ms, nI k, m_bd ms, m_pc ms, m_pa ms, m_sz ms, m_cu ms, m_st ms, m_tk ms, m_to ms, m_ps ms, m_now ms, m_asd ms, m_und ms, m_sav ms, m_isv ms, m_buf ms, m_grp ms, m_pag ms⟩ : MM)) (Nat.le_of_ble_eq_true rfl) q2236 rfl rfl rfl rfl rfl dX2_undo_30 ?_
      refine A_aload_n (i := 0) dX2_undo_33 rfl rfl ?_
      refine M_get 3 (v := .ref (b9 + 3)) (Nat.le_of_ble_eq_true rfl) q2232 rfl dX2_undo_34 ?_
      refine A_aload_n (i := 0) dX2_undo_37 rfl rfl ?_
      refine M_get 7 (v := .int (nI k)) (Nat.le_of_ble_eq_true rfl) q2236 rfl dX2_undo_38 ?_
      refine A_sipush (v := 173) dX2_undo_41 (by decide) ?_
      refine A_imul dX2_undo_44 ?_
      refine A_int (w := nI (k * 173)) (pk_mul k 173) ?_
      refine A_aload_n (i := 0) dX2_undo_45 rfl rfl ?_
      refine M_get 1 (v := .ref (b9 + 1)) (Nat.le_of_ble_eq_true rfl) q2230 rfl dX2_undo_46 ?_
      refine A_iconst (v := 0) dX2_undo_49 (by decide) ?_
      refine A_callS4E (v := none) (τ := h_put (mc b9 (⟨mayT (bi (0 < nI (k + 1))) 1 1, m_is ms, nI k, m_bd ms, m_pc ms, m_pa ms, m_sz ms, m_cu ms, m_st ms, m_tk ms, m_to ms, m_ps ms, m_now ms, m_asd ms, m_und ms, m_sav ms, m_isv ms, m_buf ms, m_grp ms, m_pag ms⟩ : MM) σ0) (b9 + 1) (.inl (.int, (173, .inl (va_cpy (m_und ms) (m_now ms) (k * 173) 0 173))))) (c_lays _ _ _ (k * 173) 0 1384 173 _ _ (mc_3 _ _ _) (mc_1 _ _ _) (by omega) (by omega) (by omega) (by omega) (by omega)) tX2_lays q2330 dX2_undo_50 (by decide) (Nat.le_of_eq (Nat.zero_add _)) (Nat.le_of_ble_eq_true rfl) ?_
      refine A_eqv (arr_eqv (h_put_at _ _ _) (f' := wld (m_und ms) k) (fun j hj => by unfold va_cpy wld; rw [if_pos (by omega)]; simp)) ?_
      rw [h_put_put, mc_put1]
      show AW _ _ _ _ _ _ _ _ _ _ (mc b9 (⟨mayT (bi (0 < nI (k + 1))) 1 1, m_is ms, nI k, m_bd ms, m_pc ms, m_pa ms, m_sz ms, m_cu ms, m_st ms, m_tk ms, m_to ms, m_ps ms, wld (m_und ms) k, m_asd ms, m_und ms, m_sav ms, m_isv ms, m_buf ms, m_grp ms, m_pag ms⟩ : MM) σ0)
      refine A_aload_n (i := 0) dX2_undo_53 rfl rfl ?_
      refine M_get 7 (v := .int (nI k)) (Nat.le_of_ble_eq_true rfl) q2236 rfl dX2_undo_54 ?_
      exact A_iret dX2_undo_57 rfl ⟨by rw [gd, if_pos c2] <;> rfl, by simp only [gq_t c2] <;> rfl⟩
    · skip
      have c2 := bi_eq0.mp c2
      refine A_iconst (v := 0) dX2_undo_21 (by decide) ?_
      exact A_iret dX2_undo_22 rfl ⟨by rw [gd, if_neg c2], by simp only [gq_f c2]⟩
  · skip
    refine A_iconst (v := 1) dX2_undo_8 (by decide) ?_
    refine A_goto (tgt := 13) dX2_undo_9 (by decide) ?_
    refine A_int (w := bi (0 < nI u)) ((bi_t (Int32.not_le.mp c1)).symm) ?_
    refine A_iconst (v := 1) dX2_undo_13 (by decide) ?_
    refine A_iconst (v := 1) dX2_undo_14 (by decide) ?_
    refine A_callV3E (v := some (.int (bi (mayT (bi (0 < nI u)) 1 1 = 0)))) (τ := mc b9 (⟨mayT (bi (0 < nI u)) 1 1, m_is ms, nI u, m_bd ms, m_pc ms, m_pa ms, m_sz ms, m_cu ms, m_st ms, m_tk ms, m_to ms, m_ps ms, m_now ms, m_asd ms, m_und ms, m_sav ms, m_isv ms, m_buf ms, m_grp ms, m_pag ms⟩ : MM) σ0) (c_may b9 (⟨m_thr ms, m_is ms, nI u, m_bd ms, m_pc ms, m_pa ms, m_sz ms, m_cu ms, m_st ms, m_tk ms, m_to ms, m_ps ms, m_now ms, m_asd ms, m_und ms, m_sav ms, m_isv ms, m_buf ms, m_grp ms, m_pag ms⟩ : MM) σ0 (bi (0 < nI u)) 1 1) tX2_may q2322 (mc_0 _ _ _) rfl rfl dX2_undo_15 (by decide) (Nat.le_of_eq (Nat.zero_add _)) (Nat.le_of_ble_eq_true rfl) ?_
    refine A_if_ne (tgt := 23) dX2_undo_18 (by decide) (fun c3 => ?_) (fun c3 => ?_)
    · skip
      have c3 := bi_ne0.mp c3
      obtain ⟨k, rfl⟩ := pos_ex (bi_ne0.mp (mayT_x c3))
      refine A_aload_n (i := 0) dX2_undo_23 rfl rfl ?_
      refine A_dup dX2_undo_24 rfl ?_
      refine M_get 7 (v := .int (nI (k + 1))) (Nat.le_of_ble_eq_true rfl) q2236 rfl dX2_undo_25 ?_
      refine A_iconst (v := 1) dX2_undo_28 (by decide) ?_
      refine A_isub dX2_undo_29 ?_
      refine A_int (w := nI k) (nI_pred _) ?_
      refine M_put 7 (ms' := (⟨mayT (bi (0 < nI (k + 1))) 1 1, m_is ms, nI k, m_bd ms, m_pc ms, m_pa ms, m_sz ms, m_cu ms, m_st ms, m_tk ms, m_to ms, m_ps ms, m_now ms, m_asd ms, m_und ms, m_sav ms, m_isv ms, m_buf ms, m_grp ms, m_pag ms⟩ : MM)) (Nat.le_of_ble_eq_true rfl) q2236 rfl rfl rfl rfl rfl dX2_undo_30 ?_
      refine A_aload_n (i := 0) dX2_undo_33 rfl rfl ?_
      refine M_get 3 (v := .ref (b9 + 3)) (Nat.le_of_ble_eq_true rfl) q2232 rfl dX2_undo_34 ?_
      refine A_aload_n (i := 0) dX2_undo_37 rfl rfl ?_
      refine M_get 7 (v := .int (nI k)) (Nat.le_of_ble_eq_true rfl) q2236 rfl dX2_undo_38 ?_
      refine A_sipush (v := 173) dX2_undo_41 (by decide) ?_
      refine A_imul dX2_undo_44 ?_
      refine A_int (w := nI (k * 173)) (pk_mul k 173) ?_
      refine A_aload_n (i := 0) dX2_undo_45 rfl rfl ?_
      refine M_get 1 (v := .ref (b9 + 1)) (Nat.le_of_ble_eq_true rfl) q2230 rfl dX2_undo_46 ?_
      refine A_iconst (v := 0) dX2_undo_49 (by decide) ?_
      refine A_callS4E (v := none) (τ := h_put (mc b9 (⟨mayT (bi (0 < nI (k + 1))) 1 1, m_is ms, nI k, m_bd ms, m_pc ms, m_pa ms, m_sz ms, m_cu ms, m_st ms, m_tk ms, m_to ms, m_ps ms, m_now ms, m_asd ms, m_und ms, m_sav ms, m_isv ms, m_buf ms, m_grp ms, m_pag ms⟩ : MM) σ0) (b9 + 1) (.inl (.int, (173, .inl (va_cpy (m_und ms) (m_now ms) (k * 173) 0 173))))) (c_lays _ _ _ (k * 173) 0 1384 173 _ _ (mc_3 _ _ _) (mc_1 _ _ _) (by omega) (by omega) (by omega) (by omega) (by omega)) tX2_lays q2330 dX2_undo_50 (by decide) (Nat.le_of_eq (Nat.zero_add _)) (Nat.le_of_ble_eq_true rfl) ?_
      refine A_eqv (arr_eqv (h_put_at _ _ _) (f' := wld (m_und ms) k) (fun j hj => by unfold va_cpy wld; rw [if_pos (by omega)]; simp)) ?_
      rw [h_put_put, mc_put1]
      show AW _ _ _ _ _ _ _ _ _ _ (mc b9 (⟨mayT (bi (0 < nI (k + 1))) 1 1, m_is ms, nI k, m_bd ms, m_pc ms, m_pa ms, m_sz ms, m_cu ms, m_st ms, m_tk ms, m_to ms, m_ps ms, wld (m_und ms) k, m_asd ms, m_und ms, m_sav ms, m_isv ms, m_buf ms, m_grp ms, m_pag ms⟩ : MM) σ0)
      refine A_aload_n (i := 0) dX2_undo_53 rfl rfl ?_
      refine M_get 7 (v := .int (nI k)) (Nat.le_of_ble_eq_true rfl) q2236 rfl dX2_undo_54 ?_
      exact A_iret dX2_undo_57 rfl ⟨by rw [gd, if_pos c3] <;> rfl, by simp only [gq_t c3] <;> rfl⟩
    · skip
      have c3 := bi_eq0.mp c3
      refine A_iconst (v := 0) dX2_undo_21 (by decide) ?_
      exact A_iret dX2_undo_22 rfl ⟨by rw [gd, if_neg c3], by simp only [gq_f c3]⟩
theorem c_save {l : Launch} {g : GC} (b9 : Nat) (ms : MM) (σ0 : AH) (h : Int32)  : AMet l g mX2_save 3 0 [.ref b9, .int h] (mc b9 ms σ0) (A_eq (some (.int (gd (mayT (m_is ms) (bi (inR h 0 1)) 1) ((m_now ms) 0)))) (mc b9 (⟨mayT (m_is ms) (bi (inR h 0 1)) 1, m_is ms, m_um ms, m_bd ms, m_pc ms, m_pa ms, m_sz ms, m_cu ms, m_st ms, m_tk ms, m_to ms, m_ps ms, m_now ms, m_asd ms, m_und ms, gq (mayT (m_is ms) (bi (inR h 0 1)) 1) (setWld (m_sav ms) (m_now ms) (ix h)) (m_sav ms), gq (mayT (m_is ms) (bi (inR h 0 1)) 1) (va_up (m_isv ms) (ix h) 1) (m_isv ms), m_buf ms, m_grp ms, m_pag ms⟩ : MM) σ0)) A_no := by
  refine A_of rfl (by decide) (Nat.le_of_ble_eq_true rfl) (L0 := [(0, .ref b9), (1, .int h)]) rfl ?_
  refine A_aload_n (i := 0) dX2_save_0 rfl rfl ?_
  refine A_aload_n (i := 0) dX2_save_1 rfl rfl ?_
  refine M_get 6 (v := .int (m_is ms)) (Nat.le_of_ble_eq_true rfl) q2235 rfl dX2_save_2 ?_
  refine A_iload_n (i := 1) dX2_save_5 rfl rfl ?_
  refine A_callS1E (v := some (.int (bi (inR h 0 1)))) (τ := mc b9 ms σ0) (c_isSlot b9 ms σ0 h) tX2_isSlot q2967 dX2_save_6 (by decide) (Nat.le_of_eq (Nat.zero_add _)) (Nat.le_of_ble_eq_true rfl) ?_
  refine A_callV2E (v := some (.int (bi (mayT (m_is ms) (bi (inR h 0 1)) 1 = 0)))) (τ := mc b9 (⟨mayT (m_is ms) (bi (inR h 0 1)) 1, m_is ms, m_um ms, m_bd ms, m_pc ms, m_pa ms, m_sz ms, m_cu ms, m_st ms, m_tk ms, m_to ms, m_ps ms, m_now ms, m_asd ms, m_und ms, m_sav ms, m_isv ms, m_buf ms, m_grp ms, m_pag ms⟩ : MM) σ0) (c_mayTwo b9 ms σ0 (m_is ms) (bi (inR h 0 1))) tX2_mayTwo q2565 (mc_0 _ _ _) rfl rfl dX2_save_9 (by decide) (Nat.le_of_eq (Nat.zero_add _)) (Nat.le_of_ble_eq_true rfl) ?_
  refine A_if_ne (tgt := 17) dX2_save_12 (by decide) (fun c1 => ?_) (fun c1 => ?_)
  · skip
    have c1 := bi_ne0.mp c1
    obtain ⟨k, hk, rfl⟩ := in6_ex (n := 1) (by omega) (mayT_y c1)
    try rw [ixn (show k < 2000 by omega)]
    refine A_aload_n (i := 0) dX2_save_17 rfl rfl ?_
    refine M_get 1 (v := .ref (b9 + 1)) (Nat.le_of_ble_eq_true rfl) q2230 rfl dX2_save_18 ?_
    refine A_iconst (v := 0) dX2_save_21 (by decide) ?_
    refine A_aload_n (i := 0) dX2_save_22 rfl rfl ?_
    refine M_get 4 (v := .ref (b9 + 4)) (Nat.le_of_ble_eq_true rfl) q2233 rfl dX2_save_23 ?_
    refine A_iload_n (i := 1) dX2_save_26 rfl rfl ?_
    refine A_sipush (v := 173) dX2_save_27 (by decide) ?_
    refine A_imul dX2_save_30 ?_
    refine A_int (w := nI (k * 173)) (pk_mul k 173) ?_
    refine A_callS4E (v := none) (τ := h_put (mc b9 (⟨mayT (m_is ms) (bi (inR (nI k) 0 1)) 1, m_is ms, m_um ms, m_bd ms, m_pc ms, m_pa ms, m_sz ms, m_cu ms, m_st ms, m_tk ms, m_to ms, m_ps ms, m_now ms, m_asd ms, m_und ms, m_sav ms, m_isv ms, m_buf ms, m_grp ms, m_pag ms⟩ : MM) σ0) (b9 + 4) (.inl (.int, (346, .inl (va_cpy (m_now ms) (m_sav ms) 0 (k * 173) 173))))) (c_lays _ _ _ 0 (k * 173) 173 346 _ _ (mc_1 _ _ _) (mc_4 _ _ _) (by omega) (by omega) (by omega) (by omega) (by omega)) tX2_lays q2330 dX2_save_31 (by decide) (Nat.le_of_eq (Nat.zero_add _)) (Nat.le_of_ble_eq_true rfl) ?_
    refine A_eqv (arr_eqv (h_put_at _ _ _) (f' := setWld (m_sav ms) (m_now ms) k) (fun j hj => by unfold va_cpy setWld; simp)) ?_
    rw [h_put_put, mc_put4]
    show AW _ _ _ _ _ _ _ _ _ _ (mc b9 (⟨mayT (m_is ms) (bi (inR (nI k) 0 1)) 1, m_is ms, m_um ms, m_bd ms, m_pc ms, m_pa ms, m_sz ms, m_cu ms, m_st ms, m_tk ms, m_to ms, m_ps ms, m_now ms, m_asd ms, m_und ms, setWld (m_sav ms) (m_now ms) k, m_isv ms, m_buf ms, m_grp ms, m_pag ms⟩ : MM) σ0)
    refine A_aload_n (i := 0) dX2_save_34 rfl rfl ?_
    refine M_get 5 (v := .ref (b9 + 5)) (Nat.le_of_ble_eq_true rfl) q2234 rfl dX2_save_35 ?_
    refine A_iload_n (i := 1) dX2_save_38 rfl rfl ?_
    refine A_iconst (v := 1) dX2_save_39 (by decide) ?_
    refine M_ast5 (n := k) (na := va_up (m_isv ms) k 1) (rfl) (by omega) (rfl) dX2_save_40 ?_
    refine A_aload_n (i := 0) dX2_save_41 rfl rfl ?_
    refine M_get 1 (v := .ref (b9 + 1)) (Nat.le_of_ble_eq_true rfl) q2230 rfl dX2_save_42 ?_
    refine A_iconst (v := 0) dX2_save_45 (by decide) ?_
    refine M_ald1 (n := 0) (v := m_now ms 0) (rfl) (by decide) (rfl) dX2_save_46 ?_
    exact A_iret dX2_save_47 rfl ⟨by rw [gd, if_pos c1], by simp only [gq_t c1] <;> rfl⟩
  · skip
    have c1 := bi_eq0.mp c1
    refine A_iconst (v := 0) dX2_save_15 (by decide) ?_
    exact A_iret dX2_save_16 rfl ⟨by rw [gd, if_neg c1], by simp only [gq_f c1]⟩
theorem c_restore {l : Launch} {g : GC} (b9 : Nat) (ms : MM) (σ0 : AH) (h : Int32)  : AMet l g mX2_restore 3 0 [.ref b9, .int h] (mc b9 ms σ0) (A_eq (some (.int (gd (mayT (bi (inR h 0 1)) (bi (inR h 0 1 ∧ ¬ (m_isv ms) (ix h) = 0)) 1) (wld (m_sav ms) (ix h) 0)))) (mc b9 (⟨mayT (bi (inR h 0 1)) (bi (inR h 0 1 ∧ ¬ (m_isv ms) (ix h) = 0)) 1, m_is ms, gq (mayT (bi (inR h 0 1)) (bi (inR h 0 1 ∧ ¬ (m_isv ms) (ix h) = 0)) 1) 0 (m_um ms), m_bd ms, m_pc ms, m_pa ms, m_sz ms, m_cu ms, m_st ms, m_tk ms, m_to ms, m_ps ms, gq (mayT (bi (inR h 0 1)) (bi (inR h 0 1 ∧ ¬ (m_isv ms) (ix h) = 0)) 1) (wld (m_sav ms) (ix h)) (m_now ms), m_asd ms, m_und ms, m_sav ms, m_isv ms, m_buf ms, m_grp ms, m_pag ms⟩ : MM) σ0)) A_no := by
  refine A_of rfl (by decide) (Nat.le_of_ble_eq_true rfl) (L0 := [(0, .ref b9), (1, .int h)]) rfl ?_
  refine A_iload_n (i := 1) dX2_restore_0 rfl rfl ?_
  refine A_callS1E (v := some (.int (bi (inR h 0 1)))) (τ := mc b9 ms σ0) (c_isSlot b9 ms σ0 h) tX2_isSlot q2967 dX2_restore_1 (by decide) (Nat.le_of_eq (Nat.zero_add _)) (Nat.le_of_ble_eq_true rfl) ?_
  refine A_istore_n (i := 2) dX2_restore_4 rfl (Nat.le_of_ble_eq_true rfl) ?_
  refine A_aload_n (i := 0) dX2_restore_5 rfl rfl ?_
  refine A_iload_n (i := 2) dX2_restore_6 rfl rfl ?_
  refine A_iload_n (i := 2) dX2_restore_7 rfl rfl ?_
  refine A_if_eq (tgt := 24) dX2_restore_8 (by decide) (fun c1 => ?_) (fun c1 => ?_)
  · skip
    have c1 := bi_eq0.mp c1
    refine A_iconst (v := 0) dX2_restore_24 (by decide) ?_
    refine A_int (w := bi (inR h 0 1 ∧ ¬ m_isv ms (ix h) = 0)) ((bi_f (fun h9 => c1 h9.1)).symm) ?_
    refine A_callV2E (v := some (.int (bi (mayT (bi (inR h 0 1)) (bi (inR h 0 1 ∧ ¬ m_isv ms (ix h) = 0)) 1 = 0)))) (τ := mc b9 (⟨mayT (bi (inR h 0 1)) (bi (inR h 0 1 ∧ ¬ m_isv ms (ix h) = 0)) 1, m_is ms, m_um ms, m_bd ms, m_pc ms, m_pa ms, m_sz ms, m_cu ms, m_st ms, m_tk ms, m_to ms, m_ps ms, m_now ms, m_asd ms, m_und ms, m_sav ms, m_isv ms, m_buf ms, m_grp ms, m_pag ms⟩ : MM) σ0) (c_mayTwo b9 ms σ0 (bi (inR h 0 1)) (bi (inR h 0 1 ∧ ¬ m_isv ms (ix h) = 0))) tX2_mayTwo q2565 (mc_0 _ _ _) rfl rfl dX2_restore_25 (by decide) (Nat.le_of_eq (Nat.zero_add _)) (Nat.le_of_ble_eq_true rfl) ?_
    refine A_if_ne (tgt := 33) dX2_restore_28 (by decide) (fun c2 => ?_) (fun c2 => ?_)
    · skip
      have c2 := bi_ne0.mp c2
      exact (show False from (fun h9 => c1 h9.1) (mayT_y c2)).elim
    · skip
      have c2 := bi_eq0.mp c2
      refine A_iconst (v := 0) dX2_restore_31 (by decide) ?_
      exact A_iret dX2_restore_32 rfl ⟨by rw [gd, if_neg c2], by simp only [gq_f c2]⟩
  · skip
    have c1 := bi_ne0.mp c1
    obtain ⟨k, hk, rfl⟩ := in6_ex (n := 1) (by omega) (c1)
    try rw [ixn (show k < 2000 by omega)]
    refine A_aload_n (i := 0) dX2_restore_11 rfl rfl ?_
    refine M_get 5 (v := .ref (b9 + 5)) (Nat.le_of_ble_eq_true rfl) q2234 rfl dX2_restore_12 ?_
    refine A_iload_n (i := 1) dX2_restore_15 rfl rfl ?_
    refine M_ald5 (n := k) (v := m_isv ms k) (rfl) (by omega) (rfl) dX2_restore_16 ?_
    refine A_if_eq (tgt := 24) dX2_restore_17 (by decide) (fun c3 => ?_) (fun c3 => ?_)
    · skip
      refine A_iconst (v := 0) dX2_restore_24 (by decide) ?_
      refine A_int (w := bi (inR (nI k) 0 1 ∧ ¬ m_isv ms k = 0)) ((bi_f (fun h9 => h9.2 c3)).symm) ?_
      refine A_callV2E (v := some (.int (bi (mayT (bi (inR (nI k) 0 1)) (bi (inR (nI k) 0 1 ∧ ¬ m_isv ms k = 0)) 1 = 0)))) (τ := mc b9 (⟨mayT (bi (inR (nI k) 0 1)) (bi (inR (nI k) 0 1 ∧ ¬ m_isv ms k = 0)) 1, m_is ms, m_um ms, m_bd ms, m_pc ms, m_pa ms, m_sz ms, m_cu ms, m_st ms, m_tk ms, m_to ms, m_ps ms, m_now ms, m_asd ms, m_und ms, m_sav ms, m_isv ms, m_buf ms, m_grp ms, m_pag ms⟩ : MM) σ0) (c_mayTwo b9 ms σ0 (bi (inR (nI k) 0 1)) (bi (inR (nI k) 0 1 ∧ ¬ m_isv ms k = 0))) tX2_mayTwo q2565 (mc_0 _ _ _) rfl rfl dX2_restore_25 (by decide) (Nat.le_of_eq (Nat.zero_add _)) (Nat.le_of_ble_eq_true rfl) ?_
      refine A_if_ne (tgt := 33) dX2_restore_28 (by decide) (fun c4 => ?_) (fun c4 => ?_)
      · skip
        have c4 := bi_ne0.mp c4
        exact (show False from (fun h9 => h9.2 c3) (mayT_y c4)).elim
      · skip
        have c4 := bi_eq0.mp c4
        refine A_iconst (v := 0) dX2_restore_31 (by decide) ?_
        exact A_iret dX2_restore_32 rfl ⟨by rw [gd, if_neg c4], by simp only [gq_f c4]⟩
    · skip
      refine A_iconst (v := 1) dX2_restore_20 (by decide) ?_
      refine A_goto (tgt := 25) dX2_restore_21 (by decide) ?_
      refine A_int (w := bi (inR (nI k) 0 1 ∧ ¬ m_isv ms k = 0)) ((bi_t ⟨c1, c3⟩).symm) ?_
      refine A_callV2E (v := some (.int (bi (mayT (bi (inR (nI k) 0 1)) (bi (inR (nI k) 0 1 ∧ ¬ m_isv ms k = 0)) 1 = 0)))) (τ := mc b9 (⟨mayT (bi (inR (nI k) 0 1)) (bi (inR (nI k) 0 1 ∧ ¬ m_isv ms k = 0)) 1, m_is ms, m_um ms, m_bd ms, m_pc ms, m_pa ms, m_sz ms, m_cu ms, m_st ms, m_tk ms, m_to ms, m_ps ms, m_now ms, m_asd ms, m_und ms, m_sav ms, m_isv ms, m_buf ms, m_grp ms, m_pag ms⟩ : MM) σ0) (c_mayTwo b9 ms σ0 (bi (inR (nI k) 0 1)) (bi (inR (nI k) 0 1 ∧ ¬ m_isv ms k = 0))) tX2_mayTwo q2565 (mc_0 _ _ _) rfl rfl dX2_restore_25 (by decide) (Nat.le_of_eq (Nat.zero_add _)) (Nat.le_of_ble_eq_true rfl) ?_
      refine A_if_ne (tgt := 33) dX2_restore_28 (by decide) (fun c5 => ?_) (fun c5 => ?_)
      · skip
        have c5 := bi_ne0.mp c5
        refine A_aload_n (i := 0) dX2_restore_33 rfl rfl ?_
        refine M_get 4 (v := .ref (b9 + 4)) (Nat.le_of_ble_eq_true rfl) q2233 rfl dX2_restore_34 ?_
        refine A_iload_n (i := 1) dX2_restore_37 rfl rfl ?_
        refine A_sipush (v := 173) dX2_restore_38 (by decide) ?_
        refine A_imul dX2_restore_41 ?_
        refine A_int (w := nI (k * 173)) (pk_mul k 173) ?_
        refine A_aload_n (i := 0) dX2_restore_42 rfl rfl ?_
        refine M_get 1 (v := .ref (b9 + 1)) (Nat.le_of_ble_eq_true rfl) q2230 rfl dX2_restore_43 ?_
        refine A_iconst (v := 0) dX2_restore_46 (by decide) ?_
        refine A_callS4E (v := none) (τ := h_put (mc b9 (⟨mayT (bi (inR (nI k) 0 1)) (bi (inR (nI k) 0 1 ∧ ¬ m_isv ms k = 0)) 1, m_is ms, m_um ms, m_bd ms, m_pc ms, m_pa ms, m_sz ms, m_cu ms, m_st ms, m_tk ms, m_to ms, m_ps ms, m_now ms, m_asd ms, m_und ms, m_sav ms, m_isv ms, m_buf ms, m_grp ms, m_pag ms⟩ : MM) σ0) (b9 + 1) (.inl (.int, (173, .inl (va_cpy (m_sav ms) (m_now ms) (k * 173) 0 173))))) (c_lays _ _ _ (k * 173) 0 346 173 _ _ (mc_4 _ _ _) (mc_1 _ _ _) (by omega) (by omega) (by omega) (by omega) (by omega)) tX2_lays q2330 dX2_restore_47 (by decide) (Nat.le_of_eq (Nat.zero_add _)) (Nat.le_of_ble_eq_true rfl) ?_
        refine A_eqv (arr_eqv (h_put_at _ _ _) (f' := wld (m_sav ms) k) (fun j hj => by unfold va_cpy wld; rw [if_pos (by omega)]; simp)) ?_
        rw [h_put_put, mc_put1]
        show AW _ _ _ _ _ _ _ _ _ _ (mc b9 (⟨mayT (bi (inR (nI k) 0 1)) (bi (inR (nI k) 0 1 ∧ ¬ m_isv ms k = 0)) 1, m_is ms, m_um ms, m_bd ms, m_pc ms, m_pa ms, m_sz ms, m_cu ms, m_st ms, m_tk ms, m_to ms, m_ps ms, wld (m_sav ms) k, m_asd ms, m_und ms, m_sav ms, m_isv ms, m_buf ms, m_grp ms, m_pag ms⟩ : MM) σ0)
        refine A_aload_n (i := 0) dX2_restore_50 rfl rfl ?_
        refine A_iconst (v := 0) dX2_restore_51 (by decide) ?_
        refine M_put 7 (ms' := (⟨mayT (bi (inR (nI k) 0 1)) (bi (inR (nI k) 0 1 ∧ ¬ m_isv ms k = 0)) 1, m_is ms, 0, m_bd ms, m_pc ms, m_pa ms, m_sz ms, m_cu ms, m_st ms, m_tk ms, m_to ms, m_ps ms, wld (m_sav ms) k, m_asd ms, m_und ms, m_sav ms, m_isv ms, m_buf ms, m_grp ms, m_pag ms⟩ : MM)) (Nat.le_of_ble_eq_true rfl) q2236 rfl rfl rfl rfl rfl dX2_restore_52 ?_
        refine A_aload_n (i := 0) dX2_restore_55 rfl rfl ?_
        refine M_get 1 (v := .ref (b9 + 1)) (Nat.le_of_ble_eq_true rfl) q2230 rfl dX2_restore_56 ?_
        refine A_iconst (v := 0) dX2_restore_59 (by decide) ?_
        refine M_ald1 (n := 0) (v := (wld (m_sav ms) k) 0) (rfl) (by decide) (rfl) dX2_restore_60 ?_
        exact A_iret dX2_restore_61 rfl ⟨by rw [gd, if_pos c5], by simp only [gq_t c5] <;> rfl⟩
      · skip
        have c5 := bi_eq0.mp c5
        refine A_iconst (v := 0) dX2_restore_31 (by decide) ?_
        exact A_iret dX2_restore_32 rfl ⟨by rw [gd, if_neg c5], by simp only [gq_f c5]⟩
abbrev shP (t : Int32) (N : AF) : Prop := t = 0 ∧ ¬ N 10 ≤ 0
def shareN (t : Int32) (N : AF) : UInt32 := if shP t N then FP.fdiv (FP.i2f (readyN N + atN N 3)) (FP.i2f (N 10)) else FP.fconst0
def meanN (t : Int32) (N : AF) : UInt64 := if shP t N then FP.ddiv (FP.i2d (sm (fun f => fl N f 3) (nF N))) (FP.i2d (N 10)) else FP.dconst0
theorem share_n {N : AF} (h : WFc N) (h0 : ¬ N 10 ≤ 0) : vf_n32 (FP.fdiv (FP.i2f (readyN N + atN N 3)) (FP.i2f (N 10))) := by
  have hF := h.2.2.2.2.2
  have e := h.2.2.2.2.1
  obtain ⟨a, h1, h2⟩ := sm_ex (p := fun f => whyN N f = 0) (nF N)
  obtain ⟨b, h3, h4⟩ := sm_ex (p := fun f => fl N f 8 = 3) (nF N)
  have e1 : readyN N + atN N 3 = nI (a + b) := by
    show sm (fun f => bi (whyN N f = 0)) (nF N) + sm (fun f => bi (fl N f 8 = 3)) (nF N) = _
    rw [h2, h4, nI_add]
  have e2 : ¬ nF N = 0 := fun q => h0 (by rw [e, q]; decide)
  rw [e1, e]
  exact ready_n _ (by omega) _ (by omega) e2
theorem mean_n9 {N : AF} (h : WFd N) (h0 : ¬ N 10 ≤ 0) : vf_n64 (FP.ddiv (FP.i2d (sm (fun f => fl N f 3) (nF N))) (FP.i2d (N 10))) := by
  have hF := h.1.2.2.2.2.2
  have e := h.1.2.2.2.2.1
  obtain ⟨a, h1, h2⟩ := smd_ex (f := fun f => fl N f 3) (n := nF N) (fun k hk => (h.2 k hk).2.2.2.1)
  have e2 : ¬ nF N = 0 := fun q => h0 (by rw [e, q]; decide)
  rw [h2, e]
  exact mean_n _ (by omega) _ (by omega) e2
theorem c_readyShare {l : Launch} {g : GC} (b9 : Nat) (ms : MM) (σ0 : AH)  (h1 : WFc (m_now ms)) : AMet l g mX2_readyShare 6 0 [.ref b9] (mc b9 ms σ0) (A_eq (some (.float (shareN (mayT (m_is ms) 1 1) (m_now ms)))) (mc b9 (⟨mayT (m_is ms) 1 1, m_is ms, m_um ms, m_bd ms, m_pc ms, m_pa ms, m_sz ms, m_cu ms, m_st ms, m_tk ms, m_to ms, m_ps ms, m_now ms, m_asd ms, m_und ms, m_sav ms, m_isv ms, m_buf ms, m_grp ms, m_pag ms⟩ : MM) σ0)) A_no := by
  refine A_of rfl (by decide) (Nat.le_of_ble_eq_true rfl) (L0 := [(0, .ref b9)]) rfl ?_
  have hF := h1.2.2.2.2.2
  have hC := h1.1.2
  refine A_aload_n (i := 0) dX2_readyShare_0 rfl rfl ?_
  refine A_callV0E (v := some (.int (bi (mayT (m_is ms) 1 1 = 0)))) (τ := mc b9 (⟨mayT (m_is ms) 1 1, m_is ms, m_um ms, m_bd ms, m_pc ms, m_pa ms, m_sz ms, m_cu ms, m_st ms, m_tk ms, m_to ms, m_ps ms, m_now ms, m_asd ms, m_und ms, m_sav ms, m_isv ms, m_buf ms, m_grp ms, m_pag ms⟩ : MM) σ0) (c_mayLook b9 ms σ0) tX2_mayLook q2669 (mc_0 _ _ _) rfl rfl dX2_readyShare_1 (by decide) (Nat.le_of_eq (Nat.zero_add _)) (Nat.le_of_ble_eq_true rfl) ?_
  refine A_if_eq (tgt := 40) dX2_readyShare_4 (by decide) (fun c1 => ?_) (fun c1 => ?_)
  · skip
    have c1 := bi_eq0.mp c1
    refine A_fconst0 dX2_readyShare_40 ?_
    exact A_fret dX2_readyShare_41 rfl ⟨by rw [shareN, if_neg (fun h9 => c1 h9.1)], rfl⟩
  · skip
    have c1 := bi_ne0.mp c1
    refine A_aload_n (i := 0) dX2_readyShare_7 rfl rfl ?_
    refine M_get 1 (v := .ref (b9 + 1)) (Nat.le_of_ble_eq_true rfl) q2230 rfl dX2_readyShare_8 ?_
    refine A_bipush (v := 10) dX2_readyShare_11 (by decide) ?_
    refine M_ald1 (n := 10) (v := m_now ms 10) (rfl) (by decide) (rfl) dX2_readyShare_13 ?_
    refine A_if_le (tgt := 40) dX2_readyShare_14 (by decide) (fun c2 => ?_) (fun c2 => ?_)
    · skip
      refine A_fconst0 dX2_readyShare_40 ?_
      exact A_fret dX2_readyShare_41 rfl ⟨by rw [shareN, if_neg (fun h9 => h9.2 c2)], rfl⟩
    · skip
      have hdiv := share_n h1 c2
      refine A_aload_n (i := 0) dX2_readyShare_17 rfl rfl ?_
      refine A_callV0E (v := some (.int (readyN (m_now ms)))) (τ := mc b9 (⟨mayT (m_is ms) 1 1, m_is ms, m_um ms, m_bd ms, m_pc ms, m_pa ms, m_sz ms, m_cu ms, m_st ms, m_tk ms, m_to ms, m_ps ms, m_now ms, m_asd ms, m_und ms, m_sav ms, m_isv ms, m_buf ms, m_grp ms, m_pag ms⟩ : MM) σ0) (c_readyMany b9 (⟨mayT (m_is ms) 1 1, m_is ms, m_um ms, m_bd ms, m_pc ms, m_pa ms, m_sz ms, m_cu ms, m_st ms, m_tk ms, m_to ms, m_ps ms, m_now ms, m_asd ms, m_und ms, m_sav ms, m_isv ms, m_buf ms, m_grp ms, m_pag ms⟩ : MM) σ0  (by first | assumption | omega)) tX2_readyMany q2569 (mc_0 _ _ _) rfl rfl dX2_readyShare_18 (by decide) (Nat.le_of_eq (Nat.zero_add _)) (Nat.le_of_ble_eq_true rfl) ?_
      refine A_aload_n (i := 0) dX2_readyShare_21 rfl rfl ?_
      refine A_iconst (v := 3) dX2_readyShare_22 (by decide) ?_
      refine A_callV1E (v := some (.int (atN (m_now ms) 3))) (τ := mc b9 (⟨mayT (m_is ms) 1 1, m_is ms, m_um ms, m_bd ms, m_pc ms, m_pa ms, m_sz ms, m_cu ms, m_st ms, m_tk ms, m_to ms, m_ps ms, m_now ms, m_asd ms, m_und ms, m_sav ms, m_isv ms, m_buf ms, m_grp ms, m_pag ms⟩ : MM) σ0) (c_flagsAt b9 (⟨mayT (m_is ms) 1 1, m_is ms, m_um ms, m_bd ms, m_pc ms, m_pa ms, m_sz ms, m_cu ms, m_st ms, m_tk ms, m_to ms, m_ps ms, m_now ms, m_asd ms, m_und ms, m_sav ms, m_isv ms, m_buf ms, m_grp ms, m_pag ms⟩ : MM) σ0 3 (by first | assumption | omega)) tX2_flagsAt q2581 (mc_0 _ _ _) rfl rfl dX2_readyShare_23 (by decide) (Nat.le_of_eq (Nat.zero_add _)) (Nat.le_of_ble_eq_true rfl) ?_
      refine A_iadd dX2_readyShare_26 ?_
      refine A_i2f dX2_readyShare_27 ?_
      refine A_aload_n (i := 0) dX2_readyShare_28 rfl rfl ?_
      refine M_get 1 (v := .ref (b9 + 1)) (Nat.le_of_ble_eq_true rfl) q2230 rfl dX2_readyShare_29 ?_
      refine A_bipush (v := 10) dX2_readyShare_32 (by decide) ?_
      refine M_ald1 (n := 10) (v := m_now ms 10) (rfl) (by decide) (rfl) dX2_readyShare_34 ?_
      refine A_i2f dX2_readyShare_35 ?_
      refine A_fdiv dX2_readyShare_36 (hdiv) ?_
      refine A_goto (tgt := 41) dX2_readyShare_37 (by decide) ?_
      exact A_fret dX2_readyShare_41 rfl ⟨by rw [shareN, if_pos ⟨c1, c2⟩], rfl⟩
theorem c_meanDirt {l : Launch} {g : GC} (b9 : Nat) (ms : MM) (σ0 : AH)  (h1 : WFd (m_now ms)) : AMet l g mX2_meanDirt 3 0 [.ref b9] (mc b9 ms σ0) (A_eq (some (.double (meanN (mayT (m_is ms) 1 1) (m_now ms)))) (mc b9 (⟨mayT (m_is ms) 1 1, m_is ms, m_um ms, m_bd ms, m_pc ms, m_pa ms, m_sz ms, m_cu ms, m_st ms, m_tk ms, m_to ms, m_ps ms, m_now ms, m_asd ms, m_und ms, m_sav ms, m_isv ms, m_buf ms, m_grp ms, m_pag ms⟩ : MM) σ0)) A_no := by
  refine A_of rfl (by decide) (Nat.le_of_ble_eq_true rfl) (L0 := [(0, .ref b9)]) rfl ?_
  have h1c := h1.1
  have hF := h1c.2.2.2.2.2
  refine A_aload_n (i := 0) dX2_meanDirt_0 rfl rfl ?_
  refine A_callV0E (v := some (.int (bi (mayT (m_is ms) 1 1 = 0)))) (τ := mc b9 (⟨mayT (m_is ms) 1 1, m_is ms, m_um ms, m_bd ms, m_pc ms, m_pa ms, m_sz ms, m_cu ms, m_st ms, m_tk ms, m_to ms, m_ps ms, m_now ms, m_asd ms, m_und ms, m_sav ms, m_isv ms, m_buf ms, m_grp ms, m_pag ms⟩ : MM) σ0) (c_mayLook b9 ms σ0) tX2_mayLook q2669 (mc_0 _ _ _) rfl rfl dX2_meanDirt_1 (by decide) (Nat.le_of_eq (Nat.zero_add _)) (Nat.le_of_ble_eq_true rfl) ?_
  refine A_if_eq (tgt := 34) dX2_meanDirt_4 (by decide) (fun c1 => ?_) (fun c1 => ?_)
  · skip
    have c1 := bi_eq0.mp c1
    refine A_dconst0 dX2_meanDirt_34 ?_
    exact A_dret dX2_meanDirt_35 rfl ⟨by rw [meanN, if_neg (fun h9 => c1 h9.1)], rfl⟩
  · skip
    have c1 := bi_ne0.mp c1
    refine A_aload_n (i := 0) dX2_meanDirt_7 rfl rfl ?_
    refine M_get 1 (v := .ref (b9 + 1)) (Nat.le_of_ble_eq_true rfl) q2230 rfl dX2_meanDirt_8 ?_
    refine A_bipush (v := 10) dX2_meanDirt_11 (by decide) ?_
    refine M_ald1 (n := 10) (v := m_now ms 10) (rfl) (by decide) (rfl) dX2_meanDirt_13 ?_
    refine A_if_le (tgt := 34) dX2_meanDirt_14 (by decide) (fun c2 => ?_) (fun c2 => ?_)
    · skip
      refine A_dconst0 dX2_meanDirt_34 ?_
      exact A_dret dX2_meanDirt_35 rfl ⟨by rw [meanN, if_neg (fun h9 => h9.2 c2)], rfl⟩
    · skip
      have hdiv := mean_n9 h1 c2
      refine A_aload_n (i := 0) dX2_meanDirt_17 rfl rfl ?_
      refine A_callV0E (v := some (.int (sm (fun f => fl (m_now ms) f 3) (nF (m_now ms))))) (τ := mc b9 (⟨mayT (m_is ms) 1 1, m_is ms, m_um ms, m_bd ms, m_pc ms, m_pa ms, m_sz ms, m_cu ms, m_st ms, m_tk ms, m_to ms, m_ps ms, m_now ms, m_asd ms, m_und ms, m_sav ms, m_isv ms, m_buf ms, m_grp ms, m_pag ms⟩ : MM) σ0) (c_allDirt b9 (⟨mayT (m_is ms) 1 1, m_is ms, m_um ms, m_bd ms, m_pc ms, m_pa ms, m_sz ms, m_cu ms, m_st ms, m_tk ms, m_to ms, m_ps ms, m_now ms, m_asd ms, m_und ms, m_sav ms, m_isv ms, m_buf ms, m_grp ms, m_pag ms⟩ : MM) σ0  (by first | assumption | omega)) tX2_allDirt q2856 (mc_0 _ _ _) rfl rfl dX2_meanDirt_18 (by decide) (Nat.le_of_eq (Nat.zero_add _)) (Nat.le_of_ble_eq_true rfl) ?_
      refine A_i2d dX2_meanDirt_21 ?_
      refine A_aload_n (i := 0) dX2_meanDirt_22 rfl rfl ?_
      refine M_get 1 (v := .ref (b9 + 1)) (Nat.le_of_ble_eq_true rfl) q2230 rfl dX2_meanDirt_23 ?_
      refine A_bipush (v := 10) dX2_meanDirt_26 (by decide) ?_
      refine M_ald1 (n := 10) (v := m_now ms 10) (rfl) (by decide) (rfl) dX2_meanDirt_28 ?_
      refine A_i2d dX2_meanDirt_29 ?_
      refine A_ddiv dX2_meanDirt_30 (hdiv) ?_
      refine A_goto (tgt := 35) dX2_meanDirt_31 (by decide) ?_
      exact A_dret dX2_meanDirt_35 rfl ⟨by rw [meanN, if_pos ⟨c1, c2⟩], rfl⟩
theorem c_groups {l : Launch} {g : GC} (b9 : Nat) (ms : MM) (σ0 : AH) (h : Int32) (h1 : WFc (m_now ms)) : AMet l g mX2_groups 6 0 [.ref b9, .int h] (mc b9 ms σ0) (fun w9 τ9 => ∃ (y0 : AF), w9 = some (.int (gd (mayT (m_is ms) (bi (inR h 0 3)) 1) (nI (gU (m_now ms) h (nF (m_now ms))).2))) ∧ τ9 = mc b9 (⟨mayT (m_is ms) (bi (inR h 0 3)) 1, m_is ms, m_um ms, m_bd ms, m_pc ms, m_pa ms, m_sz ms, m_cu ms, m_st ms, m_tk ms, m_to ms, m_ps ms, m_now ms, m_asd ms, m_und ms, m_sav ms, m_isv ms, m_buf ms, y0, m_pag ms⟩ : MM) σ0) A_no := by
  refine A_of rfl (by decide) (Nat.le_of_ble_eq_true rfl) (L0 := [(0, .ref b9), (1, .int h)]) rfl ?_
  have hF := h1.2.2.2.2.2
  have hC := h1.1.2
  refine A_aload_n (i := 0) dX2_groups_0 rfl rfl ?_
  refine A_aload_n (i := 0) dX2_groups_1 rfl rfl ?_
  refine M_get 6 (v := .int (m_is ms)) (Nat.le_of_ble_eq_true rfl) q2235 rfl dX2_groups_2 ?_
  refine A_iload_n (i := 1) dX2_groups_5 rfl rfl ?_
  refine A_callS1E (v := some (.int (bi (inR h 0 3)))) (τ := mc b9 ms σ0) (c_isHeat b9 ms σ0 h) tX2_isHeat q2714 dX2_groups_6 (by decide) (Nat.le_of_eq (Nat.zero_add _)) (Nat.le_of_ble_eq_true rfl) ?_
  refine A_callV2E (v := some (.int (bi (mayT (m_is ms) (bi (inR h 0 3)) 1 = 0)))) (τ := mc b9 (⟨mayT (m_is ms) (bi (inR h 0 3)) 1, m_is ms, m_um ms, m_bd ms, m_pc ms, m_pa ms, m_sz ms, m_cu ms, m_st ms, m_tk ms, m_to ms, m_ps ms, m_now ms, m_asd ms, m_und ms, m_sav ms, m_isv ms, m_buf ms, m_grp ms, m_pag ms⟩ : MM) σ0) (c_mayTwo b9 ms σ0 (m_is ms) (bi (inR h 0 3))) tX2_mayTwo q2565 (mc_0 _ _ _) rfl rfl dX2_groups_9 (by decide) (Nat.le_of_eq (Nat.zero_add _)) (Nat.le_of_ble_eq_true rfl) ?_
  refine A_if_ne (tgt := 17) dX2_groups_12 (by decide) (fun c1 => ?_) (fun c1 => ?_)
  · skip
    have c1 := bi_ne0.mp c1
    refine A_iconst (v := 0) dX2_groups_17 (by decide) ?_
    refine A_istore_n (i := 2) dX2_groups_18 rfl (Nat.le_of_ble_eq_true rfl) ?_
    refine A_iconst (v := 0) dX2_groups_19 (by decide) ?_
    refine A_istore_n (i := 3) dX2_groups_20 rfl (Nat.le_of_ble_eq_true rfl) ?_
    refine A_sub (L' := [(0, .ref b9), (1, .int h), (2, .int (nI (gU (m_now ms) h 0).2)), (3, .int (nI 0))]) ⟨rfl, rfl, rfl, rfl, trivial⟩ ?_
    refine A_forP (α := AF) (nF (m_now ms)) (fun i21 u21 => 0) (fun i21 u21 => [(0, .ref b9), (1, .int h), (2, .int (nI (gU (m_now ms) h i21).2)), (3, .int (nI i21))]) (fun i21 u21 => mc b9 (⟨mayT (m_is ms) (bi (inR h 0 3)) 1, m_is ms, m_um ms, m_bd ms, m_pc ms, m_pa ms, m_sz ms, m_cu ms, m_st ms, m_tk ms, m_to ms, m_ps ms, m_now ms, m_asd ms, m_und ms, m_sav ms, m_isv ms, m_buf ms, u21, m_pag ms⟩ : MM) σ0) (fun i21 u21 => ∀ j, j < i21 → u21 j = (gU (m_now ms) h i21).1 j) (m_grp ms) (fun j hj => absurd hj (Nat.not_lt_zero j)) (fun i21 u21 hi21 hI21 ih21 => ?_) (fun u21 hI21 => ?_)
    · skip
      refine A_iload_n (i := 3) dX2_groups_21 rfl rfl ?_
      refine A_aload_n (i := 0) dX2_groups_22 rfl rfl ?_
      refine M_get 1 (v := .ref (b9 + 1)) (Nat.le_of_ble_eq_true rfl) q2230 rfl dX2_groups_23 ?_
      refine A_bipush (v := 10) dX2_groups_26 (by decide) ?_
      refine M_ald1 (n := 10) (v := m_now ms 10) (rfl) (by decide) (rfl) dX2_groups_28 ?_
      refine A_icmp_ge_f (tgt := 118) dX2_groups_29 (by decide) (br_lt h1.2.2.2.2.1 hi21 (by omega)) ?_
      refine A_aload_n (i := 0) dX2_groups_32 rfl rfl ?_
      refine M_get 17 (v := .ref (b9 + 7)) (Nat.le_of_ble_eq_true rfl) q2246 rfl dX2_groups_33 ?_
      refine A_iload_n (i := 3) dX2_groups_36 rfl rfl ?_
      refine A_iconst (v := (-1)) dX2_groups_37 (by decide) ?_
      refine M_ast7 (n := i21) (na := va_up u21 i21 (-1)) (rfl) (by omega) (rfl) dX2_groups_38 ?_
      refine A_aload_n (i := 0) dX2_groups_39 rfl rfl ?_
      refine A_iload_n (i := 3) dX2_groups_40 rfl rfl ?_
      refine A_callV1E (v := some (.int (bi (inBasket (m_now ms) i21)))) (τ := mc b9 (⟨mayT (m_is ms) (bi (inR h 0 3)) 1, m_is ms, m_um ms, m_bd ms, m_pc ms, m_pa ms, m_sz ms, m_cu ms, m_st ms, m_tk ms, m_to ms, m_ps ms, m_now ms, m_asd ms, m_und ms, m_sav ms, m_isv ms, m_buf ms, va_up u21 i21 (-1), m_pag ms⟩ : MM) σ0) (c_isInBasket b9 (⟨mayT (m_is ms) (bi (inR h 0 3)) 1, m_is ms, m_um ms, m_bd ms, m_pc ms, m_pa ms, m_sz ms, m_cu ms, m_st ms, m_tk ms, m_to ms, m_ps ms, m_now ms, m_asd ms, m_und ms, m_sav ms, m_isv ms, m_buf ms, va_up u21 i21 (-1), m_pag ms⟩ : MM) σ0 i21 (by first | assumption | omega)) tX2_isInBasket q2436 (mc_0 _ _ _) rfl rfl dX2_groups_41 (by decide) (Nat.le_of_eq (Nat.zero_add _)) (Nat.le_of_ble_eq_true rfl) ?_
      refine A_if_eq (tgt := 112) dX2_groups_44 (by decide) (fun c2 => ?_) (fun c2 => ?_)
      · skip
        have c2 := bi_eq0.mp c2
        refine A_iinc (v := nI (i21 + 1)) dX2_groups_112 rfl (nI_inc _ _) (Nat.le_of_ble_eq_true rfl) ?_
        refine A_goto (tgt := 21) dX2_groups_115 (by decide) ?_
        refine A_sub (L' := [(0, .ref b9), (1, .int h), (2, .int (nI (gU (m_now ms) h (i21 + 1)).2)), (3, .int (nI (i21 + 1)))]) ⟨rfl, rfl, lg_eq (by rw [gU_s, if_neg (fun h9 => c2 h9.1)]), rfl, trivial⟩ ?_
        exact ih21 (va_up u21 i21 (-1)) (gU_in hI21 (by rw [gU_s, if_neg (fun h9 => c2 h9.1)]))
      · skip
        have c2 := bi_ne0.mp c2
        refine A_aload_n (i := 0) dX2_groups_47 rfl rfl ?_
        refine A_iload_n (i := 3) dX2_groups_48 rfl rfl ?_
        refine A_iconst (v := 3) dX2_groups_49 (by decide) ?_
        refine A_callV2E (v := some (.int (fl (m_now ms) i21 3))) (τ := mc b9 (⟨mayT (m_is ms) (bi (inR h 0 3)) 1, m_is ms, m_um ms, m_bd ms, m_pc ms, m_pa ms, m_sz ms, m_cu ms, m_st ms, m_tk ms, m_to ms, m_ps ms, m_now ms, m_asd ms, m_und ms, m_sav ms, m_isv ms, m_buf ms, va_up u21 i21 (-1), m_pag ms⟩ : MM) σ0) (c_ofFlag b9 (⟨mayT (m_is ms) (bi (inR h 0 3)) 1, m_is ms, m_um ms, m_bd ms, m_pc ms, m_pa ms, m_sz ms, m_cu ms, m_st ms, m_tk ms, m_to ms, m_ps ms, m_now ms, m_asd ms, m_und ms, m_sav ms, m_isv ms, m_buf ms, va_up u21 i21 (-1), m_pag ms⟩ : MM) σ0 i21 3 (by first | assumption | omega) (by first | assumption | omega)) tX2_ofFlag q2444 (mc_0 _ _ _) rfl rfl dX2_groups_50 (by decide) (Nat.le_of_eq (Nat.zero_add _)) (Nat.le_of_ble_eq_true rfl) ?_
        refine A_if_eq (tgt := 112) dX2_groups_53 (by decide) (fun c3 => ?_) (fun c3 => ?_)
        · skip
          refine A_iinc (v := nI (i21 + 1)) dX2_groups_112 rfl (nI_inc _ _) (Nat.le_of_ble_eq_true rfl) ?_
          refine A_goto (tgt := 21) dX2_groups_115 (by decide) ?_
          refine A_sub (L' := [(0, .ref b9), (1, .int h), (2, .int (nI (gU (m_now ms) h (i21 + 1)).2)), (3, .int (nI (i21 + 1)))]) ⟨rfl, rfl, lg_eq (by rw [gU_s, if_neg (fun h9 => h9.2.1 c3)]), rfl, trivial⟩ ?_
          exact ih21 (va_up u21 i21 (-1)) (gU_in hI21 (by rw [gU_s, if_neg (fun h9 => h9.2.1 c3)]))
        · skip
          refine A_aload_n (i := 0) dX2_groups_56 rfl rfl ?_
          refine A_iload_n (i := 3) dX2_groups_57 rfl rfl ?_
          refine A_iconst (v := 2) dX2_groups_58 (by decide) ?_
          refine A_callV2E (v := some (.int (fl (m_now ms) i21 2))) (τ := mc b9 (⟨mayT (m_is ms) (bi (inR h 0 3)) 1, m_is ms, m_um ms, m_bd ms, m_pc ms, m_pa ms, m_sz ms, m_cu ms, m_st ms, m_tk ms, m_to ms, m_ps ms, m_now ms, m_asd ms, m_und ms, m_sav ms, m_isv ms, m_buf ms, va_up u21 i21 (-1), m_pag ms⟩ : MM) σ0) (c_ofFlag b9 (⟨mayT (m_is ms) (bi (inR h 0 3)) 1, m_is ms, m_um ms, m_bd ms, m_pc ms, m_pa ms, m_sz ms, m_cu ms, m_st ms, m_tk ms, m_to ms, m_ps ms, m_now ms, m_asd ms, m_und ms, m_sav ms, m_isv ms, m_buf ms, va_up u21 i21 (-1), m_pag ms⟩ : MM) σ0 i21 2 (by first | assumption | omega) (by first | assumption | omega)) tX2_ofFlag q2444 (mc_0 _ _ _) rfl rfl dX2_groups_59 (by decide) (Nat.le_of_eq (Nat.zero_add _)) (Nat.le_of_ble_eq_true rfl) ?_
          refine A_iload_n (i := 1) dX2_groups_62 rfl rfl ?_
          refine A_icmp_ge (tgt := 69) dX2_groups_63 (by decide) (fun c4 => ?_) (fun c4 => ?_)
          · skip
            have hle := gU_le (m_now ms) h i21
            have eG : ∀ j, j < i21 → va_up u21 i21 (-1) j = (gU (m_now ms) h i21).1 j := fun j hj => by rw [show va_up u21 i21 (-1) j = u21 j from if_neg (by omega)]; exact hI21 j hj
            have hJ := gJ_le (m_now ms) (gU (m_now ms) h i21).1 h (gU (m_now ms) h i21).2 i21
            refine A_iconst (v := 0) dX2_groups_69 (by decide) ?_
            refine A_istore dX2_groups_70 (Nat.le_of_ble_eq_true rfl) ?_
            refine A_sub (L' := [(0, .ref b9), (1, .int h), (2, .int (nI (gU (m_now ms) h i21).2)), (3, .int (nI i21)), (4, .int (nI 0))]) ⟨rfl, rfl, rfl, rfl, rfl, trivial⟩ ?_
            refine A_for (gJ (m_now ms) (gU (m_now ms) h i21).1 h (gU (m_now ms) h i21).2 i21) (fun i72 => 0) (fun i72 => [(0, .ref b9), (1, .int h), (2, .int (nI (gU (m_now ms) h i21).2)), (3, .int (nI i21)), (4, .int (nI i72))]) (fun i72 => mc b9 (⟨mayT (m_is ms) (bi (inR h 0 3)) 1, m_is ms, m_um ms, m_bd ms, m_pc ms, m_pa ms, m_sz ms, m_cu ms, m_st ms, m_tk ms, m_to ms, m_ps ms, m_now ms, m_asd ms, m_und ms, m_sav ms, m_isv ms, m_buf ms, va_up u21 i21 (-1), m_pag ms⟩ : MM) σ0) (fun i72 => True) trivial (fun i72 hi72 hI72 ih72 => ?_) (fun hI72 => ?_)
            · skip
              refine A_iload dX2_groups_72 rfl ?_
              refine A_iload_n (i := 2) dX2_groups_74 rfl rfl ?_
              refine A_icmp_ge_f (tgt := 95) dX2_groups_75 (by decide) (br_lt rfl (Nat.lt_of_lt_of_le hi72 hJ) (by omega)) ?_
              refine A_aload_n (i := 0) dX2_groups_78 rfl rfl ?_
              refine A_iload_n (i := 3) dX2_groups_79 rfl rfl ?_
              refine A_iload dX2_groups_80 rfl ?_
              refine A_iload_n (i := 1) dX2_groups_82 rfl rfl ?_
              refine A_callV3E (v := some (.int (bi (joinP (m_now ms) (va_up u21 i21 (-1)) i21 (nI i72) h)))) (τ := mc b9 (⟨mayT (m_is ms) (bi (inR h 0 3)) 1, m_is ms, m_um ms, m_bd ms, m_pc ms, m_pa ms, m_sz ms, m_cu ms, m_st ms, m_tk ms, m_to ms, m_ps ms, m_now ms, m_asd ms, m_und ms, m_sav ms, m_isv ms, m_buf ms, va_up u21 i21 (-1), m_pag ms⟩ : MM) σ0) (c_canJoin b9 (⟨mayT (m_is ms) (bi (inR h 0 3)) 1, m_is ms, m_um ms, m_bd ms, m_pc ms, m_pa ms, m_sz ms, m_cu ms, m_st ms, m_tk ms, m_to ms, m_ps ms, m_now ms, m_asd ms, m_und ms, m_sav ms, m_isv ms, m_buf ms, va_up u21 i21 (-1), m_pag ms⟩ : MM) σ0 i21 (nI i72) h (by first | assumption | omega) (by first | assumption | omega)) tX2_canJoin q2777 (mc_0 _ _ _) rfl rfl dX2_groups_83 (by decide) (Nat.le_of_eq (Nat.zero_add _)) (Nat.le_of_ble_eq_true rfl) ?_
              refine A_if_ne_f (tgt := 95) dX2_groups_86 (by decide) (bi_f (fun w => gJ_not hi72 ((join_congr eG).mp w))) ?_
              refine A_iinc (v := nI (i72 + 1)) dX2_groups_89 rfl (nI_inc _ _) (Nat.le_of_ble_eq_true rfl) ?_
              refine A_goto (tgt := 72) dX2_groups_92 (by decide) ?_
              refine A_sub (L' := [(0, .ref b9), (1, .int h), (2, .int (nI (gU (m_now ms) h i21).2)), (3, .int (nI i21)), (4, .int (nI (i72 + 1)))]) ⟨rfl, rfl, rfl, rfl, rfl, trivial⟩ ?_
              exact ih72 trivial
            · skip
              refine A_iload dX2_groups_72 rfl ?_
              refine A_iload_n (i := 2) dX2_groups_74 rfl rfl ?_
              refine A_icmp_ge (tgt := 95) dX2_groups_75 (by decide) (fun c5 => ?_) (fun c5 => ?_)
              · skip
                refine A_aload_n (i := 0) dX2_groups_95 rfl rfl ?_
                refine M_get 17 (v := .ref (b9 + 7)) (Nat.le_of_ble_eq_true rfl) q2246 rfl dX2_groups_96 ?_
                refine A_iload_n (i := 3) dX2_groups_99 rfl rfl ?_
                refine A_iload dX2_groups_100 rfl ?_
                refine M_ast7 (n := i21) (na := va_up u21 i21 (nI (gJ (m_now ms) (gU (m_now ms) h i21).1 h (gU (m_now ms) h i21).2 i21))) (rfl) (by omega) (up_up _ _ _ _) dX2_groups_102 ?_
                refine A_iload_n (i := 2) dX2_groups_103 rfl rfl ?_
                refine A_iload dX2_groups_104 rfl ?_
                refine A_iconst (v := 1) dX2_groups_106 (by decide) ?_
                refine A_iadd dX2_groups_107 ?_
                refine A_int (w := nI ((gJ (m_now ms) (gU (m_now ms) h i21).1 h (gU (m_now ms) h i21).2 i21) + 1)) (nI_add (gJ (m_now ms) (gU (m_now ms) h i21).1 h (gU (m_now ms) h i21).2 i21) 1) ?_
                refine A_mmax q2509 q454 q150 q455 dX2_groups_108 (by decide) (Nat.le_of_ble_eq_true rfl) ?_
                refine A_int (w := (mx (nI (gU (m_now ms) h i21).2) (nI ((gJ (m_now ms) (gU (m_now ms) h i21).1 h (gU (m_now ms) h i21).2 i21) + 1)))) rfl ?_
                refine A_int (w := nI (max (gU (m_now ms) h i21).2 ((gJ (m_now ms) (gU (m_now ms) h i21).1 h (gU (m_now ms) h i21).2 i21) + 1))) (mx_nI (by omega) (by omega)) ?_
                refine A_istore_n (i := 2) dX2_groups_111 rfl (Nat.le_of_ble_eq_true rfl) ?_
                refine A_iinc (v := nI (i21 + 1)) dX2_groups_112 rfl (nI_inc _ _) (Nat.le_of_ble_eq_true rfl) ?_
                refine A_goto (tgt := 21) dX2_groups_115 (by decide) ?_
                refine A_sub (L' := [(0, .ref b9), (1, .int h), (2, .int (nI (gU (m_now ms) h (i21 + 1)).2)), (3, .int (nI (i21 + 1)))]) ⟨rfl, rfl, lg_eq (by rw [gU_s, if_pos ⟨c2, c3, c4⟩]), rfl, trivial⟩ ?_
                exact ih21 (va_up u21 i21 (nI (gJ (m_now ms) (gU (m_now ms) h i21).1 h (gU (m_now ms) h i21).2 i21))) (gU_in hI21 (by rw [gU_s, if_pos ⟨c2, c3, c4⟩]))
              · skip
                refine A_aload_n (i := 0) dX2_groups_78 rfl rfl ?_
                refine A_iload_n (i := 3) dX2_groups_79 rfl rfl ?_
                refine A_iload dX2_groups_80 rfl ?_
                refine A_iload_n (i := 1) dX2_groups_82 rfl rfl ?_
                refine A_callV3E (v := some (.int (bi (joinP (m_now ms) (va_up u21 i21 (-1)) i21 (nI (gJ (m_now ms) (gU (m_now ms) h i21).1 h (gU (m_now ms) h i21).2 i21)) h)))) (τ := mc b9 (⟨mayT (m_is ms) (bi (inR h 0 3)) 1, m_is ms, m_um ms, m_bd ms, m_pc ms, m_pa ms, m_sz ms, m_cu ms, m_st ms, m_tk ms, m_to ms, m_ps ms, m_now ms, m_asd ms, m_und ms, m_sav ms, m_isv ms, m_buf ms, va_up u21 i21 (-1), m_pag ms⟩ : MM) σ0) (c_canJoin b9 (⟨mayT (m_is ms) (bi (inR h 0 3)) 1, m_is ms, m_um ms, m_bd ms, m_pc ms, m_pa ms, m_sz ms, m_cu ms, m_st ms, m_tk ms, m_to ms, m_ps ms, m_now ms, m_asd ms, m_und ms, m_sav ms, m_isv ms, m_buf ms, va_up u21 i21 (-1), m_pag ms⟩ : MM) σ0 i21 (nI (gJ (m_now ms) (gU (m_now ms) h i21).1 h (gU (m_now ms) h i21).2 i21)) h (by first | assumption | omega) (by first | assumption | omega)) tX2_canJoin q2777 (mc_0 _ _ _) rfl rfl dX2_groups_83 (by decide) (Nat.le_of_eq (Nat.zero_add _)) (Nat.le_of_ble_eq_true rfl) ?_
                refine A_if_ne_t (tgt := 95) dX2_groups_86 (by decide) (bi_ne0.mpr ((join_congr eG).mpr (gJ_at (lt_nle (by omega) c5)))) ?_
                refine A_aload_n (i := 0) dX2_groups_95 rfl rfl ?_
                refine M_get 17 (v := .ref (b9 + 7)) (Nat.le_of_ble_eq_true rfl) q2246 rfl dX2_groups_96 ?_
                refine A_iload_n (i := 3) dX2_groups_99 rfl rfl ?_
                refine A_iload dX2_groups_100 rfl ?_
                refine M_ast7 (n := i21) (na := va_up u21 i21 (nI (gJ (m_now ms) (gU (m_now ms) h i21).1 h (gU (m_now ms) h i21).2 i21))) (rfl) (by omega) (up_up _ _ _ _) dX2_groups_102 ?_
                refine A_iload_n (i := 2) dX2_groups_103 rfl rfl ?_
                refine A_iload dX2_groups_104 rfl ?_
                refine A_iconst (v := 1) dX2_groups_106 (by decide) ?_
                refine A_iadd dX2_groups_107 ?_
                refine A_int (w := nI ((gJ (m_now ms) (gU (m_now ms) h i21).1 h (gU (m_now ms) h i21).2 i21) + 1)) (nI_add (gJ (m_now ms) (gU (m_now ms) h i21).1 h (gU (m_now ms) h i21).2 i21) 1) ?_
                refine A_mmax q2509 q454 q150 q455 dX2_groups_108 (by decide) (Nat.le_of_ble_eq_true rfl) ?_
                refine A_int (w := (mx (nI (gU (m_now ms) h i21).2) (nI ((gJ (m_now ms) (gU (m_now ms) h i21).1 h (gU (m_now ms) h i21).2 i21) + 1)))) rfl ?_
                refine A_int (w := nI (max (gU (m_now ms) h i21).2 ((gJ (m_now ms) (gU (m_now ms) h i21).1 h (gU (m_now ms) h i21).2 i21) + 1))) (mx_nI (by omega) (by omega)) ?_
                refine A_istore_n (i := 2) dX2_groups_111 rfl (Nat.le_of_ble_eq_true rfl) ?_
                refine A_iinc (v := nI (i21 + 1)) dX2_groups_112 rfl (nI_inc _ _) (Nat.le_of_ble_eq_true rfl) ?_
                refine A_goto (tgt := 21) dX2_groups_115 (by decide) ?_
                refine A_sub (L' := [(0, .ref b9), (1, .int h), (2, .int (nI (gU (m_now ms) h (i21 + 1)).2)), (3, .int (nI (i21 + 1)))]) ⟨rfl, rfl, lg_eq (by rw [gU_s, if_pos ⟨c2, c3, c4⟩]), rfl, trivial⟩ ?_
                exact ih21 (va_up u21 i21 (nI (gJ (m_now ms) (gU (m_now ms) h i21).1 h (gU (m_now ms) h i21).2 i21))) (gU_in hI21 (by rw [gU_s, if_pos ⟨c2, c3, c4⟩]))
          · skip
            refine A_goto (tgt := 112) dX2_groups_66 (by decide) ?_
            refine A_iinc (v := nI (i21 + 1)) dX2_groups_112 rfl (nI_inc _ _) (Nat.le_of_ble_eq_true rfl) ?_
            refine A_goto (tgt := 21) dX2_groups_115 (by decide) ?_
            refine A_sub (L' := [(0, .ref b9), (1, .int h), (2, .int (nI (gU (m_now ms) h (i21 + 1)).2)), (3, .int (nI (i21 + 1)))]) ⟨rfl, rfl, lg_eq (by rw [gU_s, if_neg (fun h9 => c4 h9.2.2)]), rfl, trivial⟩ ?_
            exact ih21 (va_up u21 i21 (-1)) (gU_in hI21 (by rw [gU_s, if_neg (fun h9 => c4 h9.2.2)]))
    · skip
      refine A_iload_n (i := 3) dX2_groups_21 rfl rfl ?_
      refine A_aload_n (i := 0) dX2_groups_22 rfl rfl ?_
      refine M_get 1 (v := .ref (b9 + 1)) (Nat.le_of_ble_eq_true rfl) q2230 rfl dX2_groups_23 ?_
      refine A_bipush (v := 10) dX2_groups_26 (by decide) ?_
      refine M_ald1 (n := 10) (v := m_now ms 10) (rfl) (by decide) (rfl) dX2_groups_28 ?_
      refine A_icmp_ge_t (tgt := 118) dX2_groups_29 (by decide) (br_ge h1.2.2.2.2.1) ?_
      refine A_iload_n (i := 2) dX2_groups_118 rfl rfl ?_
      exact A_iret dX2_groups_119 rfl ⟨_, by rw [gd, if_pos c1], rfl⟩
  · skip
    have c1 := bi_eq0.mp c1
    refine A_iconst (v := 0) dX2_groups_15 (by decide) ?_
    exact A_iret dX2_groups_16 rfl ⟨_, by rw [gd, if_neg c1], rfl⟩
