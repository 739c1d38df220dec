/-! THE JDK 3: ArrayList.add, new lists, new iterators -/
set_option maxHeartbeats 100000 in
theorem c_lAdd2N {l : Launch} {g : GC} (σ : AH) (a ea n cap : Nat) (mc : Int32) (f : Nat → Option Nat) (x : Nat) (vs : List Value) (hL : σ.1 a = some (.inr (.inl (14, [.int mc, .ref ea, .int (nI n)])))) (hE : σ.1 ea = some (.inl (.object "java/lang/Object", cap, .inr (.inr (.inr (.inr f)))))) (hX : σ.1 x = some (.inr (.inl (5, vs)))) (hn : n < cap) (hc : cap < 2 ^ 31) : AMet l g mJ20_add_2 1 0 [.ref a, .ref x, .ref ea, .int (nI n)] σ (A_eq none (h_put (h_put σ ea (.inl (.object "java/lang/Object", cap, .inr (.inr (.inr (.inr (va_up f n (some x)))))))) a (.inr (.inl (14, [.int mc, .ref ea, .int (nI (n + 1))]))))) (A_no) := by
  refine A_of rfl (by decide) (Nat.le_of_ble_eq_true rfl) (L0 := [(0, .ref a), (1, .ref x), (2, .ref ea), (3, .int (nI n))]) rfl ?_
  refine A_iload_n (i := 3) dJ20_add_2_0 rfl rfl ?_
  refine A_aload_n (i := 2) dJ20_add_2_1 rfl rfl ?_
  refine A_alen hE (by decide) (v := nI cap) (rfl) dJ20_add_2_2 ?_
  refine A_icmp_ne_t (tgt := 11) dJ20_add_2_3 (by decide) (fun h => absurd ((nI_eqi (by omega) (by omega)).mp h) (by omega)) ?_
  refine A_aload_n (i := 2) dJ20_add_2_11 rfl rfl ?_
  refine A_iload_n (i := 3) dJ20_add_2_12 rfl rfl ?_
  refine A_aload_n (i := 1) dJ20_add_2_13 rfl rfl ?_
  refine A_aast hE (by decide) hX rfl (Or.inr q3007) (vp_in_nI hn hc) dJ20_add_2_14 ?_
  refine A_st (σ' := h_put σ ea (.inl (.object "java/lang/Object", cap, .inr (.inr (.inr (.inr (va_up f n (some x)))))))) (by rw [nI_clamp (by omega)]) ?_
  obtain ⟨σ1, eσ1⟩ : ∃ τ, τ = h_put σ ea (.inl (.object "java/lang/Object", cap, .inr (.inr (.inr (.inr (va_up f n (some x))))))) := ⟨_, rfl⟩
  refine A_st (σ' := σ1) eσ1.symm ?_
  have fσ1_0 : σ1.1 a = some (.inr (.inl (14, [.int mc, .ref ea, .int (nI n)]))) := by rw [eσ1]; exact (hp_ne (fun e9 => by rw [e9] at hL; have e8 := hL.symm.trans hE; simp at e8)).trans hL
  have fσ1_1 : σ1.1 ea = some (.inl (.object "java/lang/Object", cap, .inr (.inr (.inr (.inr (va_up f n (some x))))))) := by rw [eσ1]; exact if_pos rfl
  have fσ1_2 : σ1.1 x = some (.inr (.inl (5, vs))) := by rw [eσ1]; exact (hp_ne (fun e9 => by rw [e9] at hX; have e8 := hX.symm.trans hE; simp at e8)).trans hX
  refine A_aload_n (i := 0) dJ20_add_2_15 rfl rfl ?_
  refine A_iload_n (i := 3) dJ20_add_2_16 rfl rfl ?_
  refine A_iconst (v := 1) dJ20_add_2_17 (by decide) ?_
  refine A_iadd dJ20_add_2_18 ?_
  refine A_int (w := nI (n + 1)) (nI_add n 1) ?_
  refine A_putf cb_J20 fσ1_0 2 (Nat.le_of_ble_eq_true rfl) q791 rfl rfl rfl rfl (Nat.le_of_ble_eq_true rfl) dJ20_add_2_19 ?_
  obtain ⟨σ2, eσ2⟩ : ∃ τ, τ = h_put σ1 a (.inr (.inl (14, [.int mc, .ref ea, .int (nI (n + 1))]))) := ⟨_, rfl⟩
  refine A_st (σ' := σ2) eσ2.symm ?_
  have fσ2_0 : σ2.1 a = some (.inr (.inl (14, [.int mc, .ref ea, .int (nI (n + 1))]))) := by rw [eσ2]; exact if_pos rfl
  have fσ2_1 : σ2.1 ea = some (.inl (.object "java/lang/Object", cap, .inr (.inr (.inr (.inr (va_up f n (some x))))))) := by rw [eσ2]; exact (hp_ne (fun e9 => by rw [e9] at fσ1_1; have e8 := fσ1_1.symm.trans fσ1_0; simp at e8)).trans fσ1_1
  have fσ2_2 : σ2.1 x = some (.inr (.inl (5, vs))) := by rw [eσ2]; exact (hp_ne (fun e9 => by rw [e9] at fσ1_2; have e8 := fσ1_2.symm.trans fσ1_0; simp at e8)).trans fσ1_2
  exact A_vret dJ20_add_2_22 rfl (⟨rfl, by rw [eσ2, eσ1]⟩)
set_option maxHeartbeats 100000 in
theorem c_lAddN {l : Launch} {g : GC} (σ : AH) (a ea n cap : Nat) (mc : Int32) (f : Nat → Option Nat) (x : Nat) (vs : List Value) (hL : σ.1 a = some (.inr (.inl (14, [.int mc, .ref ea, .int (nI n)])))) (hE : σ.1 ea = some (.inl (.object "java/lang/Object", cap, .inr (.inr (.inr (.inr f)))))) (hX : σ.1 x = some (.inr (.inl (5, vs)))) (hn : n < cap) (hc : cap < 2 ^ 31) : AMet l g mJ20_add 2 0 [.ref a, .ref x] σ (A_eq (some (.int 1)) (h_put (h_put (h_put σ a (.inr (.inl (14, [.int (mc + 1), .ref ea, .int (nI n)])))) ea (.inl (.object "java/lang/Object", cap, .inr (.inr (.inr (.inr (va_up f n (some x)))))))) a (.inr (.inl (14, [.int (mc + 1), .ref ea, .int (nI (n + 1))]))))) (A_no) := by
  refine A_of rfl (by decide) (Nat.le_of_ble_eq_true rfl) (L0 := [(0, .ref a), (1, .ref x)]) rfl ?_
  refine A_aload_n (i := 0) dJ20_add_0 rfl rfl ?_
  refine A_dup dJ20_add_1 rfl ?_
  refine A_getfU cb_J20 hL 0 (Nat.le_of_ble_eq_true rfl) q795 q794 (v := .int mc) rfl dJ20_add_2 ?_
  refine A_iconst (v := 1) dJ20_add_5 (by decide) ?_
  refine A_iadd dJ20_add_6 ?_
  refine A_putfU cb_J20 hL 0 (Nat.le_of_ble_eq_true rfl) q795 q794 rfl rfl rfl (Nat.le_of_ble_eq_true rfl) dJ20_add_7 ?_
  obtain ⟨σ1, eσ1⟩ : ∃ τ, τ = h_put σ a (.inr (.inl (14, [.int (mc + 1), .ref ea, .int (nI n)]))) := ⟨_, rfl⟩
  refine A_st (σ' := σ1) eσ1.symm ?_
  have fσ1_0 : σ1.1 a = some (.inr (.inl (14, [.int (mc + 1), .ref ea, .int (nI n)]))) := by rw [eσ1]; exact if_pos rfl
  have fσ1_1 : σ1.1 ea = some (.inl (.object "java/lang/Object", cap, .inr (.inr (.inr (.inr f))))) := by rw [eσ1]; exact (hp_ne (fun e9 => by rw [e9] at hE; have e8 := hE.symm.trans hL; simp at e8)).trans hE
  have fσ1_2 : σ1.1 x = some (.inr (.inl (5, vs))) := by rw [eσ1]; exact (hp_ne (fun e9 => by rw [e9] at hX; have e8 := hX.symm.trans hL; simp at e8)).trans hX
  refine A_aload_n (i := 0) dJ20_add_10 rfl rfl ?_
  refine A_aload_n (i := 1) dJ20_add_11 rfl rfl ?_
  refine A_aload_n (i := 0) dJ20_add_12 rfl rfl ?_
  refine A_getf cb_J20 fσ1_0 1 (Nat.le_of_ble_eq_true rfl) q788 rfl (v := .ref ea) rfl dJ20_add_13 ?_
  refine A_aload_n (i := 0) dJ20_add_16 rfl rfl ?_
  refine A_getf cb_J20 fσ1_0 2 (Nat.le_of_ble_eq_true rfl) q791 rfl (v := .int (nI n)) rfl dJ20_add_17 ?_
  refine A_callV3E (b' := 0) (v := none) (τ := h_put (h_put σ1 ea (.inl (.object "java/lang/Object", cap, .inr (.inr (.inr (.inr (va_up f n (some x)))))))) a (.inr (.inl (14, [.int (mc + 1), .ref ea, .int (nI (n + 1))])))) (c_lAdd2N σ1 a ea n cap (mc + 1) f x vs fσ1_0 fσ1_1 fσ1_2 hn hc) tJ20_add_2 q1015 fσ1_0 rfl rfl dJ20_add_20 (by decide) (Nat.le_of_ble_eq_true rfl) (Nat.le_of_ble_eq_true rfl) ?_
  obtain ⟨σ2, eσ2⟩ : ∃ τ, τ = h_put (h_put σ1 ea (.inl (.object "java/lang/Object", cap, .inr (.inr (.inr (.inr (va_up f n (some x)))))))) a (.inr (.inl (14, [.int (mc + 1), .ref ea, .int (nI (n + 1))]))) := ⟨_, rfl⟩
  refine A_st (σ' := σ2) eσ2.symm ?_
  have fσ2_0 : σ2.1 a = some (.inr (.inl (14, [.int (mc + 1), .ref ea, .int (nI (n + 1))]))) := by rw [eσ2]; exact (if_pos rfl)
  have fσ2_1 : σ2.1 ea = some (.inl (.object "java/lang/Object", cap, .inr (.inr (.inr (.inr (va_up f n (some x))))))) := by rw [eσ2]; exact ((hp_ne (fun e9 => by rw [e9] at fσ1_1; have e8 := fσ1_1.symm.trans fσ1_0; simp at e8)).trans (if_pos rfl))
  have fσ2_2 : σ2.1 x = some (.inr (.inl (5, vs))) := by rw [eσ2]; exact ((hp_ne (fun e9 => by rw [e9] at fσ1_2; have e8 := fσ1_2.symm.trans fσ1_0; simp at e8)).trans ((hp_ne (fun e9 => by rw [e9] at fσ1_2; have e8 := fσ1_2.symm.trans fσ1_1; simp at e8)).trans fσ1_2))
  refine A_iconst (v := 1) dJ20_add_23 (by decide) ?_
  exact A_zret dJ20_add_24 rfl (rfl) (⟨rfl, by rw [eσ2, eσ1]⟩)
set_option maxHeartbeats 100000 in
theorem c_lAdd2F {l : Launch} {g : GC} (σ : AH) (a ea n cap : Nat) (mc : Int32) (f : Nat → Option Nat) (x : Nat) (vs : List Value) (hL : σ.1 a = some (.inr (.inl (14, [.int mc, .ref ea, .int (nI n)])))) (hE : σ.1 ea = some (.inl (.object "java/lang/Object", cap, .inr (.inr (.inr (.inr f)))))) (hX : σ.1 x = some (.inr (.inl (6, vs)))) (hn : n < cap) (hc : cap < 2 ^ 31) : AMet l g mJ20_add_2 1 0 [.ref a, .ref x, .ref ea, .int (nI n)] σ (A_eq none (h_put (h_put σ ea (.inl (.object "java/lang/Object", cap, .inr (.inr (.inr (.inr (va_up f n (some x)))))))) a (.inr (.inl (14, [.int mc, .ref ea, .int (nI (n + 1))]))))) (A_no) := by
  refine A_of rfl (by decide) (Nat.le_of_ble_eq_true rfl) (L0 := [(0, .ref a), (1, .ref x), (2, .ref ea), (3, .int (nI n))]) rfl ?_
  refine A_iload_n (i := 3) dJ20_add_2_0 rfl rfl ?_
  refine A_aload_n (i := 2) dJ20_add_2_1 rfl rfl ?_
  refine A_alen hE (by decide) (v := nI cap) (rfl) dJ20_add_2_2 ?_
  refine A_icmp_ne_t (tgt := 11) dJ20_add_2_3 (by decide) (fun h => absurd ((nI_eqi (by omega) (by omega)).mp h) (by omega)) ?_
  refine A_aload_n (i := 2) dJ20_add_2_11 rfl rfl ?_
  refine A_iload_n (i := 3) dJ20_add_2_12 rfl rfl ?_
  refine A_aload_n (i := 1) dJ20_add_2_13 rfl rfl ?_
  refine A_aast hE (by decide) hX rfl (Or.inr q3008) (vp_in_nI hn hc) dJ20_add_2_14 ?_
  refine A_st (σ' := h_put σ ea (.inl (.object "java/lang/Object", cap, .inr (.inr (.inr (.inr (va_up f n (some x)))))))) (by rw [nI_clamp (by omega)]) ?_
  obtain ⟨σ1, eσ1⟩ : ∃ τ, τ = h_put σ ea (.inl (.object "java/lang/Object", cap, .inr (.inr (.inr (.inr (va_up f n (some x))))))) := ⟨_, rfl⟩
  refine A_st (σ' := σ1) eσ1.symm ?_
  have fσ1_0 : σ1.1 a = some (.inr (.inl (14, [.int mc, .ref ea, .int (nI n)]))) := by rw [eσ1]; exact (hp_ne (fun e9 => by rw [e9] at hL; have e8 := hL.symm.trans hE; simp at e8)).trans hL
  have fσ1_1 : σ1.1 ea = some (.inl (.object "java/lang/Object", cap, .inr (.inr (.inr (.inr (va_up f n (some x))))))) := by rw [eσ1]; exact if_pos rfl
  have fσ1_2 : σ1.1 x = some (.inr (.inl (6, vs))) := by rw [eσ1]; exact (hp_ne (fun e9 => by rw [e9] at hX; have e8 := hX.symm.trans hE; simp at e8)).trans hX
  refine A_aload_n (i := 0) dJ20_add_2_15 rfl rfl ?_
  refine A_iload_n (i := 3) dJ20_add_2_16 rfl rfl ?_
  refine A_iconst (v := 1) dJ20_add_2_17 (by decide) ?_
  refine A_iadd dJ20_add_2_18 ?_
  refine A_int (w := nI (n + 1)) (nI_add n 1) ?_
  refine A_putf cb_J20 fσ1_0 2 (Nat.le_of_ble_eq_true rfl) q791 rfl rfl rfl rfl (Nat.le_of_ble_eq_true rfl) dJ20_add_2_19 ?_
  obtain ⟨σ2, eσ2⟩ : ∃ τ, τ = h_put σ1 a (.inr (.inl (14, [.int mc, .ref ea, .int (nI (n + 1))]))) := ⟨_, rfl⟩
  refine A_st (σ' := σ2) eσ2.symm ?_
  have fσ2_0 : σ2.1 a = some (.inr (.inl (14, [.int mc, .ref ea, .int (nI (n + 1))]))) := by rw [eσ2]; exact if_pos rfl
  have fσ2_1 : σ2.1 ea = some (.inl (.object "java/lang/Object", cap, .inr (.inr (.inr (.inr (va_up f n (some x))))))) := by rw [eσ2]; exact (hp_ne (fun e9 => by rw [e9] at fσ1_1; have e8 := fσ1_1.symm.trans fσ1_0; simp at e8)).trans fσ1_1
  have fσ2_2 : σ2.1 x = some (.inr (.inl (6, vs))) := by rw [eσ2]; exact (hp_ne (fun e9 => by rw [e9] at fσ1_2; have e8 := fσ1_2.symm.trans fσ1_0; simp at e8)).trans fσ1_2
  exact A_vret dJ20_add_2_22 rfl (⟨rfl, by rw [eσ2, eσ1]⟩)
set_option maxHeartbeats 100000 in
theorem c_lAddF {l : Launch} {g : GC} (σ : AH) (a ea n cap : Nat) (mc : Int32) (f : Nat → Option Nat) (x : Nat) (vs : List Value) (hL : σ.1 a = some (.inr (.inl (14, [.int mc, .ref ea, .int (nI n)])))) (hE : σ.1 ea = some (.inl (.object "java/lang/Object", cap, .inr (.inr (.inr (.inr f)))))) (hX : σ.1 x = some (.inr (.inl (6, vs)))) (hn : n < cap) (hc : cap < 2 ^ 31) : AMet l g mJ20_add 2 0 [.ref a, .ref x] σ (A_eq (some (.int 1)) (h_put (h_put (h_put σ a (.inr (.inl (14, [.int (mc + 1), .ref ea, .int (nI n)])))) ea (.inl (.object "java/lang/Object", cap, .inr (.inr (.inr (.inr (va_up f n (some x)))))))) a (.inr (.inl (14, [.int (mc + 1), .ref ea, .int (nI (n + 1))]))))) (A_no) := by
  refine A_of rfl (by decide) (Nat.le_of_ble_eq_true rfl) (L0 := [(0, .ref a), (1, .ref x)]) rfl ?_
  refine A_aload_n (i := 0) dJ20_add_0 rfl rfl ?_
  refine A_dup dJ20_add_1 rfl ?_
  refine A_getfU cb_J20 hL 0 (Nat.le_of_ble_eq_true rfl) q795 q794 (v := .int mc) rfl dJ20_add_2 ?_
  refine A_iconst (v := 1) dJ20_add_5 (by decide) ?_
  refine A_iadd dJ20_add_6 ?_
  refine A_putfU cb_J20 hL 0 (Nat.le_of_ble_eq_true rfl) q795 q794 rfl rfl rfl (Nat.le_of_ble_eq_true rfl) dJ20_add_7 ?_
  obtain ⟨σ1, eσ1⟩ : ∃ τ, τ = h_put σ a (.inr (.inl (14, [.int (mc + 1), .ref ea, .int (nI n)]))) := ⟨_, rfl⟩
  refine A_st (σ' := σ1) eσ1.symm ?_
  have fσ1_0 : σ1.1 a = some (.inr (.inl (14, [.int (mc + 1), .ref ea, .int (nI n)]))) := by rw [eσ1]; exact if_pos rfl
  have fσ1_1 : σ1.1 ea = some (.inl (.object "java/lang/Object", cap, .inr (.inr (.inr (.inr f))))) := by rw [eσ1]; exact (hp_ne (fun e9 => by rw [e9] at hE; have e8 := hE.symm.trans hL; simp at e8)).trans hE
  have fσ1_2 : σ1.1 x = some (.inr (.inl (6, vs))) := by rw [eσ1]; exact (hp_ne (fun e9 => by rw [e9] at hX; have e8 := hX.symm.trans hL; simp at e8)).trans hX
  refine A_aload_n (i := 0) dJ20_add_10 rfl rfl ?_
  refine A_aload_n (i := 1) dJ20_add_11 rfl rfl ?_
  refine A_aload_n (i := 0) dJ20_add_12 rfl rfl ?_
  refine A_getf cb_J20 fσ1_0 1 (Nat.le_of_ble_eq_true rfl) q788 rfl (v := .ref ea) rfl dJ20_add_13 ?_
  refine A_aload_n (i := 0) dJ20_add_16 rfl rfl ?_
  refine A_getf cb_J20 fσ1_0 2 (Nat.le_of_ble_eq_true rfl) q791 rfl (v := .int (nI n)) rfl dJ20_add_17 ?_
  refine A_callV3E (b' := 0) (v := none) (τ := h_put (h_put σ1 ea (.inl (.object "java/lang/Object", cap, .inr (.inr (.inr (.inr (va_up f n (some x)))))))) a (.inr (.inl (14, [.int (mc + 1), .ref ea, .int (nI (n + 1))])))) (c_lAdd2F σ1 a ea n cap (mc + 1) f x vs fσ1_0 fσ1_1 fσ1_2 hn hc) tJ20_add_2 q1015 fσ1_0 rfl rfl dJ20_add_20 (by decide) (Nat.le_of_ble_eq_true rfl) (Nat.le_of_ble_eq_true rfl) ?_
  obtain ⟨σ2, eσ2⟩ : ∃ τ, τ = h_put (h_put σ1 ea (.inl (.object "java/lang/Object", cap, .inr (.inr (.inr (.inr (va_up f n (some x)))))))) a (.inr (.inl (14, [.int (mc + 1), .ref ea, .int (nI (n + 1))]))) := ⟨_, rfl⟩
  refine A_st (σ' := σ2) eσ2.symm ?_
  have fσ2_0 : σ2.1 a = some (.inr (.inl (14, [.int (mc + 1), .ref ea, .int (nI (n + 1))]))) := by rw [eσ2]; exact (if_pos rfl)
  have fσ2_1 : σ2.1 ea = some (.inl (.object "java/lang/Object", cap, .inr (.inr (.inr (.inr (va_up f n (some x))))))) := by rw [eσ2]; exact ((hp_ne (fun e9 => by rw [e9] at fσ1_1; have e8 := fσ1_1.symm.trans fσ1_0; simp at e8)).trans (if_pos rfl))
  have fσ2_2 : σ2.1 x = some (.inr (.inl (6, vs))) := by rw [eσ2]; exact ((hp_ne (fun e9 => by rw [e9] at fσ1_2; have e8 := fσ1_2.symm.trans fσ1_0; simp at e8)).trans ((hp_ne (fun e9 => by rw [e9] at fσ1_2; have e8 := fσ1_2.symm.trans fσ1_1; simp at e8)).trans fσ1_2))
  refine A_iconst (v := 1) dJ20_add_23 (by decide) ?_
  exact A_zret dJ20_add_24 rfl (rfl) (⟨rfl, by rw [eσ2, eσ1]⟩)
set_option maxHeartbeats 100000 in
theorem c_aclInit {l : Launch} {g : GC} (σ : AH) (a : Nat)  : AMet l g mJ0_init 1 0 [.ref a] σ (A_eq none σ) (A_no) := by
  refine A_of rfl (by decide) (Nat.le_of_ble_eq_true rfl) (L0 := [(0, .ref a)]) rfl ?_
  refine A_aload_n (i := 0) dJ0_init_0 rfl rfl ?_
  refine A_objInit q189 q179 q180 dJ0_init_1 (by decide) (Nat.le_of_ble_eq_true rfl) ?_
  exact A_vret dJ0_init_4 rfl (⟨rfl, rfl⟩)
set_option maxHeartbeats 100000 in
theorem c_alInit {l : Launch} {g : GC} (σ : AH) (a : Nat) (hL : σ.1 a = some (.inr (.inl (14, [.int 0, .null, .int 0])))) : AMet l g mJ19_init 2 0 [.ref a] σ (A_eq none (h_put σ a (.inr (.inl (14, [.int 0, .null, .int 0]))))) (A_no) := by
  refine A_of rfl (by decide) (Nat.le_of_ble_eq_true rfl) (L0 := [(0, .ref a)]) rfl ?_
  refine A_aload_n (i := 0) dJ19_init_0 rfl rfl ?_
  refine A_callI0E (b' := 0) (v := none) (τ := σ) (c_aclInit σ a) tJ0_init q776 dJ19_init_1 (by decide) (Nat.le_of_ble_eq_true rfl) (Nat.le_of_ble_eq_true rfl) ?_
  refine A_aload_n (i := 0) dJ19_init_4 rfl rfl ?_
  refine A_iconst (v := 0) dJ19_init_5 (by decide) ?_
  refine A_putf cb_J20 hL 0 (Nat.le_of_ble_eq_true rfl) q792 rfl rfl rfl rfl (Nat.le_of_ble_eq_true rfl) dJ19_init_6 ?_
  obtain ⟨σ1, eσ1⟩ : ∃ τ, τ = h_put σ a (.inr (.inl (14, [.int 0, .null, .int 0]))) := ⟨_, rfl⟩
  refine A_st (σ' := σ1) eσ1.symm ?_
  have fσ1_0 : σ1.1 a = some (.inr (.inl (14, [.int 0, .null, .int 0]))) := by rw [eσ1]; exact if_pos rfl
  exact A_vret dJ19_init_9 rfl (⟨rfl, by rw [eσ1]⟩)
set_option maxHeartbeats 100000 in
theorem c_lNew4 {l : Launch} {g : GC} (σ : AH) (a : Nat) (hL : σ.1 a = some (.inr (.inl (14, [.int 0, .null, .int 0])))) : AMet l g mJ20_init 3 1 [.ref a, .int 4] σ (A_eq none (h_put (h_new (h_put σ a (.inr (.inl (14, [.int 0, .null, .int 0])))) (.inl (.object "java/lang/Object", 4, .inr (.inr (.inr (.inr (fun _ => none))))))) a (.inr (.inl (14, [.int 0, .ref σ.2, .int 0]))))) (A_no) := by
  refine A_of rfl (by decide) (Nat.le_of_ble_eq_true rfl) (L0 := [(0, .ref a), (1, .int 4)]) rfl ?_
  refine A_wfh (fun wσ hgσ => ?_)
  refine A_aload_n (i := 0) dJ20_init_0 rfl rfl ?_
  refine A_callI0E (b' := 1) (v := none) (τ := h_put σ a (.inr (.inl (14, [.int 0, .null, .int 0])))) (c_alInit σ a hL) tJ19_init q773 dJ20_init_1 (by decide) (Nat.le_of_ble_eq_true rfl) (Nat.le_of_ble_eq_true rfl) ?_
  obtain ⟨σ1, eσ1⟩ : ∃ τ, τ = h_put σ a (.inr (.inl (14, [.int 0, .null, .int 0]))) := ⟨_, rfl⟩
  refine A_st (σ' := σ1) eσ1.symm ?_
  have wσ1 : wfh σ1 := by rw [eσ1]; exact (wσ.put hL)
  have fσ1_0 : σ1.1 a = some (.inr (.inl (14, [.int 0, .null, .int 0]))) := by rw [eσ1]; exact (if_pos rfl)
  refine A_iload_n (i := 1) dJ20_init_4 rfl rfl ?_
  refine A_if_le_f (tgt := 19) dJ20_init_5 (by decide) (by decide) ?_
  refine A_aload_n (i := 0) dJ20_init_8 rfl rfl ?_
  refine A_iload_n (i := 1) dJ20_init_9 rfl rfl ?_
  refine A_anew (b' := 0) (u := 1) (by decide) q777 q191 (n' := 4) (by decide) (by decide) (by decide) (Nat.le_of_ble_eq_true rfl) ⟨Nat.le_of_ble_eq_true rfl, Nat.le_of_ble_eq_true rfl⟩ dJ20_init_10 ?_
  obtain ⟨σ2, eσ2⟩ : ∃ τ, τ = h_new σ1 (.inl (.object "java/lang/Object", 4, .inr (.inr (.inr (.inr (fun _ => none)))))) := ⟨_, rfl⟩
  refine A_st (σ' := σ2) eσ2.symm ?_
  have wσ2 : wfh σ2 := by rw [eσ2]; exact wσ1.new
  have fσ2_0 : σ2.1 a = some (.inr (.inl (14, [.int 0, .null, .int 0]))) := by rw [eσ2]; exact (hn_ne (Nat.ne_of_lt (wσ1 _ _ fσ1_0))).trans fσ1_0
  have fσ2_1 : σ2.1 σ1.2 = some (.inl (.object "java/lang/Object", 4, .inr (.inr (.inr (.inr (fun _ => none)))))) := by rw [eσ2]; exact if_pos rfl
  have xσ2 : ext σ1 σ2 := by rw [eσ2]; exact ext_new _ _
  refine A_putf cb_J20 fσ2_0 1 (Nat.le_of_ble_eq_true rfl) q788 rfl rfl rfl rfl (Nat.le_of_ble_eq_true rfl) dJ20_init_13 ?_
  obtain ⟨σ3, eσ3⟩ : ∃ τ, τ = h_put σ2 a (.inr (.inl (14, [.int 0, .ref σ1.2, .int 0]))) := ⟨_, rfl⟩
  refine A_st (σ' := σ3) eσ3.symm ?_
  have wσ3 : wfh σ3 := by rw [eσ3]; exact wσ2.put fσ2_0
  have fσ3_0 : σ3.1 a = some (.inr (.inl (14, [.int 0, .ref σ1.2, .int 0]))) := by rw [eσ3]; exact if_pos rfl
  have fσ3_1 : σ3.1 σ1.2 = some (.inl (.object "java/lang/Object", 4, .inr (.inr (.inr (.inr (fun _ => none)))))) := by rw [eσ3]; exact (hp_ne (fun e9 => by rw [e9] at fσ2_1; have e8 := fσ2_1.symm.trans fσ2_0; simp at e8)).trans fσ2_1
  refine A_goto (tgt := 60) dJ20_init_16 (by decide) ?_
  exact A_vret dJ20_init_60 rfl (⟨rfl, by rw [eσ3, eσ2, eσ1] <;> rfl⟩)
set_option maxHeartbeats 100000 in
theorem c_lNew12 {l : Launch} {g : GC} (σ : AH) (a : Nat) (hL : σ.1 a = some (.inr (.inl (14, [.int 0, .null, .int 0])))) : AMet l g mJ20_init 3 3 [.ref a, .int 12] σ (A_eq none (h_put (h_new (h_put σ a (.inr (.inl (14, [.int 0, .null, .int 0])))) (.inl (.object "java/lang/Object", 12, .inr (.inr (.inr (.inr (fun _ => none))))))) a (.inr (.inl (14, [.int 0, .ref σ.2, .int 0]))))) (A_no) := by
  refine A_of rfl (by decide) (Nat.le_of_ble_eq_true rfl) (L0 := [(0, .ref a), (1, .int 12)]) rfl ?_
  refine A_wfh (fun wσ hgσ => ?_)
  refine A_aload_n (i := 0) dJ20_init_0 rfl rfl ?_
  refine A_callI0E (b' := 3) (v := none) (τ := h_put σ a (.inr (.inl (14, [.int 0, .null, .int 0])))) (c_alInit σ a hL) tJ19_init q773 dJ20_init_1 (by decide) (Nat.le_of_ble_eq_true rfl) (Nat.le_of_ble_eq_true rfl) ?_
  obtain ⟨σ1, eσ1⟩ : ∃ τ, τ = h_put σ a (.inr (.inl (14, [.int 0, .null, .int 0]))) := ⟨_, rfl⟩
  refine A_st (σ' := σ1) eσ1.symm ?_
  have wσ1 : wfh σ1 := by rw [eσ1]; exact (wσ.put hL)
  have fσ1_0 : σ1.1 a = some (.inr (.inl (14, [.int 0, .null, .int 0]))) := by rw [eσ1]; exact (if_pos rfl)
  refine A_iload_n (i := 1) dJ20_init_4 rfl rfl ?_
  refine A_if_le_f (tgt := 19) dJ20_init_5 (by decide) (by decide) ?_
  refine A_aload_n (i := 0) dJ20_init_8 rfl rfl ?_
  refine A_iload_n (i := 1) dJ20_init_9 rfl rfl ?_
  refine A_anew (b' := 0) (u := 3) (by decide) q777 q191 (n' := 12) (by decide) (by decide) (by decide) (Nat.le_of_ble_eq_true rfl) ⟨Nat.le_of_ble_eq_true rfl, Nat.le_of_ble_eq_true rfl⟩ dJ20_init_10 ?_
  obtain ⟨σ2, eσ2⟩ : ∃ τ, τ = h_new σ1 (.inl (.object "java/lang/Object", 12, .inr (.inr (.inr (.inr (fun _ => none)))))) := ⟨_, rfl⟩
  refine A_st (σ' := σ2) eσ2.symm ?_
  have wσ2 : wfh σ2 := by rw [eσ2]; exact wσ1.new
  have fσ2_0 : σ2.1 a = some (.inr (.inl (14, [.int 0, .null, .int 0]))) := by rw [eσ2]; exact (hn_ne (Nat.ne_of_lt (wσ1 _ _ fσ1_0))).trans fσ1_0
  have fσ2_1 : σ2.1 σ1.2 = some (.inl (.object "java/lang/Object", 12, .inr (.inr (.inr (.inr (fun _ => none)))))) := by rw [eσ2]; exact if_pos rfl
  have xσ2 : ext σ1 σ2 := by rw [eσ2]; exact ext_new _ _
  refine A_putf cb_J20 fσ2_0 1 (Nat.le_of_ble_eq_true rfl) q788 rfl rfl rfl rfl (Nat.le_of_ble_eq_true rfl) dJ20_init_13 ?_
  obtain ⟨σ3, eσ3⟩ : ∃ τ, τ = h_put σ2 a (.inr (.inl (14, [.int 0, .ref σ1.2, .int 0]))) := ⟨_, rfl⟩
  refine A_st (σ' := σ3) eσ3.symm ?_
  have wσ3 : wfh σ3 := by rw [eσ3]; exact wσ2.put fσ2_0
  have fσ3_0 : σ3.1 a = some (.inr (.inl (14, [.int 0, .ref σ1.2, .int 0]))) := by rw [eσ3]; exact if_pos rfl
  have fσ3_1 : σ3.1 σ1.2 = some (.inl (.object "java/lang/Object", 12, .inr (.inr (.inr (.inr (fun _ => none)))))) := by rw [eσ3]; exact (hp_ne (fun e9 => by rw [e9] at fσ2_1; have e8 := fσ2_1.symm.trans fσ2_0; simp at e8)).trans fσ2_1
  refine A_goto (tgt := 60) dJ20_init_16 (by decide) ?_
  exact A_vret dJ20_init_60 rfl (⟨rfl, by rw [eσ3, eσ2, eσ1] <;> rfl⟩)
set_option maxHeartbeats 100000 in
theorem c_iInit {l : Launch} {g : GC} (σ : AH) (i a ea n : Nat) (mc : Int32) (hI : σ.1 i = some (.inr (.inl (15, [.int 0, .int 0, .int 0, .null])))) (hL : σ.1 a = some (.inr (.inl (14, [.int mc, .ref ea, .int (nI n)])))) : AMet l g mJ23_init 1 0 [.ref i, .ref a] σ (A_eq none (h_put (h_put (h_put σ i (.inr (.inl (15, [.int 0, .int 0, .int 0, .ref a])))) i (.inr (.inl (15, [.int 0, .int (-1), .int 0, .ref a])))) i (.inr (.inl (15, [.int 0, .int (-1), .int mc, .ref a]))))) (A_no) := by
  refine A_of rfl (by decide) (Nat.le_of_ble_eq_true rfl) (L0 := [(0, .ref i), (1, .ref a)]) rfl ?_
  refine A_aload_n (i := 0) dJ23_init_0 rfl rfl ?_
  refine A_aload_n (i := 1) dJ23_init_1 rfl rfl ?_
  refine A_putfF cb_J23 hI 3 (Nat.le_of_ble_eq_true rfl) q1585 rfl rfl rfl rfl rfl rfl (Nat.le_of_ble_eq_true rfl) dJ23_init_2 ?_
  obtain ⟨σ1, eσ1⟩ : ∃ τ, τ = h_put σ i (.inr (.inl (15, [.int 0, .int 0, .int 0, .ref a]))) := ⟨_, rfl⟩
  refine A_st (σ' := σ1) eσ1.symm ?_
  have fσ1_0 : σ1.1 i = some (.inr (.inl (15, [.int 0, .int 0, .int 0, .ref a]))) := by rw [eσ1]; exact if_pos rfl
  have fσ1_1 : σ1.1 a = some (.inr (.inl (14, [.int mc, .ref ea, .int (nI n)]))) := by rw [eσ1]; exact (hp_ne (fun e9 => by rw [e9] at hL; have e8 := hL.symm.trans hI; simp at e8)).trans hL
  refine A_aload_n (i := 0) dJ23_init_5 rfl rfl ?_
  refine A_objInit q1581 q179 q180 dJ23_init_6 (by decide) (Nat.le_of_ble_eq_true rfl) ?_
  refine A_aload_n (i := 0) dJ23_init_9 rfl rfl ?_
  refine A_iconst (v := (-1)) dJ23_init_10 (by decide) ?_
  refine A_putf cb_J23 fσ1_0 1 (Nat.le_of_ble_eq_true rfl) q1583 rfl rfl rfl rfl (Nat.le_of_ble_eq_true rfl) dJ23_init_11 ?_
  obtain ⟨σ2, eσ2⟩ : ∃ τ, τ = h_put σ1 i (.inr (.inl (15, [.int 0, .int (-1), .int 0, .ref a]))) := ⟨_, rfl⟩
  refine A_st (σ' := σ2) eσ2.symm ?_
  have fσ2_0 : σ2.1 i = some (.inr (.inl (15, [.int 0, .int (-1), .int 0, .ref a]))) := by rw [eσ2]; exact if_pos rfl
  have fσ2_1 : σ2.1 a = some (.inr (.inl (14, [.int mc, .ref ea, .int (nI n)]))) := by rw [eσ2]; exact (hp_ne (fun e9 => by rw [e9] at fσ1_1; have e8 := fσ1_1.symm.trans fσ1_0; simp at e8)).trans fσ1_1
  refine A_aload_n (i := 0) dJ23_init_14 rfl rfl ?_
  refine A_aload_n (i := 0) dJ23_init_15 rfl rfl ?_
  refine A_getf cb_J23 fσ2_0 3 (Nat.le_of_ble_eq_true rfl) q1585 rfl (v := .ref a) rfl dJ23_init_16 ?_
  refine A_getfU cb_J20 fσ2_1 0 (Nat.le_of_ble_eq_true rfl) q793 q794 (v := .int mc) rfl dJ23_init_19 ?_
  refine A_putf cb_J23 fσ2_0 2 (Nat.le_of_ble_eq_true rfl) q1584 rfl rfl rfl rfl (Nat.le_of_ble_eq_true rfl) dJ23_init_22 ?_
  obtain ⟨σ3, eσ3⟩ : ∃ τ, τ = h_put σ2 i (.inr (.inl (15, [.int 0, .int (-1), .int mc, .ref a]))) := ⟨_, rfl⟩
  refine A_st (σ' := σ3) eσ3.symm ?_
  have fσ3_0 : σ3.1 i = some (.inr (.inl (15, [.int 0, .int (-1), .int mc, .ref a]))) := by rw [eσ3]; exact if_pos rfl
  have fσ3_1 : σ3.1 a = some (.inr (.inl (14, [.int mc, .ref ea, .int (nI n)]))) := by rw [eσ3]; exact (hp_ne (fun e9 => by rw [e9] at fσ2_1; have e8 := fσ2_1.symm.trans fσ2_0; simp at e8)).trans fσ2_1
  exact A_vret dJ23_init_25 rfl (⟨rfl, by rw [eσ3, eσ2, eσ1]⟩)
set_option maxHeartbeats 100000 in
theorem c_lIter {l : Launch} {g : GC} (σ : AH) (a ea n : Nat) (mc : Int32) (hL : σ.1 a = some (.inr (.inl (14, [.int mc, .ref ea, .int (nI n)])))) : AMet l g mJ20_iterator 2 1 [.ref a] σ (A_eq (some (.ref σ.2)) (h_put (h_put (h_put (h_new σ (.inr (.inl (15, [.int 0, .int 0, .int 0, .null])))) σ.2 (.inr (.inl (15, [.int 0, .int 0, .int 0, .ref a])))) σ.2 (.inr (.inl (15, [.int 0, .int (-1), .int 0, .ref a])))) σ.2 (.inr (.inl (15, [.int 0, .int (-1), .int mc, .ref a]))))) (A_no) := by
  refine A_of rfl (by decide) (Nat.le_of_ble_eq_true rfl) (L0 := [(0, .ref a)]) rfl ?_
  refine A_wfh (fun wσ hgσ => ?_)
  refine A_new (b' := 0) (u := 1) cb_J23 q1576 q1577 q170 (fs := [.int 0, .int 0, .int 0, .null]) (by intro j hj; rcases j with _ | j; exact rfl; rcases j with _ | j; exact rfl; rcases j with _ | j; exact rfl; rcases j with _ | j; exact rfl; omega) (Nat.le_of_ble_eq_true rfl) ⟨Nat.le_of_ble_eq_true rfl, Nat.le_of_ble_eq_true rfl⟩ dJ20_iterator_0 ?_
  obtain ⟨σ1, eσ1⟩ : ∃ τ, τ = h_new σ (.inr (.inl (15, [.int 0, .int 0, .int 0, .null]))) := ⟨_, rfl⟩
  refine A_st (σ' := σ1) eσ1.symm ?_
  have wσ1 : wfh σ1 := by rw [eσ1]; exact wσ.new
  have fσ1_0 : σ1.1 a = some (.inr (.inl (14, [.int mc, .ref ea, .int (nI n)]))) := by rw [eσ1]; exact (hn_ne (Nat.ne_of_lt (wσ _ _ hL))).trans hL
  have fσ1_1 : σ1.1 σ.2 = some (.inr (.inl (15, [.int 0, .int 0, .int 0, .null]))) := by rw [eσ1]; exact if_pos rfl
  have xσ1 : ext σ σ1 := by rw [eσ1]; exact ext_new _ _
  refine A_dup dJ20_iterator_3 rfl ?_
  refine A_aload_n (i := 0) dJ20_iterator_4 rfl rfl ?_
  refine A_callI1E (b' := 0) (v := none) (τ := h_put (h_put (h_put σ1 σ.2 (.inr (.inl (15, [.int 0, .int 0, .int 0, .ref a])))) σ.2 (.inr (.inl (15, [.int 0, .int (-1), .int 0, .ref a])))) σ.2 (.inr (.inl (15, [.int 0, .int (-1), .int mc, .ref a])))) (c_iInit σ1 σ.2 a ea n mc fσ1_1 fσ1_0) tJ23_init q1578 dJ20_iterator_5 (by decide) (Nat.le_of_ble_eq_true rfl) (Nat.le_of_ble_eq_true rfl) ?_
  obtain ⟨σ2, eσ2⟩ : ∃ τ, τ = h_put (h_put (h_put σ1 σ.2 (.inr (.inl (15, [.int 0, .int 0, .int 0, .ref a])))) σ.2 (.inr (.inl (15, [.int 0, .int (-1), .int 0, .ref a])))) σ.2 (.inr (.inl (15, [.int 0, .int (-1), .int mc, .ref a]))) := ⟨_, rfl⟩
  refine A_st (σ' := σ2) eσ2.symm ?_
  have wσ2 : wfh σ2 := by rw [eσ2]; exact (((wσ1.put fσ1_1).put (if_pos rfl)).put (if_pos rfl))
  have fσ2_0 : σ2.1 a = some (.inr (.inl (14, [.int mc, .ref ea, .int (nI n)]))) := by rw [eσ2]; exact ((hp_ne (fun e9 => by rw [e9] at fσ1_0; have e8 := fσ1_0.symm.trans fσ1_1; simp at e8)).trans ((hp_ne (fun e9 => by rw [e9] at fσ1_0; have e8 := fσ1_0.symm.trans fσ1_1; simp at e8)).trans ((hp_ne (fun e9 => by rw [e9] at fσ1_0; have e8 := fσ1_0.symm.trans fσ1_1; simp at e8)).trans fσ1_0)))
  have fσ2_1 : σ2.1 σ.2 = some (.inr (.inl (15, [.int 0, .int (-1), .int mc, .ref a]))) := by rw [eσ2]; exact (if_pos rfl)
  exact A_aret dJ20_iterator_8 rfl (Or.inl ⟨_, rfl⟩) (Or.inr ⟨_, rfl⟩) (⟨rfl, by rw [eσ2, eσ1]⟩)
