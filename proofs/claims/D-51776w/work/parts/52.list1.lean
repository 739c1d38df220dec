/-! THE JDK 2: ArrayList, its iterator -/
set_option maxHeartbeats 100000 in
theorem c_lSize {l : Launch} {g : GC} (σ : AH) (a ea n : Nat) (mc : Int32) (hL : σ.1 a = some (.inr (.inl (14, [.int mc, .ref ea, .int (nI n)])))) : AMet l g mJ20_size 1 0 [.ref a] σ (A_eq (some (.int (nI n))) σ) (A_no) := by
  refine A_of rfl (by decide) (Nat.le_of_ble_eq_true rfl) (L0 := [(0, .ref a)]) rfl ?_
  refine A_aload_n (i := 0) dJ20_size_0 rfl rfl ?_
  refine A_getf cb_J20 hL 2 (Nat.le_of_ble_eq_true rfl) q791 rfl (v := .int (nI n)) rfl dJ20_size_1 ?_
  exact A_iret dJ20_size_4 rfl (⟨rfl, rfl⟩)
set_option maxHeartbeats 100000 in
theorem c_objidx {l : Launch} {g : GC} (σ : AH) (k n : Nat) (hk : k < n) (hn : n < 2 ^ 31) : AMet l g mJ21_checkIndex 2 0 [.int (nI k), .int (nI n)] σ (A_eq (some (.int (nI k))) σ) (A_no) := by
  refine A_of rfl (by decide) (Nat.le_of_ble_eq_true rfl) (L0 := [(0, .int (nI k)), (1, .int (nI n))]) rfl ?_
  refine A_iload_n (i := 0) dJ21_checkIndex_0 rfl rfl ?_
  refine A_iload_n (i := 1) dJ21_checkIndex_1 rfl rfl ?_
  refine A_null dJ21_checkIndex_2 ?_
  refine A_callS3E (b' := 0) (v := some (.int (nI k))) (τ := σ) (c_preidxN σ k n hk hn) tJ16_checkIndex q1169 dJ21_checkIndex_3 (by decide) (Nat.le_of_ble_eq_true rfl) (Nat.le_of_ble_eq_true rfl) ?_
  exact A_iret dJ21_checkIndex_6 rfl (⟨rfl, rfl⟩)
set_option maxHeartbeats 100000 in
theorem c_lElem {l : Launch} {g : GC} (σ : AH) (a ea n cap : Nat) (mc : Int32) (f : Nat → Option Nat) (k x : Nat) (hL : σ.1 a = some (.inr (.inl (14, [.int mc, .ref ea, .int (nI n)])))) (hE : σ.1 ea = some (.inl (.object "java/lang/Object", cap, .inr (.inr (.inr (.inr f)))))) (hk : k < n) (hn : n ≤ cap) (hc : cap < 2 ^ 31) (hx : f k = some x) : AMet l g mJ20_elementData 1 0 [.ref a, .int (nI k)] σ (A_eq (some (.ref x)) σ) (A_no) := by
  refine A_of rfl (by decide) (Nat.le_of_ble_eq_true rfl) (L0 := [(0, .ref a), (1, .int (nI k))]) rfl ?_
  refine A_aload_n (i := 0) dJ20_elementData_0 rfl rfl ?_
  refine A_getf cb_J20 hL 1 (Nat.le_of_ble_eq_true rfl) q788 rfl (v := .ref ea) rfl dJ20_elementData_1 ?_
  refine A_iload_n (i := 1) dJ20_elementData_4 rfl rfl ?_
  refine A_aald hE (by decide) (vp_in_nI (show k < cap by omega) hc) (v := .ref x) (by rw [nI_clamp (by omega), hx]; rfl) dJ20_elementData_5 ?_
  exact A_aret dJ20_elementData_6 rfl (Or.inl ⟨_, rfl⟩) (Or.inr ⟨_, rfl⟩) (⟨rfl, rfl⟩)
set_option maxHeartbeats 100000 in
theorem c_lGet {l : Launch} {g : GC} (σ : AH) (a ea n cap : Nat) (mc : Int32) (f : Nat → Option Nat) (k x : Nat) (hL : σ.1 a = some (.inr (.inl (14, [.int mc, .ref ea, .int (nI n)])))) (hE : σ.1 ea = some (.inl (.object "java/lang/Object", cap, .inr (.inr (.inr (.inr f)))))) (hk : k < n) (hn : n ≤ cap) (hc : cap < 2 ^ 31) (hx : f k = some x) : AMet l g mJ20_get 3 0 [.ref a, .int (nI k)] σ (A_eq (some (.ref x)) σ) (A_no) := by
  refine A_of rfl (by decide) (Nat.le_of_ble_eq_true rfl) (L0 := [(0, .ref a), (1, .int (nI k))]) rfl ?_
  refine A_iload_n (i := 1) dJ20_get_0 rfl rfl ?_
  refine A_aload_n (i := 0) dJ20_get_1 rfl rfl ?_
  refine A_getf cb_J20 hL 2 (Nat.le_of_ble_eq_true rfl) q791 rfl (v := .int (nI n)) rfl dJ20_get_2 ?_
  refine A_callS2E (b' := 0) (v := some (.int (nI k))) (τ := σ) (c_objidx σ k n hk (by omega)) tJ21_checkIndex q1166 dJ20_get_5 (by decide) (Nat.le_of_ble_eq_true rfl) (Nat.le_of_ble_eq_true rfl) ?_
  refine A_pop dJ20_get_8 rfl ?_
  refine A_aload_n (i := 0) dJ20_get_9 rfl rfl ?_
  refine A_iload_n (i := 1) dJ20_get_10 rfl rfl ?_
  refine A_callV1E (b' := 0) (v := some (.ref x)) (τ := σ) (c_lElem σ a ea n cap mc f k x hL hE hk hn hc hx) tJ20_elementData q1170 hL rfl rfl dJ20_get_11 (by decide) (Nat.le_of_ble_eq_true rfl) (Nat.le_of_ble_eq_true rfl) ?_
  exact A_aret dJ20_get_14 rfl (Or.inl ⟨_, rfl⟩) (Or.inr ⟨_, rfl⟩) (⟨rfl, rfl⟩)
set_option maxHeartbeats 100000 in
theorem c_iHas {l : Launch} {g : GC} (σ : AH) (i a ea n k : Nat) (mc lr : Int32) (hI : σ.1 i = some (.inr (.inl (15, [.int (nI k), .int lr, .int mc, .ref a])))) (hL : σ.1 a = some (.inr (.inl (14, [.int mc, .ref ea, .int (nI n)])))) (hk : k ≤ n) (hn : n < 2 ^ 31) : AMet l g mJ23_hasNext 1 0 [.ref i] σ (A_eq (some (.int (bi (k < n)))) σ) (A_no) := by
  refine A_of rfl (by decide) (Nat.le_of_ble_eq_true rfl) (L0 := [(0, .ref i)]) rfl ?_
  refine A_aload_n (i := 0) dJ23_hasNext_0 rfl rfl ?_
  refine A_getf cb_J23 hI 0 (Nat.le_of_ble_eq_true rfl) q1582 rfl (v := .int (nI k)) rfl dJ23_hasNext_1 ?_
  refine A_aload_n (i := 0) dJ23_hasNext_4 rfl rfl ?_
  refine A_getf cb_J23 hI 3 (Nat.le_of_ble_eq_true rfl) q1585 rfl (v := .ref a) rfl dJ23_hasNext_5 ?_
  refine A_getfN cb_J20 hL 2 (Nat.le_of_ble_eq_true rfl) q790 rfl (v := .int (nI n)) rfl dJ23_hasNext_8 ?_
  refine A_icmp_eq (tgt := 18) dJ23_hasNext_11 (by decide) (fun c1 => ?_) (fun c1 => ?_)
  · skip
    refine A_iconst (v := 0) dJ23_hasNext_18 (by decide) ?_
    exact A_zret dJ23_hasNext_19 rfl (rfl) (⟨by rw [bi_f (fun h => absurd ((nI_eqi (by omega) (by omega)).mp c1) (by omega))], rfl⟩)
  · skip
    refine A_iconst (v := 1) dJ23_hasNext_14 (by decide) ?_
    refine A_goto (tgt := 19) dJ23_hasNext_15 (by decide) ?_
    exact A_zret dJ23_hasNext_19 rfl (rfl) (⟨by rw [bi_t (Nat.lt_of_le_of_ne hk (fun h => c1 (by rw [h])))], rfl⟩)
set_option maxHeartbeats 100000 in
theorem c_iCheck {l : Launch} {g : GC} (σ : AH) (i a ea n : Nat) (mc c lr : Int32) (hI : σ.1 i = some (.inr (.inl (15, [.int c, .int lr, .int mc, .ref a])))) (hL : σ.1 a = some (.inr (.inl (14, [.int mc, .ref ea, .int (nI n)])))) : AMet l g mJ23_checkForComodification 1 0 [.ref i] σ (A_eq none σ) (A_no) := by
  refine A_of rfl (by decide) (Nat.le_of_ble_eq_true rfl) (L0 := [(0, .ref i)]) rfl ?_
  refine A_aload_n (i := 0) dJ23_checkForComodification_0 rfl rfl ?_
  refine A_getf cb_J23 hI 3 (Nat.le_of_ble_eq_true rfl) q1585 rfl (v := .ref a) rfl dJ23_checkForComodification_1 ?_
  refine A_getfU cb_J20 hL 0 (Nat.le_of_ble_eq_true rfl) q793 q794 (v := .int mc) rfl dJ23_checkForComodification_4 ?_
  refine A_aload_n (i := 0) dJ23_checkForComodification_7 rfl rfl ?_
  refine A_getf cb_J23 hI 2 (Nat.le_of_ble_eq_true rfl) q1584 rfl (v := .int mc) rfl dJ23_checkForComodification_8 ?_
  refine A_icmp_eq_t (tgt := 22) dJ23_checkForComodification_11 (by decide) (rfl) ?_
  exact A_vret dJ23_checkForComodification_22 rfl (⟨rfl, rfl⟩)
set_option maxHeartbeats 100000 in
theorem c_iNext {l : Launch} {g : GC} (σ : AH) (i a ea n cap k x : Nat) (mc lr : Int32) (f : Nat → Option Nat) (hI : σ.1 i = some (.inr (.inl (15, [.int (nI k), .int lr, .int mc, .ref a])))) (hL : σ.1 a = some (.inr (.inl (14, [.int mc, .ref ea, .int (nI n)])))) (hE : σ.1 ea = some (.inl (.object "java/lang/Object", cap, .inr (.inr (.inr (.inr f)))))) (hk : k < n) (hn : n ≤ cap) (hc : cap < 2 ^ 31) (hx : f k = some x) : AMet l g mJ23_next 2 0 [.ref i] σ (A_eq (some (.ref x)) (h_put (h_put σ i (.inr (.inl (15, [.int (nI (k + 1)), .int lr, .int mc, .ref a])))) i (.inr (.inl (15, [.int (nI (k + 1)), .int (nI k), .int mc, .ref a]))))) (A_no) := by
  refine A_of rfl (by decide) (Nat.le_of_ble_eq_true rfl) (L0 := [(0, .ref i)]) rfl ?_
  refine A_aload_n (i := 0) dJ23_next_0 rfl rfl ?_
  refine A_callV0E (b' := 0) (v := none) (τ := σ) (c_iCheck σ i a ea n mc (nI k) lr hI hL) tJ23_checkForComodification q1614 hI rfl rfl dJ23_next_1 (by decide) (Nat.le_of_ble_eq_true rfl) (Nat.le_of_ble_eq_true rfl) ?_
  refine A_aload_n (i := 0) dJ23_next_4 rfl rfl ?_
  refine A_getf cb_J23 hI 0 (Nat.le_of_ble_eq_true rfl) q1582 rfl (v := .int (nI k)) rfl dJ23_next_5 ?_
  refine A_istore_n (i := 1) dJ23_next_8 rfl (Nat.le_of_ble_eq_true rfl) ?_
  refine A_iload_n (i := 1) dJ23_next_9 rfl rfl ?_
  refine A_aload_n (i := 0) dJ23_next_10 rfl rfl ?_
  refine A_getf cb_J23 hI 3 (Nat.le_of_ble_eq_true rfl) q1585 rfl (v := .ref a) rfl dJ23_next_11 ?_
  refine A_getfN cb_J20 hL 2 (Nat.le_of_ble_eq_true rfl) q790 rfl (v := .int (nI n)) rfl dJ23_next_14 ?_
  refine A_icmp_lt_t (tgt := 28) dJ23_next_17 (by decide) (nI_lt hk (by omega)) ?_
  refine A_aload_n (i := 0) dJ23_next_28 rfl rfl ?_
  refine A_getf cb_J23 hI 3 (Nat.le_of_ble_eq_true rfl) q1585 rfl (v := .ref a) rfl dJ23_next_29 ?_
  refine A_getf cb_J20 hL 1 (Nat.le_of_ble_eq_true rfl) q789 rfl (v := .ref ea) rfl dJ23_next_32 ?_
  refine A_astore_n (i := 2) dJ23_next_35 rfl (Nat.le_of_ble_eq_true rfl) ?_
  refine A_iload_n (i := 1) dJ23_next_36 rfl rfl ?_
  refine A_aload_n (i := 2) dJ23_next_37 rfl rfl ?_
  refine A_alen hE (by decide) (v := nI cap) (rfl) dJ23_next_38 ?_
  refine A_icmp_lt_t (tgt := 50) dJ23_next_39 (by decide) (nI_lt (show k < cap by omega) hc) ?_
  refine A_aload_n (i := 0) dJ23_next_50 rfl rfl ?_
  refine A_iload_n (i := 1) dJ23_next_51 rfl rfl ?_
  refine A_iconst (v := 1) dJ23_next_52 (by decide) ?_
  refine A_iadd dJ23_next_53 ?_
  refine A_int (w := nI (k + 1)) (nI_add k 1) ?_
  refine A_putf cb_J23 hI 0 (Nat.le_of_ble_eq_true rfl) q1582 rfl rfl rfl rfl (Nat.le_of_ble_eq_true rfl) dJ23_next_54 ?_
  obtain ⟨σ1, eσ1⟩ : ∃ τ, τ = h_put σ i (.inr (.inl (15, [.int (nI (k + 1)), .int lr, .int mc, .ref a]))) := ⟨_, rfl⟩
  refine A_st (σ' := σ1) eσ1.symm ?_
  have fσ1_0 : σ1.1 i = some (.inr (.inl (15, [.int (nI (k + 1)), .int lr, .int mc, .ref a]))) := by rw [eσ1]; exact if_pos rfl
  have fσ1_1 : σ1.1 a = some (.inr (.inl (14, [.int mc, .ref ea, .int (nI n)]))) := by rw [eσ1]; exact (hp_ne (fun e9 => by rw [e9] at hL; have e8 := hL.symm.trans hI; simp at e8)).trans hL
  have fσ1_2 : σ1.1 ea = some (.inl (.object "java/lang/Object", cap, .inr (.inr (.inr (.inr f))))) := by rw [eσ1]; exact (hp_ne (fun e9 => by rw [e9] at hE; have e8 := hE.symm.trans hI; simp at e8)).trans hE
  refine A_aload_n (i := 2) dJ23_next_57 rfl rfl ?_
  refine A_aload_n (i := 0) dJ23_next_58 rfl rfl ?_
  refine A_iload_n (i := 1) dJ23_next_59 rfl rfl ?_
  refine A_dup_x1 dJ23_next_60 rfl rfl ?_
  refine A_putf cb_J23 fσ1_0 1 (Nat.le_of_ble_eq_true rfl) q1583 rfl rfl rfl rfl (Nat.le_of_ble_eq_true rfl) dJ23_next_61 ?_
  obtain ⟨σ2, eσ2⟩ : ∃ τ, τ = h_put σ1 i (.inr (.inl (15, [.int (nI (k + 1)), .int (nI k), .int mc, .ref a]))) := ⟨_, rfl⟩
  refine A_st (σ' := σ2) eσ2.symm ?_
  have fσ2_0 : σ2.1 i = some (.inr (.inl (15, [.int (nI (k + 1)), .int (nI k), .int mc, .ref a]))) := by rw [eσ2]; exact if_pos rfl
  have fσ2_1 : σ2.1 a = some (.inr (.inl (14, [.int mc, .ref ea, .int (nI n)]))) := by rw [eσ2]; exact (hp_ne (fun e9 => by rw [e9] at fσ1_1; have e8 := fσ1_1.symm.trans fσ1_0; simp at e8)).trans fσ1_1
  have fσ2_2 : σ2.1 ea = some (.inl (.object "java/lang/Object", cap, .inr (.inr (.inr (.inr f))))) := by rw [eσ2]; exact (hp_ne (fun e9 => by rw [e9] at fσ1_2; have e8 := fσ1_2.symm.trans fσ1_0; simp at e8)).trans fσ1_2
  refine A_aald fσ2_2 (by decide) (vp_in_nI (show k < cap by omega) hc) (v := .ref x) (by rw [nI_clamp (by omega), hx]; rfl) dJ23_next_64 ?_
  exact A_aret dJ23_next_65 rfl (Or.inl ⟨_, rfl⟩) (Or.inr ⟨_, rfl⟩) (⟨rfl, by rw [eσ2, eσ1]⟩)
