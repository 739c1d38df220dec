/-! THE JDK 4: ArrayDeque (17 places; it never grows here) -/
abbrev dqC (da h u : Nat) : AE := .inr (.inl (11, [.ref da, .int (nI h), .int (nI ((h + u) % 17))]))
def DQ (σ : AH) (dq da h u : Nat) (e : Nat → Nat) : Prop := h < 17 ∧ u ≤ 16 ∧ σ.1 dq = some (dqC da h u) ∧ ∃ f, σ.1 da = some (objA "java/lang/Object" 17 f) ∧ ∀ i, i < u → f ((h + i) % 17) = some (e i)
theorem k2.rf {a b : Nat} {σ : AH} : k2 a b σ σ := ⟨Nat.le_refl _, fun _ _ _ _ => rfl⟩
theorem k2.pa {a b : Nat} {σ τ : AH} {c : AE} (h : k2 a b σ τ) : k2 a b σ (h_put τ a c) := ⟨h.1, fun q hq ha hb => (hp_ne ha).trans (h.2 q hq ha hb)⟩
theorem k2.pb {a b : Nat} {σ τ : AH} {c : AE} (h : k2 a b σ τ) : k2 a b σ (h_put τ b c) := ⟨h.1, fun q hq ha hb => (hp_ne hb).trans (h.2 q hq ha hb)⟩
theorem k2.kb {a b : Nat} {σ τ ρ : AH} (h : k2 a b σ τ) (k : kx b τ ρ) : k2 a b σ ρ := ⟨Nat.le_trans h.1 k.1, fun q hq ha hb => (k.2 q (Nat.lt_of_lt_of_le hq h.1) hb).trans (h.2 q hq ha hb)⟩
theorem k2.tr {a b : Nat} {σ τ ρ : AH} (h : k2 a b σ τ) (k : k2 a b τ ρ) : k2 a b σ ρ := ⟨Nat.le_trans h.1 k.1, fun q hq ha hb => (k.2 q (Nat.lt_of_lt_of_le hq h.1) ha hb).trans (h.2 q hq ha hb)⟩
theorem dq_sub : ∀ h, h < 17 → ∀ u, u < 17 → ((0 : Int32) ≤ nI ((h + u) % 17) - nI h → nI ((h + u) % 17) - nI h = nI u) ∧ (¬ (0 : Int32) ≤ nI ((h + u) % 17) - nI h → (nI ((h + u) % 17) - nI h) + 17 = nI u) := by decide +kernel
theorem dq_inc : ∀ i, i < 17 → (nI i + 1 < 17 → nI i + 1 = nI ((i + 1) % 17)) ∧ (¬ nI i + 1 < 17 → (0 : Int32) = nI ((i + 1) % 17)) := by decide +kernel
theorem dq_dec : ∀ i, i < 17 → ((0 : Int32) ≤ nI i + (-1) → nI i + (-1) = nI ((i + 16) % 17)) ∧ (¬ (0 : Int32) ≤ nI i + (-1) → (16 : Int32) = nI ((i + 16) % 17)) := by decide +kernel
def A_dq (v : Option Value) (dq da h u : Nat) (e : Nat → Nat) (σ : AH) : Option Value → AH → Prop := fun w τ => w = v ∧ DQ τ dq da h u e ∧ k2 dq da σ τ
theorem c_dqSub {l : Launch} {g : GC} (σ : AH) (h u : Nat) (hh : h < 17) (hu : u ≤ 16) : AMet l g mJ1_sub 1 0 [.int (nI ((h + u) % 17)), .int (nI h), .int 17] σ (A_eq (some (.int (nI u))) σ) (A_no) := by
  refine A_of rfl (by decide) (Nat.le_of_ble_eq_true rfl) (L0 := [(0, .int (nI ((h + u) % 17))), (1, .int (nI h)), (2, .int 17)]) rfl ?_
  refine A_iload_n (i := 0) dJ1_sub_0 rfl rfl ?_
  refine A_iload_n (i := 1) dJ1_sub_1 rfl rfl ?_
  refine A_isub dJ1_sub_2 ?_
  refine A_dup dJ1_sub_3 rfl ?_
  refine A_istore_n (i := 0) dJ1_sub_4 rfl (Nat.le_of_ble_eq_true rfl) ?_
  refine A_if_ge (tgt := 12) dJ1_sub_5 (by decide) (fun c1 => ?_) (fun c1 => ?_)
  · skip
    refine A_iload_n (i := 0) dJ1_sub_12 rfl rfl ?_
    exact A_iret dJ1_sub_13 rfl (⟨by rw [(dq_sub h hh u (Nat.lt_succ_of_le hu)).1 c1], rfl⟩)
  · skip
    refine A_iload_n (i := 0) dJ1_sub_8 rfl rfl ?_
    refine A_iload_n (i := 2) dJ1_sub_9 rfl rfl ?_
    refine A_iadd dJ1_sub_10 ?_
    refine A_istore_n (i := 0) dJ1_sub_11 rfl (Nat.le_of_ble_eq_true rfl) ?_
    refine A_iload_n (i := 0) dJ1_sub_12 rfl rfl ?_
    exact A_iret dJ1_sub_13 rfl (⟨by rw [(dq_sub h hh u (Nat.lt_succ_of_le hu)).2 c1], rfl⟩)
theorem c_dqInc {l : Launch} {g : GC} (σ : AH) (i : Nat) (hi : i < 17) : AMet l g mJ1_inc 1 0 [.int (nI i), .int 17] σ (A_eq (some (.int (nI ((i + 1) % 17)))) σ) (A_no) := by
  refine A_of rfl (by decide) (Nat.le_of_ble_eq_true rfl) (L0 := [(0, .int (nI i)), (1, .int 17)]) rfl ?_
  refine A_iinc (v := (nI i + 1)) dJ1_inc_0 rfl (rfl) (Nat.le_of_ble_eq_true rfl) ?_
  refine A_iload_n (i := 0) dJ1_inc_3 rfl rfl ?_
  refine A_iload_n (i := 1) dJ1_inc_4 rfl rfl ?_
  refine A_icmp_lt (tgt := 10) dJ1_inc_5 (by decide) (fun c1 => ?_) (fun c1 => ?_)
  · skip
    refine A_iload_n (i := 0) dJ1_inc_10 rfl rfl ?_
    exact A_iret dJ1_inc_11 rfl (⟨by rw [(dq_inc i hi).1 c1], rfl⟩)
  · skip
    refine A_iconst (v := 0) dJ1_inc_8 (by decide) ?_
    refine A_istore_n (i := 0) dJ1_inc_9 rfl (Nat.le_of_ble_eq_true rfl) ?_
    refine A_iload_n (i := 0) dJ1_inc_10 rfl rfl ?_
    exact A_iret dJ1_inc_11 rfl (⟨by rw [(dq_inc i hi).2 c1], rfl⟩)
theorem c_dqDec {l : Launch} {g : GC} (σ : AH) (i : Nat) (hi : i < 17) : AMet l g mJ1_dec 1 0 [.int (nI i), .int 17] σ (A_eq (some (.int (nI ((i + 16) % 17)))) σ) (A_no) := by
  refine A_of rfl (by decide) (Nat.le_of_ble_eq_true rfl) (L0 := [(0, .int (nI i)), (1, .int 17)]) rfl ?_
  refine A_iinc (v := (nI i + (-1))) dJ1_dec_0 rfl (rfl) (Nat.le_of_ble_eq_true rfl) ?_
  refine A_iload_n (i := 0) dJ1_dec_3 rfl rfl ?_
  refine A_if_ge (tgt := 11) dJ1_dec_4 (by decide) (fun c1 => ?_) (fun c1 => ?_)
  · skip
    refine A_iload_n (i := 0) dJ1_dec_11 rfl rfl ?_
    exact A_iret dJ1_dec_12 rfl (⟨by rw [(dq_dec i hi).1 c1], rfl⟩)
  · skip
    refine A_iload_n (i := 1) dJ1_dec_7 rfl rfl ?_
    refine A_iconst (v := 1) dJ1_dec_8 (by decide) ?_
    refine A_isub dJ1_dec_9 ?_
    refine A_int (w := 16) (by decide) ?_
    refine A_istore_n (i := 0) dJ1_dec_10 rfl (Nat.le_of_ble_eq_true rfl) ?_
    refine A_iload_n (i := 0) dJ1_dec_11 rfl rfl ?_
    exact A_iret dJ1_dec_12 rfl (⟨by rw [(dq_dec i hi).2 c1], rfl⟩)
theorem c_dqEl {l : Launch} {g : GC} (σ : AH) (da k x : Nat) (f : Nat → Option Nat) (hA : σ.1 da = some (.inl (.object "java/lang/Object", 17, .inr (.inr (.inr (.inr f)))))) (hk : k < 17) (hx : f k = some x) : AMet l g mJ1_elementAt 1 0 [.ref da, .int (nI k)] σ (A_eq (some (.ref x)) σ) (A_no) := by
  refine A_of rfl (by decide) (Nat.le_of_ble_eq_true rfl) (L0 := [(0, .ref da), (1, .int (nI k))]) rfl ?_
  refine A_aload_n (i := 0) dJ1_elementAt_0 rfl rfl ?_
  refine A_iload_n (i := 1) dJ1_elementAt_1 rfl rfl ?_
  refine A_aald hA (by decide) (vp_in_nI hk (by decide)) (v := .ref x) (by rw [nI_clamp (Nat.lt_trans hk (by decide)), hx]; rfl) dJ1_elementAt_2 ?_
  exact A_aret dJ1_elementAt_3 rfl (Or.inl ⟨_, rfl⟩) (Or.inr ⟨_, rfl⟩) (⟨rfl, rfl⟩)
theorem c_dqSize {l : Launch} {g : GC} (σ : AH) (dq da h u : Nat) (e : Nat → Nat) (hd : DQ σ dq da h u e) : AMet l g mJ1_size 2 0 [.ref dq] σ (A_eq (some (.int (nI u))) σ) (A_no) := by
  refine A_of rfl (by decide) (Nat.le_of_ble_eq_true rfl) (L0 := [(0, .ref dq)]) rfl ?_
  obtain ⟨hh, hu, hC, f, hA, hf⟩ := hd
  refine A_aload_n (i := 0) dJ1_size_0 rfl rfl ?_
  refine A_getf cb_J1 hC 2 (Nat.le_of_ble_eq_true rfl) q194 rfl (v := .int (nI ((h + u) % 17))) rfl dJ1_size_1 ?_
  refine A_aload_n (i := 0) dJ1_size_4 rfl rfl ?_
  refine A_getf cb_J1 hC 1 (Nat.le_of_ble_eq_true rfl) q193 rfl (v := .int (nI h)) rfl dJ1_size_5 ?_
  refine A_aload_n (i := 0) dJ1_size_8 rfl rfl ?_
  refine A_getf cb_J1 hC 0 (Nat.le_of_ble_eq_true rfl) q192 rfl (v := .ref da) rfl dJ1_size_9 ?_
  refine A_alen hA (by decide) (v := 17) (rfl) dJ1_size_12 ?_
  refine A_callS3E (b' := 0) (v := some (.int (nI u))) (τ := σ) (c_dqSub σ h u hh hu) tJ1_sub q288 dJ1_size_13 (by decide) (Nat.le_of_ble_eq_true rfl) (Nat.le_of_ble_eq_true rfl) ?_
  exact A_iret dJ1_size_16 rfl (⟨rfl, rfl⟩)
theorem c_dqEmpty {l : Launch} {g : GC} (σ : AH) (dq da h u : Nat) (e : Nat → Nat) (hd : DQ σ dq da h u e) : AMet l g mJ1_isEmpty 1 0 [.ref dq] σ (A_eq (some (.int (bi (u = 0)))) σ) (A_no) := by
  refine A_of rfl (by decide) (Nat.le_of_ble_eq_true rfl) (L0 := [(0, .ref dq)]) rfl ?_
  obtain ⟨hh, hu, hC, f, hA, hf⟩ := hd
  refine A_aload_n (i := 0) dJ1_isEmpty_0 rfl rfl ?_
  refine A_getf cb_J1 hC 1 (Nat.le_of_ble_eq_true rfl) q193 rfl (v := .int (nI h)) rfl dJ1_isEmpty_1 ?_
  refine A_aload_n (i := 0) dJ1_isEmpty_4 rfl rfl ?_
  refine A_getf cb_J1 hC 2 (Nat.le_of_ble_eq_true rfl) q194 rfl (v := .int (nI ((h + u) % 17))) rfl dJ1_isEmpty_5 ?_
  refine A_icmp_ne (tgt := 15) dJ1_isEmpty_8 (by decide) (fun c1 => ?_) (fun c1 => ?_)
  · skip
    refine A_iconst (v := 0) dJ1_isEmpty_15 (by decide) ?_
    exact A_zret dJ1_isEmpty_16 rfl (rfl) (⟨by rw [bi_f (fun q => c1 (by subst q; rw [Nat.add_zero, Nat.mod_eq_of_lt hh]))], rfl⟩)
  · skip
    refine A_iconst (v := 1) dJ1_isEmpty_11 (by decide) ?_
    refine A_goto (tgt := 16) dJ1_isEmpty_12 (by decide) ?_
    exact A_zret dJ1_isEmpty_16 rfl (rfl) (⟨by rw [bi_t (by have k := (nI_eqi (by omega) (by omega)).mp c1; omega)], rfl⟩)
theorem c_dqAdd {l : Launch} {g : GC} (σ : AH) (dq da h u : Nat) (e : Nat → Nat) (x : Nat) (vs : List Value) (hd : DQ σ dq da h u e) (hX : σ.1 x = some (.inr (.inl (4, vs)))) (hu8 : u < 16) : AMet l g mJ1_addLast 2 0 [.ref dq, .ref x] σ (A_dq none dq da h (u + 1) (upP e u x) σ) (A_no) := by
  refine A_of rfl (by decide) (Nat.le_of_ble_eq_true rfl) (L0 := [(0, .ref dq), (1, .ref x)]) rfl ?_
  refine A_wfh (fun wσ hgσ => ?_)
  obtain ⟨hh, hu, hC, f, hA, hf⟩ := hd
  refine A_aload_n (i := 1) dJ1_addLast_0 rfl rfl ?_
  refine A_ifnonnull (tgt := 12) dJ1_addLast_1 (by decide) ?_
  refine A_aload_n (i := 0) dJ1_addLast_12 rfl rfl ?_
  refine A_getf cb_J1 hC 0 (Nat.le_of_ble_eq_true rfl) q192 rfl (v := .ref da) rfl dJ1_addLast_13 ?_
  refine A_astore_n (i := 2) dJ1_addLast_16 rfl (Nat.le_of_ble_eq_true rfl) ?_
  refine A_aload_n (i := 2) dJ1_addLast_17 rfl rfl ?_
  refine A_aload_n (i := 0) dJ1_addLast_18 rfl rfl ?_
  refine A_getf cb_J1 hC 2 (Nat.le_of_ble_eq_true rfl) q194 rfl (v := .int (nI ((h + u) % 17))) rfl dJ1_addLast_19 ?_
  refine A_aload_n (i := 1) dJ1_addLast_22 rfl rfl ?_
  refine A_aast hA (by decide) hX rfl (Or.inr q2992) (vp_in_nI (Nat.mod_lt _ (by decide)) (by decide)) dJ1_addLast_23 ?_
  refine A_st (σ' := h_put σ da (.inl (.object "java/lang/Object", 17, .inr (.inr (.inr (.inr (va_up f ((h + u) % 17) (some x)))))))) (by rw [nI_clamp (Nat.lt_trans (Nat.mod_lt _ (by decide)) (by decide))]) ?_
  obtain ⟨σ1, eσ1⟩ : ∃ τ, τ = h_put σ da (.inl (.object "java/lang/Object", 17, .inr (.inr (.inr (.inr (va_up f ((h + u) % 17) (some x))))))) := ⟨_, rfl⟩
  refine A_st (σ' := σ1) eσ1.symm ?_
  have wσ1 : wfh σ1 := by rw [eσ1]; exact wσ.put hA
  have fσ1_0 : σ1.1 dq = some (.inr (.inl (11, [.ref da, .int (nI h), .int (nI ((h + u) % 17))]))) := by rw [eσ1]; exact (hp_ne (ne_of (x := .inr (.inl (11, [.ref da, .int (nI h), .int (nI ((h + u) % 17))]))) (y := .inl (.object "java/lang/Object", 17, .inr (.inr (.inr (.inr f))))) hC hA (fun e8 => by simp at e8))).trans hC
  have fσ1_1 : σ1.1 da = some (.inl (.object "java/lang/Object", 17, .inr (.inr (.inr (.inr (va_up f ((h + u) % 17) (some x))))))) := by rw [eσ1]; exact if_pos rfl
  have fσ1_2 : σ1.1 x = some (.inr (.inl (4, vs))) := by rw [eσ1]; exact (hp_ne (ne_of (x := .inr (.inl (4, vs))) (y := .inl (.object "java/lang/Object", 17, .inr (.inr (.inr (.inr f))))) hX hA (fun e8 => by simp at e8))).trans hX
  refine A_aload_n (i := 0) dJ1_addLast_24 rfl rfl ?_
  refine A_getf cb_J1 fσ1_0 1 (Nat.le_of_ble_eq_true rfl) q193 rfl (v := .int (nI h)) rfl dJ1_addLast_25 ?_
  refine A_aload_n (i := 0) dJ1_addLast_28 rfl rfl ?_
  refine A_aload_n (i := 0) dJ1_addLast_29 rfl rfl ?_
  refine A_getf cb_J1 fσ1_0 2 (Nat.le_of_ble_eq_true rfl) q194 rfl (v := .int (nI ((h + u) % 17))) rfl dJ1_addLast_30 ?_
  refine A_aload_n (i := 2) dJ1_addLast_33 rfl rfl ?_
  refine A_alen fσ1_1 (by decide) (v := 17) (rfl) dJ1_addLast_34 ?_
  refine A_callS2E (b' := 0) (v := some (.int (nI (((h + u) % 17 + 1) % 17)))) (τ := σ1) (c_dqInc σ1 ((h + u) % 17) (Nat.mod_lt _ (by decide))) tJ1_inc q2055 dJ1_addLast_35 (by decide) (Nat.le_of_ble_eq_true rfl) (Nat.le_of_ble_eq_true rfl) ?_
  refine A_dup_x1 dJ1_addLast_38 rfl rfl ?_
  refine A_putf cb_J1 fσ1_0 2 (Nat.le_of_ble_eq_true rfl) q194 rfl rfl rfl rfl (Nat.le_of_ble_eq_true rfl) dJ1_addLast_39 ?_
  obtain ⟨σ2, eσ2⟩ : ∃ τ, τ = h_put σ1 dq (.inr (.inl (11, [.ref da, .int (nI h), .int (nI (((h + u) % 17 + 1) % 17))]))) := ⟨_, rfl⟩
  refine A_st (σ' := σ2) eσ2.symm ?_
  have wσ2 : wfh σ2 := by rw [eσ2]; exact wσ1.put fσ1_0
  have fσ2_0 : σ2.1 dq = some (.inr (.inl (11, [.ref da, .int (nI h), .int (nI (((h + u) % 17 + 1) % 17))]))) := by rw [eσ2]; exact if_pos rfl
  have fσ2_1 : σ2.1 da = some (.inl (.object "java/lang/Object", 17, .inr (.inr (.inr (.inr (va_up f ((h + u) % 17) (some x))))))) := by rw [eσ2]; exact (hp_ne (ne_of (x := .inl (.object "java/lang/Object", 17, .inr (.inr (.inr (.inr (va_up f ((h + u) % 17) (some x))))))) (y := .inr (.inl (11, [.ref da, .int (nI h), .int (nI ((h + u) % 17))]))) fσ1_1 fσ1_0 (fun e8 => by simp at e8))).trans fσ1_1
  have fσ2_2 : σ2.1 x = some (.inr (.inl (4, vs))) := by rw [eσ2]; exact (hp_ne (ne_of (x := .inr (.inl (4, vs))) (y := .inr (.inl (11, [.ref da, .int (nI h), .int (nI ((h + u) % 17))]))) fσ1_2 fσ1_0 (fun e8 => by simp at e8))).trans fσ1_2
  refine A_icmp_ne_t (tgt := 50) dJ1_addLast_42 (by decide) (fun q => by have k := (nI_eqi (by omega) (by omega)).mp q; omega) ?_
  exact A_vret dJ1_addLast_50 rfl (⟨rfl, ⟨hh, by omega, by rw [show dqC da h (u + 1) = .inr (.inl (11, [.ref da, .int (nI h), .int (nI (((h + u) % 17 + 1) % 17))])) by unfold dqC; rw [show (h + (u + 1)) % 17 = ((h + u) % 17 + 1) % 17 by omega]]; exact fσ2_0, _, fσ2_1, fun i hi => by
    unfold upP
    by_cases c : i = u
    · subst c; rw [if_pos rfl]; exact if_pos rfl
    · rw [if_neg c, va_up_ne _ _ (by omega)]; exact hf i (by omega)⟩, (by rw [eσ2, eσ1]; exact k2.rf.pb.pa)⟩)
theorem c_dqPollF {l : Launch} {g : GC} (σ : AH) (dq da h u : Nat) (e : Nat → Nat) (hd : DQ σ dq da h u e) (h0 : 0 < u) : AMet l g mJ1_pollFirst 2 0 [.ref dq] σ (A_dq (some (.ref (e 0))) dq da ((h + 1) % 17) (u - 1) (fun i => e (i + 1)) σ) (A_no) := by
  refine A_of rfl (by decide) (Nat.le_of_ble_eq_true rfl) (L0 := [(0, .ref dq)]) rfl ?_
  refine A_wfh (fun wσ hgσ => ?_)
  obtain ⟨hh, hu, hC, f, hA, hf⟩ := hd
  refine A_aload_n (i := 0) dJ1_pollFirst_0 rfl rfl ?_
  refine A_getf cb_J1 hC 0 (Nat.le_of_ble_eq_true rfl) q192 rfl (v := .ref da) rfl dJ1_pollFirst_1 ?_
  refine A_dup dJ1_pollFirst_4 rfl ?_
  refine A_astore_n (i := 1) dJ1_pollFirst_5 rfl (Nat.le_of_ble_eq_true rfl) ?_
  refine A_aload_n (i := 0) dJ1_pollFirst_6 rfl rfl ?_
  refine A_getf cb_J1 hC 1 (Nat.le_of_ble_eq_true rfl) q193 rfl (v := .int (nI h)) rfl dJ1_pollFirst_7 ?_
  refine A_dup dJ1_pollFirst_10 rfl ?_
  refine A_istore_n (i := 2) dJ1_pollFirst_11 rfl (Nat.le_of_ble_eq_true rfl) ?_
  refine A_callS2E (b' := 0) (v := some (.ref (e 0))) (τ := σ) (c_dqEl σ da h (e 0) f hA hh (by have k := hf 0 h0; rw [Nat.add_zero, Nat.mod_eq_of_lt hh] at k; exact k)) tJ1_elementAt q2052 dJ1_pollFirst_12 (by decide) (Nat.le_of_ble_eq_true rfl) (Nat.le_of_ble_eq_true rfl) ?_
  refine A_astore_n (i := 3) dJ1_pollFirst_15 rfl (Nat.le_of_ble_eq_true rfl) ?_
  refine A_aload_n (i := 3) dJ1_pollFirst_16 rfl rfl ?_
  refine A_ifnull dJ1_pollFirst_17 ?_
  refine A_aload_n (i := 1) dJ1_pollFirst_20 rfl rfl ?_
  refine A_iload_n (i := 2) dJ1_pollFirst_21 rfl rfl ?_
  refine A_null dJ1_pollFirst_22 ?_
  refine A_aastN hA (by decide) (vp_in_nI hh (by decide)) dJ1_pollFirst_23 ?_
  refine A_st (σ' := h_put σ da (.inl (.object "java/lang/Object", 17, .inr (.inr (.inr (.inr (va_up f h none))))))) (by rw [nI_clamp (Nat.lt_trans hh (by decide))]) ?_
  obtain ⟨σ1, eσ1⟩ : ∃ τ, τ = h_put σ da (.inl (.object "java/lang/Object", 17, .inr (.inr (.inr (.inr (va_up f h none)))))) := ⟨_, rfl⟩
  refine A_st (σ' := σ1) eσ1.symm ?_
  have wσ1 : wfh σ1 := by rw [eσ1]; exact wσ.put hA
  have fσ1_0 : σ1.1 dq = some (.inr (.inl (11, [.ref da, .int (nI h), .int (nI ((h + u) % 17))]))) := by rw [eσ1]; exact (hp_ne (ne_of (x := .inr (.inl (11, [.ref da, .int (nI h), .int (nI ((h + u) % 17))]))) (y := .inl (.object "java/lang/Object", 17, .inr (.inr (.inr (.inr f))))) hC hA (fun e8 => by simp at e8))).trans hC
  have fσ1_1 : σ1.1 da = some (.inl (.object "java/lang/Object", 17, .inr (.inr (.inr (.inr (va_up f h none)))))) := by rw [eσ1]; exact if_pos rfl
  refine A_aload_n (i := 0) dJ1_pollFirst_24 rfl rfl ?_
  refine A_iload_n (i := 2) dJ1_pollFirst_25 rfl rfl ?_
  refine A_aload_n (i := 1) dJ1_pollFirst_26 rfl rfl ?_
  refine A_alen fσ1_1 (by decide) (v := 17) (rfl) dJ1_pollFirst_27 ?_
  refine A_callS2E (b' := 0) (v := some (.int (nI ((h + 1) % 17)))) (τ := σ1) (c_dqInc σ1 h hh) tJ1_inc q2055 dJ1_pollFirst_28 (by decide) (Nat.le_of_ble_eq_true rfl) (Nat.le_of_ble_eq_true rfl) ?_
  refine A_putf cb_J1 fσ1_0 1 (Nat.le_of_ble_eq_true rfl) q193 rfl rfl rfl rfl (Nat.le_of_ble_eq_true rfl) dJ1_pollFirst_31 ?_
  obtain ⟨σ2, eσ2⟩ : ∃ τ, τ = h_put σ1 dq (.inr (.inl (11, [.ref da, .int (nI ((h + 1) % 17)), .int (nI ((h + u) % 17))]))) := ⟨_, rfl⟩
  refine A_st (σ' := σ2) eσ2.symm ?_
  have wσ2 : wfh σ2 := by rw [eσ2]; exact wσ1.put fσ1_0
  have fσ2_0 : σ2.1 dq = some (.inr (.inl (11, [.ref da, .int (nI ((h + 1) % 17)), .int (nI ((h + u) % 17))]))) := by rw [eσ2]; exact if_pos rfl
  have fσ2_1 : σ2.1 da = some (.inl (.object "java/lang/Object", 17, .inr (.inr (.inr (.inr (va_up f h none)))))) := by rw [eσ2]; exact (hp_ne (ne_of (x := .inl (.object "java/lang/Object", 17, .inr (.inr (.inr (.inr (va_up f h none)))))) (y := .inr (.inl (11, [.ref da, .int (nI h), .int (nI ((h + u) % 17))]))) fσ1_1 fσ1_0 (fun e8 => by simp at e8))).trans fσ1_1
  refine A_aload_n (i := 3) dJ1_pollFirst_34 rfl rfl ?_
  exact A_aret dJ1_pollFirst_35 rfl (Or.inl ⟨_, rfl⟩) (Or.inr ⟨_, rfl⟩) (⟨rfl, ⟨Nat.mod_lt _ (by decide), by omega, by rw [show dqC da ((h + 1) % 17) (u - 1) = .inr (.inl (11, [.ref da, .int (nI ((h + 1) % 17)), .int (nI ((h + u) % 17))])) by unfold dqC; rw [show ((h + 1) % 17 + (u - 1)) % 17 = (h + u) % 17 by omega]]; exact fσ2_0, _, fσ2_1, fun i hi => by
    rw [va_up_ne _ _ (by omega)]
    have k := hf (i + 1) (by omega)
    rw [show ((h + 1) % 17 + i) % 17 = (h + (i + 1)) % 17 by omega]
    exact k⟩, (by rw [eσ2, eσ1]; exact k2.rf.pb.pa)⟩)
theorem c_dqPollL {l : Launch} {g : GC} (σ : AH) (dq da h u : Nat) (e : Nat → Nat) (hd : DQ σ dq da h u e) (h0 : 0 < u) : AMet l g mJ1_pollLast 2 0 [.ref dq] σ (A_dq (some (.ref (e (u - 1)))) dq da h (u - 1) e σ) (A_no) := by
  refine A_of rfl (by decide) (Nat.le_of_ble_eq_true rfl) (L0 := [(0, .ref dq)]) rfl ?_
  refine A_wfh (fun wσ hgσ => ?_)
  obtain ⟨hh, hu, hC, f, hA, hf⟩ := hd
  refine A_aload_n (i := 0) dJ1_pollLast_0 rfl rfl ?_
  refine A_getf cb_J1 hC 0 (Nat.le_of_ble_eq_true rfl) q192 rfl (v := .ref da) rfl dJ1_pollLast_1 ?_
  refine A_dup dJ1_pollLast_4 rfl ?_
  refine A_astore_n (i := 1) dJ1_pollLast_5 rfl (Nat.le_of_ble_eq_true rfl) ?_
  refine A_aload_n (i := 0) dJ1_pollLast_6 rfl rfl ?_
  refine A_getf cb_J1 hC 2 (Nat.le_of_ble_eq_true rfl) q194 rfl (v := .int (nI ((h + u) % 17))) rfl dJ1_pollLast_7 ?_
  refine A_aload_n (i := 1) dJ1_pollLast_10 rfl rfl ?_
  refine A_alen hA (by decide) (v := 17) (rfl) dJ1_pollLast_11 ?_
  refine A_callS2E (b' := 0) (v := some (.int (nI (((h + u) % 17 + 16) % 17)))) (τ := σ) (c_dqDec σ ((h + u) % 17) (Nat.mod_lt _ (by decide))) tJ1_dec q2206 dJ1_pollLast_12 (by decide) (Nat.le_of_ble_eq_true rfl) (Nat.le_of_ble_eq_true rfl) ?_
  refine A_dup dJ1_pollLast_15 rfl ?_
  refine A_istore_n (i := 2) dJ1_pollLast_16 rfl (Nat.le_of_ble_eq_true rfl) ?_
  refine A_callS2E (b' := 0) (v := some (.ref (e (u - 1)))) (τ := σ) (c_dqEl σ da (((h + u) % 17 + 16) % 17) (e (u - 1)) f hA (Nat.mod_lt _ (by decide)) (by have k := hf (u - 1) (by omega); rw [show (h + (u - 1)) % 17 = ((h + u) % 17 + 16) % 17 by omega] at k; exact k)) tJ1_elementAt q2052 dJ1_pollLast_17 (by decide) (Nat.le_of_ble_eq_true rfl) (Nat.le_of_ble_eq_true rfl) ?_
  refine A_astore_n (i := 3) dJ1_pollLast_20 rfl (Nat.le_of_ble_eq_true rfl) ?_
  refine A_aload_n (i := 3) dJ1_pollLast_21 rfl rfl ?_
  refine A_ifnull dJ1_pollLast_22 ?_
  refine A_aload_n (i := 1) dJ1_pollLast_25 rfl rfl ?_
  refine A_aload_n (i := 0) dJ1_pollLast_26 rfl rfl ?_
  refine A_iload_n (i := 2) dJ1_pollLast_27 rfl rfl ?_
  refine A_dup_x1 dJ1_pollLast_28 rfl rfl ?_
  refine A_putf cb_J1 hC 2 (Nat.le_of_ble_eq_true rfl) q194 rfl rfl rfl rfl (Nat.le_of_ble_eq_true rfl) dJ1_pollLast_29 ?_
  obtain ⟨σ1, eσ1⟩ : ∃ τ, τ = h_put σ dq (.inr (.inl (11, [.ref da, .int (nI h), .int (nI (((h + u) % 17 + 16) % 17))]))) := ⟨_, rfl⟩
  refine A_st (σ' := σ1) eσ1.symm ?_
  have wσ1 : wfh σ1 := by rw [eσ1]; exact wσ.put hC
  have fσ1_0 : σ1.1 dq = some (.inr (.inl (11, [.ref da, .int (nI h), .int (nI (((h + u) % 17 + 16) % 17))]))) := by rw [eσ1]; exact if_pos rfl
  have fσ1_1 : σ1.1 da = some (.inl (.object "java/lang/Object", 17, .inr (.inr (.inr (.inr f))))) := by rw [eσ1]; exact (hp_ne (ne_of (x := .inl (.object "java/lang/Object", 17, .inr (.inr (.inr (.inr f))))) (y := .inr (.inl (11, [.ref da, .int (nI h), .int (nI ((h + u) % 17))]))) hA hC (fun e8 => by simp at e8))).trans hA
  refine A_null dJ1_pollLast_32 ?_
  refine A_aastN fσ1_1 (by decide) (vp_in_nI (Nat.mod_lt _ (by decide)) (by decide)) dJ1_pollLast_33 ?_
  refine A_st (σ' := h_put σ1 da (.inl (.object "java/lang/Object", 17, .inr (.inr (.inr (.inr (va_up f (((h + u) % 17 + 16) % 17) none))))))) (by rw [nI_clamp (Nat.lt_trans (Nat.mod_lt _ (by decide)) (by decide))]) ?_
  obtain ⟨σ2, eσ2⟩ : ∃ τ, τ = h_put σ1 da (.inl (.object "java/lang/Object", 17, .inr (.inr (.inr (.inr (va_up f (((h + u) % 17 + 16) % 17) none)))))) := ⟨_, rfl⟩
  refine A_st (σ' := σ2) eσ2.symm ?_
  have wσ2 : wfh σ2 := by rw [eσ2]; exact wσ1.put fσ1_1
  have fσ2_0 : σ2.1 dq = some (.inr (.inl (11, [.ref da, .int (nI h), .int (nI (((h + u) % 17 + 16) % 17))]))) := by rw [eσ2]; exact (hp_ne (ne_of (x := .inr (.inl (11, [.ref da, .int (nI h), .int (nI (((h + u) % 17 + 16) % 17))]))) (y := .inl (.object "java/lang/Object", 17, .inr (.inr (.inr (.inr f))))) fσ1_0 fσ1_1 (fun e8 => by simp at e8))).trans fσ1_0
  have fσ2_1 : σ2.1 da = some (.inl (.object "java/lang/Object", 17, .inr (.inr (.inr (.inr (va_up f (((h + u) % 17 + 16) % 17) none)))))) := by rw [eσ2]; exact if_pos rfl
  refine A_aload_n (i := 3) dJ1_pollLast_34 rfl rfl ?_
  exact A_aret dJ1_pollLast_35 rfl (Or.inl ⟨_, rfl⟩) (Or.inr ⟨_, rfl⟩) (⟨rfl, ⟨hh, by omega, by rw [show dqC da h (u - 1) = .inr (.inl (11, [.ref da, .int (nI h), .int (nI (((h + u) % 17 + 16) % 17))])) by unfold dqC; rw [show (h + (u - 1)) % 17 = ((h + u) % 17 + 16) % 17 by omega]]; exact fσ2_0, _, fσ2_1, fun i hi => by
    rw [va_up_ne _ _ (by omega)]
    exact hf i (by omega)⟩, (by rw [eσ2, eσ1]; exact k2.rf.pa.pb)⟩)
theorem c_dqRemF {l : Launch} {g : GC} (σ : AH) (dq da h u : Nat) (e : Nat → Nat) (hd : DQ σ dq da h u e) (h0 : 0 < u) : AMet l g mJ1_removeFirst 4 0 [.ref dq] σ (A_dq (some (.ref (e 0))) dq da ((h + 1) % 17) (u - 1) (fun i => e (i + 1)) σ) (A_no) := by
  refine A_of rfl (by decide) (Nat.le_of_ble_eq_true rfl) (L0 := [(0, .ref dq)]) rfl ?_
  refine A_aload_n (i := 0) dJ1_removeFirst_0 rfl rfl ?_
  refine A_callV0 (b' := 0) (c_dqPollF σ dq da h u e hd h0) tJ1_pollFirst q2048 hd.2.2.1 rfl rfl dJ1_removeFirst_1 (by decide) (Nat.le_of_ble_eq_true rfl) (Nat.le_of_ble_eq_true rfl) (fun w9 τ9 h9 => ?_) (fun E9 q9 τ9 h9 => h9.elim)
  obtain ⟨e9, hd9, k9⟩ := h9
  subst e9
  refine A_astore_n (i := 1) dJ1_removeFirst_4 rfl (Nat.le_of_ble_eq_true rfl) ?_
  refine A_aload_n (i := 1) dJ1_removeFirst_5 rfl rfl ?_
  refine A_ifnonnull (tgt := 17) dJ1_removeFirst_6 (by decide) ?_
  refine A_aload_n (i := 1) dJ1_removeFirst_17 rfl rfl ?_
  exact A_aret dJ1_removeFirst_18 rfl (Or.inl ⟨_, rfl⟩) (Or.inr ⟨_, rfl⟩) (⟨rfl, hd9, k9⟩)
theorem c_dqRemL {l : Launch} {g : GC} (σ : AH) (dq da h u : Nat) (e : Nat → Nat) (hd : DQ σ dq da h u e) (h0 : 0 < u) : AMet l g mJ1_removeLast 4 0 [.ref dq] σ (A_dq (some (.ref (e (u - 1)))) dq da h (u - 1) e σ) (A_no) := by
  refine A_of rfl (by decide) (Nat.le_of_ble_eq_true rfl) (L0 := [(0, .ref dq)]) rfl ?_
  refine A_aload_n (i := 0) dJ1_removeLast_0 rfl rfl ?_
  refine A_callV0 (b' := 0) (c_dqPollL σ dq da h u e hd h0) tJ1_pollLast q2202 hd.2.2.1 rfl rfl dJ1_removeLast_1 (by decide) (Nat.le_of_ble_eq_true rfl) (Nat.le_of_ble_eq_true rfl) (fun w9 τ9 h9 => ?_) (fun E9 q9 τ9 h9 => h9.elim)
  obtain ⟨e9, hd9, k9⟩ := h9
  subst e9
  refine A_astore_n (i := 1) dJ1_removeLast_4 rfl (Nat.le_of_ble_eq_true rfl) ?_
  refine A_aload_n (i := 1) dJ1_removeLast_5 rfl rfl ?_
  refine A_ifnonnull (tgt := 17) dJ1_removeLast_6 (by decide) ?_
  refine A_aload_n (i := 1) dJ1_removeLast_17 rfl rfl ?_
  exact A_aret dJ1_removeLast_18 rfl (Or.inl ⟨_, rfl⟩) (Or.inr ⟨_, rfl⟩) (⟨rfl, hd9, k9⟩)
theorem c_dqCC1 {l : Launch} {g : GC} (σ : AH) (da h t : Nat) (f : Nat → Option Nat) (hA : σ.1 da = some (.inl (.object "java/lang/Object", 17, .inr (.inr (.inr (.inr f)))))) (hh : h < 17) (ht : t < 17) (hht : h ≤ t) : AMet l g mJ1_circularClear 1 0 [.ref da, .int (nI h), .int (nI t)] σ (fun v τ => v = none ∧ ∃ f, τ.1 da = some (objA "java/lang/Object" 17 f) ∧ kx da σ τ) (A_no) := by
  refine A_of rfl (by decide) (Nat.le_of_ble_eq_true rfl) (L0 := [(0, .ref da), (1, .int (nI h)), (2, .int (nI t))]) rfl ?_
  have zσ : kx da σ σ := kx.rf
  refine A_iload_n (i := 1) dJ1_circularClear_0 rfl rfl ?_
  refine A_iload_n (i := 2) dJ1_circularClear_1 rfl rfl ?_
  refine A_icmp_gt_f (tgt := 9) dJ1_circularClear_2 (by decide) (nI_nlt9 hht (by omega)) ?_
  refine A_iload_n (i := 2) dJ1_circularClear_5 rfl rfl ?_
  refine A_goto (tgt := 11) dJ1_circularClear_6 (by decide) ?_
  refine A_istore_n (i := 3) dJ1_circularClear_11 rfl (Nat.le_of_ble_eq_true rfl) ?_
  refine A_less (b' := ((t - h) - 0) * 0 + 0) (by omega) ?_
  refine A_sub (L' := [(0, .ref da), (1, .int (nI (h + 0))), (2, .int (nI t)), (3, .int (nI t))]) ⟨rfl, rfl, rfl, rfl, trivial⟩ ?_
  refine A_forP (α := AH) (t - h) (fun iA _ => ((t - h) - iA) * 0 + 0) (fun iA _ => [(0, .ref da), (1, .int (nI (h + iA))), (2, .int (nI t)), (3, .int (nI t))]) (fun _ τA => τA) (fun iA τA => ∃ f, τA.1 da = some (objA "java/lang/Object" 17 f) ∧ kx da σ τA) σ (⟨_, hA, zσ⟩) (fun iA τA hiA hIA ihA => ?_) (fun τA hIA => ?_)
  · skip
    obtain ⟨f9, faτA, kτA⟩ := hIA
    have zτA : kx da σ τA := kτA
    refine A_iload_n (i := 1) dJ1_circularClear_12 rfl rfl ?_
    refine A_iload_n (i := 3) dJ1_circularClear_13 rfl rfl ?_
    refine A_icmp_ge_f (tgt := 27) dJ1_circularClear_14 (by decide) (nI_ge (by omega) (by omega)) ?_
    refine A_aload_n (i := 0) dJ1_circularClear_17 rfl rfl ?_
    refine A_iload_n (i := 1) dJ1_circularClear_18 rfl rfl ?_
    refine A_null dJ1_circularClear_19 ?_
    refine A_aastN faτA (by decide) (vp_in_nI (by omega : h + iA < 17) (by decide)) dJ1_circularClear_20 ?_
    refine A_st (σ' := h_put τA da (.inl (.object "java/lang/Object", 17, .inr (.inr (.inr (.inr (va_up f9 (h + iA) none))))))) (by rw [nI_clamp (by omega)]) ?_
    obtain ⟨σ1, eσ1⟩ : ∃ τ, τ = h_put τA da (.inl (.object "java/lang/Object", 17, .inr (.inr (.inr (.inr (va_up f9 (h + iA) none)))))) := ⟨_, rfl⟩
    refine A_st (σ' := σ1) eσ1.symm ?_
    have fσ1_0 : σ1.1 da = some (.inl (.object "java/lang/Object", 17, .inr (.inr (.inr (.inr (va_up f9 (h + iA) none)))))) := by rw [eσ1]; exact if_pos rfl
    have zσ1 : kx da σ σ1 := by rw [eσ1]; exact zτA.put
    refine A_iinc (v := nI ((h + iA) + 1)) dJ1_circularClear_21 rfl (nI_inc _ _) (Nat.le_of_ble_eq_true rfl) ?_
    refine A_goto (tgt := 12) dJ1_circularClear_24 (by decide) ?_
    refine A_less (b' := ((t - h) - (iA + 1)) * 0 + 0) (by omega) ?_
    refine A_sub (L' := [(0, .ref da), (1, .int (nI (h + (iA + 1)))), (2, .int (nI t)), (3, .int (nI t))]) ⟨rfl, rfl, rfl, rfl, trivial⟩ ?_
    exact ihA σ1 (⟨_, fσ1_0, zσ1⟩)
  · skip
    refine A_less (b' := 0) (by omega) ?_
    obtain ⟨f9, faτA, kτA⟩ := hIA
    have zτA : kx da σ τA := kτA
    refine A_iload_n (i := 1) dJ1_circularClear_12 rfl rfl ?_
    refine A_iload_n (i := 3) dJ1_circularClear_13 rfl rfl ?_
    refine A_icmp_ge_t (tgt := 27) dJ1_circularClear_14 (by decide) ((by rw [show h + (t - h) = t by omega]; exact Int32.le_refl _)) ?_
    refine A_iload_n (i := 3) dJ1_circularClear_27 rfl rfl ?_
    refine A_iload_n (i := 2) dJ1_circularClear_28 rfl rfl ?_
    refine A_icmp_ne_f (tgt := 35) dJ1_circularClear_29 (by decide) (rfl) ?_
    refine A_goto (tgt := 42) dJ1_circularClear_32 (by decide) ?_
    exact A_vret dJ1_circularClear_42 rfl (⟨rfl, _, faτA, zτA⟩)
theorem c_dqCC2 {l : Launch} {g : GC} (σ : AH) (da h t : Nat) (f : Nat → Option Nat) (hA : σ.1 da = some (.inl (.object "java/lang/Object", 17, .inr (.inr (.inr (.inr f)))))) (hh : h < 17) (ht : t < 17) (hht : t < h) : AMet l g mJ1_circularClear 1 0 [.ref da, .int (nI h), .int (nI t)] σ (fun v τ => v = none ∧ ∃ f, τ.1 da = some (objA "java/lang/Object" 17 f) ∧ kx da σ τ) (A_no) := by
  refine A_of rfl (by decide) (Nat.le_of_ble_eq_true rfl) (L0 := [(0, .ref da), (1, .int (nI h)), (2, .int (nI t))]) rfl ?_
  have zσ : kx da σ σ := kx.rf
  refine A_iload_n (i := 1) dJ1_circularClear_0 rfl rfl ?_
  refine A_iload_n (i := 2) dJ1_circularClear_1 rfl rfl ?_
  refine A_icmp_gt_t (tgt := 9) dJ1_circularClear_2 (by decide) ((nI_lti (by omega) (by omega)).mpr hht) ?_
  refine A_aload_n (i := 0) dJ1_circularClear_9 rfl rfl ?_
  refine A_alen hA (by decide) (v := 17) (rfl) dJ1_circularClear_10 ?_
  refine A_istore_n (i := 3) dJ1_circularClear_11 rfl (Nat.le_of_ble_eq_true rfl) ?_
  refine A_less (b' := ((17 - h) - 0) * 0 + 0) (by omega) ?_
  refine A_sub (L' := [(0, .ref da), (1, .int (nI (h + 0))), (2, .int (nI t)), (3, .int (nI 17))]) ⟨rfl, rfl, rfl, rfl, trivial⟩ ?_
  refine A_forP (α := AH) (17 - h) (fun iB _ => ((17 - h) - iB) * 0 + 0) (fun iB _ => [(0, .ref da), (1, .int (nI (h + iB))), (2, .int (nI t)), (3, .int (nI 17))]) (fun _ τB => τB) (fun iB τB => ∃ f, τB.1 da = some (objA "java/lang/Object" 17 f) ∧ kx da σ τB) σ (⟨_, hA, zσ⟩) (fun iB τB hiB hIB ihB => ?_) (fun τB hIB => ?_)
  · skip
    obtain ⟨f9, faτB, kτB⟩ := hIB
    have zτB : kx da σ τB := kτB
    refine A_iload_n (i := 1) dJ1_circularClear_12 rfl rfl ?_
    refine A_iload_n (i := 3) dJ1_circularClear_13 rfl rfl ?_
    refine A_icmp_ge_f (tgt := 27) dJ1_circularClear_14 (by decide) (nI_ge (by omega) (by omega)) ?_
    refine A_aload_n (i := 0) dJ1_circularClear_17 rfl rfl ?_
    refine A_iload_n (i := 1) dJ1_circularClear_18 rfl rfl ?_
    refine A_null dJ1_circularClear_19 ?_
    refine A_aastN faτB (by decide) (vp_in_nI (by omega : h + iB < 17) (by decide)) dJ1_circularClear_20 ?_
    refine A_st (σ' := h_put τB da (.inl (.object "java/lang/Object", 17, .inr (.inr (.inr (.inr (va_up f9 (h + iB) none))))))) (by rw [nI_clamp (by omega)]) ?_
    obtain ⟨σ1, eσ1⟩ : ∃ τ, τ = h_put τB da (.inl (.object "java/lang/Object", 17, .inr (.inr (.inr (.inr (va_up f9 (h + iB) none)))))) := ⟨_, rfl⟩
    refine A_st (σ' := σ1) eσ1.symm ?_
    have fσ1_0 : σ1.1 da = some (.inl (.object "java/lang/Object", 17, .inr (.inr (.inr (.inr (va_up f9 (h + iB) none)))))) := by rw [eσ1]; exact if_pos rfl
    have zσ1 : kx da σ σ1 := by rw [eσ1]; exact zτB.put
    refine A_iinc (v := nI ((h + iB) + 1)) dJ1_circularClear_21 rfl (nI_inc _ _) (Nat.le_of_ble_eq_true rfl) ?_
    refine A_goto (tgt := 12) dJ1_circularClear_24 (by decide) ?_
    refine A_less (b' := ((17 - h) - (iB + 1)) * 0 + 0) (by omega) ?_
    refine A_sub (L' := [(0, .ref da), (1, .int (nI (h + (iB + 1)))), (2, .int (nI t)), (3, .int (nI 17))]) ⟨rfl, rfl, rfl, rfl, trivial⟩ ?_
    exact ihB σ1 (⟨_, fσ1_0, zσ1⟩)
  · skip
    refine A_less (b' := 0) (by omega) ?_
    obtain ⟨f9, faτB, kτB⟩ := hIB
    have zτB : kx da σ τB := kτB
    refine A_iload_n (i := 1) dJ1_circularClear_12 rfl rfl ?_
    refine A_iload_n (i := 3) dJ1_circularClear_13 rfl rfl ?_
    refine A_icmp_ge_t (tgt := 27) dJ1_circularClear_14 (by decide) ((by rw [show h + (17 - h) = 17 by omega]; exact Int32.le_refl _)) ?_
    refine A_iload_n (i := 3) dJ1_circularClear_27 rfl rfl ?_
    refine A_iload_n (i := 2) dJ1_circularClear_28 rfl rfl ?_
    refine A_icmp_ne_t (tgt := 35) dJ1_circularClear_29 (by decide) (fun q => by have k := (nI_eqi (by decide : 17 < 2 ^ 31) (by omega)).mp q; omega) ?_
    refine A_iconst (v := 0) dJ1_circularClear_35 (by decide) ?_
    refine A_istore_n (i := 1) dJ1_circularClear_36 rfl (Nat.le_of_ble_eq_true rfl) ?_
    refine A_iload_n (i := 2) dJ1_circularClear_37 rfl rfl ?_
    refine A_istore_n (i := 3) dJ1_circularClear_38 rfl (Nat.le_of_ble_eq_true rfl) ?_
    refine A_goto (tgt := 12) dJ1_circularClear_39 (by decide) ?_
    refine A_sub (L' := [(0, .ref da), (1, .int 0), (2, .int (nI t)), (3, .int (nI t))]) ⟨rfl, rfl, rfl, rfl, trivial⟩ ?_
    refine A_less (b' := (t - 0) * 0 + 0) (by omega) ?_
    refine A_sub (L' := [(0, .ref da), (1, .int (nI 0)), (2, .int (nI t)), (3, .int (nI t))]) ⟨rfl, rfl, rfl, rfl, trivial⟩ ?_
    refine A_forP (α := AH) t (fun iD _ => (t - iD) * 0 + 0) (fun iD _ => [(0, .ref da), (1, .int (nI iD)), (2, .int (nI t)), (3, .int (nI t))]) (fun _ τD => τD) (fun iD τD => ∃ f, τD.1 da = some (objA "java/lang/Object" 17 f) ∧ kx da σ τD) τB (⟨_, faτB, zτB⟩) (fun iD τD hiD hID ihD => ?_) (fun τD hID => ?_)
    · skip
      obtain ⟨f9, faτD, kτD⟩ := hID
      have zτD : kx da σ τD := kτD
      refine A_iload_n (i := 1) dJ1_circularClear_12 rfl rfl ?_
      refine A_iload_n (i := 3) dJ1_circularClear_13 rfl rfl ?_
      refine A_icmp_ge_f (tgt := 27) dJ1_circularClear_14 (by decide) (nI_ge (by omega) (by omega)) ?_
      refine A_aload_n (i := 0) dJ1_circularClear_17 rfl rfl ?_
      refine A_iload_n (i := 1) dJ1_circularClear_18 rfl rfl ?_
      refine A_null dJ1_circularClear_19 ?_
      refine A_aastN faτD (by decide) (vp_in_nI (by omega : iD < 17) (by decide)) dJ1_circularClear_20 ?_
      refine A_st (σ' := h_put τD da (.inl (.object "java/lang/Object", 17, .inr (.inr (.inr (.inr (va_up f9 (iD) none))))))) (by rw [nI_clamp (by omega)]) ?_
      obtain ⟨σ2, eσ2⟩ : ∃ τ, τ = h_put τD da (.inl (.object "java/lang/Object", 17, .inr (.inr (.inr (.inr (va_up f9 (iD) none)))))) := ⟨_, rfl⟩
      refine A_st (σ' := σ2) eσ2.symm ?_
      have fσ2_0 : σ2.1 da = some (.inl (.object "java/lang/Object", 17, .inr (.inr (.inr (.inr (va_up f9 (iD) none)))))) := by rw [eσ2]; exact if_pos rfl
      have zσ2 : kx da σ σ2 := by rw [eσ2]; exact zτD.put
      refine A_iinc (v := nI (iD + 1)) dJ1_circularClear_21 rfl (nI_inc _ _) (Nat.le_of_ble_eq_true rfl) ?_
      refine A_goto (tgt := 12) dJ1_circularClear_24 (by decide) ?_
      refine A_less (b' := (t - (iD + 1)) * 0 + 0) (by omega) ?_
      refine A_sub (L' := [(0, .ref da), (1, .int (nI (iD + 1))), (2, .int (nI t)), (3, .int (nI t))]) ⟨rfl, rfl, rfl, rfl, trivial⟩ ?_
      exact ihD σ2 (⟨_, fσ2_0, zσ2⟩)
    · skip
      refine A_less (b' := 0) (by omega) ?_
      obtain ⟨f9, faτD, kτD⟩ := hID
      have zτD : kx da σ τD := kτD
      refine A_iload_n (i := 1) dJ1_circularClear_12 rfl rfl ?_
      refine A_iload_n (i := 3) dJ1_circularClear_13 rfl rfl ?_
      refine A_icmp_ge_t (tgt := 27) dJ1_circularClear_14 (by decide) ((by exact Int32.le_refl _)) ?_
      refine A_iload_n (i := 3) dJ1_circularClear_27 rfl rfl ?_
      refine A_iload_n (i := 2) dJ1_circularClear_28 rfl rfl ?_
      refine A_icmp_ne_f (tgt := 35) dJ1_circularClear_29 (by decide) (rfl) ?_
      refine A_goto (tgt := 42) dJ1_circularClear_32 (by decide) ?_
      exact A_vret dJ1_circularClear_42 rfl (⟨rfl, _, faτD, zτD⟩)
theorem c_dqCC {l : Launch} {g : GC} (σ : AH) (da h t : Nat) (f : Nat → Option Nat) (hA : σ.1 da = some (objA "java/lang/Object" 17 f)) (hh : h < 17) (ht : t < 17) : AMet l g mJ1_circularClear 1 0 [.ref da, .int (nI h), .int (nI t)] σ (fun v τ => v = none ∧ ∃ f, τ.1 da = some (objA "java/lang/Object" 17 f) ∧ kx da σ τ) A_no := by
  by_cases c : h ≤ t
  · exact c_dqCC1 σ da h t f hA hh ht c
  · exact c_dqCC2 σ da h t f hA hh ht (by omega)
theorem c_dqClear {l : Launch} {g : GC} (σ : AH) (dq da h u : Nat) (e : Nat → Nat) (hd : DQ σ dq da h u e) : AMet l g mJ1_clear 3 0 [.ref dq] σ (A_dq none dq da 0 0 e σ) (A_no) := by
  refine A_of rfl (by decide) (Nat.le_of_ble_eq_true rfl) (L0 := [(0, .ref dq)]) rfl ?_
  refine A_wfh (fun wσ hgσ => ?_)
  obtain ⟨hh, hu, hC, f, hA, hf⟩ := hd
  refine A_aload_n (i := 0) dJ1_clear_0 rfl rfl ?_
  refine A_getf cb_J1 hC 0 (Nat.le_of_ble_eq_true rfl) q192 rfl (v := .ref da) rfl dJ1_clear_1 ?_
  refine A_aload_n (i := 0) dJ1_clear_4 rfl rfl ?_
  refine A_getf cb_J1 hC 1 (Nat.le_of_ble_eq_true rfl) q193 rfl (v := .int (nI h)) rfl dJ1_clear_5 ?_
  refine A_aload_n (i := 0) dJ1_clear_8 rfl rfl ?_
  refine A_getf cb_J1 hC 2 (Nat.le_of_ble_eq_true rfl) q194 rfl (v := .int (nI ((h + u) % 17))) rfl dJ1_clear_9 ?_
  refine A_callS3 (b' := 0) (c_dqCC σ da h ((h + u) % 17) f hA hh (Nat.mod_lt _ (by decide))) tJ1_circularClear q1366 dJ1_clear_12 (by decide) (Nat.le_of_ble_eq_true rfl) (Nat.le_of_ble_eq_true rfl) (fun w9 τ9 h9 => ?_) (fun E9 q9 τ9 h9 => h9.elim)
  obtain ⟨e9, f9, hA9, k9⟩ := h9
  subst e9
  have hC9 : τ9.1 dq = some (.inr (.inl (11, [.ref da, .int (nI h), .int (nI ((h + u) % 17))]))) := k9.at wσ hC (ne_of hC hA (fun e8 => by simp at e8))
  refine A_wfh (fun wτ9 hgτ9 => ?_)
  refine A_aload_n (i := 0) dJ1_clear_15 rfl rfl ?_
  refine A_aload_n (i := 0) dJ1_clear_16 rfl rfl ?_
  refine A_iconst (v := 0) dJ1_clear_17 (by decide) ?_
  refine A_dup_x1 dJ1_clear_18 rfl rfl ?_
  refine A_putf cb_J1 hC9 2 (Nat.le_of_ble_eq_true rfl) q194 rfl rfl rfl rfl (Nat.le_of_ble_eq_true rfl) dJ1_clear_19 ?_
  obtain ⟨σ1, eσ1⟩ : ∃ τ, τ = h_put τ9 dq (.inr (.inl (11, [.ref da, .int (nI h), .int 0]))) := ⟨_, rfl⟩
  refine A_st (σ' := σ1) eσ1.symm ?_
  have wσ1 : wfh σ1 := by rw [eσ1]; exact wτ9.put hC9
  have fσ1_0 : σ1.1 da = some (.inl (.object "java/lang/Object", 17, .inr (.inr (.inr (.inr f9))))) := by rw [eσ1]; exact (hp_ne (ne_of (x := .inl (.object "java/lang/Object", 17, .inr (.inr (.inr (.inr f9))))) (y := .inr (.inl (11, [.ref da, .int (nI h), .int (nI ((h + u) % 17))]))) hA9 hC9 (fun e8 => by simp at e8))).trans hA9
  have fσ1_1 : σ1.1 dq = some (.inr (.inl (11, [.ref da, .int (nI h), .int 0]))) := by rw [eσ1]; exact if_pos rfl
  refine A_putf cb_J1 fσ1_1 1 (Nat.le_of_ble_eq_true rfl) q193 rfl rfl rfl rfl (Nat.le_of_ble_eq_true rfl) dJ1_clear_22 ?_
  obtain ⟨σ2, eσ2⟩ : ∃ τ, τ = h_put σ1 dq (.inr (.inl (11, [.ref da, .int 0, .int 0]))) := ⟨_, rfl⟩
  refine A_st (σ' := σ2) eσ2.symm ?_
  have wσ2 : wfh σ2 := by rw [eσ2]; exact wσ1.put fσ1_1
  have fσ2_0 : σ2.1 da = some (.inl (.object "java/lang/Object", 17, .inr (.inr (.inr (.inr f9))))) := by rw [eσ2]; exact (hp_ne (ne_of (x := .inl (.object "java/lang/Object", 17, .inr (.inr (.inr (.inr f9))))) (y := .inr (.inl (11, [.ref da, .int (nI h), .int 0]))) fσ1_0 fσ1_1 (fun e8 => by simp at e8))).trans fσ1_0
  have fσ2_1 : σ2.1 dq = some (.inr (.inl (11, [.ref da, .int 0, .int 0]))) := by rw [eσ2]; exact if_pos rfl
  exact A_vret dJ1_clear_25 rfl (⟨rfl, ⟨by decide, by decide, fσ2_1, _, fσ2_0, fun i hi => absurd hi (Nat.not_lt_zero _)⟩, by rw [eσ2, eσ1]; exact ((k2.rf.kb k9).pa).pa⟩)
theorem c_dqNew {l : Launch} {g : GC} (σ : AH) (dq : Nat) (hC : σ.1 dq = some (.inr (.inl (11, [.null, .int 0, .int 0])))) : AMet l g mJ1_init 2 5 [.ref dq] σ (fun v τ => v = none ∧ (∀ e, DQ τ dq σ.2 0 0 e) ∧ kx dq σ τ) (A_no) := by
  refine A_of rfl (by decide) (Nat.le_of_ble_eq_true rfl) (L0 := [(0, .ref dq)]) rfl ?_
  refine A_wfh (fun wσ hgσ => ?_)
  have zσ : kx dq σ σ := kx.rf
  refine A_aload_n (i := 0) dJ1_init_0 rfl rfl ?_
  refine A_callI0E (b' := 5) (v := none) (τ := σ) (c_aclInit σ dq) tJ0_init q186 dJ1_init_1 (by decide) (Nat.le_of_ble_eq_true rfl) (Nat.le_of_ble_eq_true rfl) ?_
  refine A_aload_n (i := 0) dJ1_init_4 rfl rfl ?_
  refine A_bipush (v := 17) dJ1_init_5 (by decide) ?_
  refine A_anew (b' := 0) (u := 5) (by decide) q190 q191 (n' := 17) (by decide) (by decide) (by decide) (Nat.le_of_ble_eq_true rfl) ⟨Nat.le_of_ble_eq_true rfl, Nat.le_of_ble_eq_true rfl⟩ dJ1_init_7 ?_
  obtain ⟨σ1, eσ1⟩ : ∃ τ, τ = h_new σ (.inl (.object "java/lang/Object", 17, .inr (.inr (.inr (.inr (fun _ => none)))))) := ⟨_, rfl⟩
  refine A_st (σ' := σ1) eσ1.symm ?_
  have wσ1 : wfh σ1 := by rw [eσ1]; exact wσ.new
  have fσ1_0 : σ1.1 dq = some (.inr (.inl (11, [.null, .int 0, .int 0]))) := by rw [eσ1]; exact (hn_ne (Nat.ne_of_lt (wσ _ _ hC))).trans hC
  have fσ1_1 : σ1.1 σ.2 = some (.inl (.object "java/lang/Object", 17, .inr (.inr (.inr (.inr (fun _ => none)))))) := by rw [eσ1]; exact if_pos rfl
  have xσ1 : ext σ σ1 := by rw [eσ1]; exact ext_new _ _
  have zσ1 : kx dq σ σ1 := by rw [eσ1]; exact zσ.new
  refine A_putf cb_J1 fσ1_0 0 (Nat.le_of_ble_eq_true rfl) q192 rfl rfl rfl rfl (Nat.le_of_ble_eq_true rfl) dJ1_init_10 ?_
  obtain ⟨σ2, eσ2⟩ : ∃ τ, τ = h_put σ1 dq (.inr (.inl (11, [.ref σ.2, .int 0, .int 0]))) := ⟨_, rfl⟩
  refine A_st (σ' := σ2) eσ2.symm ?_
  have wσ2 : wfh σ2 := by rw [eσ2]; exact wσ1.put fσ1_0
  have fσ2_0 : σ2.1 dq = some (.inr (.inl (11, [.ref σ.2, .int 0, .int 0]))) := by rw [eσ2]; exact if_pos rfl
  have fσ2_1 : σ2.1 σ.2 = some (.inl (.object "java/lang/Object", 17, .inr (.inr (.inr (.inr (fun _ => none)))))) := by rw [eσ2]; exact (hp_ne (ne_of (x := .inl (.object "java/lang/Object", 17, .inr (.inr (.inr (.inr (fun _ => none)))))) (y := .inr (.inl (11, [.null, .int 0, .int 0]))) fσ1_1 fσ1_0 (fun e8 => by simp at e8))).trans fσ1_1
  have zσ2 : kx dq σ σ2 := by rw [eσ2]; exact zσ1.put
  exact A_vret dJ1_init_13 rfl (⟨rfl, fun e => ⟨by decide, by decide, fσ2_0, _, fσ2_1, fun i hi => absurd hi (Nat.not_lt_zero _)⟩, zσ2⟩)
