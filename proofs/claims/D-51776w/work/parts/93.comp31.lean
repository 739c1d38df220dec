/-! THE LAW 1: each call that may throw -/
/-- what a wrapper leaves: 0 and the number, or the number of the exception -/
def WQ (Qx : Option Value → AH → Prop) (Xx : String → Nat → AH → Prop) (es : List String) (out : Nat) (oa : Nat → Int64) : Option Value → AH → Prop := fun w τ => (∃ v τ', Qx (some (.int v)) τ' ∧ w = some (.int 0) ∧ τ = h_put τ' out (.inl (.long, 1, .inr (.inl (va_up oa 0 v.toInt64))))) ∨ ∃ E q τ' i, Xx E q τ' ∧ es[i]? = some E ∧ w = some (.int (nI (i + 1))) ∧ τ = τ'
/-- the same for a double -/
def WD (Qx : Option Value → AH → Prop) (Xx : String → Nat → AH → Prop) (es : List String) (out : Nat) (oa : Nat → UInt64) : Option Value → AH → Prop := fun w τ => (∃ v τ', Qx (some (.float v)) τ' ∧ w = some (.int 0) ∧ τ = h_put τ' out (.inl (.double, 1, .inr (.inr (.inr (.inl (va_up oa 0 (FP.f2d v)))))))) ∨ ∃ E q τ' i, Xx E q τ' ∧ es[i]? = some E ∧ w = some (.int (nI (i + 1))) ∧ τ = τ'
/-- the same for a double that needs no cast -/
def WE (Qx : Option Value → AH → Prop) (Xx : String → Nat → AH → Prop) (es : List String) (out : Nat) (oa : Nat → UInt64) : Option Value → AH → Prop := fun w τ => (∃ v τ', Qx (some (.double v)) τ' ∧ w = some (.int 0) ∧ τ = h_put τ' out (.inl (.double, 1, .inr (.inr (.inr (.inl (va_up oa 0 v))))))) ∨ ∃ E q τ' i, Xx E q τ' ∧ es[i]? = some E ∧ w = some (.int (nI (i + 1))) ∧ τ = τ'
theorem nx_SB : Cond.not (.castable "java/lang/IllegalStateException" "java/lang/IndexOutOfBoundsException") ∈ flatC (Jvm.Cond.and given_1 narrow_1) := by decide +kernel
theorem nx_SA : Cond.not (.castable "java/lang/IllegalStateException" "java/lang/IllegalArgumentException") ∈ flatC (Jvm.Cond.and given_1 narrow_1) := by decide +kernel
theorem nx_BS : Cond.not (.castable "java/lang/IndexOutOfBoundsException" "java/lang/IllegalStateException") ∈ flatC (Jvm.Cond.and given_1 narrow_1) := by decide +kernel
theorem nx_BA : Cond.not (.castable "java/lang/IndexOutOfBoundsException" "java/lang/IllegalArgumentException") ∈ flatC (Jvm.Cond.and given_1 narrow_1) := by decide +kernel
theorem nx_AS : Cond.not (.castable "java/lang/IllegalArgumentException" "java/lang/IllegalStateException") ∈ flatC (Jvm.Cond.and given_1 narrow_1) := by decide +kernel
theorem nx_AB : Cond.not (.castable "java/lang/IllegalArgumentException" "java/lang/IndexOutOfBoundsException") ∈ flatC (Jvm.Cond.and given_1 narrow_1) := by decide +kernel
theorem w_load {l : Launch} {g : GC} (σ : AH) (x out : Nat) (a1 : Int32) (oa : Nat → Int64) (fs : List Value) {Qx : Option Value → AH → Prop} {Xx : String → Nat → AH → Prop} (hX : σ.1 x = some (.inr (.inl (0, fs)))) (hM : AMet l g mX1_load 49 40500 [.ref x, .int a1] σ Qx Xx) (hv : wfh σ → ∀ w τ, Qx w τ → (∃ v, w = some (.int v)) ∧ τ.1 out = some (.inl (.long, 1, .inr (.inl oa)))) (hx : ∀ E q τ, Xx E q τ → E = "java/lang/IndexOutOfBoundsException" ∨ E = "java/lang/IllegalArgumentException") {Qf : Option Value → AH → Prop} (hQ : wfh σ → ∀ w τ, WQ Qx Xx ["java/lang/IndexOutOfBoundsException", "java/lang/IllegalArgumentException"] out oa w τ → Qf w τ) : AMet l g mX0_load 50 40500 [.ref x, .int a1, .ref out] σ Qf A_no := by
  refine A_ofH rfl (by decide) (Nat.le_of_ble_eq_true rfl) (L0 := [(0, .ref x), (1, .int a1), (2, .ref out)]) rfl ?_
  refine A_wfh (fun wσ _ => ?_)
  refine A_aload_n (i := 2) dX0_load_0 rfl rfl ?_
  refine A_iconst (v := 0) dX0_load_1 (by decide) ?_
  refine A_aload_n (i := 0) dX0_load_2 rfl rfl ?_
  refine A_iload_n (i := 1) dX0_load_3 rfl rfl ?_
  refine A_callVH1 (b' := 0) hM tX1_load (by decide) q373 hX rfl rfl dX0_load_4 (Nat.le_refl _) (Nat.le_refl _) (Nat.le_of_ble_eq_true rfl) (fun w τ h => ?_) (fun E q τ h => ?_)
  · obtain ⟨⟨v, rfl⟩, ho⟩ := hv wσ _ _ h
    refine A_i2l dX0_load_7 rfl ?_
    refine A_last ho (by unfold vp_in; decide) dX0_load_8 ?_
    refine A_goto (tgt := 18) dX0_load_9 (by decide) ?_
    refine A_iconst (v := 0) dX0_load_18 (by decide) ?_
    exact A_iret dX0_load_19 rfl (hQ wσ _ _ (Or.inl ⟨v, τ, h, rfl, rfl⟩))
  · rcases hx _ _ _ h with rfl | rfl
    · refine A_catch (pre := []) (suf := [(0, 9, 15, 15)]) (s9 := 0) (e9 := 9) (h9 := 12) (t9 := 13) rfl (fun z hz => by simp at hz) ⟨by decide, by decide⟩ (by decide) q294 q386 ?_
      refine A_astore_n (i := 3) dX0_load_12 rfl (Nat.le_of_ble_eq_true rfl) ?_
      refine A_iconst (v := 1) dX0_load_13 (by decide) ?_
      exact A_iret dX0_load_14 rfl (hQ wσ _ _ (Or.inr ⟨_, q, τ, 0, h, rfl, rfl, rfl⟩))
    · refine A_catch (pre := [(0, 9, 12, 13)]) (suf := []) (s9 := 0) (e9 := 9) (h9 := 15) (t9 := 15) rfl (by intro z hz; simp at hz; subst hz; exact Or.inr ⟨by decide, _, q294, nx_AB⟩) ⟨by decide, by decide⟩ (by decide) q372 q567 ?_
      refine A_astore_n (i := 3) dX0_load_15 rfl (Nat.le_of_ble_eq_true rfl) ?_
      refine A_iconst (v := 2) dX0_load_16 (by decide) ?_
      exact A_iret dX0_load_17 rfl (hQ wσ _ _ (Or.inr ⟨_, q, τ, 1, h, rfl, rfl, rfl⟩))
theorem w_count {l : Launch} {g : GC} (σ : AH) (x out : Nat) (a1 : Int32) (oa : Nat → Int64) (fs : List Value) {Qx : Option Value → AH → Prop} {Xx : String → Nat → AH → Prop} (hX : σ.1 x = some (.inr (.inl (0, fs)))) (hM : AMet l g mX1_count 34 2 [.ref x, .int a1] σ Qx Xx) (hv : wfh σ → ∀ w τ, Qx w τ → (∃ v, w = some (.int v)) ∧ τ.1 out = some (.inl (.long, 1, .inr (.inl oa)))) (hx : ∀ E q τ, Xx E q τ → E = "java/lang/IllegalStateException" ∨ E = "java/lang/IllegalArgumentException") {Qf : Option Value → AH → Prop} (hQ : wfh σ → ∀ w τ, WQ Qx Xx ["java/lang/IllegalStateException", "java/lang/IllegalArgumentException"] out oa w τ → Qf w τ) : AMet l g mX0_count 35 2 [.ref x, .int a1, .ref out] σ Qf A_no := by
  refine A_ofH rfl (by decide) (Nat.le_of_ble_eq_true rfl) (L0 := [(0, .ref x), (1, .int a1), (2, .ref out)]) rfl ?_
  refine A_wfh (fun wσ _ => ?_)
  refine A_aload_n (i := 2) dX0_count_0 rfl rfl ?_
  refine A_iconst (v := 0) dX0_count_1 (by decide) ?_
  refine A_aload_n (i := 0) dX0_count_2 rfl rfl ?_
  refine A_iload_n (i := 1) dX0_count_3 rfl rfl ?_
  refine A_callV1 (b' := 0) hM tX1_count q1379 hX rfl rfl dX0_count_4 (Nat.le_refl _) (Nat.le_refl _) (Nat.le_of_ble_eq_true rfl) (fun w τ h => ?_) (fun E q τ h => ?_)
  · obtain ⟨⟨v, rfl⟩, ho⟩ := hv wσ _ _ h
    refine A_i2l dX0_count_7 rfl ?_
    refine A_last ho (by unfold vp_in; decide) dX0_count_8 ?_
    refine A_goto (tgt := 18) dX0_count_9 (by decide) ?_
    refine A_iconst (v := 0) dX0_count_18 (by decide) ?_
    exact A_iret dX0_count_19 rfl (hQ wσ _ _ (Or.inl ⟨v, τ, h, rfl, rfl⟩))
  · rcases hx _ _ _ h with rfl | rfl
    · refine A_catch (pre := []) (suf := [(0, 9, 15, 15)]) (s9 := 0) (e9 := 9) (h9 := 12) (t9 := 20) rfl (fun z hz => by simp at hz) ⟨by decide, by decide⟩ (by decide) q1378 q1392 ?_
      refine A_astore_n (i := 3) dX0_count_12 rfl (Nat.le_of_ble_eq_true rfl) ?_
      refine A_iconst (v := 1) dX0_count_13 (by decide) ?_
      exact A_iret dX0_count_14 rfl (hQ wσ _ _ (Or.inr ⟨_, q, τ, 0, h, rfl, rfl, rfl⟩))
    · refine A_catch (pre := [(0, 9, 12, 20)]) (suf := []) (s9 := 0) (e9 := 9) (h9 := 15) (t9 := 15) rfl (by intro z hz; simp at hz; subst hz; exact Or.inr ⟨by decide, _, q1378, nx_AS⟩) ⟨by decide, by decide⟩ (by decide) q372 q567 ?_
      refine A_astore_n (i := 3) dX0_count_15 rfl (Nat.le_of_ble_eq_true rfl) ?_
      refine A_iconst (v := 2) dX0_count_16 (by decide) ?_
      exact A_iret dX0_count_17 rfl (hQ wσ _ _ (Or.inr ⟨_, q, τ, 1, h, rfl, rfl, rfl⟩))
theorem w_colour {l : Launch} {g : GC} (σ : AH) (x out : Nat) (a1 a2 : Int32) (oa : Nat → Int64) (fs : List Value) {Qx : Option Value → AH → Prop} {Xx : String → Nat → AH → Prop} (hX : σ.1 x = some (.inr (.inl (0, fs)))) (hM : AMet l g mX1_colour 31 2 [.ref x, .int a1, .int a2] σ Qx Xx) (hv : wfh σ → ∀ w τ, Qx w τ → (∃ v, w = some (.int v)) ∧ τ.1 out = some (.inl (.long, 1, .inr (.inl oa)))) (hx : ∀ E q τ, Xx E q τ → E = "java/lang/IllegalStateException" ∨ E = "java/lang/IndexOutOfBoundsException" ∨ E = "java/lang/IllegalArgumentException") {Qf : Option Value → AH → Prop} (hQ : wfh σ → ∀ w τ, WQ Qx Xx ["java/lang/IllegalStateException", "java/lang/IndexOutOfBoundsException", "java/lang/IllegalArgumentException"] out oa w τ → Qf w τ) : AMet l g mX0_colour 32 2 [.ref x, .int a1, .int a2, .ref out] σ Qf A_no := by
  refine A_ofH rfl (by decide) (Nat.le_of_ble_eq_true rfl) (L0 := [(0, .ref x), (1, .int a1), (2, .int a2), (3, .ref out)]) rfl ?_
  refine A_wfh (fun wσ _ => ?_)
  refine A_aload_n (i := 3) dX0_colour_0 rfl rfl ?_
  refine A_iconst (v := 0) dX0_colour_1 (by decide) ?_
  refine A_aload_n (i := 0) dX0_colour_2 rfl rfl ?_
  refine A_iload_n (i := 1) dX0_colour_3 rfl rfl ?_
  refine A_iload_n (i := 2) dX0_colour_4 rfl rfl ?_
  refine A_callV2 (b' := 0) hM tX1_colour q1438 hX rfl rfl dX0_colour_5 (Nat.le_refl _) (Nat.le_refl _) (Nat.le_of_ble_eq_true rfl) (fun w τ h => ?_) (fun E q τ h => ?_)
  · obtain ⟨⟨v, rfl⟩, ho⟩ := hv wσ _ _ h
    refine A_i2l dX0_colour_8 rfl ?_
    refine A_last ho (by unfold vp_in; decide) dX0_colour_9 ?_
    refine A_goto (tgt := 25) dX0_colour_10 (by decide) ?_
    refine A_iconst (v := 0) dX0_colour_25 (by decide) ?_
    exact A_iret dX0_colour_26 rfl (hQ wσ _ _ (Or.inl ⟨v, τ, h, rfl, rfl⟩))
  · rcases hx _ _ _ h with rfl | rfl | rfl
    · refine A_catch (pre := []) (suf := [(0, 10, 17, 13), (0, 10, 21, 15)]) (s9 := 0) (e9 := 10) (h9 := 13) (t9 := 20) rfl (fun z hz => by simp at hz) ⟨by decide, by decide⟩ (by decide) q1378 q1392 ?_
      refine A_astore dX0_colour_13 (Nat.le_of_ble_eq_true rfl) ?_
      refine A_iconst (v := 1) dX0_colour_15 (by decide) ?_
      exact A_iret dX0_colour_16 rfl (hQ wσ _ _ (Or.inr ⟨_, q, τ, 0, h, rfl, rfl, rfl⟩))
    · refine A_catch (pre := [(0, 10, 13, 20)]) (suf := [(0, 10, 21, 15)]) (s9 := 0) (e9 := 10) (h9 := 17) (t9 := 13) rfl (by intro z hz; simp at hz; subst hz; exact Or.inr ⟨by decide, _, q1378, nx_BS⟩) ⟨by decide, by decide⟩ (by decide) q294 q386 ?_
      refine A_astore dX0_colour_17 (Nat.le_of_ble_eq_true rfl) ?_
      refine A_iconst (v := 2) dX0_colour_19 (by decide) ?_
      exact A_iret dX0_colour_20 rfl (hQ wσ _ _ (Or.inr ⟨_, q, τ, 1, h, rfl, rfl, rfl⟩))
    · refine A_catch (pre := [(0, 10, 13, 20), (0, 10, 17, 13)]) (suf := []) (s9 := 0) (e9 := 10) (h9 := 21) (t9 := 15) rfl (by intro z hz; simp at hz; rcases hz with rfl | rfl; exact Or.inr ⟨by decide, _, q1378, nx_AS⟩; exact Or.inr ⟨by decide, _, q294, nx_AB⟩) ⟨by decide, by decide⟩ (by decide) q372 q567 ?_
      refine A_astore dX0_colour_21 (Nat.le_of_ble_eq_true rfl) ?_
      refine A_iconst (v := 3) dX0_colour_23 (by decide) ?_
      exact A_iret dX0_colour_24 rfl (hQ wσ _ _ (Or.inr ⟨_, q, τ, 2, h, rfl, rfl, rfl⟩))
theorem w_nation {l : Launch} {g : GC} (σ : AH) (x out : Nat) (a1 a2 : Int32) (oa : Nat → Int64) (fs : List Value) {Qx : Option Value → AH → Prop} {Xx : String → Nat → AH → Prop} (hX : σ.1 x = some (.inr (.inl (0, fs)))) (hM : AMet l g mX1_nation 34 2 [.ref x, .int a1, .int a2] σ Qx Xx) (hv : wfh σ → ∀ w τ, Qx w τ → (∃ v, w = some (.int v)) ∧ τ.1 out = some (.inl (.long, 1, .inr (.inl oa)))) (hx : ∀ E q τ, Xx E q τ → E = "java/lang/IllegalStateException" ∨ E = "java/lang/IndexOutOfBoundsException" ∨ E = "java/lang/IllegalArgumentException") {Qf : Option Value → AH → Prop} (hQ : wfh σ → ∀ w τ, WQ Qx Xx ["java/lang/IllegalStateException", "java/lang/IndexOutOfBoundsException", "java/lang/IllegalArgumentException"] out oa w τ → Qf w τ) : AMet l g mX0_nation 35 2 [.ref x, .int a1, .int a2, .ref out] σ Qf A_no := by
  refine A_ofH rfl (by decide) (Nat.le_of_ble_eq_true rfl) (L0 := [(0, .ref x), (1, .int a1), (2, .int a2), (3, .ref out)]) rfl ?_
  refine A_wfh (fun wσ _ => ?_)
  refine A_aload_n (i := 3) dX0_nation_0 rfl rfl ?_
  refine A_iconst (v := 0) dX0_nation_1 (by decide) ?_
  refine A_aload_n (i := 0) dX0_nation_2 rfl rfl ?_
  refine A_iload_n (i := 1) dX0_nation_3 rfl rfl ?_
  refine A_iload_n (i := 2) dX0_nation_4 rfl rfl ?_
  refine A_callV2 (b' := 0) hM tX1_nation q1451 hX rfl rfl dX0_nation_5 (Nat.le_refl _) (Nat.le_refl _) (Nat.le_of_ble_eq_true rfl) (fun w τ h => ?_) (fun E q τ h => ?_)
  · obtain ⟨⟨v, rfl⟩, ho⟩ := hv wσ _ _ h
    refine A_i2l dX0_nation_8 rfl ?_
    refine A_last ho (by unfold vp_in; decide) dX0_nation_9 ?_
    refine A_goto (tgt := 25) dX0_nation_10 (by decide) ?_
    refine A_iconst (v := 0) dX0_nation_25 (by decide) ?_
    exact A_iret dX0_nation_26 rfl (hQ wσ _ _ (Or.inl ⟨v, τ, h, rfl, rfl⟩))
  · rcases hx _ _ _ h with rfl | rfl | rfl
    · refine A_catch (pre := []) (suf := [(0, 10, 17, 13), (0, 10, 21, 15)]) (s9 := 0) (e9 := 10) (h9 := 13) (t9 := 20) rfl (fun z hz => by simp at hz) ⟨by decide, by decide⟩ (by decide) q1378 q1392 ?_
      refine A_astore dX0_nation_13 (Nat.le_of_ble_eq_true rfl) ?_
      refine A_iconst (v := 1) dX0_nation_15 (by decide) ?_
      exact A_iret dX0_nation_16 rfl (hQ wσ _ _ (Or.inr ⟨_, q, τ, 0, h, rfl, rfl, rfl⟩))
    · refine A_catch (pre := [(0, 10, 13, 20)]) (suf := [(0, 10, 21, 15)]) (s9 := 0) (e9 := 10) (h9 := 17) (t9 := 13) rfl (by intro z hz; simp at hz; subst hz; exact Or.inr ⟨by decide, _, q1378, nx_BS⟩) ⟨by decide, by decide⟩ (by decide) q294 q386 ?_
      refine A_astore dX0_nation_17 (Nat.le_of_ble_eq_true rfl) ?_
      refine A_iconst (v := 2) dX0_nation_19 (by decide) ?_
      exact A_iret dX0_nation_20 rfl (hQ wσ _ _ (Or.inr ⟨_, q, τ, 1, h, rfl, rfl, rfl⟩))
    · refine A_catch (pre := [(0, 10, 13, 20), (0, 10, 17, 13)]) (suf := []) (s9 := 0) (e9 := 10) (h9 := 21) (t9 := 15) rfl (by intro z hz; simp at hz; rcases hz with rfl | rfl; exact Or.inr ⟨by decide, _, q1378, nx_AS⟩; exact Or.inr ⟨by decide, _, q294, nx_AB⟩) ⟨by decide, by decide⟩ (by decide) q372 q567 ?_
      refine A_astore dX0_nation_21 (Nat.le_of_ble_eq_true rfl) ?_
      refine A_iconst (v := 3) dX0_nation_23 (by decide) ?_
      exact A_iret dX0_nation_24 rfl (hQ wσ _ _ (Or.inr ⟨_, q, τ, 2, h, rfl, rfl, rfl⟩))
theorem w_flag {l : Launch} {g : GC} (σ : AH) (x out : Nat) (a1 a2 : Int32) (oa : Nat → Int64) (fs : List Value) {Qx : Option Value → AH → Prop} {Xx : String → Nat → AH → Prop} (hX : σ.1 x = some (.inr (.inl (0, fs)))) (hM : AMet l g mX1_flag 10 2 [.ref x, .int a1, .int a2] σ Qx Xx) (hv : wfh σ → ∀ w τ, Qx w τ → (∃ v, w = some (.int v)) ∧ τ.1 out = some (.inl (.long, 1, .inr (.inl oa)))) (hx : ∀ E q τ, Xx E q τ → E = "java/lang/IllegalStateException" ∨ E = "java/lang/IndexOutOfBoundsException" ∨ E = "java/lang/IllegalArgumentException") {Qf : Option Value → AH → Prop} (hQ : wfh σ → ∀ w τ, WQ Qx Xx ["java/lang/IllegalStateException", "java/lang/IndexOutOfBoundsException", "java/lang/IllegalArgumentException"] out oa w τ → Qf w τ) : AMet l g mX0_flag 11 2 [.ref x, .int a1, .int a2, .ref out] σ Qf A_no := by
  refine A_ofH rfl (by decide) (Nat.le_of_ble_eq_true rfl) (L0 := [(0, .ref x), (1, .int a1), (2, .int a2), (3, .ref out)]) rfl ?_
  refine A_wfh (fun wσ _ => ?_)
  refine A_aload_n (i := 3) dX0_flag_0 rfl rfl ?_
  refine A_iconst (v := 0) dX0_flag_1 (by decide) ?_
  refine A_aload_n (i := 0) dX0_flag_2 rfl rfl ?_
  refine A_iload_n (i := 1) dX0_flag_3 rfl rfl ?_
  refine A_iload_n (i := 2) dX0_flag_4 rfl rfl ?_
  refine A_callV2 (b' := 0) hM tX1_flag q1486 hX rfl rfl dX0_flag_5 (Nat.le_refl _) (Nat.le_refl _) (Nat.le_of_ble_eq_true rfl) (fun w τ h => ?_) (fun E q τ h => ?_)
  · obtain ⟨⟨v, rfl⟩, ho⟩ := hv wσ _ _ h
    refine A_i2l dX0_flag_8 rfl ?_
    refine A_last ho (by unfold vp_in; decide) dX0_flag_9 ?_
    refine A_goto (tgt := 25) dX0_flag_10 (by decide) ?_
    refine A_iconst (v := 0) dX0_flag_25 (by decide) ?_
    exact A_iret dX0_flag_26 rfl (hQ wσ _ _ (Or.inl ⟨v, τ, h, rfl, rfl⟩))
  · rcases hx _ _ _ h with rfl | rfl | rfl
    · refine A_catch (pre := []) (suf := [(0, 10, 17, 13), (0, 10, 21, 15)]) (s9 := 0) (e9 := 10) (h9 := 13) (t9 := 20) rfl (fun z hz => by simp at hz) ⟨by decide, by decide⟩ (by decide) q1378 q1392 ?_
      refine A_astore dX0_flag_13 (Nat.le_of_ble_eq_true rfl) ?_
      refine A_iconst (v := 1) dX0_flag_15 (by decide) ?_
      exact A_iret dX0_flag_16 rfl (hQ wσ _ _ (Or.inr ⟨_, q, τ, 0, h, rfl, rfl, rfl⟩))
    · refine A_catch (pre := [(0, 10, 13, 20)]) (suf := [(0, 10, 21, 15)]) (s9 := 0) (e9 := 10) (h9 := 17) (t9 := 13) rfl (by intro z hz; simp at hz; subst hz; exact Or.inr ⟨by decide, _, q1378, nx_BS⟩) ⟨by decide, by decide⟩ (by decide) q294 q386 ?_
      refine A_astore dX0_flag_17 (Nat.le_of_ble_eq_true rfl) ?_
      refine A_iconst (v := 2) dX0_flag_19 (by decide) ?_
      exact A_iret dX0_flag_20 rfl (hQ wσ _ _ (Or.inr ⟨_, q, τ, 1, h, rfl, rfl, rfl⟩))
    · refine A_catch (pre := [(0, 10, 13, 20), (0, 10, 17, 13)]) (suf := []) (s9 := 0) (e9 := 10) (h9 := 21) (t9 := 15) rfl (by intro z hz; simp at hz; rcases hz with rfl | rfl; exact Or.inr ⟨by decide, _, q1378, nx_AS⟩; exact Or.inr ⟨by decide, _, q294, nx_AB⟩) ⟨by decide, by decide⟩ (by decide) q372 q567 ?_
      refine A_astore dX0_flag_21 (Nat.le_of_ble_eq_true rfl) ?_
      refine A_iconst (v := 3) dX0_flag_23 (by decide) ?_
      exact A_iret dX0_flag_24 rfl (hQ wσ _ _ (Or.inr ⟨_, q, τ, 2, h, rfl, rfl, rfl⟩))
theorem w_tub {l : Launch} {g : GC} (σ : AH) (x out : Nat) (a1 a2 : Int32) (oa : Nat → Int64) (fs : List Value) {Qx : Option Value → AH → Prop} {Xx : String → Nat → AH → Prop} (hX : σ.1 x = some (.inr (.inl (0, fs)))) (hM : AMet l g mX1_tub 34 2 [.ref x, .int a1, .int a2] σ Qx Xx) (hv : wfh σ → ∀ w τ, Qx w τ → (∃ v, w = some (.int v)) ∧ τ.1 out = some (.inl (.long, 1, .inr (.inl oa)))) (hx : ∀ E q τ, Xx E q τ → E = "java/lang/IllegalStateException" ∨ E = "java/lang/IndexOutOfBoundsException" ∨ E = "java/lang/IllegalArgumentException") {Qf : Option Value → AH → Prop} (hQ : wfh σ → ∀ w τ, WQ Qx Xx ["java/lang/IllegalStateException", "java/lang/IndexOutOfBoundsException", "java/lang/IllegalArgumentException"] out oa w τ → Qf w τ) : AMet l g mX0_tub 35 2 [.ref x, .int a1, .int a2, .ref out] σ Qf A_no := by
  refine A_ofH rfl (by decide) (Nat.le_of_ble_eq_true rfl) (L0 := [(0, .ref x), (1, .int a1), (2, .int a2), (3, .ref out)]) rfl ?_
  refine A_wfh (fun wσ _ => ?_)
  refine A_aload_n (i := 3) dX0_tub_0 rfl rfl ?_
  refine A_iconst (v := 0) dX0_tub_1 (by decide) ?_
  refine A_aload_n (i := 0) dX0_tub_2 rfl rfl ?_
  refine A_iload_n (i := 1) dX0_tub_3 rfl rfl ?_
  refine A_iload_n (i := 2) dX0_tub_4 rfl rfl ?_
  refine A_callV2 (b' := 0) hM tX1_tub q1501 hX rfl rfl dX0_tub_5 (Nat.le_refl _) (Nat.le_refl _) (Nat.le_of_ble_eq_true rfl) (fun w τ h => ?_) (fun E q τ h => ?_)
  · obtain ⟨⟨v, rfl⟩, ho⟩ := hv wσ _ _ h
    refine A_i2l dX0_tub_8 rfl ?_
    refine A_last ho (by unfold vp_in; decide) dX0_tub_9 ?_
    refine A_goto (tgt := 25) dX0_tub_10 (by decide) ?_
    refine A_iconst (v := 0) dX0_tub_25 (by decide) ?_
    exact A_iret dX0_tub_26 rfl (hQ wσ _ _ (Or.inl ⟨v, τ, h, rfl, rfl⟩))
  · rcases hx _ _ _ h with rfl | rfl | rfl
    · refine A_catch (pre := []) (suf := [(0, 10, 17, 13), (0, 10, 21, 15)]) (s9 := 0) (e9 := 10) (h9 := 13) (t9 := 20) rfl (fun z hz => by simp at hz) ⟨by decide, by decide⟩ (by decide) q1378 q1392 ?_
      refine A_astore dX0_tub_13 (Nat.le_of_ble_eq_true rfl) ?_
      refine A_iconst (v := 1) dX0_tub_15 (by decide) ?_
      exact A_iret dX0_tub_16 rfl (hQ wσ _ _ (Or.inr ⟨_, q, τ, 0, h, rfl, rfl, rfl⟩))
    · refine A_catch (pre := [(0, 10, 13, 20)]) (suf := [(0, 10, 21, 15)]) (s9 := 0) (e9 := 10) (h9 := 17) (t9 := 13) rfl (by intro z hz; simp at hz; subst hz; exact Or.inr ⟨by decide, _, q1378, nx_BS⟩) ⟨by decide, by decide⟩ (by decide) q294 q386 ?_
      refine A_astore dX0_tub_17 (Nat.le_of_ble_eq_true rfl) ?_
      refine A_iconst (v := 2) dX0_tub_19 (by decide) ?_
      exact A_iret dX0_tub_20 rfl (hQ wσ _ _ (Or.inr ⟨_, q, τ, 1, h, rfl, rfl, rfl⟩))
    · refine A_catch (pre := [(0, 10, 13, 20), (0, 10, 17, 13)]) (suf := []) (s9 := 0) (e9 := 10) (h9 := 21) (t9 := 15) rfl (by intro z hz; simp at hz; rcases hz with rfl | rfl; exact Or.inr ⟨by decide, _, q1378, nx_AS⟩; exact Or.inr ⟨by decide, _, q294, nx_AB⟩) ⟨by decide, by decide⟩ (by decide) q372 q567 ?_
      refine A_astore dX0_tub_21 (Nat.le_of_ble_eq_true rfl) ?_
      refine A_iconst (v := 3) dX0_tub_23 (by decide) ?_
      exact A_iret dX0_tub_24 rfl (hQ wσ _ _ (Or.inr ⟨_, q, τ, 2, h, rfl, rfl, rfl⟩))
theorem w_inTub {l : Launch} {g : GC} (σ : AH) (x out : Nat) (a1 a2 : Int32) (oa : Nat → Int64) (fs : List Value) {Qx : Option Value → AH → Prop} {Xx : String → Nat → AH → Prop} (hX : σ.1 x = some (.inr (.inl (0, fs)))) (hM : AMet l g mX1_inTub 36 20 [.ref x, .int a1, .int a2] σ Qx Xx) (hv : wfh σ → ∀ w τ, Qx w τ → (∃ v, w = some (.int v)) ∧ τ.1 out = some (.inl (.long, 1, .inr (.inl oa)))) (hx : ∀ E q τ, Xx E q τ → E = "java/lang/IllegalStateException" ∨ E = "java/lang/IndexOutOfBoundsException") {Qf : Option Value → AH → Prop} (hQ : wfh σ → ∀ w τ, WQ Qx Xx ["java/lang/IllegalStateException", "java/lang/IndexOutOfBoundsException"] out oa w τ → Qf w τ) : AMet l g mX0_inTub 37 20 [.ref x, .int a1, .int a2, .ref out] σ Qf A_no := by
  refine A_ofH rfl (by decide) (Nat.le_of_ble_eq_true rfl) (L0 := [(0, .ref x), (1, .int a1), (2, .int a2), (3, .ref out)]) rfl ?_
  refine A_wfh (fun wσ _ => ?_)
  refine A_aload_n (i := 3) dX0_inTub_0 rfl rfl ?_
  refine A_iconst (v := 0) dX0_inTub_1 (by decide) ?_
  refine A_aload_n (i := 0) dX0_inTub_2 rfl rfl ?_
  refine A_iload_n (i := 1) dX0_inTub_3 rfl rfl ?_
  refine A_iload_n (i := 2) dX0_inTub_4 rfl rfl ?_
  refine A_callV2 (b' := 0) hM tX1_inTub q1520 hX rfl rfl dX0_inTub_5 (Nat.le_refl _) (Nat.le_refl _) (Nat.le_of_ble_eq_true rfl) (fun w τ h => ?_) (fun E q τ h => ?_)
  · obtain ⟨⟨v, rfl⟩, ho⟩ := hv wσ _ _ h
    refine A_i2l dX0_inTub_8 rfl ?_
    refine A_last ho (by unfold vp_in; decide) dX0_inTub_9 ?_
    refine A_goto (tgt := 21) dX0_inTub_10 (by decide) ?_
    refine A_iconst (v := 0) dX0_inTub_21 (by decide) ?_
    exact A_iret dX0_inTub_22 rfl (hQ wσ _ _ (Or.inl ⟨v, τ, h, rfl, rfl⟩))
  · rcases hx _ _ _ h with rfl | rfl
    · refine A_catch (pre := []) (suf := [(0, 10, 17, 13)]) (s9 := 0) (e9 := 10) (h9 := 13) (t9 := 20) rfl (fun z hz => by simp at hz) ⟨by decide, by decide⟩ (by decide) q1378 q1392 ?_
      refine A_astore dX0_inTub_13 (Nat.le_of_ble_eq_true rfl) ?_
      refine A_iconst (v := 1) dX0_inTub_15 (by decide) ?_
      exact A_iret dX0_inTub_16 rfl (hQ wσ _ _ (Or.inr ⟨_, q, τ, 0, h, rfl, rfl, rfl⟩))
    · refine A_catch (pre := [(0, 10, 13, 20)]) (suf := []) (s9 := 0) (e9 := 10) (h9 := 17) (t9 := 13) rfl (by intro z hz; simp at hz; subst hz; exact Or.inr ⟨by decide, _, q1378, nx_BS⟩) ⟨by decide, by decide⟩ (by decide) q294 q386 ?_
      refine A_astore dX0_inTub_17 (Nat.le_of_ble_eq_true rfl) ?_
      refine A_iconst (v := 2) dX0_inTub_19 (by decide) ?_
      exact A_iret dX0_inTub_20 rfl (hQ wσ _ _ (Or.inr ⟨_, q, τ, 1, h, rfl, rfl, rfl⟩))
theorem w_onPeg {l : Launch} {g : GC} (σ : AH) (x out : Nat) (a1 : Int32) (oa : Nat → Int64) (fs : List Value) {Qx : Option Value → AH → Prop} {Xx : String → Nat → AH → Prop} (hX : σ.1 x = some (.inr (.inl (0, fs)))) (hM : AMet l g mX1_onPeg 9 2 [.ref x, .int a1] σ Qx Xx) (hv : wfh σ → ∀ w τ, Qx w τ → (∃ v, w = some (.int v)) ∧ τ.1 out = some (.inl (.long, 1, .inr (.inl oa)))) (hx : ∀ E q τ, Xx E q τ → E = "java/lang/IllegalStateException" ∨ E = "java/lang/IndexOutOfBoundsException") {Qf : Option Value → AH → Prop} (hQ : wfh σ → ∀ w τ, WQ Qx Xx ["java/lang/IllegalStateException", "java/lang/IndexOutOfBoundsException"] out oa w τ → Qf w τ) : AMet l g mX0_onPeg 10 2 [.ref x, .int a1, .ref out] σ Qf A_no := by
  refine A_ofH rfl (by decide) (Nat.le_of_ble_eq_true rfl) (L0 := [(0, .ref x), (1, .int a1), (2, .ref out)]) rfl ?_
  refine A_wfh (fun wσ _ => ?_)
  refine A_aload_n (i := 2) dX0_onPeg_0 rfl rfl ?_
  refine A_iconst (v := 0) dX0_onPeg_1 (by decide) ?_
  refine A_aload_n (i := 0) dX0_onPeg_2 rfl rfl ?_
  refine A_iload_n (i := 1) dX0_onPeg_3 rfl rfl ?_
  refine A_callV1 (b' := 0) hM tX1_onPeg q1537 hX rfl rfl dX0_onPeg_4 (Nat.le_refl _) (Nat.le_refl _) (Nat.le_of_ble_eq_true rfl) (fun w τ h => ?_) (fun E q τ h => ?_)
  · obtain ⟨⟨v, rfl⟩, ho⟩ := hv wσ _ _ h
    refine A_i2l dX0_onPeg_7 rfl ?_
    refine A_last ho (by unfold vp_in; decide) dX0_onPeg_8 ?_
    refine A_goto (tgt := 18) dX0_onPeg_9 (by decide) ?_
    refine A_iconst (v := 0) dX0_onPeg_18 (by decide) ?_
    exact A_iret dX0_onPeg_19 rfl (hQ wσ _ _ (Or.inl ⟨v, τ, h, rfl, rfl⟩))
  · rcases hx _ _ _ h with rfl | rfl
    · refine A_catch (pre := []) (suf := [(0, 9, 15, 13)]) (s9 := 0) (e9 := 9) (h9 := 12) (t9 := 20) rfl (fun z hz => by simp at hz) ⟨by decide, by decide⟩ (by decide) q1378 q1392 ?_
      refine A_astore_n (i := 3) dX0_onPeg_12 rfl (Nat.le_of_ble_eq_true rfl) ?_
      refine A_iconst (v := 1) dX0_onPeg_13 (by decide) ?_
      exact A_iret dX0_onPeg_14 rfl (hQ wσ _ _ (Or.inr ⟨_, q, τ, 0, h, rfl, rfl, rfl⟩))
    · refine A_catch (pre := [(0, 9, 12, 20)]) (suf := []) (s9 := 0) (e9 := 9) (h9 := 15) (t9 := 13) rfl (by intro z hz; simp at hz; subst hz; exact Or.inr ⟨by decide, _, q1378, nx_BS⟩) ⟨by decide, by decide⟩ (by decide) q294 q386 ?_
      refine A_astore_n (i := 3) dX0_onPeg_15 rfl (Nat.le_of_ble_eq_true rfl) ?_
      refine A_iconst (v := 2) dX0_onPeg_16 (by decide) ?_
      exact A_iret dX0_onPeg_17 rfl (hQ wσ _ _ (Or.inr ⟨_, q, τ, 1, h, rfl, rfl, rfl⟩))
theorem w_freePegs {l : Launch} {g : GC} (σ : AH) (x out : Nat) (oa : Nat → Int64) (fs : List Value) {Qx : Option Value → AH → Prop} {Xx : String → Nat → AH → Prop} (hX : σ.1 x = some (.inr (.inl (0, fs)))) (hM : AMet l g mX1_freePegs 34 2 [.ref x] σ Qx Xx) (hv : wfh σ → ∀ w τ, Qx w τ → (∃ v, w = some (.int v)) ∧ τ.1 out = some (.inl (.long, 1, .inr (.inl oa)))) (hx : ∀ E q τ, Xx E q τ → E = "java/lang/IllegalStateException") {Qf : Option Value → AH → Prop} (hQ : wfh σ → ∀ w τ, WQ Qx Xx ["java/lang/IllegalStateException"] out oa w τ → Qf w τ) : AMet l g mX0_freePegs 35 2 [.ref x, .ref out] σ Qf A_no := by
  refine A_ofH rfl (by decide) (Nat.le_of_ble_eq_true rfl) (L0 := [(0, .ref x), (1, .ref out)]) rfl ?_
  refine A_wfh (fun wσ _ => ?_)
  refine A_aload_n (i := 1) dX0_freePegs_0 rfl rfl ?_
  refine A_iconst (v := 0) dX0_freePegs_1 (by decide) ?_
  refine A_aload_n (i := 0) dX0_freePegs_2 rfl rfl ?_
  refine A_callV0 (b' := 0) hM tX1_freePegs q1545 hX rfl rfl dX0_freePegs_3 (Nat.le_refl _) (Nat.le_refl _) (Nat.le_of_ble_eq_true rfl) (fun w τ h => ?_) (fun E q τ h => ?_)
  · obtain ⟨⟨v, rfl⟩, ho⟩ := hv wσ _ _ h
    refine A_i2l dX0_freePegs_6 rfl ?_
    refine A_last ho (by unfold vp_in; decide) dX0_freePegs_7 ?_
    refine A_goto (tgt := 14) dX0_freePegs_8 (by decide) ?_
    refine A_iconst (v := 0) dX0_freePegs_14 (by decide) ?_
    exact A_iret dX0_freePegs_15 rfl (hQ wσ _ _ (Or.inl ⟨v, τ, h, rfl, rfl⟩))
  · rcases hx _ _ _ h with rfl
    · refine A_catch (pre := []) (suf := []) (s9 := 0) (e9 := 8) (h9 := 11) (t9 := 20) rfl (fun z hz => by simp at hz) ⟨by decide, by decide⟩ (by decide) q1378 q1392 ?_
      refine A_astore_n (i := 2) dX0_freePegs_11 rfl (Nat.le_of_ble_eq_true rfl) ?_
      refine A_iconst (v := 1) dX0_freePegs_12 (by decide) ?_
      exact A_iret dX0_freePegs_13 rfl (hQ wσ _ _ (Or.inr ⟨_, q, τ, 0, h, rfl, rfl, rfl⟩))
theorem w_wettest {l : Launch} {g : GC} (σ : AH) (x out : Nat) (oa : Nat → Int64) (fs : List Value) {Qx : Option Value → AH → Prop} {Xx : String → Nat → AH → Prop} (hX : σ.1 x = some (.inr (.inl (0, fs)))) (hM : AMet l g mX1_wettest 9 2 [.ref x] σ Qx Xx) (hv : wfh σ → ∀ w τ, Qx w τ → (∃ v, w = some (.int v)) ∧ τ.1 out = some (.inl (.long, 1, .inr (.inl oa)))) (hx : ∀ E q τ, Xx E q τ → E = "java/lang/IllegalStateException") {Qf : Option Value → AH → Prop} (hQ : wfh σ → ∀ w τ, WQ Qx Xx ["java/lang/IllegalStateException"] out oa w τ → Qf w τ) : AMet l g mX0_wettest 10 2 [.ref x, .ref out] σ Qf A_no := by
  refine A_ofH rfl (by decide) (Nat.le_of_ble_eq_true rfl) (L0 := [(0, .ref x), (1, .ref out)]) rfl ?_
  refine A_wfh (fun wσ _ => ?_)
  refine A_aload_n (i := 1) dX0_wettest_0 rfl rfl ?_
  refine A_iconst (v := 0) dX0_wettest_1 (by decide) ?_
  refine A_aload_n (i := 0) dX0_wettest_2 rfl rfl ?_
  refine A_callV0 (b' := 0) hM tX1_wettest q1552 hX rfl rfl dX0_wettest_3 (Nat.le_refl _) (Nat.le_refl _) (Nat.le_of_ble_eq_true rfl) (fun w τ h => ?_) (fun E q τ h => ?_)
  · obtain ⟨⟨v, rfl⟩, ho⟩ := hv wσ _ _ h
    refine A_i2l dX0_wettest_6 rfl ?_
    refine A_last ho (by unfold vp_in; decide) dX0_wettest_7 ?_
    refine A_goto (tgt := 14) dX0_wettest_8 (by decide) ?_
    refine A_iconst (v := 0) dX0_wettest_14 (by decide) ?_
    exact A_iret dX0_wettest_15 rfl (hQ wσ _ _ (Or.inl ⟨v, τ, h, rfl, rfl⟩))
  · rcases hx _ _ _ h with rfl
    · refine A_catch (pre := []) (suf := []) (s9 := 0) (e9 := 8) (h9 := 11) (t9 := 20) rfl (fun z hz => by simp at hz) ⟨by decide, by decide⟩ (by decide) q1378 q1392 ?_
      refine A_astore_n (i := 2) dX0_wettest_11 rfl (Nat.le_of_ble_eq_true rfl) ?_
      refine A_iconst (v := 1) dX0_wettest_12 (by decide) ?_
      exact A_iret dX0_wettest_13 rfl (hQ wσ _ _ (Or.inr ⟨_, q, τ, 0, h, rfl, rfl, rfl⟩))
theorem w_gap {l : Launch} {g : GC} (σ : AH) (x out : Nat) (oa : Nat → Int64) (fs : List Value) {Qx : Option Value → AH → Prop} {Xx : String → Nat → AH → Prop} (hX : σ.1 x = some (.inr (.inl (0, fs)))) (hM : AMet l g mX1_gap 36 5 [.ref x] σ Qx Xx) (hv : wfh σ → ∀ w τ, Qx w τ → (∃ v, w = some (.int v)) ∧ τ.1 out = some (.inl (.long, 1, .inr (.inl oa)))) (hx : ∀ E q τ, Xx E q τ → E = "java/lang/IllegalStateException") {Qf : Option Value → AH → Prop} (hQ : wfh σ → ∀ w τ, WQ Qx Xx ["java/lang/IllegalStateException"] out oa w τ → Qf w τ) : AMet l g mX0_gap 37 5 [.ref x, .ref out] σ Qf A_no := by
  refine A_ofH rfl (by decide) (Nat.le_of_ble_eq_true rfl) (L0 := [(0, .ref x), (1, .ref out)]) rfl ?_
  refine A_wfh (fun wσ _ => ?_)
  refine A_aload_n (i := 1) dX0_gap_0 rfl rfl ?_
  refine A_iconst (v := 0) dX0_gap_1 (by decide) ?_
  refine A_aload_n (i := 0) dX0_gap_2 rfl rfl ?_
  refine A_callV0 (b' := 0) hM tX1_gap q1559 hX rfl rfl dX0_gap_3 (Nat.le_refl _) (Nat.le_refl _) (Nat.le_of_ble_eq_true rfl) (fun w τ h => ?_) (fun E q τ h => ?_)
  · obtain ⟨⟨v, rfl⟩, ho⟩ := hv wσ _ _ h
    refine A_i2l dX0_gap_6 rfl ?_
    refine A_last ho (by unfold vp_in; decide) dX0_gap_7 ?_
    refine A_goto (tgt := 14) dX0_gap_8 (by decide) ?_
    refine A_iconst (v := 0) dX0_gap_14 (by decide) ?_
    exact A_iret dX0_gap_15 rfl (hQ wσ _ _ (Or.inl ⟨v, τ, h, rfl, rfl⟩))
  · rcases hx _ _ _ h with rfl
    · refine A_catch (pre := []) (suf := []) (s9 := 0) (e9 := 8) (h9 := 11) (t9 := 20) rfl (fun z hz => by simp at hz) ⟨by decide, by decide⟩ (by decide) q1378 q1392 ?_
      refine A_astore_n (i := 2) dX0_gap_11 rfl (Nat.le_of_ble_eq_true rfl) ?_
      refine A_iconst (v := 1) dX0_gap_12 (by decide) ?_
      exact A_iret dX0_gap_13 rfl (hQ wσ _ _ (Or.inr ⟨_, q, τ, 0, h, rfl, rfl, rfl⟩))
theorem w_why {l : Launch} {g : GC} (σ : AH) (x out : Nat) (a1 : Int32) (oa : Nat → Int64) (fs : List Value) {Qx : Option Value → AH → Prop} {Xx : String → Nat → AH → Prop} (hX : σ.1 x = some (.inr (.inl (0, fs)))) (hM : AMet l g mX1_why 14 2 [.ref x, .int a1] σ Qx Xx) (hv : wfh σ → ∀ w τ, Qx w τ → (∃ v, w = some (.int v)) ∧ τ.1 out = some (.inl (.long, 1, .inr (.inl oa)))) (hx : ∀ E q τ, Xx E q τ → E = "java/lang/IllegalStateException" ∨ E = "java/lang/IndexOutOfBoundsException") {Qf : Option Value → AH → Prop} (hQ : wfh σ → ∀ w τ, WQ Qx Xx ["java/lang/IllegalStateException", "java/lang/IndexOutOfBoundsException"] out oa w τ → Qf w τ) : AMet l g mX0_why 15 2 [.ref x, .int a1, .ref out] σ Qf A_no := by
  refine A_ofH rfl (by decide) (Nat.le_of_ble_eq_true rfl) (L0 := [(0, .ref x), (1, .int a1), (2, .ref out)]) rfl ?_
  refine A_wfh (fun wσ _ => ?_)
  refine A_aload_n (i := 2) dX0_why_0 rfl rfl ?_
  refine A_iconst (v := 0) dX0_why_1 (by decide) ?_
  refine A_aload_n (i := 0) dX0_why_2 rfl rfl ?_
  refine A_iload_n (i := 1) dX0_why_3 rfl rfl ?_
  refine A_callV1 (b' := 0) hM tX1_why q1626 hX rfl rfl dX0_why_4 (Nat.le_refl _) (Nat.le_refl _) (Nat.le_of_ble_eq_true rfl) (fun w τ h => ?_) (fun E q τ h => ?_)
  · obtain ⟨⟨v, rfl⟩, ho⟩ := hv wσ _ _ h
    refine A_i2l dX0_why_7 rfl ?_
    refine A_last ho (by unfold vp_in; decide) dX0_why_8 ?_
    refine A_goto (tgt := 18) dX0_why_9 (by decide) ?_
    refine A_iconst (v := 0) dX0_why_18 (by decide) ?_
    exact A_iret dX0_why_19 rfl (hQ wσ _ _ (Or.inl ⟨v, τ, h, rfl, rfl⟩))
  · rcases hx _ _ _ h with rfl | rfl
    · refine A_catch (pre := []) (suf := [(0, 9, 15, 13)]) (s9 := 0) (e9 := 9) (h9 := 12) (t9 := 20) rfl (fun z hz => by simp at hz) ⟨by decide, by decide⟩ (by decide) q1378 q1392 ?_
      refine A_astore_n (i := 3) dX0_why_12 rfl (Nat.le_of_ble_eq_true rfl) ?_
      refine A_iconst (v := 1) dX0_why_13 (by decide) ?_
      exact A_iret dX0_why_14 rfl (hQ wσ _ _ (Or.inr ⟨_, q, τ, 0, h, rfl, rfl, rfl⟩))
    · refine A_catch (pre := [(0, 9, 12, 20)]) (suf := []) (s9 := 0) (e9 := 9) (h9 := 15) (t9 := 13) rfl (by intro z hz; simp at hz; subst hz; exact Or.inr ⟨by decide, _, q1378, nx_BS⟩) ⟨by decide, by decide⟩ (by decide) q294 q386 ?_
      refine A_astore_n (i := 3) dX0_why_15 rfl (Nat.le_of_ble_eq_true rfl) ?_
      refine A_iconst (v := 2) dX0_why_16 (by decide) ?_
      exact A_iret dX0_why_17 rfl (hQ wσ _ _ (Or.inr ⟨_, q, τ, 1, h, rfl, rfl, rfl⟩))
theorem w_reasons {l : Launch} {g : GC} (σ : AH) (x out : Nat) (a1 : Int32) (oa : Nat → Int64) (fs : List Value) {Qx : Option Value → AH → Prop} {Xx : String → Nat → AH → Prop} (hX : σ.1 x = some (.inr (.inl (0, fs)))) (hM : AMet l g mX1_reasons 13 2 [.ref x, .int a1] σ Qx Xx) (hv : wfh σ → ∀ w τ, Qx w τ → (∃ v, w = some (.int v)) ∧ τ.1 out = some (.inl (.long, 1, .inr (.inl oa)))) (hx : ∀ E q τ, Xx E q τ → E = "java/lang/IllegalStateException" ∨ E = "java/lang/IndexOutOfBoundsException") {Qf : Option Value → AH → Prop} (hQ : wfh σ → ∀ w τ, WQ Qx Xx ["java/lang/IllegalStateException", "java/lang/IndexOutOfBoundsException"] out oa w τ → Qf w τ) : AMet l g mX0_reasons 14 2 [.ref x, .int a1, .ref out] σ Qf A_no := by
  refine A_ofH rfl (by decide) (Nat.le_of_ble_eq_true rfl) (L0 := [(0, .ref x), (1, .int a1), (2, .ref out)]) rfl ?_
  refine A_wfh (fun wσ _ => ?_)
  refine A_aload_n (i := 2) dX0_reasons_0 rfl rfl ?_
  refine A_iconst (v := 0) dX0_reasons_1 (by decide) ?_
  refine A_aload_n (i := 0) dX0_reasons_2 rfl rfl ?_
  refine A_iload_n (i := 1) dX0_reasons_3 rfl rfl ?_
  refine A_callV1 (b' := 0) hM tX1_reasons q1634 hX rfl rfl dX0_reasons_4 (Nat.le_refl _) (Nat.le_refl _) (Nat.le_of_ble_eq_true rfl) (fun w τ h => ?_) (fun E q τ h => ?_)
  · obtain ⟨⟨v, rfl⟩, ho⟩ := hv wσ _ _ h
    refine A_i2l dX0_reasons_7 rfl ?_
    refine A_last ho (by unfold vp_in; decide) dX0_reasons_8 ?_
    refine A_goto (tgt := 18) dX0_reasons_9 (by decide) ?_
    refine A_iconst (v := 0) dX0_reasons_18 (by decide) ?_
    exact A_iret dX0_reasons_19 rfl (hQ wσ _ _ (Or.inl ⟨v, τ, h, rfl, rfl⟩))
  · rcases hx _ _ _ h with rfl | rfl
    · refine A_catch (pre := []) (suf := [(0, 9, 15, 13)]) (s9 := 0) (e9 := 9) (h9 := 12) (t9 := 20) rfl (fun z hz => by simp at hz) ⟨by decide, by decide⟩ (by decide) q1378 q1392 ?_
      refine A_astore_n (i := 3) dX0_reasons_12 rfl (Nat.le_of_ble_eq_true rfl) ?_
      refine A_iconst (v := 1) dX0_reasons_13 (by decide) ?_
      exact A_iret dX0_reasons_14 rfl (hQ wσ _ _ (Or.inr ⟨_, q, τ, 0, h, rfl, rfl, rfl⟩))
    · refine A_catch (pre := [(0, 9, 12, 20)]) (suf := []) (s9 := 0) (e9 := 9) (h9 := 15) (t9 := 13) rfl (by intro z hz; simp at hz; subst hz; exact Or.inr ⟨by decide, _, q1378, nx_BS⟩) ⟨by decide, by decide⟩ (by decide) q294 q386 ?_
      refine A_astore_n (i := 3) dX0_reasons_15 rfl (Nat.le_of_ble_eq_true rfl) ?_
      refine A_iconst (v := 2) dX0_reasons_16 (by decide) ?_
      exact A_iret dX0_reasons_17 rfl (hQ wσ _ _ (Or.inr ⟨_, q, τ, 1, h, rfl, rfl, rfl⟩))
theorem w_culprit {l : Launch} {g : GC} (σ : AH) (x out : Nat) (a1 : Int32) (oa : Nat → Int64) (fs : List Value) {Qx : Option Value → AH → Prop} {Xx : String → Nat → AH → Prop} (hX : σ.1 x = some (.inr (.inl (0, fs)))) (hM : AMet l g mX1_culprit 15 2 [.ref x, .int a1] σ Qx Xx) (hv : wfh σ → ∀ w τ, Qx w τ → (∃ v, w = some (.int v)) ∧ τ.1 out = some (.inl (.long, 1, .inr (.inl oa)))) (hx : ∀ E q τ, Xx E q τ → E = "java/lang/IllegalStateException" ∨ E = "java/lang/IndexOutOfBoundsException") {Qf : Option Value → AH → Prop} (hQ : wfh σ → ∀ w τ, WQ Qx Xx ["java/lang/IllegalStateException", "java/lang/IndexOutOfBoundsException"] out oa w τ → Qf w τ) : AMet l g mX0_culprit 16 2 [.ref x, .int a1, .ref out] σ Qf A_no := by
  refine A_ofH rfl (by decide) (Nat.le_of_ble_eq_true rfl) (L0 := [(0, .ref x), (1, .int a1), (2, .ref out)]) rfl ?_
  refine A_wfh (fun wσ _ => ?_)
  refine A_aload_n (i := 2) dX0_culprit_0 rfl rfl ?_
  refine A_iconst (v := 0) dX0_culprit_1 (by decide) ?_
  refine A_aload_n (i := 0) dX0_culprit_2 rfl rfl ?_
  refine A_iload_n (i := 1) dX0_culprit_3 rfl rfl ?_
  refine A_callV1 (b' := 0) hM tX1_culprit q1641 hX rfl rfl dX0_culprit_4 (Nat.le_refl _) (Nat.le_refl _) (Nat.le_of_ble_eq_true rfl) (fun w τ h => ?_) (fun E q τ h => ?_)
  · obtain ⟨⟨v, rfl⟩, ho⟩ := hv wσ _ _ h
    refine A_i2l dX0_culprit_7 rfl ?_
    refine A_last ho (by unfold vp_in; decide) dX0_culprit_8 ?_
    refine A_goto (tgt := 18) dX0_culprit_9 (by decide) ?_
    refine A_iconst (v := 0) dX0_culprit_18 (by decide) ?_
    exact A_iret dX0_culprit_19 rfl (hQ wσ _ _ (Or.inl ⟨v, τ, h, rfl, rfl⟩))
  · rcases hx _ _ _ h with rfl | rfl
    · refine A_catch (pre := []) (suf := [(0, 9, 15, 13)]) (s9 := 0) (e9 := 9) (h9 := 12) (t9 := 20) rfl (fun z hz => by simp at hz) ⟨by decide, by decide⟩ (by decide) q1378 q1392 ?_
      refine A_astore_n (i := 3) dX0_culprit_12 rfl (Nat.le_of_ble_eq_true rfl) ?_
      refine A_iconst (v := 1) dX0_culprit_13 (by decide) ?_
      exact A_iret dX0_culprit_14 rfl (hQ wσ _ _ (Or.inr ⟨_, q, τ, 0, h, rfl, rfl, rfl⟩))
    · refine A_catch (pre := [(0, 9, 12, 20)]) (suf := []) (s9 := 0) (e9 := 9) (h9 := 15) (t9 := 13) rfl (by intro z hz; simp at hz; subst hz; exact Or.inr ⟨by decide, _, q1378, nx_BS⟩) ⟨by decide, by decide⟩ (by decide) q294 q386 ?_
      refine A_astore_n (i := 3) dX0_culprit_15 rfl (Nat.le_of_ble_eq_true rfl) ?_
      refine A_iconst (v := 2) dX0_culprit_16 (by decide) ?_
      exact A_iret dX0_culprit_17 rfl (hQ wσ _ _ (Or.inr ⟨_, q, τ, 1, h, rfl, rfl, rfl⟩))
theorem w_whyNotPut {l : Launch} {g : GC} (σ : AH) (x out : Nat) (a1 a2 : Int32) (oa : Nat → Int64) (fs : List Value) {Qx : Option Value → AH → Prop} {Xx : String → Nat → AH → Prop} (hX : σ.1 x = some (.inr (.inl (0, fs)))) (hM : AMet l g mX1_whyNotPut 45 6 [.ref x, .int a1, .int a2] σ Qx Xx) (hv : wfh σ → ∀ w τ, Qx w τ → (∃ v, w = some (.int v)) ∧ τ.1 out = some (.inl (.long, 1, .inr (.inl oa)))) (hx : ∀ E q τ, Xx E q τ → E = "java/lang/IllegalStateException" ∨ E = "java/lang/IndexOutOfBoundsException") {Qf : Option Value → AH → Prop} (hQ : wfh σ → ∀ w τ, WQ Qx Xx ["java/lang/IllegalStateException", "java/lang/IndexOutOfBoundsException"] out oa w τ → Qf w τ) : AMet l g mX0_whyNotPut 46 6 [.ref x, .int a1, .int a2, .ref out] σ Qf A_no := by
  refine A_ofH rfl (by decide) (Nat.le_of_ble_eq_true rfl) (L0 := [(0, .ref x), (1, .int a1), (2, .int a2), (3, .ref out)]) rfl ?_
  refine A_wfh (fun wσ _ => ?_)
  refine A_aload_n (i := 3) dX0_whyNotPut_0 rfl rfl ?_
  refine A_iconst (v := 0) dX0_whyNotPut_1 (by decide) ?_
  refine A_aload_n (i := 0) dX0_whyNotPut_2 rfl rfl ?_
  refine A_iload_n (i := 1) dX0_whyNotPut_3 rfl rfl ?_
  refine A_iload_n (i := 2) dX0_whyNotPut_4 rfl rfl ?_
  refine A_callV2 (b' := 0) hM tX1_whyNotPut q1652 hX rfl rfl dX0_whyNotPut_5 (Nat.le_refl _) (Nat.le_refl _) (Nat.le_of_ble_eq_true rfl) (fun w τ h => ?_) (fun E q τ h => ?_)
  · obtain ⟨⟨v, rfl⟩, ho⟩ := hv wσ _ _ h
    refine A_i2l dX0_whyNotPut_8 rfl ?_
    refine A_last ho (by unfold vp_in; decide) dX0_whyNotPut_9 ?_
    refine A_goto (tgt := 21) dX0_whyNotPut_10 (by decide) ?_
    refine A_iconst (v := 0) dX0_whyNotPut_21 (by decide) ?_
    exact A_iret dX0_whyNotPut_22 rfl (hQ wσ _ _ (Or.inl ⟨v, τ, h, rfl, rfl⟩))
  · rcases hx _ _ _ h with rfl | rfl
    · refine A_catch (pre := []) (suf := [(0, 10, 17, 13)]) (s9 := 0) (e9 := 10) (h9 := 13) (t9 := 20) rfl (fun z hz => by simp at hz) ⟨by decide, by decide⟩ (by decide) q1378 q1392 ?_
      refine A_astore dX0_whyNotPut_13 (Nat.le_of_ble_eq_true rfl) ?_
      refine A_iconst (v := 1) dX0_whyNotPut_15 (by decide) ?_
      exact A_iret dX0_whyNotPut_16 rfl (hQ wσ _ _ (Or.inr ⟨_, q, τ, 0, h, rfl, rfl, rfl⟩))
    · refine A_catch (pre := [(0, 10, 13, 20)]) (suf := []) (s9 := 0) (e9 := 10) (h9 := 17) (t9 := 13) rfl (by intro z hz; simp at hz; subst hz; exact Or.inr ⟨by decide, _, q1378, nx_BS⟩) ⟨by decide, by decide⟩ (by decide) q294 q386 ?_
      refine A_astore dX0_whyNotPut_17 (Nat.le_of_ble_eq_true rfl) ?_
      refine A_iconst (v := 2) dX0_whyNotPut_19 (by decide) ?_
      exact A_iret dX0_whyNotPut_20 rfl (hQ wσ _ _ (Or.inr ⟨_, q, τ, 1, h, rfl, rfl, rfl⟩))
theorem w_whyNotWash {l : Launch} {g : GC} (σ : AH) (x out : Nat) (a1 a2 : Int32) (oa : Nat → Int64) (fs : List Value) {Qx : Option Value → AH → Prop} {Xx : String → Nat → AH → Prop} (hX : σ.1 x = some (.inr (.inl (0, fs)))) (hM : AMet l g mX1_whyNotWash 36 2 [.ref x, .int a1, .int a2] σ Qx Xx) (hv : wfh σ → ∀ w τ, Qx w τ → (∃ v, w = some (.int v)) ∧ τ.1 out = some (.inl (.long, 1, .inr (.inl oa)))) (hx : ∀ E q τ, Xx E q τ → E = "java/lang/IllegalStateException" ∨ E = "java/lang/IndexOutOfBoundsException" ∨ E = "java/lang/IllegalArgumentException") {Qf : Option Value → AH → Prop} (hQ : wfh σ → ∀ w τ, WQ Qx Xx ["java/lang/IllegalStateException", "java/lang/IndexOutOfBoundsException", "java/lang/IllegalArgumentException"] out oa w τ → Qf w τ) : AMet l g mX0_whyNotWash 37 2 [.ref x, .int a1, .int a2, .ref out] σ Qf A_no := by
  refine A_ofH rfl (by decide) (Nat.le_of_ble_eq_true rfl) (L0 := [(0, .ref x), (1, .int a1), (2, .int a2), (3, .ref out)]) rfl ?_
  refine A_wfh (fun wσ _ => ?_)
  refine A_aload_n (i := 3) dX0_whyNotWash_0 rfl rfl ?_
  refine A_iconst (v := 0) dX0_whyNotWash_1 (by decide) ?_
  refine A_aload_n (i := 0) dX0_whyNotWash_2 rfl rfl ?_
  refine A_iload_n (i := 1) dX0_whyNotWash_3 rfl rfl ?_
  refine A_iload_n (i := 2) dX0_whyNotWash_4 rfl rfl ?_
  refine A_callV2 (b' := 0) hM tX1_whyNotWash q1664 hX rfl rfl dX0_whyNotWash_5 (Nat.le_refl _) (Nat.le_refl _) (Nat.le_of_ble_eq_true rfl) (fun w τ h => ?_) (fun E q τ h => ?_)
  · obtain ⟨⟨v, rfl⟩, ho⟩ := hv wσ _ _ h
    refine A_i2l dX0_whyNotWash_8 rfl ?_
    refine A_last ho (by unfold vp_in; decide) dX0_whyNotWash_9 ?_
    refine A_goto (tgt := 25) dX0_whyNotWash_10 (by decide) ?_
    refine A_iconst (v := 0) dX0_whyNotWash_25 (by decide) ?_
    exact A_iret dX0_whyNotWash_26 rfl (hQ wσ _ _ (Or.inl ⟨v, τ, h, rfl, rfl⟩))
  · rcases hx _ _ _ h with rfl | rfl | rfl
    · refine A_catch (pre := []) (suf := [(0, 10, 17, 13), (0, 10, 21, 15)]) (s9 := 0) (e9 := 10) (h9 := 13) (t9 := 20) rfl (fun z hz => by simp at hz) ⟨by decide, by decide⟩ (by decide) q1378 q1392 ?_
      refine A_astore dX0_whyNotWash_13 (Nat.le_of_ble_eq_true rfl) ?_
      refine A_iconst (v := 1) dX0_whyNotWash_15 (by decide) ?_
      exact A_iret dX0_whyNotWash_16 rfl (hQ wσ _ _ (Or.inr ⟨_, q, τ, 0, h, rfl, rfl, rfl⟩))
    · refine A_catch (pre := [(0, 10, 13, 20)]) (suf := [(0, 10, 21, 15)]) (s9 := 0) (e9 := 10) (h9 := 17) (t9 := 13) rfl (by intro z hz; simp at hz; subst hz; exact Or.inr ⟨by decide, _, q1378, nx_BS⟩) ⟨by decide, by decide⟩ (by decide) q294 q386 ?_
      refine A_astore dX0_whyNotWash_17 (Nat.le_of_ble_eq_true rfl) ?_
      refine A_iconst (v := 2) dX0_whyNotWash_19 (by decide) ?_
      exact A_iret dX0_whyNotWash_20 rfl (hQ wσ _ _ (Or.inr ⟨_, q, τ, 1, h, rfl, rfl, rfl⟩))
    · refine A_catch (pre := [(0, 10, 13, 20), (0, 10, 17, 13)]) (suf := []) (s9 := 0) (e9 := 10) (h9 := 21) (t9 := 15) rfl (by intro z hz; simp at hz; rcases hz with rfl | rfl; exact Or.inr ⟨by decide, _, q1378, nx_AS⟩; exact Or.inr ⟨by decide, _, q294, nx_AB⟩) ⟨by decide, by decide⟩ (by decide) q372 q567 ?_
      refine A_astore dX0_whyNotWash_21 (Nat.le_of_ble_eq_true rfl) ?_
      refine A_iconst (v := 3) dX0_whyNotWash_23 (by decide) ?_
      exact A_iret dX0_whyNotWash_24 rfl (hQ wσ _ _ (Or.inr ⟨_, q, τ, 2, h, rfl, rfl, rfl⟩))
theorem w_whyNotIron {l : Launch} {g : GC} (σ : AH) (x out : Nat) (a1 a2 : Int32) (oa : Nat → Int64) (fs : List Value) {Qx : Option Value → AH → Prop} {Xx : String → Nat → AH → Prop} (hX : σ.1 x = some (.inr (.inl (0, fs)))) (hM : AMet l g mX1_whyNotIron 16 2 [.ref x, .int a1, .int a2] σ Qx Xx) (hv : wfh σ → ∀ w τ, Qx w τ → (∃ v, w = some (.int v)) ∧ τ.1 out = some (.inl (.long, 1, .inr (.inl oa)))) (hx : ∀ E q τ, Xx E q τ → E = "java/lang/IllegalStateException" ∨ E = "java/lang/IndexOutOfBoundsException" ∨ E = "java/lang/IllegalArgumentException") {Qf : Option Value → AH → Prop} (hQ : wfh σ → ∀ w τ, WQ Qx Xx ["java/lang/IllegalStateException", "java/lang/IndexOutOfBoundsException", "java/lang/IllegalArgumentException"] out oa w τ → Qf w τ) : AMet l g mX0_whyNotIron 17 2 [.ref x, .int a1, .int a2, .ref out] σ Qf A_no := by
  refine A_ofH rfl (by decide) (Nat.le_of_ble_eq_true rfl) (L0 := [(0, .ref x), (1, .int a1), (2, .int a2), (3, .ref out)]) rfl ?_
  refine A_wfh (fun wσ _ => ?_)
  refine A_aload_n (i := 3) dX0_whyNotIron_0 rfl rfl ?_
  refine A_iconst (v := 0) dX0_whyNotIron_1 (by decide) ?_
  refine A_aload_n (i := 0) dX0_whyNotIron_2 rfl rfl ?_
  refine A_iload_n (i := 1) dX0_whyNotIron_3 rfl rfl ?_
  refine A_iload_n (i := 2) dX0_whyNotIron_4 rfl rfl ?_
  refine A_callV2 (b' := 0) hM tX1_whyNotIron q1680 hX rfl rfl dX0_whyNotIron_5 (Nat.le_refl _) (Nat.le_refl _) (Nat.le_of_ble_eq_true rfl) (fun w τ h => ?_) (fun E q τ h => ?_)
  · obtain ⟨⟨v, rfl⟩, ho⟩ := hv wσ _ _ h
    refine A_i2l dX0_whyNotIron_8 rfl ?_
    refine A_last ho (by unfold vp_in; decide) dX0_whyNotIron_9 ?_
    refine A_goto (tgt := 25) dX0_whyNotIron_10 (by decide) ?_
    refine A_iconst (v := 0) dX0_whyNotIron_25 (by decide) ?_
    exact A_iret dX0_whyNotIron_26 rfl (hQ wσ _ _ (Or.inl ⟨v, τ, h, rfl, rfl⟩))
  · rcases hx _ _ _ h with rfl | rfl | rfl
    · refine A_catch (pre := []) (suf := [(0, 10, 17, 13), (0, 10, 21, 15)]) (s9 := 0) (e9 := 10) (h9 := 13) (t9 := 20) rfl (fun z hz => by simp at hz) ⟨by decide, by decide⟩ (by decide) q1378 q1392 ?_
      refine A_astore dX0_whyNotIron_13 (Nat.le_of_ble_eq_true rfl) ?_
      refine A_iconst (v := 1) dX0_whyNotIron_15 (by decide) ?_
      exact A_iret dX0_whyNotIron_16 rfl (hQ wσ _ _ (Or.inr ⟨_, q, τ, 0, h, rfl, rfl, rfl⟩))
    · refine A_catch (pre := [(0, 10, 13, 20)]) (suf := [(0, 10, 21, 15)]) (s9 := 0) (e9 := 10) (h9 := 17) (t9 := 13) rfl (by intro z hz; simp at hz; subst hz; exact Or.inr ⟨by decide, _, q1378, nx_BS⟩) ⟨by decide, by decide⟩ (by decide) q294 q386 ?_
      refine A_astore dX0_whyNotIron_17 (Nat.le_of_ble_eq_true rfl) ?_
      refine A_iconst (v := 2) dX0_whyNotIron_19 (by decide) ?_
      exact A_iret dX0_whyNotIron_20 rfl (hQ wσ _ _ (Or.inr ⟨_, q, τ, 1, h, rfl, rfl, rfl⟩))
    · refine A_catch (pre := [(0, 10, 13, 20), (0, 10, 17, 13)]) (suf := []) (s9 := 0) (e9 := 10) (h9 := 21) (t9 := 15) rfl (by intro z hz; simp at hz; rcases hz with rfl | rfl; exact Or.inr ⟨by decide, _, q1378, nx_AS⟩; exact Or.inr ⟨by decide, _, q294, nx_AB⟩) ⟨by decide, by decide⟩ (by decide) q372 q567 ?_
      refine A_astore dX0_whyNotIron_21 (Nat.le_of_ble_eq_true rfl) ?_
      refine A_iconst (v := 3) dX0_whyNotIron_23 (by decide) ?_
      exact A_iret dX0_whyNotIron_24 rfl (hQ wσ _ _ (Or.inr ⟨_, q, τ, 2, h, rfl, rfl, rfl⟩))
theorem w_whyNotBleach {l : Launch} {g : GC} (σ : AH) (x out : Nat) (a1 : Int32) (oa : Nat → Int64) (fs : List Value) {Qx : Option Value → AH → Prop} {Xx : String → Nat → AH → Prop} (hX : σ.1 x = some (.inr (.inl (0, fs)))) (hM : AMet l g mX1_whyNotBleach 16 2 [.ref x, .int a1] σ Qx Xx) (hv : wfh σ → ∀ w τ, Qx w τ → (∃ v, w = some (.int v)) ∧ τ.1 out = some (.inl (.long, 1, .inr (.inl oa)))) (hx : ∀ E q τ, Xx E q τ → E = "java/lang/IllegalStateException" ∨ E = "java/lang/IndexOutOfBoundsException") {Qf : Option Value → AH → Prop} (hQ : wfh σ → ∀ w τ, WQ Qx Xx ["java/lang/IllegalStateException", "java/lang/IndexOutOfBoundsException"] out oa w τ → Qf w τ) : AMet l g mX0_whyNotBleach 17 2 [.ref x, .int a1, .ref out] σ Qf A_no := by
  refine A_ofH rfl (by decide) (Nat.le_of_ble_eq_true rfl) (L0 := [(0, .ref x), (1, .int a1), (2, .ref out)]) rfl ?_
  refine A_wfh (fun wσ _ => ?_)
  refine A_aload_n (i := 2) dX0_whyNotBleach_0 rfl rfl ?_
  refine A_iconst (v := 0) dX0_whyNotBleach_1 (by decide) ?_
  refine A_aload_n (i := 0) dX0_whyNotBleach_2 rfl rfl ?_
  refine A_iload_n (i := 1) dX0_whyNotBleach_3 rfl rfl ?_
  refine A_callV1 (b' := 0) hM tX1_whyNotBleach q1702 hX rfl rfl dX0_whyNotBleach_4 (Nat.le_refl _) (Nat.le_refl _) (Nat.le_of_ble_eq_true rfl) (fun w τ h => ?_) (fun E q τ h => ?_)
  · obtain ⟨⟨v, rfl⟩, ho⟩ := hv wσ _ _ h
    refine A_i2l dX0_whyNotBleach_7 rfl ?_
    refine A_last ho (by unfold vp_in; decide) dX0_whyNotBleach_8 ?_
    refine A_goto (tgt := 18) dX0_whyNotBleach_9 (by decide) ?_
    refine A_iconst (v := 0) dX0_whyNotBleach_18 (by decide) ?_
    exact A_iret dX0_whyNotBleach_19 rfl (hQ wσ _ _ (Or.inl ⟨v, τ, h, rfl, rfl⟩))
  · rcases hx _ _ _ h with rfl | rfl
    · refine A_catch (pre := []) (suf := [(0, 9, 15, 13)]) (s9 := 0) (e9 := 9) (h9 := 12) (t9 := 20) rfl (fun z hz => by simp at hz) ⟨by decide, by decide⟩ (by decide) q1378 q1392 ?_
      refine A_astore_n (i := 3) dX0_whyNotBleach_12 rfl (Nat.le_of_ble_eq_true rfl) ?_
      refine A_iconst (v := 1) dX0_whyNotBleach_13 (by decide) ?_
      exact A_iret dX0_whyNotBleach_14 rfl (hQ wσ _ _ (Or.inr ⟨_, q, τ, 0, h, rfl, rfl, rfl⟩))
    · refine A_catch (pre := [(0, 9, 12, 20)]) (suf := []) (s9 := 0) (e9 := 9) (h9 := 15) (t9 := 13) rfl (by intro z hz; simp at hz; subst hz; exact Or.inr ⟨by decide, _, q1378, nx_BS⟩) ⟨by decide, by decide⟩ (by decide) q294 q386 ?_
      refine A_astore_n (i := 3) dX0_whyNotBleach_15 rfl (Nat.le_of_ble_eq_true rfl) ?_
      refine A_iconst (v := 2) dX0_whyNotBleach_16 (by decide) ?_
      exact A_iret dX0_whyNotBleach_17 rfl (hQ wσ _ _ (Or.inr ⟨_, q, τ, 1, h, rfl, rfl, rfl⟩))
theorem w_running {l : Launch} {g : GC} (σ : AH) (x out : Nat) (a1 a2 : Int32) (oa : Nat → Int64) (fs : List Value) {Qx : Option Value → AH → Prop} {Xx : String → Nat → AH → Prop} (hX : σ.1 x = some (.inr (.inl (0, fs)))) (hM : AMet l g mX1_running 11 2 [.ref x, .int a1, .int a2] σ Qx Xx) (hv : wfh σ → ∀ w τ, Qx w τ → (∃ v, w = some (.int v)) ∧ τ.1 out = some (.inl (.long, 1, .inr (.inl oa)))) (hx : ∀ E q τ, Xx E q τ → E = "java/lang/IllegalStateException" ∨ E = "java/lang/IndexOutOfBoundsException" ∨ E = "java/lang/IllegalArgumentException") {Qf : Option Value → AH → Prop} (hQ : wfh σ → ∀ w τ, WQ Qx Xx ["java/lang/IllegalStateException", "java/lang/IndexOutOfBoundsException", "java/lang/IllegalArgumentException"] out oa w τ → Qf w τ) : AMet l g mX0_running 12 2 [.ref x, .int a1, .int a2, .ref out] σ Qf A_no := by
  refine A_ofH rfl (by decide) (Nat.le_of_ble_eq_true rfl) (L0 := [(0, .ref x), (1, .int a1), (2, .int a2), (3, .ref out)]) rfl ?_
  refine A_wfh (fun wσ _ => ?_)
  refine A_aload_n (i := 3) dX0_running_0 rfl rfl ?_
  refine A_iconst (v := 0) dX0_running_1 (by decide) ?_
  refine A_aload_n (i := 0) dX0_running_2 rfl rfl ?_
  refine A_iload_n (i := 1) dX0_running_3 rfl rfl ?_
  refine A_iload_n (i := 2) dX0_running_4 rfl rfl ?_
  refine A_callV2 (b' := 0) hM tX1_running q1718 hX rfl rfl dX0_running_5 (Nat.le_refl _) (Nat.le_refl _) (Nat.le_of_ble_eq_true rfl) (fun w τ h => ?_) (fun E q τ h => ?_)
  · obtain ⟨⟨v, rfl⟩, ho⟩ := hv wσ _ _ h
    refine A_i2l dX0_running_8 rfl ?_
    refine A_last ho (by unfold vp_in; decide) dX0_running_9 ?_
    refine A_goto (tgt := 25) dX0_running_10 (by decide) ?_
    refine A_iconst (v := 0) dX0_running_25 (by decide) ?_
    exact A_iret dX0_running_26 rfl (hQ wσ _ _ (Or.inl ⟨v, τ, h, rfl, rfl⟩))
  · rcases hx _ _ _ h with rfl | rfl | rfl
    · refine A_catch (pre := []) (suf := [(0, 10, 17, 13), (0, 10, 21, 15)]) (s9 := 0) (e9 := 10) (h9 := 13) (t9 := 20) rfl (fun z hz => by simp at hz) ⟨by decide, by decide⟩ (by decide) q1378 q1392 ?_
      refine A_astore dX0_running_13 (Nat.le_of_ble_eq_true rfl) ?_
      refine A_iconst (v := 1) dX0_running_15 (by decide) ?_
      exact A_iret dX0_running_16 rfl (hQ wσ _ _ (Or.inr ⟨_, q, τ, 0, h, rfl, rfl, rfl⟩))
    · refine A_catch (pre := [(0, 10, 13, 20)]) (suf := [(0, 10, 21, 15)]) (s9 := 0) (e9 := 10) (h9 := 17) (t9 := 13) rfl (by intro z hz; simp at hz; subst hz; exact Or.inr ⟨by decide, _, q1378, nx_BS⟩) ⟨by decide, by decide⟩ (by decide) q294 q386 ?_
      refine A_astore dX0_running_17 (Nat.le_of_ble_eq_true rfl) ?_
      refine A_iconst (v := 2) dX0_running_19 (by decide) ?_
      exact A_iret dX0_running_20 rfl (hQ wσ _ _ (Or.inr ⟨_, q, τ, 1, h, rfl, rfl, rfl⟩))
    · refine A_catch (pre := [(0, 10, 13, 20), (0, 10, 17, 13)]) (suf := []) (s9 := 0) (e9 := 10) (h9 := 21) (t9 := 15) rfl (by intro z hz; simp at hz; rcases hz with rfl | rfl; exact Or.inr ⟨by decide, _, q1378, nx_AS⟩; exact Or.inr ⟨by decide, _, q294, nx_AB⟩) ⟨by decide, by decide⟩ (by decide) q372 q567 ?_
      refine A_astore dX0_running_21 (Nat.le_of_ble_eq_true rfl) ?_
      refine A_iconst (v := 3) dX0_running_23 (by decide) ?_
      exact A_iret dX0_running_24 rfl (hQ wσ _ _ (Or.inr ⟨_, q, τ, 2, h, rfl, rfl, rfl⟩))
theorem w_stainedIf {l : Launch} {g : GC} (σ : AH) (x out : Nat) (a1 a2 : Int32) (oa : Nat → Int64) (fs : List Value) {Qx : Option Value → AH → Prop} {Xx : String → Nat → AH → Prop} (hX : σ.1 x = some (.inr (.inl (0, fs)))) (hM : AMet l g mX1_stainedIf 34 2 [.ref x, .int a1, .int a2] σ Qx Xx) (hv : wfh σ → ∀ w τ, Qx w τ → (∃ v, w = some (.int v)) ∧ τ.1 out = some (.inl (.long, 1, .inr (.inl oa)))) (hx : ∀ E q τ, Xx E q τ → E = "java/lang/IllegalStateException" ∨ E = "java/lang/IndexOutOfBoundsException" ∨ E = "java/lang/IllegalArgumentException") {Qf : Option Value → AH → Prop} (hQ : wfh σ → ∀ w τ, WQ Qx Xx ["java/lang/IllegalStateException", "java/lang/IndexOutOfBoundsException", "java/lang/IllegalArgumentException"] out oa w τ → Qf w τ) : AMet l g mX0_stainedIf 35 2 [.ref x, .int a1, .int a2, .ref out] σ Qf A_no := by
  refine A_ofH rfl (by decide) (Nat.le_of_ble_eq_true rfl) (L0 := [(0, .ref x), (1, .int a1), (2, .int a2), (3, .ref out)]) rfl ?_
  refine A_wfh (fun wσ _ => ?_)
  refine A_aload_n (i := 3) dX0_stainedIf_0 rfl rfl ?_
  refine A_iconst (v := 0) dX0_stainedIf_1 (by decide) ?_
  refine A_aload_n (i := 0) dX0_stainedIf_2 rfl rfl ?_
  refine A_iload_n (i := 1) dX0_stainedIf_3 rfl rfl ?_
  refine A_iload_n (i := 2) dX0_stainedIf_4 rfl rfl ?_
  refine A_callV2 (b' := 0) hM tX1_stainedIf q1726 hX rfl rfl dX0_stainedIf_5 (Nat.le_refl _) (Nat.le_refl _) (Nat.le_of_ble_eq_true rfl) (fun w τ h => ?_) (fun E q τ h => ?_)
  · obtain ⟨⟨v, rfl⟩, ho⟩ := hv wσ _ _ h
    refine A_i2l dX0_stainedIf_8 rfl ?_
    refine A_last ho (by unfold vp_in; decide) dX0_stainedIf_9 ?_
    refine A_goto (tgt := 25) dX0_stainedIf_10 (by decide) ?_
    refine A_iconst (v := 0) dX0_stainedIf_25 (by decide) ?_
    exact A_iret dX0_stainedIf_26 rfl (hQ wσ _ _ (Or.inl ⟨v, τ, h, rfl, rfl⟩))
  · rcases hx _ _ _ h with rfl | rfl | rfl
    · refine A_catch (pre := []) (suf := [(0, 10, 17, 13), (0, 10, 21, 15)]) (s9 := 0) (e9 := 10) (h9 := 13) (t9 := 20) rfl (fun z hz => by simp at hz) ⟨by decide, by decide⟩ (by decide) q1378 q1392 ?_
      refine A_astore dX0_stainedIf_13 (Nat.le_of_ble_eq_true rfl) ?_
      refine A_iconst (v := 1) dX0_stainedIf_15 (by decide) ?_
      exact A_iret dX0_stainedIf_16 rfl (hQ wσ _ _ (Or.inr ⟨_, q, τ, 0, h, rfl, rfl, rfl⟩))
    · refine A_catch (pre := [(0, 10, 13, 20)]) (suf := [(0, 10, 21, 15)]) (s9 := 0) (e9 := 10) (h9 := 17) (t9 := 13) rfl (by intro z hz; simp at hz; subst hz; exact Or.inr ⟨by decide, _, q1378, nx_BS⟩) ⟨by decide, by decide⟩ (by decide) q294 q386 ?_
      refine A_astore dX0_stainedIf_17 (Nat.le_of_ble_eq_true rfl) ?_
      refine A_iconst (v := 2) dX0_stainedIf_19 (by decide) ?_
      exact A_iret dX0_stainedIf_20 rfl (hQ wσ _ _ (Or.inr ⟨_, q, τ, 1, h, rfl, rfl, rfl⟩))
    · refine A_catch (pre := [(0, 10, 13, 20), (0, 10, 17, 13)]) (suf := []) (s9 := 0) (e9 := 10) (h9 := 21) (t9 := 15) rfl (by intro z hz; simp at hz; rcases hz with rfl | rfl; exact Or.inr ⟨by decide, _, q1378, nx_AS⟩; exact Or.inr ⟨by decide, _, q294, nx_AB⟩) ⟨by decide, by decide⟩ (by decide) q372 q567 ?_
      refine A_astore dX0_stainedIf_21 (Nat.le_of_ble_eq_true rfl) ?_
      refine A_iconst (v := 3) dX0_stainedIf_23 (by decide) ?_
      exact A_iret dX0_stainedIf_24 rfl (hQ wσ _ _ (Or.inr ⟨_, q, τ, 2, h, rfl, rfl, rfl⟩))
theorem w_dirtIf {l : Launch} {g : GC} (σ : AH) (x out : Nat) (a1 a2 : Int32) (oa : Nat → Int64) (fs : List Value) {Qx : Option Value → AH → Prop} {Xx : String → Nat → AH → Prop} (hX : σ.1 x = some (.inr (.inl (0, fs)))) (hM : AMet l g mX1_dirtIf 11 2 [.ref x, .int a1, .int a2] σ Qx Xx) (hv : wfh σ → ∀ w τ, Qx w τ → (∃ v, w = some (.int v)) ∧ τ.1 out = some (.inl (.long, 1, .inr (.inl oa)))) (hx : ∀ E q τ, Xx E q τ → E = "java/lang/IllegalStateException" ∨ E = "java/lang/IndexOutOfBoundsException" ∨ E = "java/lang/IllegalArgumentException") {Qf : Option Value → AH → Prop} (hQ : wfh σ → ∀ w τ, WQ Qx Xx ["java/lang/IllegalStateException", "java/lang/IndexOutOfBoundsException", "java/lang/IllegalArgumentException"] out oa w τ → Qf w τ) : AMet l g mX0_dirtIf 12 2 [.ref x, .int a1, .int a2, .ref out] σ Qf A_no := by
  refine A_ofH rfl (by decide) (Nat.le_of_ble_eq_true rfl) (L0 := [(0, .ref x), (1, .int a1), (2, .int a2), (3, .ref out)]) rfl ?_
  refine A_wfh (fun wσ _ => ?_)
  refine A_aload_n (i := 3) dX0_dirtIf_0 rfl rfl ?_
  refine A_iconst (v := 0) dX0_dirtIf_1 (by decide) ?_
  refine A_aload_n (i := 0) dX0_dirtIf_2 rfl rfl ?_
  refine A_iload_n (i := 1) dX0_dirtIf_3 rfl rfl ?_
  refine A_iload_n (i := 2) dX0_dirtIf_4 rfl rfl ?_
  refine A_callV2 (b' := 0) hM tX1_dirtIf q1740 hX rfl rfl dX0_dirtIf_5 (Nat.le_refl _) (Nat.le_refl _) (Nat.le_of_ble_eq_true rfl) (fun w τ h => ?_) (fun E q τ h => ?_)
  · obtain ⟨⟨v, rfl⟩, ho⟩ := hv wσ _ _ h
    refine A_i2l dX0_dirtIf_8 rfl ?_
    refine A_last ho (by unfold vp_in; decide) dX0_dirtIf_9 ?_
    refine A_goto (tgt := 25) dX0_dirtIf_10 (by decide) ?_
    refine A_iconst (v := 0) dX0_dirtIf_25 (by decide) ?_
    exact A_iret dX0_dirtIf_26 rfl (hQ wσ _ _ (Or.inl ⟨v, τ, h, rfl, rfl⟩))
  · rcases hx _ _ _ h with rfl | rfl | rfl
    · refine A_catch (pre := []) (suf := [(0, 10, 17, 13), (0, 10, 21, 15)]) (s9 := 0) (e9 := 10) (h9 := 13) (t9 := 20) rfl (fun z hz => by simp at hz) ⟨by decide, by decide⟩ (by decide) q1378 q1392 ?_
      refine A_astore dX0_dirtIf_13 (Nat.le_of_ble_eq_true rfl) ?_
      refine A_iconst (v := 1) dX0_dirtIf_15 (by decide) ?_
      exact A_iret dX0_dirtIf_16 rfl (hQ wσ _ _ (Or.inr ⟨_, q, τ, 0, h, rfl, rfl, rfl⟩))
    · refine A_catch (pre := [(0, 10, 13, 20)]) (suf := [(0, 10, 21, 15)]) (s9 := 0) (e9 := 10) (h9 := 17) (t9 := 13) rfl (by intro z hz; simp at hz; subst hz; exact Or.inr ⟨by decide, _, q1378, nx_BS⟩) ⟨by decide, by decide⟩ (by decide) q294 q386 ?_
      refine A_astore dX0_dirtIf_17 (Nat.le_of_ble_eq_true rfl) ?_
      refine A_iconst (v := 2) dX0_dirtIf_19 (by decide) ?_
      exact A_iret dX0_dirtIf_20 rfl (hQ wσ _ _ (Or.inr ⟨_, q, τ, 1, h, rfl, rfl, rfl⟩))
    · refine A_catch (pre := [(0, 10, 13, 20), (0, 10, 17, 13)]) (suf := []) (s9 := 0) (e9 := 10) (h9 := 21) (t9 := 15) rfl (by intro z hz; simp at hz; rcases hz with rfl | rfl; exact Or.inr ⟨by decide, _, q1378, nx_AS⟩; exact Or.inr ⟨by decide, _, q294, nx_AB⟩) ⟨by decide, by decide⟩ (by decide) q372 q567 ?_
      refine A_astore dX0_dirtIf_21 (Nat.le_of_ble_eq_true rfl) ?_
      refine A_iconst (v := 3) dX0_dirtIf_23 (by decide) ?_
      exact A_iret dX0_dirtIf_24 rfl (hQ wσ _ _ (Or.inr ⟨_, q, τ, 2, h, rfl, rfl, rfl⟩))
theorem w_bestHeat {l : Launch} {g : GC} (σ : AH) (x out : Nat) (a1 : Int32) (oa : Nat → Int64) (fs : List Value) {Qx : Option Value → AH → Prop} {Xx : String → Nat → AH → Prop} (hX : σ.1 x = some (.inr (.inl (0, fs)))) (hM : AMet l g mX1_bestHeat 36 14 [.ref x, .int a1] σ Qx Xx) (hv : wfh σ → ∀ w τ, Qx w τ → (∃ v, w = some (.int v)) ∧ τ.1 out = some (.inl (.long, 1, .inr (.inl oa)))) (hx : ∀ E q τ, Xx E q τ → E = "java/lang/IllegalStateException" ∨ E = "java/lang/IndexOutOfBoundsException") {Qf : Option Value → AH → Prop} (hQ : wfh σ → ∀ w τ, WQ Qx Xx ["java/lang/IllegalStateException", "java/lang/IndexOutOfBoundsException"] out oa w τ → Qf w τ) : AMet l g mX0_bestHeat 37 14 [.ref x, .int a1, .ref out] σ Qf A_no := by
  refine A_ofH rfl (by decide) (Nat.le_of_ble_eq_true rfl) (L0 := [(0, .ref x), (1, .int a1), (2, .ref out)]) rfl ?_
  refine A_wfh (fun wσ _ => ?_)
  refine A_aload_n (i := 2) dX0_bestHeat_0 rfl rfl ?_
  refine A_iconst (v := 0) dX0_bestHeat_1 (by decide) ?_
  refine A_aload_n (i := 0) dX0_bestHeat_2 rfl rfl ?_
  refine A_iload_n (i := 1) dX0_bestHeat_3 rfl rfl ?_
  refine A_callV1 (b' := 0) hM tX1_bestHeat q1752 hX rfl rfl dX0_bestHeat_4 (Nat.le_refl _) (Nat.le_refl _) (Nat.le_of_ble_eq_true rfl) (fun w τ h => ?_) (fun E q τ h => ?_)
  · obtain ⟨⟨v, rfl⟩, ho⟩ := hv wσ _ _ h
    refine A_i2l dX0_bestHeat_7 rfl ?_
    refine A_last ho (by unfold vp_in; decide) dX0_bestHeat_8 ?_
    refine A_goto (tgt := 18) dX0_bestHeat_9 (by decide) ?_
    refine A_iconst (v := 0) dX0_bestHeat_18 (by decide) ?_
    exact A_iret dX0_bestHeat_19 rfl (hQ wσ _ _ (Or.inl ⟨v, τ, h, rfl, rfl⟩))
  · rcases hx _ _ _ h with rfl | rfl
    · refine A_catch (pre := []) (suf := [(0, 9, 15, 13)]) (s9 := 0) (e9 := 9) (h9 := 12) (t9 := 20) rfl (fun z hz => by simp at hz) ⟨by decide, by decide⟩ (by decide) q1378 q1392 ?_
      refine A_astore_n (i := 3) dX0_bestHeat_12 rfl (Nat.le_of_ble_eq_true rfl) ?_
      refine A_iconst (v := 1) dX0_bestHeat_13 (by decide) ?_
      exact A_iret dX0_bestHeat_14 rfl (hQ wσ _ _ (Or.inr ⟨_, q, τ, 0, h, rfl, rfl, rfl⟩))
    · refine A_catch (pre := [(0, 9, 12, 20)]) (suf := []) (s9 := 0) (e9 := 9) (h9 := 15) (t9 := 13) rfl (by intro z hz; simp at hz; subst hz; exact Or.inr ⟨by decide, _, q1378, nx_BS⟩) ⟨by decide, by decide⟩ (by decide) q294 q386 ?_
      refine A_astore_n (i := 3) dX0_bestHeat_15 rfl (Nat.le_of_ble_eq_true rfl) ?_
      refine A_iconst (v := 2) dX0_bestHeat_16 (by decide) ?_
      exact A_iret dX0_bestHeat_17 rfl (hQ wσ _ _ (Or.inr ⟨_, q, τ, 1, h, rfl, rfl, rfl⟩))
theorem w_firstSafe {l : Launch} {g : GC} (σ : AH) (x out : Nat) (a1 a2 : Int32) (oa : Nat → Int64) (fs : List Value) {Qx : Option Value → AH → Prop} {Xx : String → Nat → AH → Prop} (hX : σ.1 x = some (.inr (.inl (0, fs)))) (hM : AMet l g mX1_firstSafe 45 110 [.ref x, .int a1, .int a2] σ Qx Xx) (hv : wfh σ → ∀ w τ, Qx w τ → (∃ v, w = some (.int v)) ∧ τ.1 out = some (.inl (.long, 1, .inr (.inl oa)))) (hx : ∀ E q τ, Xx E q τ → E = "java/lang/IllegalStateException" ∨ E = "java/lang/IndexOutOfBoundsException" ∨ E = "java/lang/IllegalArgumentException") {Qf : Option Value → AH → Prop} (hQ : wfh σ → ∀ w τ, WQ Qx Xx ["java/lang/IllegalStateException", "java/lang/IndexOutOfBoundsException", "java/lang/IllegalArgumentException"] out oa w τ → Qf w τ) : AMet l g mX0_firstSafe 46 110 [.ref x, .int a1, .int a2, .ref out] σ Qf A_no := by
  refine A_ofH rfl (by decide) (Nat.le_of_ble_eq_true rfl) (L0 := [(0, .ref x), (1, .int a1), (2, .int a2), (3, .ref out)]) rfl ?_
  refine A_wfh (fun wσ _ => ?_)
  refine A_aload_n (i := 3) dX0_firstSafe_0 rfl rfl ?_
  refine A_iconst (v := 0) dX0_firstSafe_1 (by decide) ?_
  refine A_aload_n (i := 0) dX0_firstSafe_2 rfl rfl ?_
  refine A_iload_n (i := 1) dX0_firstSafe_3 rfl rfl ?_
  refine A_iload_n (i := 2) dX0_firstSafe_4 rfl rfl ?_
  refine A_callV2 (b' := 0) hM tX1_firstSafe q1759 hX rfl rfl dX0_firstSafe_5 (Nat.le_refl _) (Nat.le_refl _) (Nat.le_of_ble_eq_true rfl) (fun w τ h => ?_) (fun E q τ h => ?_)
  · obtain ⟨⟨v, rfl⟩, ho⟩ := hv wσ _ _ h
    refine A_i2l dX0_firstSafe_8 rfl ?_
    refine A_last ho (by unfold vp_in; decide) dX0_firstSafe_9 ?_
    refine A_goto (tgt := 25) dX0_firstSafe_10 (by decide) ?_
    refine A_iconst (v := 0) dX0_firstSafe_25 (by decide) ?_
    exact A_iret dX0_firstSafe_26 rfl (hQ wσ _ _ (Or.inl ⟨v, τ, h, rfl, rfl⟩))
  · rcases hx _ _ _ h with rfl | rfl | rfl
    · refine A_catch (pre := []) (suf := [(0, 10, 17, 13), (0, 10, 21, 15)]) (s9 := 0) (e9 := 10) (h9 := 13) (t9 := 20) rfl (fun z hz => by simp at hz) ⟨by decide, by decide⟩ (by decide) q1378 q1392 ?_
      refine A_astore dX0_firstSafe_13 (Nat.le_of_ble_eq_true rfl) ?_
      refine A_iconst (v := 1) dX0_firstSafe_15 (by decide) ?_
      exact A_iret dX0_firstSafe_16 rfl (hQ wσ _ _ (Or.inr ⟨_, q, τ, 0, h, rfl, rfl, rfl⟩))
    · refine A_catch (pre := [(0, 10, 13, 20)]) (suf := [(0, 10, 21, 15)]) (s9 := 0) (e9 := 10) (h9 := 17) (t9 := 13) rfl (by intro z hz; simp at hz; subst hz; exact Or.inr ⟨by decide, _, q1378, nx_BS⟩) ⟨by decide, by decide⟩ (by decide) q294 q386 ?_
      refine A_astore dX0_firstSafe_17 (Nat.le_of_ble_eq_true rfl) ?_
      refine A_iconst (v := 2) dX0_firstSafe_19 (by decide) ?_
      exact A_iret dX0_firstSafe_20 rfl (hQ wσ _ _ (Or.inr ⟨_, q, τ, 1, h, rfl, rfl, rfl⟩))
    · refine A_catch (pre := [(0, 10, 13, 20), (0, 10, 17, 13)]) (suf := []) (s9 := 0) (e9 := 10) (h9 := 21) (t9 := 15) rfl (by intro z hz; simp at hz; rcases hz with rfl | rfl; exact Or.inr ⟨by decide, _, q1378, nx_AS⟩; exact Or.inr ⟨by decide, _, q294, nx_AB⟩) ⟨by decide, by decide⟩ (by decide) q372 q567 ?_
      refine A_astore dX0_firstSafe_21 (Nat.le_of_ble_eq_true rfl) ?_
      refine A_iconst (v := 3) dX0_firstSafe_23 (by decide) ?_
      exact A_iret dX0_firstSafe_24 rfl (hQ wσ _ _ (Or.inr ⟨_, q, τ, 2, h, rfl, rfl, rfl⟩))
theorem w_doNotMix {l : Launch} {g : GC} (σ : AH) (x out : Nat) (a1 a2 a3 : Int32) (oa : Nat → Int64) (fs : List Value) {Qx : Option Value → AH → Prop} {Xx : String → Nat → AH → Prop} (hX : σ.1 x = some (.inr (.inl (0, fs)))) (hM : AMet l g mX1_doNotMix 10 2 [.ref x, .int a1, .int a2, .int a3] σ Qx Xx) (hv : wfh σ → ∀ w τ, Qx w τ → (∃ v, w = some (.int v)) ∧ τ.1 out = some (.inl (.long, 1, .inr (.inl oa)))) (hx : ∀ E q τ, Xx E q τ → E = "java/lang/IllegalStateException" ∨ E = "java/lang/IndexOutOfBoundsException" ∨ E = "java/lang/IllegalArgumentException") {Qf : Option Value → AH → Prop} (hQ : wfh σ → ∀ w τ, WQ Qx Xx ["java/lang/IllegalStateException", "java/lang/IndexOutOfBoundsException", "java/lang/IllegalArgumentException"] out oa w τ → Qf w τ) : AMet l g mX0_doNotMix 11 2 [.ref x, .int a1, .int a2, .int a3, .ref out] σ Qf A_no := by
  refine A_ofH rfl (by decide) (Nat.le_of_ble_eq_true rfl) (L0 := [(0, .ref x), (1, .int a1), (2, .int a2), (3, .int a3), (4, .ref out)]) rfl ?_
  refine A_wfh (fun wσ _ => ?_)
  refine A_aload dX0_doNotMix_0 rfl ?_
  refine A_iconst (v := 0) dX0_doNotMix_2 (by decide) ?_
  refine A_aload_n (i := 0) dX0_doNotMix_3 rfl rfl ?_
  refine A_iload_n (i := 1) dX0_doNotMix_4 rfl rfl ?_
  refine A_iload_n (i := 2) dX0_doNotMix_5 rfl rfl ?_
  refine A_iload_n (i := 3) dX0_doNotMix_6 rfl rfl ?_
  refine A_callV3 (b' := 0) hM tX1_doNotMix q1767 hX rfl rfl dX0_doNotMix_7 (Nat.le_refl _) (Nat.le_refl _) (Nat.le_of_ble_eq_true rfl) (fun w τ h => ?_) (fun E q τ h => ?_)
  · obtain ⟨⟨v, rfl⟩, ho⟩ := hv wσ _ _ h
    refine A_i2l dX0_doNotMix_10 rfl ?_
    refine A_last ho (by unfold vp_in; decide) dX0_doNotMix_11 ?_
    refine A_goto (tgt := 27) dX0_doNotMix_12 (by decide) ?_
    refine A_iconst (v := 0) dX0_doNotMix_27 (by decide) ?_
    exact A_iret dX0_doNotMix_28 rfl (hQ wσ _ _ (Or.inl ⟨v, τ, h, rfl, rfl⟩))
  · rcases hx _ _ _ h with rfl | rfl | rfl
    · refine A_catch (pre := []) (suf := [(0, 12, 19, 13), (0, 12, 23, 15)]) (s9 := 0) (e9 := 12) (h9 := 15) (t9 := 20) rfl (fun z hz => by simp at hz) ⟨by decide, by decide⟩ (by decide) q1378 q1392 ?_
      refine A_astore dX0_doNotMix_15 (Nat.le_of_ble_eq_true rfl) ?_
      refine A_iconst (v := 1) dX0_doNotMix_17 (by decide) ?_
      exact A_iret dX0_doNotMix_18 rfl (hQ wσ _ _ (Or.inr ⟨_, q, τ, 0, h, rfl, rfl, rfl⟩))
    · refine A_catch (pre := [(0, 12, 15, 20)]) (suf := [(0, 12, 23, 15)]) (s9 := 0) (e9 := 12) (h9 := 19) (t9 := 13) rfl (by intro z hz; simp at hz; subst hz; exact Or.inr ⟨by decide, _, q1378, nx_BS⟩) ⟨by decide, by decide⟩ (by decide) q294 q386 ?_
      refine A_astore dX0_doNotMix_19 (Nat.le_of_ble_eq_true rfl) ?_
      refine A_iconst (v := 2) dX0_doNotMix_21 (by decide) ?_
      exact A_iret dX0_doNotMix_22 rfl (hQ wσ _ _ (Or.inr ⟨_, q, τ, 1, h, rfl, rfl, rfl⟩))
    · refine A_catch (pre := [(0, 12, 15, 20), (0, 12, 19, 13)]) (suf := []) (s9 := 0) (e9 := 12) (h9 := 23) (t9 := 15) rfl (by intro z hz; simp at hz; rcases hz with rfl | rfl; exact Or.inr ⟨by decide, _, q1378, nx_AS⟩; exact Or.inr ⟨by decide, _, q294, nx_AB⟩) ⟨by decide, by decide⟩ (by decide) q372 q567 ?_
      refine A_astore dX0_doNotMix_23 (Nat.le_of_ble_eq_true rfl) ?_
      refine A_iconst (v := 3) dX0_doNotMix_25 (by decide) ?_
      exact A_iret dX0_doNotMix_26 rfl (hQ wσ _ _ (Or.inr ⟨_, q, τ, 2, h, rfl, rfl, rfl⟩))
theorem w_groups {l : Launch} {g : GC} (σ : AH) (x out : Nat) (a1 : Int32) (oa : Nat → Int64) (fs : List Value) {Qx : Option Value → AH → Prop} {Xx : String → Nat → AH → Prop} (hX : σ.1 x = some (.inr (.inl (0, fs)))) (hM : AMet l g mX1_groups 11 5 [.ref x, .int a1] σ Qx Xx) (hv : wfh σ → ∀ w τ, Qx w τ → (∃ v, w = some (.int v)) ∧ τ.1 out = some (.inl (.long, 1, .inr (.inl oa)))) (hx : ∀ E q τ, Xx E q τ → E = "java/lang/IllegalStateException" ∨ E = "java/lang/IllegalArgumentException") {Qf : Option Value → AH → Prop} (hQ : wfh σ → ∀ w τ, WQ Qx Xx ["java/lang/IllegalStateException", "java/lang/IllegalArgumentException"] out oa w τ → Qf w τ) : AMet l g mX0_groups 12 5 [.ref x, .int a1, .ref out] σ Qf A_no := by
  refine A_ofH rfl (by decide) (Nat.le_of_ble_eq_true rfl) (L0 := [(0, .ref x), (1, .int a1), (2, .ref out)]) rfl ?_
  refine A_wfh (fun wσ _ => ?_)
  refine A_aload_n (i := 2) dX0_groups_0 rfl rfl ?_
  refine A_iconst (v := 0) dX0_groups_1 (by decide) ?_
  refine A_aload_n (i := 0) dX0_groups_2 rfl rfl ?_
  refine A_iload_n (i := 1) dX0_groups_3 rfl rfl ?_
  refine A_callV1 (b' := 0) hM tX1_groups q1782 hX rfl rfl dX0_groups_4 (Nat.le_refl _) (Nat.le_refl _) (Nat.le_of_ble_eq_true rfl) (fun w τ h => ?_) (fun E q τ h => ?_)
  · obtain ⟨⟨v, rfl⟩, ho⟩ := hv wσ _ _ h
    refine A_i2l dX0_groups_7 rfl ?_
    refine A_last ho (by unfold vp_in; decide) dX0_groups_8 ?_
    refine A_goto (tgt := 18) dX0_groups_9 (by decide) ?_
    refine A_iconst (v := 0) dX0_groups_18 (by decide) ?_
    exact A_iret dX0_groups_19 rfl (hQ wσ _ _ (Or.inl ⟨v, τ, h, rfl, rfl⟩))
  · rcases hx _ _ _ h with rfl | rfl
    · refine A_catch (pre := []) (suf := [(0, 9, 15, 15)]) (s9 := 0) (e9 := 9) (h9 := 12) (t9 := 20) rfl (fun z hz => by simp at hz) ⟨by decide, by decide⟩ (by decide) q1378 q1392 ?_
      refine A_astore_n (i := 3) dX0_groups_12 rfl (Nat.le_of_ble_eq_true rfl) ?_
      refine A_iconst (v := 1) dX0_groups_13 (by decide) ?_
      exact A_iret dX0_groups_14 rfl (hQ wσ _ _ (Or.inr ⟨_, q, τ, 0, h, rfl, rfl, rfl⟩))
    · refine A_catch (pre := [(0, 9, 12, 20)]) (suf := []) (s9 := 0) (e9 := 9) (h9 := 15) (t9 := 15) rfl (by intro z hz; simp at hz; subst hz; exact Or.inr ⟨by decide, _, q1378, nx_AS⟩) ⟨by decide, by decide⟩ (by decide) q372 q567 ?_
      refine A_astore_n (i := 3) dX0_groups_15 rfl (Nat.le_of_ble_eq_true rfl) ?_
      refine A_iconst (v := 2) dX0_groups_16 (by decide) ?_
      exact A_iret dX0_groups_17 rfl (hQ wσ _ _ (Or.inr ⟨_, q, τ, 1, h, rfl, rfl, rfl⟩))
theorem w_purest {l : Launch} {g : GC} (σ : AH) (x out : Nat) (a1 : Int32) (oa : Nat → Int64) (fs : List Value) {Qx : Option Value → AH → Prop} {Xx : String → Nat → AH → Prop} (hX : σ.1 x = some (.inr (.inl (0, fs)))) (hM : AMet l g mX1_purest 31 14 [.ref x, .int a1] σ Qx Xx) (hv : wfh σ → ∀ w τ, Qx w τ → (∃ v, w = some (.int v)) ∧ τ.1 out = some (.inl (.long, 1, .inr (.inl oa)))) (hx : ∀ E q τ, Xx E q τ → E = "java/lang/IllegalStateException" ∨ E = "java/lang/IllegalArgumentException") {Qf : Option Value → AH → Prop} (hQ : wfh σ → ∀ w τ, WQ Qx Xx ["java/lang/IllegalStateException", "java/lang/IllegalArgumentException"] out oa w τ → Qf w τ) : AMet l g mX0_purest 32 14 [.ref x, .int a1, .ref out] σ Qf A_no := by
  refine A_ofH rfl (by decide) (Nat.le_of_ble_eq_true rfl) (L0 := [(0, .ref x), (1, .int a1), (2, .ref out)]) rfl ?_
  refine A_wfh (fun wσ _ => ?_)
  refine A_aload_n (i := 2) dX0_purest_0 rfl rfl ?_
  refine A_iconst (v := 0) dX0_purest_1 (by decide) ?_
  refine A_aload_n (i := 0) dX0_purest_2 rfl rfl ?_
  refine A_iload_n (i := 1) dX0_purest_3 rfl rfl ?_
  refine A_callV1 (b' := 0) hM tX1_purest q1794 hX rfl rfl dX0_purest_4 (Nat.le_refl _) (Nat.le_refl _) (Nat.le_of_ble_eq_true rfl) (fun w τ h => ?_) (fun E q τ h => ?_)
  · obtain ⟨⟨v, rfl⟩, ho⟩ := hv wσ _ _ h
    refine A_i2l dX0_purest_7 rfl ?_
    refine A_last ho (by unfold vp_in; decide) dX0_purest_8 ?_
    refine A_goto (tgt := 18) dX0_purest_9 (by decide) ?_
    refine A_iconst (v := 0) dX0_purest_18 (by decide) ?_
    exact A_iret dX0_purest_19 rfl (hQ wσ _ _ (Or.inl ⟨v, τ, h, rfl, rfl⟩))
  · rcases hx _ _ _ h with rfl | rfl
    · refine A_catch (pre := []) (suf := [(0, 9, 15, 15)]) (s9 := 0) (e9 := 9) (h9 := 12) (t9 := 20) rfl (fun z hz => by simp at hz) ⟨by decide, by decide⟩ (by decide) q1378 q1392 ?_
      refine A_astore_n (i := 3) dX0_purest_12 rfl (Nat.le_of_ble_eq_true rfl) ?_
      refine A_iconst (v := 1) dX0_purest_13 (by decide) ?_
      exact A_iret dX0_purest_14 rfl (hQ wσ _ _ (Or.inr ⟨_, q, τ, 0, h, rfl, rfl, rfl⟩))
    · refine A_catch (pre := [(0, 9, 12, 20)]) (suf := []) (s9 := 0) (e9 := 9) (h9 := 15) (t9 := 15) rfl (by intro z hz; simp at hz; subst hz; exact Or.inr ⟨by decide, _, q1378, nx_AS⟩) ⟨by decide, by decide⟩ (by decide) q372 q567 ?_
      refine A_astore_n (i := 3) dX0_purest_15 rfl (Nat.le_of_ble_eq_true rfl) ?_
      refine A_iconst (v := 2) dX0_purest_16 (by decide) ?_
      exact A_iret dX0_purest_17 rfl (hQ wσ _ _ (Or.inr ⟨_, q, τ, 1, h, rfl, rfl, rfl⟩))
theorem w_washesFor {l : Launch} {g : GC} (σ : AH) (x out : Nat) (a1 : Int32) (oa : Nat → Int64) (fs : List Value) {Qx : Option Value → AH → Prop} {Xx : String → Nat → AH → Prop} (hX : σ.1 x = some (.inr (.inl (0, fs)))) (hM : AMet l g mX1_washesFor 10 2 [.ref x, .int a1] σ Qx Xx) (hv : wfh σ → ∀ w τ, Qx w τ → (∃ v, w = some (.int v)) ∧ τ.1 out = some (.inl (.long, 1, .inr (.inl oa)))) (hx : ∀ E q τ, Xx E q τ → E = "java/lang/IllegalStateException" ∨ E = "java/lang/IndexOutOfBoundsException") {Qf : Option Value → AH → Prop} (hQ : wfh σ → ∀ w τ, WQ Qx Xx ["java/lang/IllegalStateException", "java/lang/IndexOutOfBoundsException"] out oa w τ → Qf w τ) : AMet l g mX0_washesFor 11 2 [.ref x, .int a1, .ref out] σ Qf A_no := by
  refine A_ofH rfl (by decide) (Nat.le_of_ble_eq_true rfl) (L0 := [(0, .ref x), (1, .int a1), (2, .ref out)]) rfl ?_
  refine A_wfh (fun wσ _ => ?_)
  refine A_aload_n (i := 2) dX0_washesFor_0 rfl rfl ?_
  refine A_iconst (v := 0) dX0_washesFor_1 (by decide) ?_
  refine A_aload_n (i := 0) dX0_washesFor_2 rfl rfl ?_
  refine A_iload_n (i := 1) dX0_washesFor_3 rfl rfl ?_
  refine A_callV1 (b' := 0) hM tX1_washesFor q1803 hX rfl rfl dX0_washesFor_4 (Nat.le_refl _) (Nat.le_refl _) (Nat.le_of_ble_eq_true rfl) (fun w τ h => ?_) (fun E q τ h => ?_)
  · obtain ⟨⟨v, rfl⟩, ho⟩ := hv wσ _ _ h
    refine A_i2l dX0_washesFor_7 rfl ?_
    refine A_last ho (by unfold vp_in; decide) dX0_washesFor_8 ?_
    refine A_goto (tgt := 18) dX0_washesFor_9 (by decide) ?_
    refine A_iconst (v := 0) dX0_washesFor_18 (by decide) ?_
    exact A_iret dX0_washesFor_19 rfl (hQ wσ _ _ (Or.inl ⟨v, τ, h, rfl, rfl⟩))
  · rcases hx _ _ _ h with rfl | rfl
    · refine A_catch (pre := []) (suf := [(0, 9, 15, 13)]) (s9 := 0) (e9 := 9) (h9 := 12) (t9 := 20) rfl (fun z hz => by simp at hz) ⟨by decide, by decide⟩ (by decide) q1378 q1392 ?_
      refine A_astore_n (i := 3) dX0_washesFor_12 rfl (Nat.le_of_ble_eq_true rfl) ?_
      refine A_iconst (v := 1) dX0_washesFor_13 (by decide) ?_
      exact A_iret dX0_washesFor_14 rfl (hQ wσ _ _ (Or.inr ⟨_, q, τ, 0, h, rfl, rfl, rfl⟩))
    · refine A_catch (pre := [(0, 9, 12, 20)]) (suf := []) (s9 := 0) (e9 := 9) (h9 := 15) (t9 := 13) rfl (by intro z hz; simp at hz; subst hz; exact Or.inr ⟨by decide, _, q1378, nx_BS⟩) ⟨by decide, by decide⟩ (by decide) q294 q386 ?_
      refine A_astore_n (i := 3) dX0_washesFor_15 rfl (Nat.le_of_ble_eq_true rfl) ?_
      refine A_iconst (v := 2) dX0_washesFor_16 (by decide) ?_
      exact A_iret dX0_washesFor_17 rfl (hQ wσ _ _ (Or.inr ⟨_, q, τ, 1, h, rfl, rfl, rfl⟩))
theorem w_dryIn {l : Launch} {g : GC} (σ : AH) (x out : Nat) (a1 : Int32) (oa : Nat → Int64) (fs : List Value) {Qx : Option Value → AH → Prop} {Xx : String → Nat → AH → Prop} (hX : σ.1 x = some (.inr (.inl (0, fs)))) (hM : AMet l g mX1_dryIn 23 174 [.ref x, .int a1] σ Qx Xx) (hv : wfh σ → ∀ w τ, Qx w τ → (∃ v, w = some (.int v)) ∧ τ.1 out = some (.inl (.long, 1, .inr (.inl oa)))) (hx : ∀ E q τ, Xx E q τ → E = "java/lang/IllegalStateException" ∨ E = "java/lang/IndexOutOfBoundsException") {Qf : Option Value → AH → Prop} (hQ : wfh σ → ∀ w τ, WQ Qx Xx ["java/lang/IllegalStateException", "java/lang/IndexOutOfBoundsException"] out oa w τ → Qf w τ) : AMet l g mX0_dryIn 24 174 [.ref x, .int a1, .ref out] σ Qf A_no := by
  refine A_ofH rfl (by decide) (Nat.le_of_ble_eq_true rfl) (L0 := [(0, .ref x), (1, .int a1), (2, .ref out)]) rfl ?_
  refine A_wfh (fun wσ _ => ?_)
  refine A_aload_n (i := 2) dX0_dryIn_0 rfl rfl ?_
  refine A_iconst (v := 0) dX0_dryIn_1 (by decide) ?_
  refine A_aload_n (i := 0) dX0_dryIn_2 rfl rfl ?_
  refine A_iload_n (i := 1) dX0_dryIn_3 rfl rfl ?_
  refine A_callV1 (b' := 0) hM tX1_dryIn q1812 hX rfl rfl dX0_dryIn_4 (Nat.le_refl _) (Nat.le_refl _) (Nat.le_of_ble_eq_true rfl) (fun w τ h => ?_) (fun E q τ h => ?_)
  · obtain ⟨⟨v, rfl⟩, ho⟩ := hv wσ _ _ h
    refine A_i2l dX0_dryIn_7 rfl ?_
    refine A_last ho (by unfold vp_in; decide) dX0_dryIn_8 ?_
    refine A_goto (tgt := 18) dX0_dryIn_9 (by decide) ?_
    refine A_iconst (v := 0) dX0_dryIn_18 (by decide) ?_
    exact A_iret dX0_dryIn_19 rfl (hQ wσ _ _ (Or.inl ⟨v, τ, h, rfl, rfl⟩))
  · rcases hx _ _ _ h with rfl | rfl
    · refine A_catch (pre := []) (suf := [(0, 9, 15, 13)]) (s9 := 0) (e9 := 9) (h9 := 12) (t9 := 20) rfl (fun z hz => by simp at hz) ⟨by decide, by decide⟩ (by decide) q1378 q1392 ?_
      refine A_astore_n (i := 3) dX0_dryIn_12 rfl (Nat.le_of_ble_eq_true rfl) ?_
      refine A_iconst (v := 1) dX0_dryIn_13 (by decide) ?_
      exact A_iret dX0_dryIn_14 rfl (hQ wσ _ _ (Or.inr ⟨_, q, τ, 0, h, rfl, rfl, rfl⟩))
    · refine A_catch (pre := [(0, 9, 12, 20)]) (suf := []) (s9 := 0) (e9 := 9) (h9 := 15) (t9 := 13) rfl (by intro z hz; simp at hz; subst hz; exact Or.inr ⟨by decide, _, q1378, nx_BS⟩) ⟨by decide, by decide⟩ (by decide) q294 q386 ?_
      refine A_astore_n (i := 3) dX0_dryIn_15 rfl (Nat.le_of_ble_eq_true rfl) ?_
      refine A_iconst (v := 2) dX0_dryIn_16 (by decide) ?_
      exact A_iret dX0_dryIn_17 rfl (hQ wσ _ _ (Or.inr ⟨_, q, τ, 1, h, rfl, rfl, rfl⟩))
theorem w_dryByWind {l : Launch} {g : GC} (σ : AH) (x out : Nat) (a1 a2 : Int32) (oa : Nat → Int64) (fs : List Value) {Qx : Option Value → AH → Prop} {Xx : String → Nat → AH → Prop} (hX : σ.1 x = some (.inr (.inl (0, fs)))) (hM : AMet l g mX1_dryByWind 23 174 [.ref x, .int a1, .int a2] σ Qx Xx) (hv : wfh σ → ∀ w τ, Qx w τ → (∃ v, w = some (.int v)) ∧ τ.1 out = some (.inl (.long, 1, .inr (.inl oa)))) (hx : ∀ E q τ, Xx E q τ → E = "java/lang/IllegalStateException" ∨ E = "java/lang/IndexOutOfBoundsException" ∨ E = "java/lang/IllegalArgumentException") {Qf : Option Value → AH → Prop} (hQ : wfh σ → ∀ w τ, WQ Qx Xx ["java/lang/IllegalStateException", "java/lang/IndexOutOfBoundsException", "java/lang/IllegalArgumentException"] out oa w τ → Qf w τ) : AMet l g mX0_dryByWind 24 174 [.ref x, .int a1, .int a2, .ref out] σ Qf A_no := by
  refine A_ofH rfl (by decide) (Nat.le_of_ble_eq_true rfl) (L0 := [(0, .ref x), (1, .int a1), (2, .int a2), (3, .ref out)]) rfl ?_
  refine A_wfh (fun wσ _ => ?_)
  refine A_aload_n (i := 3) dX0_dryByWind_0 rfl rfl ?_
  refine A_iconst (v := 0) dX0_dryByWind_1 (by decide) ?_
  refine A_aload_n (i := 0) dX0_dryByWind_2 rfl rfl ?_
  refine A_iload_n (i := 1) dX0_dryByWind_3 rfl rfl ?_
  refine A_iload_n (i := 2) dX0_dryByWind_4 rfl rfl ?_
  refine A_callV2 (b' := 0) hM tX1_dryByWind q1839 hX rfl rfl dX0_dryByWind_5 (Nat.le_refl _) (Nat.le_refl _) (Nat.le_of_ble_eq_true rfl) (fun w τ h => ?_) (fun E q τ h => ?_)
  · obtain ⟨⟨v, rfl⟩, ho⟩ := hv wσ _ _ h
    refine A_i2l dX0_dryByWind_8 rfl ?_
    refine A_last ho (by unfold vp_in; decide) dX0_dryByWind_9 ?_
    refine A_goto (tgt := 25) dX0_dryByWind_10 (by decide) ?_
    refine A_iconst (v := 0) dX0_dryByWind_25 (by decide) ?_
    exact A_iret dX0_dryByWind_26 rfl (hQ wσ _ _ (Or.inl ⟨v, τ, h, rfl, rfl⟩))
  · rcases hx _ _ _ h with rfl | rfl | rfl
    · refine A_catch (pre := []) (suf := [(0, 10, 17, 13), (0, 10, 21, 15)]) (s9 := 0) (e9 := 10) (h9 := 13) (t9 := 20) rfl (fun z hz => by simp at hz) ⟨by decide, by decide⟩ (by decide) q1378 q1392 ?_
      refine A_astore dX0_dryByWind_13 (Nat.le_of_ble_eq_true rfl) ?_
      refine A_iconst (v := 1) dX0_dryByWind_15 (by decide) ?_
      exact A_iret dX0_dryByWind_16 rfl (hQ wσ _ _ (Or.inr ⟨_, q, τ, 0, h, rfl, rfl, rfl⟩))
    · refine A_catch (pre := [(0, 10, 13, 20)]) (suf := [(0, 10, 21, 15)]) (s9 := 0) (e9 := 10) (h9 := 17) (t9 := 13) rfl (by intro z hz; simp at hz; subst hz; exact Or.inr ⟨by decide, _, q1378, nx_BS⟩) ⟨by decide, by decide⟩ (by decide) q294 q386 ?_
      refine A_astore dX0_dryByWind_17 (Nat.le_of_ble_eq_true rfl) ?_
      refine A_iconst (v := 2) dX0_dryByWind_19 (by decide) ?_
      exact A_iret dX0_dryByWind_20 rfl (hQ wσ _ _ (Or.inr ⟨_, q, τ, 1, h, rfl, rfl, rfl⟩))
    · refine A_catch (pre := [(0, 10, 13, 20), (0, 10, 17, 13)]) (suf := []) (s9 := 0) (e9 := 10) (h9 := 21) (t9 := 15) rfl (by intro z hz; simp at hz; rcases hz with rfl | rfl; exact Or.inr ⟨by decide, _, q1378, nx_AS⟩; exact Or.inr ⟨by decide, _, q294, nx_AB⟩) ⟨by decide, by decide⟩ (by decide) q372 q567 ?_
      refine A_astore dX0_dryByWind_21 (Nat.le_of_ble_eq_true rfl) ?_
      refine A_iconst (v := 3) dX0_dryByWind_23 (by decide) ?_
      exact A_iret dX0_dryByWind_24 rfl (hQ wσ _ _ (Or.inr ⟨_, q, τ, 2, h, rfl, rfl, rfl⟩))
theorem w_fallsIn {l : Launch} {g : GC} (σ : AH) (x out : Nat) (a1 : Int32) (oa : Nat → Int64) (fs : List Value) {Qx : Option Value → AH → Prop} {Xx : String → Nat → AH → Prop} (hX : σ.1 x = some (.inr (.inl (0, fs)))) (hM : AMet l g mX1_fallsIn 17 172 [.ref x, .int a1] σ Qx Xx) (hv : wfh σ → ∀ w τ, Qx w τ → (∃ v, w = some (.int v)) ∧ τ.1 out = some (.inl (.long, 1, .inr (.inl oa)))) (hx : ∀ E q τ, Xx E q τ → E = "java/lang/IllegalStateException" ∨ E = "java/lang/IllegalArgumentException") {Qf : Option Value → AH → Prop} (hQ : wfh σ → ∀ w τ, WQ Qx Xx ["java/lang/IllegalStateException", "java/lang/IllegalArgumentException"] out oa w τ → Qf w τ) : AMet l g mX0_fallsIn 18 172 [.ref x, .int a1, .ref out] σ Qf A_no := by
  refine A_ofH rfl (by decide) (Nat.le_of_ble_eq_true rfl) (L0 := [(0, .ref x), (1, .int a1), (2, .ref out)]) rfl ?_
  refine A_wfh (fun wσ _ => ?_)
  refine A_aload_n (i := 2) dX0_fallsIn_0 rfl rfl ?_
  refine A_iconst (v := 0) dX0_fallsIn_1 (by decide) ?_
  refine A_aload_n (i := 0) dX0_fallsIn_2 rfl rfl ?_
  refine A_iload_n (i := 1) dX0_fallsIn_3 rfl rfl ?_
  refine A_callV1 (b' := 0) hM tX1_fallsIn q1847 hX rfl rfl dX0_fallsIn_4 (Nat.le_refl _) (Nat.le_refl _) (Nat.le_of_ble_eq_true rfl) (fun w τ h => ?_) (fun E q τ h => ?_)
  · obtain ⟨⟨v, rfl⟩, ho⟩ := hv wσ _ _ h
    refine A_i2l dX0_fallsIn_7 rfl ?_
    refine A_last ho (by unfold vp_in; decide) dX0_fallsIn_8 ?_
    refine A_goto (tgt := 18) dX0_fallsIn_9 (by decide) ?_
    refine A_iconst (v := 0) dX0_fallsIn_18 (by decide) ?_
    exact A_iret dX0_fallsIn_19 rfl (hQ wσ _ _ (Or.inl ⟨v, τ, h, rfl, rfl⟩))
  · rcases hx _ _ _ h with rfl | rfl
    · refine A_catch (pre := []) (suf := [(0, 9, 15, 15)]) (s9 := 0) (e9 := 9) (h9 := 12) (t9 := 20) rfl (fun z hz => by simp at hz) ⟨by decide, by decide⟩ (by decide) q1378 q1392 ?_
      refine A_astore_n (i := 3) dX0_fallsIn_12 rfl (Nat.le_of_ble_eq_true rfl) ?_
      refine A_iconst (v := 1) dX0_fallsIn_13 (by decide) ?_
      exact A_iret dX0_fallsIn_14 rfl (hQ wσ _ _ (Or.inr ⟨_, q, τ, 0, h, rfl, rfl, rfl⟩))
    · refine A_catch (pre := [(0, 9, 12, 20)]) (suf := []) (s9 := 0) (e9 := 9) (h9 := 15) (t9 := 15) rfl (by intro z hz; simp at hz; subst hz; exact Or.inr ⟨by decide, _, q1378, nx_AS⟩) ⟨by decide, by decide⟩ (by decide) q372 q567 ?_
      refine A_astore_n (i := 3) dX0_fallsIn_15 rfl (Nat.le_of_ble_eq_true rfl) ?_
      refine A_iconst (v := 2) dX0_fallsIn_16 (by decide) ?_
      exact A_iret dX0_fallsIn_17 rfl (hQ wσ _ _ (Or.inr ⟨_, q, τ, 1, h, rfl, rfl, rfl⟩))
theorem w_payIf {l : Launch} {g : GC} (σ : AH) (x out : Nat) (a1 a2 : Int32) (oa : Nat → Int64) (fs : List Value) {Qx : Option Value → AH → Prop} {Xx : String → Nat → AH → Prop} (hX : σ.1 x = some (.inr (.inl (0, fs)))) (hM : AMet l g mX1_payIf 34 2 [.ref x, .int a1, .int a2] σ Qx Xx) (hv : wfh σ → ∀ w τ, Qx w τ → (∃ v, w = some (.int v)) ∧ τ.1 out = some (.inl (.long, 1, .inr (.inl oa)))) (hx : ∀ E q τ, Xx E q τ → E = "java/lang/IllegalStateException" ∨ E = "java/lang/IndexOutOfBoundsException" ∨ E = "java/lang/IllegalArgumentException") {Qf : Option Value → AH → Prop} (hQ : wfh σ → ∀ w τ, WQ Qx Xx ["java/lang/IllegalStateException", "java/lang/IndexOutOfBoundsException", "java/lang/IllegalArgumentException"] out oa w τ → Qf w τ) : AMet l g mX0_payIf 35 2 [.ref x, .int a1, .int a2, .ref out] σ Qf A_no := by
  refine A_ofH rfl (by decide) (Nat.le_of_ble_eq_true rfl) (L0 := [(0, .ref x), (1, .int a1), (2, .int a2), (3, .ref out)]) rfl ?_
  refine A_wfh (fun wσ _ => ?_)
  refine A_aload_n (i := 3) dX0_payIf_0 rfl rfl ?_
  refine A_iconst (v := 0) dX0_payIf_1 (by decide) ?_
  refine A_aload_n (i := 0) dX0_payIf_2 rfl rfl ?_
  refine A_iload_n (i := 1) dX0_payIf_3 rfl rfl ?_
  refine A_iload_n (i := 2) dX0_payIf_4 rfl rfl ?_
  refine A_callV2 (b' := 0) hM tX1_payIf q1856 hX rfl rfl dX0_payIf_5 (Nat.le_refl _) (Nat.le_refl _) (Nat.le_of_ble_eq_true rfl) (fun w τ h => ?_) (fun E q τ h => ?_)
  · obtain ⟨⟨v, rfl⟩, ho⟩ := hv wσ _ _ h
    refine A_i2l dX0_payIf_8 rfl ?_
    refine A_last ho (by unfold vp_in; decide) dX0_payIf_9 ?_
    refine A_goto (tgt := 25) dX0_payIf_10 (by decide) ?_
    refine A_iconst (v := 0) dX0_payIf_25 (by decide) ?_
    exact A_iret dX0_payIf_26 rfl (hQ wσ _ _ (Or.inl ⟨v, τ, h, rfl, rfl⟩))
  · rcases hx _ _ _ h with rfl | rfl | rfl
    · refine A_catch (pre := []) (suf := [(0, 10, 17, 13), (0, 10, 21, 15)]) (s9 := 0) (e9 := 10) (h9 := 13) (t9 := 20) rfl (fun z hz => by simp at hz) ⟨by decide, by decide⟩ (by decide) q1378 q1392 ?_
      refine A_astore dX0_payIf_13 (Nat.le_of_ble_eq_true rfl) ?_
      refine A_iconst (v := 1) dX0_payIf_15 (by decide) ?_
      exact A_iret dX0_payIf_16 rfl (hQ wσ _ _ (Or.inr ⟨_, q, τ, 0, h, rfl, rfl, rfl⟩))
    · refine A_catch (pre := [(0, 10, 13, 20)]) (suf := [(0, 10, 21, 15)]) (s9 := 0) (e9 := 10) (h9 := 17) (t9 := 13) rfl (by intro z hz; simp at hz; subst hz; exact Or.inr ⟨by decide, _, q1378, nx_BS⟩) ⟨by decide, by decide⟩ (by decide) q294 q386 ?_
      refine A_astore dX0_payIf_17 (Nat.le_of_ble_eq_true rfl) ?_
      refine A_iconst (v := 2) dX0_payIf_19 (by decide) ?_
      exact A_iret dX0_payIf_20 rfl (hQ wσ _ _ (Or.inr ⟨_, q, τ, 1, h, rfl, rfl, rfl⟩))
    · refine A_catch (pre := [(0, 10, 13, 20), (0, 10, 17, 13)]) (suf := []) (s9 := 0) (e9 := 10) (h9 := 21) (t9 := 15) rfl (by intro z hz; simp at hz; rcases hz with rfl | rfl; exact Or.inr ⟨by decide, _, q1378, nx_AS⟩; exact Or.inr ⟨by decide, _, q294, nx_AB⟩) ⟨by decide, by decide⟩ (by decide) q372 q567 ?_
      refine A_astore dX0_payIf_21 (Nat.le_of_ble_eq_true rfl) ?_
      refine A_iconst (v := 3) dX0_payIf_23 (by decide) ?_
      exact A_iret dX0_payIf_24 rfl (hQ wσ _ _ (Or.inr ⟨_, q, τ, 2, h, rfl, rfl, rfl⟩))
theorem w_latest {l : Launch} {g : GC} (σ : AH) (x out : Nat) (a1 : Int32) (oa : Nat → Int64) (fs : List Value) {Qx : Option Value → AH → Prop} {Xx : String → Nat → AH → Prop} (hX : σ.1 x = some (.inr (.inl (0, fs)))) (hM : AMet l g mX1_latest 34 2 [.ref x, .int a1] σ Qx Xx) (hv : wfh σ → ∀ w τ, Qx w τ → (∃ v, w = some (.int v)) ∧ τ.1 out = some (.inl (.long, 1, .inr (.inl oa)))) (hx : ∀ E q τ, Xx E q τ → E = "java/lang/IllegalStateException" ∨ E = "java/lang/IndexOutOfBoundsException") {Qf : Option Value → AH → Prop} (hQ : wfh σ → ∀ w τ, WQ Qx Xx ["java/lang/IllegalStateException", "java/lang/IndexOutOfBoundsException"] out oa w τ → Qf w τ) : AMet l g mX0_latest 35 2 [.ref x, .int a1, .ref out] σ Qf A_no := by
  refine A_ofH rfl (by decide) (Nat.le_of_ble_eq_true rfl) (L0 := [(0, .ref x), (1, .int a1), (2, .ref out)]) rfl ?_
  refine A_wfh (fun wσ _ => ?_)
  refine A_aload_n (i := 2) dX0_latest_0 rfl rfl ?_
  refine A_iconst (v := 0) dX0_latest_1 (by decide) ?_
  refine A_aload_n (i := 0) dX0_latest_2 rfl rfl ?_
  refine A_iload_n (i := 1) dX0_latest_3 rfl rfl ?_
  refine A_callV1 (b' := 0) hM tX1_latest q1868 hX rfl rfl dX0_latest_4 (Nat.le_refl _) (Nat.le_refl _) (Nat.le_of_ble_eq_true rfl) (fun w τ h => ?_) (fun E q τ h => ?_)
  · obtain ⟨⟨v, rfl⟩, ho⟩ := hv wσ _ _ h
    refine A_i2l dX0_latest_7 rfl ?_
    refine A_last ho (by unfold vp_in; decide) dX0_latest_8 ?_
    refine A_goto (tgt := 18) dX0_latest_9 (by decide) ?_
    refine A_iconst (v := 0) dX0_latest_18 (by decide) ?_
    exact A_iret dX0_latest_19 rfl (hQ wσ _ _ (Or.inl ⟨v, τ, h, rfl, rfl⟩))
  · rcases hx _ _ _ h with rfl | rfl
    · refine A_catch (pre := []) (suf := [(0, 9, 15, 13)]) (s9 := 0) (e9 := 9) (h9 := 12) (t9 := 20) rfl (fun z hz => by simp at hz) ⟨by decide, by decide⟩ (by decide) q1378 q1392 ?_
      refine A_astore_n (i := 3) dX0_latest_12 rfl (Nat.le_of_ble_eq_true rfl) ?_
      refine A_iconst (v := 1) dX0_latest_13 (by decide) ?_
      exact A_iret dX0_latest_14 rfl (hQ wσ _ _ (Or.inr ⟨_, q, τ, 0, h, rfl, rfl, rfl⟩))
    · refine A_catch (pre := [(0, 9, 12, 20)]) (suf := []) (s9 := 0) (e9 := 9) (h9 := 15) (t9 := 13) rfl (by intro z hz; simp at hz; subst hz; exact Or.inr ⟨by decide, _, q1378, nx_BS⟩) ⟨by decide, by decide⟩ (by decide) q294 q386 ?_
      refine A_astore_n (i := 3) dX0_latest_15 rfl (Nat.le_of_ble_eq_true rfl) ?_
      refine A_iconst (v := 2) dX0_latest_16 (by decide) ?_
      exact A_iret dX0_latest_17 rfl (hQ wσ _ _ (Or.inr ⟨_, q, τ, 1, h, rfl, rfl, rfl⟩))
theorem w_dearest {l : Launch} {g : GC} (σ : AH) (x out : Nat) (oa : Nat → Int64) (fs : List Value) {Qx : Option Value → AH → Prop} {Xx : String → Nat → AH → Prop} (hX : σ.1 x = some (.inr (.inl (0, fs)))) (hM : AMet l g mX1_dearest 34 6 [.ref x] σ Qx Xx) (hv : wfh σ → ∀ w τ, Qx w τ → (∃ v, w = some (.int v)) ∧ τ.1 out = some (.inl (.long, 1, .inr (.inl oa)))) (hx : ∀ E q τ, Xx E q τ → E = "java/lang/IllegalStateException") {Qf : Option Value → AH → Prop} (hQ : wfh σ → ∀ w τ, WQ Qx Xx ["java/lang/IllegalStateException"] out oa w τ → Qf w τ) : AMet l g mX0_dearest 35 6 [.ref x, .ref out] σ Qf A_no := by
  refine A_ofH rfl (by decide) (Nat.le_of_ble_eq_true rfl) (L0 := [(0, .ref x), (1, .ref out)]) rfl ?_
  refine A_wfh (fun wσ _ => ?_)
  refine A_aload_n (i := 1) dX0_dearest_0 rfl rfl ?_
  refine A_iconst (v := 0) dX0_dearest_1 (by decide) ?_
  refine A_aload_n (i := 0) dX0_dearest_2 rfl rfl ?_
  refine A_callV0 (b' := 0) hM tX1_dearest q1875 hX rfl rfl dX0_dearest_3 (Nat.le_refl _) (Nat.le_refl _) (Nat.le_of_ble_eq_true rfl) (fun w τ h => ?_) (fun E q τ h => ?_)
  · obtain ⟨⟨v, rfl⟩, ho⟩ := hv wσ _ _ h
    refine A_i2l dX0_dearest_6 rfl ?_
    refine A_last ho (by unfold vp_in; decide) dX0_dearest_7 ?_
    refine A_goto (tgt := 14) dX0_dearest_8 (by decide) ?_
    refine A_iconst (v := 0) dX0_dearest_14 (by decide) ?_
    exact A_iret dX0_dearest_15 rfl (hQ wσ _ _ (Or.inl ⟨v, τ, h, rfl, rfl⟩))
  · rcases hx _ _ _ h with rfl
    · refine A_catch (pre := []) (suf := []) (s9 := 0) (e9 := 8) (h9 := 11) (t9 := 20) rfl (fun z hz => by simp at hz) ⟨by decide, by decide⟩ (by decide) q1378 q1392 ?_
      refine A_astore_n (i := 2) dX0_dearest_11 rfl (Nat.le_of_ble_eq_true rfl) ?_
      refine A_iconst (v := 1) dX0_dearest_12 (by decide) ?_
      exact A_iret dX0_dearest_13 rfl (hQ wσ _ _ (Or.inr ⟨_, q, τ, 0, h, rfl, rfl, rfl⟩))
theorem w_ironsFor {l : Launch} {g : GC} (σ : AH) (x out : Nat) (a1 a2 : Int32) (oa : Nat → Int64) (fs : List Value) {Qx : Option Value → AH → Prop} {Xx : String → Nat → AH → Prop} (hX : σ.1 x = some (.inr (.inl (0, fs)))) (hM : AMet l g mX1_ironsFor 16 8 [.ref x, .int a1, .int a2] σ Qx Xx) (hv : wfh σ → ∀ w τ, Qx w τ → (∃ v, w = some (.int v)) ∧ τ.1 out = some (.inl (.long, 1, .inr (.inl oa)))) (hx : ∀ E q τ, Xx E q τ → E = "java/lang/IllegalStateException" ∨ E = "java/lang/IndexOutOfBoundsException" ∨ E = "java/lang/IllegalArgumentException") {Qf : Option Value → AH → Prop} (hQ : wfh σ → ∀ w τ, WQ Qx Xx ["java/lang/IllegalStateException", "java/lang/IndexOutOfBoundsException", "java/lang/IllegalArgumentException"] out oa w τ → Qf w τ) : AMet l g mX0_ironsFor 17 8 [.ref x, .int a1, .int a2, .ref out] σ Qf A_no := by
  refine A_ofH rfl (by decide) (Nat.le_of_ble_eq_true rfl) (L0 := [(0, .ref x), (1, .int a1), (2, .int a2), (3, .ref out)]) rfl ?_
  refine A_wfh (fun wσ _ => ?_)
  refine A_aload_n (i := 3) dX0_ironsFor_0 rfl rfl ?_
  refine A_iconst (v := 0) dX0_ironsFor_1 (by decide) ?_
  refine A_aload_n (i := 0) dX0_ironsFor_2 rfl rfl ?_
  refine A_iload_n (i := 1) dX0_ironsFor_3 rfl rfl ?_
  refine A_iload_n (i := 2) dX0_ironsFor_4 rfl rfl ?_
  refine A_callV2 (b' := 0) hM tX1_ironsFor q1882 hX rfl rfl dX0_ironsFor_5 (Nat.le_refl _) (Nat.le_refl _) (Nat.le_of_ble_eq_true rfl) (fun w τ h => ?_) (fun E q τ h => ?_)
  · obtain ⟨⟨v, rfl⟩, ho⟩ := hv wσ _ _ h
    refine A_i2l dX0_ironsFor_8 rfl ?_
    refine A_last ho (by unfold vp_in; decide) dX0_ironsFor_9 ?_
    refine A_goto (tgt := 25) dX0_ironsFor_10 (by decide) ?_
    refine A_iconst (v := 0) dX0_ironsFor_25 (by decide) ?_
    exact A_iret dX0_ironsFor_26 rfl (hQ wσ _ _ (Or.inl ⟨v, τ, h, rfl, rfl⟩))
  · rcases hx _ _ _ h with rfl | rfl | rfl
    · refine A_catch (pre := []) (suf := [(0, 10, 17, 13), (0, 10, 21, 15)]) (s9 := 0) (e9 := 10) (h9 := 13) (t9 := 20) rfl (fun z hz => by simp at hz) ⟨by decide, by decide⟩ (by decide) q1378 q1392 ?_
      refine A_astore dX0_ironsFor_13 (Nat.le_of_ble_eq_true rfl) ?_
      refine A_iconst (v := 1) dX0_ironsFor_15 (by decide) ?_
      exact A_iret dX0_ironsFor_16 rfl (hQ wσ _ _ (Or.inr ⟨_, q, τ, 0, h, rfl, rfl, rfl⟩))
    · refine A_catch (pre := [(0, 10, 13, 20)]) (suf := [(0, 10, 21, 15)]) (s9 := 0) (e9 := 10) (h9 := 17) (t9 := 13) rfl (by intro z hz; simp at hz; subst hz; exact Or.inr ⟨by decide, _, q1378, nx_BS⟩) ⟨by decide, by decide⟩ (by decide) q294 q386 ?_
      refine A_astore dX0_ironsFor_17 (Nat.le_of_ble_eq_true rfl) ?_
      refine A_iconst (v := 2) dX0_ironsFor_19 (by decide) ?_
      exact A_iret dX0_ironsFor_20 rfl (hQ wσ _ _ (Or.inr ⟨_, q, τ, 1, h, rfl, rfl, rfl⟩))
    · refine A_catch (pre := [(0, 10, 13, 20), (0, 10, 17, 13)]) (suf := []) (s9 := 0) (e9 := 10) (h9 := 21) (t9 := 15) rfl (by intro z hz; simp at hz; rcases hz with rfl | rfl; exact Or.inr ⟨by decide, _, q1378, nx_AS⟩; exact Or.inr ⟨by decide, _, q294, nx_AB⟩) ⟨by decide, by decide⟩ (by decide) q372 q567 ?_
      refine A_astore dX0_ironsFor_21 (Nat.le_of_ble_eq_true rfl) ?_
      refine A_iconst (v := 3) dX0_ironsFor_23 (by decide) ?_
      exact A_iret dX0_ironsFor_24 rfl (hQ wσ _ _ (Or.inr ⟨_, q, τ, 2, h, rfl, rfl, rfl⟩))
theorem w_readyShare {l : Launch} {g : GC} (σ : AH) (x out : Nat) (oa : Nat → UInt64) (fs : List Value) {Qx : Option Value → AH → Prop} {Xx : String → Nat → AH → Prop} (hX : σ.1 x = some (.inr (.inl (0, fs)))) (hM : AMet l g mX1_readyShare 34 4 [.ref x] σ Qx Xx) (hv : wfh σ → ∀ w τ, Qx w τ → (∃ v, w = some (.float v) ∧ vf_n64 (FP.f2d v)) ∧ τ.1 out = some (.inl (.double, 1, .inr (.inr (.inr (.inl oa)))))) (hx : ∀ E q τ, Xx E q τ → E = "java/lang/IllegalStateException") {Qf : Option Value → AH → Prop} (hQ : wfh σ → ∀ w τ, WD Qx Xx ["java/lang/IllegalStateException"] out oa w τ → Qf w τ) : AMet l g mX0_readyShare 35 4 [.ref x, .ref out] σ Qf A_no := by
  refine A_ofH rfl (by decide) (Nat.le_of_ble_eq_true rfl) (L0 := [(0, .ref x), (1, .ref out)]) rfl ?_
  refine A_wfh (fun wσ _ => ?_)
  refine A_aload_n (i := 1) dX0_readyShare_0 rfl rfl ?_
  refine A_iconst (v := 0) dX0_readyShare_1 (by decide) ?_
  refine A_aload_n (i := 0) dX0_readyShare_2 rfl rfl ?_
  refine A_callV0 (b' := 0) hM tX1_readyShare q1904 hX rfl rfl dX0_readyShare_3 (Nat.le_refl _) (Nat.le_refl _) (Nat.le_of_ble_eq_true rfl) (fun w τ h => ?_) (fun E q τ h => ?_)
  · obtain ⟨⟨v, rfl, hnv⟩, ho⟩ := hv wσ _ _ h
    refine A_f2d dX0_readyShare_6 hnv ?_
    refine A_dast ho (by unfold vp_in; decide) dX0_readyShare_7 ?_
    refine A_goto (tgt := 14) dX0_readyShare_8 (by decide) ?_
    refine A_iconst (v := 0) dX0_readyShare_14 (by decide) ?_
    exact A_iret dX0_readyShare_15 rfl (hQ wσ _ _ (Or.inl ⟨v, τ, h, rfl, rfl⟩))
  · rcases hx _ _ _ h with rfl
    · refine A_catch (pre := []) (suf := []) (s9 := 0) (e9 := 8) (h9 := 11) (t9 := 20) rfl (fun z hz => by simp at hz) ⟨by decide, by decide⟩ (by decide) q1378 q1392 ?_
      refine A_astore_n (i := 2) dX0_readyShare_11 rfl (Nat.le_of_ble_eq_true rfl) ?_
      refine A_iconst (v := 1) dX0_readyShare_12 (by decide) ?_
      exact A_iret dX0_readyShare_13 rfl (hQ wσ _ _ (Or.inr ⟨_, q, τ, 0, h, rfl, rfl, rfl⟩))
theorem w_meanDirt {l : Launch} {g : GC} (σ : AH) (x out : Nat) (oa : Nat → UInt64) (fs : List Value) {Qx : Option Value → AH → Prop} {Xx : String → Nat → AH → Prop} (hX : σ.1 x = some (.inr (.inl (0, fs)))) (hM : AMet l g mX1_meanDirt 9 4 [.ref x] σ Qx Xx) (hv : wfh σ → ∀ w τ, Qx w τ → (∃ v, w = some (.double v)) ∧ τ.1 out = some (.inl (.double, 1, .inr (.inr (.inr (.inl oa)))))) (hx : ∀ E q τ, Xx E q τ → E = "java/lang/IllegalStateException") {Qf : Option Value → AH → Prop} (hQ : wfh σ → ∀ w τ, WE Qx Xx ["java/lang/IllegalStateException"] out oa w τ → Qf w τ) : AMet l g mX0_meanDirt 10 4 [.ref x, .ref out] σ Qf A_no := by
  refine A_ofH rfl (by decide) (Nat.le_of_ble_eq_true rfl) (L0 := [(0, .ref x), (1, .ref out)]) rfl ?_
  refine A_wfh (fun wσ _ => ?_)
  refine A_aload_n (i := 1) dX0_meanDirt_0 rfl rfl ?_
  refine A_iconst (v := 0) dX0_meanDirt_1 (by decide) ?_
  refine A_aload_n (i := 0) dX0_meanDirt_2 rfl rfl ?_
  refine A_callV0 (b' := 0) hM tX1_meanDirt q1911 hX rfl rfl dX0_meanDirt_3 (Nat.le_refl _) (Nat.le_refl _) (Nat.le_of_ble_eq_true rfl) (fun w τ h => ?_) (fun E q τ h => ?_)
  · obtain ⟨⟨v, rfl⟩, ho⟩ := hv wσ _ _ h
    refine A_dast ho (by unfold vp_in; decide) dX0_meanDirt_6 ?_
    refine A_goto (tgt := 13) dX0_meanDirt_7 (by decide) ?_
    refine A_iconst (v := 0) dX0_meanDirt_13 (by decide) ?_
    exact A_iret dX0_meanDirt_14 rfl (hQ wσ _ _ (Or.inl ⟨v, τ, h, rfl, rfl⟩))
  · rcases hx _ _ _ h with rfl
    · refine A_catch (pre := []) (suf := []) (s9 := 0) (e9 := 7) (h9 := 10) (t9 := 20) rfl (fun z hz => by simp at hz) ⟨by decide, by decide⟩ (by decide) q1378 q1392 ?_
      refine A_astore_n (i := 2) dX0_meanDirt_10 rfl (Nat.le_of_ble_eq_true rfl) ?_
      refine A_iconst (v := 1) dX0_meanDirt_11 (by decide) ?_
      exact A_iret dX0_meanDirt_12 rfl (hQ wσ _ _ (Or.inr ⟨_, q, τ, 0, h, rfl, rfl, rfl⟩))
theorem w_writeFlag {l : Launch} {g : GC} (σ : AH) (x out : Nat) (a1 : Int32) (oa : Nat → Int64) (fs : List Value) {Qx : Option Value → AH → Prop} {Xx : String → Nat → AH → Prop} (hX : σ.1 x = some (.inr (.inl (0, fs)))) (hM : AMet l g mX1_writeFlag 10 306 [.ref x, .int a1] σ Qx Xx) (hv : wfh σ → ∀ w τ, Qx w τ → (∃ v, w = some (.int v)) ∧ τ.1 out = some (.inl (.long, 1, .inr (.inl oa)))) (hx : ∀ E q τ, Xx E q τ → E = "java/lang/IllegalStateException" ∨ E = "java/lang/IndexOutOfBoundsException") {Qf : Option Value → AH → Prop} (hQ : wfh σ → ∀ w τ, WQ Qx Xx ["java/lang/IllegalStateException", "java/lang/IndexOutOfBoundsException"] out oa w τ → Qf w τ) : AMet l g mX0_writeFlag 11 306 [.ref x, .int a1, .ref out] σ Qf A_no := by
  refine A_ofH rfl (by decide) (Nat.le_of_ble_eq_true rfl) (L0 := [(0, .ref x), (1, .int a1), (2, .ref out)]) rfl ?_
  refine A_wfh (fun wσ _ => ?_)
  refine A_aload_n (i := 2) dX0_writeFlag_0 rfl rfl ?_
  refine A_iconst (v := 0) dX0_writeFlag_1 (by decide) ?_
  refine A_aload_n (i := 0) dX0_writeFlag_2 rfl rfl ?_
  refine A_iload_n (i := 1) dX0_writeFlag_3 rfl rfl ?_
  refine A_callV1 (b' := 0) hM tX1_writeFlag q1924 hX rfl rfl dX0_writeFlag_4 (Nat.le_refl _) (Nat.le_refl _) (Nat.le_of_ble_eq_true rfl) (fun w τ h => ?_) (fun E q τ h => ?_)
  · obtain ⟨⟨v, rfl⟩, ho⟩ := hv wσ _ _ h
    refine A_i2l dX0_writeFlag_7 rfl ?_
    refine A_last ho (by unfold vp_in; decide) dX0_writeFlag_8 ?_
    refine A_goto (tgt := 18) dX0_writeFlag_9 (by decide) ?_
    refine A_iconst (v := 0) dX0_writeFlag_18 (by decide) ?_
    exact A_iret dX0_writeFlag_19 rfl (hQ wσ _ _ (Or.inl ⟨v, τ, h, rfl, rfl⟩))
  · rcases hx _ _ _ h with rfl | rfl
    · refine A_catch (pre := []) (suf := [(0, 9, 15, 13)]) (s9 := 0) (e9 := 9) (h9 := 12) (t9 := 20) rfl (fun z hz => by simp at hz) ⟨by decide, by decide⟩ (by decide) q1378 q1392 ?_
      refine A_astore_n (i := 3) dX0_writeFlag_12 rfl (Nat.le_of_ble_eq_true rfl) ?_
      refine A_iconst (v := 1) dX0_writeFlag_13 (by decide) ?_
      exact A_iret dX0_writeFlag_14 rfl (hQ wσ _ _ (Or.inr ⟨_, q, τ, 0, h, rfl, rfl, rfl⟩))
    · refine A_catch (pre := [(0, 9, 12, 20)]) (suf := []) (s9 := 0) (e9 := 9) (h9 := 15) (t9 := 13) rfl (by intro z hz; simp at hz; subst hz; exact Or.inr ⟨by decide, _, q1378, nx_BS⟩) ⟨by decide, by decide⟩ (by decide) q294 q386 ?_
      refine A_astore_n (i := 3) dX0_writeFlag_15 rfl (Nat.le_of_ble_eq_true rfl) ?_
      refine A_iconst (v := 2) dX0_writeFlag_16 (by decide) ?_
      exact A_iret dX0_writeFlag_17 rfl (hQ wσ _ _ (Or.inr ⟨_, q, τ, 1, h, rfl, rfl, rfl⟩))
theorem w_writeTub {l : Launch} {g : GC} (σ : AH) (x out : Nat) (a1 : Int32) (oa : Nat → Int64) (fs : List Value) {Qx : Option Value → AH → Prop} {Xx : String → Nat → AH → Prop} (hX : σ.1 x = some (.inr (.inl (0, fs)))) (hM : AMet l g mX1_writeTub 36 740 [.ref x, .int a1] σ Qx Xx) (hv : wfh σ → ∀ w τ, Qx w τ → (∃ v, w = some (.int v)) ∧ τ.1 out = some (.inl (.long, 1, .inr (.inl oa)))) (hx : ∀ E q τ, Xx E q τ → E = "java/lang/IllegalStateException" ∨ E = "java/lang/IndexOutOfBoundsException") {Qf : Option Value → AH → Prop} (hQ : wfh σ → ∀ w τ, WQ Qx Xx ["java/lang/IllegalStateException", "java/lang/IndexOutOfBoundsException"] out oa w τ → Qf w τ) : AMet l g mX0_writeTub 37 740 [.ref x, .int a1, .ref out] σ Qf A_no := by
  refine A_ofH rfl (by decide) (Nat.le_of_ble_eq_true rfl) (L0 := [(0, .ref x), (1, .int a1), (2, .ref out)]) rfl ?_
  refine A_wfh (fun wσ _ => ?_)
  refine A_aload_n (i := 2) dX0_writeTub_0 rfl rfl ?_
  refine A_iconst (v := 0) dX0_writeTub_1 (by decide) ?_
  refine A_aload_n (i := 0) dX0_writeTub_2 rfl rfl ?_
  refine A_iload_n (i := 1) dX0_writeTub_3 rfl rfl ?_
  refine A_callV1 (b' := 0) hM tX1_writeTub q1998 hX rfl rfl dX0_writeTub_4 (Nat.le_refl _) (Nat.le_refl _) (Nat.le_of_ble_eq_true rfl) (fun w τ h => ?_) (fun E q τ h => ?_)
  · obtain ⟨⟨v, rfl⟩, ho⟩ := hv wσ _ _ h
    refine A_i2l dX0_writeTub_7 rfl ?_
    refine A_last ho (by unfold vp_in; decide) dX0_writeTub_8 ?_
    refine A_goto (tgt := 18) dX0_writeTub_9 (by decide) ?_
    refine A_iconst (v := 0) dX0_writeTub_18 (by decide) ?_
    exact A_iret dX0_writeTub_19 rfl (hQ wσ _ _ (Or.inl ⟨v, τ, h, rfl, rfl⟩))
  · rcases hx _ _ _ h with rfl | rfl
    · refine A_catch (pre := []) (suf := [(0, 9, 15, 13)]) (s9 := 0) (e9 := 9) (h9 := 12) (t9 := 20) rfl (fun z hz => by simp at hz) ⟨by decide, by decide⟩ (by decide) q1378 q1392 ?_
      refine A_astore_n (i := 3) dX0_writeTub_12 rfl (Nat.le_of_ble_eq_true rfl) ?_
      refine A_iconst (v := 1) dX0_writeTub_13 (by decide) ?_
      exact A_iret dX0_writeTub_14 rfl (hQ wσ _ _ (Or.inr ⟨_, q, τ, 0, h, rfl, rfl, rfl⟩))
    · refine A_catch (pre := [(0, 9, 12, 20)]) (suf := []) (s9 := 0) (e9 := 9) (h9 := 15) (t9 := 13) rfl (by intro z hz; simp at hz; subst hz; exact Or.inr ⟨by decide, _, q1378, nx_BS⟩) ⟨by decide, by decide⟩ (by decide) q294 q386 ?_
      refine A_astore_n (i := 3) dX0_writeTub_15 rfl (Nat.le_of_ble_eq_true rfl) ?_
      refine A_iconst (v := 2) dX0_writeTub_16 (by decide) ?_
      exact A_iret dX0_writeTub_17 rfl (hQ wσ _ _ (Or.inr ⟨_, q, τ, 1, h, rfl, rfl, rfl⟩))
theorem w_writeNation {l : Launch} {g : GC} (σ : AH) (x out : Nat) (a1 : Int32) (oa : Nat → Int64) (fs : List Value) {Qx : Option Value → AH → Prop} {Xx : String → Nat → AH → Prop} (hX : σ.1 x = some (.inr (.inl (0, fs)))) (hM : AMet l g mX1_writeNation 14 920 [.ref x, .int a1] σ Qx Xx) (hv : wfh σ → ∀ w τ, Qx w τ → (∃ v, w = some (.int v)) ∧ τ.1 out = some (.inl (.long, 1, .inr (.inl oa)))) (hx : ∀ E q τ, Xx E q τ → E = "java/lang/IllegalStateException" ∨ E = "java/lang/IndexOutOfBoundsException") {Qf : Option Value → AH → Prop} (hQ : wfh σ → ∀ w τ, WQ Qx Xx ["java/lang/IllegalStateException", "java/lang/IndexOutOfBoundsException"] out oa w τ → Qf w τ) : AMet l g mX0_writeNation 15 920 [.ref x, .int a1, .ref out] σ Qf A_no := by
  refine A_ofH rfl (by decide) (Nat.le_of_ble_eq_true rfl) (L0 := [(0, .ref x), (1, .int a1), (2, .ref out)]) rfl ?_
  refine A_wfh (fun wσ _ => ?_)
  refine A_aload_n (i := 2) dX0_writeNation_0 rfl rfl ?_
  refine A_iconst (v := 0) dX0_writeNation_1 (by decide) ?_
  refine A_aload_n (i := 0) dX0_writeNation_2 rfl rfl ?_
  refine A_iload_n (i := 1) dX0_writeNation_3 rfl rfl ?_
  refine A_callV1 (b' := 0) hM tX1_writeNation q2005 hX rfl rfl dX0_writeNation_4 (Nat.le_refl _) (Nat.le_refl _) (Nat.le_of_ble_eq_true rfl) (fun w τ h => ?_) (fun E q τ h => ?_)
  · obtain ⟨⟨v, rfl⟩, ho⟩ := hv wσ _ _ h
    refine A_i2l dX0_writeNation_7 rfl ?_
    refine A_last ho (by unfold vp_in; decide) dX0_writeNation_8 ?_
    refine A_goto (tgt := 18) dX0_writeNation_9 (by decide) ?_
    refine A_iconst (v := 0) dX0_writeNation_18 (by decide) ?_
    exact A_iret dX0_writeNation_19 rfl (hQ wσ _ _ (Or.inl ⟨v, τ, h, rfl, rfl⟩))
  · rcases hx _ _ _ h with rfl | rfl
    · refine A_catch (pre := []) (suf := [(0, 9, 15, 13)]) (s9 := 0) (e9 := 9) (h9 := 12) (t9 := 20) rfl (fun z hz => by simp at hz) ⟨by decide, by decide⟩ (by decide) q1378 q1392 ?_
      refine A_astore_n (i := 3) dX0_writeNation_12 rfl (Nat.le_of_ble_eq_true rfl) ?_
      refine A_iconst (v := 1) dX0_writeNation_13 (by decide) ?_
      exact A_iret dX0_writeNation_14 rfl (hQ wσ _ _ (Or.inr ⟨_, q, τ, 0, h, rfl, rfl, rfl⟩))
    · refine A_catch (pre := [(0, 9, 12, 20)]) (suf := []) (s9 := 0) (e9 := 9) (h9 := 15) (t9 := 13) rfl (by intro z hz; simp at hz; subst hz; exact Or.inr ⟨by decide, _, q1378, nx_BS⟩) ⟨by decide, by decide⟩ (by decide) q294 q386 ?_
      refine A_astore_n (i := 3) dX0_writeNation_15 rfl (Nat.le_of_ble_eq_true rfl) ?_
      refine A_iconst (v := 2) dX0_writeNation_16 (by decide) ?_
      exact A_iret dX0_writeNation_17 rfl (hQ wσ _ _ (Or.inr ⟨_, q, τ, 1, h, rfl, rfl, rfl⟩))
theorem w_writeLine {l : Launch} {g : GC} (σ : AH) (x out : Nat) (oa : Nat → Int64) (fs : List Value) {Qx : Option Value → AH → Prop} {Xx : String → Nat → AH → Prop} (hX : σ.1 x = some (.inr (.inl (0, fs)))) (hM : AMet l g mX1_writeLine 9 306 [.ref x] σ Qx Xx) (hv : wfh σ → ∀ w τ, Qx w τ → (∃ v, w = some (.int v)) ∧ τ.1 out = some (.inl (.long, 1, .inr (.inl oa)))) (hx : ∀ E q τ, Xx E q τ → E = "java/lang/IllegalStateException") {Qf : Option Value → AH → Prop} (hQ : wfh σ → ∀ w τ, WQ Qx Xx ["java/lang/IllegalStateException"] out oa w τ → Qf w τ) : AMet l g mX0_writeLine 10 306 [.ref x, .ref out] σ Qf A_no := by
  refine A_ofH rfl (by decide) (Nat.le_of_ble_eq_true rfl) (L0 := [(0, .ref x), (1, .ref out)]) rfl ?_
  refine A_wfh (fun wσ _ => ?_)
  refine A_aload_n (i := 1) dX0_writeLine_0 rfl rfl ?_
  refine A_iconst (v := 0) dX0_writeLine_1 (by decide) ?_
  refine A_aload_n (i := 0) dX0_writeLine_2 rfl rfl ?_
  refine A_callV0 (b' := 0) hM tX1_writeLine q2012 hX rfl rfl dX0_writeLine_3 (Nat.le_refl _) (Nat.le_refl _) (Nat.le_of_ble_eq_true rfl) (fun w τ h => ?_) (fun E q τ h => ?_)
  · obtain ⟨⟨v, rfl⟩, ho⟩ := hv wσ _ _ h
    refine A_i2l dX0_writeLine_6 rfl ?_
    refine A_last ho (by unfold vp_in; decide) dX0_writeLine_7 ?_
    refine A_goto (tgt := 14) dX0_writeLine_8 (by decide) ?_
    refine A_iconst (v := 0) dX0_writeLine_14 (by decide) ?_
    exact A_iret dX0_writeLine_15 rfl (hQ wσ _ _ (Or.inl ⟨v, τ, h, rfl, rfl⟩))
  · rcases hx _ _ _ h with rfl
    · refine A_catch (pre := []) (suf := []) (s9 := 0) (e9 := 8) (h9 := 11) (t9 := 20) rfl (fun z hz => by simp at hz) ⟨by decide, by decide⟩ (by decide) q1378 q1392 ?_
      refine A_astore_n (i := 2) dX0_writeLine_11 rfl (Nat.le_of_ble_eq_true rfl) ?_
      refine A_iconst (v := 1) dX0_writeLine_12 (by decide) ?_
      exact A_iret dX0_writeLine_13 rfl (hQ wσ _ _ (Or.inr ⟨_, q, τ, 0, h, rfl, rfl, rfl⟩))
theorem w_textByte {l : Launch} {g : GC} (σ : AH) (x out : Nat) (a1 : Int32) (oa : Nat → Int64) (fs : List Value) {Qx : Option Value → AH → Prop} {Xx : String → Nat → AH → Prop} (hX : σ.1 x = some (.inr (.inl (0, fs)))) (hM : AMet l g mX1_textByte 8 2 [.ref x, .int a1] σ Qx Xx) (hv : wfh σ → ∀ w τ, Qx w τ → (∃ v, w = some (.int v)) ∧ τ.1 out = some (.inl (.long, 1, .inr (.inl oa)))) (hx : ∀ E q τ, Xx E q τ → E = "java/lang/IndexOutOfBoundsException") {Qf : Option Value → AH → Prop} (hQ : wfh σ → ∀ w τ, WQ Qx Xx ["java/lang/IndexOutOfBoundsException"] out oa w τ → Qf w τ) : AMet l g mX0_textByte 9 2 [.ref x, .int a1, .ref out] σ Qf A_no := by
  refine A_ofH rfl (by decide) (Nat.le_of_ble_eq_true rfl) (L0 := [(0, .ref x), (1, .int a1), (2, .ref out)]) rfl ?_
  refine A_wfh (fun wσ _ => ?_)
  refine A_aload_n (i := 2) dX0_textByte_0 rfl rfl ?_
  refine A_iconst (v := 0) dX0_textByte_1 (by decide) ?_
  refine A_aload_n (i := 0) dX0_textByte_2 rfl rfl ?_
  refine A_iload_n (i := 1) dX0_textByte_3 rfl rfl ?_
  refine A_callV1 (b' := 0) hM tX1_textByte q2019 hX rfl rfl dX0_textByte_4 (Nat.le_refl _) (Nat.le_refl _) (Nat.le_of_ble_eq_true rfl) (fun w τ h => ?_) (fun E q τ h => ?_)
  · obtain ⟨⟨v, rfl⟩, ho⟩ := hv wσ _ _ h
    refine A_i2l dX0_textByte_7 rfl ?_
    refine A_last ho (by unfold vp_in; decide) dX0_textByte_8 ?_
    refine A_goto (tgt := 15) dX0_textByte_9 (by decide) ?_
    refine A_iconst (v := 0) dX0_textByte_15 (by decide) ?_
    exact A_iret dX0_textByte_16 rfl (hQ wσ _ _ (Or.inl ⟨v, τ, h, rfl, rfl⟩))
  · rcases hx _ _ _ h with rfl
    · refine A_catch (pre := []) (suf := []) (s9 := 0) (e9 := 9) (h9 := 12) (t9 := 13) rfl (fun z hz => by simp at hz) ⟨by decide, by decide⟩ (by decide) q294 q386 ?_
      refine A_astore_n (i := 3) dX0_textByte_12 rfl (Nat.le_of_ble_eq_true rfl) ?_
      refine A_iconst (v := 1) dX0_textByte_13 (by decide) ?_
      exact A_iret dX0_textByte_14 rfl (hQ wσ _ _ (Or.inr ⟨_, q, τ, 0, h, rfl, rfl, rfl⟩))
theorem w_put {l : Launch} {g : GC} (σ : AH) (x out : Nat) (a1 a2 : Int32) (oa : Nat → Int64) (fs : List Value) {Qx : Option Value → AH → Prop} {Xx : String → Nat → AH → Prop} (hX : σ.1 x = some (.inr (.inl (0, fs)))) (hM : AMet l g mX1_put 45 77 [.ref x, .int a1, .int a2] σ Qx Xx) (hv : wfh σ → ∀ w τ, Qx w τ → (∃ v, w = some (.int v)) ∧ τ.1 out = some (.inl (.long, 1, .inr (.inl oa)))) (hx : ∀ E q τ, Xx E q τ → E = "java/lang/IllegalStateException" ∨ E = "java/lang/IndexOutOfBoundsException" ∨ E = "java/lang/IllegalArgumentException") {Qf : Option Value → AH → Prop} (hQ : wfh σ → ∀ w τ, WQ Qx Xx ["java/lang/IllegalStateException", "java/lang/IndexOutOfBoundsException", "java/lang/IllegalArgumentException"] out oa w τ → Qf w τ) : AMet l g mX0_put 46 77 [.ref x, .int a1, .int a2, .ref out] σ Qf A_no := by
  refine A_ofH rfl (by decide) (Nat.le_of_ble_eq_true rfl) (L0 := [(0, .ref x), (1, .int a1), (2, .int a2), (3, .ref out)]) rfl ?_
  refine A_wfh (fun wσ _ => ?_)
  refine A_aload_n (i := 3) dX0_put_0 rfl rfl ?_
  refine A_iconst (v := 0) dX0_put_1 (by decide) ?_
  refine A_aload_n (i := 0) dX0_put_2 rfl rfl ?_
  refine A_iload_n (i := 1) dX0_put_3 rfl rfl ?_
  refine A_iload_n (i := 2) dX0_put_4 rfl rfl ?_
  refine A_callV2 (b' := 0) hM tX1_put q2036 hX rfl rfl dX0_put_5 (Nat.le_refl _) (Nat.le_refl _) (Nat.le_of_ble_eq_true rfl) (fun w τ h => ?_) (fun E q τ h => ?_)
  · obtain ⟨⟨v, rfl⟩, ho⟩ := hv wσ _ _ h
    refine A_i2l dX0_put_8 rfl ?_
    refine A_last ho (by unfold vp_in; decide) dX0_put_9 ?_
    refine A_goto (tgt := 25) dX0_put_10 (by decide) ?_
    refine A_iconst (v := 0) dX0_put_25 (by decide) ?_
    exact A_iret dX0_put_26 rfl (hQ wσ _ _ (Or.inl ⟨v, τ, h, rfl, rfl⟩))
  · rcases hx _ _ _ h with rfl | rfl | rfl
    · refine A_catch (pre := []) (suf := [(0, 10, 17, 13), (0, 10, 21, 15)]) (s9 := 0) (e9 := 10) (h9 := 13) (t9 := 20) rfl (fun z hz => by simp at hz) ⟨by decide, by decide⟩ (by decide) q1378 q1392 ?_
      refine A_astore dX0_put_13 (Nat.le_of_ble_eq_true rfl) ?_
      refine A_iconst (v := 1) dX0_put_15 (by decide) ?_
      exact A_iret dX0_put_16 rfl (hQ wσ _ _ (Or.inr ⟨_, q, τ, 0, h, rfl, rfl, rfl⟩))
    · refine A_catch (pre := [(0, 10, 13, 20)]) (suf := [(0, 10, 21, 15)]) (s9 := 0) (e9 := 10) (h9 := 17) (t9 := 13) rfl (by intro z hz; simp at hz; subst hz; exact Or.inr ⟨by decide, _, q1378, nx_BS⟩) ⟨by decide, by decide⟩ (by decide) q294 q386 ?_
      refine A_astore dX0_put_17 (Nat.le_of_ble_eq_true rfl) ?_
      refine A_iconst (v := 2) dX0_put_19 (by decide) ?_
      exact A_iret dX0_put_20 rfl (hQ wσ _ _ (Or.inr ⟨_, q, τ, 1, h, rfl, rfl, rfl⟩))
    · refine A_catch (pre := [(0, 10, 13, 20), (0, 10, 17, 13)]) (suf := []) (s9 := 0) (e9 := 10) (h9 := 21) (t9 := 15) rfl (by intro z hz; simp at hz; rcases hz with rfl | rfl; exact Or.inr ⟨by decide, _, q1378, nx_AS⟩; exact Or.inr ⟨by decide, _, q294, nx_AB⟩) ⟨by decide, by decide⟩ (by decide) q372 q567 ?_
      refine A_astore dX0_put_21 (Nat.le_of_ble_eq_true rfl) ?_
      refine A_iconst (v := 3) dX0_put_23 (by decide) ?_
      exact A_iret dX0_put_24 rfl (hQ wσ _ _ (Or.inr ⟨_, q, τ, 2, h, rfl, rfl, rfl⟩))
theorem w_wash {l : Launch} {g : GC} (σ : AH) (x out : Nat) (a1 a2 : Int32) (oa : Nat → Int64) (fs : List Value) {Qx : Option Value → AH → Prop} {Xx : String → Nat → AH → Prop} (hX : σ.1 x = some (.inr (.inl (0, fs)))) (hM : AMet l g mX1_wash 36 83 [.ref x, .int a1, .int a2] σ Qx Xx) (hv : wfh σ → ∀ w τ, Qx w τ → (∃ v, w = some (.int v)) ∧ τ.1 out = some (.inl (.long, 1, .inr (.inl oa)))) (hx : ∀ E q τ, Xx E q τ → E = "java/lang/IllegalStateException" ∨ E = "java/lang/IndexOutOfBoundsException" ∨ E = "java/lang/IllegalArgumentException") {Qf : Option Value → AH → Prop} (hQ : wfh σ → ∀ w τ, WQ Qx Xx ["java/lang/IllegalStateException", "java/lang/IndexOutOfBoundsException", "java/lang/IllegalArgumentException"] out oa w τ → Qf w τ) : AMet l g mX0_wash 37 83 [.ref x, .int a1, .int a2, .ref out] σ Qf A_no := by
  refine A_ofH rfl (by decide) (Nat.le_of_ble_eq_true rfl) (L0 := [(0, .ref x), (1, .int a1), (2, .int a2), (3, .ref out)]) rfl ?_
  refine A_wfh (fun wσ _ => ?_)
  refine A_aload_n (i := 3) dX0_wash_0 rfl rfl ?_
  refine A_iconst (v := 0) dX0_wash_1 (by decide) ?_
  refine A_aload_n (i := 0) dX0_wash_2 rfl rfl ?_
  refine A_iload_n (i := 1) dX0_wash_3 rfl rfl ?_
  refine A_iload_n (i := 2) dX0_wash_4 rfl rfl ?_
  refine A_callV2 (b' := 0) hM tX1_wash q2084 hX rfl rfl dX0_wash_5 (Nat.le_refl _) (Nat.le_refl _) (Nat.le_of_ble_eq_true rfl) (fun w τ h => ?_) (fun E q τ h => ?_)
  · obtain ⟨⟨v, rfl⟩, ho⟩ := hv wσ _ _ h
    refine A_i2l dX0_wash_8 rfl ?_
    refine A_last ho (by unfold vp_in; decide) dX0_wash_9 ?_
    refine A_goto (tgt := 25) dX0_wash_10 (by decide) ?_
    refine A_iconst (v := 0) dX0_wash_25 (by decide) ?_
    exact A_iret dX0_wash_26 rfl (hQ wσ _ _ (Or.inl ⟨v, τ, h, rfl, rfl⟩))
  · rcases hx _ _ _ h with rfl | rfl | rfl
    · refine A_catch (pre := []) (suf := [(0, 10, 17, 13), (0, 10, 21, 15)]) (s9 := 0) (e9 := 10) (h9 := 13) (t9 := 20) rfl (fun z hz => by simp at hz) ⟨by decide, by decide⟩ (by decide) q1378 q1392 ?_
      refine A_astore dX0_wash_13 (Nat.le_of_ble_eq_true rfl) ?_
      refine A_iconst (v := 1) dX0_wash_15 (by decide) ?_
      exact A_iret dX0_wash_16 rfl (hQ wσ _ _ (Or.inr ⟨_, q, τ, 0, h, rfl, rfl, rfl⟩))
    · refine A_catch (pre := [(0, 10, 13, 20)]) (suf := [(0, 10, 21, 15)]) (s9 := 0) (e9 := 10) (h9 := 17) (t9 := 13) rfl (by intro z hz; simp at hz; subst hz; exact Or.inr ⟨by decide, _, q1378, nx_BS⟩) ⟨by decide, by decide⟩ (by decide) q294 q386 ?_
      refine A_astore dX0_wash_17 (Nat.le_of_ble_eq_true rfl) ?_
      refine A_iconst (v := 2) dX0_wash_19 (by decide) ?_
      exact A_iret dX0_wash_20 rfl (hQ wσ _ _ (Or.inr ⟨_, q, τ, 1, h, rfl, rfl, rfl⟩))
    · refine A_catch (pre := [(0, 10, 13, 20), (0, 10, 17, 13)]) (suf := []) (s9 := 0) (e9 := 10) (h9 := 21) (t9 := 15) rfl (by intro z hz; simp at hz; rcases hz with rfl | rfl; exact Or.inr ⟨by decide, _, q1378, nx_AS⟩; exact Or.inr ⟨by decide, _, q294, nx_AB⟩) ⟨by decide, by decide⟩ (by decide) q372 q567 ?_
      refine A_astore dX0_wash_21 (Nat.le_of_ble_eq_true rfl) ?_
      refine A_iconst (v := 3) dX0_wash_23 (by decide) ?_
      exact A_iret dX0_wash_24 rfl (hQ wσ _ _ (Or.inr ⟨_, q, τ, 2, h, rfl, rfl, rfl⟩))
theorem w_hang {l : Launch} {g : GC} (σ : AH) (x out : Nat) (a1 : Int32) (oa : Nat → Int64) (fs : List Value) {Qx : Option Value → AH → Prop} {Xx : String → Nat → AH → Prop} (hX : σ.1 x = some (.inr (.inl (0, fs)))) (hM : AMet l g mX1_hang 10 73 [.ref x, .int a1] σ Qx Xx) (hv : wfh σ → ∀ w τ, Qx w τ → (∃ v, w = some (.int v)) ∧ τ.1 out = some (.inl (.long, 1, .inr (.inl oa)))) (hx : ∀ E q τ, Xx E q τ → E = "java/lang/IllegalStateException" ∨ E = "java/lang/IndexOutOfBoundsException" ∨ E = "java/lang/IllegalArgumentException") {Qf : Option Value → AH → Prop} (hQ : wfh σ → ∀ w τ, WQ Qx Xx ["java/lang/IllegalStateException", "java/lang/IndexOutOfBoundsException", "java/lang/IllegalArgumentException"] out oa w τ → Qf w τ) : AMet l g mX0_hang 11 73 [.ref x, .int a1, .ref out] σ Qf A_no := by
  refine A_ofH rfl (by decide) (Nat.le_of_ble_eq_true rfl) (L0 := [(0, .ref x), (1, .int a1), (2, .ref out)]) rfl ?_
  refine A_wfh (fun wσ _ => ?_)
  refine A_aload_n (i := 2) dX0_hang_0 rfl rfl ?_
  refine A_iconst (v := 0) dX0_hang_1 (by decide) ?_
  refine A_aload_n (i := 0) dX0_hang_2 rfl rfl ?_
  refine A_iload_n (i := 1) dX0_hang_3 rfl rfl ?_
  refine A_callV1 (b' := 0) hM tX1_hang q2092 hX rfl rfl dX0_hang_4 (Nat.le_refl _) (Nat.le_refl _) (Nat.le_of_ble_eq_true rfl) (fun w τ h => ?_) (fun E q τ h => ?_)
  · obtain ⟨⟨v, rfl⟩, ho⟩ := hv wσ _ _ h
    refine A_i2l dX0_hang_7 rfl ?_
    refine A_last ho (by unfold vp_in; decide) dX0_hang_8 ?_
    refine A_goto (tgt := 21) dX0_hang_9 (by decide) ?_
    refine A_iconst (v := 0) dX0_hang_21 (by decide) ?_
    exact A_iret dX0_hang_22 rfl (hQ wσ _ _ (Or.inl ⟨v, τ, h, rfl, rfl⟩))
  · rcases hx _ _ _ h with rfl | rfl | rfl
    · refine A_catch (pre := []) (suf := [(0, 9, 15, 13), (0, 9, 18, 15)]) (s9 := 0) (e9 := 9) (h9 := 12) (t9 := 20) rfl (fun z hz => by simp at hz) ⟨by decide, by decide⟩ (by decide) q1378 q1392 ?_
      refine A_astore_n (i := 3) dX0_hang_12 rfl (Nat.le_of_ble_eq_true rfl) ?_
      refine A_iconst (v := 1) dX0_hang_13 (by decide) ?_
      exact A_iret dX0_hang_14 rfl (hQ wσ _ _ (Or.inr ⟨_, q, τ, 0, h, rfl, rfl, rfl⟩))
    · refine A_catch (pre := [(0, 9, 12, 20)]) (suf := [(0, 9, 18, 15)]) (s9 := 0) (e9 := 9) (h9 := 15) (t9 := 13) rfl (by intro z hz; simp at hz; subst hz; exact Or.inr ⟨by decide, _, q1378, nx_BS⟩) ⟨by decide, by decide⟩ (by decide) q294 q386 ?_
      refine A_astore_n (i := 3) dX0_hang_15 rfl (Nat.le_of_ble_eq_true rfl) ?_
      refine A_iconst (v := 2) dX0_hang_16 (by decide) ?_
      exact A_iret dX0_hang_17 rfl (hQ wσ _ _ (Or.inr ⟨_, q, τ, 1, h, rfl, rfl, rfl⟩))
    · refine A_catch (pre := [(0, 9, 12, 20), (0, 9, 15, 13)]) (suf := []) (s9 := 0) (e9 := 9) (h9 := 18) (t9 := 15) rfl (by intro z hz; simp at hz; rcases hz with rfl | rfl; exact Or.inr ⟨by decide, _, q1378, nx_AS⟩; exact Or.inr ⟨by decide, _, q294, nx_AB⟩) ⟨by decide, by decide⟩ (by decide) q372 q567 ?_
      refine A_astore_n (i := 3) dX0_hang_18 rfl (Nat.le_of_ble_eq_true rfl) ?_
      refine A_iconst (v := 3) dX0_hang_19 (by decide) ?_
      exact A_iret dX0_hang_20 rfl (hQ wσ _ _ (Or.inr ⟨_, q, τ, 2, h, rfl, rfl, rfl⟩))
theorem w_hangAll {l : Launch} {g : GC} (σ : AH) (x out : Nat) (oa : Nat → Int64) (fs : List Value) {Qx : Option Value → AH → Prop} {Xx : String → Nat → AH → Prop} (hX : σ.1 x = some (.inr (.inl (0, fs)))) (hM : AMet l g mX1_hangAll 10 83 [.ref x] σ Qx Xx) (hv : wfh σ → ∀ w τ, Qx w τ → (∃ v, w = some (.int v)) ∧ τ.1 out = some (.inl (.long, 1, .inr (.inl oa)))) (hx : ∀ E q τ, Xx E q τ → E = "java/lang/IllegalStateException") {Qf : Option Value → AH → Prop} (hQ : wfh σ → ∀ w τ, WQ Qx Xx ["java/lang/IllegalStateException"] out oa w τ → Qf w τ) : AMet l g mX0_hangAll 11 83 [.ref x, .ref out] σ Qf A_no := by
  refine A_ofH rfl (by decide) (Nat.le_of_ble_eq_true rfl) (L0 := [(0, .ref x), (1, .ref out)]) rfl ?_
  refine A_wfh (fun wσ _ => ?_)
  refine A_aload_n (i := 1) dX0_hangAll_0 rfl rfl ?_
  refine A_iconst (v := 0) dX0_hangAll_1 (by decide) ?_
  refine A_aload_n (i := 0) dX0_hangAll_2 rfl rfl ?_
  refine A_callV0 (b' := 0) hM tX1_hangAll q2101 hX rfl rfl dX0_hangAll_3 (Nat.le_refl _) (Nat.le_refl _) (Nat.le_of_ble_eq_true rfl) (fun w τ h => ?_) (fun E q τ h => ?_)
  · obtain ⟨⟨v, rfl⟩, ho⟩ := hv wσ _ _ h
    refine A_i2l dX0_hangAll_6 rfl ?_
    refine A_last ho (by unfold vp_in; decide) dX0_hangAll_7 ?_
    refine A_goto (tgt := 14) dX0_hangAll_8 (by decide) ?_
    refine A_iconst (v := 0) dX0_hangAll_14 (by decide) ?_
    exact A_iret dX0_hangAll_15 rfl (hQ wσ _ _ (Or.inl ⟨v, τ, h, rfl, rfl⟩))
  · rcases hx _ _ _ h with rfl
    · refine A_catch (pre := []) (suf := []) (s9 := 0) (e9 := 8) (h9 := 11) (t9 := 20) rfl (fun z hz => by simp at hz) ⟨by decide, by decide⟩ (by decide) q1378 q1392 ?_
      refine A_astore_n (i := 2) dX0_hangAll_11 rfl (Nat.le_of_ble_eq_true rfl) ?_
      refine A_iconst (v := 1) dX0_hangAll_12 (by decide) ?_
      exact A_iret dX0_hangAll_13 rfl (hQ wσ _ _ (Or.inr ⟨_, q, τ, 0, h, rfl, rfl, rfl⟩))
theorem w_takeDown {l : Launch} {g : GC} (σ : AH) (x out : Nat) (a1 : Int32) (oa : Nat → Int64) (fs : List Value) {Qx : Option Value → AH → Prop} {Xx : String → Nat → AH → Prop} (hX : σ.1 x = some (.inr (.inl (0, fs)))) (hM : AMet l g mX1_takeDown 10 71 [.ref x, .int a1] σ Qx Xx) (hv : wfh σ → ∀ w τ, Qx w τ → (∃ v, w = some (.int v)) ∧ τ.1 out = some (.inl (.long, 1, .inr (.inl oa)))) (hx : ∀ E q τ, Xx E q τ → E = "java/lang/IllegalStateException" ∨ E = "java/lang/IndexOutOfBoundsException" ∨ E = "java/lang/IllegalArgumentException") {Qf : Option Value → AH → Prop} (hQ : wfh σ → ∀ w τ, WQ Qx Xx ["java/lang/IllegalStateException", "java/lang/IndexOutOfBoundsException", "java/lang/IllegalArgumentException"] out oa w τ → Qf w τ) : AMet l g mX0_takeDown 11 71 [.ref x, .int a1, .ref out] σ Qf A_no := by
  refine A_ofH rfl (by decide) (Nat.le_of_ble_eq_true rfl) (L0 := [(0, .ref x), (1, .int a1), (2, .ref out)]) rfl ?_
  refine A_wfh (fun wσ _ => ?_)
  refine A_aload_n (i := 2) dX0_takeDown_0 rfl rfl ?_
  refine A_iconst (v := 0) dX0_takeDown_1 (by decide) ?_
  refine A_aload_n (i := 0) dX0_takeDown_2 rfl rfl ?_
  refine A_iload_n (i := 1) dX0_takeDown_3 rfl rfl ?_
  refine A_callV1 (b' := 0) hM tX1_takeDown q2108 hX rfl rfl dX0_takeDown_4 (Nat.le_refl _) (Nat.le_refl _) (Nat.le_of_ble_eq_true rfl) (fun w τ h => ?_) (fun E q τ h => ?_)
  · obtain ⟨⟨v, rfl⟩, ho⟩ := hv wσ _ _ h
    refine A_i2l dX0_takeDown_7 rfl ?_
    refine A_last ho (by unfold vp_in; decide) dX0_takeDown_8 ?_
    refine A_goto (tgt := 21) dX0_takeDown_9 (by decide) ?_
    refine A_iconst (v := 0) dX0_takeDown_21 (by decide) ?_
    exact A_iret dX0_takeDown_22 rfl (hQ wσ _ _ (Or.inl ⟨v, τ, h, rfl, rfl⟩))
  · rcases hx _ _ _ h with rfl | rfl | rfl
    · refine A_catch (pre := []) (suf := [(0, 9, 15, 13), (0, 9, 18, 15)]) (s9 := 0) (e9 := 9) (h9 := 12) (t9 := 20) rfl (fun z hz => by simp at hz) ⟨by decide, by decide⟩ (by decide) q1378 q1392 ?_
      refine A_astore_n (i := 3) dX0_takeDown_12 rfl (Nat.le_of_ble_eq_true rfl) ?_
      refine A_iconst (v := 1) dX0_takeDown_13 (by decide) ?_
      exact A_iret dX0_takeDown_14 rfl (hQ wσ _ _ (Or.inr ⟨_, q, τ, 0, h, rfl, rfl, rfl⟩))
    · refine A_catch (pre := [(0, 9, 12, 20)]) (suf := [(0, 9, 18, 15)]) (s9 := 0) (e9 := 9) (h9 := 15) (t9 := 13) rfl (by intro z hz; simp at hz; subst hz; exact Or.inr ⟨by decide, _, q1378, nx_BS⟩) ⟨by decide, by decide⟩ (by decide) q294 q386 ?_
      refine A_astore_n (i := 3) dX0_takeDown_15 rfl (Nat.le_of_ble_eq_true rfl) ?_
      refine A_iconst (v := 2) dX0_takeDown_16 (by decide) ?_
      exact A_iret dX0_takeDown_17 rfl (hQ wσ _ _ (Or.inr ⟨_, q, τ, 1, h, rfl, rfl, rfl⟩))
    · refine A_catch (pre := [(0, 9, 12, 20), (0, 9, 15, 13)]) (suf := []) (s9 := 0) (e9 := 9) (h9 := 18) (t9 := 15) rfl (by intro z hz; simp at hz; rcases hz with rfl | rfl; exact Or.inr ⟨by decide, _, q1378, nx_AS⟩; exact Or.inr ⟨by decide, _, q294, nx_AB⟩) ⟨by decide, by decide⟩ (by decide) q372 q567 ?_
      refine A_astore_n (i := 3) dX0_takeDown_18 rfl (Nat.le_of_ble_eq_true rfl) ?_
      refine A_iconst (v := 3) dX0_takeDown_19 (by decide) ?_
      exact A_iret dX0_takeDown_20 rfl (hQ wσ _ _ (Or.inr ⟨_, q, τ, 2, h, rfl, rfl, rfl⟩))
theorem w_clearTub {l : Launch} {g : GC} (σ : AH) (x out : Nat) (a1 : Int32) (oa : Nat → Int64) (fs : List Value) {Qx : Option Value → AH → Prop} {Xx : String → Nat → AH → Prop} (hX : σ.1 x = some (.inr (.inl (0, fs)))) (hM : AMet l g mX1_clearTub 34 84 [.ref x, .int a1] σ Qx Xx) (hv : wfh σ → ∀ w τ, Qx w τ → (∃ v, w = some (.int v)) ∧ τ.1 out = some (.inl (.long, 1, .inr (.inl oa)))) (hx : ∀ E q τ, Xx E q τ → E = "java/lang/IllegalStateException" ∨ E = "java/lang/IndexOutOfBoundsException") {Qf : Option Value → AH → Prop} (hQ : wfh σ → ∀ w τ, WQ Qx Xx ["java/lang/IllegalStateException", "java/lang/IndexOutOfBoundsException"] out oa w τ → Qf w τ) : AMet l g mX0_clearTub 35 84 [.ref x, .int a1, .ref out] σ Qf A_no := by
  refine A_ofH rfl (by decide) (Nat.le_of_ble_eq_true rfl) (L0 := [(0, .ref x), (1, .int a1), (2, .ref out)]) rfl ?_
  refine A_wfh (fun wσ _ => ?_)
  refine A_aload_n (i := 2) dX0_clearTub_0 rfl rfl ?_
  refine A_iconst (v := 0) dX0_clearTub_1 (by decide) ?_
  refine A_aload_n (i := 0) dX0_clearTub_2 rfl rfl ?_
  refine A_iload_n (i := 1) dX0_clearTub_3 rfl rfl ?_
  refine A_callV1 (b' := 0) hM tX1_clearTub q2116 hX rfl rfl dX0_clearTub_4 (Nat.le_refl _) (Nat.le_refl _) (Nat.le_of_ble_eq_true rfl) (fun w τ h => ?_) (fun E q τ h => ?_)
  · obtain ⟨⟨v, rfl⟩, ho⟩ := hv wσ _ _ h
    refine A_i2l dX0_clearTub_7 rfl ?_
    refine A_last ho (by unfold vp_in; decide) dX0_clearTub_8 ?_
    refine A_goto (tgt := 18) dX0_clearTub_9 (by decide) ?_
    refine A_iconst (v := 0) dX0_clearTub_18 (by decide) ?_
    exact A_iret dX0_clearTub_19 rfl (hQ wσ _ _ (Or.inl ⟨v, τ, h, rfl, rfl⟩))
  · rcases hx _ _ _ h with rfl | rfl
    · refine A_catch (pre := []) (suf := [(0, 9, 15, 13)]) (s9 := 0) (e9 := 9) (h9 := 12) (t9 := 20) rfl (fun z hz => by simp at hz) ⟨by decide, by decide⟩ (by decide) q1378 q1392 ?_
      refine A_astore_n (i := 3) dX0_clearTub_12 rfl (Nat.le_of_ble_eq_true rfl) ?_
      refine A_iconst (v := 1) dX0_clearTub_13 (by decide) ?_
      exact A_iret dX0_clearTub_14 rfl (hQ wσ _ _ (Or.inr ⟨_, q, τ, 0, h, rfl, rfl, rfl⟩))
    · refine A_catch (pre := [(0, 9, 12, 20)]) (suf := []) (s9 := 0) (e9 := 9) (h9 := 15) (t9 := 13) rfl (by intro z hz; simp at hz; subst hz; exact Or.inr ⟨by decide, _, q1378, nx_BS⟩) ⟨by decide, by decide⟩ (by decide) q294 q386 ?_
      refine A_astore_n (i := 3) dX0_clearTub_15 rfl (Nat.le_of_ble_eq_true rfl) ?_
      refine A_iconst (v := 2) dX0_clearTub_16 (by decide) ?_
      exact A_iret dX0_clearTub_17 rfl (hQ wσ _ _ (Or.inr ⟨_, q, τ, 1, h, rfl, rfl, rfl⟩))
theorem w_iron {l : Launch} {g : GC} (σ : AH) (x out : Nat) (a1 a2 : Int32) (oa : Nat → Int64) (fs : List Value) {Qx : Option Value → AH → Prop} {Xx : String → Nat → AH → Prop} (hX : σ.1 x = some (.inr (.inl (0, fs)))) (hM : AMet l g mX1_iron 16 71 [.ref x, .int a1, .int a2] σ Qx Xx) (hv : wfh σ → ∀ w τ, Qx w τ → (∃ v, w = some (.int v)) ∧ τ.1 out = some (.inl (.long, 1, .inr (.inl oa)))) (hx : ∀ E q τ, Xx E q τ → E = "java/lang/IllegalStateException" ∨ E = "java/lang/IndexOutOfBoundsException" ∨ E = "java/lang/IllegalArgumentException") {Qf : Option Value → AH → Prop} (hQ : wfh σ → ∀ w τ, WQ Qx Xx ["java/lang/IllegalStateException", "java/lang/IndexOutOfBoundsException", "java/lang/IllegalArgumentException"] out oa w τ → Qf w τ) : AMet l g mX0_iron 17 71 [.ref x, .int a1, .int a2, .ref out] σ Qf A_no := by
  refine A_ofH rfl (by decide) (Nat.le_of_ble_eq_true rfl) (L0 := [(0, .ref x), (1, .int a1), (2, .int a2), (3, .ref out)]) rfl ?_
  refine A_wfh (fun wσ _ => ?_)
  refine A_aload_n (i := 3) dX0_iron_0 rfl rfl ?_
  refine A_iconst (v := 0) dX0_iron_1 (by decide) ?_
  refine A_aload_n (i := 0) dX0_iron_2 rfl rfl ?_
  refine A_iload_n (i := 1) dX0_iron_3 rfl rfl ?_
  refine A_iload_n (i := 2) dX0_iron_4 rfl rfl ?_
  refine A_callV2 (b' := 0) hM tX1_iron q2124 hX rfl rfl dX0_iron_5 (Nat.le_refl _) (Nat.le_refl _) (Nat.le_of_ble_eq_true rfl) (fun w τ h => ?_) (fun E q τ h => ?_)
  · obtain ⟨⟨v, rfl⟩, ho⟩ := hv wσ _ _ h
    refine A_i2l dX0_iron_8 rfl ?_
    refine A_last ho (by unfold vp_in; decide) dX0_iron_9 ?_
    refine A_goto (tgt := 25) dX0_iron_10 (by decide) ?_
    refine A_iconst (v := 0) dX0_iron_25 (by decide) ?_
    exact A_iret dX0_iron_26 rfl (hQ wσ _ _ (Or.inl ⟨v, τ, h, rfl, rfl⟩))
  · rcases hx _ _ _ h with rfl | rfl | rfl
    · refine A_catch (pre := []) (suf := [(0, 10, 17, 13), (0, 10, 21, 15)]) (s9 := 0) (e9 := 10) (h9 := 13) (t9 := 20) rfl (fun z hz => by simp at hz) ⟨by decide, by decide⟩ (by decide) q1378 q1392 ?_
      refine A_astore dX0_iron_13 (Nat.le_of_ble_eq_true rfl) ?_
      refine A_iconst (v := 1) dX0_iron_15 (by decide) ?_
      exact A_iret dX0_iron_16 rfl (hQ wσ _ _ (Or.inr ⟨_, q, τ, 0, h, rfl, rfl, rfl⟩))
    · refine A_catch (pre := [(0, 10, 13, 20)]) (suf := [(0, 10, 21, 15)]) (s9 := 0) (e9 := 10) (h9 := 17) (t9 := 13) rfl (by intro z hz; simp at hz; subst hz; exact Or.inr ⟨by decide, _, q1378, nx_BS⟩) ⟨by decide, by decide⟩ (by decide) q294 q386 ?_
      refine A_astore dX0_iron_17 (Nat.le_of_ble_eq_true rfl) ?_
      refine A_iconst (v := 2) dX0_iron_19 (by decide) ?_
      exact A_iret dX0_iron_20 rfl (hQ wσ _ _ (Or.inr ⟨_, q, τ, 1, h, rfl, rfl, rfl⟩))
    · refine A_catch (pre := [(0, 10, 13, 20), (0, 10, 17, 13)]) (suf := []) (s9 := 0) (e9 := 10) (h9 := 21) (t9 := 15) rfl (by intro z hz; simp at hz; rcases hz with rfl | rfl; exact Or.inr ⟨by decide, _, q1378, nx_AS⟩; exact Or.inr ⟨by decide, _, q294, nx_AB⟩) ⟨by decide, by decide⟩ (by decide) q372 q567 ?_
      refine A_astore dX0_iron_21 (Nat.le_of_ble_eq_true rfl) ?_
      refine A_iconst (v := 3) dX0_iron_23 (by decide) ?_
      exact A_iret dX0_iron_24 rfl (hQ wσ _ _ (Or.inr ⟨_, q, τ, 2, h, rfl, rfl, rfl⟩))
theorem w_bleach {l : Launch} {g : GC} (σ : AH) (x out : Nat) (a1 : Int32) (oa : Nat → Int64) (fs : List Value) {Qx : Option Value → AH → Prop} {Xx : String → Nat → AH → Prop} (hX : σ.1 x = some (.inr (.inl (0, fs)))) (hM : AMet l g mX1_bleach 16 72 [.ref x, .int a1] σ Qx Xx) (hv : wfh σ → ∀ w τ, Qx w τ → (∃ v, w = some (.int v)) ∧ τ.1 out = some (.inl (.long, 1, .inr (.inl oa)))) (hx : ∀ E q τ, Xx E q τ → E = "java/lang/IllegalStateException" ∨ E = "java/lang/IndexOutOfBoundsException" ∨ E = "java/lang/IllegalArgumentException") {Qf : Option Value → AH → Prop} (hQ : wfh σ → ∀ w τ, WQ Qx Xx ["java/lang/IllegalStateException", "java/lang/IndexOutOfBoundsException", "java/lang/IllegalArgumentException"] out oa w τ → Qf w τ) : AMet l g mX0_bleach 17 72 [.ref x, .int a1, .ref out] σ Qf A_no := by
  refine A_ofH rfl (by decide) (Nat.le_of_ble_eq_true rfl) (L0 := [(0, .ref x), (1, .int a1), (2, .ref out)]) rfl ?_
  refine A_wfh (fun wσ _ => ?_)
  refine A_aload_n (i := 2) dX0_bleach_0 rfl rfl ?_
  refine A_iconst (v := 0) dX0_bleach_1 (by decide) ?_
  refine A_aload_n (i := 0) dX0_bleach_2 rfl rfl ?_
  refine A_iload_n (i := 1) dX0_bleach_3 rfl rfl ?_
  refine A_callV1 (b' := 0) hM tX1_bleach q2131 hX rfl rfl dX0_bleach_4 (Nat.le_refl _) (Nat.le_refl _) (Nat.le_of_ble_eq_true rfl) (fun w τ h => ?_) (fun E q τ h => ?_)
  · obtain ⟨⟨v, rfl⟩, ho⟩ := hv wσ _ _ h
    refine A_i2l dX0_bleach_7 rfl ?_
    refine A_last ho (by unfold vp_in; decide) dX0_bleach_8 ?_
    refine A_goto (tgt := 21) dX0_bleach_9 (by decide) ?_
    refine A_iconst (v := 0) dX0_bleach_21 (by decide) ?_
    exact A_iret dX0_bleach_22 rfl (hQ wσ _ _ (Or.inl ⟨v, τ, h, rfl, rfl⟩))
  · rcases hx _ _ _ h with rfl | rfl | rfl
    · refine A_catch (pre := []) (suf := [(0, 9, 15, 13), (0, 9, 18, 15)]) (s9 := 0) (e9 := 9) (h9 := 12) (t9 := 20) rfl (fun z hz => by simp at hz) ⟨by decide, by decide⟩ (by decide) q1378 q1392 ?_
      refine A_astore_n (i := 3) dX0_bleach_12 rfl (Nat.le_of_ble_eq_true rfl) ?_
      refine A_iconst (v := 1) dX0_bleach_13 (by decide) ?_
      exact A_iret dX0_bleach_14 rfl (hQ wσ _ _ (Or.inr ⟨_, q, τ, 0, h, rfl, rfl, rfl⟩))
    · refine A_catch (pre := [(0, 9, 12, 20)]) (suf := [(0, 9, 18, 15)]) (s9 := 0) (e9 := 9) (h9 := 15) (t9 := 13) rfl (by intro z hz; simp at hz; subst hz; exact Or.inr ⟨by decide, _, q1378, nx_BS⟩) ⟨by decide, by decide⟩ (by decide) q294 q386 ?_
      refine A_astore_n (i := 3) dX0_bleach_15 rfl (Nat.le_of_ble_eq_true rfl) ?_
      refine A_iconst (v := 2) dX0_bleach_16 (by decide) ?_
      exact A_iret dX0_bleach_17 rfl (hQ wσ _ _ (Or.inr ⟨_, q, τ, 1, h, rfl, rfl, rfl⟩))
    · refine A_catch (pre := [(0, 9, 12, 20), (0, 9, 15, 13)]) (suf := []) (s9 := 0) (e9 := 9) (h9 := 18) (t9 := 15) rfl (by intro z hz; simp at hz; rcases hz with rfl | rfl; exact Or.inr ⟨by decide, _, q1378, nx_AS⟩; exact Or.inr ⟨by decide, _, q294, nx_AB⟩) ⟨by decide, by decide⟩ (by decide) q372 q567 ?_
      refine A_astore_n (i := 3) dX0_bleach_18 rfl (Nat.le_of_ble_eq_true rfl) ?_
      refine A_iconst (v := 3) dX0_bleach_19 (by decide) ?_
      exact A_iret dX0_bleach_20 rfl (hQ wσ _ _ (Or.inr ⟨_, q, τ, 2, h, rfl, rfl, rfl⟩))
theorem w_handOver {l : Launch} {g : GC} (σ : AH) (x out : Nat) (a1 : Int32) (oa : Nat → Int64) (fs : List Value) {Qx : Option Value → AH → Prop} {Xx : String → Nat → AH → Prop} (hX : σ.1 x = some (.inr (.inl (0, fs)))) (hM : AMet l g mX1_handOver 37 86 [.ref x, .int a1] σ Qx Xx) (hv : wfh σ → ∀ w τ, Qx w τ → (∃ v, w = some (.int v)) ∧ τ.1 out = some (.inl (.long, 1, .inr (.inl oa)))) (hx : ∀ E q τ, Xx E q τ → E = "java/lang/IllegalStateException" ∨ E = "java/lang/IndexOutOfBoundsException" ∨ E = "java/lang/IllegalArgumentException") {Qf : Option Value → AH → Prop} (hQ : wfh σ → ∀ w τ, WQ Qx Xx ["java/lang/IllegalStateException", "java/lang/IndexOutOfBoundsException", "java/lang/IllegalArgumentException"] out oa w τ → Qf w τ) : AMet l g mX0_handOver 38 86 [.ref x, .int a1, .ref out] σ Qf A_no := by
  refine A_ofH rfl (by decide) (Nat.le_of_ble_eq_true rfl) (L0 := [(0, .ref x), (1, .int a1), (2, .ref out)]) rfl ?_
  refine A_wfh (fun wσ _ => ?_)
  refine A_aload_n (i := 2) dX0_handOver_0 rfl rfl ?_
  refine A_iconst (v := 0) dX0_handOver_1 (by decide) ?_
  refine A_aload_n (i := 0) dX0_handOver_2 rfl rfl ?_
  refine A_iload_n (i := 1) dX0_handOver_3 rfl rfl ?_
  refine A_callV1 (b' := 0) hM tX1_handOver q2147 hX rfl rfl dX0_handOver_4 (Nat.le_refl _) (Nat.le_refl _) (Nat.le_of_ble_eq_true rfl) (fun w τ h => ?_) (fun E q τ h => ?_)
  · obtain ⟨⟨v, rfl⟩, ho⟩ := hv wσ _ _ h
    refine A_i2l dX0_handOver_7 rfl ?_
    refine A_last ho (by unfold vp_in; decide) dX0_handOver_8 ?_
    refine A_goto (tgt := 21) dX0_handOver_9 (by decide) ?_
    refine A_iconst (v := 0) dX0_handOver_21 (by decide) ?_
    exact A_iret dX0_handOver_22 rfl (hQ wσ _ _ (Or.inl ⟨v, τ, h, rfl, rfl⟩))
  · rcases hx _ _ _ h with rfl | rfl | rfl
    · refine A_catch (pre := []) (suf := [(0, 9, 15, 13), (0, 9, 18, 15)]) (s9 := 0) (e9 := 9) (h9 := 12) (t9 := 20) rfl (fun z hz => by simp at hz) ⟨by decide, by decide⟩ (by decide) q1378 q1392 ?_
      refine A_astore_n (i := 3) dX0_handOver_12 rfl (Nat.le_of_ble_eq_true rfl) ?_
      refine A_iconst (v := 1) dX0_handOver_13 (by decide) ?_
      exact A_iret dX0_handOver_14 rfl (hQ wσ _ _ (Or.inr ⟨_, q, τ, 0, h, rfl, rfl, rfl⟩))
    · refine A_catch (pre := [(0, 9, 12, 20)]) (suf := [(0, 9, 18, 15)]) (s9 := 0) (e9 := 9) (h9 := 15) (t9 := 13) rfl (by intro z hz; simp at hz; subst hz; exact Or.inr ⟨by decide, _, q1378, nx_BS⟩) ⟨by decide, by decide⟩ (by decide) q294 q386 ?_
      refine A_astore_n (i := 3) dX0_handOver_15 rfl (Nat.le_of_ble_eq_true rfl) ?_
      refine A_iconst (v := 2) dX0_handOver_16 (by decide) ?_
      exact A_iret dX0_handOver_17 rfl (hQ wσ _ _ (Or.inr ⟨_, q, τ, 1, h, rfl, rfl, rfl⟩))
    · refine A_catch (pre := [(0, 9, 12, 20), (0, 9, 15, 13)]) (suf := []) (s9 := 0) (e9 := 9) (h9 := 18) (t9 := 15) rfl (by intro z hz; simp at hz; rcases hz with rfl | rfl; exact Or.inr ⟨by decide, _, q1378, nx_AS⟩; exact Or.inr ⟨by decide, _, q294, nx_AB⟩) ⟨by decide, by decide⟩ (by decide) q372 q567 ?_
      refine A_astore_n (i := 3) dX0_handOver_18 rfl (Nat.le_of_ble_eq_true rfl) ?_
      refine A_iconst (v := 3) dX0_handOver_19 (by decide) ?_
      exact A_iret dX0_handOver_20 rfl (hQ wσ _ _ (Or.inr ⟨_, q, τ, 2, h, rfl, rfl, rfl⟩))
theorem w_pass {l : Launch} {g : GC} (σ : AH) (x out : Nat) (a1 : Int32) (oa : Nat → Int64) (fs : List Value) {Qx : Option Value → AH → Prop} {Xx : String → Nat → AH → Prop} (hX : σ.1 x = some (.inr (.inl (0, fs)))) (hM : AMet l g mX1_pass 17 171 [.ref x, .int a1] σ Qx Xx) (hv : wfh σ → ∀ w τ, Qx w τ → (∃ v, w = some (.int v)) ∧ τ.1 out = some (.inl (.long, 1, .inr (.inl oa)))) (hx : ∀ E q τ, Xx E q τ → E = "java/lang/IllegalStateException" ∨ E = "java/lang/IllegalArgumentException") {Qf : Option Value → AH → Prop} (hQ : wfh σ → ∀ w τ, WQ Qx Xx ["java/lang/IllegalStateException", "java/lang/IllegalArgumentException"] out oa w τ → Qf w τ) : AMet l g mX0_pass 18 171 [.ref x, .int a1, .ref out] σ Qf A_no := by
  refine A_ofH rfl (by decide) (Nat.le_of_ble_eq_true rfl) (L0 := [(0, .ref x), (1, .int a1), (2, .ref out)]) rfl ?_
  refine A_wfh (fun wσ _ => ?_)
  refine A_aload_n (i := 2) dX0_pass_0 rfl rfl ?_
  refine A_iconst (v := 0) dX0_pass_1 (by decide) ?_
  refine A_aload_n (i := 0) dX0_pass_2 rfl rfl ?_
  refine A_iload_n (i := 1) dX0_pass_3 rfl rfl ?_
  refine A_callV1 (b' := 0) hM tX1_pass q2166 hX rfl rfl dX0_pass_4 (Nat.le_refl _) (Nat.le_refl _) (Nat.le_of_ble_eq_true rfl) (fun w τ h => ?_) (fun E q τ h => ?_)
  · obtain ⟨⟨v, rfl⟩, ho⟩ := hv wσ _ _ h
    refine A_i2l dX0_pass_7 rfl ?_
    refine A_last ho (by unfold vp_in; decide) dX0_pass_8 ?_
    refine A_goto (tgt := 18) dX0_pass_9 (by decide) ?_
    refine A_iconst (v := 0) dX0_pass_18 (by decide) ?_
    exact A_iret dX0_pass_19 rfl (hQ wσ _ _ (Or.inl ⟨v, τ, h, rfl, rfl⟩))
  · rcases hx _ _ _ h with rfl | rfl
    · refine A_catch (pre := []) (suf := [(0, 9, 15, 15)]) (s9 := 0) (e9 := 9) (h9 := 12) (t9 := 20) rfl (fun z hz => by simp at hz) ⟨by decide, by decide⟩ (by decide) q1378 q1392 ?_
      refine A_astore_n (i := 3) dX0_pass_12 rfl (Nat.le_of_ble_eq_true rfl) ?_
      refine A_iconst (v := 1) dX0_pass_13 (by decide) ?_
      exact A_iret dX0_pass_14 rfl (hQ wσ _ _ (Or.inr ⟨_, q, τ, 0, h, rfl, rfl, rfl⟩))
    · refine A_catch (pre := [(0, 9, 12, 20)]) (suf := []) (s9 := 0) (e9 := 9) (h9 := 15) (t9 := 15) rfl (by intro z hz; simp at hz; subst hz; exact Or.inr ⟨by decide, _, q1378, nx_AS⟩) ⟨by decide, by decide⟩ (by decide) q372 q567 ?_
      refine A_astore_n (i := 3) dX0_pass_15 rfl (Nat.le_of_ble_eq_true rfl) ?_
      refine A_iconst (v := 2) dX0_pass_16 (by decide) ?_
      exact A_iret dX0_pass_17 rfl (hQ wσ _ _ (Or.inr ⟨_, q, τ, 1, h, rfl, rfl, rfl⟩))
theorem w_setWind {l : Launch} {g : GC} (σ : AH) (x out : Nat) (a1 : Int32) (oa : Nat → Int64) (fs : List Value) {Qx : Option Value → AH → Prop} {Xx : String → Nat → AH → Prop} (hX : σ.1 x = some (.inr (.inl (0, fs)))) (hM : AMet l g mX1_setWind 10 71 [.ref x, .int a1] σ Qx Xx) (hv : wfh σ → ∀ w τ, Qx w τ → (∃ v, w = some (.int v)) ∧ τ.1 out = some (.inl (.long, 1, .inr (.inl oa)))) (hx : ∀ E q τ, Xx E q τ → E = "java/lang/IllegalStateException" ∨ E = "java/lang/IllegalArgumentException") {Qf : Option Value → AH → Prop} (hQ : wfh σ → ∀ w τ, WQ Qx Xx ["java/lang/IllegalStateException", "java/lang/IllegalArgumentException"] out oa w τ → Qf w τ) : AMet l g mX0_setWind 11 71 [.ref x, .int a1, .ref out] σ Qf A_no := by
  refine A_ofH rfl (by decide) (Nat.le_of_ble_eq_true rfl) (L0 := [(0, .ref x), (1, .int a1), (2, .ref out)]) rfl ?_
  refine A_wfh (fun wσ _ => ?_)
  refine A_aload_n (i := 2) dX0_setWind_0 rfl rfl ?_
  refine A_iconst (v := 0) dX0_setWind_1 (by decide) ?_
  refine A_aload_n (i := 0) dX0_setWind_2 rfl rfl ?_
  refine A_iload_n (i := 1) dX0_setWind_3 rfl rfl ?_
  refine A_callV1 (b' := 0) hM tX1_setWind q2174 hX rfl rfl dX0_setWind_4 (Nat.le_refl _) (Nat.le_refl _) (Nat.le_of_ble_eq_true rfl) (fun w τ h => ?_) (fun E q τ h => ?_)
  · obtain ⟨⟨v, rfl⟩, ho⟩ := hv wσ _ _ h
    refine A_i2l dX0_setWind_7 rfl ?_
    refine A_last ho (by unfold vp_in; decide) dX0_setWind_8 ?_
    refine A_goto (tgt := 18) dX0_setWind_9 (by decide) ?_
    refine A_iconst (v := 0) dX0_setWind_18 (by decide) ?_
    exact A_iret dX0_setWind_19 rfl (hQ wσ _ _ (Or.inl ⟨v, τ, h, rfl, rfl⟩))
  · rcases hx _ _ _ h with rfl | rfl
    · refine A_catch (pre := []) (suf := [(0, 9, 15, 15)]) (s9 := 0) (e9 := 9) (h9 := 12) (t9 := 20) rfl (fun z hz => by simp at hz) ⟨by decide, by decide⟩ (by decide) q1378 q1392 ?_
      refine A_astore_n (i := 3) dX0_setWind_12 rfl (Nat.le_of_ble_eq_true rfl) ?_
      refine A_iconst (v := 1) dX0_setWind_13 (by decide) ?_
      exact A_iret dX0_setWind_14 rfl (hQ wσ _ _ (Or.inr ⟨_, q, τ, 0, h, rfl, rfl, rfl⟩))
    · refine A_catch (pre := [(0, 9, 12, 20)]) (suf := []) (s9 := 0) (e9 := 9) (h9 := 15) (t9 := 15) rfl (by intro z hz; simp at hz; subst hz; exact Or.inr ⟨by decide, _, q1378, nx_AS⟩) ⟨by decide, by decide⟩ (by decide) q372 q567 ?_
      refine A_astore_n (i := 3) dX0_setWind_15 rfl (Nat.le_of_ble_eq_true rfl) ?_
      refine A_iconst (v := 2) dX0_setWind_16 (by decide) ?_
      exact A_iret dX0_setWind_17 rfl (hQ wσ _ _ (Or.inr ⟨_, q, τ, 1, h, rfl, rfl, rfl⟩))
theorem w_addFlag {l : Launch} {g : GC} (σ : AH) (x out : Nat) (a1 a2 a3 a4 : Int32) (oa : Nat → Int64) (fs : List Value) {Qx : Option Value → AH → Prop} {Xx : String → Nat → AH → Prop} (hX : σ.1 x = some (.inr (.inl (0, fs)))) (hM : AMet l g mX1_addFlag 10 76 [.ref x, .int a1, .int a2, .int a3, .int a4] σ Qx Xx) (hv : wfh σ → ∀ w τ, Qx w τ → (∃ v, w = some (.int v)) ∧ τ.1 out = some (.inl (.long, 1, .inr (.inl oa)))) (hx : ∀ E q τ, Xx E q τ → E = "java/lang/IllegalStateException" ∨ E = "java/lang/IndexOutOfBoundsException" ∨ E = "java/lang/IllegalArgumentException") {Qf : Option Value → AH → Prop} (hQ : wfh σ → ∀ w τ, WQ Qx Xx ["java/lang/IllegalStateException", "java/lang/IndexOutOfBoundsException", "java/lang/IllegalArgumentException"] out oa w τ → Qf w τ) : AMet l g mX0_addFlag 11 76 [.ref x, .int a1, .int a2, .int a3, .int a4, .ref out] σ Qf A_no := by
  refine A_ofH rfl (by decide) (Nat.le_of_ble_eq_true rfl) (L0 := [(0, .ref x), (1, .int a1), (2, .int a2), (3, .int a3), (4, .int a4), (5, .ref out)]) rfl ?_
  refine A_wfh (fun wσ _ => ?_)
  refine A_aload dX0_addFlag_0 rfl ?_
  refine A_iconst (v := 0) dX0_addFlag_2 (by decide) ?_
  refine A_aload_n (i := 0) dX0_addFlag_3 rfl rfl ?_
  refine A_iload_n (i := 1) dX0_addFlag_4 rfl rfl ?_
  refine A_iload_n (i := 2) dX0_addFlag_5 rfl rfl ?_
  refine A_iload_n (i := 3) dX0_addFlag_6 rfl rfl ?_
  refine A_iload dX0_addFlag_7 rfl ?_
  refine A_callV4 (b' := 0) hM tX1_addFlag q2181 hX rfl rfl dX0_addFlag_9 (Nat.le_refl _) (Nat.le_refl _) (Nat.le_of_ble_eq_true rfl) (fun w τ h => ?_) (fun E q τ h => ?_)
  · obtain ⟨⟨v, rfl⟩, ho⟩ := hv wσ _ _ h
    refine A_i2l dX0_addFlag_12 rfl ?_
    refine A_last ho (by unfold vp_in; decide) dX0_addFlag_13 ?_
    refine A_goto (tgt := 29) dX0_addFlag_14 (by decide) ?_
    refine A_iconst (v := 0) dX0_addFlag_29 (by decide) ?_
    exact A_iret dX0_addFlag_30 rfl (hQ wσ _ _ (Or.inl ⟨v, τ, h, rfl, rfl⟩))
  · rcases hx _ _ _ h with rfl | rfl | rfl
    · refine A_catch (pre := []) (suf := [(0, 14, 21, 13), (0, 14, 25, 15)]) (s9 := 0) (e9 := 14) (h9 := 17) (t9 := 20) rfl (fun z hz => by simp at hz) ⟨by decide, by decide⟩ (by decide) q1378 q1392 ?_
      refine A_astore dX0_addFlag_17 (Nat.le_of_ble_eq_true rfl) ?_
      refine A_iconst (v := 1) dX0_addFlag_19 (by decide) ?_
      exact A_iret dX0_addFlag_20 rfl (hQ wσ _ _ (Or.inr ⟨_, q, τ, 0, h, rfl, rfl, rfl⟩))
    · refine A_catch (pre := [(0, 14, 17, 20)]) (suf := [(0, 14, 25, 15)]) (s9 := 0) (e9 := 14) (h9 := 21) (t9 := 13) rfl (by intro z hz; simp at hz; subst hz; exact Or.inr ⟨by decide, _, q1378, nx_BS⟩) ⟨by decide, by decide⟩ (by decide) q294 q386 ?_
      refine A_astore dX0_addFlag_21 (Nat.le_of_ble_eq_true rfl) ?_
      refine A_iconst (v := 2) dX0_addFlag_23 (by decide) ?_
      exact A_iret dX0_addFlag_24 rfl (hQ wσ _ _ (Or.inr ⟨_, q, τ, 1, h, rfl, rfl, rfl⟩))
    · refine A_catch (pre := [(0, 14, 17, 20), (0, 14, 21, 13)]) (suf := []) (s9 := 0) (e9 := 14) (h9 := 25) (t9 := 15) rfl (by intro z hz; simp at hz; rcases hz with rfl | rfl; exact Or.inr ⟨by decide, _, q1378, nx_AS⟩; exact Or.inr ⟨by decide, _, q294, nx_AB⟩) ⟨by decide, by decide⟩ (by decide) q372 q567 ?_
      refine A_astore dX0_addFlag_25 (Nat.le_of_ble_eq_true rfl) ?_
      refine A_iconst (v := 3) dX0_addFlag_27 (by decide) ?_
      exact A_iret dX0_addFlag_28 rfl (hQ wσ _ _ (Or.inr ⟨_, q, τ, 2, h, rfl, rfl, rfl⟩))
theorem w_undo {l : Launch} {g : GC} (σ : AH) (x out : Nat) (oa : Nat → Int64) (fs : List Value) {Qx : Option Value → AH → Prop} {Xx : String → Nat → AH → Prop} (hX : σ.1 x = some (.inr (.inl (0, fs)))) (hM : AMet l g mX1_undo 7 2 [.ref x] σ Qx Xx) (hv : wfh σ → ∀ w τ, Qx w τ → (∃ v, w = some (.int v)) ∧ τ.1 out = some (.inl (.long, 1, .inr (.inl oa)))) (hx : ∀ E q τ, Xx E q τ → E = "java/lang/IllegalStateException") {Qf : Option Value → AH → Prop} (hQ : wfh σ → ∀ w τ, WQ Qx Xx ["java/lang/IllegalStateException"] out oa w τ → Qf w τ) : AMet l g mX0_undo 8 2 [.ref x, .ref out] σ Qf A_no := by
  refine A_ofH rfl (by decide) (Nat.le_of_ble_eq_true rfl) (L0 := [(0, .ref x), (1, .ref out)]) rfl ?_
  refine A_wfh (fun wσ _ => ?_)
  refine A_aload_n (i := 1) dX0_undo_0 rfl rfl ?_
  refine A_iconst (v := 0) dX0_undo_1 (by decide) ?_
  refine A_aload_n (i := 0) dX0_undo_2 rfl rfl ?_
  refine A_callV0 (b' := 0) hM tX1_undo q2190 hX rfl rfl dX0_undo_3 (Nat.le_refl _) (Nat.le_refl _) (Nat.le_of_ble_eq_true rfl) (fun w τ h => ?_) (fun E q τ h => ?_)
  · obtain ⟨⟨v, rfl⟩, ho⟩ := hv wσ _ _ h
    refine A_i2l dX0_undo_6 rfl ?_
    refine A_last ho (by unfold vp_in; decide) dX0_undo_7 ?_
    refine A_goto (tgt := 14) dX0_undo_8 (by decide) ?_
    refine A_iconst (v := 0) dX0_undo_14 (by decide) ?_
    exact A_iret dX0_undo_15 rfl (hQ wσ _ _ (Or.inl ⟨v, τ, h, rfl, rfl⟩))
  · rcases hx _ _ _ h with rfl
    · refine A_catch (pre := []) (suf := []) (s9 := 0) (e9 := 8) (h9 := 11) (t9 := 20) rfl (fun z hz => by simp at hz) ⟨by decide, by decide⟩ (by decide) q1378 q1392 ?_
      refine A_astore_n (i := 2) dX0_undo_11 rfl (Nat.le_of_ble_eq_true rfl) ?_
      refine A_iconst (v := 1) dX0_undo_12 (by decide) ?_
      exact A_iret dX0_undo_13 rfl (hQ wσ _ _ (Or.inr ⟨_, q, τ, 0, h, rfl, rfl, rfl⟩))
theorem w_save {l : Launch} {g : GC} (σ : AH) (x out : Nat) (a1 : Int32) (oa : Nat → Int64) (fs : List Value) {Qx : Option Value → AH → Prop} {Xx : String → Nat → AH → Prop} (hX : σ.1 x = some (.inr (.inl (0, fs)))) (hM : AMet l g mX1_save 9 2 [.ref x, .int a1] σ Qx Xx) (hv : wfh σ → ∀ w τ, Qx w τ → (∃ v, w = some (.int v)) ∧ τ.1 out = some (.inl (.long, 1, .inr (.inl oa)))) (hx : ∀ E q τ, Xx E q τ → E = "java/lang/IllegalStateException" ∨ E = "java/lang/IndexOutOfBoundsException") {Qf : Option Value → AH → Prop} (hQ : wfh σ → ∀ w τ, WQ Qx Xx ["java/lang/IllegalStateException", "java/lang/IndexOutOfBoundsException"] out oa w τ → Qf w τ) : AMet l g mX0_save 10 2 [.ref x, .int a1, .ref out] σ Qf A_no := by
  refine A_ofH rfl (by decide) (Nat.le_of_ble_eq_true rfl) (L0 := [(0, .ref x), (1, .int a1), (2, .ref out)]) rfl ?_
  refine A_wfh (fun wσ _ => ?_)
  refine A_aload_n (i := 2) dX0_save_0 rfl rfl ?_
  refine A_iconst (v := 0) dX0_save_1 (by decide) ?_
  refine A_aload_n (i := 0) dX0_save_2 rfl rfl ?_
  refine A_iload_n (i := 1) dX0_save_3 rfl rfl ?_
  refine A_callV1 (b' := 0) hM tX1_save q2212 hX rfl rfl dX0_save_4 (Nat.le_refl _) (Nat.le_refl _) (Nat.le_of_ble_eq_true rfl) (fun w τ h => ?_) (fun E q τ h => ?_)
  · obtain ⟨⟨v, rfl⟩, ho⟩ := hv wσ _ _ h
    refine A_i2l dX0_save_7 rfl ?_
    refine A_last ho (by unfold vp_in; decide) dX0_save_8 ?_
    refine A_goto (tgt := 18) dX0_save_9 (by decide) ?_
    refine A_iconst (v := 0) dX0_save_18 (by decide) ?_
    exact A_iret dX0_save_19 rfl (hQ wσ _ _ (Or.inl ⟨v, τ, h, rfl, rfl⟩))
  · rcases hx _ _ _ h with rfl | rfl
    · refine A_catch (pre := []) (suf := [(0, 9, 15, 13)]) (s9 := 0) (e9 := 9) (h9 := 12) (t9 := 20) rfl (fun z hz => by simp at hz) ⟨by decide, by decide⟩ (by decide) q1378 q1392 ?_
      refine A_astore_n (i := 3) dX0_save_12 rfl (Nat.le_of_ble_eq_true rfl) ?_
      refine A_iconst (v := 1) dX0_save_13 (by decide) ?_
      exact A_iret dX0_save_14 rfl (hQ wσ _ _ (Or.inr ⟨_, q, τ, 0, h, rfl, rfl, rfl⟩))
    · refine A_catch (pre := [(0, 9, 12, 20)]) (suf := []) (s9 := 0) (e9 := 9) (h9 := 15) (t9 := 13) rfl (by intro z hz; simp at hz; subst hz; exact Or.inr ⟨by decide, _, q1378, nx_BS⟩) ⟨by decide, by decide⟩ (by decide) q294 q386 ?_
      refine A_astore_n (i := 3) dX0_save_15 rfl (Nat.le_of_ble_eq_true rfl) ?_
      refine A_iconst (v := 2) dX0_save_16 (by decide) ?_
      exact A_iret dX0_save_17 rfl (hQ wσ _ _ (Or.inr ⟨_, q, τ, 1, h, rfl, rfl, rfl⟩))
theorem w_restore {l : Launch} {g : GC} (σ : AH) (x out : Nat) (a1 : Int32) (oa : Nat → Int64) (fs : List Value) {Qx : Option Value → AH → Prop} {Xx : String → Nat → AH → Prop} (hX : σ.1 x = some (.inr (.inl (0, fs)))) (hM : AMet l g mX1_restore 8 2 [.ref x, .int a1] σ Qx Xx) (hv : wfh σ → ∀ w τ, Qx w τ → (∃ v, w = some (.int v)) ∧ τ.1 out = some (.inl (.long, 1, .inr (.inl oa)))) (hx : ∀ E q τ, Xx E q τ → E = "java/lang/IndexOutOfBoundsException" ∨ E = "java/lang/IllegalStateException") {Qf : Option Value → AH → Prop} (hQ : wfh σ → ∀ w τ, WQ Qx Xx ["java/lang/IndexOutOfBoundsException", "java/lang/IllegalStateException"] out oa w τ → Qf w τ) : AMet l g mX0_restore 9 2 [.ref x, .int a1, .ref out] σ Qf A_no := by
  refine A_ofH rfl (by decide) (Nat.le_of_ble_eq_true rfl) (L0 := [(0, .ref x), (1, .int a1), (2, .ref out)]) rfl ?_
  refine A_wfh (fun wσ _ => ?_)
  refine A_aload_n (i := 2) dX0_restore_0 rfl rfl ?_
  refine A_iconst (v := 0) dX0_restore_1 (by decide) ?_
  refine A_aload_n (i := 0) dX0_restore_2 rfl rfl ?_
  refine A_iload_n (i := 1) dX0_restore_3 rfl rfl ?_
  refine A_callV1 (b' := 0) hM tX1_restore q2219 hX rfl rfl dX0_restore_4 (Nat.le_refl _) (Nat.le_refl _) (Nat.le_of_ble_eq_true rfl) (fun w τ h => ?_) (fun E q τ h => ?_)
  · obtain ⟨⟨v, rfl⟩, ho⟩ := hv wσ _ _ h
    refine A_i2l dX0_restore_7 rfl ?_
    refine A_last ho (by unfold vp_in; decide) dX0_restore_8 ?_
    refine A_goto (tgt := 18) dX0_restore_9 (by decide) ?_
    refine A_iconst (v := 0) dX0_restore_18 (by decide) ?_
    exact A_iret dX0_restore_19 rfl (hQ wσ _ _ (Or.inl ⟨v, τ, h, rfl, rfl⟩))
  · rcases hx _ _ _ h with rfl | rfl
    · refine A_catch (pre := []) (suf := [(0, 9, 15, 20)]) (s9 := 0) (e9 := 9) (h9 := 12) (t9 := 13) rfl (fun z hz => by simp at hz) ⟨by decide, by decide⟩ (by decide) q294 q386 ?_
      refine A_astore_n (i := 3) dX0_restore_12 rfl (Nat.le_of_ble_eq_true rfl) ?_
      refine A_iconst (v := 1) dX0_restore_13 (by decide) ?_
      exact A_iret dX0_restore_14 rfl (hQ wσ _ _ (Or.inr ⟨_, q, τ, 0, h, rfl, rfl, rfl⟩))
    · refine A_catch (pre := [(0, 9, 12, 13)]) (suf := []) (s9 := 0) (e9 := 9) (h9 := 15) (t9 := 20) rfl (by intro z hz; simp at hz; subst hz; exact Or.inr ⟨by decide, _, q294, nx_SB⟩) ⟨by decide, by decide⟩ (by decide) q1378 q1392 ?_
      refine A_astore_n (i := 3) dX0_restore_15 rfl (Nat.le_of_ble_eq_true rfl) ?_
      refine A_iconst (v := 2) dX0_restore_16 (by decide) ?_
      exact A_iret dX0_restore_17 rfl (hQ wσ _ _ (Or.inr ⟨_, q, τ, 1, h, rfl, rfl, rfl⟩))
