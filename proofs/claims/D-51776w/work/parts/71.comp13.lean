/-! FLAGLAUNDRY 2: what stands in the way -/
theorem cT13 {l : Launch} {g : GC} {σ : AH} {e a n D : Nat} {fa : Nat → Nat} {p : Nat → Prop} [DecidablePred p] {x1 : Int32} (hDD : D + 2 ≤ e) (hO : lamO g σ 12 [.int x1] a) (hM : ∀ f, f < n → AMet l g mX1_lambda_colour_9 D 0 [.int x1, .ref (fa f)] σ (A_eq (some (.int (bi (p f)))) σ) A_no) : callsT l g σ e a fa n p :=
  fun f hf _ _ _ _ _ _ _ _ _ _ hq hd hdp hw kk => A_lam13 (hM f hf) hO (fun v τ h => ⟨_, h.1, nar_bi _⟩) hq hd (by omega) (Nat.le_of_eq (Nat.zero_add _)) hw (fun v τ h => by obtain ⟨e1, e2⟩ := h; subst e1; subst e2; exact kk)
theorem cT14 {l : Launch} {g : GC} {σ : AH} {e a n D : Nat} {fa : Nat → Nat} {p : Nat → Prop} [DecidablePred p] {x1 : Int32} (hDD : D + 2 ≤ e) (hO : lamO g σ 13 [.int x1] a) (hM : ∀ f, f < n → AMet l g mX1_lambda_colour_10 D 0 [.int x1, .ref (fa f)] σ (A_eq (some (.int (bi (p f)))) σ) A_no) : callsT l g σ e a fa n p :=
  fun f hf _ _ _ _ _ _ _ _ _ _ hq hd hdp hw kk => A_lam14 (hM f hf) hO (fun v τ h => ⟨_, h.1, nar_bi _⟩) hq hd (by omega) (Nat.le_of_eq (Nat.zero_add _)) hw (fun v τ h => by obtain ⟨e1, e2⟩ := h; subst e1; subst e2; exact kk)
theorem cT18 {l : Launch} {g : GC} {σ : AH} {e a n D : Nat} {fa : Nat → Nat} {p : Nat → Prop} [DecidablePred p]  (hDD : D + 2 ≤ e) (hO : lamO g σ 17 [] a) (hM : ∀ f, f < n → AMet l g mX1_lambda_ironBar_2 D 0 [.ref (fa f)] σ (A_eq (some (.int (bi (p f)))) σ) A_no) : callsT l g σ e a fa n p :=
  fun f hf _ _ _ _ _ _ _ _ _ _ hq hd hdp hw kk => A_lam18 (hM f hf) hO (fun v τ h => ⟨_, h.1, nar_bi _⟩) hq hd (by omega) (Nat.le_of_eq (Nat.zero_add _)) hw (fun v τ h => by obtain ⟨e1, e2⟩ := h; subst e1; subst e2; exact kk)
theorem cT19 {l : Launch} {g : GC} {σ : AH} {e a n D : Nat} {fa : Nat → Nat} {p : Nat → Prop} [DecidablePred p] {x1 : Int32} (hDD : D + 2 ≤ e) (hO : lamO g σ 18 [.int x1] a) (hM : ∀ f, f < n → AMet l g mX1_lambda_ironBar_3 D 0 [.int x1, .ref (fa f)] σ (A_eq (some (.int (bi (p f)))) σ) A_no) : callsT l g σ e a fa n p :=
  fun f hf _ _ _ _ _ _ _ _ _ _ hq hd hdp hw kk => A_lam19 (hM f hf) hO (fun v τ h => ⟨_, h.1, nar_bi _⟩) hq hd (by omega) (Nat.le_of_eq (Nat.zero_add _)) hw (fun v τ h => by obtain ⟨e1, e2⟩ := h; subst e1; subst e2; exact kk)
theorem cT20 {l : Launch} {g : GC} {σ : AH} {e a n D : Nat} {fa : Nat → Nat} {p : Nat → Prop} [DecidablePred p]  (hDD : D + 2 ≤ e) (hO : lamO g σ 19 [] a) (hM : ∀ f, f < n → AMet l g mX1_lambda_ironBar_4 D 0 [.ref (fa f)] σ (A_eq (some (.int (bi (p f)))) σ) A_no) : callsT l g σ e a fa n p :=
  fun f hf _ _ _ _ _ _ _ _ _ _ hq hd hdp hw kk => A_lam20 (hM f hf) hO (fun v τ h => ⟨_, h.1, nar_bi _⟩) hq hd (by omega) (Nat.le_of_eq (Nat.zero_add _)) hw (fun v τ h => by obtain ⟨e1, e2⟩ := h; subst e1; subst e2; exact kk)
theorem cT21 {l : Launch} {g : GC} {σ : AH} {e a n D : Nat} {fa : Nat → Nat} {p : Nat → Prop} [DecidablePred p]  (hDD : D + 2 ≤ e) (hO : lamO g σ 20 [] a) (hM : ∀ f, f < n → AMet l g mX1_lambda_ironBar_5 D 0 [.ref (fa f)] σ (A_eq (some (.int (bi (p f)))) σ) A_no) : callsT l g σ e a fa n p :=
  fun f hf _ _ _ _ _ _ _ _ _ _ hq hd hdp hw kk => A_lam21 (hM f hf) hO (fun v τ h => ⟨_, h.1, nar_bi _⟩) hq hd (by omega) (Nat.le_of_eq (Nat.zero_add _)) hw (fun v τ h => by obtain ⟨e1, e2⟩ := h; subst e1; subst e2; exact kk)
theorem cT22 {l : Launch} {g : GC} {σ : AH} {e a n D : Nat} {fa : Nat → Nat} {p : Nat → Prop} [DecidablePred p]  (hDD : D + 2 ≤ e) (hO : lamO g σ 21 [] a) (hM : ∀ f, f < n → AMet l g mX1_lambda_bleachBar_6 D 0 [.ref (fa f)] σ (A_eq (some (.int (bi (p f)))) σ) A_no) : callsT l g σ e a fa n p :=
  fun f hf _ _ _ _ _ _ _ _ _ _ hq hd hdp hw kk => A_lam22 (hM f hf) hO (fun v τ h => ⟨_, h.1, nar_bi _⟩) hq hd (by omega) (Nat.le_of_eq (Nat.zero_add _)) hw (fun v τ h => by obtain ⟨e1, e2⟩ := h; subst e1; subst e2; exact kk)
theorem cT23 {l : Launch} {g : GC} {σ : AH} {e a n D : Nat} {fa : Nat → Nat} {p : Nat → Prop} [DecidablePred p]  (hDD : D + 2 ≤ e) (hO : lamO g σ 22 [] a) (hM : ∀ f, f < n → AMet l g mX1_lambda_bleachBar_7 D 0 [.ref (fa f)] σ (A_eq (some (.int (bi (p f)))) σ) A_no) : callsT l g σ e a fa n p :=
  fun f hf _ _ _ _ _ _ _ _ _ _ hq hd hdp hw kk => A_lam23 (hM f hf) hO (fun v τ h => ⟨_, h.1, nar_bi _⟩) hq hd (by omega) (Nat.le_of_eq (Nat.zero_add _)) hw (fun v τ h => by obtain ⟨e1, e2⟩ := h; subst e1; subst e2; exact kk)
theorem cT24 {l : Launch} {g : GC} {σ : AH} {e a n D : Nat} {fa : Nat → Nat} {p : Nat → Prop} [DecidablePred p]  (hDD : D + 2 ≤ e) (hO : lamO g σ 23 [] a) (hM : ∀ f, f < n → AMet l g mX1_lambda_bleachBar_8 D 0 [.ref (fa f)] σ (A_eq (some (.int (bi (p f)))) σ) A_no) : callsT l g σ e a fa n p :=
  fun f hf _ _ _ _ _ _ _ _ _ _ hq hd hdp hw kk => A_lam24 (hM f hf) hO (fun v τ h => ⟨_, h.1, nar_bi _⟩) hq hd (by omega) (Nat.le_of_eq (Nat.zero_add _)) hw (fun v τ h => by obtain ⟨e1, e2⟩ := h; subst e1; subst e2; exact kk)
theorem isW_ta {n : Nat} {x : (Nat → Int32) ⊕ (Nat → Int64) ⊕ (Nat → UInt32) ⊕ (Nat → UInt64) ⊕ (Nat → Option Nat)} (h : ¬ n = 7) : ¬ isW (.inl (.object "FlagLaundry$Test", n, x)) := by
  rintro (⟨c', vs', e, h'⟩ | ⟨n, f, e, h'⟩ | ⟨n, f, e, h'⟩ | ⟨f, e⟩)
  · cases e
  · injection e with e; injection e with e1 e2; cases e1
  · injection e with e; injection e with e1 e2; injection e1 with e1; exact absurd e1 (by decide)
  · injection e with e; injection e with e1 e2; injection e2 with e2 e3; exact h e2
/-- a test that may make new objects -/
def callsX (l : Launch) (g : GC) (σ : AH) (e k a q : Nat) (p : Prop) [Decidable p] : Prop :=
  ∀ τ, ext σ τ → ∀ {mi : MI} {d b b' : Nat} {Q : Option Value → AH → Prop} {X : String → Nat → AH → Prop} {pc : Nat} {L : List (Nat × Value)} {st : List Value} {ix cnt : Nat}, Cond.methodLink mi.1.cls ix ⟨"FlagLaundry$Test", "holds", "(LFlagLaundry$Flag;)Z"⟩ ∈ lw_all → decode mi.2.1 pc = .ok (.invokeinterface ix cnt, 5) → e ≤ d → k + b' ≤ b → (st.map fun v => v.category).sum ≤ 8 → (∀ ρ, ext τ ρ → AW l g mi d b' Q X (pc + 5) L (.int (bi p) :: st) ρ) → AW l g mi d b Q X pc L (.ref q :: .ref a :: st) τ
theorem lamO.ext {g : GC} {σ τ : AH} {i a : Nat} {c : List Value} (h : lamO g σ i c a) (w : wfh σ) (x : ext σ τ) : lamO g τ i c a := h.imp (fun h => x.at w h) id
theorem num_eq {N : AF} (h : WFd N) {f : Nat} (hf : f < nF N) : (if fl N f 8 = 1 ∨ fl N f 8 = 2 then fl N f 9 else -1) = fl N f 9 := by
  rcases (h.2 f hf).2.2.2.2.2.2.2 with ⟨h1, h2⟩ | ⟨h1, -⟩ | ⟨h1, -⟩ | ⟨h1, h2⟩
  · rw [if_neg (by rw [h1]; decide), h2]
  · rw [if_pos (Or.inl h1)]
  · rw [if_pos (Or.inr h1)]
  · rw [if_neg (by rw [h1]; decide), h2]
theorem c_numberOf1 {l : Launch} {g : GC} (σ : AH) (W : WA) (N : AF) (f : Nat) (hR : RW g σ W N) (hD : WFd N) (hf : f < nF N) : AMet l g mX1_numberOf 1 0 [.ref (wP W f)] σ (A_eq (some (.int (fl N f 9))) σ) A_no := by
  rw [← num_eq hD hf]
  exact c_numberOf σ (wP W f) (fl N f) (hR.2.2.2.2.2.2.2.1 f hf) (flok_k hD hf)
theorem cX8 {l : Launch} {g : GC} {σ : AH} {e k a q D : Nat} {p : Prop} [Decidable p]  (w : wfh σ) (hDD : D + 2 ≤ e) (hO : lamO g σ 7 [] a) (hM : ∀ τ, ext σ τ → AMet l g mX1_lambda_putBar_0 D k [.ref q] τ (A_ext (some (.int (bi p))) τ) A_no) : callsX l g σ e k a q p :=
  fun τ x _ _ _ _ _ _ _ _ _ _ _ hq hd hdp hk hw kk => A_lam8 (hM τ x) (hO.ext w x) (fun v τ h => ⟨_, h.1, nar_bi _⟩) hq hd (by omega) hk hw (fun v τ h => by obtain ⟨e1, e2⟩ := h; subst e1; exact kk _ e2)
theorem cX9 {l : Launch} {g : GC} {σ : AH} {e k a q D : Nat} {p : Prop} [Decidable p] {a1 : Nat} {x2 : Int32} (w : wfh σ) (hDD : D + 2 ≤ e) (hO : lamO g σ 8 [.ref a1, .int x2] a) (hM : ∀ τ, ext σ τ → AMet l g mX1_lambda_putBar_1 D k [.ref a1, .int x2, .ref q] τ (A_ext (some (.int (bi p))) τ) A_no) : callsX l g σ e k a q p :=
  fun τ x _ _ _ _ _ _ _ _ _ _ _ hq hd hdp hk hw kk => A_lam9 (hM τ x) (hO.ext w x) (fun v τ h => ⟨_, h.1, nar_bi _⟩) hq hd (by omega) hk hw (fun v τ h => by obtain ⟨e1, e2⟩ := h; subst e1; exact kk _ e2)
theorem c_li2 {l : Launch} {g : GC} (σ : AH) (a pl : Nat) (F : Nat → Int32)  (hF : σ.1 a = some (.inr (.inl (6, [.int (F 0), .int (F 1), .int (F 2), .int (F 3), .int (F 4), .int (F 5), .int (F 6), .int (F 7), .ref pl])))) (hP : σ.1 pl = some (.inr (.inl (plc (F 8) (F 9) (F 10))))) (hk : PLk (F 8)) : AMet l g mX1_lambda_ironBar_2 2 0 [.ref a] σ (A_eq (some (.int (bi (¬ F 8 = 0)))) σ) (A_no) := by
  refine A_of rfl (by decide) (Nat.le_of_ble_eq_true rfl) (L0 := [(0, .ref a)]) rfl ?_
  refine A_aload_n (i := 0) dX1_lambda_ironBar_2_0 rfl rfl ?_
  refine A_callV0E (b' := 0) (v := some (.int (bi (F 8 = 0)))) (τ := σ) (c_fHere σ a pl F hF hP hk) tX7_isHere q1178 hF rfl rfl dX1_lambda_ironBar_2_1 (by decide) (Nat.le_of_ble_eq_true rfl) (Nat.le_of_ble_eq_true rfl) ?_
  refine A_if_ne (tgt := 11) dX1_lambda_ironBar_2_4 (by decide) (fun c1 => ?_) (fun c1 => ?_)
  · skip
    have c1 := bi_ne0.mp c1
    refine A_iconst (v := 0) dX1_lambda_ironBar_2_11 (by decide) ?_
    exact A_zret dX1_lambda_ironBar_2_12 rfl (rfl) (⟨by rw [bi_f (not_not_intro c1)], rfl⟩)
  · skip
    have c1 := bi_eq0.mp c1
    refine A_iconst (v := 1) dX1_lambda_ironBar_2_7 (by decide) ?_
    refine A_goto (tgt := 12) dX1_lambda_ironBar_2_8 (by decide) ?_
    exact A_zret dX1_lambda_ironBar_2_12 rfl (rfl) (⟨by rw [bi_t c1], rfl⟩)
theorem c_lb6 {l : Launch} {g : GC} (σ : AH) (a pl : Nat) (F : Nat → Int32)  (hF : σ.1 a = some (.inr (.inl (6, [.int (F 0), .int (F 1), .int (F 2), .int (F 3), .int (F 4), .int (F 5), .int (F 6), .int (F 7), .ref pl])))) (hP : σ.1 pl = some (.inr (.inl (plc (F 8) (F 9) (F 10))))) (hk : PLk (F 8)) : AMet l g mX1_lambda_bleachBar_6 2 0 [.ref a] σ (A_eq (some (.int (bi (¬ F 8 = 0)))) σ) (A_no) := by
  refine A_of rfl (by decide) (Nat.le_of_ble_eq_true rfl) (L0 := [(0, .ref a)]) rfl ?_
  refine A_aload_n (i := 0) dX1_lambda_bleachBar_6_0 rfl rfl ?_
  refine A_callV0E (b' := 0) (v := some (.int (bi (F 8 = 0)))) (τ := σ) (c_fHere σ a pl F hF hP hk) tX7_isHere q1178 hF rfl rfl dX1_lambda_bleachBar_6_1 (by decide) (Nat.le_of_ble_eq_true rfl) (Nat.le_of_ble_eq_true rfl) ?_
  refine A_if_ne (tgt := 11) dX1_lambda_bleachBar_6_4 (by decide) (fun c1 => ?_) (fun c1 => ?_)
  · skip
    have c1 := bi_ne0.mp c1
    refine A_iconst (v := 0) dX1_lambda_bleachBar_6_11 (by decide) ?_
    exact A_zret dX1_lambda_bleachBar_6_12 rfl (rfl) (⟨by rw [bi_f (not_not_intro c1)], rfl⟩)
  · skip
    have c1 := bi_eq0.mp c1
    refine A_iconst (v := 1) dX1_lambda_bleachBar_6_7 (by decide) ?_
    refine A_goto (tgt := 12) dX1_lambda_bleachBar_6_8 (by decide) ?_
    exact A_zret dX1_lambda_bleachBar_6_12 rfl (rfl) (⟨by rw [bi_t c1], rfl⟩)
theorem c_li3 {l : Launch} {g : GC} (σ : AH) (a pl : Nat) (F : Nat → Int32) (h : Int32) (hF : σ.1 a = some (.inr (.inl (6, [.int (F 0), .int (F 1), .int (F 2), .int (F 3), .int (F 4), .int (F 5), .int (F 6), .int (F 7), .ref pl])))) : AMet l g mX1_lambda_ironBar_3 1 0 [.int h, .ref a] σ (A_eq (some (.int (bi (¬ h ≤ F 2)))) σ) (A_no) := by
  refine A_of rfl (by decide) (Nat.le_of_ble_eq_true rfl) (L0 := [(0, .int h), (1, .ref a)]) rfl ?_
  refine A_iload_n (i := 0) dX1_lambda_ironBar_3_0 rfl rfl ?_
  refine A_aload_n (i := 1) dX1_lambda_ironBar_3_1 rfl rfl ?_
  refine A_getfN cb_X7 hF 2 (Nat.le_of_ble_eq_true rfl) q1104 rfl (v := .int (F 2)) rfl dX1_lambda_ironBar_3_2 ?_
  refine A_icmp_le (tgt := 12) dX1_lambda_ironBar_3_5 (by decide) (fun c1 => ?_) (fun c1 => ?_)
  · skip
    refine A_iconst (v := 0) dX1_lambda_ironBar_3_12 (by decide) ?_
    exact A_zret dX1_lambda_ironBar_3_13 rfl (rfl) (⟨by simp [bi, -Int32.not_le, -Int32.not_lt, c1], rfl⟩)
  · skip
    refine A_iconst (v := 1) dX1_lambda_ironBar_3_8 (by decide) ?_
    refine A_goto (tgt := 13) dX1_lambda_ironBar_3_9 (by decide) ?_
    exact A_zret dX1_lambda_ironBar_3_13 rfl (rfl) (⟨by simp [bi, -Int32.not_le, -Int32.not_lt, c1], rfl⟩)
theorem c_li4 {l : Launch} {g : GC} (σ : AH) (a pl : Nat) (F : Nat → Int32)  (hF : σ.1 a = some (.inr (.inl (6, [.int (F 0), .int (F 1), .int (F 2), .int (F 3), .int (F 4), .int (F 5), .int (F 6), .int (F 7), .ref pl])))) : AMet l g mX1_lambda_ironBar_4 1 0 [.ref a] σ (A_eq (some (.int (bi (¬ F 4 ≤ 3)))) σ) (A_no) := by
  refine A_of rfl (by decide) (Nat.le_of_ble_eq_true rfl) (L0 := [(0, .ref a)]) rfl ?_
  refine A_aload_n (i := 0) dX1_lambda_ironBar_4_0 rfl rfl ?_
  refine A_getfN cb_X7 hF 4 (Nat.le_of_ble_eq_true rfl) q1110 rfl (v := .int (F 4)) rfl dX1_lambda_ironBar_4_1 ?_
  refine A_iconst (v := 3) dX1_lambda_ironBar_4_4 (by decide) ?_
  refine A_icmp_le (tgt := 12) dX1_lambda_ironBar_4_5 (by decide) (fun c1 => ?_) (fun c1 => ?_)
  · skip
    refine A_iconst (v := 0) dX1_lambda_ironBar_4_12 (by decide) ?_
    exact A_zret dX1_lambda_ironBar_4_13 rfl (rfl) (⟨by simp [bi, -Int32.not_le, -Int32.not_lt, c1], rfl⟩)
  · skip
    refine A_iconst (v := 1) dX1_lambda_ironBar_4_8 (by decide) ?_
    refine A_goto (tgt := 13) dX1_lambda_ironBar_4_9 (by decide) ?_
    exact A_zret dX1_lambda_ironBar_4_13 rfl (rfl) (⟨by simp [bi, -Int32.not_le, -Int32.not_lt, c1], rfl⟩)
theorem c_li5 {l : Launch} {g : GC} (σ : AH) (a pl : Nat) (F : Nat → Int32)  (hF : σ.1 a = some (.inr (.inl (6, [.int (F 0), .int (F 1), .int (F 2), .int (F 3), .int (F 4), .int (F 5), .int (F 6), .int (F 7), .ref pl])))) : AMet l g mX1_lambda_ironBar_5 1 0 [.ref a] σ (A_eq (some (.int (bi (¬ F 6 = 0)))) σ) (A_no) := by
  refine A_of rfl (by decide) (Nat.le_of_ble_eq_true rfl) (L0 := [(0, .ref a)]) rfl ?_
  refine A_aload_n (i := 0) dX1_lambda_ironBar_5_0 rfl rfl ?_
  refine A_getfN cb_X7 hF 6 (Nat.le_of_ble_eq_true rfl) q1116 rfl (v := .int (F 6)) rfl dX1_lambda_ironBar_5_1 ?_
  refine A_if_eq (tgt := 11) dX1_lambda_ironBar_5_4 (by decide) (fun c1 => ?_) (fun c1 => ?_)
  · skip
    refine A_iconst (v := 0) dX1_lambda_ironBar_5_11 (by decide) ?_
    exact A_zret dX1_lambda_ironBar_5_12 rfl (rfl) (⟨by simp [bi, -Int32.not_le, -Int32.not_lt, c1], rfl⟩)
  · skip
    refine A_iconst (v := 1) dX1_lambda_ironBar_5_7 (by decide) ?_
    refine A_goto (tgt := 12) dX1_lambda_ironBar_5_8 (by decide) ?_
    exact A_zret dX1_lambda_ironBar_5_12 rfl (rfl) (⟨by simp [bi, -Int32.not_le, -Int32.not_lt, c1], rfl⟩)
theorem c_lb7 {l : Launch} {g : GC} (σ : AH) (a pl : Nat) (F : Nat → Int32)  (hF : σ.1 a = some (.inr (.inl (6, [.int (F 0), .int (F 1), .int (F 2), .int (F 3), .int (F 4), .int (F 5), .int (F 6), .int (F 7), .ref pl])))) : AMet l g mX1_lambda_bleachBar_7 1 0 [.ref a] σ (A_eq (some (.int (bi (F 6 = 0)))) σ) (A_no) := by
  refine A_of rfl (by decide) (Nat.le_of_ble_eq_true rfl) (L0 := [(0, .ref a)]) rfl ?_
  refine A_aload_n (i := 0) dX1_lambda_bleachBar_7_0 rfl rfl ?_
  refine A_getfN cb_X7 hF 6 (Nat.le_of_ble_eq_true rfl) q1116 rfl (v := .int (F 6)) rfl dX1_lambda_bleachBar_7_1 ?_
  refine A_if_ne (tgt := 11) dX1_lambda_bleachBar_7_4 (by decide) (fun c1 => ?_) (fun c1 => ?_)
  · skip
    refine A_iconst (v := 0) dX1_lambda_bleachBar_7_11 (by decide) ?_
    exact A_zret dX1_lambda_bleachBar_7_12 rfl (rfl) (⟨by simp [bi, -Int32.not_le, -Int32.not_lt, c1], rfl⟩)
  · skip
    refine A_iconst (v := 1) dX1_lambda_bleachBar_7_7 (by decide) ?_
    refine A_goto (tgt := 12) dX1_lambda_bleachBar_7_8 (by decide) ?_
    exact A_zret dX1_lambda_bleachBar_7_12 rfl (rfl) (⟨by simp [bi, -Int32.not_le, -Int32.not_lt, c1], rfl⟩)
theorem c_lb8 {l : Launch} {g : GC} (σ : AH) (a pl : Nat) (F : Nat → Int32)  (hF : σ.1 a = some (.inr (.inl (6, [.int (F 0), .int (F 1), .int (F 2), .int (F 3), .int (F 4), .int (F 5), .int (F 6), .int (F 7), .ref pl])))) : AMet l g mX1_lambda_bleachBar_8 1 0 [.ref a] σ (A_eq (some (.int (bi (F 7 = 2)))) σ) (A_no) := by
  refine A_of rfl (by decide) (Nat.le_of_ble_eq_true rfl) (L0 := [(0, .ref a)]) rfl ?_
  refine A_aload_n (i := 0) dX1_lambda_bleachBar_8_0 rfl rfl ?_
  refine A_getfN cb_X7 hF 7 (Nat.le_of_ble_eq_true rfl) q1118 rfl (v := .int (F 7)) rfl dX1_lambda_bleachBar_8_1 ?_
  refine A_iconst (v := 2) dX1_lambda_bleachBar_8_4 (by decide) ?_
  refine A_icmp_ne (tgt := 12) dX1_lambda_bleachBar_8_5 (by decide) (fun c1 => ?_) (fun c1 => ?_)
  · skip
    refine A_iconst (v := 0) dX1_lambda_bleachBar_8_12 (by decide) ?_
    exact A_zret dX1_lambda_bleachBar_8_13 rfl (rfl) (⟨by simp [bi, -Int32.not_le, -Int32.not_lt, c1], rfl⟩)
  · skip
    refine A_iconst (v := 1) dX1_lambda_bleachBar_8_8 (by decide) ?_
    refine A_goto (tgt := 13) dX1_lambda_bleachBar_8_9 (by decide) ?_
    exact A_zret dX1_lambda_bleachBar_8_13 rfl (rfl) (⟨by simp [bi, -Int32.not_le, -Int32.not_lt, c1], rfl⟩)
abbrev ironP (F : Nat → Int32) (h : Int32) (k : Nat) : Prop := (k = 0 ∧ ¬ F 8 = 0) ∨ (k = 1 ∧ ¬ h ≤ F 2) ∨ (k = 2 ∧ ¬ F 4 ≤ 3) ∨ (k = 3 ∧ ¬ F 6 = 0)
theorem fst_iron (N : AF) (f : Nat) (h : Int32) : fstN (ironP (fl N f) h) 0 4 = whyIronN N f h := by
  simp only [fstN, ironP, whyIronN]
  by_cases a : fl N f 8 = 0 <;> by_cases b : h ≤ fl N f 2 <;> by_cases c : fl N f 4 ≤ 3 <;> by_cases d : fl N f 6 = 0 <;> simp [-Int32.not_le, -Int32.not_lt, inBasket, a, b, c, d] <;> rfl
abbrev blP (F : Nat → Int32) (k : Nat) : Prop := (k = 0 ∧ ¬ F 8 = 0) ∨ (k = 1 ∧ F 6 = 0) ∨ (k = 2 ∧ F 7 = 2)
theorem fst_bl (N : AF) (f : Nat) : fstN (blP (fl N f)) 0 3 = whyBlN N f := by
  simp only [fstN, blP, whyBlN]
  by_cases a : fl N f 8 = 0 <;> by_cases b : fl N f 6 = 0 <;> by_cases c : fl N f 7 = 2 <;> simp [-Int32.not_le, -Int32.not_lt, inBasket, a, b, c] <;> rfl
abbrev putP (N : AF) (f t : Nat) (k : Nat) : Prop := (k = 0 ∧ ¬ inBasket N f) ∨ (k = 1 ∧ N (38 + t) ≤ manyT N (nI t))
theorem fst_put (N : AF) (f t : Nat) : fstN (putP N f t) 0 2 = whyPutN N f t := by
  simp only [fstN, putP, whyPutN]
  by_cases a : fl N f 8 = 0 <;> by_cases b : N (38 + t) ≤ manyT N (nI t) <;> simp [-Int32.not_le, -Int32.not_lt, inBasket, a, b] <;> rfl
theorem c_ironBar {l : Launch} {g : GC} (σ : AH) (W : WA) (N : AF) (f : Nat) (h : Int32) (hR : RW g σ W N) (hD : WFd N) (hf : f < nF N) : AMet l g mX1_ironBar 13 2 [.ref (wF W f), .int h] σ (A_ext (some (.int (whyIronN N f h))) σ) (A_no) := by
  refine A_of rfl (by decide) (Nat.le_of_ble_eq_true rfl) (L0 := [(0, .ref (wF W f)), (1, .int h)]) rfl ?_
  refine A_wfh (fun wσ hgσ => ?_)
  have yσ : ext σ σ := ext.rf
  have hW := hD.1
  have hR9 := hR
  obtain ⟨h1, ⟨fr, h2, h2p⟩, ⟨fm, h3, h3p⟩, ⟨mcn, fnA, h4, h4p, h4q⟩, ⟨mcf, ffA, h5, h5p, h5q⟩, ⟨fu, h6, h6p⟩, h7, h8, h9, h10, h11⟩ := hR
  have hF12 : nF N ≤ 12 := hW.2.2.2.2.2
  have hN4 : nN N ≤ 4 := hW.2.1.2
  have hC6 : nC N ≤ 6 := hW.1.2
  have hT3 : nT N ≤ 3 := hW.2.2.1.2
  have hP8 : nP N ≤ 8 := hW.2.2.2.1.2
  refine A_aload_n (i := 0) dX1_ironBar_0 rfl rfl ?_
  refine A_iconst (v := 4) dX1_ironBar_1 (by decide) ?_
  refine A_anew (b' := 1) (u := 1) (by decide) q1175 q804 (n' := 4) (by decide) (by decide) (by decide) (Nat.le_of_ble_eq_true rfl) ⟨Nat.le_of_ble_eq_true rfl, Nat.le_of_ble_eq_true rfl⟩ dX1_ironBar_2 ?_
  obtain ⟨σ1, eσ1⟩ : ∃ τ, τ = h_new σ (.inl (.object "FlagLaundry$Test", 4, .inr (.inr (.inr (.inr (fun _ => none)))))) := ⟨_, rfl⟩
  refine A_st (σ' := σ1) eσ1.symm ?_
  have wσ1 : wfh σ1 := by rw [eσ1]; exact wσ.new
  have fσ1_0 : σ1.1 (wW W) = some (.inr (.inl (4, [.int (N 9), .ref (wR W), .ref (wM W), .ref (wNL W), .ref (wFL W), .ref (wUN W), .int (N 6), .int (N 8), .int (N 0), .int (N 1), .int (N 2), .int (N 3), .int (N 4), .int (N 5), .int (N 11)]))) := by rw [eσ1]; exact (hn_ne (Nat.ne_of_lt (wσ _ _ h1))).trans h1
  have fσ1_1 : σ1.1 (wFL W) = some (.inr (.inl (14, [.int mcf, .ref (wFA W), .int (nI (nF N))]))) := by rw [eσ1]; exact (hn_ne (Nat.ne_of_lt (wσ _ _ h5))).trans h5
  have fσ1_2 : σ1.1 (wFA W) = some (.inl (.object "java/lang/Object", 12, .inr (.inr (.inr (.inr ffA))))) := by rw [eσ1]; exact (hn_ne (Nat.ne_of_lt (wσ _ _ h5p))).trans h5p
  have fσ1_3 : σ1.1 (wNL W) = some (.inr (.inl (14, [.int mcn, .ref (wNA W), .int (nI (nN N))]))) := by rw [eσ1]; exact (hn_ne (Nat.ne_of_lt (wσ _ _ h4))).trans h4
  have fσ1_4 : σ1.1 (wNA W) = some (.inl (.object "java/lang/Object", 4, .inr (.inr (.inr (.inr fnA))))) := by rw [eσ1]; exact (hn_ne (Nat.ne_of_lt (wσ _ _ h4p))).trans h4p
  have fσ1_5 : σ1.1 (wR W) = some (.inl (.int, 6, .inl fr)) := by rw [eσ1]; exact (hn_ne (Nat.ne_of_lt (wσ _ _ h2))).trans h2
  have fσ1_6 : σ1.1 (wM W) = some (.inl (.int, 3, .inl fm)) := by rw [eσ1]; exact (hn_ne (Nat.ne_of_lt (wσ _ _ h3))).trans h3
  have fσ1_7 : σ1.1 (wUN W) = some (.inl (.object "FlagLaundry$Test", 7, .inr (.inr (.inr (.inr fu))))) := by rw [eσ1]; exact (hn_ne (Nat.ne_of_lt (wσ _ _ h6))).trans h6
  have fσ1_8 : σ1.1 (wF W f) = some (.inr (.inl (6, [.int (fl N f 0), .int (fl N f 1), .int (fl N f 2), .int (fl N f 3), .int (fl N f 4), .int (fl N f 5), .int (fl N f 6), .int (fl N f 7), .ref (wP W f)]))) := by rw [eσ1]; exact (hn_ne (Nat.ne_of_lt (wσ _ _ (h7 f hf)))).trans (h7 f hf)
  have fσ1_9 : σ1.1 σ.2 = some (.inl (.object "FlagLaundry$Test", 4, .inr (.inr (.inr (.inr (fun _ => none)))))) := by rw [eσ1]; exact if_pos rfl
  have xσ1 : ext σ σ1 := by rw [eσ1]; exact ext_new _ _
  have yσ1 : ext σ σ1 := yσ.tr (xσ1)
  have hRσ1 : RW g σ1 W N := hR9.ext wσ xσ1
  refine A_dup dX1_ironBar_5 rfl ?_
  refine A_iconst (v := 0) dX1_ironBar_6 (by decide) ?_
  refine A_mk18 (Nat.le_of_ble_eq_true rfl) (fun a9_1 ha9_1 => ?_)
  refine A_aastL fσ1_9 (Or.inr ⟨rfl, ha9_1⟩) (show g_sites[17]? = some _ from rfl) si18 (by decide +kernel) (by unfold vp_in; decide) dX1_ironBar_12 ?_
  refine A_st (σ' := h_put σ1 σ.2 (.inl (.object "FlagLaundry$Test", 4, .inr (.inr (.inr (.inr (va_up (fun _ => none) 0 (some a9_1)))))))) (rfl) ?_
  obtain ⟨σ2, eσ2⟩ : ∃ τ, τ = h_put σ1 σ.2 (.inl (.object "FlagLaundry$Test", 4, .inr (.inr (.inr (.inr (va_up (fun _ => none) 0 (some a9_1))))))) := ⟨_, rfl⟩
  refine A_st (σ' := σ2) eσ2.symm ?_
  have wσ2 : wfh σ2 := by rw [eσ2]; exact wσ1.put fσ1_9
  have fσ2_0 : σ2.1 (wW W) = some (.inr (.inl (4, [.int (N 9), .ref (wR W), .ref (wM W), .ref (wNL W), .ref (wFL W), .ref (wUN W), .int (N 6), .int (N 8), .int (N 0), .int (N 1), .int (N 2), .int (N 3), .int (N 4), .int (N 5), .int (N 11)]))) := by rw [eσ2]; exact (hp_ne (ne_of (x := .inr (.inl (4, [.int (N 9), .ref (wR W), .ref (wM W), .ref (wNL W), .ref (wFL W), .ref (wUN W), .int (N 6), .int (N 8), .int (N 0), .int (N 1), .int (N 2), .int (N 3), .int (N 4), .int (N 5), .int (N 11)]))) (y := .inl (.object "FlagLaundry$Test", 4, .inr (.inr (.inr (.inr (fun _ => none)))))) fσ1_0 fσ1_9 (fun e8 => by simp at e8))).trans fσ1_0
  have fσ2_1 : σ2.1 (wFL W) = some (.inr (.inl (14, [.int mcf, .ref (wFA W), .int (nI (nF N))]))) := by rw [eσ2]; exact (hp_ne (ne_of (x := .inr (.inl (14, [.int mcf, .ref (wFA W), .int (nI (nF N))]))) (y := .inl (.object "FlagLaundry$Test", 4, .inr (.inr (.inr (.inr (fun _ => none)))))) fσ1_1 fσ1_9 (fun e8 => by simp at e8))).trans fσ1_1
  have fσ2_2 : σ2.1 (wFA W) = some (.inl (.object "java/lang/Object", 12, .inr (.inr (.inr (.inr ffA))))) := by rw [eσ2]; exact (hp_ne (ne_of (x := .inl (.object "java/lang/Object", 12, .inr (.inr (.inr (.inr ffA))))) (y := .inl (.object "FlagLaundry$Test", 4, .inr (.inr (.inr (.inr (fun _ => none)))))) fσ1_2 fσ1_9 (fun e8 => by simp at e8))).trans fσ1_2
  have fσ2_3 : σ2.1 (wNL W) = some (.inr (.inl (14, [.int mcn, .ref (wNA W), .int (nI (nN N))]))) := by rw [eσ2]; exact (hp_ne (ne_of (x := .inr (.inl (14, [.int mcn, .ref (wNA W), .int (nI (nN N))]))) (y := .inl (.object "FlagLaundry$Test", 4, .inr (.inr (.inr (.inr (fun _ => none)))))) fσ1_3 fσ1_9 (fun e8 => by simp at e8))).trans fσ1_3
  have fσ2_4 : σ2.1 (wNA W) = some (.inl (.object "java/lang/Object", 4, .inr (.inr (.inr (.inr fnA))))) := by rw [eσ2]; exact (hp_ne (ne_of (x := .inl (.object "java/lang/Object", 4, .inr (.inr (.inr (.inr fnA))))) (y := .inl (.object "FlagLaundry$Test", 4, .inr (.inr (.inr (.inr (fun _ => none)))))) fσ1_4 fσ1_9 (fun e8 => by simp at e8))).trans fσ1_4
  have fσ2_5 : σ2.1 (wR W) = some (.inl (.int, 6, .inl fr)) := by rw [eσ2]; exact (hp_ne (ne_of (x := .inl (.int, 6, .inl fr)) (y := .inl (.object "FlagLaundry$Test", 4, .inr (.inr (.inr (.inr (fun _ => none)))))) fσ1_5 fσ1_9 (fun e8 => by simp at e8))).trans fσ1_5
  have fσ2_6 : σ2.1 (wM W) = some (.inl (.int, 3, .inl fm)) := by rw [eσ2]; exact (hp_ne (ne_of (x := .inl (.int, 3, .inl fm)) (y := .inl (.object "FlagLaundry$Test", 4, .inr (.inr (.inr (.inr (fun _ => none)))))) fσ1_6 fσ1_9 (fun e8 => by simp at e8))).trans fσ1_6
  have fσ2_7 : σ2.1 (wUN W) = some (.inl (.object "FlagLaundry$Test", 7, .inr (.inr (.inr (.inr fu))))) := by rw [eσ2]; exact (hp_ne (ne_of (x := .inl (.object "FlagLaundry$Test", 7, .inr (.inr (.inr (.inr fu))))) (y := .inl (.object "FlagLaundry$Test", 4, .inr (.inr (.inr (.inr (fun _ => none)))))) fσ1_7 fσ1_9 (fun e8 => by simp at e8))).trans fσ1_7
  have fσ2_8 : σ2.1 (wF W f) = some (.inr (.inl (6, [.int (fl N f 0), .int (fl N f 1), .int (fl N f 2), .int (fl N f 3), .int (fl N f 4), .int (fl N f 5), .int (fl N f 6), .int (fl N f 7), .ref (wP W f)]))) := by rw [eσ2]; exact (hp_ne (ne_of (x := .inr (.inl (6, [.int (fl N f 0), .int (fl N f 1), .int (fl N f 2), .int (fl N f 3), .int (fl N f 4), .int (fl N f 5), .int (fl N f 6), .int (fl N f 7), .ref (wP W f)]))) (y := .inl (.object "FlagLaundry$Test", 4, .inr (.inr (.inr (.inr (fun _ => none)))))) fσ1_8 fσ1_9 (fun e8 => by simp at e8))).trans fσ1_8
  have fσ2_9 : σ2.1 σ.2 = some (.inl (.object "FlagLaundry$Test", 4, .inr (.inr (.inr (.inr (va_up (fun _ => none) 0 (some a9_1))))))) := by rw [eσ2]; exact if_pos rfl
  have yσ2 : ext σ σ2 := by rw [eσ2]; exact (yσ1.putN yσ.1)
  have hRσ2 : RW g σ2 W N := hRσ1.oth wσ1 fσ1_9 (isW_ta (by decide)) (by rw [eσ2]; exact kx.rf.put)
  refine A_dup dX1_ironBar_13 rfl ?_
  refine A_iconst (v := 1) dX1_ironBar_14 (by decide) ?_
  refine A_iload_n (i := 1) dX1_ironBar_15 rfl rfl ?_
  refine A_mk19 (b' := 0) (Nat.le_of_ble_eq_true rfl) (Nat.le_of_ble_eq_true rfl) ?_
  obtain ⟨σ3, eσ3⟩ : ∃ τ, τ = h_new σ2 (.inr (.inr (18, [.int h]))) := ⟨_, rfl⟩
  refine A_st (σ' := σ3) eσ3.symm ?_
  have wσ3 : wfh σ3 := by rw [eσ3]; exact wσ2.new
  have fσ3_0 : σ3.1 (wW W) = some (.inr (.inl (4, [.int (N 9), .ref (wR W), .ref (wM W), .ref (wNL W), .ref (wFL W), .ref (wUN W), .int (N 6), .int (N 8), .int (N 0), .int (N 1), .int (N 2), .int (N 3), .int (N 4), .int (N 5), .int (N 11)]))) := by rw [eσ3]; exact (hn_ne (Nat.ne_of_lt (wσ2 _ _ fσ2_0))).trans fσ2_0
  have fσ3_1 : σ3.1 (wFL W) = some (.inr (.inl (14, [.int mcf, .ref (wFA W), .int (nI (nF N))]))) := by rw [eσ3]; exact (hn_ne (Nat.ne_of_lt (wσ2 _ _ fσ2_1))).trans fσ2_1
  have fσ3_2 : σ3.1 (wFA W) = some (.inl (.object "java/lang/Object", 12, .inr (.inr (.inr (.inr ffA))))) := by rw [eσ3]; exact (hn_ne (Nat.ne_of_lt (wσ2 _ _ fσ2_2))).trans fσ2_2
  have fσ3_3 : σ3.1 (wNL W) = some (.inr (.inl (14, [.int mcn, .ref (wNA W), .int (nI (nN N))]))) := by rw [eσ3]; exact (hn_ne (Nat.ne_of_lt (wσ2 _ _ fσ2_3))).trans fσ2_3
  have fσ3_4 : σ3.1 (wNA W) = some (.inl (.object "java/lang/Object", 4, .inr (.inr (.inr (.inr fnA))))) := by rw [eσ3]; exact (hn_ne (Nat.ne_of_lt (wσ2 _ _ fσ2_4))).trans fσ2_4
  have fσ3_5 : σ3.1 (wR W) = some (.inl (.int, 6, .inl fr)) := by rw [eσ3]; exact (hn_ne (Nat.ne_of_lt (wσ2 _ _ fσ2_5))).trans fσ2_5
  have fσ3_6 : σ3.1 (wM W) = some (.inl (.int, 3, .inl fm)) := by rw [eσ3]; exact (hn_ne (Nat.ne_of_lt (wσ2 _ _ fσ2_6))).trans fσ2_6
  have fσ3_7 : σ3.1 (wUN W) = some (.inl (.object "FlagLaundry$Test", 7, .inr (.inr (.inr (.inr fu))))) := by rw [eσ3]; exact (hn_ne (Nat.ne_of_lt (wσ2 _ _ fσ2_7))).trans fσ2_7
  have fσ3_8 : σ3.1 (wF W f) = some (.inr (.inl (6, [.int (fl N f 0), .int (fl N f 1), .int (fl N f 2), .int (fl N f 3), .int (fl N f 4), .int (fl N f 5), .int (fl N f 6), .int (fl N f 7), .ref (wP W f)]))) := by rw [eσ3]; exact (hn_ne (Nat.ne_of_lt (wσ2 _ _ fσ2_8))).trans fσ2_8
  have fσ3_9 : σ3.1 σ.2 = some (.inl (.object "FlagLaundry$Test", 4, .inr (.inr (.inr (.inr (va_up (fun _ => none) 0 (some a9_1))))))) := by rw [eσ3]; exact (hn_ne (Nat.ne_of_lt (wσ2 _ _ fσ2_9))).trans fσ2_9
  have fσ3_10 : σ3.1 σ2.2 = some (.inr (.inr (18, [.int h]))) := by rw [eσ3]; exact if_pos rfl
  have xσ3 : ext σ2 σ3 := by rw [eσ3]; exact ext_new _ _
  have yσ3 : ext σ σ3 := yσ2.tr (xσ3)
  have hRσ3 : RW g σ3 W N := hRσ2.ext wσ2 xσ3
  refine A_aastL fσ3_9 (Or.inl fσ3_10) (show g_sites[18]? = some _ from rfl) si19 (by decide +kernel) (by unfold vp_in; decide) dX1_ironBar_21 ?_
  refine A_st (σ' := h_put σ3 σ.2 (.inl (.object "FlagLaundry$Test", 4, .inr (.inr (.inr (.inr (va_up (va_up (fun _ => none) 0 (some a9_1)) 1 (some σ2.2)))))))) (rfl) ?_
  obtain ⟨σ4, eσ4⟩ : ∃ τ, τ = h_put σ3 σ.2 (.inl (.object "FlagLaundry$Test", 4, .inr (.inr (.inr (.inr (va_up (va_up (fun _ => none) 0 (some a9_1)) 1 (some σ2.2))))))) := ⟨_, rfl⟩
  refine A_st (σ' := σ4) eσ4.symm ?_
  have wσ4 : wfh σ4 := by rw [eσ4]; exact wσ3.put fσ3_9
  have fσ4_0 : σ4.1 (wW W) = some (.inr (.inl (4, [.int (N 9), .ref (wR W), .ref (wM W), .ref (wNL W), .ref (wFL W), .ref (wUN W), .int (N 6), .int (N 8), .int (N 0), .int (N 1), .int (N 2), .int (N 3), .int (N 4), .int (N 5), .int (N 11)]))) := by rw [eσ4]; exact (hp_ne (ne_of (x := .inr (.inl (4, [.int (N 9), .ref (wR W), .ref (wM W), .ref (wNL W), .ref (wFL W), .ref (wUN W), .int (N 6), .int (N 8), .int (N 0), .int (N 1), .int (N 2), .int (N 3), .int (N 4), .int (N 5), .int (N 11)]))) (y := .inl (.object "FlagLaundry$Test", 4, .inr (.inr (.inr (.inr (va_up (fun _ => none) 0 (some a9_1))))))) fσ3_0 fσ3_9 (fun e8 => by simp at e8))).trans fσ3_0
  have fσ4_1 : σ4.1 (wFL W) = some (.inr (.inl (14, [.int mcf, .ref (wFA W), .int (nI (nF N))]))) := by rw [eσ4]; exact (hp_ne (ne_of (x := .inr (.inl (14, [.int mcf, .ref (wFA W), .int (nI (nF N))]))) (y := .inl (.object "FlagLaundry$Test", 4, .inr (.inr (.inr (.inr (va_up (fun _ => none) 0 (some a9_1))))))) fσ3_1 fσ3_9 (fun e8 => by simp at e8))).trans fσ3_1
  have fσ4_2 : σ4.1 (wFA W) = some (.inl (.object "java/lang/Object", 12, .inr (.inr (.inr (.inr ffA))))) := by rw [eσ4]; exact (hp_ne (ne_of (x := .inl (.object "java/lang/Object", 12, .inr (.inr (.inr (.inr ffA))))) (y := .inl (.object "FlagLaundry$Test", 4, .inr (.inr (.inr (.inr (va_up (fun _ => none) 0 (some a9_1))))))) fσ3_2 fσ3_9 (fun e8 => by simp at e8))).trans fσ3_2
  have fσ4_3 : σ4.1 (wNL W) = some (.inr (.inl (14, [.int mcn, .ref (wNA W), .int (nI (nN N))]))) := by rw [eσ4]; exact (hp_ne (ne_of (x := .inr (.inl (14, [.int mcn, .ref (wNA W), .int (nI (nN N))]))) (y := .inl (.object "FlagLaundry$Test", 4, .inr (.inr (.inr (.inr (va_up (fun _ => none) 0 (some a9_1))))))) fσ3_3 fσ3_9 (fun e8 => by simp at e8))).trans fσ3_3
  have fσ4_4 : σ4.1 (wNA W) = some (.inl (.object "java/lang/Object", 4, .inr (.inr (.inr (.inr fnA))))) := by rw [eσ4]; exact (hp_ne (ne_of (x := .inl (.object "java/lang/Object", 4, .inr (.inr (.inr (.inr fnA))))) (y := .inl (.object "FlagLaundry$Test", 4, .inr (.inr (.inr (.inr (va_up (fun _ => none) 0 (some a9_1))))))) fσ3_4 fσ3_9 (fun e8 => by simp at e8))).trans fσ3_4
  have fσ4_5 : σ4.1 (wR W) = some (.inl (.int, 6, .inl fr)) := by rw [eσ4]; exact (hp_ne (ne_of (x := .inl (.int, 6, .inl fr)) (y := .inl (.object "FlagLaundry$Test", 4, .inr (.inr (.inr (.inr (va_up (fun _ => none) 0 (some a9_1))))))) fσ3_5 fσ3_9 (fun e8 => by simp at e8))).trans fσ3_5
  have fσ4_6 : σ4.1 (wM W) = some (.inl (.int, 3, .inl fm)) := by rw [eσ4]; exact (hp_ne (ne_of (x := .inl (.int, 3, .inl fm)) (y := .inl (.object "FlagLaundry$Test", 4, .inr (.inr (.inr (.inr (va_up (fun _ => none) 0 (some a9_1))))))) fσ3_6 fσ3_9 (fun e8 => by simp at e8))).trans fσ3_6
  have fσ4_7 : σ4.1 (wUN W) = some (.inl (.object "FlagLaundry$Test", 7, .inr (.inr (.inr (.inr fu))))) := by rw [eσ4]; exact (hp_ne (ne_of (x := .inl (.object "FlagLaundry$Test", 7, .inr (.inr (.inr (.inr fu))))) (y := .inl (.object "FlagLaundry$Test", 4, .inr (.inr (.inr (.inr (va_up (fun _ => none) 0 (some a9_1))))))) fσ3_7 fσ3_9 (fun e8 => by simp at e8))).trans fσ3_7
  have fσ4_8 : σ4.1 (wF W f) = some (.inr (.inl (6, [.int (fl N f 0), .int (fl N f 1), .int (fl N f 2), .int (fl N f 3), .int (fl N f 4), .int (fl N f 5), .int (fl N f 6), .int (fl N f 7), .ref (wP W f)]))) := by rw [eσ4]; exact (hp_ne (ne_of (x := .inr (.inl (6, [.int (fl N f 0), .int (fl N f 1), .int (fl N f 2), .int (fl N f 3), .int (fl N f 4), .int (fl N f 5), .int (fl N f 6), .int (fl N f 7), .ref (wP W f)]))) (y := .inl (.object "FlagLaundry$Test", 4, .inr (.inr (.inr (.inr (va_up (fun _ => none) 0 (some a9_1))))))) fσ3_8 fσ3_9 (fun e8 => by simp at e8))).trans fσ3_8
  have fσ4_9 : σ4.1 σ.2 = some (.inl (.object "FlagLaundry$Test", 4, .inr (.inr (.inr (.inr (va_up (va_up (fun _ => none) 0 (some a9_1)) 1 (some σ2.2))))))) := by rw [eσ4]; exact if_pos rfl
  have fσ4_10 : σ4.1 σ2.2 = some (.inr (.inr (18, [.int h]))) := by rw [eσ4]; exact (hp_ne (ne_of (x := .inr (.inr (18, [.int h]))) (y := .inl (.object "FlagLaundry$Test", 4, .inr (.inr (.inr (.inr (va_up (fun _ => none) 0 (some a9_1))))))) fσ3_10 fσ3_9 (fun e8 => by simp at e8))).trans fσ3_10
  have yσ4 : ext σ σ4 := by rw [eσ4]; exact (yσ3.putN yσ.1)
  have hRσ4 : RW g σ4 W N := hRσ3.oth wσ3 fσ3_9 (isW_ta (by decide)) (by rw [eσ4]; exact kx.rf.put)
  refine A_dup dX1_ironBar_22 rfl ?_
  refine A_iconst (v := 2) dX1_ironBar_23 (by decide) ?_
  refine A_mk20 (Nat.le_of_ble_eq_true rfl) (fun a9_2 ha9_2 => ?_)
  refine A_aastL fσ4_9 (Or.inr ⟨rfl, ha9_2⟩) (show g_sites[19]? = some _ from rfl) si20 (by decide +kernel) (by unfold vp_in; decide) dX1_ironBar_29 ?_
  refine A_st (σ' := h_put σ4 σ.2 (.inl (.object "FlagLaundry$Test", 4, .inr (.inr (.inr (.inr (va_up (va_up (va_up (fun _ => none) 0 (some a9_1)) 1 (some σ2.2)) 2 (some a9_2)))))))) (rfl) ?_
  obtain ⟨σ5, eσ5⟩ : ∃ τ, τ = h_put σ4 σ.2 (.inl (.object "FlagLaundry$Test", 4, .inr (.inr (.inr (.inr (va_up (va_up (va_up (fun _ => none) 0 (some a9_1)) 1 (some σ2.2)) 2 (some a9_2))))))) := ⟨_, rfl⟩
  refine A_st (σ' := σ5) eσ5.symm ?_
  have wσ5 : wfh σ5 := by rw [eσ5]; exact wσ4.put fσ4_9
  have fσ5_0 : σ5.1 (wW W) = some (.inr (.inl (4, [.int (N 9), .ref (wR W), .ref (wM W), .ref (wNL W), .ref (wFL W), .ref (wUN W), .int (N 6), .int (N 8), .int (N 0), .int (N 1), .int (N 2), .int (N 3), .int (N 4), .int (N 5), .int (N 11)]))) := by rw [eσ5]; exact (hp_ne (ne_of (x := .inr (.inl (4, [.int (N 9), .ref (wR W), .ref (wM W), .ref (wNL W), .ref (wFL W), .ref (wUN W), .int (N 6), .int (N 8), .int (N 0), .int (N 1), .int (N 2), .int (N 3), .int (N 4), .int (N 5), .int (N 11)]))) (y := .inl (.object "FlagLaundry$Test", 4, .inr (.inr (.inr (.inr (va_up (va_up (fun _ => none) 0 (some a9_1)) 1 (some σ2.2))))))) fσ4_0 fσ4_9 (fun e8 => by simp at e8))).trans fσ4_0
  have fσ5_1 : σ5.1 (wFL W) = some (.inr (.inl (14, [.int mcf, .ref (wFA W), .int (nI (nF N))]))) := by rw [eσ5]; exact (hp_ne (ne_of (x := .inr (.inl (14, [.int mcf, .ref (wFA W), .int (nI (nF N))]))) (y := .inl (.object "FlagLaundry$Test", 4, .inr (.inr (.inr (.inr (va_up (va_up (fun _ => none) 0 (some a9_1)) 1 (some σ2.2))))))) fσ4_1 fσ4_9 (fun e8 => by simp at e8))).trans fσ4_1
  have fσ5_2 : σ5.1 (wFA W) = some (.inl (.object "java/lang/Object", 12, .inr (.inr (.inr (.inr ffA))))) := by rw [eσ5]; exact (hp_ne (ne_of (x := .inl (.object "java/lang/Object", 12, .inr (.inr (.inr (.inr ffA))))) (y := .inl (.object "FlagLaundry$Test", 4, .inr (.inr (.inr (.inr (va_up (va_up (fun _ => none) 0 (some a9_1)) 1 (some σ2.2))))))) fσ4_2 fσ4_9 (fun e8 => by simp at e8))).trans fσ4_2
  have fσ5_3 : σ5.1 (wNL W) = some (.inr (.inl (14, [.int mcn, .ref (wNA W), .int (nI (nN N))]))) := by rw [eσ5]; exact (hp_ne (ne_of (x := .inr (.inl (14, [.int mcn, .ref (wNA W), .int (nI (nN N))]))) (y := .inl (.object "FlagLaundry$Test", 4, .inr (.inr (.inr (.inr (va_up (va_up (fun _ => none) 0 (some a9_1)) 1 (some σ2.2))))))) fσ4_3 fσ4_9 (fun e8 => by simp at e8))).trans fσ4_3
  have fσ5_4 : σ5.1 (wNA W) = some (.inl (.object "java/lang/Object", 4, .inr (.inr (.inr (.inr fnA))))) := by rw [eσ5]; exact (hp_ne (ne_of (x := .inl (.object "java/lang/Object", 4, .inr (.inr (.inr (.inr fnA))))) (y := .inl (.object "FlagLaundry$Test", 4, .inr (.inr (.inr (.inr (va_up (va_up (fun _ => none) 0 (some a9_1)) 1 (some σ2.2))))))) fσ4_4 fσ4_9 (fun e8 => by simp at e8))).trans fσ4_4
  have fσ5_5 : σ5.1 (wR W) = some (.inl (.int, 6, .inl fr)) := by rw [eσ5]; exact (hp_ne (ne_of (x := .inl (.int, 6, .inl fr)) (y := .inl (.object "FlagLaundry$Test", 4, .inr (.inr (.inr (.inr (va_up (va_up (fun _ => none) 0 (some a9_1)) 1 (some σ2.2))))))) fσ4_5 fσ4_9 (fun e8 => by simp at e8))).trans fσ4_5
  have fσ5_6 : σ5.1 (wM W) = some (.inl (.int, 3, .inl fm)) := by rw [eσ5]; exact (hp_ne (ne_of (x := .inl (.int, 3, .inl fm)) (y := .inl (.object "FlagLaundry$Test", 4, .inr (.inr (.inr (.inr (va_up (va_up (fun _ => none) 0 (some a9_1)) 1 (some σ2.2))))))) fσ4_6 fσ4_9 (fun e8 => by simp at e8))).trans fσ4_6
  have fσ5_7 : σ5.1 (wUN W) = some (.inl (.object "FlagLaundry$Test", 7, .inr (.inr (.inr (.inr fu))))) := by rw [eσ5]; exact (hp_ne (ne_of (x := .inl (.object "FlagLaundry$Test", 7, .inr (.inr (.inr (.inr fu))))) (y := .inl (.object "FlagLaundry$Test", 4, .inr (.inr (.inr (.inr (va_up (va_up (fun _ => none) 0 (some a9_1)) 1 (some σ2.2))))))) fσ4_7 fσ4_9 (fun e8 => by simp at e8))).trans fσ4_7
  have fσ5_8 : σ5.1 (wF W f) = some (.inr (.inl (6, [.int (fl N f 0), .int (fl N f 1), .int (fl N f 2), .int (fl N f 3), .int (fl N f 4), .int (fl N f 5), .int (fl N f 6), .int (fl N f 7), .ref (wP W f)]))) := by rw [eσ5]; exact (hp_ne (ne_of (x := .inr (.inl (6, [.int (fl N f 0), .int (fl N f 1), .int (fl N f 2), .int (fl N f 3), .int (fl N f 4), .int (fl N f 5), .int (fl N f 6), .int (fl N f 7), .ref (wP W f)]))) (y := .inl (.object "FlagLaundry$Test", 4, .inr (.inr (.inr (.inr (va_up (va_up (fun _ => none) 0 (some a9_1)) 1 (some σ2.2))))))) fσ4_8 fσ4_9 (fun e8 => by simp at e8))).trans fσ4_8
  have fσ5_9 : σ5.1 σ.2 = some (.inl (.object "FlagLaundry$Test", 4, .inr (.inr (.inr (.inr (va_up (va_up (va_up (fun _ => none) 0 (some a9_1)) 1 (some σ2.2)) 2 (some a9_2))))))) := by rw [eσ5]; exact if_pos rfl
  have fσ5_10 : σ5.1 σ2.2 = some (.inr (.inr (18, [.int h]))) := by rw [eσ5]; exact (hp_ne (ne_of (x := .inr (.inr (18, [.int h]))) (y := .inl (.object "FlagLaundry$Test", 4, .inr (.inr (.inr (.inr (va_up (va_up (fun _ => none) 0 (some a9_1)) 1 (some σ2.2))))))) fσ4_10 fσ4_9 (fun e8 => by simp at e8))).trans fσ4_10
  have yσ5 : ext σ σ5 := by rw [eσ5]; exact (yσ4.putN yσ.1)
  have hRσ5 : RW g σ5 W N := hRσ4.oth wσ4 fσ4_9 (isW_ta (by decide)) (by rw [eσ5]; exact kx.rf.put)
  refine A_dup dX1_ironBar_30 rfl ?_
  refine A_iconst (v := 3) dX1_ironBar_31 (by decide) ?_
  refine A_mk21 (Nat.le_of_ble_eq_true rfl) (fun a9_3 ha9_3 => ?_)
  refine A_aastL fσ5_9 (Or.inr ⟨rfl, ha9_3⟩) (show g_sites[20]? = some _ from rfl) si21 (by decide +kernel) (by unfold vp_in; decide) dX1_ironBar_37 ?_
  refine A_st (σ' := h_put σ5 σ.2 (.inl (.object "FlagLaundry$Test", 4, .inr (.inr (.inr (.inr (va_up (va_up (va_up (va_up (fun _ => none) 0 (some a9_1)) 1 (some σ2.2)) 2 (some a9_2)) 3 (some a9_3)))))))) (rfl) ?_
  obtain ⟨σ6, eσ6⟩ : ∃ τ, τ = h_put σ5 σ.2 (.inl (.object "FlagLaundry$Test", 4, .inr (.inr (.inr (.inr (va_up (va_up (va_up (va_up (fun _ => none) 0 (some a9_1)) 1 (some σ2.2)) 2 (some a9_2)) 3 (some a9_3))))))) := ⟨_, rfl⟩
  refine A_st (σ' := σ6) eσ6.symm ?_
  have wσ6 : wfh σ6 := by rw [eσ6]; exact wσ5.put fσ5_9
  have fσ6_0 : σ6.1 (wW W) = some (.inr (.inl (4, [.int (N 9), .ref (wR W), .ref (wM W), .ref (wNL W), .ref (wFL W), .ref (wUN W), .int (N 6), .int (N 8), .int (N 0), .int (N 1), .int (N 2), .int (N 3), .int (N 4), .int (N 5), .int (N 11)]))) := by rw [eσ6]; exact (hp_ne (ne_of (x := .inr (.inl (4, [.int (N 9), .ref (wR W), .ref (wM W), .ref (wNL W), .ref (wFL W), .ref (wUN W), .int (N 6), .int (N 8), .int (N 0), .int (N 1), .int (N 2), .int (N 3), .int (N 4), .int (N 5), .int (N 11)]))) (y := .inl (.object "FlagLaundry$Test", 4, .inr (.inr (.inr (.inr (va_up (va_up (va_up (fun _ => none) 0 (some a9_1)) 1 (some σ2.2)) 2 (some a9_2))))))) fσ5_0 fσ5_9 (fun e8 => by simp at e8))).trans fσ5_0
  have fσ6_1 : σ6.1 (wFL W) = some (.inr (.inl (14, [.int mcf, .ref (wFA W), .int (nI (nF N))]))) := by rw [eσ6]; exact (hp_ne (ne_of (x := .inr (.inl (14, [.int mcf, .ref (wFA W), .int (nI (nF N))]))) (y := .inl (.object "FlagLaundry$Test", 4, .inr (.inr (.inr (.inr (va_up (va_up (va_up (fun _ => none) 0 (some a9_1)) 1 (some σ2.2)) 2 (some a9_2))))))) fσ5_1 fσ5_9 (fun e8 => by simp at e8))).trans fσ5_1
  have fσ6_2 : σ6.1 (wFA W) = some (.inl (.object "java/lang/Object", 12, .inr (.inr (.inr (.inr ffA))))) := by rw [eσ6]; exact (hp_ne (ne_of (x := .inl (.object "java/lang/Object", 12, .inr (.inr (.inr (.inr ffA))))) (y := .inl (.object "FlagLaundry$Test", 4, .inr (.inr (.inr (.inr (va_up (va_up (va_up (fun _ => none) 0 (some a9_1)) 1 (some σ2.2)) 2 (some a9_2))))))) fσ5_2 fσ5_9 (fun e8 => by simp at e8))).trans fσ5_2
  have fσ6_3 : σ6.1 (wNL W) = some (.inr (.inl (14, [.int mcn, .ref (wNA W), .int (nI (nN N))]))) := by rw [eσ6]; exact (hp_ne (ne_of (x := .inr (.inl (14, [.int mcn, .ref (wNA W), .int (nI (nN N))]))) (y := .inl (.object "FlagLaundry$Test", 4, .inr (.inr (.inr (.inr (va_up (va_up (va_up (fun _ => none) 0 (some a9_1)) 1 (some σ2.2)) 2 (some a9_2))))))) fσ5_3 fσ5_9 (fun e8 => by simp at e8))).trans fσ5_3
  have fσ6_4 : σ6.1 (wNA W) = some (.inl (.object "java/lang/Object", 4, .inr (.inr (.inr (.inr fnA))))) := by rw [eσ6]; exact (hp_ne (ne_of (x := .inl (.object "java/lang/Object", 4, .inr (.inr (.inr (.inr fnA))))) (y := .inl (.object "FlagLaundry$Test", 4, .inr (.inr (.inr (.inr (va_up (va_up (va_up (fun _ => none) 0 (some a9_1)) 1 (some σ2.2)) 2 (some a9_2))))))) fσ5_4 fσ5_9 (fun e8 => by simp at e8))).trans fσ5_4
  have fσ6_5 : σ6.1 (wR W) = some (.inl (.int, 6, .inl fr)) := by rw [eσ6]; exact (hp_ne (ne_of (x := .inl (.int, 6, .inl fr)) (y := .inl (.object "FlagLaundry$Test", 4, .inr (.inr (.inr (.inr (va_up (va_up (va_up (fun _ => none) 0 (some a9_1)) 1 (some σ2.2)) 2 (some a9_2))))))) fσ5_5 fσ5_9 (fun e8 => by simp at e8))).trans fσ5_5
  have fσ6_6 : σ6.1 (wM W) = some (.inl (.int, 3, .inl fm)) := by rw [eσ6]; exact (hp_ne (ne_of (x := .inl (.int, 3, .inl fm)) (y := .inl (.object "FlagLaundry$Test", 4, .inr (.inr (.inr (.inr (va_up (va_up (va_up (fun _ => none) 0 (some a9_1)) 1 (some σ2.2)) 2 (some a9_2))))))) fσ5_6 fσ5_9 (fun e8 => by simp at e8))).trans fσ5_6
  have fσ6_7 : σ6.1 (wUN W) = some (.inl (.object "FlagLaundry$Test", 7, .inr (.inr (.inr (.inr fu))))) := by rw [eσ6]; exact (hp_ne (ne_of (x := .inl (.object "FlagLaundry$Test", 7, .inr (.inr (.inr (.inr fu))))) (y := .inl (.object "FlagLaundry$Test", 4, .inr (.inr (.inr (.inr (va_up (va_up (va_up (fun _ => none) 0 (some a9_1)) 1 (some σ2.2)) 2 (some a9_2))))))) fσ5_7 fσ5_9 (fun e8 => by simp at e8))).trans fσ5_7
  have fσ6_8 : σ6.1 (wF W f) = some (.inr (.inl (6, [.int (fl N f 0), .int (fl N f 1), .int (fl N f 2), .int (fl N f 3), .int (fl N f 4), .int (fl N f 5), .int (fl N f 6), .int (fl N f 7), .ref (wP W f)]))) := by rw [eσ6]; exact (hp_ne (ne_of (x := .inr (.inl (6, [.int (fl N f 0), .int (fl N f 1), .int (fl N f 2), .int (fl N f 3), .int (fl N f 4), .int (fl N f 5), .int (fl N f 6), .int (fl N f 7), .ref (wP W f)]))) (y := .inl (.object "FlagLaundry$Test", 4, .inr (.inr (.inr (.inr (va_up (va_up (va_up (fun _ => none) 0 (some a9_1)) 1 (some σ2.2)) 2 (some a9_2))))))) fσ5_8 fσ5_9 (fun e8 => by simp at e8))).trans fσ5_8
  have fσ6_9 : σ6.1 σ.2 = some (.inl (.object "FlagLaundry$Test", 4, .inr (.inr (.inr (.inr (va_up (va_up (va_up (va_up (fun _ => none) 0 (some a9_1)) 1 (some σ2.2)) 2 (some a9_2)) 3 (some a9_3))))))) := by rw [eσ6]; exact if_pos rfl
  have fσ6_10 : σ6.1 σ2.2 = some (.inr (.inr (18, [.int h]))) := by rw [eσ6]; exact (hp_ne (ne_of (x := .inr (.inr (18, [.int h]))) (y := .inl (.object "FlagLaundry$Test", 4, .inr (.inr (.inr (.inr (va_up (va_up (va_up (fun _ => none) 0 (some a9_1)) 1 (some σ2.2)) 2 (some a9_2))))))) fσ5_10 fσ5_9 (fun e8 => by simp at e8))).trans fσ5_10
  have yσ6 : ext σ σ6 := by rw [eσ6]; exact (yσ5.putN yσ.1)
  have hRσ6 : RW g σ6 W N := hRσ5.oth wσ5 fσ5_9 (isW_ta (by decide)) (by rw [eσ6]; exact kx.rf.put)
  refine A_callS2E (b' := 0) (v := some (.int (fstN (ironP (fl N f) h) 0 4))) (τ := σ6) (c_first σ6 (wF W f) σ.2 4 (va_up (va_up (va_up (va_up (fun _ => none) 0 (some a9_1)) 1 (some σ2.2)) 2 (some a9_2)) 3 (some a9_3)) (ironP (fl N f) h) fσ6_9 (by decide) (fun k hk => by match k, hk with | 0, _ => exact ⟨_, rfl, cT18 (D := 2) (by decide) (Or.inr ⟨rfl, ha9_1⟩) (fun _ _ => by rw [show bi (ironP (fl N f) h 0) = bi (¬ fl N f 8 = 0) from bi_congr (by simp [ironP, -Int32.not_le, -Int32.not_lt])]; exact c_li2 σ6 (wF W f) (wP W f) (fl N f) (hRσ6.2.2.2.2.2.2.1 f hf) (hRσ6.2.2.2.2.2.2.2.1 f hf) (flok_k hD hf))⟩ | 1, _ => exact ⟨_, rfl, cT19 (D := 1) (by decide) (Or.inl fσ6_10) (fun _ _ => by rw [show bi (ironP (fl N f) h 1) = bi (¬ h ≤ fl N f 2) from bi_congr (by simp [ironP, -Int32.not_le, -Int32.not_lt])]; exact c_li3 σ6 (wF W f) (wP W f) (fl N f) h (hRσ6.2.2.2.2.2.2.1 f hf))⟩ | 2, _ => exact ⟨_, rfl, cT20 (D := 1) (by decide) (Or.inr ⟨rfl, ha9_2⟩) (fun _ _ => by rw [show bi (ironP (fl N f) h 2) = bi (¬ fl N f 4 ≤ 3) from bi_congr (by simp [ironP, -Int32.not_le, -Int32.not_lt])]; exact c_li4 σ6 (wF W f) (wP W f) (fl N f) (hRσ6.2.2.2.2.2.2.1 f hf))⟩ | 3, _ => exact ⟨_, rfl, cT21 (D := 1) (by decide) (Or.inr ⟨rfl, ha9_3⟩) (fun _ _ => by rw [show bi (ironP (fl N f) h 3) = bi (¬ fl N f 6 = 0) from bi_congr (by simp [ironP, -Int32.not_le, -Int32.not_lt])]; exact c_li5 σ6 (wF W f) (wP W f) (fl N f) (hRσ6.2.2.2.2.2.2.1 f hf))⟩ | k + 4, hk => exact absurd hk (by omega))) tX1_first q1208 dX1_ironBar_38 (by decide) (Nat.le_of_ble_eq_true rfl) (Nat.le_of_ble_eq_true rfl) ?_
  exact A_iret dX1_ironBar_41 rfl (⟨by rw [fst_iron], yσ6⟩)
theorem c_bleachBar {l : Launch} {g : GC} (σ : AH) (W : WA) (N : AF) (f : Nat) (hR : RW g σ W N) (hD : WFd N) (hf : f < nF N) : AMet l g mX1_bleachBar 13 1 [.ref (wF W f)] σ (A_ext (some (.int (whyBlN N f))) σ) (A_no) := by
  refine A_of rfl (by decide) (Nat.le_of_ble_eq_true rfl) (L0 := [(0, .ref (wF W f))]) rfl ?_
  refine A_wfh (fun wσ hgσ => ?_)
  have yσ : ext σ σ := ext.rf
  have hW := hD.1
  have hR9 := hR
  obtain ⟨h1, ⟨fr, h2, h2p⟩, ⟨fm, h3, h3p⟩, ⟨mcn, fnA, h4, h4p, h4q⟩, ⟨mcf, ffA, h5, h5p, h5q⟩, ⟨fu, h6, h6p⟩, h7, h8, h9, h10, h11⟩ := hR
  have hF12 : nF N ≤ 12 := hW.2.2.2.2.2
  have hN4 : nN N ≤ 4 := hW.2.1.2
  have hC6 : nC N ≤ 6 := hW.1.2
  have hT3 : nT N ≤ 3 := hW.2.2.1.2
  have hP8 : nP N ≤ 8 := hW.2.2.2.1.2
  refine A_aload_n (i := 0) dX1_bleachBar_0 rfl rfl ?_
  refine A_iconst (v := 3) dX1_bleachBar_1 (by decide) ?_
  refine A_anew (b' := 0) (u := 1) (by decide) q1175 q804 (n' := 3) (by decide) (by decide) (by decide) (Nat.le_of_ble_eq_true rfl) ⟨Nat.le_of_ble_eq_true rfl, Nat.le_of_ble_eq_true rfl⟩ dX1_bleachBar_2 ?_
  obtain ⟨σ1, eσ1⟩ : ∃ τ, τ = h_new σ (.inl (.object "FlagLaundry$Test", 3, .inr (.inr (.inr (.inr (fun _ => none)))))) := ⟨_, rfl⟩
  refine A_st (σ' := σ1) eσ1.symm ?_
  have wσ1 : wfh σ1 := by rw [eσ1]; exact wσ.new
  have fσ1_0 : σ1.1 (wW W) = some (.inr (.inl (4, [.int (N 9), .ref (wR W), .ref (wM W), .ref (wNL W), .ref (wFL W), .ref (wUN W), .int (N 6), .int (N 8), .int (N 0), .int (N 1), .int (N 2), .int (N 3), .int (N 4), .int (N 5), .int (N 11)]))) := by rw [eσ1]; exact (hn_ne (Nat.ne_of_lt (wσ _ _ h1))).trans h1
  have fσ1_1 : σ1.1 (wFL W) = some (.inr (.inl (14, [.int mcf, .ref (wFA W), .int (nI (nF N))]))) := by rw [eσ1]; exact (hn_ne (Nat.ne_of_lt (wσ _ _ h5))).trans h5
  have fσ1_2 : σ1.1 (wFA W) = some (.inl (.object "java/lang/Object", 12, .inr (.inr (.inr (.inr ffA))))) := by rw [eσ1]; exact (hn_ne (Nat.ne_of_lt (wσ _ _ h5p))).trans h5p
  have fσ1_3 : σ1.1 (wNL W) = some (.inr (.inl (14, [.int mcn, .ref (wNA W), .int (nI (nN N))]))) := by rw [eσ1]; exact (hn_ne (Nat.ne_of_lt (wσ _ _ h4))).trans h4
  have fσ1_4 : σ1.1 (wNA W) = some (.inl (.object "java/lang/Object", 4, .inr (.inr (.inr (.inr fnA))))) := by rw [eσ1]; exact (hn_ne (Nat.ne_of_lt (wσ _ _ h4p))).trans h4p
  have fσ1_5 : σ1.1 (wR W) = some (.inl (.int, 6, .inl fr)) := by rw [eσ1]; exact (hn_ne (Nat.ne_of_lt (wσ _ _ h2))).trans h2
  have fσ1_6 : σ1.1 (wM W) = some (.inl (.int, 3, .inl fm)) := by rw [eσ1]; exact (hn_ne (Nat.ne_of_lt (wσ _ _ h3))).trans h3
  have fσ1_7 : σ1.1 (wUN W) = some (.inl (.object "FlagLaundry$Test", 7, .inr (.inr (.inr (.inr fu))))) := by rw [eσ1]; exact (hn_ne (Nat.ne_of_lt (wσ _ _ h6))).trans h6
  have fσ1_8 : σ1.1 (wF W f) = some (.inr (.inl (6, [.int (fl N f 0), .int (fl N f 1), .int (fl N f 2), .int (fl N f 3), .int (fl N f 4), .int (fl N f 5), .int (fl N f 6), .int (fl N f 7), .ref (wP W f)]))) := by rw [eσ1]; exact (hn_ne (Nat.ne_of_lt (wσ _ _ (h7 f hf)))).trans (h7 f hf)
  have fσ1_9 : σ1.1 σ.2 = some (.inl (.object "FlagLaundry$Test", 3, .inr (.inr (.inr (.inr (fun _ => none)))))) := by rw [eσ1]; exact if_pos rfl
  have xσ1 : ext σ σ1 := by rw [eσ1]; exact ext_new _ _
  have yσ1 : ext σ σ1 := yσ.tr (xσ1)
  have hRσ1 : RW g σ1 W N := hR9.ext wσ xσ1
  refine A_dup dX1_bleachBar_5 rfl ?_
  refine A_iconst (v := 0) dX1_bleachBar_6 (by decide) ?_
  refine A_mk22 (Nat.le_of_ble_eq_true rfl) (fun a9_1 ha9_1 => ?_)
  refine A_aastL fσ1_9 (Or.inr ⟨rfl, ha9_1⟩) (show g_sites[21]? = some _ from rfl) si22 (by decide +kernel) (by unfold vp_in; decide) dX1_bleachBar_12 ?_
  refine A_st (σ' := h_put σ1 σ.2 (.inl (.object "FlagLaundry$Test", 3, .inr (.inr (.inr (.inr (va_up (fun _ => none) 0 (some a9_1)))))))) (rfl) ?_
  obtain ⟨σ2, eσ2⟩ : ∃ τ, τ = h_put σ1 σ.2 (.inl (.object "FlagLaundry$Test", 3, .inr (.inr (.inr (.inr (va_up (fun _ => none) 0 (some a9_1))))))) := ⟨_, rfl⟩
  refine A_st (σ' := σ2) eσ2.symm ?_
  have wσ2 : wfh σ2 := by rw [eσ2]; exact wσ1.put fσ1_9
  have fσ2_0 : σ2.1 (wW W) = some (.inr (.inl (4, [.int (N 9), .ref (wR W), .ref (wM W), .ref (wNL W), .ref (wFL W), .ref (wUN W), .int (N 6), .int (N 8), .int (N 0), .int (N 1), .int (N 2), .int (N 3), .int (N 4), .int (N 5), .int (N 11)]))) := by rw [eσ2]; exact (hp_ne (ne_of (x := .inr (.inl (4, [.int (N 9), .ref (wR W), .ref (wM W), .ref (wNL W), .ref (wFL W), .ref (wUN W), .int (N 6), .int (N 8), .int (N 0), .int (N 1), .int (N 2), .int (N 3), .int (N 4), .int (N 5), .int (N 11)]))) (y := .inl (.object "FlagLaundry$Test", 3, .inr (.inr (.inr (.inr (fun _ => none)))))) fσ1_0 fσ1_9 (fun e8 => by simp at e8))).trans fσ1_0
  have fσ2_1 : σ2.1 (wFL W) = some (.inr (.inl (14, [.int mcf, .ref (wFA W), .int (nI (nF N))]))) := by rw [eσ2]; exact (hp_ne (ne_of (x := .inr (.inl (14, [.int mcf, .ref (wFA W), .int (nI (nF N))]))) (y := .inl (.object "FlagLaundry$Test", 3, .inr (.inr (.inr (.inr (fun _ => none)))))) fσ1_1 fσ1_9 (fun e8 => by simp at e8))).trans fσ1_1
  have fσ2_2 : σ2.1 (wFA W) = some (.inl (.object "java/lang/Object", 12, .inr (.inr (.inr (.inr ffA))))) := by rw [eσ2]; exact (hp_ne (ne_of (x := .inl (.object "java/lang/Object", 12, .inr (.inr (.inr (.inr ffA))))) (y := .inl (.object "FlagLaundry$Test", 3, .inr (.inr (.inr (.inr (fun _ => none)))))) fσ1_2 fσ1_9 (fun e8 => by simp at e8))).trans fσ1_2
  have fσ2_3 : σ2.1 (wNL W) = some (.inr (.inl (14, [.int mcn, .ref (wNA W), .int (nI (nN N))]))) := by rw [eσ2]; exact (hp_ne (ne_of (x := .inr (.inl (14, [.int mcn, .ref (wNA W), .int (nI (nN N))]))) (y := .inl (.object "FlagLaundry$Test", 3, .inr (.inr (.inr (.inr (fun _ => none)))))) fσ1_3 fσ1_9 (fun e8 => by simp at e8))).trans fσ1_3
  have fσ2_4 : σ2.1 (wNA W) = some (.inl (.object "java/lang/Object", 4, .inr (.inr (.inr (.inr fnA))))) := by rw [eσ2]; exact (hp_ne (ne_of (x := .inl (.object "java/lang/Object", 4, .inr (.inr (.inr (.inr fnA))))) (y := .inl (.object "FlagLaundry$Test", 3, .inr (.inr (.inr (.inr (fun _ => none)))))) fσ1_4 fσ1_9 (fun e8 => by simp at e8))).trans fσ1_4
  have fσ2_5 : σ2.1 (wR W) = some (.inl (.int, 6, .inl fr)) := by rw [eσ2]; exact (hp_ne (ne_of (x := .inl (.int, 6, .inl fr)) (y := .inl (.object "FlagLaundry$Test", 3, .inr (.inr (.inr (.inr (fun _ => none)))))) fσ1_5 fσ1_9 (fun e8 => by simp at e8))).trans fσ1_5
  have fσ2_6 : σ2.1 (wM W) = some (.inl (.int, 3, .inl fm)) := by rw [eσ2]; exact (hp_ne (ne_of (x := .inl (.int, 3, .inl fm)) (y := .inl (.object "FlagLaundry$Test", 3, .inr (.inr (.inr (.inr (fun _ => none)))))) fσ1_6 fσ1_9 (fun e8 => by simp at e8))).trans fσ1_6
  have fσ2_7 : σ2.1 (wUN W) = some (.inl (.object "FlagLaundry$Test", 7, .inr (.inr (.inr (.inr fu))))) := by rw [eσ2]; exact (hp_ne (ne_of (x := .inl (.object "FlagLaundry$Test", 7, .inr (.inr (.inr (.inr fu))))) (y := .inl (.object "FlagLaundry$Test", 3, .inr (.inr (.inr (.inr (fun _ => none)))))) fσ1_7 fσ1_9 (fun e8 => by simp at e8))).trans fσ1_7
  have fσ2_8 : σ2.1 (wF W f) = some (.inr (.inl (6, [.int (fl N f 0), .int (fl N f 1), .int (fl N f 2), .int (fl N f 3), .int (fl N f 4), .int (fl N f 5), .int (fl N f 6), .int (fl N f 7), .ref (wP W f)]))) := by rw [eσ2]; exact (hp_ne (ne_of (x := .inr (.inl (6, [.int (fl N f 0), .int (fl N f 1), .int (fl N f 2), .int (fl N f 3), .int (fl N f 4), .int (fl N f 5), .int (fl N f 6), .int (fl N f 7), .ref (wP W f)]))) (y := .inl (.object "FlagLaundry$Test", 3, .inr (.inr (.inr (.inr (fun _ => none)))))) fσ1_8 fσ1_9 (fun e8 => by simp at e8))).trans fσ1_8
  have fσ2_9 : σ2.1 σ.2 = some (.inl (.object "FlagLaundry$Test", 3, .inr (.inr (.inr (.inr (va_up (fun _ => none) 0 (some a9_1))))))) := by rw [eσ2]; exact if_pos rfl
  have yσ2 : ext σ σ2 := by rw [eσ2]; exact (yσ1.putN yσ.1)
  have hRσ2 : RW g σ2 W N := hRσ1.oth wσ1 fσ1_9 (isW_ta (by decide)) (by rw [eσ2]; exact kx.rf.put)
  refine A_dup dX1_bleachBar_13 rfl ?_
  refine A_iconst (v := 1) dX1_bleachBar_14 (by decide) ?_
  refine A_mk23 (Nat.le_of_ble_eq_true rfl) (fun a9_2 ha9_2 => ?_)
  refine A_aastL fσ2_9 (Or.inr ⟨rfl, ha9_2⟩) (show g_sites[22]? = some _ from rfl) si23 (by decide +kernel) (by unfold vp_in; decide) dX1_bleachBar_20 ?_
  refine A_st (σ' := h_put σ2 σ.2 (.inl (.object "FlagLaundry$Test", 3, .inr (.inr (.inr (.inr (va_up (va_up (fun _ => none) 0 (some a9_1)) 1 (some a9_2)))))))) (rfl) ?_
  obtain ⟨σ3, eσ3⟩ : ∃ τ, τ = h_put σ2 σ.2 (.inl (.object "FlagLaundry$Test", 3, .inr (.inr (.inr (.inr (va_up (va_up (fun _ => none) 0 (some a9_1)) 1 (some a9_2))))))) := ⟨_, rfl⟩
  refine A_st (σ' := σ3) eσ3.symm ?_
  have wσ3 : wfh σ3 := by rw [eσ3]; exact wσ2.put fσ2_9
  have fσ3_0 : σ3.1 (wW W) = some (.inr (.inl (4, [.int (N 9), .ref (wR W), .ref (wM W), .ref (wNL W), .ref (wFL W), .ref (wUN W), .int (N 6), .int (N 8), .int (N 0), .int (N 1), .int (N 2), .int (N 3), .int (N 4), .int (N 5), .int (N 11)]))) := by rw [eσ3]; exact (hp_ne (ne_of (x := .inr (.inl (4, [.int (N 9), .ref (wR W), .ref (wM W), .ref (wNL W), .ref (wFL W), .ref (wUN W), .int (N 6), .int (N 8), .int (N 0), .int (N 1), .int (N 2), .int (N 3), .int (N 4), .int (N 5), .int (N 11)]))) (y := .inl (.object "FlagLaundry$Test", 3, .inr (.inr (.inr (.inr (va_up (fun _ => none) 0 (some a9_1))))))) fσ2_0 fσ2_9 (fun e8 => by simp at e8))).trans fσ2_0
  have fσ3_1 : σ3.1 (wFL W) = some (.inr (.inl (14, [.int mcf, .ref (wFA W), .int (nI (nF N))]))) := by rw [eσ3]; exact (hp_ne (ne_of (x := .inr (.inl (14, [.int mcf, .ref (wFA W), .int (nI (nF N))]))) (y := .inl (.object "FlagLaundry$Test", 3, .inr (.inr (.inr (.inr (va_up (fun _ => none) 0 (some a9_1))))))) fσ2_1 fσ2_9 (fun e8 => by simp at e8))).trans fσ2_1
  have fσ3_2 : σ3.1 (wFA W) = some (.inl (.object "java/lang/Object", 12, .inr (.inr (.inr (.inr ffA))))) := by rw [eσ3]; exact (hp_ne (ne_of (x := .inl (.object "java/lang/Object", 12, .inr (.inr (.inr (.inr ffA))))) (y := .inl (.object "FlagLaundry$Test", 3, .inr (.inr (.inr (.inr (va_up (fun _ => none) 0 (some a9_1))))))) fσ2_2 fσ2_9 (fun e8 => by simp at e8))).trans fσ2_2
  have fσ3_3 : σ3.1 (wNL W) = some (.inr (.inl (14, [.int mcn, .ref (wNA W), .int (nI (nN N))]))) := by rw [eσ3]; exact (hp_ne (ne_of (x := .inr (.inl (14, [.int mcn, .ref (wNA W), .int (nI (nN N))]))) (y := .inl (.object "FlagLaundry$Test", 3, .inr (.inr (.inr (.inr (va_up (fun _ => none) 0 (some a9_1))))))) fσ2_3 fσ2_9 (fun e8 => by simp at e8))).trans fσ2_3
  have fσ3_4 : σ3.1 (wNA W) = some (.inl (.object "java/lang/Object", 4, .inr (.inr (.inr (.inr fnA))))) := by rw [eσ3]; exact (hp_ne (ne_of (x := .inl (.object "java/lang/Object", 4, .inr (.inr (.inr (.inr fnA))))) (y := .inl (.object "FlagLaundry$Test", 3, .inr (.inr (.inr (.inr (va_up (fun _ => none) 0 (some a9_1))))))) fσ2_4 fσ2_9 (fun e8 => by simp at e8))).trans fσ2_4
  have fσ3_5 : σ3.1 (wR W) = some (.inl (.int, 6, .inl fr)) := by rw [eσ3]; exact (hp_ne (ne_of (x := .inl (.int, 6, .inl fr)) (y := .inl (.object "FlagLaundry$Test", 3, .inr (.inr (.inr (.inr (va_up (fun _ => none) 0 (some a9_1))))))) fσ2_5 fσ2_9 (fun e8 => by simp at e8))).trans fσ2_5
  have fσ3_6 : σ3.1 (wM W) = some (.inl (.int, 3, .inl fm)) := by rw [eσ3]; exact (hp_ne (ne_of (x := .inl (.int, 3, .inl fm)) (y := .inl (.object "FlagLaundry$Test", 3, .inr (.inr (.inr (.inr (va_up (fun _ => none) 0 (some a9_1))))))) fσ2_6 fσ2_9 (fun e8 => by simp at e8))).trans fσ2_6
  have fσ3_7 : σ3.1 (wUN W) = some (.inl (.object "FlagLaundry$Test", 7, .inr (.inr (.inr (.inr fu))))) := by rw [eσ3]; exact (hp_ne (ne_of (x := .inl (.object "FlagLaundry$Test", 7, .inr (.inr (.inr (.inr fu))))) (y := .inl (.object "FlagLaundry$Test", 3, .inr (.inr (.inr (.inr (va_up (fun _ => none) 0 (some a9_1))))))) fσ2_7 fσ2_9 (fun e8 => by simp at e8))).trans fσ2_7
  have fσ3_8 : σ3.1 (wF W f) = some (.inr (.inl (6, [.int (fl N f 0), .int (fl N f 1), .int (fl N f 2), .int (fl N f 3), .int (fl N f 4), .int (fl N f 5), .int (fl N f 6), .int (fl N f 7), .ref (wP W f)]))) := by rw [eσ3]; exact (hp_ne (ne_of (x := .inr (.inl (6, [.int (fl N f 0), .int (fl N f 1), .int (fl N f 2), .int (fl N f 3), .int (fl N f 4), .int (fl N f 5), .int (fl N f 6), .int (fl N f 7), .ref (wP W f)]))) (y := .inl (.object "FlagLaundry$Test", 3, .inr (.inr (.inr (.inr (va_up (fun _ => none) 0 (some a9_1))))))) fσ2_8 fσ2_9 (fun e8 => by simp at e8))).trans fσ2_8
  have fσ3_9 : σ3.1 σ.2 = some (.inl (.object "FlagLaundry$Test", 3, .inr (.inr (.inr (.inr (va_up (va_up (fun _ => none) 0 (some a9_1)) 1 (some a9_2))))))) := by rw [eσ3]; exact if_pos rfl
  have yσ3 : ext σ σ3 := by rw [eσ3]; exact (yσ2.putN yσ.1)
  have hRσ3 : RW g σ3 W N := hRσ2.oth wσ2 fσ2_9 (isW_ta (by decide)) (by rw [eσ3]; exact kx.rf.put)
  refine A_dup dX1_bleachBar_21 rfl ?_
  refine A_iconst (v := 2) dX1_bleachBar_22 (by decide) ?_
  refine A_mk24 (Nat.le_of_ble_eq_true rfl) (fun a9_3 ha9_3 => ?_)
  refine A_aastL fσ3_9 (Or.inr ⟨rfl, ha9_3⟩) (show g_sites[23]? = some _ from rfl) si24 (by decide +kernel) (by unfold vp_in; decide) dX1_bleachBar_28 ?_
  refine A_st (σ' := h_put σ3 σ.2 (.inl (.object "FlagLaundry$Test", 3, .inr (.inr (.inr (.inr (va_up (va_up (va_up (fun _ => none) 0 (some a9_1)) 1 (some a9_2)) 2 (some a9_3)))))))) (rfl) ?_
  obtain ⟨σ4, eσ4⟩ : ∃ τ, τ = h_put σ3 σ.2 (.inl (.object "FlagLaundry$Test", 3, .inr (.inr (.inr (.inr (va_up (va_up (va_up (fun _ => none) 0 (some a9_1)) 1 (some a9_2)) 2 (some a9_3))))))) := ⟨_, rfl⟩
  refine A_st (σ' := σ4) eσ4.symm ?_
  have wσ4 : wfh σ4 := by rw [eσ4]; exact wσ3.put fσ3_9
  have fσ4_0 : σ4.1 (wW W) = some (.inr (.inl (4, [.int (N 9), .ref (wR W), .ref (wM W), .ref (wNL W), .ref (wFL W), .ref (wUN W), .int (N 6), .int (N 8), .int (N 0), .int (N 1), .int (N 2), .int (N 3), .int (N 4), .int (N 5), .int (N 11)]))) := by rw [eσ4]; exact (hp_ne (ne_of (x := .inr (.inl (4, [.int (N 9), .ref (wR W), .ref (wM W), .ref (wNL W), .ref (wFL W), .ref (wUN W), .int (N 6), .int (N 8), .int (N 0), .int (N 1), .int (N 2), .int (N 3), .int (N 4), .int (N 5), .int (N 11)]))) (y := .inl (.object "FlagLaundry$Test", 3, .inr (.inr (.inr (.inr (va_up (va_up (fun _ => none) 0 (some a9_1)) 1 (some a9_2))))))) fσ3_0 fσ3_9 (fun e8 => by simp at e8))).trans fσ3_0
  have fσ4_1 : σ4.1 (wFL W) = some (.inr (.inl (14, [.int mcf, .ref (wFA W), .int (nI (nF N))]))) := by rw [eσ4]; exact (hp_ne (ne_of (x := .inr (.inl (14, [.int mcf, .ref (wFA W), .int (nI (nF N))]))) (y := .inl (.object "FlagLaundry$Test", 3, .inr (.inr (.inr (.inr (va_up (va_up (fun _ => none) 0 (some a9_1)) 1 (some a9_2))))))) fσ3_1 fσ3_9 (fun e8 => by simp at e8))).trans fσ3_1
  have fσ4_2 : σ4.1 (wFA W) = some (.inl (.object "java/lang/Object", 12, .inr (.inr (.inr (.inr ffA))))) := by rw [eσ4]; exact (hp_ne (ne_of (x := .inl (.object "java/lang/Object", 12, .inr (.inr (.inr (.inr ffA))))) (y := .inl (.object "FlagLaundry$Test", 3, .inr (.inr (.inr (.inr (va_up (va_up (fun _ => none) 0 (some a9_1)) 1 (some a9_2))))))) fσ3_2 fσ3_9 (fun e8 => by simp at e8))).trans fσ3_2
  have fσ4_3 : σ4.1 (wNL W) = some (.inr (.inl (14, [.int mcn, .ref (wNA W), .int (nI (nN N))]))) := by rw [eσ4]; exact (hp_ne (ne_of (x := .inr (.inl (14, [.int mcn, .ref (wNA W), .int (nI (nN N))]))) (y := .inl (.object "FlagLaundry$Test", 3, .inr (.inr (.inr (.inr (va_up (va_up (fun _ => none) 0 (some a9_1)) 1 (some a9_2))))))) fσ3_3 fσ3_9 (fun e8 => by simp at e8))).trans fσ3_3
  have fσ4_4 : σ4.1 (wNA W) = some (.inl (.object "java/lang/Object", 4, .inr (.inr (.inr (.inr fnA))))) := by rw [eσ4]; exact (hp_ne (ne_of (x := .inl (.object "java/lang/Object", 4, .inr (.inr (.inr (.inr fnA))))) (y := .inl (.object "FlagLaundry$Test", 3, .inr (.inr (.inr (.inr (va_up (va_up (fun _ => none) 0 (some a9_1)) 1 (some a9_2))))))) fσ3_4 fσ3_9 (fun e8 => by simp at e8))).trans fσ3_4
  have fσ4_5 : σ4.1 (wR W) = some (.inl (.int, 6, .inl fr)) := by rw [eσ4]; exact (hp_ne (ne_of (x := .inl (.int, 6, .inl fr)) (y := .inl (.object "FlagLaundry$Test", 3, .inr (.inr (.inr (.inr (va_up (va_up (fun _ => none) 0 (some a9_1)) 1 (some a9_2))))))) fσ3_5 fσ3_9 (fun e8 => by simp at e8))).trans fσ3_5
  have fσ4_6 : σ4.1 (wM W) = some (.inl (.int, 3, .inl fm)) := by rw [eσ4]; exact (hp_ne (ne_of (x := .inl (.int, 3, .inl fm)) (y := .inl (.object "FlagLaundry$Test", 3, .inr (.inr (.inr (.inr (va_up (va_up (fun _ => none) 0 (some a9_1)) 1 (some a9_2))))))) fσ3_6 fσ3_9 (fun e8 => by simp at e8))).trans fσ3_6
  have fσ4_7 : σ4.1 (wUN W) = some (.inl (.object "FlagLaundry$Test", 7, .inr (.inr (.inr (.inr fu))))) := by rw [eσ4]; exact (hp_ne (ne_of (x := .inl (.object "FlagLaundry$Test", 7, .inr (.inr (.inr (.inr fu))))) (y := .inl (.object "FlagLaundry$Test", 3, .inr (.inr (.inr (.inr (va_up (va_up (fun _ => none) 0 (some a9_1)) 1 (some a9_2))))))) fσ3_7 fσ3_9 (fun e8 => by simp at e8))).trans fσ3_7
  have fσ4_8 : σ4.1 (wF W f) = some (.inr (.inl (6, [.int (fl N f 0), .int (fl N f 1), .int (fl N f 2), .int (fl N f 3), .int (fl N f 4), .int (fl N f 5), .int (fl N f 6), .int (fl N f 7), .ref (wP W f)]))) := by rw [eσ4]; exact (hp_ne (ne_of (x := .inr (.inl (6, [.int (fl N f 0), .int (fl N f 1), .int (fl N f 2), .int (fl N f 3), .int (fl N f 4), .int (fl N f 5), .int (fl N f 6), .int (fl N f 7), .ref (wP W f)]))) (y := .inl (.object "FlagLaundry$Test", 3, .inr (.inr (.inr (.inr (va_up (va_up (fun _ => none) 0 (some a9_1)) 1 (some a9_2))))))) fσ3_8 fσ3_9 (fun e8 => by simp at e8))).trans fσ3_8
  have fσ4_9 : σ4.1 σ.2 = some (.inl (.object "FlagLaundry$Test", 3, .inr (.inr (.inr (.inr (va_up (va_up (va_up (fun _ => none) 0 (some a9_1)) 1 (some a9_2)) 2 (some a9_3))))))) := by rw [eσ4]; exact if_pos rfl
  have yσ4 : ext σ σ4 := by rw [eσ4]; exact (yσ3.putN yσ.1)
  have hRσ4 : RW g σ4 W N := hRσ3.oth wσ3 fσ3_9 (isW_ta (by decide)) (by rw [eσ4]; exact kx.rf.put)
  refine A_callS2E (b' := 0) (v := some (.int (fstN (blP (fl N f)) 0 3))) (τ := σ4) (c_first σ4 (wF W f) σ.2 3 (va_up (va_up (va_up (fun _ => none) 0 (some a9_1)) 1 (some a9_2)) 2 (some a9_3)) (blP (fl N f)) fσ4_9 (by decide) (fun k hk => by match k, hk with | 0, _ => exact ⟨_, rfl, cT22 (D := 2) (by decide) (Or.inr ⟨rfl, ha9_1⟩) (fun _ _ => by rw [show bi (blP (fl N f) 0) = bi (¬ fl N f 8 = 0) from bi_congr (by simp [blP, -Int32.not_le, -Int32.not_lt])]; exact c_lb6 σ4 (wF W f) (wP W f) (fl N f) (hRσ4.2.2.2.2.2.2.1 f hf) (hRσ4.2.2.2.2.2.2.2.1 f hf) (flok_k hD hf))⟩ | 1, _ => exact ⟨_, rfl, cT23 (D := 1) (by decide) (Or.inr ⟨rfl, ha9_2⟩) (fun _ _ => by rw [show bi (blP (fl N f) 1) = bi (fl N f 6 = 0) from bi_congr (by simp [blP, -Int32.not_le, -Int32.not_lt])]; exact c_lb7 σ4 (wF W f) (wP W f) (fl N f) (hRσ4.2.2.2.2.2.2.1 f hf))⟩ | 2, _ => exact ⟨_, rfl, cT24 (D := 1) (by decide) (Or.inr ⟨rfl, ha9_3⟩) (fun _ _ => by rw [show bi (blP (fl N f) 2) = bi (fl N f 7 = 2) from bi_congr (by simp [blP, -Int32.not_le, -Int32.not_lt])]; exact c_lb8 σ4 (wF W f) (wP W f) (fl N f) (hRσ4.2.2.2.2.2.2.1 f hf))⟩ | k + 3, hk => exact absurd hk (by omega))) tX1_first q1208 dX1_bleachBar_29 (by decide) (Nat.le_of_ble_eq_true rfl) (Nat.le_of_ble_eq_true rfl) ?_
  exact A_iret dX1_bleachBar_32 rfl (⟨by rw [fst_bl], yσ4⟩)
theorem c_washBar {l : Launch} {g : GC} (σ : AH) (W : WA) (N : AF) (t h : Int32) (hR : RW g σ W N) (hD : WFd N) : AMet l g mX1_washBar 34 1 [.ref (wW W), .int t, .int h] σ (A_ext (some (.int (whyWashN N t h))) σ) (A_no) := by
  refine A_of rfl (by decide) (Nat.le_of_ble_eq_true rfl) (L0 := [(0, .ref (wW W)), (1, .int t), (2, .int h)]) rfl ?_
  refine A_wfh (fun wσ hgσ => ?_)
  have yσ : ext σ σ := ext.rf
  have hW := hD.1
  have hR9 := hR
  obtain ⟨h1, ⟨fr, h2, h2p⟩, ⟨fm, h3, h3p⟩, ⟨mcn, fnA, h4, h4p, h4q⟩, ⟨mcf, ffA, h5, h5p, h5q⟩, ⟨fu, h6, h6p⟩, h7, h8, h9, h10, h11⟩ := hR
  have hF12 : nF N ≤ 12 := hW.2.2.2.2.2
  have hN4 : nN N ≤ 4 := hW.2.1.2
  have hC6 : nC N ≤ 6 := hW.1.2
  have hT3 : nT N ≤ 3 := hW.2.2.1.2
  have hP8 : nP N ≤ 8 := hW.2.2.2.1.2
  refine A_aload_n (i := 0) dX1_washBar_0 rfl rfl ?_
  refine A_iload_n (i := 1) dX1_washBar_1 rfl rfl ?_
  refine A_callV1 (b' := 0) (c_within σ W N t hR9 hD) tX5_within q1184 h1 rfl rfl dX1_washBar_2 (by decide) (Nat.le_of_ble_eq_true rfl) (Nat.le_of_ble_eq_true rfl) (fun w9 σ1 h9 => ?_) (fun E9 q9 τ9 h9 => h9.elim)
  obtain ⟨e9, xσ1⟩ := h9
  subst e9
  refine A_wfh (fun wσ1 hgσ1 => ?_)
  have yσ1 : ext σ σ1 := yσ.tr (xσ1)
  have fσ1_0 : σ1.1 (wW W) = some (.inr (.inl (4, [.int (N 9), .ref (wR W), .ref (wM W), .ref (wNL W), .ref (wFL W), .ref (wUN W), .int (N 6), .int (N 8), .int (N 0), .int (N 1), .int (N 2), .int (N 3), .int (N 4), .int (N 5), .int (N 11)]))) := xσ1.at wσ h1
  have fσ1_1 : σ1.1 (wFL W) = some (.inr (.inl (14, [.int mcf, .ref (wFA W), .int (nI (nF N))]))) := xσ1.at wσ h5
  have fσ1_2 : σ1.1 (wFA W) = some (.inl (.object "java/lang/Object", 12, .inr (.inr (.inr (.inr ffA))))) := xσ1.at wσ h5p
  have fσ1_3 : σ1.1 (wNL W) = some (.inr (.inl (14, [.int mcn, .ref (wNA W), .int (nI (nN N))]))) := xσ1.at wσ h4
  have fσ1_4 : σ1.1 (wNA W) = some (.inl (.object "java/lang/Object", 4, .inr (.inr (.inr (.inr fnA))))) := xσ1.at wσ h4p
  have fσ1_5 : σ1.1 (wR W) = some (.inl (.int, 6, .inl fr)) := xσ1.at wσ h2
  have fσ1_6 : σ1.1 (wM W) = some (.inl (.int, 3, .inl fm)) := xσ1.at wσ h3
  have fσ1_7 : σ1.1 (wUN W) = some (.inl (.object "FlagLaundry$Test", 7, .inr (.inr (.inr (.inr fu))))) := xσ1.at wσ h6
  have hRσ1 : RW g σ1 W N := hR9.ext wσ xσ1
  refine A_if_ne (tgt := 12) dX1_washBar_5 (by decide) (fun c1 => ?_) (fun c1 => ?_)
  · skip
    refine A_iload_n (i := 2) dX1_washBar_12 rfl rfl ?_
    refine A_aload_n (i := 0) dX1_washBar_13 rfl rfl ?_
    refine A_iload_n (i := 1) dX1_washBar_14 rfl rfl ?_
    refine A_callV1E (b' := 0) (v := some (.int (leastN N t))) (τ := σ1) (c_bears5 σ1 W N t hRσ1 hD) tX5_bears q1241 fσ1_0 rfl rfl dX1_washBar_15 (by decide) (Nat.le_of_ble_eq_true rfl) (Nat.le_of_ble_eq_true rfl) ?_
    refine A_icmp_le (tgt := 25) dX1_washBar_18 (by decide) (fun c2 => ?_) (fun c2 => ?_)
    · skip
      refine A_iconst (v := 0) dX1_washBar_25 (by decide) ?_
      exact A_iret dX1_washBar_26 rfl (⟨by unfold whyWashN; rw [if_neg c1, if_neg (Int32.not_lt.mpr c2)], yσ1⟩)
    · skip
      refine A_iconst (v := 2) dX1_washBar_21 (by decide) ?_
      refine A_goto (tgt := 26) dX1_washBar_22 (by decide) ?_
      exact A_iret dX1_washBar_26 rfl (⟨by unfold whyWashN; rw [if_neg c1, if_pos (Int32.not_le.mp c2)], yσ1⟩)
  · skip
    refine A_iconst (v := 1) dX1_washBar_8 (by decide) ?_
    refine A_goto (tgt := 26) dX1_washBar_9 (by decide) ?_
    exact A_iret dX1_washBar_26 rfl (⟨by unfold whyWashN; rw [if_pos c1], yσ1⟩)
theorem c_lp0 {l : Launch} {g : GC} (σ : AH) (W : WA) (N : AF) (f : Nat) (hR : RW g σ W N) (hD : WFd N) (hf : f < nF N) : AMet l g mX1_lambda_putBar_0 2 1 [.ref (wF W f)] σ (A_ext (some (.int (bi (¬ inBasket N f)))) σ) (A_no) := by
  refine A_of rfl (by decide) (Nat.le_of_ble_eq_true rfl) (L0 := [(0, .ref (wF W f))]) rfl ?_
  refine A_wfh (fun wσ hgσ => ?_)
  have yσ : ext σ σ := ext.rf
  have hW := hD.1
  have hR9 := hR
  obtain ⟨h1, ⟨fr, h2, h2p⟩, ⟨fm, h3, h3p⟩, ⟨mcn, fnA, h4, h4p, h4q⟩, ⟨mcf, ffA, h5, h5p, h5q⟩, ⟨fu, h6, h6p⟩, h7, h8, h9, h10, h11⟩ := hR
  have hF12 : nF N ≤ 12 := hW.2.2.2.2.2
  have hN4 : nN N ≤ 4 := hW.2.1.2
  have hC6 : nC N ≤ 6 := hW.1.2
  have hT3 : nT N ≤ 3 := hW.2.2.1.2
  have hP8 : nP N ≤ 8 := hW.2.2.2.1.2
  refine A_aload_n (i := 0) dX1_lambda_putBar_0_0 rfl rfl ?_
  refine A_callV0E (b' := 1) (v := some (.int (bi (inBasket N f)))) (τ := σ) (c_fHere σ (wF W f) (wP W f) (fl N f) (hR9.2.2.2.2.2.2.1 f hf) (hR9.2.2.2.2.2.2.2.1 f hf) (flok_k hD hf)) tX7_isHere q1178 (h7 f hf) rfl rfl dX1_lambda_putBar_0_1 (by decide) (Nat.le_of_ble_eq_true rfl) (Nat.le_of_ble_eq_true rfl) ?_
  refine A_if_ne (tgt := 11) dX1_lambda_putBar_0_4 (by decide) (fun c1 => ?_) (fun c1 => ?_)
  · skip
    have c1 := bi_ne0.mp c1
    refine A_iconst (v := 0) dX1_lambda_putBar_0_11 (by decide) ?_
    exact A_zret dX1_lambda_putBar_0_12 rfl (rfl) (⟨by rw [bi_f (not_not_intro c1)], yσ⟩)
  · skip
    have c1 := bi_eq0.mp c1
    refine A_iconst (v := 1) dX1_lambda_putBar_0_7 (by decide) ?_
    refine A_goto (tgt := 12) dX1_lambda_putBar_0_8 (by decide) ?_
    exact A_zret dX1_lambda_putBar_0_12 rfl (rfl) (⟨by rw [bi_t c1], yσ⟩)
theorem c_lp1 {l : Launch} {g : GC} (σ : AH) (W : WA) (N : AF) (f t : Nat) (hR : RW g σ W N) (hD : WFd N) (ht : t < nT N) : AMet l g mX1_lambda_putBar_1 34 1 [.ref (wW W), .int (nI t), .ref (wF W f)] σ (A_ext (some (.int (bi (N (38 + t) ≤ manyT N (nI t))))) σ) (A_no) := by
  refine A_of rfl (by decide) (Nat.le_of_ble_eq_true rfl) (L0 := [(0, .ref (wW W)), (1, .int (nI t)), (2, .ref (wF W f))]) rfl ?_
  refine A_wfh (fun wσ hgσ => ?_)
  have yσ : ext σ σ := ext.rf
  have hW := hD.1
  have hR9 := hR
  obtain ⟨h1, ⟨fr, h2, h2p⟩, ⟨fm, h3, h3p⟩, ⟨mcn, fnA, h4, h4p, h4q⟩, ⟨mcf, ffA, h5, h5p, h5q⟩, ⟨fu, h6, h6p⟩, h7, h8, h9, h10, h11⟩ := hR
  have hF12 : nF N ≤ 12 := hW.2.2.2.2.2
  have hN4 : nN N ≤ 4 := hW.2.1.2
  have hC6 : nC N ≤ 6 := hW.1.2
  have hT3 : nT N ≤ 3 := hW.2.2.1.2
  have hP8 : nP N ≤ 8 := hW.2.2.2.1.2
  refine A_aload_n (i := 0) dX1_lambda_putBar_1_0 rfl rfl ?_
  refine A_iload_n (i := 1) dX1_lambda_putBar_1_1 rfl rfl ?_
  refine A_callV1 (b' := 0) (c_within σ W N (nI t) hR9 hD) tX5_within q1184 h1 rfl rfl dX1_lambda_putBar_1_2 (by decide) (Nat.le_of_ble_eq_true rfl) (Nat.le_of_ble_eq_true rfl) (fun w9 σ1 h9 => ?_) (fun E9 q9 τ9 h9 => h9.elim)
  obtain ⟨e9, xσ1⟩ := h9
  subst e9
  refine A_wfh (fun wσ1 hgσ1 => ?_)
  have yσ1 : ext σ σ1 := yσ.tr (xσ1)
  have fσ1_0 : σ1.1 (wW W) = some (.inr (.inl (4, [.int (N 9), .ref (wR W), .ref (wM W), .ref (wNL W), .ref (wFL W), .ref (wUN W), .int (N 6), .int (N 8), .int (N 0), .int (N 1), .int (N 2), .int (N 3), .int (N 4), .int (N 5), .int (N 11)]))) := xσ1.at wσ h1
  have fσ1_1 : σ1.1 (wFL W) = some (.inr (.inl (14, [.int mcf, .ref (wFA W), .int (nI (nF N))]))) := xσ1.at wσ h5
  have fσ1_2 : σ1.1 (wFA W) = some (.inl (.object "java/lang/Object", 12, .inr (.inr (.inr (.inr ffA))))) := xσ1.at wσ h5p
  have fσ1_3 : σ1.1 (wNL W) = some (.inr (.inl (14, [.int mcn, .ref (wNA W), .int (nI (nN N))]))) := xσ1.at wσ h4
  have fσ1_4 : σ1.1 (wNA W) = some (.inl (.object "java/lang/Object", 4, .inr (.inr (.inr (.inr fnA))))) := xσ1.at wσ h4p
  have fσ1_5 : σ1.1 (wR W) = some (.inl (.int, 6, .inl fr)) := xσ1.at wσ h2
  have fσ1_6 : σ1.1 (wM W) = some (.inl (.int, 3, .inl fm)) := xσ1.at wσ h3
  have fσ1_7 : σ1.1 (wUN W) = some (.inl (.object "FlagLaundry$Test", 7, .inr (.inr (.inr (.inr fu))))) := xσ1.at wσ h6
  have hRσ1 : RW g σ1 W N := hR9.ext wσ xσ1
  refine A_aload_n (i := 0) dX1_lambda_putBar_1_5 rfl rfl ?_
  refine A_getfN cb_X5 fσ1_0 2 (Nat.le_of_ble_eq_true rfl) q829 rfl (v := .ref (wM W)) rfl dX1_lambda_putBar_1_6 ?_
  refine A_iload_n (i := 1) dX1_lambda_putBar_1_9 rfl rfl ?_
  refine A_iald fσ1_6 (vp_in_nI (Nat.lt_of_lt_of_le ht hT3) (by decide)) dX1_lambda_putBar_1_10 ?_
  refine A_int (w := N (38 + t)) (by rw [nI_clamp (by omega)]; exact h3p t ht) ?_
  refine A_icmp_lt (tgt := 18) dX1_lambda_putBar_1_11 (by decide) (fun c1 => ?_) (fun c1 => ?_)
  · skip
    refine A_iconst (v := 0) dX1_lambda_putBar_1_18 (by decide) ?_
    exact A_zret dX1_lambda_putBar_1_19 rfl (rfl) (⟨by rw [bi_f (Int32.not_le.mpr c1)], yσ1⟩)
  · skip
    refine A_iconst (v := 1) dX1_lambda_putBar_1_14 (by decide) ?_
    refine A_goto (tgt := 19) dX1_lambda_putBar_1_15 (by decide) ?_
    exact A_zret dX1_lambda_putBar_1_19 rfl (rfl) (⟨by rw [bi_t (Int32.not_lt.mp c1)], yσ1⟩)
theorem c_firstX {l : Launch} {g : GC} (σ : AH) (q u n : Nat) (f : Nat → Option Nat) (P : Nat → Prop) [DecidablePred P] (hu : σ.1 u = some (.inl (.object "FlagLaundry$Test", n, .inr (.inr (.inr (.inr f)))))) (hn : n < 2 ^ 31) (hT : ∀ k, k < n → ∃ a, f k = some a ∧ callsX l g σ 42 1 a q (P k)) : AMet l g mX1_first 42 n [.ref q, .ref u] σ (A_ext (some (.int (fstN P 0 n))) σ) (A_no) := by
  refine A_of rfl (by decide) (Nat.le_of_ble_eq_true rfl) (L0 := [(0, .ref q), (1, .ref u)]) rfl ?_
  refine A_wfh (fun wσ hgσ => ?_)
  have yσ : ext σ σ := ext.rf
  refine A_iconst (v := 0) dX1_first_0 (by decide) ?_
  refine A_istore_n (i := 2) dX1_first_1 rfl (Nat.le_of_ble_eq_true rfl) ?_
  refine A_less (b' := (n - 0) * 1 + 0) (by omega) ?_
  refine A_sub (L' := [(0, .ref q), (1, .ref u), (2, .int (nI 0))]) ⟨rfl, rfl, rfl, trivial⟩ ?_
  refine A_forP (α := AH) n (fun i2 _ => (n - i2) * 1 + 0) (fun i2 _ => [(0, .ref q), (1, .ref u), (2, .int (nI i2))]) (fun _ τ2 => τ2) (fun i2 τ2 => ext σ τ2 ∧ (fstN P 0 n = fstN P i2 (n - i2))) σ (⟨ext.rf, rfl⟩) (fun i2 τ2 hi2 hI2 ih2 => ?_) (fun τ2 hI2 => ?_)
  · skip
    refine A_less (b' := (n - (i2 + 1)) * 1 + 0 + 1) (by omega) ?_
    obtain ⟨xτ2, hI2⟩ := hI2
    refine A_wfh (fun wτ2 hgτ2 => ?_)
    have yτ2 : ext σ τ2 := yσ.tr (xτ2)
    have fτ2_0 : τ2.1 u = some (.inl (.object "FlagLaundry$Test", n, .inr (.inr (.inr (.inr f))))) := xτ2.at wσ hu
    refine A_iload_n (i := 2) dX1_first_2 rfl rfl ?_
    refine A_aload_n (i := 1) dX1_first_3 rfl rfl ?_
    refine A_alen fτ2_0 (by decide) (v := nI n) (rfl) dX1_first_4 ?_
    refine A_icmp_ge_f (tgt := 30) dX1_first_5 (by decide) (br_lt rfl hi2 hn) ?_
    obtain ⟨a2, ha2, hc2⟩ := hT i2 hi2
    refine A_aload_n (i := 1) dX1_first_8 rfl rfl ?_
    refine A_iload_n (i := 2) dX1_first_9 rfl rfl ?_
    refine A_aald fτ2_0 (by decide) (vp_in_nI hi2 hn) (v := .ref a2) (by rw [nI_clamp (by omega), ha2]; rfl) dX1_first_10 ?_
    refine A_aload_n (i := 0) dX1_first_11 rfl rfl ?_
    refine hc2 τ2 (yσ.tr xτ2) q1212 dX1_first_12 (by decide) (b' := (n - (i2 + 1)) * 1 + 0) (by omega) (Nat.le_of_ble_eq_true rfl) (fun ρ2 xρ2 => ?_)
    refine A_wfh (fun wρ2 hgρ2 => ?_)
    have yρ2 : ext σ ρ2 := yτ2.tr (xρ2)
    have fρ2_0 : ρ2.1 u = some (.inl (.object "FlagLaundry$Test", n, .inr (.inr (.inr (.inr f))))) := xρ2.at wτ2 fτ2_0
    refine A_if_eq (tgt := 24) dX1_first_17 (by decide) (fun c1 => ?_) (fun c1 => ?_)
    · skip
      have c1 := bi_eq0.mp c1
      refine A_iinc (v := nI (i2 + 1)) dX1_first_24 rfl (nI_inc _ _) (Nat.le_of_ble_eq_true rfl) ?_
      refine A_goto (tgt := 2) dX1_first_27 (by decide) ?_
      refine A_less (b' := (n - (i2 + 1)) * 1 + 0) (by omega) ?_
      refine A_sub (L' := [(0, .ref q), (1, .ref u), (2, .int (nI (i2 + 1)))]) ⟨rfl, rfl, rfl, trivial⟩ ?_
      exact ih2 ρ2 (⟨(xτ2.tr xρ2), (by rw [hI2, fstN_s _ hi2, if_neg c1])⟩)
    · skip
      have c1 := bi_ne0.mp c1
      refine A_iload_n (i := 2) dX1_first_20 rfl rfl ?_
      refine A_iconst (v := 1) dX1_first_21 (by decide) ?_
      refine A_iadd dX1_first_22 ?_
      refine A_int (w := nI (i2 + 1)) (nI_add i2 1) ?_
      exact A_iret dX1_first_23 rfl (⟨by rw [hI2, fstN_s _ hi2, if_pos c1], yρ2⟩)
  · skip
    refine A_less (b' := 0) (by omega) ?_
    obtain ⟨xτ2, hI2⟩ := hI2
    refine A_wfh (fun wτ2 hgτ2 => ?_)
    have yτ2 : ext σ τ2 := yσ.tr (xτ2)
    have fτ2_0 : τ2.1 u = some (.inl (.object "FlagLaundry$Test", n, .inr (.inr (.inr (.inr f))))) := xτ2.at wσ hu
    refine A_iload_n (i := 2) dX1_first_2 rfl rfl ?_
    refine A_aload_n (i := 1) dX1_first_3 rfl rfl ?_
    refine A_alen fτ2_0 (by decide) (v := nI n) (rfl) dX1_first_4 ?_
    refine A_icmp_ge_t (tgt := 30) dX1_first_5 (by decide) (br_ge rfl) ?_
    refine A_iconst (v := 0) dX1_first_30 (by decide) ?_
    exact A_iret dX1_first_31 rfl (⟨by rw [hI2, fstN_e], yτ2⟩)
theorem c_putBar {l : Launch} {g : GC} (σ : AH) (W : WA) (N : AF) (f t : Nat) (hR : RW g σ W N) (hD : WFd N) (hf : f < nF N) (ht : t < nT N) : AMet l g mX1_putBar 43 6 [.ref (wW W), .int (nI f), .int (nI t)] σ (A_ext (some (.int (whyPutN N f t))) σ) (A_no) := by
  refine A_of rfl (by decide) (Nat.le_of_ble_eq_true rfl) (L0 := [(0, .ref (wW W)), (1, .int (nI f)), (2, .int (nI t))]) rfl ?_
  refine A_wfh (fun wσ hgσ => ?_)
  have yσ : ext σ σ := ext.rf
  have hW := hD.1
  have hR9 := hR
  obtain ⟨h1, ⟨fr, h2, h2p⟩, ⟨fm, h3, h3p⟩, ⟨mcn, fnA, h4, h4p, h4q⟩, ⟨mcf, ffA, h5, h5p, h5q⟩, ⟨fu, h6, h6p⟩, h7, h8, h9, h10, h11⟩ := hR
  have hF12 : nF N ≤ 12 := hW.2.2.2.2.2
  have hN4 : nN N ≤ 4 := hW.2.1.2
  have hC6 : nC N ≤ 6 := hW.1.2
  have hT3 : nT N ≤ 3 := hW.2.2.1.2
  have hP8 : nP N ≤ 8 := hW.2.2.2.1.2
  refine A_aload_n (i := 0) dX1_putBar_0 rfl rfl ?_
  refine A_iload_n (i := 1) dX1_putBar_1 rfl rfl ?_
  refine A_callV1E (b' := 6) (v := some (.ref (wF W f))) (τ := σ) (c_flagOf σ W N f hR9 hW hf) tX5_flagOf q1153 h1 rfl rfl dX1_putBar_2 (by decide) (Nat.le_of_ble_eq_true rfl) (Nat.le_of_ble_eq_true rfl) ?_
  refine A_iconst (v := 2) dX1_putBar_5 (by decide) ?_
  refine A_anew (b' := 5) (u := 1) (by decide) q1175 q804 (n' := 2) (by decide) (by decide) (by decide) (Nat.le_of_ble_eq_true rfl) ⟨Nat.le_of_ble_eq_true rfl, Nat.le_of_ble_eq_true rfl⟩ dX1_putBar_6 ?_
  obtain ⟨σ1, eσ1⟩ : ∃ τ, τ = h_new σ (.inl (.object "FlagLaundry$Test", 2, .inr (.inr (.inr (.inr (fun _ => none)))))) := ⟨_, rfl⟩
  refine A_st (σ' := σ1) eσ1.symm ?_
  have wσ1 : wfh σ1 := by rw [eσ1]; exact wσ.new
  have fσ1_0 : σ1.1 (wW W) = some (.inr (.inl (4, [.int (N 9), .ref (wR W), .ref (wM W), .ref (wNL W), .ref (wFL W), .ref (wUN W), .int (N 6), .int (N 8), .int (N 0), .int (N 1), .int (N 2), .int (N 3), .int (N 4), .int (N 5), .int (N 11)]))) := by rw [eσ1]; exact (hn_ne (Nat.ne_of_lt (wσ _ _ h1))).trans h1
  have fσ1_1 : σ1.1 (wFL W) = some (.inr (.inl (14, [.int mcf, .ref (wFA W), .int (nI (nF N))]))) := by rw [eσ1]; exact (hn_ne (Nat.ne_of_lt (wσ _ _ h5))).trans h5
  have fσ1_2 : σ1.1 (wFA W) = some (.inl (.object "java/lang/Object", 12, .inr (.inr (.inr (.inr ffA))))) := by rw [eσ1]; exact (hn_ne (Nat.ne_of_lt (wσ _ _ h5p))).trans h5p
  have fσ1_3 : σ1.1 (wNL W) = some (.inr (.inl (14, [.int mcn, .ref (wNA W), .int (nI (nN N))]))) := by rw [eσ1]; exact (hn_ne (Nat.ne_of_lt (wσ _ _ h4))).trans h4
  have fσ1_4 : σ1.1 (wNA W) = some (.inl (.object "java/lang/Object", 4, .inr (.inr (.inr (.inr fnA))))) := by rw [eσ1]; exact (hn_ne (Nat.ne_of_lt (wσ _ _ h4p))).trans h4p
  have fσ1_5 : σ1.1 (wR W) = some (.inl (.int, 6, .inl fr)) := by rw [eσ1]; exact (hn_ne (Nat.ne_of_lt (wσ _ _ h2))).trans h2
  have fσ1_6 : σ1.1 (wM W) = some (.inl (.int, 3, .inl fm)) := by rw [eσ1]; exact (hn_ne (Nat.ne_of_lt (wσ _ _ h3))).trans h3
  have fσ1_7 : σ1.1 (wUN W) = some (.inl (.object "FlagLaundry$Test", 7, .inr (.inr (.inr (.inr fu))))) := by rw [eσ1]; exact (hn_ne (Nat.ne_of_lt (wσ _ _ h6))).trans h6
  have fσ1_8 : σ1.1 (wF W f) = some (.inr (.inl (6, [.int (fl N f 0), .int (fl N f 1), .int (fl N f 2), .int (fl N f 3), .int (fl N f 4), .int (fl N f 5), .int (fl N f 6), .int (fl N f 7), .ref (wP W f)]))) := by rw [eσ1]; exact (hn_ne (Nat.ne_of_lt (wσ _ _ (hR9.2.2.2.2.2.2.1 f hf)))).trans (hR9.2.2.2.2.2.2.1 f hf)
  have fσ1_9 : σ1.1 σ.2 = some (.inl (.object "FlagLaundry$Test", 2, .inr (.inr (.inr (.inr (fun _ => none)))))) := by rw [eσ1]; exact if_pos rfl
  have xσ1 : ext σ σ1 := by rw [eσ1]; exact ext_new _ _
  have yσ1 : ext σ σ1 := yσ.tr (xσ1)
  have hRσ1 : RW g σ1 W N := hR9.ext wσ xσ1
  refine A_dup dX1_putBar_9 rfl ?_
  refine A_iconst (v := 0) dX1_putBar_10 (by decide) ?_
  refine A_mk8 (Nat.le_of_ble_eq_true rfl) (fun a9_1 ha9_1 => ?_)
  refine A_aastL fσ1_9 (Or.inr ⟨rfl, ha9_1⟩) (show g_sites[7]? = some _ from rfl) si8 (by decide +kernel) (by unfold vp_in; decide) dX1_putBar_16 ?_
  refine A_st (σ' := h_put σ1 σ.2 (.inl (.object "FlagLaundry$Test", 2, .inr (.inr (.inr (.inr (va_up (fun _ => none) 0 (some a9_1)))))))) (rfl) ?_
  obtain ⟨σ2, eσ2⟩ : ∃ τ, τ = h_put σ1 σ.2 (.inl (.object "FlagLaundry$Test", 2, .inr (.inr (.inr (.inr (va_up (fun _ => none) 0 (some a9_1))))))) := ⟨_, rfl⟩
  refine A_st (σ' := σ2) eσ2.symm ?_
  have wσ2 : wfh σ2 := by rw [eσ2]; exact wσ1.put fσ1_9
  have fσ2_0 : σ2.1 (wW W) = some (.inr (.inl (4, [.int (N 9), .ref (wR W), .ref (wM W), .ref (wNL W), .ref (wFL W), .ref (wUN W), .int (N 6), .int (N 8), .int (N 0), .int (N 1), .int (N 2), .int (N 3), .int (N 4), .int (N 5), .int (N 11)]))) := by rw [eσ2]; exact (hp_ne (ne_of (x := .inr (.inl (4, [.int (N 9), .ref (wR W), .ref (wM W), .ref (wNL W), .ref (wFL W), .ref (wUN W), .int (N 6), .int (N 8), .int (N 0), .int (N 1), .int (N 2), .int (N 3), .int (N 4), .int (N 5), .int (N 11)]))) (y := .inl (.object "FlagLaundry$Test", 2, .inr (.inr (.inr (.inr (fun _ => none)))))) fσ1_0 fσ1_9 (fun e8 => by simp at e8))).trans fσ1_0
  have fσ2_1 : σ2.1 (wFL W) = some (.inr (.inl (14, [.int mcf, .ref (wFA W), .int (nI (nF N))]))) := by rw [eσ2]; exact (hp_ne (ne_of (x := .inr (.inl (14, [.int mcf, .ref (wFA W), .int (nI (nF N))]))) (y := .inl (.object "FlagLaundry$Test", 2, .inr (.inr (.inr (.inr (fun _ => none)))))) fσ1_1 fσ1_9 (fun e8 => by simp at e8))).trans fσ1_1
  have fσ2_2 : σ2.1 (wFA W) = some (.inl (.object "java/lang/Object", 12, .inr (.inr (.inr (.inr ffA))))) := by rw [eσ2]; exact (hp_ne (ne_of (x := .inl (.object "java/lang/Object", 12, .inr (.inr (.inr (.inr ffA))))) (y := .inl (.object "FlagLaundry$Test", 2, .inr (.inr (.inr (.inr (fun _ => none)))))) fσ1_2 fσ1_9 (fun e8 => by simp at e8))).trans fσ1_2
  have fσ2_3 : σ2.1 (wNL W) = some (.inr (.inl (14, [.int mcn, .ref (wNA W), .int (nI (nN N))]))) := by rw [eσ2]; exact (hp_ne (ne_of (x := .inr (.inl (14, [.int mcn, .ref (wNA W), .int (nI (nN N))]))) (y := .inl (.object "FlagLaundry$Test", 2, .inr (.inr (.inr (.inr (fun _ => none)))))) fσ1_3 fσ1_9 (fun e8 => by simp at e8))).trans fσ1_3
  have fσ2_4 : σ2.1 (wNA W) = some (.inl (.object "java/lang/Object", 4, .inr (.inr (.inr (.inr fnA))))) := by rw [eσ2]; exact (hp_ne (ne_of (x := .inl (.object "java/lang/Object", 4, .inr (.inr (.inr (.inr fnA))))) (y := .inl (.object "FlagLaundry$Test", 2, .inr (.inr (.inr (.inr (fun _ => none)))))) fσ1_4 fσ1_9 (fun e8 => by simp at e8))).trans fσ1_4
  have fσ2_5 : σ2.1 (wR W) = some (.inl (.int, 6, .inl fr)) := by rw [eσ2]; exact (hp_ne (ne_of (x := .inl (.int, 6, .inl fr)) (y := .inl (.object "FlagLaundry$Test", 2, .inr (.inr (.inr (.inr (fun _ => none)))))) fσ1_5 fσ1_9 (fun e8 => by simp at e8))).trans fσ1_5
  have fσ2_6 : σ2.1 (wM W) = some (.inl (.int, 3, .inl fm)) := by rw [eσ2]; exact (hp_ne (ne_of (x := .inl (.int, 3, .inl fm)) (y := .inl (.object "FlagLaundry$Test", 2, .inr (.inr (.inr (.inr (fun _ => none)))))) fσ1_6 fσ1_9 (fun e8 => by simp at e8))).trans fσ1_6
  have fσ2_7 : σ2.1 (wUN W) = some (.inl (.object "FlagLaundry$Test", 7, .inr (.inr (.inr (.inr fu))))) := by rw [eσ2]; exact (hp_ne (ne_of (x := .inl (.object "FlagLaundry$Test", 7, .inr (.inr (.inr (.inr fu))))) (y := .inl (.object "FlagLaundry$Test", 2, .inr (.inr (.inr (.inr (fun _ => none)))))) fσ1_7 fσ1_9 (fun e8 => by simp at e8))).trans fσ1_7
  have fσ2_8 : σ2.1 (wF W f) = some (.inr (.inl (6, [.int (fl N f 0), .int (fl N f 1), .int (fl N f 2), .int (fl N f 3), .int (fl N f 4), .int (fl N f 5), .int (fl N f 6), .int (fl N f 7), .ref (wP W f)]))) := by rw [eσ2]; exact (hp_ne (ne_of (x := .inr (.inl (6, [.int (fl N f 0), .int (fl N f 1), .int (fl N f 2), .int (fl N f 3), .int (fl N f 4), .int (fl N f 5), .int (fl N f 6), .int (fl N f 7), .ref (wP W f)]))) (y := .inl (.object "FlagLaundry$Test", 2, .inr (.inr (.inr (.inr (fun _ => none)))))) fσ1_8 fσ1_9 (fun e8 => by simp at e8))).trans fσ1_8
  have fσ2_9 : σ2.1 σ.2 = some (.inl (.object "FlagLaundry$Test", 2, .inr (.inr (.inr (.inr (va_up (fun _ => none) 0 (some a9_1))))))) := by rw [eσ2]; exact if_pos rfl
  have yσ2 : ext σ σ2 := by rw [eσ2]; exact (yσ1.putN yσ.1)
  have hRσ2 : RW g σ2 W N := hRσ1.oth wσ1 fσ1_9 (isW_ta (by decide)) (by rw [eσ2]; exact kx.rf.put)
  refine A_dup dX1_putBar_17 rfl ?_
  refine A_iconst (v := 1) dX1_putBar_18 (by decide) ?_
  refine A_aload_n (i := 0) dX1_putBar_19 rfl rfl ?_
  refine A_iload_n (i := 2) dX1_putBar_20 rfl rfl ?_
  refine A_mk9 (b' := 4) (Nat.le_of_ble_eq_true rfl) (Nat.le_of_ble_eq_true rfl) ?_
  obtain ⟨σ3, eσ3⟩ : ∃ τ, τ = h_new σ2 (.inr (.inr (8, [.ref (wW W), .int (nI t)]))) := ⟨_, rfl⟩
  refine A_st (σ' := σ3) eσ3.symm ?_
  have wσ3 : wfh σ3 := by rw [eσ3]; exact wσ2.new
  have fσ3_0 : σ3.1 (wW W) = some (.inr (.inl (4, [.int (N 9), .ref (wR W), .ref (wM W), .ref (wNL W), .ref (wFL W), .ref (wUN W), .int (N 6), .int (N 8), .int (N 0), .int (N 1), .int (N 2), .int (N 3), .int (N 4), .int (N 5), .int (N 11)]))) := by rw [eσ3]; exact (hn_ne (Nat.ne_of_lt (wσ2 _ _ fσ2_0))).trans fσ2_0
  have fσ3_1 : σ3.1 (wFL W) = some (.inr (.inl (14, [.int mcf, .ref (wFA W), .int (nI (nF N))]))) := by rw [eσ3]; exact (hn_ne (Nat.ne_of_lt (wσ2 _ _ fσ2_1))).trans fσ2_1
  have fσ3_2 : σ3.1 (wFA W) = some (.inl (.object "java/lang/Object", 12, .inr (.inr (.inr (.inr ffA))))) := by rw [eσ3]; exact (hn_ne (Nat.ne_of_lt (wσ2 _ _ fσ2_2))).trans fσ2_2
  have fσ3_3 : σ3.1 (wNL W) = some (.inr (.inl (14, [.int mcn, .ref (wNA W), .int (nI (nN N))]))) := by rw [eσ3]; exact (hn_ne (Nat.ne_of_lt (wσ2 _ _ fσ2_3))).trans fσ2_3
  have fσ3_4 : σ3.1 (wNA W) = some (.inl (.object "java/lang/Object", 4, .inr (.inr (.inr (.inr fnA))))) := by rw [eσ3]; exact (hn_ne (Nat.ne_of_lt (wσ2 _ _ fσ2_4))).trans fσ2_4
  have fσ3_5 : σ3.1 (wR W) = some (.inl (.int, 6, .inl fr)) := by rw [eσ3]; exact (hn_ne (Nat.ne_of_lt (wσ2 _ _ fσ2_5))).trans fσ2_5
  have fσ3_6 : σ3.1 (wM W) = some (.inl (.int, 3, .inl fm)) := by rw [eσ3]; exact (hn_ne (Nat.ne_of_lt (wσ2 _ _ fσ2_6))).trans fσ2_6
  have fσ3_7 : σ3.1 (wUN W) = some (.inl (.object "FlagLaundry$Test", 7, .inr (.inr (.inr (.inr fu))))) := by rw [eσ3]; exact (hn_ne (Nat.ne_of_lt (wσ2 _ _ fσ2_7))).trans fσ2_7
  have fσ3_8 : σ3.1 (wF W f) = some (.inr (.inl (6, [.int (fl N f 0), .int (fl N f 1), .int (fl N f 2), .int (fl N f 3), .int (fl N f 4), .int (fl N f 5), .int (fl N f 6), .int (fl N f 7), .ref (wP W f)]))) := by rw [eσ3]; exact (hn_ne (Nat.ne_of_lt (wσ2 _ _ fσ2_8))).trans fσ2_8
  have fσ3_9 : σ3.1 σ.2 = some (.inl (.object "FlagLaundry$Test", 2, .inr (.inr (.inr (.inr (va_up (fun _ => none) 0 (some a9_1))))))) := by rw [eσ3]; exact (hn_ne (Nat.ne_of_lt (wσ2 _ _ fσ2_9))).trans fσ2_9
  have fσ3_10 : σ3.1 σ2.2 = some (.inr (.inr (8, [.ref (wW W), .int (nI t)]))) := by rw [eσ3]; exact if_pos rfl
  have xσ3 : ext σ2 σ3 := by rw [eσ3]; exact ext_new _ _
  have yσ3 : ext σ σ3 := yσ2.tr (xσ3)
  have hRσ3 : RW g σ3 W N := hRσ2.ext wσ2 xσ3
  refine A_aastL fσ3_9 (Or.inl fσ3_10) (show g_sites[8]? = some _ from rfl) si9 (by decide +kernel) (by unfold vp_in; decide) dX1_putBar_26 ?_
  refine A_st (σ' := h_put σ3 σ.2 (.inl (.object "FlagLaundry$Test", 2, .inr (.inr (.inr (.inr (va_up (va_up (fun _ => none) 0 (some a9_1)) 1 (some σ2.2)))))))) (rfl) ?_
  obtain ⟨σ4, eσ4⟩ : ∃ τ, τ = h_put σ3 σ.2 (.inl (.object "FlagLaundry$Test", 2, .inr (.inr (.inr (.inr (va_up (va_up (fun _ => none) 0 (some a9_1)) 1 (some σ2.2))))))) := ⟨_, rfl⟩
  refine A_st (σ' := σ4) eσ4.symm ?_
  have wσ4 : wfh σ4 := by rw [eσ4]; exact wσ3.put fσ3_9
  have fσ4_0 : σ4.1 (wW W) = some (.inr (.inl (4, [.int (N 9), .ref (wR W), .ref (wM W), .ref (wNL W), .ref (wFL W), .ref (wUN W), .int (N 6), .int (N 8), .int (N 0), .int (N 1), .int (N 2), .int (N 3), .int (N 4), .int (N 5), .int (N 11)]))) := by rw [eσ4]; exact (hp_ne (ne_of (x := .inr (.inl (4, [.int (N 9), .ref (wR W), .ref (wM W), .ref (wNL W), .ref (wFL W), .ref (wUN W), .int (N 6), .int (N 8), .int (N 0), .int (N 1), .int (N 2), .int (N 3), .int (N 4), .int (N 5), .int (N 11)]))) (y := .inl (.object "FlagLaundry$Test", 2, .inr (.inr (.inr (.inr (va_up (fun _ => none) 0 (some a9_1))))))) fσ3_0 fσ3_9 (fun e8 => by simp at e8))).trans fσ3_0
  have fσ4_1 : σ4.1 (wFL W) = some (.inr (.inl (14, [.int mcf, .ref (wFA W), .int (nI (nF N))]))) := by rw [eσ4]; exact (hp_ne (ne_of (x := .inr (.inl (14, [.int mcf, .ref (wFA W), .int (nI (nF N))]))) (y := .inl (.object "FlagLaundry$Test", 2, .inr (.inr (.inr (.inr (va_up (fun _ => none) 0 (some a9_1))))))) fσ3_1 fσ3_9 (fun e8 => by simp at e8))).trans fσ3_1
  have fσ4_2 : σ4.1 (wFA W) = some (.inl (.object "java/lang/Object", 12, .inr (.inr (.inr (.inr ffA))))) := by rw [eσ4]; exact (hp_ne (ne_of (x := .inl (.object "java/lang/Object", 12, .inr (.inr (.inr (.inr ffA))))) (y := .inl (.object "FlagLaundry$Test", 2, .inr (.inr (.inr (.inr (va_up (fun _ => none) 0 (some a9_1))))))) fσ3_2 fσ3_9 (fun e8 => by simp at e8))).trans fσ3_2
  have fσ4_3 : σ4.1 (wNL W) = some (.inr (.inl (14, [.int mcn, .ref (wNA W), .int (nI (nN N))]))) := by rw [eσ4]; exact (hp_ne (ne_of (x := .inr (.inl (14, [.int mcn, .ref (wNA W), .int (nI (nN N))]))) (y := .inl (.object "FlagLaundry$Test", 2, .inr (.inr (.inr (.inr (va_up (fun _ => none) 0 (some a9_1))))))) fσ3_3 fσ3_9 (fun e8 => by simp at e8))).trans fσ3_3
  have fσ4_4 : σ4.1 (wNA W) = some (.inl (.object "java/lang/Object", 4, .inr (.inr (.inr (.inr fnA))))) := by rw [eσ4]; exact (hp_ne (ne_of (x := .inl (.object "java/lang/Object", 4, .inr (.inr (.inr (.inr fnA))))) (y := .inl (.object "FlagLaundry$Test", 2, .inr (.inr (.inr (.inr (va_up (fun _ => none) 0 (some a9_1))))))) fσ3_4 fσ3_9 (fun e8 => by simp at e8))).trans fσ3_4
  have fσ4_5 : σ4.1 (wR W) = some (.inl (.int, 6, .inl fr)) := by rw [eσ4]; exact (hp_ne (ne_of (x := .inl (.int, 6, .inl fr)) (y := .inl (.object "FlagLaundry$Test", 2, .inr (.inr (.inr (.inr (va_up (fun _ => none) 0 (some a9_1))))))) fσ3_5 fσ3_9 (fun e8 => by simp at e8))).trans fσ3_5
  have fσ4_6 : σ4.1 (wM W) = some (.inl (.int, 3, .inl fm)) := by rw [eσ4]; exact (hp_ne (ne_of (x := .inl (.int, 3, .inl fm)) (y := .inl (.object "FlagLaundry$Test", 2, .inr (.inr (.inr (.inr (va_up (fun _ => none) 0 (some a9_1))))))) fσ3_6 fσ3_9 (fun e8 => by simp at e8))).trans fσ3_6
  have fσ4_7 : σ4.1 (wUN W) = some (.inl (.object "FlagLaundry$Test", 7, .inr (.inr (.inr (.inr fu))))) := by rw [eσ4]; exact (hp_ne (ne_of (x := .inl (.object "FlagLaundry$Test", 7, .inr (.inr (.inr (.inr fu))))) (y := .inl (.object "FlagLaundry$Test", 2, .inr (.inr (.inr (.inr (va_up (fun _ => none) 0 (some a9_1))))))) fσ3_7 fσ3_9 (fun e8 => by simp at e8))).trans fσ3_7
  have fσ4_8 : σ4.1 (wF W f) = some (.inr (.inl (6, [.int (fl N f 0), .int (fl N f 1), .int (fl N f 2), .int (fl N f 3), .int (fl N f 4), .int (fl N f 5), .int (fl N f 6), .int (fl N f 7), .ref (wP W f)]))) := by rw [eσ4]; exact (hp_ne (ne_of (x := .inr (.inl (6, [.int (fl N f 0), .int (fl N f 1), .int (fl N f 2), .int (fl N f 3), .int (fl N f 4), .int (fl N f 5), .int (fl N f 6), .int (fl N f 7), .ref (wP W f)]))) (y := .inl (.object "FlagLaundry$Test", 2, .inr (.inr (.inr (.inr (va_up (fun _ => none) 0 (some a9_1))))))) fσ3_8 fσ3_9 (fun e8 => by simp at e8))).trans fσ3_8
  have fσ4_9 : σ4.1 σ.2 = some (.inl (.object "FlagLaundry$Test", 2, .inr (.inr (.inr (.inr (va_up (va_up (fun _ => none) 0 (some a9_1)) 1 (some σ2.2))))))) := by rw [eσ4]; exact if_pos rfl
  have fσ4_10 : σ4.1 σ2.2 = some (.inr (.inr (8, [.ref (wW W), .int (nI t)]))) := by rw [eσ4]; exact (hp_ne (ne_of (x := .inr (.inr (8, [.ref (wW W), .int (nI t)]))) (y := .inl (.object "FlagLaundry$Test", 2, .inr (.inr (.inr (.inr (va_up (fun _ => none) 0 (some a9_1))))))) fσ3_10 fσ3_9 (fun e8 => by simp at e8))).trans fσ3_10
  have yσ4 : ext σ σ4 := by rw [eσ4]; exact (yσ3.putN yσ.1)
  have hRσ4 : RW g σ4 W N := hRσ3.oth wσ3 fσ3_9 (isW_ta (by decide)) (by rw [eσ4]; exact kx.rf.put)
  refine A_callS2 (b' := 2) (c_firstX σ4 (wF W f) σ.2 2 (va_up (va_up (fun _ => none) 0 (some a9_1)) 1 (some σ2.2)) (putP N f t) fσ4_9 (by decide) (fun k hk => by match k, hk with | 0, _ => exact ⟨_, rfl, cX8 (D := 2) wσ4 (by decide) (Or.inr ⟨rfl, ha9_1⟩) (fun τ x => by rw [show bi (putP N f t 0) = bi (¬ inBasket N f) from bi_congr (by simp [putP, -Int32.not_le, -Int32.not_lt])]; exact c_lp0 τ W N f (hRσ4.ext wσ4 x) hD hf)⟩ | 1, _ => exact ⟨_, rfl, cX9 (D := 34) wσ4 (by decide) (Or.inl fσ4_10) (fun τ x => by rw [show bi (putP N f t 1) = bi (N (38 + t) ≤ manyT N (nI t)) from bi_congr (by simp [putP, -Int32.not_le, -Int32.not_lt])]; exact c_lp1 τ W N f t (hRσ4.ext wσ4 x) hD ht)⟩ | k + 2, hk => exact absurd hk (by omega))) tX1_first q1208 dX1_putBar_27 (by decide) (Nat.le_of_ble_eq_true rfl) (Nat.le_of_ble_eq_true rfl) (fun w9 σ5 h9 => ?_) (fun E9 q9 τ9 h9 => h9.elim)
  obtain ⟨e9, xσ5⟩ := h9
  subst e9
  refine A_wfh (fun wσ5 hgσ5 => ?_)
  have yσ5 : ext σ σ5 := yσ4.tr (xσ5)
  have fσ5_0 : σ5.1 (wW W) = some (.inr (.inl (4, [.int (N 9), .ref (wR W), .ref (wM W), .ref (wNL W), .ref (wFL W), .ref (wUN W), .int (N 6), .int (N 8), .int (N 0), .int (N 1), .int (N 2), .int (N 3), .int (N 4), .int (N 5), .int (N 11)]))) := xσ5.at wσ4 fσ4_0
  have fσ5_1 : σ5.1 (wFL W) = some (.inr (.inl (14, [.int mcf, .ref (wFA W), .int (nI (nF N))]))) := xσ5.at wσ4 fσ4_1
  have fσ5_2 : σ5.1 (wFA W) = some (.inl (.object "java/lang/Object", 12, .inr (.inr (.inr (.inr ffA))))) := xσ5.at wσ4 fσ4_2
  have fσ5_3 : σ5.1 (wNL W) = some (.inr (.inl (14, [.int mcn, .ref (wNA W), .int (nI (nN N))]))) := xσ5.at wσ4 fσ4_3
  have fσ5_4 : σ5.1 (wNA W) = some (.inl (.object "java/lang/Object", 4, .inr (.inr (.inr (.inr fnA))))) := xσ5.at wσ4 fσ4_4
  have fσ5_5 : σ5.1 (wR W) = some (.inl (.int, 6, .inl fr)) := xσ5.at wσ4 fσ4_5
  have fσ5_6 : σ5.1 (wM W) = some (.inl (.int, 3, .inl fm)) := xσ5.at wσ4 fσ4_6
  have fσ5_7 : σ5.1 (wUN W) = some (.inl (.object "FlagLaundry$Test", 7, .inr (.inr (.inr (.inr fu))))) := xσ5.at wσ4 fσ4_7
  have fσ5_8 : σ5.1 (wF W f) = some (.inr (.inl (6, [.int (fl N f 0), .int (fl N f 1), .int (fl N f 2), .int (fl N f 3), .int (fl N f 4), .int (fl N f 5), .int (fl N f 6), .int (fl N f 7), .ref (wP W f)]))) := xσ5.at wσ4 fσ4_8
  have fσ5_9 : σ5.1 σ.2 = some (.inl (.object "FlagLaundry$Test", 2, .inr (.inr (.inr (.inr (va_up (va_up (fun _ => none) 0 (some a9_1)) 1 (some σ2.2))))))) := xσ5.at wσ4 fσ4_9
  have fσ5_10 : σ5.1 σ2.2 = some (.inr (.inr (8, [.ref (wW W), .int (nI t)]))) := xσ5.at wσ4 fσ4_10
  have hRσ5 : RW g σ5 W N := hRσ4.ext wσ4 xσ5
  exact A_iret dX1_putBar_30 rfl (⟨by rw [fst_put], yσ5⟩)
