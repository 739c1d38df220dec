/-! THE COMPONENT 4: tests; counts by a test -/
theorem cT1 {l : Launch} {g : GC} {σ : AH} {e a n D : Nat} {fa : Nat → Nat} {p : Nat → Prop} [DecidablePred p]  (hDD : D + 2 ≤ e) (hO : lamO g σ 0 [] a) (hM : ∀ f, f < n → AMet l g mX5_lambda_new_0 D 0 [.ref (fa f)] σ (A_eq (some (.int (bi (p f)))) σ) A_no) : callsT l g σ e a fa n p :=
  fun f hf _ _ _ _ _ _ _ _ _ _ hq hd hdp hw kk => A_lam1 (hM f hf) hO (fun v τ h => ⟨_, h.1, nar_bi _⟩) hq hd (by omega) (Nat.le_of_eq (Nat.zero_add _)) hw (fun v τ h => by obtain ⟨e1, e2⟩ := h; subst e1; subst e2; exact kk)
theorem cT2 {l : Launch} {g : GC} {σ : AH} {e a n D : Nat} {fa : Nat → Nat} {p : Nat → Prop} [DecidablePred p]  (hDD : D + 2 ≤ e) (hO : lamO g σ 1 [] a) (hM : ∀ f, f < n → AMet l g mX5_lambda_new_1 D 0 [.ref (fa f)] σ (A_eq (some (.int (bi (p f)))) σ) A_no) : callsT l g σ e a fa n p :=
  fun f hf _ _ _ _ _ _ _ _ _ _ hq hd hdp hw kk => A_lam2 (hM f hf) hO (fun v τ h => ⟨_, h.1, nar_bi _⟩) hq hd (by omega) (Nat.le_of_eq (Nat.zero_add _)) hw (fun v τ h => by obtain ⟨e1, e2⟩ := h; subst e1; subst e2; exact kk)
theorem cT3 {l : Launch} {g : GC} {σ : AH} {e a n D : Nat} {fa : Nat → Nat} {p : Nat → Prop} [DecidablePred p]  (hDD : D + 2 ≤ e) (hO : lamO g σ 2 [] a) (hM : ∀ f, f < n → AMet l g mX5_lambda_new_2 D 0 [.ref (fa f)] σ (A_eq (some (.int (bi (p f)))) σ) A_no) : callsT l g σ e a fa n p :=
  fun f hf _ _ _ _ _ _ _ _ _ _ hq hd hdp hw kk => A_lam3 (hM f hf) hO (fun v τ h => ⟨_, h.1, nar_bi _⟩) hq hd (by omega) (Nat.le_of_eq (Nat.zero_add _)) hw (fun v τ h => by obtain ⟨e1, e2⟩ := h; subst e1; subst e2; exact kk)
theorem cT4 {l : Launch} {g : GC} {σ : AH} {e a n D : Nat} {fa : Nat → Nat} {p : Nat → Prop} [DecidablePred p]  (hDD : D + 2 ≤ e) (hO : lamO g σ 3 [] a) (hM : ∀ f, f < n → AMet l g mX5_lambda_new_3 D 0 [.ref (fa f)] σ (A_eq (some (.int (bi (p f)))) σ) A_no) : callsT l g σ e a fa n p :=
  fun f hf _ _ _ _ _ _ _ _ _ _ hq hd hdp hw kk => A_lam4 (hM f hf) hO (fun v τ h => ⟨_, h.1, nar_bi _⟩) hq hd (by omega) (Nat.le_of_eq (Nat.zero_add _)) hw (fun v τ h => by obtain ⟨e1, e2⟩ := h; subst e1; subst e2; exact kk)
theorem cT5 {l : Launch} {g : GC} {σ : AH} {e a n D : Nat} {fa : Nat → Nat} {p : Nat → Prop} [DecidablePred p]  (hDD : D + 2 ≤ e) (hO : lamO g σ 4 [] a) (hM : ∀ f, f < n → AMet l g mX5_lambda_new_4 D 0 [.ref (fa f)] σ (A_eq (some (.int (bi (p f)))) σ) A_no) : callsT l g σ e a fa n p :=
  fun f hf _ _ _ _ _ _ _ _ _ _ hq hd hdp hw kk => A_lam5 (hM f hf) hO (fun v τ h => ⟨_, h.1, nar_bi _⟩) hq hd (by omega) (Nat.le_of_eq (Nat.zero_add _)) hw (fun v τ h => by obtain ⟨e1, e2⟩ := h; subst e1; subst e2; exact kk)
theorem cT6 {l : Launch} {g : GC} {σ : AH} {e a n D : Nat} {fa : Nat → Nat} {p : Nat → Prop} [DecidablePred p]  (hDD : D + 2 ≤ e) (hO : lamO g σ 5 [] a) (hM : ∀ f, f < n → AMet l g mX5_lambda_new_5 D 0 [.ref (fa f)] σ (A_eq (some (.int (bi (p f)))) σ) A_no) : callsT l g σ e a fa n p :=
  fun f hf _ _ _ _ _ _ _ _ _ _ hq hd hdp hw kk => A_lam6 (hM f hf) hO (fun v τ h => ⟨_, h.1, nar_bi _⟩) hq hd (by omega) (Nat.le_of_eq (Nat.zero_add _)) hw (fun v τ h => by obtain ⟨e1, e2⟩ := h; subst e1; subst e2; exact kk)
theorem cT7 {l : Launch} {g : GC} {σ : AH} {e a n D : Nat} {fa : Nat → Nat} {p : Nat → Prop} [DecidablePred p]  (hDD : D + 2 ≤ e) (hO : lamO g σ 6 [] a) (hM : ∀ f, f < n → AMet l g mX5_lambda_new_6 D 0 [.ref (fa f)] σ (A_eq (some (.int (bi (p f)))) σ) A_no) : callsT l g σ e a fa n p :=
  fun f hf _ _ _ _ _ _ _ _ _ _ hq hd hdp hw kk => A_lam7 (hM f hf) hO (fun v τ h => ⟨_, h.1, nar_bi _⟩) hq hd (by omega) (Nat.le_of_eq (Nat.zero_add _)) hw (fun v τ h => by obtain ⟨e1, e2⟩ := h; subst e1; subst e2; exact kk)
theorem cT10 {l : Launch} {g : GC} {σ : AH} {e a n D : Nat} {fa : Nat → Nat} {p : Nat → Prop} [DecidablePred p] {x1 : Int32} (hDD : D + 2 ≤ e) (hO : lamO g σ 9 [.int x1] a) (hM : ∀ f, f < n → AMet l g mX5_lambda_within_8 D 0 [.int x1, .ref (fa f)] σ (A_eq (some (.int (bi (p f)))) σ) A_no) : callsT l g σ e a fa n p :=
  fun f hf _ _ _ _ _ _ _ _ _ _ hq hd hdp hw kk => A_lam10 (hM f hf) hO (fun v τ h => ⟨_, h.1, nar_bi _⟩) hq hd (by omega) (Nat.le_of_eq (Nat.zero_add _)) hw (fun v τ h => by obtain ⟨e1, e2⟩ := h; subst e1; subst e2; exact kk)
theorem cT11 {l : Launch} {g : GC} {σ : AH} {e a n D : Nat} {fa : Nat → Nat} {p : Nat → Prop} [DecidablePred p] {x1 : Int32} (hDD : D + 2 ≤ e) (hO : lamO g σ 10 [.int x1] a) (hM : ∀ f, f < n → AMet l g mX5_lambda_at_7 D 0 [.int x1, .ref (fa f)] σ (A_eq (some (.int (bi (p f)))) σ) A_no) : callsT l g σ e a fa n p :=
  fun f hf _ _ _ _ _ _ _ _ _ _ hq hd hdp hw kk => A_lam11 (hM f hf) hO (fun v τ h => ⟨_, h.1, nar_bi _⟩) hq hd (by omega) (Nat.le_of_eq (Nat.zero_add _)) hw (fun v τ h => by obtain ⟨e1, e2⟩ := h; subst e1; subst e2; exact kk)
theorem cT12 {l : Launch} {g : GC} {σ : AH} {e a n D : Nat} {fa : Nat → Nat} {p : Nat → Prop} [DecidablePred p] {a1 : Nat} {fsB : List Value} (hB : σ.1 a1 = some (.inr (.inl (4, fsB)))) (hDD : D + 2 ≤ e) (hO : lamO g σ 11 [.ref a1] a) (hM : ∀ f, f < n → AMet l g mX5_lambda_ready_9 D 0 [.ref a1, .ref (fa f)] σ (A_eq (some (.int (bi (p f)))) σ) A_no) : callsT l g σ e a fa n p :=
  fun f hf _ _ _ _ _ _ _ _ _ _ hq hd hdp hw kk => A_lam12 hB (hM f hf) hO (fun v τ h => ⟨_, h.1, nar_bi _⟩) hq hd (by omega) (Nat.le_of_eq (Nat.zero_add _)) hw (fun v τ h => by obtain ⟨e1, e2⟩ := h; subst e1; subst e2; exact kk)
theorem cT15 {l : Launch} {g : GC} {σ : AH} {e a n D : Nat} {fa : Nat → Nat} {p : Nat → Prop} [DecidablePred p] {x1 : Int32} (hDD : D + 2 ≤ e) (hO : lamO g σ 14 [.int x1] a) (hM : ∀ f, f < n → AMet l g mX5_lambda_flagsOf_11 D 0 [.int x1, .ref (fa f)] σ (A_eq (some (.int (bi (p f)))) σ) A_no) : callsT l g σ e a fa n p :=
  fun f hf _ _ _ _ _ _ _ _ _ _ hq hd hdp hw kk => A_lam15 (hM f hf) hO (fun v τ h => ⟨_, h.1, nar_bi _⟩) hq hd (by omega) (Nat.le_of_eq (Nat.zero_add _)) hw (fun v τ h => by obtain ⟨e1, e2⟩ := h; subst e1; subst e2; exact kk)
theorem cT16 {l : Launch} {g : GC} {σ : AH} {e a n D : Nat} {fa : Nat → Nat} {p : Nat → Prop} [DecidablePred p] {a1 : Nat} {x2 : Int32} {fsB : List Value} (hB : σ.1 a1 = some (.inr (.inl (4, fsB)))) (hDD : D + 2 ≤ e) (hO : lamO g σ 15 [.ref a1, .int x2] a) (hM : ∀ f, f < n → AMet l g mX5_lambda_readyOf_10 D 0 [.ref a1, .int x2, .ref (fa f)] σ (A_eq (some (.int (bi (p f)))) σ) A_no) : callsT l g σ e a fa n p :=
  fun f hf _ _ _ _ _ _ _ _ _ _ hq hd hdp hw kk => A_lam16 hB (hM f hf) hO (fun v τ h => ⟨_, h.1, nar_bi _⟩) hq hd (by omega) (Nat.le_of_eq (Nat.zero_add _)) hw (fun v τ h => by obtain ⟨e1, e2⟩ := h; subst e1; subst e2; exact kk)
/-- the number of the first place from i on where P holds, from 1; 0 if there is none -/
def fstN (P : Nat → Prop) [DecidablePred P] (i : Nat) : Nat → Int32
  | 0 => 0
  | k + 1 => if P i then nI (i + 1) else fstN P (i + 1) k
theorem fstN_s (P : Nat → Prop) [DecidablePred P] {i n : Nat} (h : i < n) : fstN P i (n - i) = if P i then nI (i + 1) else fstN P (i + 1) (n - (i + 1)) := by
  rw [show n - i = (n - (i + 1)) + 1 by omega]
  rfl
theorem fstN_e (P : Nat → Prop) [DecidablePred P] (n : Nat) : fstN P n (n - n) = 0 := by
  rw [Nat.sub_self]
  rfl
abbrev whyP (F : Nat → Int32) (k : Nat) : Prop := (k = 0 ∧ F 8 = 3) ∨ (k = 1 ∧ F 8 = 1) ∨ (k = 2 ∧ F 8 = 2) ∨ (k = 3 ∧ ¬ F 3 ≤ 0) ∨ (k = 4 ∧ ¬ F 6 = 0) ∨ (k = 5 ∧ ¬ F 4 ≤ 0) ∨ (k = 6 ∧ ¬ F 5 ≤ 0)
theorem fst_why (N : AF) (f : Nat) : fstN (whyP (fl N f)) 0 7 = whyN N f := by
  simp only [fstN, whyP, whyN]
  simp [-Int32.not_le, -Int32.not_lt]
  rfl
theorem flok_k {N : AF} (h : WFd N) {f : Nat} (hf : f < nF N) : PLk (fl N f 8) := by
  rcases (h.2 f hf).2.2.2.2.2.2.2 with ⟨h, -⟩ | ⟨h, -⟩ | ⟨h, -⟩ | ⟨h, -⟩
  · exact Or.inl h
  · exact Or.inr (Or.inl h)
  · exact Or.inr (Or.inr (Or.inl h))
  · exact Or.inr (Or.inr (Or.inr h))
set_option maxHeartbeats 100000 in
theorem c_ln0 {l : Launch} {g : GC} (σ : AH) (a : Nat) (pl : Nat) (F : Nat → Int32)  (hF : σ.1 a = some (.inr (.inl (6, [.int (F 0), .int (F 1), .int (F 2), .int (F 3), .int (F 4), .int (F 5), .int (F 6), .int (F 7), .ref pl])))) (hP : σ.1 pl = some (.inr (.inl (plc (F 8) (F 9) (F 10))))) (hk : PLk (F 8)) : AMet l g mX5_lambda_new_0 1 0 [.ref a] σ (A_eq (some (.int (bi (F 8 = 3)))) σ) A_no := by
  rcases hk with h8 | h8 | h8 | h8
  · skip
    have hP : σ.1 pl = some (.inr (.inl (7, []))) := by rw [h8] at hP; exact hP
    refine A_of rfl (by decide) (Nat.le_of_ble_eq_true rfl) (L0 := [(0, .ref a)]) rfl ?_
    refine A_aload_n (i := 0) dX5_lambda_new_0_0 rfl rfl ?_
    refine A_getfN cb_X7 hF 8 (Nat.le_of_ble_eq_true rfl) q1121 rfl (v := .ref pl) rfl dX5_lambda_new_0_1 ?_
    refine A_instNo hP rfl nc_X8_X12 q807 dX5_lambda_new_0_4 ?_
    exact A_zret dX5_lambda_new_0_7 rfl (rfl) (⟨by simp [bi, -Int32.not_le, -Int32.not_lt, h8], rfl⟩)
  · skip
    have hP : σ.1 pl = some (.inr (.inl (8, [.int (F 9), .int (F 10)]))) := by rw [h8] at hP; exact hP
    refine A_of rfl (by decide) (Nat.le_of_ble_eq_true rfl) (L0 := [(0, .ref a)]) rfl ?_
    refine A_aload_n (i := 0) dX5_lambda_new_0_0 rfl rfl ?_
    refine A_getfN cb_X7 hF 8 (Nat.le_of_ble_eq_true rfl) q1121 rfl (v := .ref pl) rfl dX5_lambda_new_0_1 ?_
    refine A_instNo hP rfl nc_X9_X12 q807 dX5_lambda_new_0_4 ?_
    exact A_zret dX5_lambda_new_0_7 rfl (rfl) (⟨by simp [bi, -Int32.not_le, -Int32.not_lt, h8], rfl⟩)
  · skip
    have hP : σ.1 pl = some (.inr (.inl (9, [.int (F 9)]))) := by rw [h8] at hP; exact hP
    refine A_of rfl (by decide) (Nat.le_of_ble_eq_true rfl) (L0 := [(0, .ref a)]) rfl ?_
    refine A_aload_n (i := 0) dX5_lambda_new_0_0 rfl rfl ?_
    refine A_getfN cb_X7 hF 8 (Nat.le_of_ble_eq_true rfl) q1121 rfl (v := .ref pl) rfl dX5_lambda_new_0_1 ?_
    refine A_instNo hP rfl nc_X11_X12 q807 dX5_lambda_new_0_4 ?_
    exact A_zret dX5_lambda_new_0_7 rfl (rfl) (⟨by simp [bi, -Int32.not_le, -Int32.not_lt, h8], rfl⟩)
  · skip
    have hP : σ.1 pl = some (.inr (.inl (10, []))) := by rw [h8] at hP; exact hP
    refine A_of rfl (by decide) (Nat.le_of_ble_eq_true rfl) (L0 := [(0, .ref a)]) rfl ?_
    refine A_aload_n (i := 0) dX5_lambda_new_0_0 rfl rfl ?_
    refine A_getfN cb_X7 hF 8 (Nat.le_of_ble_eq_true rfl) q1121 rfl (v := .ref pl) rfl dX5_lambda_new_0_1 ?_
    refine A_instE hP rfl q807 dX5_lambda_new_0_4 ?_
    exact A_zret dX5_lambda_new_0_7 rfl (rfl) (⟨by simp [bi, -Int32.not_le, -Int32.not_lt, h8], rfl⟩)
set_option maxHeartbeats 100000 in
theorem c_ln1 {l : Launch} {g : GC} (σ : AH) (a : Nat) (pl : Nat) (F : Nat → Int32)  (hF : σ.1 a = some (.inr (.inl (6, [.int (F 0), .int (F 1), .int (F 2), .int (F 3), .int (F 4), .int (F 5), .int (F 6), .int (F 7), .ref pl])))) (hP : σ.1 pl = some (.inr (.inl (plc (F 8) (F 9) (F 10))))) (hk : PLk (F 8)) : AMet l g mX5_lambda_new_1 1 0 [.ref a] σ (A_eq (some (.int (bi (F 8 = 1)))) σ) A_no := by
  rcases hk with h8 | h8 | h8 | h8
  · skip
    have hP : σ.1 pl = some (.inr (.inl (7, []))) := by rw [h8] at hP; exact hP
    refine A_of rfl (by decide) (Nat.le_of_ble_eq_true rfl) (L0 := [(0, .ref a)]) rfl ?_
    refine A_aload_n (i := 0) dX5_lambda_new_1_0 rfl rfl ?_
    refine A_getfN cb_X7 hF 8 (Nat.le_of_ble_eq_true rfl) q1121 rfl (v := .ref pl) rfl dX5_lambda_new_1_1 ?_
    refine A_instNo hP rfl nc_X8_X9 q810 dX5_lambda_new_1_4 ?_
    exact A_zret dX5_lambda_new_1_7 rfl (rfl) (⟨by simp [bi, -Int32.not_le, -Int32.not_lt, h8], rfl⟩)
  · skip
    have hP : σ.1 pl = some (.inr (.inl (8, [.int (F 9), .int (F 10)]))) := by rw [h8] at hP; exact hP
    refine A_of rfl (by decide) (Nat.le_of_ble_eq_true rfl) (L0 := [(0, .ref a)]) rfl ?_
    refine A_aload_n (i := 0) dX5_lambda_new_1_0 rfl rfl ?_
    refine A_getfN cb_X7 hF 8 (Nat.le_of_ble_eq_true rfl) q1121 rfl (v := .ref pl) rfl dX5_lambda_new_1_1 ?_
    refine A_instE hP rfl q810 dX5_lambda_new_1_4 ?_
    exact A_zret dX5_lambda_new_1_7 rfl (rfl) (⟨by simp [bi, -Int32.not_le, -Int32.not_lt, h8], rfl⟩)
  · skip
    have hP : σ.1 pl = some (.inr (.inl (9, [.int (F 9)]))) := by rw [h8] at hP; exact hP
    refine A_of rfl (by decide) (Nat.le_of_ble_eq_true rfl) (L0 := [(0, .ref a)]) rfl ?_
    refine A_aload_n (i := 0) dX5_lambda_new_1_0 rfl rfl ?_
    refine A_getfN cb_X7 hF 8 (Nat.le_of_ble_eq_true rfl) q1121 rfl (v := .ref pl) rfl dX5_lambda_new_1_1 ?_
    refine A_instNo hP rfl nc_X11_X9 q810 dX5_lambda_new_1_4 ?_
    exact A_zret dX5_lambda_new_1_7 rfl (rfl) (⟨by simp [bi, -Int32.not_le, -Int32.not_lt, h8], rfl⟩)
  · skip
    have hP : σ.1 pl = some (.inr (.inl (10, []))) := by rw [h8] at hP; exact hP
    refine A_of rfl (by decide) (Nat.le_of_ble_eq_true rfl) (L0 := [(0, .ref a)]) rfl ?_
    refine A_aload_n (i := 0) dX5_lambda_new_1_0 rfl rfl ?_
    refine A_getfN cb_X7 hF 8 (Nat.le_of_ble_eq_true rfl) q1121 rfl (v := .ref pl) rfl dX5_lambda_new_1_1 ?_
    refine A_instNo hP rfl nc_X12_X9 q810 dX5_lambda_new_1_4 ?_
    exact A_zret dX5_lambda_new_1_7 rfl (rfl) (⟨by simp [bi, -Int32.not_le, -Int32.not_lt, h8], rfl⟩)
set_option maxHeartbeats 100000 in
theorem c_ln2 {l : Launch} {g : GC} (σ : AH) (a : Nat) (pl : Nat) (F : Nat → Int32)  (hF : σ.1 a = some (.inr (.inl (6, [.int (F 0), .int (F 1), .int (F 2), .int (F 3), .int (F 4), .int (F 5), .int (F 6), .int (F 7), .ref pl])))) (hP : σ.1 pl = some (.inr (.inl (plc (F 8) (F 9) (F 10))))) (hk : PLk (F 8)) : AMet l g mX5_lambda_new_2 1 0 [.ref a] σ (A_eq (some (.int (bi (F 8 = 2)))) σ) A_no := by
  rcases hk with h8 | h8 | h8 | h8
  · skip
    have hP : σ.1 pl = some (.inr (.inl (7, []))) := by rw [h8] at hP; exact hP
    refine A_of rfl (by decide) (Nat.le_of_ble_eq_true rfl) (L0 := [(0, .ref a)]) rfl ?_
    refine A_aload_n (i := 0) dX5_lambda_new_2_0 rfl rfl ?_
    refine A_getfN cb_X7 hF 8 (Nat.le_of_ble_eq_true rfl) q1121 rfl (v := .ref pl) rfl dX5_lambda_new_2_1 ?_
    refine A_instNo hP rfl nc_X8_X11 q813 dX5_lambda_new_2_4 ?_
    exact A_zret dX5_lambda_new_2_7 rfl (rfl) (⟨by simp [bi, -Int32.not_le, -Int32.not_lt, h8], rfl⟩)
  · skip
    have hP : σ.1 pl = some (.inr (.inl (8, [.int (F 9), .int (F 10)]))) := by rw [h8] at hP; exact hP
    refine A_of rfl (by decide) (Nat.le_of_ble_eq_true rfl) (L0 := [(0, .ref a)]) rfl ?_
    refine A_aload_n (i := 0) dX5_lambda_new_2_0 rfl rfl ?_
    refine A_getfN cb_X7 hF 8 (Nat.le_of_ble_eq_true rfl) q1121 rfl (v := .ref pl) rfl dX5_lambda_new_2_1 ?_
    refine A_instNo hP rfl nc_X9_X11 q813 dX5_lambda_new_2_4 ?_
    exact A_zret dX5_lambda_new_2_7 rfl (rfl) (⟨by simp [bi, -Int32.not_le, -Int32.not_lt, h8], rfl⟩)
  · skip
    have hP : σ.1 pl = some (.inr (.inl (9, [.int (F 9)]))) := by rw [h8] at hP; exact hP
    refine A_of rfl (by decide) (Nat.le_of_ble_eq_true rfl) (L0 := [(0, .ref a)]) rfl ?_
    refine A_aload_n (i := 0) dX5_lambda_new_2_0 rfl rfl ?_
    refine A_getfN cb_X7 hF 8 (Nat.le_of_ble_eq_true rfl) q1121 rfl (v := .ref pl) rfl dX5_lambda_new_2_1 ?_
    refine A_instE hP rfl q813 dX5_lambda_new_2_4 ?_
    exact A_zret dX5_lambda_new_2_7 rfl (rfl) (⟨by simp [bi, -Int32.not_le, -Int32.not_lt, h8], rfl⟩)
  · skip
    have hP : σ.1 pl = some (.inr (.inl (10, []))) := by rw [h8] at hP; exact hP
    refine A_of rfl (by decide) (Nat.le_of_ble_eq_true rfl) (L0 := [(0, .ref a)]) rfl ?_
    refine A_aload_n (i := 0) dX5_lambda_new_2_0 rfl rfl ?_
    refine A_getfN cb_X7 hF 8 (Nat.le_of_ble_eq_true rfl) q1121 rfl (v := .ref pl) rfl dX5_lambda_new_2_1 ?_
    refine A_instNo hP rfl nc_X12_X11 q813 dX5_lambda_new_2_4 ?_
    exact A_zret dX5_lambda_new_2_7 rfl (rfl) (⟨by simp [bi, -Int32.not_le, -Int32.not_lt, h8], rfl⟩)
set_option maxHeartbeats 100000 in
theorem c_ln3 {l : Launch} {g : GC} (σ : AH) (a pl : Nat) (F : Nat → Int32)  (hF : σ.1 a = some (.inr (.inl (6, [.int (F 0), .int (F 1), .int (F 2), .int (F 3), .int (F 4), .int (F 5), .int (F 6), .int (F 7), .ref pl])))) : AMet l g mX5_lambda_new_3 1 0 [.ref a] σ (A_eq (some (.int (bi (¬ F 3 ≤ 0)))) σ) (A_no) := by
  refine A_of rfl (by decide) (Nat.le_of_ble_eq_true rfl) (L0 := [(0, .ref a)]) rfl ?_
  refine A_aload_n (i := 0) dX5_lambda_new_3_0 rfl rfl ?_
  refine A_getfN cb_X7 hF 3 (Nat.le_of_ble_eq_true rfl) q1106 rfl (v := .int (F 3)) rfl dX5_lambda_new_3_1 ?_
  refine A_if_le (tgt := 11) dX5_lambda_new_3_4 (by decide) (fun c1 => ?_) (fun c1 => ?_)
  · skip
    refine A_iconst (v := 0) dX5_lambda_new_3_11 (by decide) ?_
    exact A_zret dX5_lambda_new_3_12 rfl (rfl) (⟨by simp [bi, -Int32.not_le, -Int32.not_lt, c1], rfl⟩)
  · skip
    refine A_iconst (v := 1) dX5_lambda_new_3_7 (by decide) ?_
    refine A_goto (tgt := 12) dX5_lambda_new_3_8 (by decide) ?_
    exact A_zret dX5_lambda_new_3_12 rfl (rfl) (⟨by simp [bi, -Int32.not_le, -Int32.not_lt, c1], rfl⟩)
set_option maxHeartbeats 100000 in
theorem c_ln4 {l : Launch} {g : GC} (σ : AH) (a pl : Nat) (F : Nat → Int32)  (hF : σ.1 a = some (.inr (.inl (6, [.int (F 0), .int (F 1), .int (F 2), .int (F 3), .int (F 4), .int (F 5), .int (F 6), .int (F 7), .ref pl])))) : AMet l g mX5_lambda_new_4 1 0 [.ref a] σ (A_eq (some (.int (bi (¬ F 6 = 0)))) σ) (A_no) := by
  refine A_of rfl (by decide) (Nat.le_of_ble_eq_true rfl) (L0 := [(0, .ref a)]) rfl ?_
  refine A_aload_n (i := 0) dX5_lambda_new_4_0 rfl rfl ?_
  refine A_getfN cb_X7 hF 6 (Nat.le_of_ble_eq_true rfl) q1115 rfl (v := .int (F 6)) rfl dX5_lambda_new_4_1 ?_
  refine A_if_eq (tgt := 11) dX5_lambda_new_4_4 (by decide) (fun c1 => ?_) (fun c1 => ?_)
  · skip
    refine A_iconst (v := 0) dX5_lambda_new_4_11 (by decide) ?_
    exact A_zret dX5_lambda_new_4_12 rfl (rfl) (⟨by simp [bi, -Int32.not_le, -Int32.not_lt, c1], rfl⟩)
  · skip
    refine A_iconst (v := 1) dX5_lambda_new_4_7 (by decide) ?_
    refine A_goto (tgt := 12) dX5_lambda_new_4_8 (by decide) ?_
    exact A_zret dX5_lambda_new_4_12 rfl (rfl) (⟨by simp [bi, -Int32.not_le, -Int32.not_lt, c1], rfl⟩)
set_option maxHeartbeats 100000 in
theorem c_ln5 {l : Launch} {g : GC} (σ : AH) (a pl : Nat) (F : Nat → Int32)  (hF : σ.1 a = some (.inr (.inl (6, [.int (F 0), .int (F 1), .int (F 2), .int (F 3), .int (F 4), .int (F 5), .int (F 6), .int (F 7), .ref pl])))) : AMet l g mX5_lambda_new_5 1 0 [.ref a] σ (A_eq (some (.int (bi (¬ F 4 ≤ 0)))) σ) (A_no) := by
  refine A_of rfl (by decide) (Nat.le_of_ble_eq_true rfl) (L0 := [(0, .ref a)]) rfl ?_
  refine A_aload_n (i := 0) dX5_lambda_new_5_0 rfl rfl ?_
  refine A_getfN cb_X7 hF 4 (Nat.le_of_ble_eq_true rfl) q1109 rfl (v := .int (F 4)) rfl dX5_lambda_new_5_1 ?_
  refine A_if_le (tgt := 11) dX5_lambda_new_5_4 (by decide) (fun c1 => ?_) (fun c1 => ?_)
  · skip
    refine A_iconst (v := 0) dX5_lambda_new_5_11 (by decide) ?_
    exact A_zret dX5_lambda_new_5_12 rfl (rfl) (⟨by simp [bi, -Int32.not_le, -Int32.not_lt, c1], rfl⟩)
  · skip
    refine A_iconst (v := 1) dX5_lambda_new_5_7 (by decide) ?_
    refine A_goto (tgt := 12) dX5_lambda_new_5_8 (by decide) ?_
    exact A_zret dX5_lambda_new_5_12 rfl (rfl) (⟨by simp [bi, -Int32.not_le, -Int32.not_lt, c1], rfl⟩)
set_option maxHeartbeats 100000 in
theorem c_ln6 {l : Launch} {g : GC} (σ : AH) (a pl : Nat) (F : Nat → Int32)  (hF : σ.1 a = some (.inr (.inl (6, [.int (F 0), .int (F 1), .int (F 2), .int (F 3), .int (F 4), .int (F 5), .int (F 6), .int (F 7), .ref pl])))) : AMet l g mX5_lambda_new_6 1 0 [.ref a] σ (A_eq (some (.int (bi (¬ F 5 ≤ 0)))) σ) (A_no) := by
  refine A_of rfl (by decide) (Nat.le_of_ble_eq_true rfl) (L0 := [(0, .ref a)]) rfl ?_
  refine A_aload_n (i := 0) dX5_lambda_new_6_0 rfl rfl ?_
  refine A_getfN cb_X7 hF 5 (Nat.le_of_ble_eq_true rfl) q1113 rfl (v := .int (F 5)) rfl dX5_lambda_new_6_1 ?_
  refine A_if_le (tgt := 11) dX5_lambda_new_6_4 (by decide) (fun c1 => ?_) (fun c1 => ?_)
  · skip
    refine A_iconst (v := 0) dX5_lambda_new_6_11 (by decide) ?_
    exact A_zret dX5_lambda_new_6_12 rfl (rfl) (⟨by simp [bi, -Int32.not_le, -Int32.not_lt, c1], rfl⟩)
  · skip
    refine A_iconst (v := 1) dX5_lambda_new_6_7 (by decide) ?_
    refine A_goto (tgt := 12) dX5_lambda_new_6_8 (by decide) ?_
    exact A_zret dX5_lambda_new_6_12 rfl (rfl) (⟨by simp [bi, -Int32.not_le, -Int32.not_lt, c1], rfl⟩)
set_option maxHeartbeats 100000 in
theorem c_lwithin {l : Launch} {g : GC} (σ : AH) (a pl : Nat) (F : Nat → Int32) (t : Int32) (hF : σ.1 a = some (.inr (.inl (6, [.int (F 0), .int (F 1), .int (F 2), .int (F 3), .int (F 4), .int (F 5), .int (F 6), .int (F 7), .ref pl])))) (hP : σ.1 pl = some (.inr (.inl (plc (F 8) (F 9) (F 10))))) (hk : PLk (F 8)) : AMet l g mX5_lambda_within_8 2 0 [.int t, .ref a] σ (A_eq (some (.int (bi (F 8 = 1 ∧ F 9 = t)))) σ) (A_no) := by
  refine A_of rfl (by decide) (Nat.le_of_ble_eq_true rfl) (L0 := [(0, .int t), (1, .ref a)]) rfl ?_
  refine A_aload_n (i := 1) dX5_lambda_within_8_0 rfl rfl ?_
  refine A_iload_n (i := 0) dX5_lambda_within_8_1 rfl rfl ?_
  refine A_callV1E (b' := 0) (v := some (.int (bi (F 8 = 1 ∧ F 9 = t)))) (τ := σ) (c_fIn σ a pl F t hF hP hk) tX7_isIn q1190 hF rfl rfl dX5_lambda_within_8_2 (by decide) (Nat.le_of_ble_eq_true rfl) (Nat.le_of_ble_eq_true rfl) ?_
  exact A_zret dX5_lambda_within_8_5 rfl (nar_bi _) (⟨rfl, rfl⟩)
set_option maxHeartbeats 100000 in
theorem c_lat {l : Launch} {g : GC} (σ : AH) (a pl : Nat) (F : Nat → Int32) (t : Int32) (hF : σ.1 a = some (.inr (.inl (6, [.int (F 0), .int (F 1), .int (F 2), .int (F 3), .int (F 4), .int (F 5), .int (F 6), .int (F 7), .ref pl])))) (hP : σ.1 pl = some (.inr (.inl (plc (F 8) (F 9) (F 10))))) (hk : PLk (F 8)) : AMet l g mX5_lambda_at_7 2 0 [.int t, .ref a] σ (A_eq (some (.int (bi (F 8 = t)))) σ) (A_no) := by
  refine A_of rfl (by decide) (Nat.le_of_ble_eq_true rfl) (L0 := [(0, .int t), (1, .ref a)]) rfl ?_
  refine A_aload_n (i := 1) dX5_lambda_at_7_0 rfl rfl ?_
  refine A_getfN cb_X7 hF 8 (Nat.le_of_ble_eq_true rfl) q1121 rfl (v := .ref pl) rfl dX5_lambda_at_7_1 ?_
  refine A_callSN1E (b' := 0) (v := some (.int (F 8))) (τ := σ) (c_kindOf σ pl F hP hk) tX1_kindOf q1417 dX5_lambda_at_7_4 (by decide) (Nat.le_of_ble_eq_true rfl) (Nat.le_of_ble_eq_true rfl) ?_
  refine A_iload_n (i := 0) dX5_lambda_at_7_7 rfl rfl ?_
  refine A_icmp_ne (tgt := 15) dX5_lambda_at_7_8 (by decide) (fun c1 => ?_) (fun c1 => ?_)
  · skip
    refine A_iconst (v := 0) dX5_lambda_at_7_15 (by decide) ?_
    exact A_zret dX5_lambda_at_7_16 rfl (rfl) (⟨by simp [bi, -Int32.not_le, -Int32.not_lt, c1], rfl⟩)
  · skip
    refine A_iconst (v := 1) dX5_lambda_at_7_11 (by decide) ?_
    refine A_goto (tgt := 16) dX5_lambda_at_7_12 (by decide) ?_
    exact A_zret dX5_lambda_at_7_16 rfl (rfl) (⟨by simp [bi, -Int32.not_le, -Int32.not_lt, c1], rfl⟩)
set_option maxHeartbeats 100000 in
theorem c_lflagsOf {l : Launch} {g : GC} (σ : AH) (a pl : Nat) (F : Nat → Int32) (t : Int32) (hF : σ.1 a = some (.inr (.inl (6, [.int (F 0), .int (F 1), .int (F 2), .int (F 3), .int (F 4), .int (F 5), .int (F 6), .int (F 7), .ref pl])))) : AMet l g mX5_lambda_flagsOf_11 1 0 [.int t, .ref a] σ (A_eq (some (.int (bi (F 0 = t)))) σ) (A_no) := by
  refine A_of rfl (by decide) (Nat.le_of_ble_eq_true rfl) (L0 := [(0, .int t), (1, .ref a)]) rfl ?_
  refine A_aload_n (i := 1) dX5_lambda_flagsOf_11_0 rfl rfl ?_
  refine A_getfN cb_X7 hF 0 (Nat.le_of_ble_eq_true rfl) q1097 rfl (v := .int (F 0)) rfl dX5_lambda_flagsOf_11_1 ?_
  refine A_iload_n (i := 0) dX5_lambda_flagsOf_11_4 rfl rfl ?_
  refine A_icmp_ne (tgt := 12) dX5_lambda_flagsOf_11_5 (by decide) (fun c1 => ?_) (fun c1 => ?_)
  · skip
    refine A_iconst (v := 0) dX5_lambda_flagsOf_11_12 (by decide) ?_
    exact A_zret dX5_lambda_flagsOf_11_13 rfl (rfl) (⟨by simp [bi, -Int32.not_le, -Int32.not_lt, c1], rfl⟩)
  · skip
    refine A_iconst (v := 1) dX5_lambda_flagsOf_11_8 (by decide) ?_
    refine A_goto (tgt := 13) dX5_lambda_flagsOf_11_9 (by decide) ?_
    exact A_zret dX5_lambda_flagsOf_11_13 rfl (rfl) (⟨by simp [bi, -Int32.not_le, -Int32.not_lt, c1], rfl⟩)
set_option maxHeartbeats 100000 in
theorem c_first {l : Launch} {g : GC} (σ : AH) (q u n : Nat) (f : Nat → Option Nat) (P : Nat → Prop) [DecidablePred P] (hu : σ.1 u = some (.inl (.object "FlagLaundry$Test", n, .inr (.inr (.inr (.inr f)))))) (hn : n < 2 ^ 31) (hT : ∀ k, k < n → ∃ a, f k = some a ∧ callsT l g σ 12 a (fun _ => q) 1 (fun _ => P k)) : AMet l g mX1_first 12 0 [.ref q, .ref u] σ (A_eq (some (.int (fstN P 0 n))) σ) (A_no) := by
  refine A_of rfl (by decide) (Nat.le_of_ble_eq_true rfl) (L0 := [(0, .ref q), (1, .ref u)]) rfl ?_
  refine A_iconst (v := 0) dX1_first_0 (by decide) ?_
  refine A_istore_n (i := 2) dX1_first_1 rfl (Nat.le_of_ble_eq_true rfl) ?_
  refine A_sub (L' := [(0, .ref q), (1, .ref u), (2, .int (nI 0))]) ⟨rfl, rfl, rfl, trivial⟩ ?_
  refine A_for n (fun i2 => 0) (fun i2 => [(0, .ref q), (1, .ref u), (2, .int (nI i2))]) (fun i2 => σ) (fun i2 => fstN P 0 n = fstN P i2 (n - i2)) rfl (fun i2 hi2 hI2 ih2 => ?_) (fun hI2 => ?_)
  · skip
    refine A_iload_n (i := 2) dX1_first_2 rfl rfl ?_
    refine A_aload_n (i := 1) dX1_first_3 rfl rfl ?_
    refine A_alen hu (by decide) (v := nI n) (rfl) dX1_first_4 ?_
    refine A_icmp_ge_f (tgt := 30) dX1_first_5 (by decide) (br_lt rfl hi2 hn) ?_
    obtain ⟨a2, ha2, hc2⟩ := hT i2 hi2
    refine A_aload_n (i := 1) dX1_first_8 rfl rfl ?_
    refine A_iload_n (i := 2) dX1_first_9 rfl rfl ?_
    refine A_aald hu (by decide) (vp_in_nI hi2 hn) (v := .ref a2) (by rw [nI_clamp (by omega), ha2]; rfl) dX1_first_10 ?_
    refine A_aload_n (i := 0) dX1_first_11 rfl rfl ?_
    refine hc2 0 Nat.zero_lt_one q1212 dX1_first_12 (by decide) (Nat.le_of_ble_eq_true rfl) ?_
    refine A_if_eq (tgt := 24) dX1_first_17 (by decide) (fun c1 => ?_) (fun c1 => ?_)
    · skip
      have c1 := bi_eq0.mp c1
      refine A_iinc (v := nI (i2 + 1)) dX1_first_24 rfl (nI_inc _ _) (Nat.le_of_ble_eq_true rfl) ?_
      refine A_goto (tgt := 2) dX1_first_27 (by decide) ?_
      refine A_sub (L' := [(0, .ref q), (1, .ref u), (2, .int (nI (i2 + 1)))]) ⟨rfl, rfl, rfl, trivial⟩ ?_
      exact ih2 (by rw [hI2, fstN_s _ hi2, if_neg c1])
    · skip
      have c1 := bi_ne0.mp c1
      refine A_iload_n (i := 2) dX1_first_20 rfl rfl ?_
      refine A_iconst (v := 1) dX1_first_21 (by decide) ?_
      refine A_iadd dX1_first_22 ?_
      refine A_int (w := nI (i2 + 1)) (nI_add i2 1) ?_
      exact A_iret dX1_first_23 rfl (⟨by rw [hI2, fstN_s _ hi2, if_pos c1], rfl⟩)
  · skip
    refine A_iload_n (i := 2) dX1_first_2 rfl rfl ?_
    refine A_aload_n (i := 1) dX1_first_3 rfl rfl ?_
    refine A_alen hu (by decide) (v := nI n) (rfl) dX1_first_4 ?_
    refine A_icmp_ge_t (tgt := 30) dX1_first_5 (by decide) (br_ge rfl) ?_
    refine A_iconst (v := 0) dX1_first_30 (by decide) ?_
    exact A_iret dX1_first_31 rfl (⟨by rw [hI2, fstN_e], rfl⟩)
theorem why_T {l : Launch} {g : GC} {σ : AH} {W : WA} {N : AF} {f : Nat} (hR : RW g σ W N) (hD : WFd N) (hf : f < nF N) {k a : Nat} (hk : k < 7) (ha : lamC g k a) : callsT l g σ 12 a (fun _ => wF W f) 1 (fun _ => whyP (fl N f) k) := by
  obtain ⟨h1, ⟨fr, h2, h2'⟩, ⟨fm, h3, h3'⟩, ⟨mcn, fnA, h4, h4', h4''⟩, ⟨mcf, ffA, h5, h5', h5''⟩, ⟨fu, h6, h6'⟩, h7, h8, h9, h10, h11⟩ := hR
  rcases (by omega : k = 0 ∨ k = 1 ∨ k = 2 ∨ k = 3 ∨ k = 4 ∨ k = 5 ∨ k = 6) with rfl | rfl | rfl | rfl | rfl | rfl | rfl
  · exact cT1 (D := 1) (by decide) (Or.inr ⟨rfl, ha⟩) (fun _ _ => by rw [show bi (whyP (fl N f) 0) = bi (fl N f 8 = 3) from bi_congr (by simp [whyP, -Int32.not_le, -Int32.not_lt])]; exact c_ln0 σ _ _ _ (h7 f hf) (h8 f hf) (flok_k hD hf))
  · exact cT2 (D := 1) (by decide) (Or.inr ⟨rfl, ha⟩) (fun _ _ => by rw [show bi (whyP (fl N f) 1) = bi (fl N f 8 = 1) from bi_congr (by simp [whyP, -Int32.not_le, -Int32.not_lt])]; exact c_ln1 σ _ _ _ (h7 f hf) (h8 f hf) (flok_k hD hf))
  · exact cT3 (D := 1) (by decide) (Or.inr ⟨rfl, ha⟩) (fun _ _ => by rw [show bi (whyP (fl N f) 2) = bi (fl N f 8 = 2) from bi_congr (by simp [whyP, -Int32.not_le, -Int32.not_lt])]; exact c_ln2 σ _ _ _ (h7 f hf) (h8 f hf) (flok_k hD hf))
  · exact cT4 (D := 1) (by decide) (Or.inr ⟨rfl, ha⟩) (fun _ _ => by rw [show bi (whyP (fl N f) 3) = bi (¬ fl N f 3 ≤ 0) from bi_congr (by simp [whyP, -Int32.not_le, -Int32.not_lt])]; exact c_ln3 σ _ _ _ (h7 f hf))
  · exact cT5 (D := 1) (by decide) (Or.inr ⟨rfl, ha⟩) (fun _ _ => by rw [show bi (whyP (fl N f) 4) = bi (¬ fl N f 6 = 0) from bi_congr (by simp [whyP, -Int32.not_le, -Int32.not_lt])]; exact c_ln4 σ _ _ _ (h7 f hf))
  · exact cT6 (D := 1) (by decide) (Or.inr ⟨rfl, ha⟩) (fun _ _ => by rw [show bi (whyP (fl N f) 5) = bi (¬ fl N f 4 ≤ 0) from bi_congr (by simp [whyP, -Int32.not_le, -Int32.not_lt])]; exact c_ln5 σ _ _ _ (h7 f hf))
  · exact cT7 (D := 1) (by decide) (Or.inr ⟨rfl, ha⟩) (fun _ _ => by rw [show bi (whyP (fl N f) 6) = bi (¬ fl N f 5 ≤ 0) from bi_congr (by simp [whyP, -Int32.not_le, -Int32.not_lt])]; exact c_ln6 σ _ _ _ (h7 f hf))
set_option maxHeartbeats 100000 in
theorem c_why5 {l : Launch} {g : GC} (σ : AH) (W : WA) (N : AF) (f : Nat) (hR : RW g σ W N) (hD : WFd N) (hf : f < nF N) : AMet l g mX5_why 13 0 [.ref (wW W), .ref (wF W f)] σ (A_eq (some (.int (whyN N f))) σ) (A_no) := by
  refine A_of rfl (by decide) (Nat.le_of_ble_eq_true rfl) (L0 := [(0, .ref (wW W)), (1, .ref (wF W f))]) rfl ?_
  have hW := hD.1
  have hR9 := hR
  obtain ⟨h1, ⟨fr, h2, h2'⟩, ⟨fm, h3, h3'⟩, ⟨mcn, fnA, h4, h4', h4''⟩, ⟨mcf, ffA, h5, h5', h5''⟩, ⟨fu, h6, h6'⟩, h7, h8, h9, h10, h11⟩ := hR
  have hF12 : nF N ≤ 12 := hW.2.2.2.2.2
  have hN4 : nN N ≤ 4 := hW.2.1.2
  have hC6 : nC N ≤ 6 := hW.1.2
  have hT3 : nT N ≤ 3 := hW.2.2.1.2
  have hP8 : nP N ≤ 8 := hW.2.2.2.1.2
  refine A_aload_n (i := 1) dX5_why_0 rfl rfl ?_
  refine A_aload_n (i := 0) dX5_why_1 rfl rfl ?_
  refine A_getf cb_X5 h1 5 (Nat.le_of_ble_eq_true rfl) q835 rfl (v := .ref (wUN W)) rfl dX5_why_2 ?_
  refine A_callSN2E (b' := 0) (v := some (.int (fstN (whyP (fl N f)) 0 7))) (τ := σ) (c_first σ (wF W f) (wUN W) 7 fu (whyP (fl N f)) h6 (by decide) (fun k hk => by obtain ⟨a, k1, k2⟩ := h6' k hk; exact ⟨a, k1, why_T hR9 hD hf hk k2⟩)) tX1_first q1434 dX5_why_5 (by decide) (Nat.le_of_ble_eq_true rfl) (Nat.le_of_ble_eq_true rfl) ?_
  exact A_iret dX5_why_8 rfl (⟨by rw [fst_why], rfl⟩)
set_option maxHeartbeats 100000 in
theorem c_within {l : Launch} {g : GC} (σ : AH) (W : WA) (N : AF) (t : Int32) (hR : RW g σ W N) (hD : WFd N) : AMet l g mX5_within 31 1 [.ref (wW W), .int t] σ (A_ext (some (.int (manyT N t))) σ) (A_no) := by
  refine A_of rfl (by decide) (Nat.le_of_ble_eq_true rfl) (L0 := [(0, .ref (wW W)), (1, .int t)]) rfl ?_
  refine A_wfh (fun wσ hgσ => ?_)
  have hW := hD.1
  have hR9 := hR
  obtain ⟨h1, ⟨fr, h2, h2'⟩, ⟨fm, h3, h3'⟩, ⟨mcn, fnA, h4, h4', h4''⟩, ⟨mcf, ffA, h5, h5', h5''⟩, ⟨fu, h6, h6'⟩, h7, h8, h9, h10, h11⟩ := hR
  have hF12 : nF N ≤ 12 := hW.2.2.2.2.2
  have hN4 : nN N ≤ 4 := hW.2.1.2
  have hC6 : nC N ≤ 6 := hW.1.2
  have hT3 : nT N ≤ 3 := hW.2.2.1.2
  have hP8 : nP N ≤ 8 := hW.2.2.2.1.2
  refine A_aload_n (i := 0) dX5_within_0 rfl rfl ?_
  refine A_iload_n (i := 1) dX5_within_1 rfl rfl ?_
  refine A_mk10 (b' := 0) (Nat.le_of_ble_eq_true rfl) (Nat.le_of_ble_eq_true rfl) ?_
  obtain ⟨σ1, eσ1⟩ : ∃ τ, τ = h_new σ (.inr (.inr (9, [.int t]))) := ⟨_, rfl⟩
  refine A_st (σ' := σ1) eσ1.symm ?_
  have wσ1 : wfh σ1 := by rw [eσ1]; exact wσ.new
  have fσ1_0 : σ1.1 (wW W) = some (.inr (.inl (4, [.int (N 9), .ref (wR W), .ref (wM W), .ref (wNL W), .ref (wFL W), .ref (wUN W), .int (N 6), .int (N 8), .int (N 0), .int (N 1), .int (N 2), .int (N 3), .int (N 4), .int (N 5), .int (N 11)]))) := by rw [eσ1]; exact (hn_ne (Nat.ne_of_lt (wσ _ _ h1))).trans h1
  have fσ1_1 : σ1.1 (wFL W) = some (.inr (.inl (14, [.int mcf, .ref (wFA W), .int (nI (nF N))]))) := by rw [eσ1]; exact (hn_ne (Nat.ne_of_lt (wσ _ _ h5))).trans h5
  have fσ1_2 : σ1.1 (wFA W) = some (.inl (.object "java/lang/Object", 12, .inr (.inr (.inr (.inr ffA))))) := by rw [eσ1]; exact (hn_ne (Nat.ne_of_lt (wσ _ _ h5'))).trans h5'
  have fσ1_3 : σ1.1 (wNL W) = some (.inr (.inl (14, [.int mcn, .ref (wNA W), .int (nI (nN N))]))) := by rw [eσ1]; exact (hn_ne (Nat.ne_of_lt (wσ _ _ h4))).trans h4
  have fσ1_4 : σ1.1 (wNA W) = some (.inl (.object "java/lang/Object", 4, .inr (.inr (.inr (.inr fnA))))) := by rw [eσ1]; exact (hn_ne (Nat.ne_of_lt (wσ _ _ h4'))).trans h4'
  have fσ1_5 : σ1.1 (wR W) = some (.inl (.int, 6, .inl fr)) := by rw [eσ1]; exact (hn_ne (Nat.ne_of_lt (wσ _ _ h2))).trans h2
  have fσ1_6 : σ1.1 (wM W) = some (.inl (.int, 3, .inl fm)) := by rw [eσ1]; exact (hn_ne (Nat.ne_of_lt (wσ _ _ h3))).trans h3
  have fσ1_7 : σ1.1 (wUN W) = some (.inl (.object "FlagLaundry$Test", 7, .inr (.inr (.inr (.inr fu))))) := by rw [eσ1]; exact (hn_ne (Nat.ne_of_lt (wσ _ _ h6))).trans h6
  have fσ1_8 : σ1.1 σ.2 = some (.inr (.inr (9, [.int t]))) := by rw [eσ1]; exact if_pos rfl
  have xσ1 : ext σ σ1 := by rw [eσ1]; exact ext_new _ _
  have hR1 : RW g σ1 W N := hR9.ext wσ (by rw [eσ1]; exact ext_new _ _)
  refine A_callV1E (b' := 0) (v := some (.int (manyT N t))) (τ := σ1) (c_cnt σ1 W N σ.2 (fun f => inTub N f t) hR1 hW (cT10 (by decide) (Or.inl fσ1_8) (fun f hf => c_lwithin σ1 _ _ (fl N f) t (hR1.2.2.2.2.2.2.1 f hf) (hR1.2.2.2.2.2.2.2.1 f hf) (flok_k hD hf)))) tX5_count q1195 fσ1_0 rfl rfl dX5_within_7 (by decide) (Nat.le_of_ble_eq_true rfl) (Nat.le_of_ble_eq_true rfl) ?_
  exact A_iret dX5_within_10 rfl (⟨rfl, by rw [eσ1]; exact ext_new _ _⟩)
set_option maxHeartbeats 100000 in
theorem c_at5 {l : Launch} {g : GC} (σ : AH) (W : WA) (N : AF) (t : Int32) (hR : RW g σ W N) (hD : WFd N) : AMet l g mX5_at 31 1 [.ref (wW W), .int t] σ (A_ext (some (.int (atN N t))) σ) (A_no) := by
  refine A_of rfl (by decide) (Nat.le_of_ble_eq_true rfl) (L0 := [(0, .ref (wW W)), (1, .int t)]) rfl ?_
  refine A_wfh (fun wσ hgσ => ?_)
  have hW := hD.1
  have hR9 := hR
  obtain ⟨h1, ⟨fr, h2, h2'⟩, ⟨fm, h3, h3'⟩, ⟨mcn, fnA, h4, h4', h4''⟩, ⟨mcf, ffA, h5, h5', h5''⟩, ⟨fu, h6, h6'⟩, h7, h8, h9, h10, h11⟩ := hR
  have hF12 : nF N ≤ 12 := hW.2.2.2.2.2
  have hN4 : nN N ≤ 4 := hW.2.1.2
  have hC6 : nC N ≤ 6 := hW.1.2
  have hT3 : nT N ≤ 3 := hW.2.2.1.2
  have hP8 : nP N ≤ 8 := hW.2.2.2.1.2
  refine A_aload_n (i := 0) dX5_at_0 rfl rfl ?_
  refine A_iload_n (i := 1) dX5_at_1 rfl rfl ?_
  refine A_mk11 (b' := 0) (Nat.le_of_ble_eq_true rfl) (Nat.le_of_ble_eq_true rfl) ?_
  obtain ⟨σ1, eσ1⟩ : ∃ τ, τ = h_new σ (.inr (.inr (10, [.int t]))) := ⟨_, rfl⟩
  refine A_st (σ' := σ1) eσ1.symm ?_
  have wσ1 : wfh σ1 := by rw [eσ1]; exact wσ.new
  have fσ1_0 : σ1.1 (wW W) = some (.inr (.inl (4, [.int (N 9), .ref (wR W), .ref (wM W), .ref (wNL W), .ref (wFL W), .ref (wUN W), .int (N 6), .int (N 8), .int (N 0), .int (N 1), .int (N 2), .int (N 3), .int (N 4), .int (N 5), .int (N 11)]))) := by rw [eσ1]; exact (hn_ne (Nat.ne_of_lt (wσ _ _ h1))).trans h1
  have fσ1_1 : σ1.1 (wFL W) = some (.inr (.inl (14, [.int mcf, .ref (wFA W), .int (nI (nF N))]))) := by rw [eσ1]; exact (hn_ne (Nat.ne_of_lt (wσ _ _ h5))).trans h5
  have fσ1_2 : σ1.1 (wFA W) = some (.inl (.object "java/lang/Object", 12, .inr (.inr (.inr (.inr ffA))))) := by rw [eσ1]; exact (hn_ne (Nat.ne_of_lt (wσ _ _ h5'))).trans h5'
  have fσ1_3 : σ1.1 (wNL W) = some (.inr (.inl (14, [.int mcn, .ref (wNA W), .int (nI (nN N))]))) := by rw [eσ1]; exact (hn_ne (Nat.ne_of_lt (wσ _ _ h4))).trans h4
  have fσ1_4 : σ1.1 (wNA W) = some (.inl (.object "java/lang/Object", 4, .inr (.inr (.inr (.inr fnA))))) := by rw [eσ1]; exact (hn_ne (Nat.ne_of_lt (wσ _ _ h4'))).trans h4'
  have fσ1_5 : σ1.1 (wR W) = some (.inl (.int, 6, .inl fr)) := by rw [eσ1]; exact (hn_ne (Nat.ne_of_lt (wσ _ _ h2))).trans h2
  have fσ1_6 : σ1.1 (wM W) = some (.inl (.int, 3, .inl fm)) := by rw [eσ1]; exact (hn_ne (Nat.ne_of_lt (wσ _ _ h3))).trans h3
  have fσ1_7 : σ1.1 (wUN W) = some (.inl (.object "FlagLaundry$Test", 7, .inr (.inr (.inr (.inr fu))))) := by rw [eσ1]; exact (hn_ne (Nat.ne_of_lt (wσ _ _ h6))).trans h6
  have fσ1_8 : σ1.1 σ.2 = some (.inr (.inr (10, [.int t]))) := by rw [eσ1]; exact if_pos rfl
  have xσ1 : ext σ σ1 := by rw [eσ1]; exact ext_new _ _
  have hR1 : RW g σ1 W N := hR9.ext wσ (by rw [eσ1]; exact ext_new _ _)
  refine A_callV1E (b' := 0) (v := some (.int (atN N t))) (τ := σ1) (c_cnt σ1 W N σ.2 (fun f => fl N f 8 = t) hR1 hW (cT11 (by decide) (Or.inl fσ1_8) (fun f hf => c_lat σ1 _ _ (fl N f) t (hR1.2.2.2.2.2.2.1 f hf) (hR1.2.2.2.2.2.2.2.1 f hf) (flok_k hD hf)))) tX5_count q1195 fσ1_0 rfl rfl dX5_at_7 (by decide) (Nat.le_of_ble_eq_true rfl) (Nat.le_of_ble_eq_true rfl) ?_
  exact A_iret dX5_at_10 rfl (⟨rfl, by rw [eσ1]; exact ext_new _ _⟩)
set_option maxHeartbeats 100000 in
theorem c_flagsOf5 {l : Launch} {g : GC} (σ : AH) (W : WA) (N : AF) (t : Int32) (hR : RW g σ W N) (hD : WFd N) : AMet l g mX5_flagsOf 31 1 [.ref (wW W), .int t] σ (A_ext (some (.int (flagsN N t))) σ) (A_no) := by
  refine A_of rfl (by decide) (Nat.le_of_ble_eq_true rfl) (L0 := [(0, .ref (wW W)), (1, .int t)]) rfl ?_
  refine A_wfh (fun wσ hgσ => ?_)
  have hW := hD.1
  have hR9 := hR
  obtain ⟨h1, ⟨fr, h2, h2'⟩, ⟨fm, h3, h3'⟩, ⟨mcn, fnA, h4, h4', h4''⟩, ⟨mcf, ffA, h5, h5', h5''⟩, ⟨fu, h6, h6'⟩, h7, h8, h9, h10, h11⟩ := hR
  have hF12 : nF N ≤ 12 := hW.2.2.2.2.2
  have hN4 : nN N ≤ 4 := hW.2.1.2
  have hC6 : nC N ≤ 6 := hW.1.2
  have hT3 : nT N ≤ 3 := hW.2.2.1.2
  have hP8 : nP N ≤ 8 := hW.2.2.2.1.2
  refine A_aload_n (i := 0) dX5_flagsOf_0 rfl rfl ?_
  refine A_iload_n (i := 1) dX5_flagsOf_1 rfl rfl ?_
  refine A_mk15 (b' := 0) (Nat.le_of_ble_eq_true rfl) (Nat.le_of_ble_eq_true rfl) ?_
  obtain ⟨σ1, eσ1⟩ : ∃ τ, τ = h_new σ (.inr (.inr (14, [.int t]))) := ⟨_, rfl⟩
  refine A_st (σ' := σ1) eσ1.symm ?_
  have wσ1 : wfh σ1 := by rw [eσ1]; exact wσ.new
  have fσ1_0 : σ1.1 (wW W) = some (.inr (.inl (4, [.int (N 9), .ref (wR W), .ref (wM W), .ref (wNL W), .ref (wFL W), .ref (wUN W), .int (N 6), .int (N 8), .int (N 0), .int (N 1), .int (N 2), .int (N 3), .int (N 4), .int (N 5), .int (N 11)]))) := by rw [eσ1]; exact (hn_ne (Nat.ne_of_lt (wσ _ _ h1))).trans h1
  have fσ1_1 : σ1.1 (wFL W) = some (.inr (.inl (14, [.int mcf, .ref (wFA W), .int (nI (nF N))]))) := by rw [eσ1]; exact (hn_ne (Nat.ne_of_lt (wσ _ _ h5))).trans h5
  have fσ1_2 : σ1.1 (wFA W) = some (.inl (.object "java/lang/Object", 12, .inr (.inr (.inr (.inr ffA))))) := by rw [eσ1]; exact (hn_ne (Nat.ne_of_lt (wσ _ _ h5'))).trans h5'
  have fσ1_3 : σ1.1 (wNL W) = some (.inr (.inl (14, [.int mcn, .ref (wNA W), .int (nI (nN N))]))) := by rw [eσ1]; exact (hn_ne (Nat.ne_of_lt (wσ _ _ h4))).trans h4
  have fσ1_4 : σ1.1 (wNA W) = some (.inl (.object "java/lang/Object", 4, .inr (.inr (.inr (.inr fnA))))) := by rw [eσ1]; exact (hn_ne (Nat.ne_of_lt (wσ _ _ h4'))).trans h4'
  have fσ1_5 : σ1.1 (wR W) = some (.inl (.int, 6, .inl fr)) := by rw [eσ1]; exact (hn_ne (Nat.ne_of_lt (wσ _ _ h2))).trans h2
  have fσ1_6 : σ1.1 (wM W) = some (.inl (.int, 3, .inl fm)) := by rw [eσ1]; exact (hn_ne (Nat.ne_of_lt (wσ _ _ h3))).trans h3
  have fσ1_7 : σ1.1 (wUN W) = some (.inl (.object "FlagLaundry$Test", 7, .inr (.inr (.inr (.inr fu))))) := by rw [eσ1]; exact (hn_ne (Nat.ne_of_lt (wσ _ _ h6))).trans h6
  have fσ1_8 : σ1.1 σ.2 = some (.inr (.inr (14, [.int t]))) := by rw [eσ1]; exact if_pos rfl
  have xσ1 : ext σ σ1 := by rw [eσ1]; exact ext_new _ _
  have hR1 : RW g σ1 W N := hR9.ext wσ (by rw [eσ1]; exact ext_new _ _)
  refine A_callV1E (b' := 0) (v := some (.int (flagsN N t))) (τ := σ1) (c_cnt σ1 W N σ.2 (fun f => fl N f 0 = t) hR1 hW (cT15 (by decide) (Or.inl fσ1_8) (fun f hf => c_lflagsOf σ1 _ _ (fl N f) t (hR1.2.2.2.2.2.2.1 f hf)))) tX5_count q1195 fσ1_0 rfl rfl dX5_flagsOf_7 (by decide) (Nat.le_of_ble_eq_true rfl) (Nat.le_of_ble_eq_true rfl) ?_
  exact A_iret dX5_flagsOf_10 rfl (⟨rfl, by rw [eσ1]; exact ext_new _ _⟩)
