/-! THE PARSER 3: how the lines' functions go: a fault stays, else the next step -/
abbrev pcd (p : PT) : Int32 := p.2.2.2.2.2.1
abbrev pca (p : PT) : Int32 × Int32 := p.2.2.2.2.2
theorem okS_x {N : AF} {p : PT} (h : ¬ pcd p ≤ 0) : okS N p = p := if_neg h
theorem okS_0 {N : AF} {p : PT} (h : pcd p = 0) : okS N p = pN N p := if_pos (by rw [show p.2.2.2.2.2.1 = 0 from h]; exact Int32.le_refl _)
theorem co_x1 {B : AF} {n : Nat} {p p1 : PT} (e1 : p1 = bgS B n 6 6 p) (h : ¬ pcd p1 ≤ 0) : pca (coS B n p) = pca p1 := by
  subst e1
  unfold coS pca
  rw [ok_1, nu_x h]
theorem co_x2 {B : AF} {n : Nat} {p p1 p2 : PT} (e1 : p1 = bgS B n 6 6 p) (e2 : p2 = nuS B n 0 4 p1) : pca (coS B n p) = pca p2 := by
  subst e1; subst e2
  unfold coS pca
  rw [ok_1]
theorem co_0 {B : AF} {n : Nat} {p p1 p2 : PT} (e1 : p1 = bgS B n 6 6 p) (e2 : p2 = nuS B n 0 4 p1) (h : pcd p2 = 0) : coS B n p = pN (coN p2.1 (nhV 0 4 p1)) p2 := by
  subst e1; subst e2
  exact okS_0 h
theorem tu_x1 {B : AF} {n : Nat} {p p1 : PT} (e1 : p1 = bgS B n 8 3 p) (h : ¬ pcd p1 ≤ 0) : pca (tuS B n p) = pca p1 := by
  subst e1
  unfold tuS pca
  rw [ok_1, nu_x h]
theorem tu_x2 {B : AF} {n : Nat} {p p1 p2 : PT} (e1 : p1 = bgS B n 8 3 p) (e2 : p2 = nuS B n 1 6 p1) : pca (tuS B n p) = pca p2 := by
  subst e1; subst e2
  unfold tuS pca
  rw [ok_1]
theorem tu_0 {B : AF} {n : Nat} {p p1 p2 : PT} (e1 : p1 = bgS B n 8 3 p) (e2 : p2 = nuS B n 1 6 p1) (h : pcd p2 = 0) : tuS B n p = pN (tuN p2.1 (nhV 1 6 p1)) p2 := by
  subst e1; subst e2
  exact okS_0 h
theorem na_e1 {B : AF} {n : Nat} {p p1 : PT} (e1 : p1 = bgS B n 7 4 p) : na1 B n p = p1 := by rw [na1, e1]
theorem na_e2 {B : AF} {n : Nat} {p p1 p2 : PT} (e1 : p1 = bgS B n 7 4 p) (e2 : p2 = nuS B n 0 99 p1) : na2 B n p = p2 := by rw [na2, na_e1 e1, e2]
theorem na_e3 {B : AF} {n : Nat} {p p1 p2 p3 : PT} (e1 : p1 = bgS B n 7 4 p) (e2 : p2 = nuS B n 0 99 p1) (e3 : p3 = nuS B n 1 99 p2) : na3 B n p = p3 := by rw [na3, na_e2 e1 e2, e3]
theorem na_x4 {B : AF} {n : Nat} {p p1 p2 p3 p4 : PT} (e1 : p1 = bgS B n 7 4 p) (e2 : p2 = nuS B n 0 99 p1) (e3 : p3 = nuS B n 1 99 p2) (e4 : p4 = nuS B n 0 9 p3) : pca (naS B n p) = pca p4 := by
  unfold naS pca
  rw [ok_1, na4, na_e3 e1 e2 e3, e4]
theorem na_x3 {B : AF} {n : Nat} {p p1 p2 p3 : PT} (e1 : p1 = bgS B n 7 4 p) (e2 : p2 = nuS B n 0 99 p1) (e3 : p3 = nuS B n 1 99 p2) (h : ¬ pcd p3 ≤ 0) : pca (naS B n p) = pca p3 := (na_x4 e1 e2 e3 rfl).trans (by rw [nu_x h])
theorem na_x2 {B : AF} {n : Nat} {p p1 p2 : PT} (e1 : p1 = bgS B n 7 4 p) (e2 : p2 = nuS B n 0 99 p1) (h : ¬ pcd p2 ≤ 0) : pca (naS B n p) = pca p2 := (na_x4 e1 e2 rfl rfl).trans (by rw [nu_x h, nu_x h])
theorem na_x1 {B : AF} {n : Nat} {p p1 : PT} (e1 : p1 = bgS B n 7 4 p) (h : ¬ pcd p1 ≤ 0) : pca (naS B n p) = pca p1 := (na_x4 e1 rfl rfl rfl).trans (by rw [nu_x h, nu_x h, nu_x h])
theorem na_0 {B : AF} {n : Nat} {p p1 p2 p3 p4 : PT} (e1 : p1 = bgS B n 7 4 p) (e2 : p2 = nuS B n 0 99 p1) (e3 : p3 = nuS B n 1 99 p2) (e4 : p4 = nuS B n 0 9 p3) (h : pcd p4 = 0) : naS B n p = pN (nanN p4.1 (nhV 0 99 p1) (nhV 1 99 p2) (nhV 0 9 p3)) p4 := by
  rw [naS, na4, na_e3 e1 e2 e3, na_e2 e1 e2, na_e1 e1, ← e4]
  exact okS_0 h
theorem wi_x2 {B : AF} {n : Nat} {p p1 p2 : PT} (e1 : p1 = goesS B n p) (e2 : p2 = nuS B n 0 9 p1) : pca (wiS B n p) = pca p2 := by
  subst e1; subst e2
  by_cases c : (nuS B n 0 9 (goesS B n p)).2.2.2.2.2.1 = 0
  · rw [wiS, if_pos c]; rfl
  · rw [wiS, if_neg c]
theorem wi_0 {B : AF} {n : Nat} {p p1 p2 : PT} (e1 : p1 = goesS B n p) (e2 : p2 = nuS B n 0 9 p1) (h : pcd p2 = 0) : wiS B n p = pN (va_up p2.1 1 (nhV 0 9 p1)) p2 := by
  subst e1; subst e2
  rw [wiS, if_pos h]
theorem pa_x2 {B : AF} {n : Nat} {p p1 p2 : PT} (e1 : p1 = goesS B n p) (e2 : p2 = nuS B n 1 50 p1) : pca (paS B n p) = pca p2 := by
  subst e1; subst e2
  by_cases c : (nuS B n 1 50 (goesS B n p)).2.2.2.2.2.1 = 0
  · rw [paS, if_pos c]; rfl
  · rw [paS, if_neg c]
theorem pa_0 {B : AF} {n : Nat} {p p1 p2 : PT} (e1 : p1 = goesS B n p) (e2 : p2 = nuS B n 1 50 p1) (h : pcd p2 = 0) : paS B n p = pN (itr passN p2.1 (ix (nhV 1 50 p1))) p2 := by
  subst e1; subst e2
  rw [paS, if_pos h]
theorem nz_of {x : Int32} (h : ¬ x ≤ 0) : ¬ x = 0 := fun e => h (by rw [e]; exact Int32.le_refl _)
-- put
theorem pu_x2 {B : AF} {n : Nat} {p p1 p2 : PT} (e1 : p1 = goesS B n p) (e2 : p2 = nuS B n 0 (p1.1 10 - 1) p1) (h : ¬ pcd p2 ≤ 0) : pca (puS B n p) = pca p2 := by
  subst e1; subst e2
  have a1 : pu1 B n p = nuS B n 0 ((goesS B n p).1 10 - 1) (goesS B n p) := rfl
  have a2 : pu2 B n p = pu1 B n p := nh_x (by rw [a1]; exact h)
  have a3 : pu3 B n p = pu1 B n p := by rw [pu3, a2, if_neg (fun q => nz_of h (by rw [← a1]; exact q.1))]
  rw [puS, a3, if_neg (fun q => nz_of h (by rw [← a1]; exact q)), ← a1, goes_x (by rw [a1]; exact h)]
theorem pu_x3 {B : AF} {n : Nat} {p p1 p2 p3 : PT} (e1 : p1 = goesS B n p) (e2 : p2 = nuS B n 0 (p1.1 10 - 1) p1) (e3 : p3 = nhS 0 (p2.1 8 - 1) p2) (h : ¬ pcd p3 ≤ 0) : pca (puS B n p) = pca p3 := by
  subst e1; subst e2; subst e3
  have a2 : pu2 B n p = nhS 0 ((nuS B n 0 ((goesS B n p).1 10 - 1) (goesS B n p)).1 8 - 1) (nuS B n 0 ((goesS B n p).1 10 - 1) (goesS B n p)) := rfl
  rw [← a2] at h ⊢
  have a3 : pu3 B n p = pu2 B n p := by rw [pu3, if_neg (fun q => nz_of h q.1)]
  rw [puS, a3, if_neg (nz_of h), goes_x h]
theorem pu_ck {B : AF} {n : Nat} {p p1 p2 : PT} (e1 : p1 = goesS B n p) (e2 : p2 = nuS B n 0 (p1.1 10 - 1) p1) (h : nhS 0 (p2.1 8 - 1) p2 = p2) (h0 : pcd p2 = 0) (hw : ¬ whyPutN p2.1 (ix (nhV 0 (p1.1 10 - 1) p1)) (ix (nhV 0 (p2.1 8 - 1) p2)) = 0) : pca (puS B n p) = pca (fltS 3 p2) := by
  subst e1; subst e2
  have a2 : pu2 B n p = nuS B n 0 ((goesS B n p).1 10 - 1) (goesS B n p) := h
  have h3 : ¬ pcd (fltS 3 (nuS B n 0 ((goesS B n p).1 10 - 1) (goesS B n p))) ≤ 0 := flt_gt (by decide) _
  have a3 : pu3 B n p = fltS 3 (nuS B n 0 ((goesS B n p).1 10 - 1) (goesS B n p)) := by rw [pu3, a2, if_pos ⟨h0, hw⟩]
  rw [puS, a3, if_neg (nz_of h3), goes_x h3]
theorem pu_0 {B : AF} {n : Nat} {p p1 p2 : PT} (e1 : p1 = goesS B n p) (e2 : p2 = nuS B n 0 (p1.1 10 - 1) p1) (h : nhS 0 (p2.1 8 - 1) p2 = p2) (h0 : pcd p2 = 0) (hw : whyPutN p2.1 (ix (nhV 0 (p1.1 10 - 1) p1)) (ix (nhV 0 (p2.1 8 - 1) p2)) = 0) : puS B n p = goesS B n (pN (putIn p2.1 (ix (nhV 0 (p1.1 10 - 1) p1)) (nhV 0 (p2.1 8 - 1) p2)) p2) := by
  subst e1; subst e2
  have a2 : pu2 B n p = nuS B n 0 ((goesS B n p).1 10 - 1) (goesS B n p) := h
  have a3 : pu3 B n p = nuS B n 0 ((goesS B n p).1 10 - 1) (goesS B n p) := by rw [pu3, a2, if_neg (fun q => q.2 hw)]
  rw [puS, a3, if_pos h0]
  rfl
-- wash
theorem wa_x2 {B : AF} {n : Nat} {p p1 p2 : PT} (e1 : p1 = goesS B n p) (e2 : p2 = nuS B n 0 (p1.1 8 - 1) p1) (h : ¬ pcd p2 ≤ 0) : pca (waS B n p) = pca p2 := by
  subst e1; subst e2
  have a1 : wa_1 B n p = nuS B n 0 ((goesS B n p).1 8 - 1) (goesS B n p) := rfl
  have a2 : wa_2 B n p = wa_1 B n p := nh_x (by rw [a1]; exact h)
  have a3 : wa_3 B n p = wa_1 B n p := by rw [wa_3, a2, if_neg (fun q => nz_of h (by rw [← a1]; exact q.1))]
  rw [waS, a3, ← a1, if_neg (by rw [a1]; exact h)]
theorem wa_x3 {B : AF} {n : Nat} {p p1 p2 p3 : PT} (e1 : p1 = goesS B n p) (e2 : p2 = nuS B n 0 (p1.1 8 - 1) p1) (e3 : p3 = nhS 0 3 p2) (h : ¬ pcd p3 ≤ 0) : pca (waS B n p) = pca p3 := by
  subst e1; subst e2; subst e3
  have a2 : wa_2 B n p = nhS 0 3 (nuS B n 0 ((goesS B n p).1 8 - 1) (goesS B n p)) := rfl
  rw [← a2] at h ⊢
  have a3 : wa_3 B n p = wa_2 B n p := by rw [wa_3, if_neg (fun q => nz_of h q.1)]
  rw [waS, a3, if_neg h]
theorem wa_ck {B : AF} {n : Nat} {p p1 p2 : PT} (e1 : p1 = goesS B n p) (e2 : p2 = nuS B n 0 (p1.1 8 - 1) p1) (h : nhS 0 3 p2 = p2) (h0 : pcd p2 = 0) (hw : ¬ whyWashN p2.1 (nhV 0 (p1.1 8 - 1) p1) (nhV 0 3 p2) = 0) : pca (waS B n p) = pca (fltS 3 p2) := by
  subst e1; subst e2
  have a2 : wa_2 B n p = nuS B n 0 ((goesS B n p).1 8 - 1) (goesS B n p) := h
  have h3 : ¬ pcd (fltS 3 (nuS B n 0 ((goesS B n p).1 8 - 1) (goesS B n p))) ≤ 0 := flt_gt (by decide) _
  have a3 : wa_3 B n p = fltS 3 (nuS B n 0 ((goesS B n p).1 8 - 1) (goesS B n p)) := by rw [wa_3, a2, if_pos ⟨h0, hw⟩]
  rw [waS, a3, if_neg h3]
theorem wa_0 {B : AF} {n : Nat} {p p1 p2 : PT} (e1 : p1 = goesS B n p) (e2 : p2 = nuS B n 0 (p1.1 8 - 1) p1) (h : nhS 0 3 p2 = p2) (h0 : pcd p2 = 0) (hw : whyWashN p2.1 (nhV 0 (p1.1 8 - 1) p1) (nhV 0 3 p2) = 0) : waS B n p = goesS B n (pN (washN p2.1 (nhV 0 (p1.1 8 - 1) p1) (nhV 0 3 p2)) p2) := by
  subst e1; subst e2
  have a2 : wa_2 B n p = nuS B n 0 ((goesS B n p).1 8 - 1) (goesS B n p) := h
  have a3 : wa_3 B n p = nuS B n 0 ((goesS B n p).1 8 - 1) (goesS B n p) := by rw [wa_3, a2, if_neg (fun q => q.2 hw)]
  rw [waS, a3, if_pos (by rw [show (nuS B n 0 ((goesS B n p).1 8 - 1) (goesS B n p)).2.2.2.2.2.1 = 0 from h0]; exact Int32.le_refl _)]
  rfl
-- hang
theorem ha_x2 {B : AF} {n : Nat} {p p1 p2 : PT} (e1 : p1 = goesS B n p) (e2 : p2 = nhS 0 (p1.1 10 - 1) p1) (h : ¬ pcd p2 ≤ 0) : pca (haS B n p) = pca p2 := by
  subst e1; subst e2
  have a1 : ha1 B n p = nhS 0 ((goesS B n p).1 10 - 1) (goesS B n p) := rfl
  rw [← a1] at h ⊢
  have a2 : ha2 B n p = ha1 B n p := by rw [ha2, if_neg (fun q => nz_of h q.1)]
  rw [haS, a2, if_neg (nz_of h), goes_x h]
theorem ha_ck {B : AF} {n : Nat} {p p1 : PT} (e1 : p1 = goesS B n p) (h : nhS 0 (p1.1 10 - 1) p1 = p1) (h0 : pcd p1 = 0) (hw : ¬ canHangN p1.1 (ix (nhV 0 (p1.1 10 - 1) p1))) : pca (haS B n p) = pca (fltS 3 p1) := by
  subst e1
  have a1 : ha1 B n p = goesS B n p := h
  have h3 : ¬ pcd (fltS 3 (goesS B n p)) ≤ 0 := flt_gt (by decide) _
  have a2 : ha2 B n p = fltS 3 (goesS B n p) := by rw [ha2, a1, if_pos ⟨h0, hw⟩]
  rw [haS, a2, if_neg (nz_of h3), goes_x h3]
theorem ha_0 {B : AF} {n : Nat} {p p1 : PT} (e1 : p1 = goesS B n p) (h : nhS 0 (p1.1 10 - 1) p1 = p1) (h0 : pcd p1 = 0) (hw : canHangN p1.1 (ix (nhV 0 (p1.1 10 - 1) p1))) : haS B n p = goesS B n (pN (goTo p1.1 (ix (nhV 0 (p1.1 10 - 1) p1)) 2 (freeN p1.1)) p1) := by
  subst e1
  have a1 : ha1 B n p = goesS B n p := h
  have a2 : ha2 B n p = goesS B n p := by rw [ha2, a1, if_neg (fun q => q.2 hw)]
  rw [haS, a2, if_pos h0]
  rfl
/-- below lw but for y (and Strings, which keep their hash) all is kept -/
def ky (y lw : Nat) (σ τ : AH) : Prop := σ.2 ≤ τ.2 ∧ ∀ a, a < lw → ¬ a = y → (∀ va h z, ¬ σ.1 a = some (strC va h z)) → τ.1 a = σ.1 a
theorem ky.rf {y lw : Nat} {σ : AH} : ky y lw σ σ := ⟨Nat.le_refl _, fun _ _ _ _ => rfl⟩
theorem ky.tr {y lw : Nat} {σ τ ρ : AH} (h : ky y lw σ τ) (k : ky y lw τ ρ) : ky y lw σ ρ := ⟨Nat.le_trans h.1 k.1, fun a ha hy hs => (k.2 a ha hy (fun va h9 z e => hs va h9 z ((h.2 a ha hy hs).symm.trans e))).trans (h.2 a ha hy hs)⟩
/-- a String keeps its hash -/
theorem ky.st {y lw wd : Nat} {σ τ ρ : AH} {va : Nat} {h9 z : Int32} (h : ky y lw σ τ) (hw : τ.1 wd = some (strC va h9 z)) (k : kx wd τ ρ) (hl : lw ≤ σ.2) : ky y lw σ ρ := ⟨Nat.le_trans h.1 k.1, fun a ha hy hs => (k.2 a (Nat.lt_of_lt_of_le ha (Nat.le_trans hl h.1)) (fun e => hs va h9 z (by rw [← h.2 a ha hy hs, e]; exact hw))).trans (h.2 a ha hy hs)⟩
theorem ky.kx {y lw : Nat} {σ τ ρ : AH} (h : ky y lw σ τ) (k : kx y τ ρ) (hl : lw ≤ σ.2) : ky y lw σ ρ := ⟨Nat.le_trans h.1 k.1, fun a ha hy hs => (k.2 a (Nat.lt_of_lt_of_le ha (Nat.le_trans hl h.1)) hy).trans (h.2 a ha hy hs)⟩
theorem ky.kl {y lw : Nat} {σ τ ρ : AH} (h : ky y lw σ τ) (k : kl lw τ ρ) : ky y lw σ ρ := ⟨Nat.le_trans h.1 k.1, fun a ha hy hs => (k.2 a ha).trans (h.2 a ha hy hs)⟩
theorem ky.ex {y lw : Nat} {σ τ ρ : AH} (h : ky y lw σ τ) (k : ext τ ρ) (hl : lw ≤ σ.2) : ky y lw σ ρ := h.kl (k.kl (Nat.le_trans hl h.1))
/-- the counts and numbers are good; a nation that isn't there has handed over nothing -/
def GN (N : AF) : Prop := WFd N ∧ WFw N ∧ ∀ n, nN N ≤ n → n < 4 → na N n 3 = 0
/-- a line was read -/
def LQ (g : GC) (y x bf : Nat) (S : Int32 → Nat) (B : AF) (n lw wa : Nat) (p' : PT) (σ : AH) : Option Value → AH → Prop := fun w τ => w = none ∧ pcd p' = 0 ∧ PR τ y x bf S B n (.ref wa) p' ∧ (∃ W', wW W' = wa ∧ RW g τ W' p'.1 ∧ own lw W' p'.1) ∧ GN p'.1 ∧ ky y lw σ τ
/-- a fault in a line -/
def LX (y lw : Nat) (p' : PT) (σ : AH) : String → Nat → AH → Prop := fun E q τ => E = "FlagLaundry$Flaw" ∧ ¬ pcd p' ≤ 0 ∧ τ.1 q = some (flwC (pcd p') p'.2.2.2.2.2.2) ∧ ky y lw σ τ
theorem LX.of {y lw : Nat} {p' p2 : PT} {σ σ' τ : AH} {E : String} {q : Nat} (k : ky y lw σ σ') (hl : lw ≤ σ.2) (h : FX p2 y σ' E q τ) (e : pca p' = pca p2) : LX y lw p' σ E q τ := by
  obtain ⟨h1, h2, h3, h4⟩ := h
  unfold pca at e
  exact ⟨h1, by show ¬ p'.2.2.2.2.2.1 ≤ 0; rw [e]; exact h2, by show τ.1 q = some (flwC p'.2.2.2.2.2.1 p'.2.2.2.2.2.2); rw [e]; exact h3, k.kx h4 hl⟩
theorem LX.ck {y lw : Nat} {p' p2 : PT} {σ σ' τ : AH} {E : String} {q : Nat} {c : Int32} (k : ky y lw σ σ') (hl : lw ≤ σ.2) (h : A_fl c (nI p2.2.2.1) y σ' E q τ) (h0 : pcd p2 = 0) (hc : ¬ c ≤ 0) (e : pca p' = pca (fltS c p2)) : LX y lw p' σ E q τ := LX.of k hl (FX.of (p' := fltS c p2) h h0 hc rfl) e
theorem nu_in {B : AF} {n : Nat} {lo hi : Int32} {p : PT} (h : pcd (nuS B n lo hi p) = 0) : inR (nhV lo hi p) lo hi ∧ nhV lo hi p = p.2.2.2.2.1 := by
  have e := congrArg (fun z : Int32 × Int32 => z.1) (nu_pc B n lo hi p)
  obtain ⟨a, b, c, d⟩ := nh_in (lo := lo) (hi := hi) (p := p) (by rw [← e, show (nuS B n lo hi p).2.2.2.2.2.1 = 0 from h]; exact Int32.le_refl _)
  exact ⟨by rw [c]; exact d, c⟩
theorem nh_in0 {lo hi : Int32} {p : PT} (h : pcd (nhS lo hi p) = 0) : inR (nhV lo hi p) lo hi ∧ nhS lo hi p = p := by
  obtain ⟨a, b, c, d⟩ := nh_in (lo := lo) (hi := hi) (p := p) (by rw [show (nhS lo hi p).2.2.2.2.2.1 = 0 from h]; exact Int32.le_refl _)
  exact ⟨by rw [c]; exact d, b⟩
theorem goes_pcd {B : AF} {n : Nat} {p : PT} (h : pcd p = 0) : pcd (goesS B n p) = 0 := by
  unfold pcd
  rw [goes_pc]
  exact h
theorem PRW.ex {g : GC} {σ τ : AH} {y x bf n : Nat} {S : Int32 → Nat} {B : AF} {mv : Value} {p : PT} (h : PR σ y x bf S B n mv p) (w : wfh σ) (k : ext σ τ) : PR τ y x bf S B n mv p := PR.kx (A := 0) (vs := []) h w k
/-- the parser's cell stands below lw: a change of the world alone keeps it -/
theorem PR.kl {σ τ : AH} {y x bf n lw : Nat} {S : Int32 → Nat} {B : AF} {mv : Value} {p : PT} (h : PR σ y x bf S B n mv p) (hy : y < lw) (hx : x < lw) (hb : bf < lw) (k : kl lw σ τ) : PR τ y x bf S B n mv p := by
  obtain ⟨v, wd, h1, ⟨⟨bd, pe, ep, nv, dq, sv, ou, h2⟩, h3, h4⟩, h5⟩ := h
  exact ⟨v, wd, (k.2 y hy).trans h1, ⟨⟨bd, pe, ep, nv, dq, sv, ou, (k.2 x hx).trans h2⟩, (k.2 bf hb).trans h3, h4⟩, h5⟩
/-- another N: the parser's own state is the same -/
theorem PR.pN {σ : AH} {y x bf n : Nat} {S : Int32 → Nat} {B : AF} {mv : Value} {p : PT} {N : AF} (h : PR σ y x bf S B n mv p) : PR σ y x bf S B n mv (pN N p) := h
/-! THE PARSER 4: the numbers behind each line -/
theorem FLok.up {N N' : AF} {f : Nat} (h : FLok N f) (hn : nN N ≤ nN N') (hc : nC N ≤ nC N') (ht : nT N ≤ nT N') (hp : nP N' = nP N) (hf : ∀ k, k < 11 → fl N' f k = fl N f k) : FLok N' f := by
  obtain ⟨⟨n, hn1, hn2⟩, hc1, hc2, hc3, hc4, hc5, ⟨x, hx1, hx2⟩, hpl⟩ := h
  refine ⟨⟨n, Nat.lt_of_lt_of_le hn1 hn, (hf 0 (by decide)).trans hn2⟩, by rw [hf 1 (by decide)]; exact hc1, by rw [hf 2 (by decide)]; exact hc2, by rw [hf 3 (by decide)]; exact hc3, by rw [hf 4 (by decide)]; exact hc4, by rw [hf 5 (by decide)]; exact hc5, ⟨x, Nat.lt_of_lt_of_le hx1 (Nat.pow_le_pow_right (by decide) hc), (hf 6 (by decide)).trans hx2⟩, ?_⟩
  unfold PLok at hpl ⊢
  rw [hf 8 (by decide), hf 9 (by decide)]
  rcases hpl with h | ⟨h1, t, h2, h3⟩ | ⟨h1, t, h2, h3⟩ | h
  · exact Or.inl h
  · exact Or.inr (Or.inl ⟨h1, t, Nat.lt_of_lt_of_le h2 ht, h3⟩)
  · exact Or.inr (Or.inr (Or.inl ⟨h1, t, by rw [hp]; exact h2, h3⟩))
  · exact Or.inr (Or.inr (Or.inr h))
theorem GN.cg {N N' : AF} (h : GN N) (hd : WFd N') (h1 : N' 1 = N 1) (h7 : N' 7 = N 7) (hk : ∀ j, 18 ≤ j → j < 38 → N' j = N j) : GN N' := by
  obtain ⟨_, ⟨x, hx1, hx2⟩, h3⟩ := h
  have e7 : nN N' = nN N := by unfold nN; rw [h7]
  exact ⟨hd, ⟨x, hx1, h1.trans hx2⟩, fun n a b => by rw [e7] at a; exact (hk _ (by omega) (by omega)).trans (h3 n a b)⟩
-- colour
theorem coN_ne (N : AF) (v : Int32) {j : Nat} (h6 : ¬ j = 6) (hj : ¬ j = 12 + nC N) : coN N v j = N j := (va_up_ne _ _ h6).trans (va_up_ne _ _ hj)
theorem coN_6 (N : AF) (v : Int32) : coN N v 6 = N 6 + 1 := by
  unfold coN
  rw [up_at, va_up_ne _ _ (by omega)]
theorem coN_v (N : AF) (v : Int32) : coN N v (12 + nC N) = v := (va_up_ne _ _ (by omega)).trans (if_pos rfl)
theorem nC_co {N : AF} (h : WFc N) (v : Int32) : nC (coN N v) = nC N + 1 := by
  show (coN N v 6).toNatClampNeg = _
  rw [coN_6, h.1.1, ← nI_succ, nI_clamp (by have := h.1.2; omega)]
theorem GN_co {N : AF} (h : GN N) (hk : ¬ N 6 = 6) (v : Int32) : GN (coN N v) := by
  have hw := h.1.1
  have hC : nC N < 6 := Nat.lt_of_le_of_ne hw.1.2 (fun e => hk (by rw [hw.1.1, e]; decide))
  have e7 : nN (coN N v) = nN N := by unfold nN; rw [coN_ne N v (by decide) (by omega)]
  have e8 : nT (coN N v) = nT N := by unfold nT; rw [coN_ne N v (by decide) (by omega)]
  have e9 : nP (coN N v) = nP N := by unfold nP; rw [coN_ne N v (by decide) (by omega)]
  have e10 : nF (coN N v) = nF N := by unfold nF; rw [coN_ne N v (by decide) (by omega)]
  refine h.cg ⟨wfc_co hw hk v, fun f hf => ?_⟩ (coN_ne N v (by decide) (by omega)) (coN_ne N v (by decide) (by omega)) (fun j a b => coN_ne N v (by omega) (by omega))
  rw [e10] at hf
  exact (h.1.2 f hf).up (Nat.le_of_eq e7.symm) (by rw [nC_co hw]; exact Nat.le_succ _) (Nat.le_of_eq e8.symm) e9 (fun k hk => coN_ne N v (by omega) (by omega))
-- tub
theorem tuN_ne (N : AF) (v : Int32) {j : Nat} (h6 : ¬ j = 8) (hj : ¬ j = 38 + nT N) : tuN N v j = N j := (va_up_ne _ _ h6).trans (va_up_ne _ _ hj)
theorem tuN_8 (N : AF) (v : Int32) : tuN N v 8 = N 8 + 1 := by
  unfold tuN
  rw [up_at, va_up_ne _ _ (by omega)]
theorem tuN_v (N : AF) (v : Int32) : tuN N v (38 + nT N) = v := (va_up_ne _ _ (by omega)).trans (if_pos rfl)
theorem nT_tu {N : AF} (h : WFc N) (v : Int32) : nT (tuN N v) = nT N + 1 := by
  show (tuN N v 8).toNatClampNeg = _
  rw [tuN_8, h.2.2.1.1, ← nI_succ, nI_clamp (by have := h.2.2.1.2; omega)]
theorem GN_tu {N : AF} (h : GN N) (hk : ¬ N 8 = 3) (v : Int32) : GN (tuN N v) := by
  have hw := h.1.1
  have hT : nT N < 3 := Nat.lt_of_le_of_ne hw.2.2.1.2 (fun e => hk (by rw [hw.2.2.1.1, e]; decide))
  have e6 : nC (tuN N v) = nC N := by unfold nC; rw [tuN_ne N v (by decide) (by omega)]
  have e7 : nN (tuN N v) = nN N := by unfold nN; rw [tuN_ne N v (by decide) (by omega)]
  have e9 : nP (tuN N v) = nP N := by unfold nP; rw [tuN_ne N v (by decide) (by omega)]
  have e10 : nF (tuN N v) = nF N := by unfold nF; rw [tuN_ne N v (by decide) (by omega)]
  refine h.cg ⟨wfc_tu hw hk v, fun f hf => ?_⟩ (tuN_ne N v (by decide) (by omega)) (tuN_ne N v (by decide) (by omega)) (fun j a b => tuN_ne N v (by omega) (by omega))
  rw [e10] at hf
  exact (h.1.2 f hf).up (Nat.le_of_eq e7.symm) (Nat.le_of_eq e6.symm) (by rw [nT_tu hw]; exact Nat.le_succ _) e9 (fun k hk => tuN_ne N v (by omega) (by omega))
-- nation
theorem nan_ne (N : AF) (a b c : Int32) {j : Nat} (h7 : ¬ j = 7) (hj : ¬ (18 + 5 * nN N ≤ j ∧ j < 23 + 5 * nN N)) : nanN N a b c j = N j := (va_up_ne _ _ h7).trans ((va_up_ne _ _ (by omega)).trans ((va_up_ne _ _ (by omega)).trans (va_up_ne _ _ (by omega))))
theorem nan_7 (N : AF) (a b c : Int32) : nanN N a b c 7 = N 7 + 1 := by
  unfold nanN
  rw [up_at]
  have e : setNa (setNa (setNa N (nN N) 0 a) (nN N) 1 b) (nN N) 2 c 7 = N 7 := (va_up_ne _ _ (by omega)).trans ((va_up_ne _ _ (by omega)).trans (va_up_ne _ _ (by omega)))
  rw [e]
theorem nan_0 (N : AF) (a b c : Int32) : na (nanN N a b c) (nN N) 0 = a := (va_up_ne _ _ (by omega)).trans ((va_up_ne _ _ (by omega)).trans ((va_up_ne _ _ (by omega)).trans (if_pos rfl)))
theorem nan_1 (N : AF) (a b c : Int32) : na (nanN N a b c) (nN N) 1 = b := (va_up_ne _ _ (by omega)).trans ((va_up_ne _ _ (by omega)).trans (if_pos rfl))
theorem nan_2 (N : AF) (a b c : Int32) : na (nanN N a b c) (nN N) 2 = c := (va_up_ne _ _ (by omega)).trans (if_pos rfl)
theorem nan_3 (N : AF) (a b c : Int32) : na (nanN N a b c) (nN N) 3 = na N (nN N) 3 := (va_up_ne _ _ (by omega)).trans ((va_up_ne _ _ (by omega)).trans ((va_up_ne _ _ (by omega)).trans (va_up_ne _ _ (by omega))))
theorem nN_nan {N : AF} (h : WFc N) (a b c : Int32) : nN (nanN N a b c) = nN N + 1 := by
  show (nanN N a b c 7).toNatClampNeg = _
  rw [nan_7, h.2.1.1, ← nI_succ, nI_clamp (by have := h.2.1.2; omega)]
theorem GN_nan {N : AF} (h : GN N) (hk : ¬ N 7 = 4) (a b c : Int32) : GN (nanN N a b c) := by
  obtain ⟨hd, ⟨x, hx1, hx2⟩, h3⟩ := h
  have hw := hd.1
  have hT : nN N < 4 := Nat.lt_of_le_of_ne hw.2.1.2 (fun e => hk (by rw [hw.2.1.1, e]; decide))
  have e6 : nC (nanN N a b c) = nC N := by unfold nC; rw [nan_ne N a b c (by decide) (by omega)]
  have e8 : nT (nanN N a b c) = nT N := by unfold nT; rw [nan_ne N a b c (by decide) (by omega)]
  have e9 : nP (nanN N a b c) = nP N := by unfold nP; rw [nan_ne N a b c (by decide) (by omega)]
  have e10 : nF (nanN N a b c) = nF N := by unfold nF; rw [nan_ne N a b c (by decide) (by omega)]
  refine ⟨⟨wfc_nan hw hk a b c, fun f hf => ?_⟩, ⟨x, hx1, (nan_ne N a b c (by decide) (by omega)).trans hx2⟩, fun n q1 q2 => ?_⟩
  · rw [e10] at hf
    exact (hd.2 f hf).up (by rw [nN_nan hw]; exact Nat.le_succ _) (Nat.le_of_eq e6.symm) (Nat.le_of_eq e8.symm) e9 (fun k hk => nan_ne N a b c (by omega) (by omega))
  · rw [nN_nan hw] at q1
    exact (nan_ne N a b c (by omega) (by omega)).trans (h3 n (by omega) q2)
-- flag
theorem GN_add {N : AF} (h : GN N) (hk : nF N < 12) {n o c d : Int32} (hn : ∃ i, i < nN N ∧ n = nI i) (ho : ∃ i, i < 64 ∧ o = nI i) (hc : ∃ i, i ≤ 3 ∧ c = nI i) (hd : ∃ i, i ≤ 9 ∧ d = nI i) : GN (addN N n o c d) := by
  have hw := h.1.1
  have q : ∀ j, j < 41 → ¬ j = 10 → addN N n o c d j = N j := fun j a b => addN_h N n o c d a b
  have e6 : nC (addN N n o c d) = nC N := by unfold nC; rw [q 6 (by decide) (by decide)]
  have e7 : nN (addN N n o c d) = nN N := by unfold nN; rw [q 7 (by decide) (by decide)]
  have e8 : nT (addN N n o c d) = nT N := by unfold nT; rw [q 8 (by decide) (by decide)]
  have e9 : nP (addN N n o c d) = nP N := by unfold nP; rw [q 9 (by decide) (by decide)]
  refine h.cg ⟨(wfc_add hw hk n o c d).1, fun f hf => ?_⟩ (q 1 (by decide) (by decide)) (q 7 (by decide) (by decide)) (fun j a b => q j (by omega) (by omega))
  rw [(wfc_add hw hk n o c d).2] at hf
  by_cases e : f = nF N
  · subst e
    have F : ∀ k, k < 11 → fl (addN N n o c d) (nF N) k = adF n o c d k := fun k hk => addN_F N n o c d hk
    refine ⟨?_, ?_, ?_, ?_, ?_, ?_, ?_, Or.inl ⟨(F 8 (by decide)).trans rfl, (F 9 (by decide)).trans rfl⟩⟩
    · rw [e7, F 0 (by decide)]; exact hn
    · rw [F 1 (by decide)]; exact ho
    · rw [F 2 (by decide)]; exact hc
    · rw [F 3 (by decide)]; exact hd
    · rw [F 4 (by decide)]; exact ⟨0, by decide, rfl⟩
    · rw [F 5 (by decide)]; exact ⟨0, by decide, rfl⟩
    · rw [F 6 (by decide)]; exact ⟨0, Nat.two_pow_pos _, rfl⟩
  · exact (h.1.2 f (by omega)).up (Nat.le_of_eq e7.symm) (Nat.le_of_eq e6.symm) (Nat.le_of_eq e8.symm) e9 (fun k hk => addN_fl N n o c d e hk)
-- the others
theorem GN_put {N : AF} (h : GN N) {f t : Nat} (hf : f < nF N) (ht : t < nT N) : GN (putIn N f (nI t)) := by
  have q : ∀ j, j < 41 → ¬ j = 11 → putIn N f (nI t) j = N j := fun j a b => (va_up_ne _ _ b).trans (((hdr_set _ _ _ _).tr (hdr_goTo _ _ _ _)) j a)
  exact h.cg (WFd_put h.1 hf ht) (q 1 (by decide) (by decide)) (q 7 (by decide) (by decide)) (fun j a b => q j (by omega) (by omega))
theorem GN_wash {N : AF} (h : GN N) {t : Int32} {k : Nat} (hk : k < 4) : GN (washN N t (nI k)) := by
  have q : ∀ j, j < 41 → ¬ j = 4 → washN N t (nI k) j = N j := fun j a b => (va_up_ne _ _ b).trans (hdr_wsh N t _ _ _ j a)
  exact h.cg (WFd_wash h.1 hk) (q 1 (by decide) (by decide)) (q 7 (by decide) (by decide)) (fun j a b => q j (by omega) (by omega))
theorem itr_cnt (N : AF) : ∀ k j, 6 ≤ j → j < 41 → itr passN N k j = N j
  | 0, _, _, _ => rfl
  | k + 1, j, a, b => (passN_cnt _ j a b).trans (itr_cnt N k j a b)
theorem GN_pass {N : AF} (h : GN N) (k : Nat) : GN (itr passN N k) :=
  h.cg (WFd_passI h.1 h.2.1 k).1 (WFd_passI h.1 h.2.1 k).2 (itr_cnt N k 7 (by decide) (by decide)) (fun j a b => itr_cnt N k j (by omega) (by omega))
theorem GN_hang {N : AF} (h : GN N) {f : Nat} (hf : f < nF N) (hq : ¬ freeN N = -1) : GN (goTo N f 2 (freeN N)) :=
  h.cg (WFd_hang h.1 hf hq) (hdr_goTo _ _ _ _ 1 (by decide)) (hdr_goTo _ _ _ _ 7 (by decide)) (fun j a b => hdr_goTo _ _ _ _ j (by omega))
theorem GN_wind {N : AF} (h : GN N) {v : Int32} (hv : inR v 0 9) : GN (va_up N 1 v) := by
  obtain ⟨hd, _, h3⟩ := h
  obtain ⟨k, hk, e⟩ := in6_ex (n := 9) (by decide) hv
  refine ⟨WFd_1 hd v, ⟨k, hk, (if_pos rfl).trans e⟩, fun n a b => ?_⟩
  have e7 : nN (va_up N 1 v) = nN N := by unfold nN; rw [va_up_ne _ _ (by decide)]
  rw [e7] at a
  exact (va_up_ne _ _ (by omega)).trans (h3 n a b)
theorem GN_new {p : Int32} (hp : inR p 1 8) : GN (newN p) := by
  obtain ⟨k, hk, e⟩ := in1_e2 (n := 8) (by decide) hp
  have e10 : nF (newN p) = 0 := rfl
  have e9 : nP (newN p) = k := by
    show (newN p 9).toNatClampNeg = k
    rw [show newN p 9 = p from rfl, e, nI_clamp (by omega)]
  exact ⟨⟨⟨⟨rfl, Nat.zero_le _⟩, ⟨rfl, Nat.zero_le _⟩, ⟨rfl, Nat.zero_le _⟩, ⟨by rw [e9]; exact e, by rw [e9]; exact hk⟩, ⟨rfl, Nat.zero_le _⟩⟩, fun f hf => by rw [e10] at hf; exact absurd hf (Nat.not_lt_zero _)⟩, ⟨0, by decide, rfl⟩, fun n _ _ => by
    show newN p (18 + 5 * n + 3) = 0
    exact if_neg (by omega)⟩
/-! THE PARSER 5: a world with a colour, a tub, a nation more -/
theorem RW.co {g : GC} {σ τ : AH} {W : WA} {N : AF} {v : Int32} {f : Nat → Int32} (h : RW g σ W N) (w : wfh σ) (hW : WFc N) (hk : ¬ N 6 = 6) (k : k2 (wR W) (wW W) σ τ) (hA : τ.1 (wR W) = some (intA 6 (va_up f (nC N) v))) (hf : ∀ c, c < nC N → f c = N (12 + c)) (hc : τ.1 (wW W) = some (wldC W (coN N v))) : RW g τ W (coN N v) := by
  have hC : nC N < 6 := Nat.lt_of_le_of_ne hW.1.2 (fun e => hk (by rw [hW.1.1, e]; decide))
  have q : ∀ j, ¬ j = 6 → (j < 12 ∨ 18 ≤ j) → coN N v j = N j := fun j a b => coN_ne N v a (by omega)
  have e1 := nC_co hW v
  have e6 : nT (coN N v) = nT N := by unfold nT; rw [q 8 (by decide) (by decide)]
  have e7 : nN (coN N v) = nN N := by unfold nN; rw [q 7 (by decide) (by decide)]
  have e10 : nF (coN N v) = nF N := by unfold nF; rw [q 10 (by decide) (by decide)]
  have qf : ∀ i k, fl (coN N v) i k = fl N i k := fun i k => q _ (by omega) (by omega)
  obtain ⟨h1, ⟨f2, h2, h2'⟩, ⟨f3, h3, h3'⟩, ⟨m4, f4, h4, h4', h4''⟩, ⟨m5, f5, h5, h5', h5''⟩, ⟨f6, h6, h6'⟩, h7, h8, h9, h10, h11⟩ := h
  have r : ∀ {a : Nat} {e : AE}, σ.1 a = some e → e ≠ intA 6 f2 → e ≠ wldC W N → τ.1 a = some e := fun ha x2 x1 => k.at w ha (ne_of ha h2 x2) (ne_of ha h1 x1)
  refine ⟨hc, ⟨_, hA, fun c hc9 => ?_⟩, ⟨f3, r h3 (fun e => by simp at e) ne_arr, fun t ht => ?_⟩, ⟨m4, f4, by rw [e7]; exact r h4 ne_arr.symm (ne_cls (by decide)), r h4' (fun e => by simp at e) ne_arr, fun n hn => h4'' n (e7 ▸ hn)⟩, ⟨m5, f5, by rw [e10]; exact r h5 ne_arr.symm (ne_cls (by decide)), r h5' (fun e => by simp at e) ne_arr, fun n hn => h5'' n (e10 ▸ hn)⟩, ⟨f6, r h6 (fun e => by simp at e) ne_arr, h6'⟩, fun i hi => ?_, fun i hi => ?_, fun n hn => ?_, fun i j hi hj => h10 i j (e10 ▸ hi) (e10 ▸ hj), fun i j hi hj => h11 i j (e7 ▸ hi) (e7 ▸ hj)⟩
  · rw [e1] at hc9
    by_cases c9 : c = nC N
    · rw [c9, coN_v]; exact if_pos rfl
    · rw [coN_ne N v (by omega) (by omega), va_up_ne _ _ c9]; exact hf c (by omega)
  · rw [e6] at ht; rw [q (38 + t) (by omega) (by omega)]; exact h3' t ht
  · rw [e10] at hi; rw [flg_eq _ (fun k hk => qf i k)]; exact r (h7 i hi) ne_arr.symm (ne_cls (by decide))
  · rw [e10] at hi; rw [qf, qf, qf]; exact r (h8 i hi) ne_arr.symm (ne_pl (plc_cls _ _ _).2.1)
  · rw [e7] at hn
    have hN4 := hW.2.1.2
    have qn : ∀ j, j < 5 → na (coN N v) n j = na N n j := fun j hj => q _ (by omega) (by omega)
    obtain ⟨x, k1, k2⟩ := h9 n hn
    refine ⟨x, ?_, ?_⟩
    · rw [qn 0 (by decide), qn 1 (by decide), qn 2 (by decide)]; exact r k1 ne_arr.symm (ne_cls (by decide))
    · unfold HD at k2 ⊢; rw [qn 3 (by decide), qn 4 (by decide), qn 0 (by decide)]; exact k2
theorem RW.tu {g : GC} {σ τ : AH} {W : WA} {N : AF} {v : Int32} {f : Nat → Int32} (h : RW g σ W N) (w : wfh σ) (hW : WFc N) (hk : ¬ N 8 = 3) (k : k2 (wM W) (wW W) σ τ) (hA : τ.1 (wM W) = some (intA 3 (va_up f (nT N) v))) (hf : ∀ c, c < nT N → f c = N (38 + c)) (hc : τ.1 (wW W) = some (wldC W (tuN N v))) : RW g τ W (tuN N v) := by
  have hC : nT N < 3 := Nat.lt_of_le_of_ne hW.2.2.1.2 (fun e => hk (by rw [hW.2.2.1.1, e]; decide))
  have q : ∀ j, ¬ j = 8 → (j < 38 ∨ 41 ≤ j) → tuN N v j = N j := fun j a b => tuN_ne N v a (by omega)
  have e1 := nT_tu hW v
  have e6 : nC (tuN N v) = nC N := by unfold nC; rw [q 6 (by decide) (by decide)]
  have e7 : nN (tuN N v) = nN N := by unfold nN; rw [q 7 (by decide) (by decide)]
  have e10 : nF (tuN N v) = nF N := by unfold nF; rw [q 10 (by decide) (by decide)]
  have qf : ∀ i k, fl (tuN N v) i k = fl N i k := fun i k => q _ (by omega) (by omega)
  obtain ⟨h1, ⟨f2, h2, h2'⟩, ⟨f3, h3, h3'⟩, ⟨m4, f4, h4, h4', h4''⟩, ⟨m5, f5, h5, h5', h5''⟩, ⟨f6, h6, h6'⟩, h7, h8, h9, h10, h11⟩ := h
  have r : ∀ {a : Nat} {e : AE}, σ.1 a = some e → e ≠ intA 3 f3 → e ≠ wldC W N → τ.1 a = some e := fun ha x2 x1 => k.at w ha (ne_of ha h3 x2) (ne_of ha h1 x1)
  refine ⟨hc, ⟨f2, r h2 (fun e => by simp at e) ne_arr, fun t ht => ?_⟩, ⟨_, hA, fun c hc9 => ?_⟩, ⟨m4, f4, by rw [e7]; exact r h4 ne_arr.symm (ne_cls (by decide)), r h4' (fun e => by simp at e) ne_arr, fun n hn => h4'' n (e7 ▸ hn)⟩, ⟨m5, f5, by rw [e10]; exact r h5 ne_arr.symm (ne_cls (by decide)), r h5' (fun e => by simp at e) ne_arr, fun n hn => h5'' n (e10 ▸ hn)⟩, ⟨f6, r h6 (fun e => by simp at e) ne_arr, h6'⟩, fun i hi => ?_, fun i hi => ?_, fun n hn => ?_, fun i j hi hj => h10 i j (e10 ▸ hi) (e10 ▸ hj), fun i j hi hj => h11 i j (e7 ▸ hi) (e7 ▸ hj)⟩
  · rw [e6] at ht; have hC6 := hW.1.2; rw [q (12 + t) (by omega) (by omega)]; exact h2' t ht
  · rw [e1] at hc9
    by_cases c9 : c = nT N
    · rw [c9, tuN_v]; exact if_pos rfl
    · rw [tuN_ne N v (by omega) (by omega), va_up_ne _ _ c9]; exact hf c (by omega)
  · rw [e10] at hi; rw [flg_eq _ (fun k hk => qf i k)]; exact r (h7 i hi) ne_arr.symm (ne_cls (by decide))
  · rw [e10] at hi; rw [qf, qf, qf]; exact r (h8 i hi) ne_arr.symm (ne_pl (plc_cls _ _ _).2.1)
  · rw [e7] at hn
    have hN4 := hW.2.1.2
    have qn : ∀ j, j < 5 → na (tuN N v) n j = na N n j := fun j hj => q _ (by omega) (by omega)
    obtain ⟨x, k1, k2⟩ := h9 n hn
    refine ⟨x, ?_, ?_⟩
    · rw [qn 0 (by decide), qn 1 (by decide), qn 2 (by decide)]; exact r k1 ne_arr.symm (ne_cls (by decide))
    · unfold HD at k2 ⊢; rw [qn 3 (by decide), qn 4 (by decide), qn 0 (by decide)]; exact k2
theorem own.up {lo : Nat} {W : WA} {N N' : AF} (h : own lo W N) (e7 : nN N' = nN N) (e10 : nF N' = nF N) : own lo W N' := by
  obtain ⟨a, b, c, d, e, f, i, j, k⟩ := h
  exact ⟨a, b, c, d, e, f, i, fun q hq => j q (e10 ▸ hq), fun q hq => k q (e7 ▸ hq)⟩
theorem own.co {lo : Nat} {W : WA} {N : AF} (h : own lo W N) (hW : WFc N) (v : Int32) : own lo W (coN N v) := h.up (by unfold nN; rw [coN_ne N v (by decide) (by have := hW.1.2; omega)]) (by unfold nF; rw [coN_ne N v (by decide) (by have := hW.1.2; omega)])
theorem own.tu {lo : Nat} {W : WA} {N : AF} (h : own lo W N) (v : Int32) : own lo W (tuN N v) := h.up (by unfold nN; rw [tuN_ne N v (by decide) (by omega)]) (by unfold nF; rw [tuN_ne N v (by decide) (by omega)])
theorem own.nan {lo x : Nat} {W : WA} {N : AF} (h : own lo W N) (hW : WFc N) (a b c : Int32) (hx : lo ≤ x) : own lo (setNt W (upP (wN W) (nN N) x)) (nanN N a b c) := by
  obtain ⟨a1, b1, c1, d, e, f, i, j, k⟩ := h
  have e10 : nF (nanN N a b c) = nF N := by unfold nF; rw [nan_ne N a b c (by decide) (by omega)]
  refine ⟨a1, b1, c1, d, e, f, i, fun q hq => j q (e10 ▸ hq), fun q hq => ?_⟩
  show lo ≤ upP (wN W) (nN N) x q
  rw [nN_nan hW] at hq
  by_cases c9 : q = nN N
  · rw [c9, upP_s]; exact hx
  · rw [upP_n _ _ c9]; exact k q (by omega)
theorem own.add {lo x z : Nat} {W : WA} {N : AF} (h : own lo W N) (hW : WFc N) (hk : nF N < 12) (n o c d : Int32) (hx : lo ≤ x) : own lo (setFP W (upP (wF W) (nF N) x) (upP (wP W) (nF N) z)) (addN N n o c d) := by
  obtain ⟨a1, b1, c1, d1, e, f, i, j, k⟩ := h
  have e7 : nN (addN N n o c d) = nN N := by unfold nN; rw [addN_h N n o c d (by decide) (by decide)]
  refine ⟨a1, b1, c1, d1, e, f, i, fun q hq => ?_, fun q hq => k q (e7 ▸ hq)⟩
  show lo ≤ upP (wF W) (nF N) x q
  rw [(wfc_add hW hk n o c d).2] at hq
  by_cases c9 : q = nF N
  · rw [c9, upP_s]; exact hx
  · rw [upP_n _ _ c9]; exact j q (by omega)
theorem wld_nan (W : WA) (N : AF) (a b c : Int32) (P : Nat → Nat) : wldC (setNt W P) (nanN N a b c) = wldC W N := by
  show (.inr (.inl (4, _)) : AE) = _
  rw [nan_ne N a b c (j := 9) (by decide) (by omega), nan_ne N a b c (j := 6) (by decide) (by omega), nan_ne N a b c (j := 8) (by decide) (by omega), nan_ne N a b c (j := 0) (by decide) (by omega), nan_ne N a b c (j := 1) (by decide) (by omega), nan_ne N a b c (j := 2) (by decide) (by omega), nan_ne N a b c (j := 3) (by decide) (by omega), nan_ne N a b c (j := 4) (by decide) (by omega), nan_ne N a b c (j := 5) (by decide) (by omega), nan_ne N a b c (j := 11) (by decide) (by omega)]
  rfl
theorem RW.nan {g : GC} {σ τ : AH} {W : WA} {N : AF} {x : Nat} {mc a b c : Int32} {f : Nat → Option Nat} (h : RW g σ W N) (w : wfh σ) (hG : GN N) (hk : ¬ N 7 = 4) (k : k2 (wNL W) (wNA W) σ τ) (hL : τ.1 (wNL W) = some (lstC mc (wNA W) (nN N + 1))) (hA : τ.1 (wNA W) = some (objA "java/lang/Object" 4 (va_up f (nN N) (some x)))) (hf : ∀ i, i < nN N → f i = some (wN W i)) (hx : σ.1 x = some (natC a b c (-1))) (hnew : ∀ i, i < nN N → ¬ wN W i = x) : RW g τ (setNt W (upP (wN W) (nN N) x)) (nanN N a b c) := by
  have hW := hG.1.1
  have hn : nN N < 4 := Nat.lt_of_le_of_ne hW.2.1.2 (fun e => hk (by rw [hW.2.1.1, e]; decide))
  have h1 := h.1
  have h4 := h.2.2.2.1.choose_spec.choose_spec
  refine RW.of ?_ (RWr.addN (h' := -1) h.2 w hn hW.1.2 k hL hA hf (by rw [nan_0, nan_1, nan_2]; exact hx) (Or.inl ⟨(nan_3 N a b c).trans (hG.2.2 _ (Nat.le_refl _) hn), rfl⟩) hnew (fun j p q => nan_ne N a b c p q) (nN_nan hW a b c))
  rw [wld_nan]
  exact k.at w h1 (ne_of h1 h4.1 (ne_cls (by decide))) (ne_of h1 h4.2.1 ne_arr.symm)
/-! THE PARSER 6: the flag's line -/
theorem fg_e1 {B : AF} {n : Nat} {p p1 : PT} (e1 : p1 = bgS B n 10 12 p) : fg1 B n p = p1 := by rw [fg1, e1]
theorem fg_e2 {B : AF} {n : Nat} {p p1 p2 : PT} (e1 : p1 = bgS B n 10 12 p) (e2 : p2 = nuS B n 0 (p1.1 7 - 1) p1) : fg2 B n p = p2 := by rw [fg2, fg_e1 e1, e2]
theorem fg_e3 {B : AF} {n : Nat} {p p1 p2 p3 : PT} (e1 : p1 = bgS B n 10 12 p) (e2 : p2 = nuS B n 0 (p1.1 7 - 1) p1) (e3 : p3 = nuS B n 0 3 p2) : fg3 B n p = p3 := by rw [fg3, fg_e2 e1 e2, e3]
theorem fg_e4 {B : AF} {n : Nat} {p p1 p2 p3 p4 : PT} (e1 : p1 = bgS B n 10 12 p) (e2 : p2 = nuS B n 0 (p1.1 7 - 1) p1) (e3 : p3 = nuS B n 0 3 p2) (e4 : p4 = nuS B n 0 9 p3) : fg4 B n p = p4 := by rw [fg4, fg_e3 e1 e2 e3, e4]
theorem cqU_0 (B : AF) (n : Nat) (q : Int32 × PT) : cqU B n q 0 = q := by unfold cqU; exact Eq.refl q
theorem cqU_v (B : AF) (n : Nat) (q : Int32 × PT) (k : Nat) : (cqU B n q (k + 1)).1 = crV B n (cqU B n q k).1 (cqU B n q k).2 := by rw [cqU_s]
theorem cqU_sh (B : AF) (n : Nat) (q : Int32 × PT) (k : Nat) : cqU B n (crV B n q.1 q.2, crS B n q.1 q.2) k = cqU B n q (k + 1) := by
  induction k with
  | zero => rw [cqU_0, cqU_s B n q 0, cqU_0]
  | succ k ih => rw [cqU_s, ih, cqU_s B n q (k + 1)]
theorem cqU_x {B : AF} {n : Nat} {q : Int32 × PT} {i : Nat} (h : ¬ pcd (cqU B n q i).2 ≤ 0) : ∀ j, (cqU B n q (i + j)).2 = (cqU B n q i).2
  | 0 => rfl
  | j + 1 => by
    have h1 := cqU_x h j
    rw [← Nat.add_assoc, cqU_2, cr_x (by rw [h1]; exact h), h1]
theorem cr_in {B : AF} {n : Nat} {s : Int32} {q : PT} (h : pcd (crS B n s q) = 0) : pcd (nhS 0 (q.1 6 - 1) q) = 0 ∧ ¬ hasB s (nhV 0 (q.1 6 - 1) q) ∧ crS B n s q = goesS B n q ∧ crV B n s q = (s ||| ((1 : Int32) <<< (nhV 0 (q.1 6 - 1) q &&& 31))) := by
  have h1 : pcd (crH s q) = 0 := by
    have e := h
    unfold crS pcd at e
    rw [goes_pc] at e
    exact e
  have hc : ¬ ((nhS 0 (q.1 6 - 1) q).2.2.2.2.2.1 = 0 ∧ hasB s (nhV 0 (q.1 6 - 1) q)) := by
    intro hc
    rw [crH, if_pos hc] at h1
    exact flt_gt (c := 3) (by decide) _ (le_of0 h1)
  have eH : crH s q = nhS 0 (q.1 6 - 1) q := by rw [crH, if_neg hc]
  rw [eH] at h1
  have eN := (nh_in0 h1).2
  refine ⟨h1, fun q9 => hc ⟨h1, q9⟩, by rw [crS, eH, eN], ?_⟩
  rw [crV, if_pos (le_of0 h)]
theorem cr_0 {B : AF} {n : Nat} {s : Int32} {q : PT} (h1 : nhS 0 (q.1 6 - 1) q = q) (h2 : ¬ hasB s (nhV 0 (q.1 6 - 1) q)) (h0 : pcd q = 0) : crS B n s q = goesS B n q ∧ crV B n s q = (s ||| ((1 : Int32) <<< (nhV 0 (q.1 6 - 1) q &&& 31))) := by
  have eH : crH s q = q := by rw [crH, if_neg (fun z => h2 z.2), h1]
  have eS : crS B n s q = goesS B n q := by rw [crS, eH]
  refine ⟨eS, ?_⟩
  rw [crV, eS, if_pos (le_of0 (goes_pcd h0))]
theorem cr_xl {B : AF} {n : Nat} {s : Int32} {q : PT} (h : ¬ pcd (nhS 0 (q.1 6 - 1) q) ≤ 0) : crS B n s q = nhS 0 (q.1 6 - 1) q := by
  rw [crS, crH, if_neg (fun z => h (le_of0 z.1)), goes_x h]
theorem cr_xh {B : AF} {n : Nat} {s : Int32} {q : PT} (h1 : nhS 0 (q.1 6 - 1) q = q) (h2 : hasB s (nhV 0 (q.1 6 - 1) q)) (h0 : pcd q = 0) : crS B n s q = fltS 3 q := by
  have eH : crH s q = fltS 3 q := by rw [crH, h1, if_pos ⟨h0, h2⟩]
  rw [crS, eH, goes_x (flt_gt (by decide) _)]
theorem cr_xk {B : AF} {n : Nat} {s : Int32} {q : PT} (h : ¬ isP 3 q) : crS B n s q = fltS 1 q := by
  have e : nhS 0 (q.1 6 - 1) q = fltS 1 q := by rw [nhS, if_neg h]
  have h3 : ¬ pcd (fltS 1 q) ≤ 0 := flt_gt (by decide) _
  rw [← e] at h3 ⊢
  exact cr_xl h3
def pop6 (s : Nat) : Nat := s % 2 + s / 2 % 2 + s / 4 % 2 + s / 8 % 2 + s / 16 % 2 + s / 32 % 2
theorem popT : ∀ s, s < 64 → ∀ c, c < 6 → hasB (nI s) (nI c) ∨ ((nI s ||| ((1 : Int32) <<< (nI c &&& 31))) = nI (s ||| 2 ^ c) ∧ s ||| 2 ^ c < 64 ∧ pop6 (s ||| 2 ^ c) = pop6 s + 1) := by decide +kernel
theorem pop6_le : ∀ s, s < 64 → pop6 s ≤ 6 := by decide +kernel
theorem fg_pop {B N : AF} {n : Nat} {p4 : PT} (hN : p4.1 = N) (hW : WFc N) (i : Nat) : pcd (cqU B n (0, p4) i).2 = 0 → ∃ s, s < 64 ∧ (cqU B n (0, p4) i).1 = nI s ∧ pop6 s = i := by
  induction i with
  | zero => intro _; exact ⟨0, by decide, by rw [cqU_0]; rfl, by decide⟩
  | succ i ih =>
    intro h
    rw [cqU_2] at h
    obtain ⟨h1, h2, -, h4⟩ := cr_in h
    obtain ⟨hr, he⟩ := nh_in0 h1
    have h0 : pcd (cqU B n (0, p4) i).2 = 0 := by rw [he] at h1; exact h1
    obtain ⟨s, hs, e, hp⟩ := ih h0
    have e1 : (cqU B n (0, p4) i).2.1 = N := (cl_1 B n (0, p4) i).trans hN
    have hC := hW.1.2
    rw [e1] at hr h2 h4
    obtain ⟨j, hj, ej⟩ := in_ex hW.1.1 (Nat.le_trans hC (by decide)) hr
    rw [ej, e] at h2
    rcases popT s hs j (by omega) with a | ⟨a, b, c⟩
    · exact absurd a h2
    · refine ⟨s ||| 2 ^ j, b, ?_, by omega⟩
      rw [cqU_v, h4, ej, e, a]
theorem fg_x4 {B : AF} {n : Nat} {p p1 p2 p3 p4 : PT} (e1 : p1 = bgS B n 10 12 p) (e2 : p2 = nuS B n 0 (p1.1 7 - 1) p1) (e3 : p3 = nuS B n 0 3 p2) (e4 : p4 = nuS B n 0 9 p3) {i : Nat} (hi : i ≤ cqK B n (fg0 B n p) + 1) (h : ¬ pcd (cqU B n (0, p4) i).2 ≤ 0) : pca (fgS B n p) = pca (cqU B n (0, p4) i).2 := by
  have e0 : fg0 B n p = (crV B n 0 p4, crS B n 0 p4) := by rw [fg0, fg_e4 e1 e2 e3 e4]
  have e5 : fg5 B n p = cqU B n (0, p4) (cqK B n (fg0 B n p) + 1) := by
    rw [fg5]
    rw [show cqU B n (fg0 B n p) = cqU B n (crV B n 0 p4, crS B n 0 p4) by rw [e0]]
    exact cqU_sh B n (0, p4) _
  obtain ⟨j, hj⟩ : ∃ j, cqK B n (fg0 B n p) + 1 = i + j := ⟨_, (Nat.add_sub_cancel' hi).symm⟩
  have e6 : (fg5 B n p).2 = (cqU B n (0, p4) i).2 := by rw [e5, hj]; exact cqU_x h j
  rw [fgS, e6, if_neg (nz_of h)]
theorem fg_x3 {B : AF} {n : Nat} {p p1 p2 p3 p4 : PT} (e1 : p1 = bgS B n 10 12 p) (e2 : p2 = nuS B n 0 (p1.1 7 - 1) p1) (e3 : p3 = nuS B n 0 3 p2) (e4 : p4 = nuS B n 0 9 p3) (h : ¬ pcd p4 ≤ 0) : pca (fgS B n p) = pca p4 := fg_x4 e1 e2 e3 e4 (Nat.zero_le _) h
theorem fg_x2 {B : AF} {n : Nat} {p p1 p2 p3 : PT} (e1 : p1 = bgS B n 10 12 p) (e2 : p2 = nuS B n 0 (p1.1 7 - 1) p1) (e3 : p3 = nuS B n 0 3 p2) (h : ¬ pcd p3 ≤ 0) : pca (fgS B n p) = pca p3 := by
  have e := nu_x (B := B) (n := n) (lo := 0) (hi := 9) h
  exact fg_x3 e1 e2 e3 (p4 := p3) e.symm h
theorem fg_x1 {B : AF} {n : Nat} {p p1 p2 : PT} (e1 : p1 = bgS B n 10 12 p) (e2 : p2 = nuS B n 0 (p1.1 7 - 1) p1) (h : ¬ pcd p2 ≤ 0) : pca (fgS B n p) = pca p2 := by
  have e := nu_x (B := B) (n := n) (lo := 0) (hi := 3) h
  exact fg_x2 e1 e2 (p3 := p2) e.symm h
theorem fg_x0 {B : AF} {n : Nat} {p p1 : PT} (e1 : p1 = bgS B n 10 12 p) (h : ¬ pcd p1 ≤ 0) : pca (fgS B n p) = pca p1 := by
  have e := nu_x (B := B) (n := n) (lo := 0) (hi := p1.1 7 - 1) h
  exact fg_x1 e1 (p2 := p1) e.symm h
/-- the colours, one after the other -/
theorem fg_loop {B N : AF} {n : Nat} {p p1 p2 p3 p4 : PT} (e1 : p1 = bgS B n 10 12 p) (e2 : p2 = nuS B n 0 (p1.1 7 - 1) p1) (e3 : p3 = nuS B n 0 3 p2) (e4 : p4 = nuS B n 0 9 p3) (hN : p4.1 = N) (hW : WFc N) (h0 : pcd p4 = 0) (hk : p4.2.2.2.1 = 3) (hcn : p4.2.1 ≤ n) (hsc : p4.2.2.1 ≤ p4.2.1) : ∃ m, m ≤ 7 ∧ (∀ i, i < m → isP 3 (cqU B n (0, p4) i).2) ∧ ¬ isP 3 (cqU B n (0, p4) m).2 ∧ (∀ i, i < m → ¬ pcd (cqU B n (0, p4) (i + 1)).2 ≤ 0 → pca (fgS B n p) = pca (cqU B n (0, p4) (i + 1)).2) ∧ (pcd (cqU B n (0, p4) m).2 = 0 → fgS B n p = pN (addN N (nhV 0 (p1.1 7 - 1) p1) (cqU B n (0, p4) m).1 (nhV 0 3 p2) (nhV 0 9 p3)) (cqU B n (0, p4) m).2) := by
  have e0 : fg0 B n p = (crV B n 0 p4, crS B n 0 p4) := by rw [fg0, fg_e4 e1 e2 e3 e4]
  have es : ∀ k, cqU B n (fg0 B n p) k = cqU B n (0, p4) (k + 1) := fun k => by rw [e0]; exact cqU_sh B n (0, p4) k
  have hok : pOK n p4 := ⟨hcn, hsc, by rw [show p4.2.2.2.2.2.1 = 0 from h0]; decide, by rw [hN]; exact hW⟩
  have ha : ∀ i, i < cqK B n (fg0 B n p) + 1 → isP 3 (cqU B n (0, p4) i).2 := by
    intro i hi
    cases i with
    | zero => exact ⟨h0, hk⟩
    | succ i => rw [← es]; exact cl_in (by omega)
  refine ⟨cqK B n (fg0 B n p) + 1, ?_, ha, ?_, fun i hi h => fg_x4 e1 e2 e3 e4 (by omega) h, fun h => ?_⟩
  · obtain ⟨s, hs, -, hp⟩ := fg_pop hN hW (cqK B n (fg0 B n p)) (ha _ (Nat.lt_succ_self _)).1
    have := pop6_le s hs
    omega
  · rw [← es]
    exact cl_out (by rw [e0]; exact cr_ok hok)
  · have e5 : fg5 B n p = cqU B n (0, p4) (cqK B n (fg0 B n p) + 1) := by rw [fg5, es]
    rw [fgS, e5, if_pos h, (cl_1 B n (0, p4) _).trans hN, fg_e1 e1, fg_e2 e1 e2, fg_e3 e1 e2 e3]
theorem fg_xk {B : AF} {n : Nat} {p p1 p2 p3 p4 : PT} (e1 : p1 = bgS B n 10 12 p) (e2 : p2 = nuS B n 0 (p1.1 7 - 1) p1) (e3 : p3 = nuS B n 0 3 p2) (e4 : p4 = nuS B n 0 9 p3) (h : ¬ isP 3 p4) : pca (fgS B n p) = pca (fltS 1 p4) := by
  have e : (cqU B n (0, p4) 1).2 = fltS 1 p4 := by rw [cqU_2, cqU_0]; exact cr_xk h
  rw [← e]
  exact fg_x4 e1 e2 e3 e4 (by omega) (by rw [e]; exact flt_gt (by decide) _)
theorem fq_x {B : AF} {n m i : Nat} {p p4 r : PT} {q : Int32 × PT} (hfx : ∀ i, i < m → ¬ pcd (cqU B n (0, p4) (i + 1)).2 ≤ 0 → pca (fgS B n p) = pca (cqU B n (0, p4) (i + 1)).2) (hi : i < m) (eqq : q = cqU B n (0, p4) i) (e : crS B n q.1 q.2 = r) (h : ¬ pcd r ≤ 0) : pca (fgS B n p) = pca r := by
  have e2 : (cqU B n (0, p4) (i + 1)).2 = r := by rw [cqU_2, ← eqq, e]
  rw [← e2]
  exact hfx i hi (by rw [e2]; exact h)
theorem lt_cnt {M : Int32} {c m : Nat} (hM : M = nI c) (hc : c ≤ m) (hm : m < 100) : nI c < nI m ↔ ¬ M = nI m := by
  subst hM
  rw [nI_lti (by omega) (by omega)]
  constructor
  · intro h e
    have := (nI_eqi (by omega) (by omega)).mp e
    omega
  · intro h
    have : ¬ c = m := fun e => h (by rw [e])
    omega
theorem c_pPut {l : Launch} {g : GC} (σ : AH) (y x bf n lo : Nat) (S : Int32 → Nat) (W : WA) (B N : AF) (p : PT) (h : PR σ y x bf S B n (.ref (wW W)) p) (hS : SRT g S) (h0 : pcd p = 0) (hN : p.1 = N) (hR : RW g σ W N) (hO : own lo W N) (hG : GN N) (hl0 : lo ≤ σ.2) (hy : y < lo) (hx : x < lo) (hb : bf < lo) : AMet l g mX3_putLine 45 50 [.ref y] σ (LQ g y x bf S B n lo (wW W) (puS B n p) σ) (LX y lo (puS B n p) σ) := by
  refine A_of rfl (by decide) (Nat.le_of_ble_eq_true rfl) (L0 := [(0, .ref y)]) rfl ?_
  refine A_wfh (fun wσ hgσ => ?_)
  have qσ : kl lo σ σ := kl.rf
  have hD := hG.1
  have hw := hG.2.1
  have hl := hl0
  obtain ⟨v, wd, hC, ⟨⟨bd, pe, ep, nv, dq, sv, ou, hX⟩, hBf, hn5, hby⟩, hvv, htk, hcn, hsc⟩ := id h
  have hW := hD.1
  have hR9 := hR
  obtain ⟨h1, ⟨fr, h2, h2p⟩, ⟨fm, h3, h3p⟩, ⟨mcn, fnA, h4, h4p, h4q⟩, ⟨mcf, ffA, h5, h5p, h5q⟩, ⟨fu, h6, h6p⟩, h7, h8, h9, h10, h11⟩ := hR
  have hF12 : nF N ≤ 12 := hW.2.2.2.2.2
  have hN4 : nN N ≤ 4 := hW.2.1.2
  have hC6 : nC N ≤ 6 := hW.1.2
  have hT3 : nT N ≤ 3 := hW.2.2.1.2
  have hP8 : nP N ≤ 8 := hW.2.2.2.1.2
  refine A_aload_n (i := 0) dX3_putLine_0 rfl rfl ?_
  refine A_callV0 (b' := 42) (c_pStep σ y x bf n S (.ref (wW W)) B p (⟨v, wd, hC, ⟨⟨bd, pe, ep, nv, dq, sv, ou, hX⟩, hBf, hn5, hby⟩, hvv, htk, hcn, hsc⟩) hS h0) tX3_step q414 hC rfl rfl dX3_putLine_1 (by decide) (Nat.le_of_ble_eq_true rfl) (Nat.le_of_ble_eq_true rfl) (fun w9 τs1 hs1 => ?_) (fun E9 q9 τ9 h9 => h9.elim)
  obtain ⟨e8, hWτs1, kτs1⟩ := hs1
  subst e8
  obtain ⟨p1, e1⟩ : ∃ q9, q9 = goesS B n p := ⟨_, rfl⟩
  rw [← e1] at hWτs1
  have z0_1 : pcd p1 = 0 := by rw [e1]; exact goes_pcd h0
  have n9_1 : p1.1 = N := by rw [e1, goes_1] <;> exact hN
  refine A_wfh (fun wτs1 hgτs1 => ?_)
  have kyτs1 : ky y lo σ τs1 := ky.rf.kx kτs1 hl0
  have hl : lo ≤ τs1.2 := Nat.le_trans hl0 kyτs1.1
  have qτs1 : kl lo τs1 τs1 := kl.rf
  have hRlτs1 : RW g τs1 W N := hR9.oth wσ hC (isW_no (by decide)) kτs1
  obtain ⟨v_1, wd_1, ⟨hC_1, ⟨⟨bd_1, pe_1, ep_1, nv_1, dq_1, sv_1, ou_1, hX_1⟩, hBf_1, hn5_1, hby_1⟩, hvv_1, htk_1, hcn_1, hsc_1⟩, hPW_1⟩ := id hWτs1
  have hRc := hRlτs1
  obtain ⟨h1_1, ⟨fr_1, h2_1, h2p_1⟩, ⟨fm_1, h3_1, h3p_1⟩, ⟨mcn_1, fnA_1, h4_1, h4p_1, h4q_1⟩, ⟨mcf_1, ffA_1, h5_1, h5p_1, h5q_1⟩, ⟨fu_1, h6_1, h6p_1⟩, h7_1, h8_1, h9_1, h10_1, h11_1⟩ := hRc
  have fτs1_1_0 : τs1.1 (wW W) = some (.inr (.inl (4, [.int (N 9), .ref (wR W), .ref (wM W), .ref (wNL W), .ref (wFL W), .ref (wUN W), .int (N 6), .int (N 8), .int (N 0), .int (N 1), .int (N 2), .int (N 3), .int (N 4), .int (N 5), .int (N 11)]))) := h1_1
  have fτs1_1_1 : τs1.1 (wFL W) = some (.inr (.inl (14, [.int mcf_1, .ref (wFA W), .int (nI (nF N))]))) := h5_1
  have fτs1_1_2 : τs1.1 (wFA W) = some (.inl (.object "java/lang/Object", 12, .inr (.inr (.inr (.inr ffA_1))))) := h5p_1
  have fτs1_1_3 : τs1.1 (wNL W) = some (.inr (.inl (14, [.int mcn_1, .ref (wNA W), .int (nI (nN N))]))) := h4_1
  have fτs1_1_4 : τs1.1 (wNA W) = some (.inl (.object "java/lang/Object", 4, .inr (.inr (.inr (.inr fnA_1))))) := h4p_1
  have fτs1_1_5 : τs1.1 (wR W) = some (.inl (.int, 6, .inl fr_1)) := h2_1
  have fτs1_1_6 : τs1.1 (wM W) = some (.inl (.int, 3, .inl fm_1)) := h3_1
  have fτs1_1_7 : τs1.1 (wUN W) = some (.inl (.object "FlagLaundry$Test", 7, .inr (.inr (.inr (.inr fu_1))))) := h6_1
  refine A_aload_n (i := 0) dX3_putLine_4 rfl rfl ?_
  refine A_iconst (v := 0) dX3_putLine_5 (by decide) ?_
  refine A_aload_n (i := 0) dX3_putLine_6 rfl rfl ?_
  refine A_getf cb_X3 hC_1 6 (Nat.le_of_ble_eq_true rfl) q690 rfl (v := .ref (wW W)) rfl dX3_putLine_7 ?_
  refine A_callV0E (b' := 42) (v := some (.int (nI (nF N)))) (τ := τs1) (c_many τs1 W N hRlτs1 hW) tX5_many q1074 fτs1_1_0 rfl rfl dX3_putLine_10 (by decide) (Nat.le_of_ble_eq_true rfl) (Nat.le_of_ble_eq_true rfl) ?_
  refine A_iconst (v := 1) dX3_putLine_13 (by decide) ?_
  refine A_isub dX3_putLine_14 ?_
  refine A_int (w := (N 10 - 1)) (by rw [← hW.2.2.2.2.1]) ?_
  refine A_callV2 (b' := 32) (c_pNum τs1 y x bf n S (.ref (wW W)) B p1 0 (N 10 - 1) (⟨v_1, wd_1, hC_1, ⟨⟨bd_1, pe_1, ep_1, nv_1, dq_1, sv_1, ou_1, hX_1⟩, hBf_1, hn5_1, hby_1⟩, hvv_1, htk_1, hcn_1, hsc_1⟩) hS z0_1) tX3_number q756 hC_1 rfl rfl dX3_putLine_15 (by decide) (Nat.le_of_ble_eq_true rfl) (Nat.le_of_ble_eq_true rfl) (fun w9 τs2 hs2 => ?_) (fun E9 q9 τ9 h9 => A_out rfl (LX.of kyτs1 hl0 h9 (pu_x2 e1 (congrArg (fun z : AF => nuS B n 0 (z 10 - 1) p1) n9_1.symm) h9.2.1)))
  obtain ⟨hc9, e9, hWτs2, kτs2⟩ := hs2
  have in9_2 := (nu_in hc9).1
  obtain ⟨jf, hjf, ejf⟩ := in_ex hW.2.2.2.2.1 (Nat.le_trans hF12 (by decide)) in9_2
  have bjf : jf < 2000 := Nat.lt_of_lt_of_le hjf (Nat.le_trans hF12 (by decide))
  rw [ejf] at e9
  subst e9
  have hc9_2 := hc9
  obtain ⟨p2, e2⟩ : ∃ q9, q9 = nuS B n 0 (N 10 - 1) p1 := ⟨_, rfl⟩
  rw [← e2] at hWτs2
  have z0_2 : pcd p2 = 0 := by rw [e2]; exact hc9
  have n9_2 : p2.1 = N := by rw [e2, nu_1]; exact n9_1
  refine A_wfh (fun wτs2 hgτs2 => ?_)
  have kyτs2 : ky y lo σ τs2 := kyτs1.kx kτs2 hl0
  have hl : lo ≤ τs2.2 := Nat.le_trans hl0 kyτs2.1
  have qτs2 : kl lo τs2 τs2 := kl.rf
  have hRlτs2 : RW g τs2 W N := hRlτs1.oth wτs1 hC_1 (isW_no (by decide)) kτs2
  obtain ⟨v_2, wd_2, ⟨hC_2, ⟨⟨bd_2, pe_2, ep_2, nv_2, dq_2, sv_2, ou_2, hX_2⟩, hBf_2, hn5_2, hby_2⟩, hvv_2, htk_2, hcn_2, hsc_2⟩, hPW_2⟩ := id hWτs2
  have hRc := hRlτs2
  obtain ⟨h1_2, ⟨fr_2, h2_2, h2p_2⟩, ⟨fm_2, h3_2, h3p_2⟩, ⟨mcn_2, fnA_2, h4_2, h4p_2, h4q_2⟩, ⟨mcf_2, ffA_2, h5_2, h5p_2, h5q_2⟩, ⟨fu_2, h6_2, h6p_2⟩, h7_2, h8_2, h9_2, h10_2, h11_2⟩ := hRc
  have fτs2_2_0 : τs2.1 (wW W) = some (.inr (.inl (4, [.int (N 9), .ref (wR W), .ref (wM W), .ref (wNL W), .ref (wFL W), .ref (wUN W), .int (N 6), .int (N 8), .int (N 0), .int (N 1), .int (N 2), .int (N 3), .int (N 4), .int (N 5), .int (N 11)]))) := h1_2
  have fτs2_2_1 : τs2.1 (wFL W) = some (.inr (.inl (14, [.int mcf_2, .ref (wFA W), .int (nI (nF N))]))) := h5_2
  have fτs2_2_2 : τs2.1 (wFA W) = some (.inl (.object "java/lang/Object", 12, .inr (.inr (.inr (.inr ffA_2))))) := h5p_2
  have fτs2_2_3 : τs2.1 (wNL W) = some (.inr (.inl (14, [.int mcn_2, .ref (wNA W), .int (nI (nN N))]))) := h4_2
  have fτs2_2_4 : τs2.1 (wNA W) = some (.inl (.object "java/lang/Object", 4, .inr (.inr (.inr (.inr fnA_2))))) := h4p_2
  have fτs2_2_5 : τs2.1 (wR W) = some (.inl (.int, 6, .inl fr_2)) := h2_2
  have fτs2_2_6 : τs2.1 (wM W) = some (.inl (.int, 3, .inl fm_2)) := h3_2
  have fτs2_2_7 : τs2.1 (wUN W) = some (.inl (.object "FlagLaundry$Test", 7, .inr (.inr (.inr (.inr fu_2))))) := h6_2
  refine A_istore_n (i := 1) dX3_putLine_18 rfl (Nat.le_of_ble_eq_true rfl) ?_
  refine A_aload_n (i := 0) dX3_putLine_19 rfl rfl ?_
  refine A_iconst (v := 0) dX3_putLine_20 (by decide) ?_
  refine A_aload_n (i := 0) dX3_putLine_21 rfl rfl ?_
  refine A_getf cb_X3 hC_2 6 (Nat.le_of_ble_eq_true rfl) q690 rfl (v := .ref (wW W)) rfl dX3_putLine_22 ?_
  refine A_getfN cb_X5 fτs2_2_0 7 (Nat.le_of_ble_eq_true rfl) q841 rfl (v := .int (N 8)) rfl dX3_putLine_25 ?_
  refine A_iconst (v := 1) dX3_putLine_28 (by decide) ?_
  refine A_isub dX3_putLine_29 ?_
  refine A_callV2 (b' := 30) (c_pLook τs2 y x bf n S (.ref (wW W)) B p2 0 ((N 8) - 1) (⟨v_2, wd_2, hC_2, ⟨⟨bd_2, pe_2, ep_2, nv_2, dq_2, sv_2, ou_2, hX_2⟩, hBf_2, hn5_2, hby_2⟩, hvv_2, htk_2, hcn_2, hsc_2⟩) hS z0_2) tX3_look q760 hC_2 rfl rfl dX3_putLine_30 (by decide) (Nat.le_of_ble_eq_true rfl) (Nat.le_of_ble_eq_true rfl) (fun w9 τ9 h9 => ?_) (fun E9 q9 τ9 h9 => A_out rfl (LX.of kyτs2 hl0 h9 (pu_x3 e1 (e2.trans (congrArg (fun z : AF => nuS B n 0 (z 10 - 1) p1) n9_1.symm)) (congrArg (fun z : AF => nhS 0 (z 8 - 1) p2) n9_2.symm) h9.2.1)))
  obtain ⟨hc9, e9, et9⟩ := h9
  have in9_lt := (nh_in0 hc9).1
  have nh9_t : nhS 0 ((N 8) - 1) p2 = p2 := (nh_in0 hc9).2
  obtain ⟨jt, hjt, ejt⟩ := in_ex hW.2.2.1.1 (Nat.le_trans hT3 (by decide)) in9_lt
  have bjt : jt < 2000 := Nat.lt_of_lt_of_le hjt (Nat.le_trans hT3 (by decide))
  rw [ejt] at e9
  subst e9
  rw [et9]
  refine A_istore_n (i := 2) dX3_putLine_33 rfl (Nat.le_of_ble_eq_true rfl) ?_
  refine A_aload_n (i := 0) dX3_putLine_34 rfl rfl ?_
  refine A_aload_n (i := 0) dX3_putLine_35 rfl rfl ?_
  refine A_getf cb_X3 hC_2 6 (Nat.le_of_ble_eq_true rfl) q690 rfl (v := .ref (wW W)) rfl dX3_putLine_36 ?_
  refine A_iload_n (i := 1) dX3_putLine_39 rfl rfl ?_
  refine A_iload_n (i := 2) dX3_putLine_40 rfl rfl ?_
  refine A_callSN3 (b' := 24) (c_putBar τs2 W N jf jt hRlτs2 hD hjf hjt) tX1_putBar q1150 dX3_putLine_41 (by decide) (Nat.le_of_ble_eq_true rfl) (Nat.le_of_ble_eq_true rfl) (fun w9 σ1 h9 => ?_) (fun E9 q9 τ9 h9 => h9.elim)
  obtain ⟨e9, xσ1⟩ := h9
  subst e9
  refine A_wfh (fun wσ1 hgσ1 => ?_)
  have qσ1 : kl lo τs2 σ1 := qτs2.ex hl xσ1
  have fσ1_0 : σ1.1 (wW W) = some (.inr (.inl (4, [.int (N 9), .ref (wR W), .ref (wM W), .ref (wNL W), .ref (wFL W), .ref (wUN W), .int (N 6), .int (N 8), .int (N 0), .int (N 1), .int (N 2), .int (N 3), .int (N 4), .int (N 5), .int (N 11)]))) := xσ1.at wτs2 fτs2_2_0
  have fσ1_1 : σ1.1 (wFL W) = some (.inr (.inl (14, [.int mcf_2, .ref (wFA W), .int (nI (nF N))]))) := xσ1.at wτs2 fτs2_2_1
  have fσ1_2 : σ1.1 (wFA W) = some (.inl (.object "java/lang/Object", 12, .inr (.inr (.inr (.inr ffA_2))))) := xσ1.at wτs2 fτs2_2_2
  have fσ1_3 : σ1.1 (wNL W) = some (.inr (.inl (14, [.int mcn_2, .ref (wNA W), .int (nI (nN N))]))) := xσ1.at wτs2 fτs2_2_3
  have fσ1_4 : σ1.1 (wNA W) = some (.inl (.object "java/lang/Object", 4, .inr (.inr (.inr (.inr fnA_2))))) := xσ1.at wτs2 fτs2_2_4
  have fσ1_5 : σ1.1 (wR W) = some (.inl (.int, 6, .inl fr_2)) := xσ1.at wτs2 fτs2_2_5
  have fσ1_6 : σ1.1 (wM W) = some (.inl (.int, 3, .inl fm_2)) := xσ1.at wτs2 fτs2_2_6
  have fσ1_7 : σ1.1 (wUN W) = some (.inl (.object "FlagLaundry$Test", 7, .inr (.inr (.inr (.inr fu_2))))) := xσ1.at wτs2 fτs2_2_7
  have fσ1_8 : σ1.1 y = some (.inr (.inl (2, [.int (nI n), .int (nI p2.2.1), .int (nI p2.2.2.1), .int v_2, .ref (S p2.2.2.2.1), .ref wd_2, .ref (wW W), .ref x]))) := xσ1.at wτs2 hC_2
  have fσ1_9 : σ1.1 x = some (.inr (.inl (0, [.ref bf, .int bd_2, .int pe_2, .int ep_2, nv_2, .ref dq_2, .ref sv_2, .ref ou_2]))) := xσ1.at wτs2 hX_2
  have fσ1_10 : σ1.1 bf = some (.inl (.byte, 500, .inl B)) := xσ1.at wτs2 hBf_2
  have hRσ1 : RW g σ1 W N := hRlτs2.ext wτs2 xσ1
  refine A_if_ne (tgt := 51) dX3_putLine_44 (by decide) (fun c1 => ?_) (fun c1 => ?_)
  · skip
    refine A_iconst (v := 0) dX3_putLine_51 (by decide) ?_
    refine A_iconst (v := 3) dX3_putLine_52 (by decide) ?_
    refine A_callV2 (b' := 0) (c_pChkNo σ1 y n p2.2.1 p2.2.2.1 x v_2 (S p2.2.2.2.1) wd_2 (.ref (wW W)) 3 fσ1_8) tX3_check q722 fσ1_8 rfl rfl dX3_putLine_53 (by decide) (Nat.le_of_ble_eq_true rfl) (Nat.le_of_ble_eq_true rfl) (fun w9 τ9 h9 => h9.elim) (fun E9 q9 τ9 h9 => A_out rfl (LX.ck (kyτs2.kl qσ1) hl0 h9 z0_2 (by decide) (pu_ck e1 (e2.trans (congrArg (fun z : AF => nuS B n 0 (z 10 - 1) p1) n9_1.symm)) (by rw [n9_2]; exact nh9_t) z0_2 (by rw [n9_1, n9_2, ejf, ejt, ixn bjf, ixn bjt]; exact c1))))
  · skip
    refine A_iconst (v := 1) dX3_putLine_47 (by decide) ?_
    refine A_goto (tgt := 52) dX3_putLine_48 (by decide) ?_
    refine A_iconst (v := 3) dX3_putLine_52 (by decide) ?_
    refine A_callV2E (b' := 24) (v := none) (τ := σ1) (c_pChk σ1 y 3) tX3_check q722 fσ1_8 rfl rfl dX3_putLine_53 (by decide) (Nat.le_of_ble_eq_true rfl) (Nat.le_of_ble_eq_true rfl) ?_
    refine A_aload_n (i := 0) dX3_putLine_56 rfl rfl ?_
    refine A_getf cb_X3 fσ1_8 6 (Nat.le_of_ble_eq_true rfl) q690 rfl (v := .ref (wW W)) rfl dX3_putLine_57 ?_
    refine A_iload_n (i := 1) dX3_putLine_60 rfl rfl ?_
    refine A_iload_n (i := 2) dX3_putLine_61 rfl rfl ?_
    refine A_callV2 (b' := 22) (c_puts5 σ1 W N lo jf jt hRσ1 hD hO (Nat.le_trans hl qσ1.1) hjf hjt) tX5_puts q1213 fσ1_0 rfl rfl dX3_putLine_62 (by decide) (Nat.le_of_ble_eq_true rfl) (Nat.le_of_ble_eq_true rfl) (fun w9 σ2 h9 => ?_) (fun E9 q9 τ9 h9 => h9.elim)
    obtain ⟨e9, ⟨Pσ2, hRσ2⟩, kσ2⟩ := h9
    subst e9
    refine A_wfh (fun wσ2 hgσ2 => ?_)
    have qσ2 : kl lo τs2 σ2 := qσ1.tr kσ2
    have hRσ2 : RW g σ2 (setP W Pσ2) (putIn N jf (nI jt)) := hRσ2
    have hDσ2 : WFd (putIn N jf (nI jt)) := (GN_put hG hjf hjt).1
    have hGσ2 : GN (putIn N jf (nI jt)) := GN_put hG hjf hjt
    have hRc := hRσ2
    obtain ⟨h1σ2, ⟨frσ2, h2σ2, h2pσ2⟩, ⟨fmσ2, h3σ2, h3pσ2⟩, ⟨mcnσ2, fnAσ2, h4σ2, h4pσ2, h4qσ2⟩, ⟨mcfσ2, ffAσ2, h5σ2, h5pσ2, h5qσ2⟩, ⟨fuσ2, h6σ2, h6pσ2⟩, h7σ2, h8σ2, h9σ2, h10σ2, h11σ2⟩ := hRc
    have fσ2σ2_0 : σ2.1 (wW W) = some (.inr (.inl (4, [.int ((putIn N jf (nI jt)) 9), .ref (wR W), .ref (wM W), .ref (wNL W), .ref (wFL W), .ref (wUN W), .int ((putIn N jf (nI jt)) 6), .int ((putIn N jf (nI jt)) 8), .int ((putIn N jf (nI jt)) 0), .int ((putIn N jf (nI jt)) 1), .int ((putIn N jf (nI jt)) 2), .int ((putIn N jf (nI jt)) 3), .int ((putIn N jf (nI jt)) 4), .int ((putIn N jf (nI jt)) 5), .int ((putIn N jf (nI jt)) 11)]))) := h1σ2
    have fσ2σ2_1 : σ2.1 (wFL W) = some (.inr (.inl (14, [.int mcfσ2, .ref (wFA W), .int (nI (nF (putIn N jf (nI jt))))]))) := h5σ2
    have fσ2σ2_2 : σ2.1 (wFA W) = some (.inl (.object "java/lang/Object", 12, .inr (.inr (.inr (.inr ffAσ2))))) := h5pσ2
    have fσ2σ2_3 : σ2.1 (wNL W) = some (.inr (.inl (14, [.int mcnσ2, .ref (wNA W), .int (nI (nN (putIn N jf (nI jt))))]))) := h4σ2
    have fσ2σ2_4 : σ2.1 (wNA W) = some (.inl (.object "java/lang/Object", 4, .inr (.inr (.inr (.inr fnAσ2))))) := h4pσ2
    have fσ2σ2_5 : σ2.1 (wR W) = some (.inl (.int, 6, .inl frσ2)) := h2σ2
    have fσ2σ2_6 : σ2.1 (wM W) = some (.inl (.int, 3, .inl fmσ2)) := h3σ2
    have fσ2σ2_7 : σ2.1 (wUN W) = some (.inl (.object "FlagLaundry$Test", 7, .inr (.inr (.inr (.inr fuσ2))))) := h6σ2
    have gyσ2 : σ2.1 y = some (.inr (.inl (2, [.int (nI n), .int (nI p2.2.1), .int (nI p2.2.2.1), .int v_2, .ref (S p2.2.2.2.1), .ref wd_2, .ref (wW W), .ref x]))) := (kσ2.2 y hy).trans fσ1_8
    have gxσ2 : σ2.1 x = some (.inr (.inl (0, [.ref bf, .int bd_2, .int pe_2, .int ep_2, nv_2, .ref dq_2, .ref sv_2, .ref ou_2]))) := (kσ2.2 x hx).trans fσ1_9
    have gbfσ2 : σ2.1 bf = some (.inl (.byte, 500, .inl B)) := (kσ2.2 bf hb).trans fσ1_10
    have hOσ2 : own lo (setP W Pσ2) (putIn N jf (nI jt)) := hO.sP (by unfold nN; rw [(show (putIn N jf (nI jt)) 7 = N 7 from (va_up_ne _ _ (by decide)).trans (((hdr_set _ _ _ _).tr (hdr_goTo _ _ _ _)) 7 (by decide)))]) (by unfold nF; rw [(show (putIn N jf (nI jt)) 10 = N 10 from (va_up_ne _ _ (by decide)).trans (((hdr_set _ _ _ _).tr (hdr_goTo _ _ _ _)) 10 (by decide)))])
    refine A_istore_n (i := 3) dX3_putLine_65 rfl (Nat.le_of_ble_eq_true rfl) ?_
    refine A_aload_n (i := 0) dX3_putLine_66 rfl rfl ?_
    refine A_callV0 (b' := 14) (c_pStep σ2 y x bf n S (.ref (wW W)) B (pN (putIn N jf (nI jt)) p2) (⟨v_2, wd_2, gyσ2, ⟨⟨bd_2, pe_2, ep_2, nv_2, dq_2, sv_2, ou_2, gxσ2⟩, gbfσ2, hn5_2, hby_2⟩, hvv_2, htk_2, hcn_2, hsc_2⟩) hS z0_2) tX3_step q414 gyσ2 rfl rfl dX3_putLine_67 (by decide) (Nat.le_of_ble_eq_true rfl) (Nat.le_of_ble_eq_true rfl) (fun w9 τs3 hs3 => ?_) (fun E9 q9 τ9 h9 => h9.elim)
    obtain ⟨e8, hWτs3, kτs3⟩ := hs3
    subst e8
    obtain ⟨p3, e3⟩ : ∃ q9, q9 = goesS B n (pN (putIn N jf (nI jt)) p2) := ⟨_, rfl⟩
    rw [← e3] at hWτs3
    have z0_3 : pcd p3 = 0 := by rw [e3]; exact goes_pcd z0_2
    have n9_3 : p3.1 = (putIn N jf (nI jt)) := by rw [e3, goes_1] <;> exact rfl
    refine A_wfh (fun wτs3 hgτs3 => ?_)
    have kyτs3 : ky y lo σ τs3 := (kyτs2.kl qσ2).kx kτs3 hl0
    have hl : lo ≤ τs3.2 := Nat.le_trans hl0 kyτs3.1
    have qτs3 : kl lo τs3 τs3 := kl.rf
    have hRlτs3 : RW g τs3 (setP W Pσ2) (putIn N jf (nI jt)) := hRσ2.oth wσ2 gyσ2 (isW_no (by decide)) kτs3
    obtain ⟨v_3, wd_3, ⟨hC_3, ⟨⟨bd_3, pe_3, ep_3, nv_3, dq_3, sv_3, ou_3, hX_3⟩, hBf_3, hn5_3, hby_3⟩, hvv_3, htk_3, hcn_3, hsc_3⟩, hPW_3⟩ := id hWτs3
    have hRc := hRlτs3
    obtain ⟨h1_3, ⟨fr_3, h2_3, h2p_3⟩, ⟨fm_3, h3_3, h3p_3⟩, ⟨mcn_3, fnA_3, h4_3, h4p_3, h4q_3⟩, ⟨mcf_3, ffA_3, h5_3, h5p_3, h5q_3⟩, ⟨fu_3, h6_3, h6p_3⟩, h7_3, h8_3, h9_3, h10_3, h11_3⟩ := hRc
    have fτs3_3_0 : τs3.1 (wW W) = some (.inr (.inl (4, [.int ((putIn N jf (nI jt)) 9), .ref (wR W), .ref (wM W), .ref (wNL W), .ref (wFL W), .ref (wUN W), .int ((putIn N jf (nI jt)) 6), .int ((putIn N jf (nI jt)) 8), .int ((putIn N jf (nI jt)) 0), .int ((putIn N jf (nI jt)) 1), .int ((putIn N jf (nI jt)) 2), .int ((putIn N jf (nI jt)) 3), .int ((putIn N jf (nI jt)) 4), .int ((putIn N jf (nI jt)) 5), .int ((putIn N jf (nI jt)) 11)]))) := h1_3
    have fτs3_3_1 : τs3.1 (wFL W) = some (.inr (.inl (14, [.int mcf_3, .ref (wFA W), .int (nI (nF (putIn N jf (nI jt))))]))) := h5_3
    have fτs3_3_2 : τs3.1 (wFA W) = some (.inl (.object "java/lang/Object", 12, .inr (.inr (.inr (.inr ffA_3))))) := h5p_3
    have fτs3_3_3 : τs3.1 (wNL W) = some (.inr (.inl (14, [.int mcn_3, .ref (wNA W), .int (nI (nN (putIn N jf (nI jt))))]))) := h4_3
    have fτs3_3_4 : τs3.1 (wNA W) = some (.inl (.object "java/lang/Object", 4, .inr (.inr (.inr (.inr fnA_3))))) := h4p_3
    have fτs3_3_5 : τs3.1 (wR W) = some (.inl (.int, 6, .inl fr_3)) := h2_3
    have fτs3_3_6 : τs3.1 (wM W) = some (.inl (.int, 3, .inl fm_3)) := h3_3
    have fτs3_3_7 : τs3.1 (wUN W) = some (.inl (.object "FlagLaundry$Test", 7, .inr (.inr (.inr (.inr fu_3))))) := h6_3
    exact A_vret dX3_putLine_70 rfl (by rw [(pu_0 e1 (e2.trans (congrArg (fun z : AF => nuS B n 0 (z 10 - 1) p1) n9_1.symm)) (by rw [n9_2]; exact nh9_t) z0_2 (by rw [n9_1, n9_2, ejf, ejt, ixn bjf, ixn bjt]; exact c1)).trans (show _ = p3 by rw [n9_1, n9_2, ejf, ejt, ixn bjf, e3])]; exact ⟨rfl, z0_3, ⟨v_3, wd_3, hC_3, ⟨⟨bd_3, pe_3, ep_3, nv_3, dq_3, sv_3, ou_3, hX_3⟩, hBf_3, hn5_3, hby_3⟩, hvv_3, htk_3, hcn_3, hsc_3⟩, ⟨(setP W Pσ2), rfl, by rw [n9_3]; exact hRlτs3, by rw [n9_3]; exact hOσ2⟩, by rw [n9_3]; exact hGσ2, kyτs3⟩)
theorem c_pWash {l : Launch} {g : GC} (σ : AH) (y x bf n lo : Nat) (S : Int32 → Nat) (W : WA) (B N : AF) (p : PT) (h : PR σ y x bf S B n (.ref (wW W)) p) (hS : SRT g S) (h0 : pcd p = 0) (hN : p.1 = N) (hR : RW g σ W N) (hO : own lo W N) (hG : GN N) (hl0 : lo ≤ σ.2) (hy : y < lo) (hx : x < lo) (hb : bf < lo) : AMet l g mX3_washLine 36 50 [.ref y] σ (LQ g y x bf S B n lo (wW W) (waS B n p) σ) (LX y lo (waS B n p) σ) := by
  refine A_of rfl (by decide) (Nat.le_of_ble_eq_true rfl) (L0 := [(0, .ref y)]) rfl ?_
  refine A_wfh (fun wσ hgσ => ?_)
  have qσ : kl lo σ σ := kl.rf
  have hD := hG.1
  have hw := hG.2.1
  have hl := hl0
  obtain ⟨v, wd, hC, ⟨⟨bd, pe, ep, nv, dq, sv, ou, hX⟩, hBf, hn5, hby⟩, hvv, htk, hcn, hsc⟩ := id h
  have hW := hD.1
  have hR9 := hR
  obtain ⟨h1, ⟨fr, h2, h2p⟩, ⟨fm, h3, h3p⟩, ⟨mcn, fnA, h4, h4p, h4q⟩, ⟨mcf, ffA, h5, h5p, h5q⟩, ⟨fu, h6, h6p⟩, h7, h8, h9, h10, h11⟩ := hR
  have hF12 : nF N ≤ 12 := hW.2.2.2.2.2
  have hN4 : nN N ≤ 4 := hW.2.1.2
  have hC6 : nC N ≤ 6 := hW.1.2
  have hT3 : nT N ≤ 3 := hW.2.2.1.2
  have hP8 : nP N ≤ 8 := hW.2.2.2.1.2
  refine A_aload_n (i := 0) dX3_washLine_0 rfl rfl ?_
  refine A_callV0 (b' := 42) (c_pStep σ y x bf n S (.ref (wW W)) B p (⟨v, wd, hC, ⟨⟨bd, pe, ep, nv, dq, sv, ou, hX⟩, hBf, hn5, hby⟩, hvv, htk, hcn, hsc⟩) hS h0) tX3_step q414 hC rfl rfl dX3_washLine_1 (by decide) (Nat.le_of_ble_eq_true rfl) (Nat.le_of_ble_eq_true rfl) (fun w9 τs1 hs1 => ?_) (fun E9 q9 τ9 h9 => h9.elim)
  obtain ⟨e8, hWτs1, kτs1⟩ := hs1
  subst e8
  obtain ⟨p1, e1⟩ : ∃ q9, q9 = goesS B n p := ⟨_, rfl⟩
  rw [← e1] at hWτs1
  have z0_1 : pcd p1 = 0 := by rw [e1]; exact goes_pcd h0
  have n9_1 : p1.1 = N := by rw [e1, goes_1] <;> exact hN
  refine A_wfh (fun wτs1 hgτs1 => ?_)
  have kyτs1 : ky y lo σ τs1 := ky.rf.kx kτs1 hl0
  have hl : lo ≤ τs1.2 := Nat.le_trans hl0 kyτs1.1
  have qτs1 : kl lo τs1 τs1 := kl.rf
  have hRlτs1 : RW g τs1 W N := hR9.oth wσ hC (isW_no (by decide)) kτs1
  obtain ⟨v_1, wd_1, ⟨hC_1, ⟨⟨bd_1, pe_1, ep_1, nv_1, dq_1, sv_1, ou_1, hX_1⟩, hBf_1, hn5_1, hby_1⟩, hvv_1, htk_1, hcn_1, hsc_1⟩, hPW_1⟩ := id hWτs1
  have hRc := hRlτs1
  obtain ⟨h1_1, ⟨fr_1, h2_1, h2p_1⟩, ⟨fm_1, h3_1, h3p_1⟩, ⟨mcn_1, fnA_1, h4_1, h4p_1, h4q_1⟩, ⟨mcf_1, ffA_1, h5_1, h5p_1, h5q_1⟩, ⟨fu_1, h6_1, h6p_1⟩, h7_1, h8_1, h9_1, h10_1, h11_1⟩ := hRc
  have fτs1_1_0 : τs1.1 (wW W) = some (.inr (.inl (4, [.int (N 9), .ref (wR W), .ref (wM W), .ref (wNL W), .ref (wFL W), .ref (wUN W), .int (N 6), .int (N 8), .int (N 0), .int (N 1), .int (N 2), .int (N 3), .int (N 4), .int (N 5), .int (N 11)]))) := h1_1
  have fτs1_1_1 : τs1.1 (wFL W) = some (.inr (.inl (14, [.int mcf_1, .ref (wFA W), .int (nI (nF N))]))) := h5_1
  have fτs1_1_2 : τs1.1 (wFA W) = some (.inl (.object "java/lang/Object", 12, .inr (.inr (.inr (.inr ffA_1))))) := h5p_1
  have fτs1_1_3 : τs1.1 (wNL W) = some (.inr (.inl (14, [.int mcn_1, .ref (wNA W), .int (nI (nN N))]))) := h4_1
  have fτs1_1_4 : τs1.1 (wNA W) = some (.inl (.object "java/lang/Object", 4, .inr (.inr (.inr (.inr fnA_1))))) := h4p_1
  have fτs1_1_5 : τs1.1 (wR W) = some (.inl (.int, 6, .inl fr_1)) := h2_1
  have fτs1_1_6 : τs1.1 (wM W) = some (.inl (.int, 3, .inl fm_1)) := h3_1
  have fτs1_1_7 : τs1.1 (wUN W) = some (.inl (.object "FlagLaundry$Test", 7, .inr (.inr (.inr (.inr fu_1))))) := h6_1
  refine A_aload_n (i := 0) dX3_washLine_4 rfl rfl ?_
  refine A_iconst (v := 0) dX3_washLine_5 (by decide) ?_
  refine A_aload_n (i := 0) dX3_washLine_6 rfl rfl ?_
  refine A_getf cb_X3 hC_1 6 (Nat.le_of_ble_eq_true rfl) q690 rfl (v := .ref (wW W)) rfl dX3_washLine_7 ?_
  refine A_getfN cb_X5 fτs1_1_0 7 (Nat.le_of_ble_eq_true rfl) q841 rfl (v := .int (N 8)) rfl dX3_washLine_10 ?_
  refine A_iconst (v := 1) dX3_washLine_13 (by decide) ?_
  refine A_isub dX3_washLine_14 ?_
  refine A_callV2 (b' := 32) (c_pNum τs1 y x bf n S (.ref (wW W)) B p1 0 ((N 8) - 1) (⟨v_1, wd_1, hC_1, ⟨⟨bd_1, pe_1, ep_1, nv_1, dq_1, sv_1, ou_1, hX_1⟩, hBf_1, hn5_1, hby_1⟩, hvv_1, htk_1, hcn_1, hsc_1⟩) hS z0_1) tX3_number q756 hC_1 rfl rfl dX3_washLine_15 (by decide) (Nat.le_of_ble_eq_true rfl) (Nat.le_of_ble_eq_true rfl) (fun w9 τs2 hs2 => ?_) (fun E9 q9 τ9 h9 => A_out rfl (LX.of kyτs1 hl0 h9 (wa_x2 e1 (congrArg (fun z : AF => nuS B n 0 (z 8 - 1) p1) n9_1.symm) h9.2.1)))
  obtain ⟨hc9, e9, hWτs2, kτs2⟩ := hs2
  have in9_2 := (nu_in hc9).1
  obtain ⟨jt, hjt, ejt⟩ := in_ex hW.2.2.1.1 (Nat.le_trans hT3 (by decide)) in9_2
  have bjt : jt < 2000 := Nat.lt_of_lt_of_le hjt (Nat.le_trans hT3 (by decide))
  rw [ejt] at e9
  subst e9
  have hc9_2 := hc9
  obtain ⟨p2, e2⟩ : ∃ q9, q9 = nuS B n 0 ((N 8) - 1) p1 := ⟨_, rfl⟩
  rw [← e2] at hWτs2
  have z0_2 : pcd p2 = 0 := by rw [e2]; exact hc9
  have n9_2 : p2.1 = N := by rw [e2, nu_1]; exact n9_1
  refine A_wfh (fun wτs2 hgτs2 => ?_)
  have kyτs2 : ky y lo σ τs2 := kyτs1.kx kτs2 hl0
  have hl : lo ≤ τs2.2 := Nat.le_trans hl0 kyτs2.1
  have qτs2 : kl lo τs2 τs2 := kl.rf
  have hRlτs2 : RW g τs2 W N := hRlτs1.oth wτs1 hC_1 (isW_no (by decide)) kτs2
  obtain ⟨v_2, wd_2, ⟨hC_2, ⟨⟨bd_2, pe_2, ep_2, nv_2, dq_2, sv_2, ou_2, hX_2⟩, hBf_2, hn5_2, hby_2⟩, hvv_2, htk_2, hcn_2, hsc_2⟩, hPW_2⟩ := id hWτs2
  have hRc := hRlτs2
  obtain ⟨h1_2, ⟨fr_2, h2_2, h2p_2⟩, ⟨fm_2, h3_2, h3p_2⟩, ⟨mcn_2, fnA_2, h4_2, h4p_2, h4q_2⟩, ⟨mcf_2, ffA_2, h5_2, h5p_2, h5q_2⟩, ⟨fu_2, h6_2, h6p_2⟩, h7_2, h8_2, h9_2, h10_2, h11_2⟩ := hRc
  have fτs2_2_0 : τs2.1 (wW W) = some (.inr (.inl (4, [.int (N 9), .ref (wR W), .ref (wM W), .ref (wNL W), .ref (wFL W), .ref (wUN W), .int (N 6), .int (N 8), .int (N 0), .int (N 1), .int (N 2), .int (N 3), .int (N 4), .int (N 5), .int (N 11)]))) := h1_2
  have fτs2_2_1 : τs2.1 (wFL W) = some (.inr (.inl (14, [.int mcf_2, .ref (wFA W), .int (nI (nF N))]))) := h5_2
  have fτs2_2_2 : τs2.1 (wFA W) = some (.inl (.object "java/lang/Object", 12, .inr (.inr (.inr (.inr ffA_2))))) := h5p_2
  have fτs2_2_3 : τs2.1 (wNL W) = some (.inr (.inl (14, [.int mcn_2, .ref (wNA W), .int (nI (nN N))]))) := h4_2
  have fτs2_2_4 : τs2.1 (wNA W) = some (.inl (.object "java/lang/Object", 4, .inr (.inr (.inr (.inr fnA_2))))) := h4p_2
  have fτs2_2_5 : τs2.1 (wR W) = some (.inl (.int, 6, .inl fr_2)) := h2_2
  have fτs2_2_6 : τs2.1 (wM W) = some (.inl (.int, 3, .inl fm_2)) := h3_2
  have fτs2_2_7 : τs2.1 (wUN W) = some (.inl (.object "FlagLaundry$Test", 7, .inr (.inr (.inr (.inr fu_2))))) := h6_2
  refine A_istore_n (i := 1) dX3_washLine_18 rfl (Nat.le_of_ble_eq_true rfl) ?_
  refine A_aload_n (i := 0) dX3_washLine_19 rfl rfl ?_
  refine A_iconst (v := 0) dX3_washLine_20 (by decide) ?_
  refine A_iconst (v := 3) dX3_washLine_21 (by decide) ?_
  refine A_callV2 (b' := 30) (c_pLook τs2 y x bf n S (.ref (wW W)) B p2 0 3 (⟨v_2, wd_2, hC_2, ⟨⟨bd_2, pe_2, ep_2, nv_2, dq_2, sv_2, ou_2, hX_2⟩, hBf_2, hn5_2, hby_2⟩, hvv_2, htk_2, hcn_2, hsc_2⟩) hS z0_2) tX3_look q760 hC_2 rfl rfl dX3_washLine_22 (by decide) (Nat.le_of_ble_eq_true rfl) (Nat.le_of_ble_eq_true rfl) (fun w9 τ9 h9 => ?_) (fun E9 q9 τ9 h9 => A_out rfl (LX.of kyτs2 hl0 h9 (wa_x3 e1 (e2.trans (congrArg (fun z : AF => nuS B n 0 (z 8 - 1) p1) n9_1.symm)) rfl h9.2.1)))
  obtain ⟨hc9, e9, et9⟩ := h9
  have in9_lh := (nh_in0 hc9).1
  have nh9_h : nhS 0 3 p2 = p2 := (nh_in0 hc9).2
  obtain ⟨jh, hjh, ejh⟩ := hk_ex in9_lh
  have bjh : jh < 2000 := Nat.lt_of_le_of_lt hjh (by decide)
  rw [ejh] at e9
  subst e9
  rw [et9]
  refine A_istore_n (i := 2) dX3_washLine_25 rfl (Nat.le_of_ble_eq_true rfl) ?_
  refine A_aload_n (i := 0) dX3_washLine_26 rfl rfl ?_
  refine A_aload_n (i := 0) dX3_washLine_27 rfl rfl ?_
  refine A_getf cb_X3 hC_2 6 (Nat.le_of_ble_eq_true rfl) q690 rfl (v := .ref (wW W)) rfl dX3_washLine_28 ?_
  refine A_iload_n (i := 1) dX3_washLine_31 rfl rfl ?_
  refine A_iload_n (i := 2) dX3_washLine_32 rfl rfl ?_
  refine A_callSN3 (b' := 29) (c_washBar τs2 W N (nI jt) (nI jh) hRlτs2 hD) tX1_washBar q1238 dX3_washLine_33 (by decide) (Nat.le_of_ble_eq_true rfl) (Nat.le_of_ble_eq_true rfl) (fun w9 σ1 h9 => ?_) (fun E9 q9 τ9 h9 => h9.elim)
  obtain ⟨e9, xσ1⟩ := h9
  subst e9
  refine A_wfh (fun wσ1 hgσ1 => ?_)
  have qσ1 : kl lo τs2 σ1 := qτs2.ex hl xσ1
  have fσ1_0 : σ1.1 (wW W) = some (.inr (.inl (4, [.int (N 9), .ref (wR W), .ref (wM W), .ref (wNL W), .ref (wFL W), .ref (wUN W), .int (N 6), .int (N 8), .int (N 0), .int (N 1), .int (N 2), .int (N 3), .int (N 4), .int (N 5), .int (N 11)]))) := xσ1.at wτs2 fτs2_2_0
  have fσ1_1 : σ1.1 (wFL W) = some (.inr (.inl (14, [.int mcf_2, .ref (wFA W), .int (nI (nF N))]))) := xσ1.at wτs2 fτs2_2_1
  have fσ1_2 : σ1.1 (wFA W) = some (.inl (.object "java/lang/Object", 12, .inr (.inr (.inr (.inr ffA_2))))) := xσ1.at wτs2 fτs2_2_2
  have fσ1_3 : σ1.1 (wNL W) = some (.inr (.inl (14, [.int mcn_2, .ref (wNA W), .int (nI (nN N))]))) := xσ1.at wτs2 fτs2_2_3
  have fσ1_4 : σ1.1 (wNA W) = some (.inl (.object "java/lang/Object", 4, .inr (.inr (.inr (.inr fnA_2))))) := xσ1.at wτs2 fτs2_2_4
  have fσ1_5 : σ1.1 (wR W) = some (.inl (.int, 6, .inl fr_2)) := xσ1.at wτs2 fτs2_2_5
  have fσ1_6 : σ1.1 (wM W) = some (.inl (.int, 3, .inl fm_2)) := xσ1.at wτs2 fτs2_2_6
  have fσ1_7 : σ1.1 (wUN W) = some (.inl (.object "FlagLaundry$Test", 7, .inr (.inr (.inr (.inr fu_2))))) := xσ1.at wτs2 fτs2_2_7
  have fσ1_8 : σ1.1 y = some (.inr (.inl (2, [.int (nI n), .int (nI p2.2.1), .int (nI p2.2.2.1), .int v_2, .ref (S p2.2.2.2.1), .ref wd_2, .ref (wW W), .ref x]))) := xσ1.at wτs2 hC_2
  have fσ1_9 : σ1.1 x = some (.inr (.inl (0, [.ref bf, .int bd_2, .int pe_2, .int ep_2, nv_2, .ref dq_2, .ref sv_2, .ref ou_2]))) := xσ1.at wτs2 hX_2
  have fσ1_10 : σ1.1 bf = some (.inl (.byte, 500, .inl B)) := xσ1.at wτs2 hBf_2
  have hRσ1 : RW g σ1 W N := hRlτs2.ext wτs2 xσ1
  refine A_if_ne (tgt := 43) dX3_washLine_36 (by decide) (fun c1 => ?_) (fun c1 => ?_)
  · skip
    refine A_iconst (v := 0) dX3_washLine_43 (by decide) ?_
    refine A_iconst (v := 3) dX3_washLine_44 (by decide) ?_
    refine A_callV2 (b' := 0) (c_pChkNo σ1 y n p2.2.1 p2.2.2.1 x v_2 (S p2.2.2.2.1) wd_2 (.ref (wW W)) 3 fσ1_8) tX3_check q722 fσ1_8 rfl rfl dX3_washLine_45 (by decide) (Nat.le_of_ble_eq_true rfl) (Nat.le_of_ble_eq_true rfl) (fun w9 τ9 h9 => h9.elim) (fun E9 q9 τ9 h9 => A_out rfl (LX.ck (kyτs2.kl qσ1) hl0 h9 z0_2 (by decide) (wa_ck e1 (e2.trans (congrArg (fun z : AF => nuS B n 0 (z 8 - 1) p1) n9_1.symm)) nh9_h z0_2 (by rw [n9_1, n9_2, ejt, ejh]; exact c1))))
  · skip
    refine A_iconst (v := 1) dX3_washLine_39 (by decide) ?_
    refine A_goto (tgt := 44) dX3_washLine_40 (by decide) ?_
    refine A_iconst (v := 3) dX3_washLine_44 (by decide) ?_
    refine A_callV2E (b' := 29) (v := none) (τ := σ1) (c_pChk σ1 y 3) tX3_check q722 fσ1_8 rfl rfl dX3_washLine_45 (by decide) (Nat.le_of_ble_eq_true rfl) (Nat.le_of_ble_eq_true rfl) ?_
    refine A_aload_n (i := 0) dX3_washLine_48 rfl rfl ?_
    refine A_getf cb_X3 fσ1_8 6 (Nat.le_of_ble_eq_true rfl) q690 rfl (v := .ref (wW W)) rfl dX3_washLine_49 ?_
    refine A_iload_n (i := 1) dX3_washLine_52 rfl rfl ?_
    refine A_iload_n (i := 2) dX3_washLine_53 rfl rfl ?_
    refine A_callV2 (b' := 17) (c_washes5 σ1 W N lo jh (nI jt) hRσ1 hD hO (Nat.le_trans hl qσ1.1) hjh) tX5_washes q1246 fσ1_0 rfl rfl dX3_washLine_54 (by decide) (Nat.le_of_ble_eq_true rfl) (Nat.le_of_ble_eq_true rfl) (fun w9 σ2 h9 => ?_) (fun E9 q9 τ9 h9 => h9.elim)
    obtain ⟨e9, ⟨Pσ2, hRσ2⟩, kσ2⟩ := h9
    subst e9
    refine A_wfh (fun wσ2 hgσ2 => ?_)
    have qσ2 : kl lo τs2 σ2 := qσ1.tr kσ2
    have hRσ2 : RW g σ2 (setP W Pσ2) (washN N (nI jt) (nI jh)) := hRσ2
    have hDσ2 : WFd (washN N (nI jt) (nI jh)) := (GN_wash hG (Nat.lt_succ_of_le hjh)).1
    have hGσ2 : GN (washN N (nI jt) (nI jh)) := GN_wash hG (Nat.lt_succ_of_le hjh)
    have hRc := hRσ2
    obtain ⟨h1σ2, ⟨frσ2, h2σ2, h2pσ2⟩, ⟨fmσ2, h3σ2, h3pσ2⟩, ⟨mcnσ2, fnAσ2, h4σ2, h4pσ2, h4qσ2⟩, ⟨mcfσ2, ffAσ2, h5σ2, h5pσ2, h5qσ2⟩, ⟨fuσ2, h6σ2, h6pσ2⟩, h7σ2, h8σ2, h9σ2, h10σ2, h11σ2⟩ := hRc
    have fσ2σ2_0 : σ2.1 (wW W) = some (.inr (.inl (4, [.int ((washN N (nI jt) (nI jh)) 9), .ref (wR W), .ref (wM W), .ref (wNL W), .ref (wFL W), .ref (wUN W), .int ((washN N (nI jt) (nI jh)) 6), .int ((washN N (nI jt) (nI jh)) 8), .int ((washN N (nI jt) (nI jh)) 0), .int ((washN N (nI jt) (nI jh)) 1), .int ((washN N (nI jt) (nI jh)) 2), .int ((washN N (nI jt) (nI jh)) 3), .int ((washN N (nI jt) (nI jh)) 4), .int ((washN N (nI jt) (nI jh)) 5), .int ((washN N (nI jt) (nI jh)) 11)]))) := h1σ2
    have fσ2σ2_1 : σ2.1 (wFL W) = some (.inr (.inl (14, [.int mcfσ2, .ref (wFA W), .int (nI (nF (washN N (nI jt) (nI jh))))]))) := h5σ2
    have fσ2σ2_2 : σ2.1 (wFA W) = some (.inl (.object "java/lang/Object", 12, .inr (.inr (.inr (.inr ffAσ2))))) := h5pσ2
    have fσ2σ2_3 : σ2.1 (wNL W) = some (.inr (.inl (14, [.int mcnσ2, .ref (wNA W), .int (nI (nN (washN N (nI jt) (nI jh))))]))) := h4σ2
    have fσ2σ2_4 : σ2.1 (wNA W) = some (.inl (.object "java/lang/Object", 4, .inr (.inr (.inr (.inr fnAσ2))))) := h4pσ2
    have fσ2σ2_5 : σ2.1 (wR W) = some (.inl (.int, 6, .inl frσ2)) := h2σ2
    have fσ2σ2_6 : σ2.1 (wM W) = some (.inl (.int, 3, .inl fmσ2)) := h3σ2
    have fσ2σ2_7 : σ2.1 (wUN W) = some (.inl (.object "FlagLaundry$Test", 7, .inr (.inr (.inr (.inr fuσ2))))) := h6σ2
    have gyσ2 : σ2.1 y = some (.inr (.inl (2, [.int (nI n), .int (nI p2.2.1), .int (nI p2.2.2.1), .int v_2, .ref (S p2.2.2.2.1), .ref wd_2, .ref (wW W), .ref x]))) := (kσ2.2 y hy).trans fσ1_8
    have gxσ2 : σ2.1 x = some (.inr (.inl (0, [.ref bf, .int bd_2, .int pe_2, .int ep_2, nv_2, .ref dq_2, .ref sv_2, .ref ou_2]))) := (kσ2.2 x hx).trans fσ1_9
    have gbfσ2 : σ2.1 bf = some (.inl (.byte, 500, .inl B)) := (kσ2.2 bf hb).trans fσ1_10
    have hOσ2 : own lo (setP W Pσ2) (washN N (nI jt) (nI jh)) := hO.sP (by unfold nN; rw [(show (washN N (nI jt) (nI jh)) 7 = N 7 from (va_up_ne _ _ (by decide)).trans (hdr_wsh N (nI jt) _ _ _ 7 (by decide)))]) (by unfold nF; rw [(show (washN N (nI jt) (nI jh)) 10 = N 10 from (va_up_ne _ _ (by decide)).trans (hdr_wsh N (nI jt) _ _ _ 10 (by decide)))])
    refine A_istore_n (i := 3) dX3_washLine_57 rfl (Nat.le_of_ble_eq_true rfl) ?_
    refine A_aload_n (i := 0) dX3_washLine_58 rfl rfl ?_
    refine A_callV0 (b' := 9) (c_pStep σ2 y x bf n S (.ref (wW W)) B (pN (washN N (nI jt) (nI jh)) p2) (⟨v_2, wd_2, gyσ2, ⟨⟨bd_2, pe_2, ep_2, nv_2, dq_2, sv_2, ou_2, gxσ2⟩, gbfσ2, hn5_2, hby_2⟩, hvv_2, htk_2, hcn_2, hsc_2⟩) hS z0_2) tX3_step q414 gyσ2 rfl rfl dX3_washLine_59 (by decide) (Nat.le_of_ble_eq_true rfl) (Nat.le_of_ble_eq_true rfl) (fun w9 τs3 hs3 => ?_) (fun E9 q9 τ9 h9 => h9.elim)
    obtain ⟨e8, hWτs3, kτs3⟩ := hs3
    subst e8
    obtain ⟨p3, e3⟩ : ∃ q9, q9 = goesS B n (pN (washN N (nI jt) (nI jh)) p2) := ⟨_, rfl⟩
    rw [← e3] at hWτs3
    have z0_3 : pcd p3 = 0 := by rw [e3]; exact goes_pcd z0_2
    have n9_3 : p3.1 = (washN N (nI jt) (nI jh)) := by rw [e3, goes_1] <;> exact rfl
    refine A_wfh (fun wτs3 hgτs3 => ?_)
    have kyτs3 : ky y lo σ τs3 := (kyτs2.kl qσ2).kx kτs3 hl0
    have hl : lo ≤ τs3.2 := Nat.le_trans hl0 kyτs3.1
    have qτs3 : kl lo τs3 τs3 := kl.rf
    have hRlτs3 : RW g τs3 (setP W Pσ2) (washN N (nI jt) (nI jh)) := hRσ2.oth wσ2 gyσ2 (isW_no (by decide)) kτs3
    obtain ⟨v_3, wd_3, ⟨hC_3, ⟨⟨bd_3, pe_3, ep_3, nv_3, dq_3, sv_3, ou_3, hX_3⟩, hBf_3, hn5_3, hby_3⟩, hvv_3, htk_3, hcn_3, hsc_3⟩, hPW_3⟩ := id hWτs3
    have hRc := hRlτs3
    obtain ⟨h1_3, ⟨fr_3, h2_3, h2p_3⟩, ⟨fm_3, h3_3, h3p_3⟩, ⟨mcn_3, fnA_3, h4_3, h4p_3, h4q_3⟩, ⟨mcf_3, ffA_3, h5_3, h5p_3, h5q_3⟩, ⟨fu_3, h6_3, h6p_3⟩, h7_3, h8_3, h9_3, h10_3, h11_3⟩ := hRc
    have fτs3_3_0 : τs3.1 (wW W) = some (.inr (.inl (4, [.int ((washN N (nI jt) (nI jh)) 9), .ref (wR W), .ref (wM W), .ref (wNL W), .ref (wFL W), .ref (wUN W), .int ((washN N (nI jt) (nI jh)) 6), .int ((washN N (nI jt) (nI jh)) 8), .int ((washN N (nI jt) (nI jh)) 0), .int ((washN N (nI jt) (nI jh)) 1), .int ((washN N (nI jt) (nI jh)) 2), .int ((washN N (nI jt) (nI jh)) 3), .int ((washN N (nI jt) (nI jh)) 4), .int ((washN N (nI jt) (nI jh)) 5), .int ((washN N (nI jt) (nI jh)) 11)]))) := h1_3
    have fτs3_3_1 : τs3.1 (wFL W) = some (.inr (.inl (14, [.int mcf_3, .ref (wFA W), .int (nI (nF (washN N (nI jt) (nI jh))))]))) := h5_3
    have fτs3_3_2 : τs3.1 (wFA W) = some (.inl (.object "java/lang/Object", 12, .inr (.inr (.inr (.inr ffA_3))))) := h5p_3
    have fτs3_3_3 : τs3.1 (wNL W) = some (.inr (.inl (14, [.int mcn_3, .ref (wNA W), .int (nI (nN (washN N (nI jt) (nI jh))))]))) := h4_3
    have fτs3_3_4 : τs3.1 (wNA W) = some (.inl (.object "java/lang/Object", 4, .inr (.inr (.inr (.inr fnA_3))))) := h4p_3
    have fτs3_3_5 : τs3.1 (wR W) = some (.inl (.int, 6, .inl fr_3)) := h2_3
    have fτs3_3_6 : τs3.1 (wM W) = some (.inl (.int, 3, .inl fm_3)) := h3_3
    have fτs3_3_7 : τs3.1 (wUN W) = some (.inl (.object "FlagLaundry$Test", 7, .inr (.inr (.inr (.inr fu_3))))) := h6_3
    exact A_vret dX3_washLine_62 rfl (by rw [(wa_0 e1 (e2.trans (congrArg (fun z : AF => nuS B n 0 (z 8 - 1) p1) n9_1.symm)) nh9_h z0_2 (by rw [n9_1, n9_2, ejt, ejh]; exact c1)).trans (show _ = p3 by rw [n9_1, n9_2, ejt, ejh, e3])]; exact ⟨rfl, z0_3, ⟨v_3, wd_3, hC_3, ⟨⟨bd_3, pe_3, ep_3, nv_3, dq_3, sv_3, ou_3, hX_3⟩, hBf_3, hn5_3, hby_3⟩, hvv_3, htk_3, hcn_3, hsc_3⟩, ⟨(setP W Pσ2), rfl, by rw [n9_3]; exact hRlτs3, by rw [n9_3]; exact hOσ2⟩, by rw [n9_3]; exact hGσ2, kyτs3⟩)
theorem c_pHang {l : Launch} {g : GC} (σ : AH) (y x bf n lo : Nat) (S : Int32 → Nat) (W : WA) (B N : AF) (p : PT) (h : PR σ y x bf S B n (.ref (wW W)) p) (hS : SRT g S) (h0 : pcd p = 0) (hN : p.1 = N) (hR : RW g σ W N) (hO : own lo W N) (hG : GN N) (hl0 : lo ≤ σ.2) (hy : y < lo) (hx : x < lo) (hb : bf < lo) : AMet l g mX3_hangLine 9 50 [.ref y] σ (LQ g y x bf S B n lo (wW W) (haS B n p) σ) (LX y lo (haS B n p) σ) := by
  refine A_of rfl (by decide) (Nat.le_of_ble_eq_true rfl) (L0 := [(0, .ref y)]) rfl ?_
  refine A_wfh (fun wσ hgσ => ?_)
  have qσ : kl lo σ σ := kl.rf
  have hD := hG.1
  have hw := hG.2.1
  have hl := hl0
  obtain ⟨v, wd, hC, ⟨⟨bd, pe, ep, nv, dq, sv, ou, hX⟩, hBf, hn5, hby⟩, hvv, htk, hcn, hsc⟩ := id h
  have hW := hD.1
  have hR9 := hR
  obtain ⟨h1, ⟨fr, h2, h2p⟩, ⟨fm, h3, h3p⟩, ⟨mcn, fnA, h4, h4p, h4q⟩, ⟨mcf, ffA, h5, h5p, h5q⟩, ⟨fu, h6, h6p⟩, h7, h8, h9, h10, h11⟩ := hR
  have hF12 : nF N ≤ 12 := hW.2.2.2.2.2
  have hN4 : nN N ≤ 4 := hW.2.1.2
  have hC6 : nC N ≤ 6 := hW.1.2
  have hT3 : nT N ≤ 3 := hW.2.2.1.2
  have hP8 : nP N ≤ 8 := hW.2.2.2.1.2
  refine A_aload_n (i := 0) dX3_hangLine_0 rfl rfl ?_
  refine A_callV0 (b' := 42) (c_pStep σ y x bf n S (.ref (wW W)) B p (⟨v, wd, hC, ⟨⟨bd, pe, ep, nv, dq, sv, ou, hX⟩, hBf, hn5, hby⟩, hvv, htk, hcn, hsc⟩) hS h0) tX3_step q414 hC rfl rfl dX3_hangLine_1 (by decide) (Nat.le_of_ble_eq_true rfl) (Nat.le_of_ble_eq_true rfl) (fun w9 τs1 hs1 => ?_) (fun E9 q9 τ9 h9 => h9.elim)
  obtain ⟨e8, hWτs1, kτs1⟩ := hs1
  subst e8
  obtain ⟨p1, e1⟩ : ∃ q9, q9 = goesS B n p := ⟨_, rfl⟩
  rw [← e1] at hWτs1
  have z0_1 : pcd p1 = 0 := by rw [e1]; exact goes_pcd h0
  have n9_1 : p1.1 = N := by rw [e1, goes_1] <;> exact hN
  refine A_wfh (fun wτs1 hgτs1 => ?_)
  have kyτs1 : ky y lo σ τs1 := ky.rf.kx kτs1 hl0
  have hl : lo ≤ τs1.2 := Nat.le_trans hl0 kyτs1.1
  have qτs1 : kl lo τs1 τs1 := kl.rf
  have hRlτs1 : RW g τs1 W N := hR9.oth wσ hC (isW_no (by decide)) kτs1
  obtain ⟨v_1, wd_1, ⟨hC_1, ⟨⟨bd_1, pe_1, ep_1, nv_1, dq_1, sv_1, ou_1, hX_1⟩, hBf_1, hn5_1, hby_1⟩, hvv_1, htk_1, hcn_1, hsc_1⟩, hPW_1⟩ := id hWτs1
  have hRc := hRlτs1
  obtain ⟨h1_1, ⟨fr_1, h2_1, h2p_1⟩, ⟨fm_1, h3_1, h3p_1⟩, ⟨mcn_1, fnA_1, h4_1, h4p_1, h4q_1⟩, ⟨mcf_1, ffA_1, h5_1, h5p_1, h5q_1⟩, ⟨fu_1, h6_1, h6p_1⟩, h7_1, h8_1, h9_1, h10_1, h11_1⟩ := hRc
  have fτs1_1_0 : τs1.1 (wW W) = some (.inr (.inl (4, [.int (N 9), .ref (wR W), .ref (wM W), .ref (wNL W), .ref (wFL W), .ref (wUN W), .int (N 6), .int (N 8), .int (N 0), .int (N 1), .int (N 2), .int (N 3), .int (N 4), .int (N 5), .int (N 11)]))) := h1_1
  have fτs1_1_1 : τs1.1 (wFL W) = some (.inr (.inl (14, [.int mcf_1, .ref (wFA W), .int (nI (nF N))]))) := h5_1
  have fτs1_1_2 : τs1.1 (wFA W) = some (.inl (.object "java/lang/Object", 12, .inr (.inr (.inr (.inr ffA_1))))) := h5p_1
  have fτs1_1_3 : τs1.1 (wNL W) = some (.inr (.inl (14, [.int mcn_1, .ref (wNA W), .int (nI (nN N))]))) := h4_1
  have fτs1_1_4 : τs1.1 (wNA W) = some (.inl (.object "java/lang/Object", 4, .inr (.inr (.inr (.inr fnA_1))))) := h4p_1
  have fτs1_1_5 : τs1.1 (wR W) = some (.inl (.int, 6, .inl fr_1)) := h2_1
  have fτs1_1_6 : τs1.1 (wM W) = some (.inl (.int, 3, .inl fm_1)) := h3_1
  have fτs1_1_7 : τs1.1 (wUN W) = some (.inl (.object "FlagLaundry$Test", 7, .inr (.inr (.inr (.inr fu_1))))) := h6_1
  refine A_aload_n (i := 0) dX3_hangLine_4 rfl rfl ?_
  refine A_iconst (v := 0) dX3_hangLine_5 (by decide) ?_
  refine A_aload_n (i := 0) dX3_hangLine_6 rfl rfl ?_
  refine A_getf cb_X3 hC_1 6 (Nat.le_of_ble_eq_true rfl) q690 rfl (v := .ref (wW W)) rfl dX3_hangLine_7 ?_
  refine A_callV0E (b' := 42) (v := some (.int (nI (nF N)))) (τ := τs1) (c_many τs1 W N hRlτs1 hW) tX5_many q1074 fτs1_1_0 rfl rfl dX3_hangLine_10 (by decide) (Nat.le_of_ble_eq_true rfl) (Nat.le_of_ble_eq_true rfl) ?_
  refine A_iconst (v := 1) dX3_hangLine_13 (by decide) ?_
  refine A_isub dX3_hangLine_14 ?_
  refine A_int (w := (N 10 - 1)) (by rw [← hW.2.2.2.2.1]) ?_
  refine A_callV2 (b' := 40) (c_pLook τs1 y x bf n S (.ref (wW W)) B p1 0 (N 10 - 1) (⟨v_1, wd_1, hC_1, ⟨⟨bd_1, pe_1, ep_1, nv_1, dq_1, sv_1, ou_1, hX_1⟩, hBf_1, hn5_1, hby_1⟩, hvv_1, htk_1, hcn_1, hsc_1⟩) hS z0_1) tX3_look q760 hC_1 rfl rfl dX3_hangLine_15 (by decide) (Nat.le_of_ble_eq_true rfl) (Nat.le_of_ble_eq_true rfl) (fun w9 τ9 h9 => ?_) (fun E9 q9 τ9 h9 => A_out rfl (LX.of kyτs1 hl0 h9 (ha_x2 e1 (congrArg (fun z : AF => nhS 0 (z 10 - 1) p1) n9_1.symm) h9.2.1)))
  obtain ⟨hc9, e9, et9⟩ := h9
  have in9_lf := (nh_in0 hc9).1
  have nh9_f : nhS 0 (N 10 - 1) p1 = p1 := (nh_in0 hc9).2
  obtain ⟨jf, hjf, ejf⟩ := in_ex hW.2.2.2.2.1 (Nat.le_trans hF12 (by decide)) in9_lf
  have bjf : jf < 2000 := Nat.lt_of_lt_of_le hjf (Nat.le_trans hF12 (by decide))
  rw [ejf] at e9
  subst e9
  rw [et9]
  refine A_istore_n (i := 1) dX3_hangLine_18 rfl (Nat.le_of_ble_eq_true rfl) ?_
  refine A_aload_n (i := 0) dX3_hangLine_19 rfl rfl ?_
  refine A_getf cb_X3 hC_1 6 (Nat.le_of_ble_eq_true rfl) q690 rfl (v := .ref (wW W)) rfl dX3_hangLine_20 ?_
  refine A_callV0E (b' := 40) (v := some (.int (freeN N))) (τ := τs1) (c_freePeg5 τs1 W N hRlτs1 hD) tX5_freePeg q1320 fτs1_1_0 rfl rfl dX3_hangLine_23 (by decide) (Nat.le_of_ble_eq_true rfl) (Nat.le_of_ble_eq_true rfl) ?_
  refine A_istore_n (i := 2) dX3_hangLine_26 rfl (Nat.le_of_ble_eq_true rfl) ?_
  refine A_aload_n (i := 0) dX3_hangLine_27 rfl rfl ?_
  refine A_aload_n (i := 0) dX3_hangLine_28 rfl rfl ?_
  refine A_getf cb_X3 hC_1 6 (Nat.le_of_ble_eq_true rfl) q690 rfl (v := .ref (wW W)) rfl dX3_hangLine_29 ?_
  refine A_iload_n (i := 1) dX3_hangLine_32 rfl rfl ?_
  refine A_callV1E (b' := 40) (v := some (.ref (wF W jf))) (τ := τs1) (c_flagOf τs1 W N jf hRlτs1 hW hjf) tX5_flagOf q1333 fτs1_1_0 rfl rfl dX3_hangLine_33 (by decide) (Nat.le_of_ble_eq_true rfl) (Nat.le_of_ble_eq_true rfl) ?_
  refine A_callV0E (b' := 40) (v := some (.int (bi (inBasket N jf)))) (τ := τs1) (c_fHere τs1 (wF W jf) (wP W jf) (fl N jf) (hRlτs1.2.2.2.2.2.2.1 jf hjf) (hRlτs1.2.2.2.2.2.2.2.1 jf hjf) (flok_k hD hjf)) tX7_isHere q1334 (hRlτs1.2.2.2.2.2.2.1 jf hjf) rfl rfl dX3_hangLine_36 (by decide) (Nat.le_of_ble_eq_true rfl) (Nat.le_of_ble_eq_true rfl) ?_
  refine A_if_eq (tgt := 51) dX3_hangLine_39 (by decide) (fun c1 => ?_) (fun c1 => ?_)
  · skip
    have c1 := bi_eq0.mp c1
    refine A_iconst (v := 0) dX3_hangLine_51 (by decide) ?_
    refine A_iconst (v := 3) dX3_hangLine_52 (by decide) ?_
    refine A_callV2 (b' := 0) (c_pChkNo τs1 y n p1.2.1 p1.2.2.1 x v_1 (S p1.2.2.2.1) wd_1 (.ref (wW W)) 3 hC_1) tX3_check q722 hC_1 rfl rfl dX3_hangLine_53 (by decide) (Nat.le_of_ble_eq_true rfl) (Nat.le_of_ble_eq_true rfl) (fun w9 τ9 h9 => h9.elim) (fun E9 q9 τ9 h9 => A_out rfl (LX.ck kyτs1 hl0 h9 z0_1 (by decide) (ha_ck e1 (by rw [n9_1]; exact nh9_f) z0_1 (by rw [n9_1, ejf, ixn bjf]; exact (fun k => c1 k.1)))))
  · skip
    have c1 := bi_ne0.mp c1
    refine A_iload_n (i := 2) dX3_hangLine_42 rfl rfl ?_
    refine A_iconst (v := (-1)) dX3_hangLine_43 (by decide) ?_
    refine A_icmp_eq (tgt := 51) dX3_hangLine_44 (by decide) (fun c2 => ?_) (fun c2 => ?_)
    · skip
      refine A_iconst (v := 0) dX3_hangLine_51 (by decide) ?_
      refine A_iconst (v := 3) dX3_hangLine_52 (by decide) ?_
      refine A_callV2 (b' := 0) (c_pChkNo τs1 y n p1.2.1 p1.2.2.1 x v_1 (S p1.2.2.2.1) wd_1 (.ref (wW W)) 3 hC_1) tX3_check q722 hC_1 rfl rfl dX3_hangLine_53 (by decide) (Nat.le_of_ble_eq_true rfl) (Nat.le_of_ble_eq_true rfl) (fun w9 τ9 h9 => h9.elim) (fun E9 q9 τ9 h9 => A_out rfl (LX.ck kyτs1 hl0 h9 z0_1 (by decide) (ha_ck e1 (by rw [n9_1]; exact nh9_f) z0_1 (by rw [n9_1, ejf, ixn bjf]; exact (fun k => k.2 c2)))))
    · skip
      refine A_iconst (v := 1) dX3_hangLine_47 (by decide) ?_
      refine A_goto (tgt := 52) dX3_hangLine_48 (by decide) ?_
      refine A_iconst (v := 3) dX3_hangLine_52 (by decide) ?_
      refine A_callV2E (b' := 40) (v := none) (τ := τs1) (c_pChk τs1 y 3) tX3_check q722 hC_1 rfl rfl dX3_hangLine_53 (by decide) (Nat.le_of_ble_eq_true rfl) (Nat.le_of_ble_eq_true rfl) ?_
      refine A_aload_n (i := 0) dX3_hangLine_56 rfl rfl ?_
      refine A_getf cb_X3 hC_1 6 (Nat.le_of_ble_eq_true rfl) q690 rfl (v := .ref (wW W)) rfl dX3_hangLine_57 ?_
      refine A_iload_n (i := 1) dX3_hangLine_60 rfl rfl ?_
      refine A_callV1E (b' := 40) (v := some (.ref (wF W jf))) (τ := τs1) (c_flagOf τs1 W N jf hRlτs1 hW hjf) tX5_flagOf q1333 fτs1_1_0 rfl rfl dX3_hangLine_61 (by decide) (Nat.le_of_ble_eq_true rfl) (Nat.le_of_ble_eq_true rfl) ?_
      have zτs1 : kx (wF W jf) τs1 τs1 := kx.rf
      refine A_new (b' := 39) (u := 1) cb_X11 q1335 q1336 q168 (fs := [.int 0]) (by intro j hj; rcases j with _ | j; exact rfl; omega) (Nat.le_of_ble_eq_true rfl) ⟨Nat.le_of_ble_eq_true rfl, Nat.le_of_ble_eq_true rfl⟩ dX3_hangLine_64 ?_
      obtain ⟨σ1, eσ1⟩ : ∃ τ, τ = h_new τs1 (.inr (.inl (9, [.int 0]))) := ⟨_, rfl⟩
      refine A_st (σ' := σ1) eσ1.symm ?_
      have wσ1 : wfh σ1 := by rw [eσ1]; exact wτs1.new
      have fσ1_0 : σ1.1 (wW W) = some (.inr (.inl (4, [.int (N 9), .ref (wR W), .ref (wM W), .ref (wNL W), .ref (wFL W), .ref (wUN W), .int (N 6), .int (N 8), .int (N 0), .int (N 1), .int (N 2), .int (N 3), .int (N 4), .int (N 5), .int (N 11)]))) := by rw [eσ1]; exact (hn_ne (Nat.ne_of_lt (wτs1 _ _ fτs1_1_0))).trans fτs1_1_0
      have fσ1_1 : σ1.1 (wFL W) = some (.inr (.inl (14, [.int mcf_1, .ref (wFA W), .int (nI (nF N))]))) := by rw [eσ1]; exact (hn_ne (Nat.ne_of_lt (wτs1 _ _ fτs1_1_1))).trans fτs1_1_1
      have fσ1_2 : σ1.1 (wFA W) = some (.inl (.object "java/lang/Object", 12, .inr (.inr (.inr (.inr ffA_1))))) := by rw [eσ1]; exact (hn_ne (Nat.ne_of_lt (wτs1 _ _ fτs1_1_2))).trans fτs1_1_2
      have fσ1_3 : σ1.1 (wNL W) = some (.inr (.inl (14, [.int mcn_1, .ref (wNA W), .int (nI (nN N))]))) := by rw [eσ1]; exact (hn_ne (Nat.ne_of_lt (wτs1 _ _ fτs1_1_3))).trans fτs1_1_3
      have fσ1_4 : σ1.1 (wNA W) = some (.inl (.object "java/lang/Object", 4, .inr (.inr (.inr (.inr fnA_1))))) := by rw [eσ1]; exact (hn_ne (Nat.ne_of_lt (wτs1 _ _ fτs1_1_4))).trans fτs1_1_4
      have fσ1_5 : σ1.1 (wR W) = some (.inl (.int, 6, .inl fr_1)) := by rw [eσ1]; exact (hn_ne (Nat.ne_of_lt (wτs1 _ _ fτs1_1_5))).trans fτs1_1_5
      have fσ1_6 : σ1.1 (wM W) = some (.inl (.int, 3, .inl fm_1)) := by rw [eσ1]; exact (hn_ne (Nat.ne_of_lt (wτs1 _ _ fτs1_1_6))).trans fτs1_1_6
      have fσ1_7 : σ1.1 (wUN W) = some (.inl (.object "FlagLaundry$Test", 7, .inr (.inr (.inr (.inr fu_1))))) := by rw [eσ1]; exact (hn_ne (Nat.ne_of_lt (wτs1 _ _ fτs1_1_7))).trans fτs1_1_7
      have fσ1_8 : σ1.1 y = some (.inr (.inl (2, [.int (nI n), .int (nI p1.2.1), .int (nI p1.2.2.1), .int v_1, .ref (S p1.2.2.2.1), .ref wd_1, .ref (wW W), .ref x]))) := by rw [eσ1]; exact (hn_ne (Nat.ne_of_lt (wτs1 _ _ hC_1))).trans hC_1
      have fσ1_9 : σ1.1 x = some (.inr (.inl (0, [.ref bf, .int bd_1, .int pe_1, .int ep_1, nv_1, .ref dq_1, .ref sv_1, .ref ou_1]))) := by rw [eσ1]; exact (hn_ne (Nat.ne_of_lt (wτs1 _ _ hX_1))).trans hX_1
      have fσ1_10 : σ1.1 bf = some (.inl (.byte, 500, .inl B)) := by rw [eσ1]; exact (hn_ne (Nat.ne_of_lt (wτs1 _ _ hBf_1))).trans hBf_1
      have fσ1_11 : σ1.1 (wF W jf) = some (.inr (.inl (6, [.int (fl N jf 0), .int (fl N jf 1), .int (fl N jf 2), .int (fl N jf 3), .int (fl N jf 4), .int (fl N jf 5), .int (fl N jf 6), .int (fl N jf 7), .ref (wP W jf)]))) := by rw [eσ1]; exact (hn_ne (Nat.ne_of_lt (wτs1 _ _ (hRlτs1.2.2.2.2.2.2.1 jf hjf)))).trans (hRlτs1.2.2.2.2.2.2.1 jf hjf)
      have fσ1_12 : σ1.1 τs1.2 = some (.inr (.inl (9, [.int 0]))) := by rw [eσ1]; exact if_pos rfl
      have xσ1 : ext τs1 σ1 := by rw [eσ1]; exact ext_new _ _
      have qσ1 : kl lo τs1 σ1 := by rw [eσ1]; exact qτs1.new hl
      have zσ1 : kx (wF W jf) τs1 σ1 := by rw [eσ1]; exact zτs1.new
      have hRσ1 : RW g σ1 W N := hRlτs1.ext wτs1 xσ1
      refine A_dup dX3_hangLine_67 rfl ?_
      refine A_iload_n (i := 2) dX3_hangLine_68 rfl rfl ?_
      refine A_callI1 (b' := 39) (c_X11init σ1 τs1.2 (freeN N) fσ1_12) tX11_init q1337 dX3_hangLine_69 (by decide) (Nat.le_of_ble_eq_true rfl) (Nat.le_of_ble_eq_true rfl) (fun w9 σ2 h9 => ?_) (fun E9 q9 τ9 h9 => h9.elim)
      obtain ⟨e9, fσ2_a, kσ2⟩ := h9
      subst e9
      refine A_wfh (fun wσ2 hgσ2 => ?_)
      have qσ2 : kl lo τs1 σ2 := qσ1.kx hl (Nat.le_trans hl qτs1.1) kσ2
      have zσ2 : kx (wF W jf) τs1 σ2 := zσ1.trN (zτs1.1) kσ2
      have fσ2_0 : σ2.1 (wW W) = some (.inr (.inl (4, [.int (N 9), .ref (wR W), .ref (wM W), .ref (wNL W), .ref (wFL W), .ref (wUN W), .int (N 6), .int (N 8), .int (N 0), .int (N 1), .int (N 2), .int (N 3), .int (N 4), .int (N 5), .int (N 11)]))) := kσ2.at wσ1 fσ1_0 (ne_of (x := .inr (.inl (4, [.int (N 9), .ref (wR W), .ref (wM W), .ref (wNL W), .ref (wFL W), .ref (wUN W), .int (N 6), .int (N 8), .int (N 0), .int (N 1), .int (N 2), .int (N 3), .int (N 4), .int (N 5), .int (N 11)]))) (y := .inr (.inl (9, [.int 0]))) fσ1_0 fσ1_12 (fun e8 => by simp at e8))
      have fσ2_1 : σ2.1 (wFL W) = some (.inr (.inl (14, [.int mcf_1, .ref (wFA W), .int (nI (nF N))]))) := kσ2.at wσ1 fσ1_1 (ne_of (x := .inr (.inl (14, [.int mcf_1, .ref (wFA W), .int (nI (nF N))]))) (y := .inr (.inl (9, [.int 0]))) fσ1_1 fσ1_12 (fun e8 => by simp at e8))
      have fσ2_2 : σ2.1 (wFA W) = some (.inl (.object "java/lang/Object", 12, .inr (.inr (.inr (.inr ffA_1))))) := kσ2.at wσ1 fσ1_2 (ne_of (x := .inl (.object "java/lang/Object", 12, .inr (.inr (.inr (.inr ffA_1))))) (y := .inr (.inl (9, [.int 0]))) fσ1_2 fσ1_12 (fun e8 => by simp at e8))
      have fσ2_3 : σ2.1 (wNL W) = some (.inr (.inl (14, [.int mcn_1, .ref (wNA W), .int (nI (nN N))]))) := kσ2.at wσ1 fσ1_3 (ne_of (x := .inr (.inl (14, [.int mcn_1, .ref (wNA W), .int (nI (nN N))]))) (y := .inr (.inl (9, [.int 0]))) fσ1_3 fσ1_12 (fun e8 => by simp at e8))
      have fσ2_4 : σ2.1 (wNA W) = some (.inl (.object "java/lang/Object", 4, .inr (.inr (.inr (.inr fnA_1))))) := kσ2.at wσ1 fσ1_4 (ne_of (x := .inl (.object "java/lang/Object", 4, .inr (.inr (.inr (.inr fnA_1))))) (y := .inr (.inl (9, [.int 0]))) fσ1_4 fσ1_12 (fun e8 => by simp at e8))
      have fσ2_5 : σ2.1 (wR W) = some (.inl (.int, 6, .inl fr_1)) := kσ2.at wσ1 fσ1_5 (ne_of (x := .inl (.int, 6, .inl fr_1)) (y := .inr (.inl (9, [.int 0]))) fσ1_5 fσ1_12 (fun e8 => by simp at e8))
      have fσ2_6 : σ2.1 (wM W) = some (.inl (.int, 3, .inl fm_1)) := kσ2.at wσ1 fσ1_6 (ne_of (x := .inl (.int, 3, .inl fm_1)) (y := .inr (.inl (9, [.int 0]))) fσ1_6 fσ1_12 (fun e8 => by simp at e8))
      have fσ2_7 : σ2.1 (wUN W) = some (.inl (.object "FlagLaundry$Test", 7, .inr (.inr (.inr (.inr fu_1))))) := kσ2.at wσ1 fσ1_7 (ne_of (x := .inl (.object "FlagLaundry$Test", 7, .inr (.inr (.inr (.inr fu_1))))) (y := .inr (.inl (9, [.int 0]))) fσ1_7 fσ1_12 (fun e8 => by simp at e8))
      have fσ2_8 : σ2.1 y = some (.inr (.inl (2, [.int (nI n), .int (nI p1.2.1), .int (nI p1.2.2.1), .int v_1, .ref (S p1.2.2.2.1), .ref wd_1, .ref (wW W), .ref x]))) := kσ2.at wσ1 fσ1_8 (ne_of (x := .inr (.inl (2, [.int (nI n), .int (nI p1.2.1), .int (nI p1.2.2.1), .int v_1, .ref (S p1.2.2.2.1), .ref wd_1, .ref (wW W), .ref x]))) (y := .inr (.inl (9, [.int 0]))) fσ1_8 fσ1_12 (fun e8 => by simp at e8))
      have fσ2_9 : σ2.1 x = some (.inr (.inl (0, [.ref bf, .int bd_1, .int pe_1, .int ep_1, nv_1, .ref dq_1, .ref sv_1, .ref ou_1]))) := kσ2.at wσ1 fσ1_9 (ne_of (x := .inr (.inl (0, [.ref bf, .int bd_1, .int pe_1, .int ep_1, nv_1, .ref dq_1, .ref sv_1, .ref ou_1]))) (y := .inr (.inl (9, [.int 0]))) fσ1_9 fσ1_12 (fun e8 => by simp at e8))
      have fσ2_10 : σ2.1 bf = some (.inl (.byte, 500, .inl B)) := kσ2.at wσ1 fσ1_10 (ne_of (x := .inl (.byte, 500, .inl B)) (y := .inr (.inl (9, [.int 0]))) fσ1_10 fσ1_12 (fun e8 => by simp at e8))
      have fσ2_11 : σ2.1 (wF W jf) = some (.inr (.inl (6, [.int (fl N jf 0), .int (fl N jf 1), .int (fl N jf 2), .int (fl N jf 3), .int (fl N jf 4), .int (fl N jf 5), .int (fl N jf 6), .int (fl N jf 7), .ref (wP W jf)]))) := kσ2.at wσ1 fσ1_11 (ne_of (x := .inr (.inl (6, [.int (fl N jf 0), .int (fl N jf 1), .int (fl N jf 2), .int (fl N jf 3), .int (fl N jf 4), .int (fl N jf 5), .int (fl N jf 6), .int (fl N jf 7), .ref (wP W jf)]))) (y := .inr (.inl (9, [.int 0]))) fσ1_11 fσ1_12 (fun e8 => by simp at e8))
      refine A_putfN cb_X7 fσ2_11 8 (Nat.le_of_ble_eq_true rfl) q1120 rfl rfl rfl rfl (Nat.le_of_ble_eq_true rfl) dX3_hangLine_72 ?_
      obtain ⟨σ3, eσ3⟩ : ∃ τ, τ = h_put σ2 (wF W jf) (.inr (.inl (6, [.int (fl N jf 0), .int (fl N jf 1), .int (fl N jf 2), .int (fl N jf 3), .int (fl N jf 4), .int (fl N jf 5), .int (fl N jf 6), .int (fl N jf 7), .ref τs1.2]))) := ⟨_, rfl⟩
      refine A_st (σ' := σ3) eσ3.symm ?_
      have wσ3 : wfh σ3 := by rw [eσ3]; exact wσ2.put fσ2_11
      have fσ3_0 : σ3.1 (wW W) = some (.inr (.inl (4, [.int (N 9), .ref (wR W), .ref (wM W), .ref (wNL W), .ref (wFL W), .ref (wUN W), .int (N 6), .int (N 8), .int (N 0), .int (N 1), .int (N 2), .int (N 3), .int (N 4), .int (N 5), .int (N 11)]))) := by rw [eσ3]; exact (hp_ne (ne_of (x := .inr (.inl (4, [.int (N 9), .ref (wR W), .ref (wM W), .ref (wNL W), .ref (wFL W), .ref (wUN W), .int (N 6), .int (N 8), .int (N 0), .int (N 1), .int (N 2), .int (N 3), .int (N 4), .int (N 5), .int (N 11)]))) (y := .inr (.inl (6, [.int (fl N jf 0), .int (fl N jf 1), .int (fl N jf 2), .int (fl N jf 3), .int (fl N jf 4), .int (fl N jf 5), .int (fl N jf 6), .int (fl N jf 7), .ref (wP W jf)]))) fσ2_0 fσ2_11 (fun e8 => by simp at e8))).trans fσ2_0
      have fσ3_1 : σ3.1 (wFL W) = some (.inr (.inl (14, [.int mcf_1, .ref (wFA W), .int (nI (nF N))]))) := by rw [eσ3]; exact (hp_ne (ne_of (x := .inr (.inl (14, [.int mcf_1, .ref (wFA W), .int (nI (nF N))]))) (y := .inr (.inl (6, [.int (fl N jf 0), .int (fl N jf 1), .int (fl N jf 2), .int (fl N jf 3), .int (fl N jf 4), .int (fl N jf 5), .int (fl N jf 6), .int (fl N jf 7), .ref (wP W jf)]))) fσ2_1 fσ2_11 (fun e8 => by simp at e8))).trans fσ2_1
      have fσ3_2 : σ3.1 (wFA W) = some (.inl (.object "java/lang/Object", 12, .inr (.inr (.inr (.inr ffA_1))))) := by rw [eσ3]; exact (hp_ne (ne_of (x := .inl (.object "java/lang/Object", 12, .inr (.inr (.inr (.inr ffA_1))))) (y := .inr (.inl (6, [.int (fl N jf 0), .int (fl N jf 1), .int (fl N jf 2), .int (fl N jf 3), .int (fl N jf 4), .int (fl N jf 5), .int (fl N jf 6), .int (fl N jf 7), .ref (wP W jf)]))) fσ2_2 fσ2_11 (fun e8 => by simp at e8))).trans fσ2_2
      have fσ3_3 : σ3.1 (wNL W) = some (.inr (.inl (14, [.int mcn_1, .ref (wNA W), .int (nI (nN N))]))) := by rw [eσ3]; exact (hp_ne (ne_of (x := .inr (.inl (14, [.int mcn_1, .ref (wNA W), .int (nI (nN N))]))) (y := .inr (.inl (6, [.int (fl N jf 0), .int (fl N jf 1), .int (fl N jf 2), .int (fl N jf 3), .int (fl N jf 4), .int (fl N jf 5), .int (fl N jf 6), .int (fl N jf 7), .ref (wP W jf)]))) fσ2_3 fσ2_11 (fun e8 => by simp at e8))).trans fσ2_3
      have fσ3_4 : σ3.1 (wNA W) = some (.inl (.object "java/lang/Object", 4, .inr (.inr (.inr (.inr fnA_1))))) := by rw [eσ3]; exact (hp_ne (ne_of (x := .inl (.object "java/lang/Object", 4, .inr (.inr (.inr (.inr fnA_1))))) (y := .inr (.inl (6, [.int (fl N jf 0), .int (fl N jf 1), .int (fl N jf 2), .int (fl N jf 3), .int (fl N jf 4), .int (fl N jf 5), .int (fl N jf 6), .int (fl N jf 7), .ref (wP W jf)]))) fσ2_4 fσ2_11 (fun e8 => by simp at e8))).trans fσ2_4
      have fσ3_5 : σ3.1 (wR W) = some (.inl (.int, 6, .inl fr_1)) := by rw [eσ3]; exact (hp_ne (ne_of (x := .inl (.int, 6, .inl fr_1)) (y := .inr (.inl (6, [.int (fl N jf 0), .int (fl N jf 1), .int (fl N jf 2), .int (fl N jf 3), .int (fl N jf 4), .int (fl N jf 5), .int (fl N jf 6), .int (fl N jf 7), .ref (wP W jf)]))) fσ2_5 fσ2_11 (fun e8 => by simp at e8))).trans fσ2_5
      have fσ3_6 : σ3.1 (wM W) = some (.inl (.int, 3, .inl fm_1)) := by rw [eσ3]; exact (hp_ne (ne_of (x := .inl (.int, 3, .inl fm_1)) (y := .inr (.inl (6, [.int (fl N jf 0), .int (fl N jf 1), .int (fl N jf 2), .int (fl N jf 3), .int (fl N jf 4), .int (fl N jf 5), .int (fl N jf 6), .int (fl N jf 7), .ref (wP W jf)]))) fσ2_6 fσ2_11 (fun e8 => by simp at e8))).trans fσ2_6
      have fσ3_7 : σ3.1 (wUN W) = some (.inl (.object "FlagLaundry$Test", 7, .inr (.inr (.inr (.inr fu_1))))) := by rw [eσ3]; exact (hp_ne (ne_of (x := .inl (.object "FlagLaundry$Test", 7, .inr (.inr (.inr (.inr fu_1))))) (y := .inr (.inl (6, [.int (fl N jf 0), .int (fl N jf 1), .int (fl N jf 2), .int (fl N jf 3), .int (fl N jf 4), .int (fl N jf 5), .int (fl N jf 6), .int (fl N jf 7), .ref (wP W jf)]))) fσ2_7 fσ2_11 (fun e8 => by simp at e8))).trans fσ2_7
      have fσ3_8 : σ3.1 y = some (.inr (.inl (2, [.int (nI n), .int (nI p1.2.1), .int (nI p1.2.2.1), .int v_1, .ref (S p1.2.2.2.1), .ref wd_1, .ref (wW W), .ref x]))) := by rw [eσ3]; exact (hp_ne (ne_of (x := .inr (.inl (2, [.int (nI n), .int (nI p1.2.1), .int (nI p1.2.2.1), .int v_1, .ref (S p1.2.2.2.1), .ref wd_1, .ref (wW W), .ref x]))) (y := .inr (.inl (6, [.int (fl N jf 0), .int (fl N jf 1), .int (fl N jf 2), .int (fl N jf 3), .int (fl N jf 4), .int (fl N jf 5), .int (fl N jf 6), .int (fl N jf 7), .ref (wP W jf)]))) fσ2_8 fσ2_11 (fun e8 => by simp at e8))).trans fσ2_8
      have fσ3_9 : σ3.1 x = some (.inr (.inl (0, [.ref bf, .int bd_1, .int pe_1, .int ep_1, nv_1, .ref dq_1, .ref sv_1, .ref ou_1]))) := by rw [eσ3]; exact (hp_ne (ne_of (x := .inr (.inl (0, [.ref bf, .int bd_1, .int pe_1, .int ep_1, nv_1, .ref dq_1, .ref sv_1, .ref ou_1]))) (y := .inr (.inl (6, [.int (fl N jf 0), .int (fl N jf 1), .int (fl N jf 2), .int (fl N jf 3), .int (fl N jf 4), .int (fl N jf 5), .int (fl N jf 6), .int (fl N jf 7), .ref (wP W jf)]))) fσ2_9 fσ2_11 (fun e8 => by simp at e8))).trans fσ2_9
      have fσ3_10 : σ3.1 bf = some (.inl (.byte, 500, .inl B)) := by rw [eσ3]; exact (hp_ne (ne_of (x := .inl (.byte, 500, .inl B)) (y := .inr (.inl (6, [.int (fl N jf 0), .int (fl N jf 1), .int (fl N jf 2), .int (fl N jf 3), .int (fl N jf 4), .int (fl N jf 5), .int (fl N jf 6), .int (fl N jf 7), .ref (wP W jf)]))) fσ2_10 fσ2_11 (fun e8 => by simp at e8))).trans fσ2_10
      have fσ3_11 : σ3.1 (wF W jf) = some (.inr (.inl (6, [.int (fl N jf 0), .int (fl N jf 1), .int (fl N jf 2), .int (fl N jf 3), .int (fl N jf 4), .int (fl N jf 5), .int (fl N jf 6), .int (fl N jf 7), .ref τs1.2]))) := by rw [eσ3]; exact if_pos rfl
      have fσ3_12 : σ3.1 τs1.2 = some (.inr (.inl (9, [.int (freeN N)]))) := by rw [eσ3]; exact (hp_ne (ne_of (x := .inr (.inl (9, [.int (freeN N)]))) (y := .inr (.inl (6, [.int (fl N jf 0), .int (fl N jf 1), .int (fl N jf 2), .int (fl N jf 3), .int (fl N jf 4), .int (fl N jf 5), .int (fl N jf 6), .int (fl N jf 7), .ref (wP W jf)]))) fσ2_a fσ2_11 (fun e8 => by simp at e8))).trans fσ2_a
      have qσ3 : kl lo τs1 σ3 := by rw [eσ3]; exact qσ2.put (hO.2.2.2.2.2.2.2.1 jf hjf)
      have zσ3 : kx (wF W jf) τs1 σ3 := by rw [eσ3]; exact zσ2.put
      have hR7 : RW g σ3 (setP W (upP (wP W) jf τs1.2)) (goTo N jf 2 (freeN N)) := hRlτs1.flag (F := plF (fl N jf) 2 (freeN N) (fl N jf 10)) wτs1 hW hjf zσ3 fσ3_11 fσ3_12 (upF_goTo _ _ _ _)
      have hG7 : GN (goTo N jf 2 (freeN N)) := GN_hang hG hjf c2
      have hO7 : own lo (setP W (upP (wP W) jf τs1.2)) (goTo N jf 2 (freeN N)) := hO.sP (by unfold nN; rw [(show (goTo N jf 2 (freeN N)) 7 = N 7 from hdr_goTo _ _ _ _ 7 (by decide))]) (by unfold nF; rw [(show (goTo N jf 2 (freeN N)) 10 = N 10 from hdr_goTo _ _ _ _ 10 (by decide))])
      refine A_aload_n (i := 0) dX3_hangLine_75 rfl rfl ?_
      refine A_callV0 (b' := 31) (c_pStep σ3 y x bf n S (.ref (wW W)) B (pN (goTo N jf 2 (freeN N)) p1) (⟨v_1, wd_1, fσ3_8, ⟨⟨bd_1, pe_1, ep_1, nv_1, dq_1, sv_1, ou_1, fσ3_9⟩, fσ3_10, hn5_1, hby_1⟩, hvv_1, htk_1, hcn_1, hsc_1⟩) hS z0_1) tX3_step q414 fσ3_8 rfl rfl dX3_hangLine_76 (by decide) (Nat.le_of_ble_eq_true rfl) (Nat.le_of_ble_eq_true rfl) (fun w9 τs2 hs2 => ?_) (fun E9 q9 τ9 h9 => h9.elim)
      obtain ⟨e8, hWτs2, kτs2⟩ := hs2
      subst e8
      obtain ⟨p2, e2⟩ : ∃ q9, q9 = goesS B n (pN (goTo N jf 2 (freeN N)) p1) := ⟨_, rfl⟩
      rw [← e2] at hWτs2
      have z0_2 : pcd p2 = 0 := by rw [e2]; exact goes_pcd z0_1
      have n9_2 : p2.1 = (goTo N jf 2 (freeN N)) := by rw [e2, goes_1] <;> exact rfl
      refine A_wfh (fun wτs2 hgτs2 => ?_)
      have kyτs2 : ky y lo σ τs2 := (kyτs1.kl qσ3).kx kτs2 hl0
      have hl : lo ≤ τs2.2 := Nat.le_trans hl0 kyτs2.1
      have qτs2 : kl lo τs2 τs2 := kl.rf
      have hRlτs2 : RW g τs2 (setP W (upP (wP W) jf τs1.2)) (goTo N jf 2 (freeN N)) := hR7.oth wσ3 fσ3_8 (isW_no (by decide)) kτs2
      obtain ⟨v_2, wd_2, ⟨hC_2, ⟨⟨bd_2, pe_2, ep_2, nv_2, dq_2, sv_2, ou_2, hX_2⟩, hBf_2, hn5_2, hby_2⟩, hvv_2, htk_2, hcn_2, hsc_2⟩, hPW_2⟩ := id hWτs2
      have hRc := hRlτs2
      obtain ⟨h1_2, ⟨fr_2, h2_2, h2p_2⟩, ⟨fm_2, h3_2, h3p_2⟩, ⟨mcn_2, fnA_2, h4_2, h4p_2, h4q_2⟩, ⟨mcf_2, ffA_2, h5_2, h5p_2, h5q_2⟩, ⟨fu_2, h6_2, h6p_2⟩, h7_2, h8_2, h9_2, h10_2, h11_2⟩ := hRc
      have fτs2_2_0 : τs2.1 (wW W) = some (.inr (.inl (4, [.int ((goTo N jf 2 (freeN N)) 9), .ref (wR W), .ref (wM W), .ref (wNL W), .ref (wFL W), .ref (wUN W), .int ((goTo N jf 2 (freeN N)) 6), .int ((goTo N jf 2 (freeN N)) 8), .int ((goTo N jf 2 (freeN N)) 0), .int ((goTo N jf 2 (freeN N)) 1), .int ((goTo N jf 2 (freeN N)) 2), .int ((goTo N jf 2 (freeN N)) 3), .int ((goTo N jf 2 (freeN N)) 4), .int ((goTo N jf 2 (freeN N)) 5), .int ((goTo N jf 2 (freeN N)) 11)]))) := h1_2
      have fτs2_2_1 : τs2.1 (wFL W) = some (.inr (.inl (14, [.int mcf_2, .ref (wFA W), .int (nI (nF (goTo N jf 2 (freeN N))))]))) := h5_2
      have fτs2_2_2 : τs2.1 (wFA W) = some (.inl (.object "java/lang/Object", 12, .inr (.inr (.inr (.inr ffA_2))))) := h5p_2
      have fτs2_2_3 : τs2.1 (wNL W) = some (.inr (.inl (14, [.int mcn_2, .ref (wNA W), .int (nI (nN (goTo N jf 2 (freeN N))))]))) := h4_2
      have fτs2_2_4 : τs2.1 (wNA W) = some (.inl (.object "java/lang/Object", 4, .inr (.inr (.inr (.inr fnA_2))))) := h4p_2
      have fτs2_2_5 : τs2.1 (wR W) = some (.inl (.int, 6, .inl fr_2)) := h2_2
      have fτs2_2_6 : τs2.1 (wM W) = some (.inl (.int, 3, .inl fm_2)) := h3_2
      have fτs2_2_7 : τs2.1 (wUN W) = some (.inl (.object "FlagLaundry$Test", 7, .inr (.inr (.inr (.inr fu_2))))) := h6_2
      exact A_vret dX3_hangLine_79 rfl (by rw [(ha_0 e1 (by rw [n9_1]; exact nh9_f) z0_1 (by rw [n9_1, ejf, ixn bjf]; exact ⟨c1, c2⟩)).trans (show _ = p2 by rw [n9_1, ejf, ixn bjf, e2])]; exact ⟨rfl, z0_2, ⟨v_2, wd_2, hC_2, ⟨⟨bd_2, pe_2, ep_2, nv_2, dq_2, sv_2, ou_2, hX_2⟩, hBf_2, hn5_2, hby_2⟩, hvv_2, htk_2, hcn_2, hsc_2⟩, ⟨(setP W (upP (wP W) jf τs1.2)), rfl, by rw [n9_2]; exact hRlτs2, by rw [n9_2]; exact hO7⟩, by rw [n9_2]; exact hG7, kyτs2⟩)
theorem c_pFlag {l : Launch} {g : GC} (σ : AH) (y x bf n lo : Nat) (S : Int32 → Nat) (W : WA) (B N : AF) (p : PT) (h : PR σ y x bf S B n (.ref (wW W)) p) (hS : SRT g S) (h0 : pcd p = 0) (hN : p.1 = N) (hR : RW g σ W N) (hO : own lo W N) (hG : GN N) (hl0 : lo ≤ σ.2) (hy : y < lo) (hx : x < lo) (hb : bf < lo) : AMet l g mX3_flagLine 10 140 [.ref y] σ (LQ g y x bf S B n lo (wW W) (fgS B n p) σ) (LX y lo (fgS B n p) σ) := by
  refine A_of rfl (by decide) (Nat.le_of_ble_eq_true rfl) (L0 := [(0, .ref y)]) rfl ?_
  refine A_wfh (fun wσ hgσ => ?_)
  have qσ : kl lo σ σ := kl.rf
  have hD := hG.1
  have hw := hG.2.1
  have hl := hl0
  obtain ⟨v, wd, hC, ⟨⟨bd, pe, ep, nv, dq, sv, ou, hX⟩, hBf, hn5, hby⟩, hvv, htk, hcn, hsc⟩ := id h
  have hW := hD.1
  have hR9 := hR
  obtain ⟨h1, ⟨fr, h2, h2p⟩, ⟨fm, h3, h3p⟩, ⟨mcn, fnA, h4, h4p, h4q⟩, ⟨mcf, ffA, h5, h5p, h5q⟩, ⟨fu, h6, h6p⟩, h7, h8, h9, h10, h11⟩ := hR
  have hF12 : nF N ≤ 12 := hW.2.2.2.2.2
  have hN4 : nN N ≤ 4 := hW.2.1.2
  have hC6 : nC N ≤ 6 := hW.1.2
  have hT3 : nT N ≤ 3 := hW.2.2.1.2
  have hP8 : nP N ≤ 8 := hW.2.2.2.1.2
  refine A_aload_n (i := 0) dX3_flagLine_0 rfl rfl ?_
  refine A_aload_n (i := 0) dX3_flagLine_1 rfl rfl ?_
  refine A_getf cb_X3 hC 6 (Nat.le_of_ble_eq_true rfl) q690 rfl (v := .ref (wW W)) rfl dX3_flagLine_2 ?_
  refine A_callV0E (b' := 140) (v := some (.int (nI (nF N)))) (τ := σ) (c_many σ W N hR9 hW) tX5_many q1074 h1 rfl rfl dX3_flagLine_5 (by decide) (Nat.le_of_ble_eq_true rfl) (Nat.le_of_ble_eq_true rfl) ?_
  refine A_bipush (v := 12) dX3_flagLine_8 (by decide) ?_
  refine A_callV2 (b' := 132) (c_pBeg σ y x bf n S (.ref (wW W)) B p 10 (nI (nF N)) 12 (⟨v, wd, hC, ⟨⟨bd, pe, ep, nv, dq, sv, ou, hX⟩, hBf, hn5, hby⟩, hvv, htk, hcn, hsc⟩) hS h0 (by rw [hN]; exact lt_cnt (m := 12) hW.2.2.2.2.1 hF12 (by decide))) tX3_begins q963 hC rfl rfl dX3_flagLine_10 (by decide) (Nat.le_of_ble_eq_true rfl) (Nat.le_of_ble_eq_true rfl) (fun w9 τs1 hs1 => ?_) (fun E9 q9 τ9 h9 => A_out rfl (LX.of ky.rf hl0 h9 (fg_x0 rfl h9.2.1)))
  obtain ⟨hc9, e9, hWτs1, kτs1⟩ := hs1
  subst e9
  obtain ⟨p1, e1⟩ : ∃ q9, q9 = bgS B n 10 12 p := ⟨_, rfl⟩
  rw [← e1] at hWτs1
  have z0_1 : pcd p1 = 0 := by rw [e1]; exact hc9
  have n9_1 : p1.1 = N := by rw [e1, bg_1]; exact hN
  refine A_wfh (fun wτs1 hgτs1 => ?_)
  have kyτs1 : ky y lo σ τs1 := ky.rf.kx kτs1 hl0
  have hl : lo ≤ τs1.2 := Nat.le_trans hl0 kyτs1.1
  have qτs1 : kl lo τs1 τs1 := kl.rf
  have hRlτs1 : RW g τs1 W N := hR9.oth wσ hC (isW_no (by decide)) kτs1
  obtain ⟨v_1, wd_1, ⟨hC_1, ⟨⟨bd_1, pe_1, ep_1, nv_1, dq_1, sv_1, ou_1, hX_1⟩, hBf_1, hn5_1, hby_1⟩, hvv_1, htk_1, hcn_1, hsc_1⟩, hPW_1⟩ := id hWτs1
  have hRc := hRlτs1
  obtain ⟨h1_1, ⟨fr_1, h2_1, h2p_1⟩, ⟨fm_1, h3_1, h3p_1⟩, ⟨mcn_1, fnA_1, h4_1, h4p_1, h4q_1⟩, ⟨mcf_1, ffA_1, h5_1, h5p_1, h5q_1⟩, ⟨fu_1, h6_1, h6p_1⟩, h7_1, h8_1, h9_1, h10_1, h11_1⟩ := hRc
  have fτs1_1_0 : τs1.1 (wW W) = some (.inr (.inl (4, [.int (N 9), .ref (wR W), .ref (wM W), .ref (wNL W), .ref (wFL W), .ref (wUN W), .int (N 6), .int (N 8), .int (N 0), .int (N 1), .int (N 2), .int (N 3), .int (N 4), .int (N 5), .int (N 11)]))) := h1_1
  have fτs1_1_1 : τs1.1 (wFL W) = some (.inr (.inl (14, [.int mcf_1, .ref (wFA W), .int (nI (nF N))]))) := h5_1
  have fτs1_1_2 : τs1.1 (wFA W) = some (.inl (.object "java/lang/Object", 12, .inr (.inr (.inr (.inr ffA_1))))) := h5p_1
  have fτs1_1_3 : τs1.1 (wNL W) = some (.inr (.inl (14, [.int mcn_1, .ref (wNA W), .int (nI (nN N))]))) := h4_1
  have fτs1_1_4 : τs1.1 (wNA W) = some (.inl (.object "java/lang/Object", 4, .inr (.inr (.inr (.inr fnA_1))))) := h4p_1
  have fτs1_1_5 : τs1.1 (wR W) = some (.inl (.int, 6, .inl fr_1)) := h2_1
  have fτs1_1_6 : τs1.1 (wM W) = some (.inl (.int, 3, .inl fm_1)) := h3_1
  have fτs1_1_7 : τs1.1 (wUN W) = some (.inl (.object "FlagLaundry$Test", 7, .inr (.inr (.inr (.inr fu_1))))) := h6_1
  refine A_aload_n (i := 0) dX3_flagLine_13 rfl rfl ?_
  refine A_iconst (v := 0) dX3_flagLine_14 (by decide) ?_
  refine A_aload_n (i := 0) dX3_flagLine_15 rfl rfl ?_
  refine A_getf cb_X3 hC_1 6 (Nat.le_of_ble_eq_true rfl) q690 rfl (v := .ref (wW W)) rfl dX3_flagLine_16 ?_
  refine A_getfN cb_X5 fτs1_1_0 3 (Nat.le_of_ble_eq_true rfl) q831 rfl (v := .ref (wNL W)) rfl dX3_flagLine_19 ?_
  refine A_callF0E (b' := 132) (v := some (.int (nI (nN N)))) (τ := τs1) (c_lSize τs1 (wNL W) (wNA W) (nN N) mcn_1 fτs1_1_3) tF_size q968 fτs1_1_3 rfl dX3_flagLine_22 (by decide) (Nat.le_of_ble_eq_true rfl) (Nat.le_of_ble_eq_true rfl) ?_
  refine A_iconst (v := 1) dX3_flagLine_27 (by decide) ?_
  refine A_isub dX3_flagLine_28 ?_
  refine A_int (w := (N 7 - 1)) (by rw [← hW.2.1.1]) ?_
  refine A_callV2 (b' := 122) (c_pNum τs1 y x bf n S (.ref (wW W)) B p1 0 (N 7 - 1) (⟨v_1, wd_1, hC_1, ⟨⟨bd_1, pe_1, ep_1, nv_1, dq_1, sv_1, ou_1, hX_1⟩, hBf_1, hn5_1, hby_1⟩, hvv_1, htk_1, hcn_1, hsc_1⟩) hS z0_1) tX3_number q756 hC_1 rfl rfl dX3_flagLine_29 (by decide) (Nat.le_of_ble_eq_true rfl) (Nat.le_of_ble_eq_true rfl) (fun w9 τs2 hs2 => ?_) (fun E9 q9 τ9 h9 => A_out rfl (LX.of kyτs1 hl0 h9 (fg_x1 e1 (congrArg (fun z : AF => nuS B n 0 (z 7 - 1) p1) n9_1.symm) h9.2.1)))
  obtain ⟨hc9, e9, hWτs2, kτs2⟩ := hs2
  have in9_2 := (nu_in hc9).1
  obtain ⟨jn, hjn, ejn⟩ := in_ex hW.2.1.1 (Nat.le_trans hN4 (by decide)) in9_2
  have bjn : jn < 2000 := Nat.lt_of_lt_of_le hjn (Nat.le_trans hN4 (by decide))
  rw [ejn] at e9
  subst e9
  have hc9_2 := hc9
  obtain ⟨p2, e2⟩ : ∃ q9, q9 = nuS B n 0 (N 7 - 1) p1 := ⟨_, rfl⟩
  rw [← e2] at hWτs2
  have z0_2 : pcd p2 = 0 := by rw [e2]; exact hc9
  have n9_2 : p2.1 = N := by rw [e2, nu_1]; exact n9_1
  refine A_wfh (fun wτs2 hgτs2 => ?_)
  have kyτs2 : ky y lo σ τs2 := kyτs1.kx kτs2 hl0
  have hl : lo ≤ τs2.2 := Nat.le_trans hl0 kyτs2.1
  have qτs2 : kl lo τs2 τs2 := kl.rf
  have hRlτs2 : RW g τs2 W N := hRlτs1.oth wτs1 hC_1 (isW_no (by decide)) kτs2
  obtain ⟨v_2, wd_2, ⟨hC_2, ⟨⟨bd_2, pe_2, ep_2, nv_2, dq_2, sv_2, ou_2, hX_2⟩, hBf_2, hn5_2, hby_2⟩, hvv_2, htk_2, hcn_2, hsc_2⟩, hPW_2⟩ := id hWτs2
  have hRc := hRlτs2
  obtain ⟨h1_2, ⟨fr_2, h2_2, h2p_2⟩, ⟨fm_2, h3_2, h3p_2⟩, ⟨mcn_2, fnA_2, h4_2, h4p_2, h4q_2⟩, ⟨mcf_2, ffA_2, h5_2, h5p_2, h5q_2⟩, ⟨fu_2, h6_2, h6p_2⟩, h7_2, h8_2, h9_2, h10_2, h11_2⟩ := hRc
  have fτs2_2_0 : τs2.1 (wW W) = some (.inr (.inl (4, [.int (N 9), .ref (wR W), .ref (wM W), .ref (wNL W), .ref (wFL W), .ref (wUN W), .int (N 6), .int (N 8), .int (N 0), .int (N 1), .int (N 2), .int (N 3), .int (N 4), .int (N 5), .int (N 11)]))) := h1_2
  have fτs2_2_1 : τs2.1 (wFL W) = some (.inr (.inl (14, [.int mcf_2, .ref (wFA W), .int (nI (nF N))]))) := h5_2
  have fτs2_2_2 : τs2.1 (wFA W) = some (.inl (.object "java/lang/Object", 12, .inr (.inr (.inr (.inr ffA_2))))) := h5p_2
  have fτs2_2_3 : τs2.1 (wNL W) = some (.inr (.inl (14, [.int mcn_2, .ref (wNA W), .int (nI (nN N))]))) := h4_2
  have fτs2_2_4 : τs2.1 (wNA W) = some (.inl (.object "java/lang/Object", 4, .inr (.inr (.inr (.inr fnA_2))))) := h4p_2
  have fτs2_2_5 : τs2.1 (wR W) = some (.inl (.int, 6, .inl fr_2)) := h2_2
  have fτs2_2_6 : τs2.1 (wM W) = some (.inl (.int, 3, .inl fm_2)) := h3_2
  have fτs2_2_7 : τs2.1 (wUN W) = some (.inl (.object "FlagLaundry$Test", 7, .inr (.inr (.inr (.inr fu_2))))) := h6_2
  refine A_istore_n (i := 1) dX3_flagLine_32 rfl (Nat.le_of_ble_eq_true rfl) ?_
  refine A_aload_n (i := 0) dX3_flagLine_33 rfl rfl ?_
  refine A_iconst (v := 0) dX3_flagLine_34 (by decide) ?_
  refine A_iconst (v := 3) dX3_flagLine_35 (by decide) ?_
  refine A_callV2 (b' := 112) (c_pNum τs2 y x bf n S (.ref (wW W)) B p2 0 3 (⟨v_2, wd_2, hC_2, ⟨⟨bd_2, pe_2, ep_2, nv_2, dq_2, sv_2, ou_2, hX_2⟩, hBf_2, hn5_2, hby_2⟩, hvv_2, htk_2, hcn_2, hsc_2⟩) hS z0_2) tX3_number q756 hC_2 rfl rfl dX3_flagLine_36 (by decide) (Nat.le_of_ble_eq_true rfl) (Nat.le_of_ble_eq_true rfl) (fun w9 τs3 hs3 => ?_) (fun E9 q9 τ9 h9 => A_out rfl (LX.of kyτs2 hl0 h9 (fg_x2 e1 (e2.trans (congrArg (fun z : AF => nuS B n 0 (z 7 - 1) p1) n9_1.symm)) rfl h9.2.1)))
  obtain ⟨hc9, e9, hWτs3, kτs3⟩ := hs3
  have in9_3 := (nu_in hc9).1
  obtain ⟨jk, hjk, ejk⟩ := hk_ex in9_3
  have bjk : jk < 2000 := Nat.lt_of_le_of_lt hjk (by decide)
  rw [ejk] at e9
  subst e9
  have hc9_3 := hc9
  obtain ⟨p3, e3⟩ : ∃ q9, q9 = nuS B n 0 3 p2 := ⟨_, rfl⟩
  rw [← e3] at hWτs3
  have z0_3 : pcd p3 = 0 := by rw [e3]; exact hc9
  have n9_3 : p3.1 = N := by rw [e3, nu_1]; exact n9_2
  refine A_wfh (fun wτs3 hgτs3 => ?_)
  have kyτs3 : ky y lo σ τs3 := kyτs2.kx kτs3 hl0
  have hl : lo ≤ τs3.2 := Nat.le_trans hl0 kyτs3.1
  have qτs3 : kl lo τs3 τs3 := kl.rf
  have hRlτs3 : RW g τs3 W N := hRlτs2.oth wτs2 hC_2 (isW_no (by decide)) kτs3
  obtain ⟨v_3, wd_3, ⟨hC_3, ⟨⟨bd_3, pe_3, ep_3, nv_3, dq_3, sv_3, ou_3, hX_3⟩, hBf_3, hn5_3, hby_3⟩, hvv_3, htk_3, hcn_3, hsc_3⟩, hPW_3⟩ := id hWτs3
  have hRc := hRlτs3
  obtain ⟨h1_3, ⟨fr_3, h2_3, h2p_3⟩, ⟨fm_3, h3_3, h3p_3⟩, ⟨mcn_3, fnA_3, h4_3, h4p_3, h4q_3⟩, ⟨mcf_3, ffA_3, h5_3, h5p_3, h5q_3⟩, ⟨fu_3, h6_3, h6p_3⟩, h7_3, h8_3, h9_3, h10_3, h11_3⟩ := hRc
  have fτs3_3_0 : τs3.1 (wW W) = some (.inr (.inl (4, [.int (N 9), .ref (wR W), .ref (wM W), .ref (wNL W), .ref (wFL W), .ref (wUN W), .int (N 6), .int (N 8), .int (N 0), .int (N 1), .int (N 2), .int (N 3), .int (N 4), .int (N 5), .int (N 11)]))) := h1_3
  have fτs3_3_1 : τs3.1 (wFL W) = some (.inr (.inl (14, [.int mcf_3, .ref (wFA W), .int (nI (nF N))]))) := h5_3
  have fτs3_3_2 : τs3.1 (wFA W) = some (.inl (.object "java/lang/Object", 12, .inr (.inr (.inr (.inr ffA_3))))) := h5p_3
  have fτs3_3_3 : τs3.1 (wNL W) = some (.inr (.inl (14, [.int mcn_3, .ref (wNA W), .int (nI (nN N))]))) := h4_3
  have fτs3_3_4 : τs3.1 (wNA W) = some (.inl (.object "java/lang/Object", 4, .inr (.inr (.inr (.inr fnA_3))))) := h4p_3
  have fτs3_3_5 : τs3.1 (wR W) = some (.inl (.int, 6, .inl fr_3)) := h2_3
  have fτs3_3_6 : τs3.1 (wM W) = some (.inl (.int, 3, .inl fm_3)) := h3_3
  have fτs3_3_7 : τs3.1 (wUN W) = some (.inl (.object "FlagLaundry$Test", 7, .inr (.inr (.inr (.inr fu_3))))) := h6_3
  refine A_istore_n (i := 2) dX3_flagLine_39 rfl (Nat.le_of_ble_eq_true rfl) ?_
  refine A_aload_n (i := 0) dX3_flagLine_40 rfl rfl ?_
  refine A_iconst (v := 0) dX3_flagLine_41 (by decide) ?_
  refine A_bipush (v := 9) dX3_flagLine_42 (by decide) ?_
  refine A_callV2 (b' := 102) (c_pNum τs3 y x bf n S (.ref (wW W)) B p3 0 9 (⟨v_3, wd_3, hC_3, ⟨⟨bd_3, pe_3, ep_3, nv_3, dq_3, sv_3, ou_3, hX_3⟩, hBf_3, hn5_3, hby_3⟩, hvv_3, htk_3, hcn_3, hsc_3⟩) hS z0_3) tX3_number q756 hC_3 rfl rfl dX3_flagLine_44 (by decide) (Nat.le_of_ble_eq_true rfl) (Nat.le_of_ble_eq_true rfl) (fun w9 τs4 hs4 => ?_) (fun E9 q9 τ9 h9 => A_out rfl (LX.of kyτs3 hl0 h9 (fg_x3 e1 (e2.trans (congrArg (fun z : AF => nuS B n 0 (z 7 - 1) p1) n9_1.symm)) e3 rfl h9.2.1)))
  obtain ⟨hc9, e9, hWτs4, kτs4⟩ := hs4
  have in9_4 := (nu_in hc9).1
  obtain ⟨jd, hjd, ejd⟩ := in6_ex (n := 9) (by decide) in9_4
  have bjd : jd < 2000 := Nat.lt_of_le_of_lt hjd (by decide)
  rw [ejd] at e9
  subst e9
  have hc9_4 := hc9
  obtain ⟨p4, e4⟩ : ∃ q9, q9 = nuS B n 0 9 p3 := ⟨_, rfl⟩
  rw [← e4] at hWτs4
  have z0_4 : pcd p4 = 0 := by rw [e4]; exact hc9
  have n9_4 : p4.1 = N := by rw [e4, nu_1]; exact n9_3
  refine A_wfh (fun wτs4 hgτs4 => ?_)
  have kyτs4 : ky y lo σ τs4 := kyτs3.kx kτs4 hl0
  have hl : lo ≤ τs4.2 := Nat.le_trans hl0 kyτs4.1
  have qτs4 : kl lo τs4 τs4 := kl.rf
  have hRlτs4 : RW g τs4 W N := hRlτs3.oth wτs3 hC_3 (isW_no (by decide)) kτs4
  obtain ⟨v_4, wd_4, ⟨hC_4, ⟨⟨bd_4, pe_4, ep_4, nv_4, dq_4, sv_4, ou_4, hX_4⟩, hBf_4, hn5_4, hby_4⟩, hvv_4, htk_4, hcn_4, hsc_4⟩, hPW_4⟩ := id hWτs4
  have hRc := hRlτs4
  obtain ⟨h1_4, ⟨fr_4, h2_4, h2p_4⟩, ⟨fm_4, h3_4, h3p_4⟩, ⟨mcn_4, fnA_4, h4_4, h4p_4, h4q_4⟩, ⟨mcf_4, ffA_4, h5_4, h5p_4, h5q_4⟩, ⟨fu_4, h6_4, h6p_4⟩, h7_4, h8_4, h9_4, h10_4, h11_4⟩ := hRc
  have fτs4_4_0 : τs4.1 (wW W) = some (.inr (.inl (4, [.int (N 9), .ref (wR W), .ref (wM W), .ref (wNL W), .ref (wFL W), .ref (wUN W), .int (N 6), .int (N 8), .int (N 0), .int (N 1), .int (N 2), .int (N 3), .int (N 4), .int (N 5), .int (N 11)]))) := h1_4
  have fτs4_4_1 : τs4.1 (wFL W) = some (.inr (.inl (14, [.int mcf_4, .ref (wFA W), .int (nI (nF N))]))) := h5_4
  have fτs4_4_2 : τs4.1 (wFA W) = some (.inl (.object "java/lang/Object", 12, .inr (.inr (.inr (.inr ffA_4))))) := h5p_4
  have fτs4_4_3 : τs4.1 (wNL W) = some (.inr (.inl (14, [.int mcn_4, .ref (wNA W), .int (nI (nN N))]))) := h4_4
  have fτs4_4_4 : τs4.1 (wNA W) = some (.inl (.object "java/lang/Object", 4, .inr (.inr (.inr (.inr fnA_4))))) := h4p_4
  have fτs4_4_5 : τs4.1 (wR W) = some (.inl (.int, 6, .inl fr_4)) := h2_4
  have fτs4_4_6 : τs4.1 (wM W) = some (.inl (.int, 3, .inl fm_4)) := h3_4
  have fτs4_4_7 : τs4.1 (wUN W) = some (.inl (.object "FlagLaundry$Test", 7, .inr (.inr (.inr (.inr fu_4))))) := h6_4
  refine A_istore_n (i := 3) dX3_flagLine_47 rfl (Nat.le_of_ble_eq_true rfl) ?_
  refine A_iconst (v := 0) dX3_flagLine_48 (by decide) ?_
  refine A_istore dX3_flagLine_49 (Nat.le_of_ble_eq_true rfl) ?_
  by_cases hk9 : p4.2.2.2.1 = 3
  · skip
    refine A_aload_n (i := 0) dX3_flagLine_51 rfl rfl ?_
    refine A_aload_n (i := 0) dX3_flagLine_52 rfl rfl ?_
    refine A_getf cb_X3 hC_4 4 (Nat.le_of_ble_eq_true rfl) q688 rfl (v := .ref (S p4.2.2.2.1)) rfl dX3_flagLine_53 ?_
    refine A_getsO hS.2.2.2.1 q680 rfl dX3_flagLine_56 ?_
    refine A_acmp_ne_f (tgt := 66) (x := (some (S p4.2.2.2.1))) (y := (some (S 3))) dX3_flagLine_59 (by decide) (by rw [hk9]) ?_
    refine A_iconst (v := 1) dX3_flagLine_62 (by decide) ?_
    refine A_goto (tgt := 67) dX3_flagLine_63 (by decide) ?_
    refine A_iconst (v := 1) dX3_flagLine_67 (by decide) ?_
    refine A_callV2E (b' := 102) (v := none) (τ := τs4) (c_pChk τs4 y 1) tX3_check q722 hC_4 rfl rfl dX3_flagLine_68 (by decide) (Nat.le_of_ble_eq_true rfl) (Nat.le_of_ble_eq_true rfl) ?_
    obtain ⟨m, hm7, hma, hmo, hfx, hme⟩ := fg_loop e1 (e2.trans (congrArg (fun z : AF => nuS B n 0 (z 7 - 1) p1) n9_1.symm)) e3 e4 n9_4 hW z0_4 hk9 hcn_4 hsc_4
    refine A_less (b' := (m - 0) * 12 + 6) (by omega) ?_
    refine A_sub (L' := [(0, .ref y), (1, .int (nI jn)), (2, .int (nI jk)), (3, .int (nI jd)), (4, .int ((cqU B n (0, p4) 0).1))]) ⟨rfl, rfl, rfl, rfl, rfl, trivial⟩ ?_
    refine A_forP (α := AH) m (fun i71 _ => (m - i71) * 12 + 6) (fun i71 _ => [(0, .ref y), (1, .int (nI jn)), (2, .int (nI jk)), (3, .int (nI jd)), (4, .int ((cqU B n (0, p4) i71).1))]) (fun _ τ71 => τ71) (fun i71 τ71 => pcd (cqU B n (0, p4) i71).2 = 0 ∧ PR τ71 y x bf S B n (.ref (wW W)) (cqU B n (0, p4) i71).2 ∧ RW g τ71 W N ∧ ky y lo σ τ71) τs4 (⟨by rw [cqU_0]; exact z0_4, by rw [cqU_0]; exact ⟨v_4, wd_4, hC_4, ⟨⟨bd_4, pe_4, ep_4, nv_4, dq_4, sv_4, ou_4, hX_4⟩, hBf_4, hn5_4, hby_4⟩, hvv_4, htk_4, hcn_4, hsc_4⟩, hRlτs4, kyτs4⟩) (fun i71 τ71 hi71 hI71 ih71 => ?_) (fun τ71 hI71 => ?_)
    · skip
      refine A_less (b' := (m - (i71 + 1)) * 12 + 6 + 12) (by omega) ?_
      obtain ⟨z0_q, hP_q, hRq, ky_q⟩ := hI71
      refine A_wfh (fun wτ71 hgτ71 => ?_)
      obtain ⟨q, eqq⟩ : ∃ z, z = cqU B n (0, p4) i71 := ⟨_, rfl⟩
      rw [← eqq] at z0_q hP_q ⊢
      have n9_q : q.2.1 = N := by rw [eqq]; exact (cl_1 B n (0, p4) _).trans n9_4
      have hl : lo ≤ τ71.2 := Nat.le_trans hl0 ky_q.1
      have qτ71 : kl lo τ71 τ71 := kl.rf
      obtain ⟨v_q, wd_q, hC_q, ⟨⟨bd_q, pe_q, ep_q, nv_q, dq_q, sv_q, ou_q, hX_q⟩, hBf_q, hn5_q, hby_q⟩, hvv_q, htk_q, hcn_q, hsc_q⟩ := id hP_q
      have hRc := hRq
      obtain ⟨h1_q, ⟨fr_q, h2_q, h2p_q⟩, ⟨fm_q, h3_q, h3p_q⟩, ⟨mcn_q, fnA_q, h4_q, h4p_q, h4q_q⟩, ⟨mcf_q, ffA_q, h5_q, h5p_q, h5q_q⟩, ⟨fu_q, h6_q, h6p_q⟩, h7_q, h8_q, h9_q, h10_q, h11_q⟩ := hRc
      have fτ71_q_0 : τ71.1 (wW W) = some (.inr (.inl (4, [.int (N 9), .ref (wR W), .ref (wM W), .ref (wNL W), .ref (wFL W), .ref (wUN W), .int (N 6), .int (N 8), .int (N 0), .int (N 1), .int (N 2), .int (N 3), .int (N 4), .int (N 5), .int (N 11)]))) := h1_q
      have fτ71_q_1 : τ71.1 (wFL W) = some (.inr (.inl (14, [.int mcf_q, .ref (wFA W), .int (nI (nF N))]))) := h5_q
      have fτ71_q_2 : τ71.1 (wFA W) = some (.inl (.object "java/lang/Object", 12, .inr (.inr (.inr (.inr ffA_q))))) := h5p_q
      have fτ71_q_3 : τ71.1 (wNL W) = some (.inr (.inl (14, [.int mcn_q, .ref (wNA W), .int (nI (nN N))]))) := h4_q
      have fτ71_q_4 : τ71.1 (wNA W) = some (.inl (.object "java/lang/Object", 4, .inr (.inr (.inr (.inr fnA_q))))) := h4p_q
      have fτ71_q_5 : τ71.1 (wR W) = some (.inl (.int, 6, .inl fr_q)) := h2_q
      have fτ71_q_6 : τ71.1 (wM W) = some (.inl (.int, 3, .inl fm_q)) := h3_q
      have fτ71_q_7 : τ71.1 (wUN W) = some (.inl (.object "FlagLaundry$Test", 7, .inr (.inr (.inr (.inr fu_q))))) := h6_q
      refine A_aload_n (i := 0) dX3_flagLine_71 rfl rfl ?_
      have hyes : q.2.2.2.2.1 = 3 := by rw [eqq]; exact (hma _ hi71).2
      refine A_getf cb_X3 hC_q 4 (Nat.le_of_ble_eq_true rfl) q688 rfl (v := .ref (S q.2.2.2.2.1)) rfl dX3_flagLine_72 ?_
      refine A_getsO hS.2.2.2.1 q680 rfl dX3_flagLine_75 ?_
      refine A_acmp_ne_f (tgt := 133) (x := (some (S q.2.2.2.2.1))) (y := (some (S 3))) dX3_flagLine_78 (by decide) (by rw [hyes]) ?_
      refine A_aload_n (i := 0) dX3_flagLine_81 rfl rfl ?_
      refine A_iconst (v := 0) dX3_flagLine_82 (by decide) ?_
      refine A_aload_n (i := 0) dX3_flagLine_83 rfl rfl ?_
      refine A_getf cb_X3 hC_q 6 (Nat.le_of_ble_eq_true rfl) q690 rfl (v := .ref (wW W)) rfl dX3_flagLine_84 ?_
      refine A_getfN cb_X5 fτ71_q_0 6 (Nat.le_of_ble_eq_true rfl) q838 rfl (v := .int (N 6)) rfl dX3_flagLine_87 ?_
      refine A_iconst (v := 1) dX3_flagLine_90 (by decide) ?_
      refine A_isub dX3_flagLine_91 ?_
      refine A_callV2 (b' := (m - (i71 + 1)) * 12 + 6 + 10) (c_pLook τ71 y x bf n S (.ref (wW W)) B q.2 0 ((N 6) - 1) (⟨v_q, wd_q, hC_q, ⟨⟨bd_q, pe_q, ep_q, nv_q, dq_q, sv_q, ou_q, hX_q⟩, hBf_q, hn5_q, hby_q⟩, hvv_q, htk_q, hcn_q, hsc_q⟩) hS z0_q) tX3_look q760 hC_q rfl rfl dX3_flagLine_92 (by decide) (by omega) (Nat.le_of_ble_eq_true rfl) (fun w9 τ9 h9 => ?_) (fun E9 q9 τ9 h9 => A_out rfl (LX.of ky_q hl0 h9 (fq_x hfx hi71 eqq (by rw [← n9_q]; exact cr_xl (by rw [n9_q]; exact h9.2.1)) h9.2.1)))
      obtain ⟨hc9, e9, et9⟩ := h9
      have in9_lc := (nh_in0 hc9).1
      have nh9_c : nhS 0 ((N 6) - 1) q.2 = q.2 := (nh_in0 hc9).2
      obtain ⟨jc, hjc, ejc⟩ := in_ex hW.1.1 (Nat.le_trans hC6 (by decide)) in9_lc
      have bjc : jc < 2000 := Nat.lt_of_lt_of_le hjc (Nat.le_trans hC6 (by decide))
      rw [ejc] at e9
      subst e9
      rw [et9]
      refine A_istore dX3_flagLine_95 (Nat.le_of_ble_eq_true rfl) ?_
      refine A_aload_n (i := 0) dX3_flagLine_97 rfl rfl ?_
      refine A_iload dX3_flagLine_98 rfl ?_
      refine A_iload dX3_flagLine_100 rfl ?_
      refine A_callSN2E (b' := (m - (i71 + 1)) * 12 + 6 + 10) (v := some (.int (bi (hasB q.1 (nI jc))))) (τ := τ71) (c_has1 τ71 q.1 (nI jc)) tX1_has q1080 dX3_flagLine_102 (by decide) (by omega) (Nat.le_of_ble_eq_true rfl) ?_
      refine A_if_ne (tgt := 112) dX3_flagLine_105 (by decide) (fun c1 => ?_) (fun c1 => ?_)
      · skip
        have c1 := bi_ne0.mp c1
        refine A_iconst (v := 0) dX3_flagLine_112 (by decide) ?_
        refine A_iconst (v := 3) dX3_flagLine_113 (by decide) ?_
        refine A_callV2 (b' := 0) (c_pChkNo τ71 y n q.2.2.1 q.2.2.2.1 x v_q (S q.2.2.2.2.1) wd_q (.ref (wW W)) 3 hC_q) tX3_check q722 hC_q rfl rfl dX3_flagLine_114 (by decide) (Nat.le_of_ble_eq_true rfl) (Nat.le_of_ble_eq_true rfl) (fun w9 τ9 h9 => h9.elim) (fun E9 q9 τ9 h9 => A_out rfl (LX.ck ky_q hl0 h9 z0_q (by decide) (fq_x hfx hi71 eqq (cr_xh (by rw [n9_q]; exact nh9_c) (by rw [n9_q, ejc]; exact c1) z0_q) (flt_gt (by decide) _))))
      · skip
        have c1 := bi_eq0.mp c1
        refine A_iconst (v := 1) dX3_flagLine_108 (by decide) ?_
        refine A_goto (tgt := 113) dX3_flagLine_109 (by decide) ?_
        refine A_iconst (v := 3) dX3_flagLine_113 (by decide) ?_
        refine A_callV2E (b' := (m - (i71 + 1)) * 12 + 6 + 10) (v := none) (τ := τ71) (c_pChk τ71 y 3) tX3_check q722 hC_q rfl rfl dX3_flagLine_114 (by decide) (by omega) (Nat.le_of_ble_eq_true rfl) ?_
        refine A_iload dX3_flagLine_117 rfl ?_
        refine A_iconst (v := 1) dX3_flagLine_119 (by decide) ?_
        refine A_iload dX3_flagLine_120 rfl ?_
        refine A_ishl dX3_flagLine_122 ?_
        refine A_ior dX3_flagLine_123 ?_
        refine A_istore dX3_flagLine_124 (Nat.le_of_ble_eq_true rfl) ?_
        refine A_aload_n (i := 0) dX3_flagLine_126 rfl rfl ?_
        refine A_callV0 (b' := (m - (i71 + 1)) * 12 + 6 + 2) (c_pStep τ71 y x bf n S (.ref (wW W)) B q.2 (⟨v_q, wd_q, hC_q, ⟨⟨bd_q, pe_q, ep_q, nv_q, dq_q, sv_q, ou_q, hX_q⟩, hBf_q, hn5_q, hby_q⟩, hvv_q, htk_q, hcn_q, hsc_q⟩) hS z0_q) tX3_step q414 hC_q rfl rfl dX3_flagLine_127 (by decide) (by omega) (Nat.le_of_ble_eq_true rfl) (fun w9 τs5 hs5 => ?_) (fun E9 q9 τ9 h9 => h9.elim)
        obtain ⟨e8, hWτs5, kτs5⟩ := hs5
        subst e8
        obtain ⟨p5, e5⟩ : ∃ q9, q9 = goesS B n q.2 := ⟨_, rfl⟩
        rw [← e5] at hWτs5
        have z0_5 : pcd p5 = 0 := by rw [e5]; exact goes_pcd z0_q
        have n9_5 : p5.1 = N := by rw [e5, goes_1] <;> exact n9_q
        refine A_wfh (fun wτs5 hgτs5 => ?_)
        have kyτs5 : ky y lo σ τs5 := ky_q.kx kτs5 hl0
        have hl : lo ≤ τs5.2 := Nat.le_trans hl0 kyτs5.1
        have qτs5 : kl lo τs5 τs5 := kl.rf
        have hRlτs5 : RW g τs5 W N := hRq.oth wτ71 hC_q (isW_no (by decide)) kτs5
        obtain ⟨v_5, wd_5, ⟨hC_5, ⟨⟨bd_5, pe_5, ep_5, nv_5, dq_5, sv_5, ou_5, hX_5⟩, hBf_5, hn5_5, hby_5⟩, hvv_5, htk_5, hcn_5, hsc_5⟩, hPW_5⟩ := id hWτs5
        have hRc := hRlτs5
        obtain ⟨h1_5, ⟨fr_5, h2_5, h2p_5⟩, ⟨fm_5, h3_5, h3p_5⟩, ⟨mcn_5, fnA_5, h4_5, h4p_5, h4q_5⟩, ⟨mcf_5, ffA_5, h5_5, h5p_5, h5q_5⟩, ⟨fu_5, h6_5, h6p_5⟩, h7_5, h8_5, h9_5, h10_5, h11_5⟩ := hRc
        have fτs5_5_0 : τs5.1 (wW W) = some (.inr (.inl (4, [.int (N 9), .ref (wR W), .ref (wM W), .ref (wNL W), .ref (wFL W), .ref (wUN W), .int (N 6), .int (N 8), .int (N 0), .int (N 1), .int (N 2), .int (N 3), .int (N 4), .int (N 5), .int (N 11)]))) := h1_5
        have fτs5_5_1 : τs5.1 (wFL W) = some (.inr (.inl (14, [.int mcf_5, .ref (wFA W), .int (nI (nF N))]))) := h5_5
        have fτs5_5_2 : τs5.1 (wFA W) = some (.inl (.object "java/lang/Object", 12, .inr (.inr (.inr (.inr ffA_5))))) := h5p_5
        have fτs5_5_3 : τs5.1 (wNL W) = some (.inr (.inl (14, [.int mcn_5, .ref (wNA W), .int (nI (nN N))]))) := h4_5
        have fτs5_5_4 : τs5.1 (wNA W) = some (.inl (.object "java/lang/Object", 4, .inr (.inr (.inr (.inr fnA_5))))) := h4p_5
        have fτs5_5_5 : τs5.1 (wR W) = some (.inl (.int, 6, .inl fr_5)) := h2_5
        have fτs5_5_6 : τs5.1 (wM W) = some (.inl (.int, 3, .inl fm_5)) := h3_5
        have fτs5_5_7 : τs5.1 (wUN W) = some (.inl (.object "FlagLaundry$Test", 7, .inr (.inr (.inr (.inr fu_5))))) := h6_5
        refine A_goto (tgt := 71) dX3_flagLine_130 (by decide) ?_
        have hst : cqU B n (0, p4) (i71 + 1) = ((q.1 ||| ((1 : Int32) <<< ((nI jc) &&& 31))), p5) := by rw [cqU_s, ← eqq, (cr_0 (by rw [n9_q]; exact nh9_c) (by rw [n9_q, ejc]; exact c1) z0_q).1, (cr_0 (by rw [n9_q]; exact nh9_c) (by rw [n9_q, ejc]; exact c1) z0_q).2, n9_q, ejc, e5]
        rw [show (q.1 ||| ((1 : Int32) <<< ((nI jc) &&& 31))) = (cqU B n (0, p4) (i71 + 1)).1 by rw [hst]]
        refine A_less (b' := (m - (i71 + 1)) * 12 + 6) (by omega) ?_
        refine A_sub (L' := [(0, .ref y), (1, .int (nI jn)), (2, .int (nI jk)), (3, .int (nI jd)), (4, .int ((cqU B n (0, p4) (i71 + 1)).1))]) ⟨rfl, rfl, rfl, rfl, rfl, trivial⟩ ?_
        exact ih71 τs5 (⟨by rw [hst]; exact z0_5, by rw [hst]; exact ⟨v_5, wd_5, hC_5, ⟨⟨bd_5, pe_5, ep_5, nv_5, dq_5, sv_5, ou_5, hX_5⟩, hBf_5, hn5_5, hby_5⟩, hvv_5, htk_5, hcn_5, hsc_5⟩, hRlτs5, kyτs5⟩)
    · skip
      refine A_less (b' := 6) (by omega) ?_
      obtain ⟨z0_q, hP_q, hRq, ky_q⟩ := hI71
      refine A_wfh (fun wτ71 hgτ71 => ?_)
      obtain ⟨q, eqq⟩ : ∃ z, z = cqU B n (0, p4) m := ⟨_, rfl⟩
      rw [← eqq] at z0_q hP_q ⊢
      have n9_q : q.2.1 = N := by rw [eqq]; exact (cl_1 B n (0, p4) _).trans n9_4
      have hl : lo ≤ τ71.2 := Nat.le_trans hl0 ky_q.1
      have qτ71 : kl lo τ71 τ71 := kl.rf
      obtain ⟨v_q, wd_q, hC_q, ⟨⟨bd_q, pe_q, ep_q, nv_q, dq_q, sv_q, ou_q, hX_q⟩, hBf_q, hn5_q, hby_q⟩, hvv_q, htk_q, hcn_q, hsc_q⟩ := id hP_q
      have hRc := hRq
      obtain ⟨h1_q, ⟨fr_q, h2_q, h2p_q⟩, ⟨fm_q, h3_q, h3p_q⟩, ⟨mcn_q, fnA_q, h4_q, h4p_q, h4q_q⟩, ⟨mcf_q, ffA_q, h5_q, h5p_q, h5q_q⟩, ⟨fu_q, h6_q, h6p_q⟩, h7_q, h8_q, h9_q, h10_q, h11_q⟩ := hRc
      have fτ71_q_0 : τ71.1 (wW W) = some (.inr (.inl (4, [.int (N 9), .ref (wR W), .ref (wM W), .ref (wNL W), .ref (wFL W), .ref (wUN W), .int (N 6), .int (N 8), .int (N 0), .int (N 1), .int (N 2), .int (N 3), .int (N 4), .int (N 5), .int (N 11)]))) := h1_q
      have fτ71_q_1 : τ71.1 (wFL W) = some (.inr (.inl (14, [.int mcf_q, .ref (wFA W), .int (nI (nF N))]))) := h5_q
      have fτ71_q_2 : τ71.1 (wFA W) = some (.inl (.object "java/lang/Object", 12, .inr (.inr (.inr (.inr ffA_q))))) := h5p_q
      have fτ71_q_3 : τ71.1 (wNL W) = some (.inr (.inl (14, [.int mcn_q, .ref (wNA W), .int (nI (nN N))]))) := h4_q
      have fτ71_q_4 : τ71.1 (wNA W) = some (.inl (.object "java/lang/Object", 4, .inr (.inr (.inr (.inr fnA_q))))) := h4p_q
      have fτ71_q_5 : τ71.1 (wR W) = some (.inl (.int, 6, .inl fr_q)) := h2_q
      have fτ71_q_6 : τ71.1 (wM W) = some (.inl (.int, 3, .inl fm_q)) := h3_q
      have fτ71_q_7 : τ71.1 (wUN W) = some (.inl (.object "FlagLaundry$Test", 7, .inr (.inr (.inr (.inr fu_q))))) := h6_q
      refine A_aload_n (i := 0) dX3_flagLine_71 rfl rfl ?_
      have hno : ¬ q.2.2.2.2.1 = 3 := fun hh => hmo (by rw [← eqq]; exact ⟨z0_q, hh⟩)
      have hF12q : nF N < 12 := nF_12 hW (fun q9 => bg_ne (le_of0 (show (bgS B n 10 12 p).2.2.2.2.2.1 = 0 by rw [← e1]; exact z0_1)) (by rw [hN]; exact q9))
      refine A_getf cb_X3 hC_q 4 (Nat.le_of_ble_eq_true rfl) q688 rfl (v := .ref (S q.2.2.2.2.1)) rfl dX3_flagLine_72 ?_
      refine A_getsO hS.2.2.2.1 q680 rfl dX3_flagLine_75 ?_
      refine A_acmp_ne_t (tgt := 133) (x := (some (S q.2.2.2.2.1))) (y := (some (S 3))) dX3_flagLine_78 (by decide) ((hS.ne htk_q (Or.inr (Or.inr (Or.inr (Or.inl rfl)))) hno)) ?_
      refine A_aload_n (i := 0) dX3_flagLine_133 rfl rfl ?_
      refine A_getf cb_X3 hC_q 6 (Nat.le_of_ble_eq_true rfl) q690 rfl (v := .ref (wW W)) rfl dX3_flagLine_134 ?_
      refine A_new (b' := 3) (u := 3) cb_X7 q1083 q1084 q163 (fs := [.int 0, .int 0, .int 0, .int 0, .int 0, .int 0, .int 0, .int 0, .null]) (by intro j hj; rcases j with _ | j; exact rfl; rcases j with _ | j; exact rfl; rcases j with _ | j; exact rfl; rcases j with _ | j; exact rfl; rcases j with _ | j; exact rfl; rcases j with _ | j; exact rfl; rcases j with _ | j; exact rfl; rcases j with _ | j; exact rfl; rcases j with _ | j; exact rfl; omega) (Nat.le_of_ble_eq_true rfl) ⟨Nat.le_of_ble_eq_true rfl, Nat.le_of_ble_eq_true rfl⟩ dX3_flagLine_137 ?_
      obtain ⟨σ1, eσ1⟩ : ∃ τ, τ = h_new τ71 (.inr (.inl (6, [.int 0, .int 0, .int 0, .int 0, .int 0, .int 0, .int 0, .int 0, .null]))) := ⟨_, rfl⟩
      refine A_st (σ' := σ1) eσ1.symm ?_
      have wσ1 : wfh σ1 := by rw [eσ1]; exact wτ71.new
      have fσ1_0 : σ1.1 (wW W) = some (.inr (.inl (4, [.int (N 9), .ref (wR W), .ref (wM W), .ref (wNL W), .ref (wFL W), .ref (wUN W), .int (N 6), .int (N 8), .int (N 0), .int (N 1), .int (N 2), .int (N 3), .int (N 4), .int (N 5), .int (N 11)]))) := by rw [eσ1]; exact (hn_ne (Nat.ne_of_lt (wτ71 _ _ fτ71_q_0))).trans fτ71_q_0
      have fσ1_1 : σ1.1 (wFL W) = some (.inr (.inl (14, [.int mcf_q, .ref (wFA W), .int (nI (nF N))]))) := by rw [eσ1]; exact (hn_ne (Nat.ne_of_lt (wτ71 _ _ fτ71_q_1))).trans fτ71_q_1
      have fσ1_2 : σ1.1 (wFA W) = some (.inl (.object "java/lang/Object", 12, .inr (.inr (.inr (.inr ffA_q))))) := by rw [eσ1]; exact (hn_ne (Nat.ne_of_lt (wτ71 _ _ fτ71_q_2))).trans fτ71_q_2
      have fσ1_3 : σ1.1 (wNL W) = some (.inr (.inl (14, [.int mcn_q, .ref (wNA W), .int (nI (nN N))]))) := by rw [eσ1]; exact (hn_ne (Nat.ne_of_lt (wτ71 _ _ fτ71_q_3))).trans fτ71_q_3
      have fσ1_4 : σ1.1 (wNA W) = some (.inl (.object "java/lang/Object", 4, .inr (.inr (.inr (.inr fnA_q))))) := by rw [eσ1]; exact (hn_ne (Nat.ne_of_lt (wτ71 _ _ fτ71_q_4))).trans fτ71_q_4
      have fσ1_5 : σ1.1 (wR W) = some (.inl (.int, 6, .inl fr_q)) := by rw [eσ1]; exact (hn_ne (Nat.ne_of_lt (wτ71 _ _ fτ71_q_5))).trans fτ71_q_5
      have fσ1_6 : σ1.1 (wM W) = some (.inl (.int, 3, .inl fm_q)) := by rw [eσ1]; exact (hn_ne (Nat.ne_of_lt (wτ71 _ _ fτ71_q_6))).trans fτ71_q_6
      have fσ1_7 : σ1.1 (wUN W) = some (.inl (.object "FlagLaundry$Test", 7, .inr (.inr (.inr (.inr fu_q))))) := by rw [eσ1]; exact (hn_ne (Nat.ne_of_lt (wτ71 _ _ fτ71_q_7))).trans fτ71_q_7
      have fσ1_8 : σ1.1 y = some (.inr (.inl (2, [.int (nI n), .int (nI q.2.2.1), .int (nI q.2.2.2.1), .int v_q, .ref (S q.2.2.2.2.1), .ref wd_q, .ref (wW W), .ref x]))) := by rw [eσ1]; exact (hn_ne (Nat.ne_of_lt (wτ71 _ _ hC_q))).trans hC_q
      have fσ1_9 : σ1.1 x = some (.inr (.inl (0, [.ref bf, .int bd_q, .int pe_q, .int ep_q, nv_q, .ref dq_q, .ref sv_q, .ref ou_q]))) := by rw [eσ1]; exact (hn_ne (Nat.ne_of_lt (wτ71 _ _ hX_q))).trans hX_q
      have fσ1_10 : σ1.1 bf = some (.inl (.byte, 500, .inl B)) := by rw [eσ1]; exact (hn_ne (Nat.ne_of_lt (wτ71 _ _ hBf_q))).trans hBf_q
      have fσ1_11 : σ1.1 τ71.2 = some (.inr (.inl (6, [.int 0, .int 0, .int 0, .int 0, .int 0, .int 0, .int 0, .int 0, .null]))) := by rw [eσ1]; exact if_pos rfl
      have xσ1 : ext τ71 σ1 := by rw [eσ1]; exact ext_new _ _
      have qσ1 : kl lo τ71 σ1 := by rw [eσ1]; exact qτ71.new hl
      have hRσ1 : RW g σ1 W N := hRq.ext wτ71 xσ1
      refine A_dup dX3_flagLine_140 rfl ?_
      refine A_iload_n (i := 1) dX3_flagLine_141 rfl rfl ?_
      refine A_iload dX3_flagLine_142 rfl ?_
      refine A_iload_n (i := 2) dX3_flagLine_144 rfl rfl ?_
      refine A_iload_n (i := 3) dX3_flagLine_145 rfl rfl ?_
      refine A_callI4 (b' := 2) (c_fInit σ1 τ71.2 (nI jn) q.1 (nI jk) (nI jd) fσ1_11) tX7_init q1085 dX3_flagLine_146 (by decide) (Nat.le_of_ble_eq_true rfl) (Nat.le_of_ble_eq_true rfl) (fun w9 σ2 h9 => ?_) (fun E9 q9 τ9 h9 => h9.elim)
      obtain ⟨b9, e9, fσ2_a, fσ2_x0, kσ2⟩ := h9
      subst e9
      refine A_wfh (fun wσ2 hgσ2 => ?_)
      have qσ2 : kl lo τ71 σ2 := qσ1.kx hl (Nat.le_trans hl qτ71.1) kσ2
      have fσ2_0 : σ2.1 (wW W) = some (.inr (.inl (4, [.int (N 9), .ref (wR W), .ref (wM W), .ref (wNL W), .ref (wFL W), .ref (wUN W), .int (N 6), .int (N 8), .int (N 0), .int (N 1), .int (N 2), .int (N 3), .int (N 4), .int (N 5), .int (N 11)]))) := kσ2.at wσ1 fσ1_0 (ne_of (x := .inr (.inl (4, [.int (N 9), .ref (wR W), .ref (wM W), .ref (wNL W), .ref (wFL W), .ref (wUN W), .int (N 6), .int (N 8), .int (N 0), .int (N 1), .int (N 2), .int (N 3), .int (N 4), .int (N 5), .int (N 11)]))) (y := .inr (.inl (6, [.int 0, .int 0, .int 0, .int 0, .int 0, .int 0, .int 0, .int 0, .null]))) fσ1_0 fσ1_11 (fun e8 => by simp at e8))
      have fσ2_1 : σ2.1 (wFL W) = some (.inr (.inl (14, [.int mcf_q, .ref (wFA W), .int (nI (nF N))]))) := kσ2.at wσ1 fσ1_1 (ne_of (x := .inr (.inl (14, [.int mcf_q, .ref (wFA W), .int (nI (nF N))]))) (y := .inr (.inl (6, [.int 0, .int 0, .int 0, .int 0, .int 0, .int 0, .int 0, .int 0, .null]))) fσ1_1 fσ1_11 (fun e8 => by simp at e8))
      have fσ2_2 : σ2.1 (wFA W) = some (.inl (.object "java/lang/Object", 12, .inr (.inr (.inr (.inr ffA_q))))) := kσ2.at wσ1 fσ1_2 (ne_of (x := .inl (.object "java/lang/Object", 12, .inr (.inr (.inr (.inr ffA_q))))) (y := .inr (.inl (6, [.int 0, .int 0, .int 0, .int 0, .int 0, .int 0, .int 0, .int 0, .null]))) fσ1_2 fσ1_11 (fun e8 => by simp at e8))
      have fσ2_3 : σ2.1 (wNL W) = some (.inr (.inl (14, [.int mcn_q, .ref (wNA W), .int (nI (nN N))]))) := kσ2.at wσ1 fσ1_3 (ne_of (x := .inr (.inl (14, [.int mcn_q, .ref (wNA W), .int (nI (nN N))]))) (y := .inr (.inl (6, [.int 0, .int 0, .int 0, .int 0, .int 0, .int 0, .int 0, .int 0, .null]))) fσ1_3 fσ1_11 (fun e8 => by simp at e8))
      have fσ2_4 : σ2.1 (wNA W) = some (.inl (.object "java/lang/Object", 4, .inr (.inr (.inr (.inr fnA_q))))) := kσ2.at wσ1 fσ1_4 (ne_of (x := .inl (.object "java/lang/Object", 4, .inr (.inr (.inr (.inr fnA_q))))) (y := .inr (.inl (6, [.int 0, .int 0, .int 0, .int 0, .int 0, .int 0, .int 0, .int 0, .null]))) fσ1_4 fσ1_11 (fun e8 => by simp at e8))
      have fσ2_5 : σ2.1 (wR W) = some (.inl (.int, 6, .inl fr_q)) := kσ2.at wσ1 fσ1_5 (ne_of (x := .inl (.int, 6, .inl fr_q)) (y := .inr (.inl (6, [.int 0, .int 0, .int 0, .int 0, .int 0, .int 0, .int 0, .int 0, .null]))) fσ1_5 fσ1_11 (fun e8 => by simp at e8))
      have fσ2_6 : σ2.1 (wM W) = some (.inl (.int, 3, .inl fm_q)) := kσ2.at wσ1 fσ1_6 (ne_of (x := .inl (.int, 3, .inl fm_q)) (y := .inr (.inl (6, [.int 0, .int 0, .int 0, .int 0, .int 0, .int 0, .int 0, .int 0, .null]))) fσ1_6 fσ1_11 (fun e8 => by simp at e8))
      have fσ2_7 : σ2.1 (wUN W) = some (.inl (.object "FlagLaundry$Test", 7, .inr (.inr (.inr (.inr fu_q))))) := kσ2.at wσ1 fσ1_7 (ne_of (x := .inl (.object "FlagLaundry$Test", 7, .inr (.inr (.inr (.inr fu_q))))) (y := .inr (.inl (6, [.int 0, .int 0, .int 0, .int 0, .int 0, .int 0, .int 0, .int 0, .null]))) fσ1_7 fσ1_11 (fun e8 => by simp at e8))
      have fσ2_8 : σ2.1 y = some (.inr (.inl (2, [.int (nI n), .int (nI q.2.2.1), .int (nI q.2.2.2.1), .int v_q, .ref (S q.2.2.2.2.1), .ref wd_q, .ref (wW W), .ref x]))) := kσ2.at wσ1 fσ1_8 (ne_of (x := .inr (.inl (2, [.int (nI n), .int (nI q.2.2.1), .int (nI q.2.2.2.1), .int v_q, .ref (S q.2.2.2.2.1), .ref wd_q, .ref (wW W), .ref x]))) (y := .inr (.inl (6, [.int 0, .int 0, .int 0, .int 0, .int 0, .int 0, .int 0, .int 0, .null]))) fσ1_8 fσ1_11 (fun e8 => by simp at e8))
      have fσ2_9 : σ2.1 x = some (.inr (.inl (0, [.ref bf, .int bd_q, .int pe_q, .int ep_q, nv_q, .ref dq_q, .ref sv_q, .ref ou_q]))) := kσ2.at wσ1 fσ1_9 (ne_of (x := .inr (.inl (0, [.ref bf, .int bd_q, .int pe_q, .int ep_q, nv_q, .ref dq_q, .ref sv_q, .ref ou_q]))) (y := .inr (.inl (6, [.int 0, .int 0, .int 0, .int 0, .int 0, .int 0, .int 0, .int 0, .null]))) fσ1_9 fσ1_11 (fun e8 => by simp at e8))
      have fσ2_10 : σ2.1 bf = some (.inl (.byte, 500, .inl B)) := kσ2.at wσ1 fσ1_10 (ne_of (x := .inl (.byte, 500, .inl B)) (y := .inr (.inl (6, [.int 0, .int 0, .int 0, .int 0, .int 0, .int 0, .int 0, .int 0, .null]))) fσ1_10 fσ1_11 (fun e8 => by simp at e8))
      skip
      refine A_callV1E (b' := 2) (v := none) (τ := h_put (h_put (h_put σ2 (wFL W) (.inr (.inl (14, [.int (mcf_q + 1), .ref (wFA W), .int (nI (nF N))])))) (wFA W) (.inl (.object "java/lang/Object", 12, .inr (.inr (.inr (.inr (va_up ffA_q (nF N) (some τ71.2)))))))) (wFL W) (.inr (.inl (14, [.int (mcf_q + 1), .ref (wFA W), .int (nI (nF N + 1))])))) (c_addsF σ2 W N (nF N) τ71.2 mcf_q ffA_q _ fσ2_0 fσ2_1 fσ2_2 fσ2_a hF12q) tX5_adds_2 q1142 fσ2_0 rfl rfl dX3_flagLine_149 (by decide) (Nat.le_of_ble_eq_true rfl) (Nat.le_of_ble_eq_true rfl) ?_
      obtain ⟨σ3, eσ3⟩ : ∃ τ, τ = h_put (h_put (h_put σ2 (wFL W) (.inr (.inl (14, [.int (mcf_q + 1), .ref (wFA W), .int (nI (nF N))])))) (wFA W) (.inl (.object "java/lang/Object", 12, .inr (.inr (.inr (.inr (va_up ffA_q (nF N) (some τ71.2)))))))) (wFL W) (.inr (.inl (14, [.int (mcf_q + 1), .ref (wFA W), .int (nI (nF N + 1))]))) := ⟨_, rfl⟩
      refine A_st (σ' := σ3) eσ3.symm ?_
      have wσ3 : wfh σ3 := by rw [eσ3]; exact (((wσ2.put fσ2_1).put ((hp_ne (ne_of (x := .inl (.object "java/lang/Object", 12, .inr (.inr (.inr (.inr ffA_q))))) (y := .inr (.inl (14, [.int mcf_q, .ref (wFA W), .int (nI (nF N))]))) fσ2_2 fσ2_1 (fun e8 => by simp at e8))).trans fσ2_2)).put ((hp_ne (ne_of (x := .inr (.inl (14, [.int mcf_q, .ref (wFA W), .int (nI (nF N))]))) (y := .inl (.object "java/lang/Object", 12, .inr (.inr (.inr (.inr ffA_q))))) fσ2_1 fσ2_2 (fun e8 => by simp at e8))).trans (if_pos rfl)))
      have qσ3 : kl lo τ71 σ3 := by rw [eσ3]; exact (((qσ2.put hO.2.2.2.2.2.1).put hO.2.2.2.2.2.2.1).put hO.2.2.2.2.2.1)
      have fσ3_0 : σ3.1 (wW W) = some (.inr (.inl (4, [.int (N 9), .ref (wR W), .ref (wM W), .ref (wNL W), .ref (wFL W), .ref (wUN W), .int (N 6), .int (N 8), .int (N 0), .int (N 1), .int (N 2), .int (N 3), .int (N 4), .int (N 5), .int (N 11)]))) := by rw [eσ3]; exact ((hp_ne (ne_of (x := .inr (.inl (4, [.int (N 9), .ref (wR W), .ref (wM W), .ref (wNL W), .ref (wFL W), .ref (wUN W), .int (N 6), .int (N 8), .int (N 0), .int (N 1), .int (N 2), .int (N 3), .int (N 4), .int (N 5), .int (N 11)]))) (y := .inr (.inl (14, [.int mcf_q, .ref (wFA W), .int (nI (nF N))]))) fσ2_0 fσ2_1 (fun e8 => by simp at e8))).trans ((hp_ne (ne_of (x := .inr (.inl (4, [.int (N 9), .ref (wR W), .ref (wM W), .ref (wNL W), .ref (wFL W), .ref (wUN W), .int (N 6), .int (N 8), .int (N 0), .int (N 1), .int (N 2), .int (N 3), .int (N 4), .int (N 5), .int (N 11)]))) (y := .inl (.object "java/lang/Object", 12, .inr (.inr (.inr (.inr ffA_q))))) fσ2_0 fσ2_2 (fun e8 => by simp at e8))).trans ((hp_ne (ne_of (x := .inr (.inl (4, [.int (N 9), .ref (wR W), .ref (wM W), .ref (wNL W), .ref (wFL W), .ref (wUN W), .int (N 6), .int (N 8), .int (N 0), .int (N 1), .int (N 2), .int (N 3), .int (N 4), .int (N 5), .int (N 11)]))) (y := .inr (.inl (14, [.int mcf_q, .ref (wFA W), .int (nI (nF N))]))) fσ2_0 fσ2_1 (fun e8 => by simp at e8))).trans fσ2_0)))
      have fσ3_1 : σ3.1 (wFL W) = some (.inr (.inl (14, [.int (mcf_q + 1), .ref (wFA W), .int (nI (nF N + 1))]))) := by rw [eσ3]; exact (if_pos rfl)
      have fσ3_2 : σ3.1 (wFA W) = some (.inl (.object "java/lang/Object", 12, .inr (.inr (.inr (.inr (va_up ffA_q (nF N) (some τ71.2))))))) := by rw [eσ3]; exact ((hp_ne (ne_of (x := .inl (.object "java/lang/Object", 12, .inr (.inr (.inr (.inr ffA_q))))) (y := .inr (.inl (14, [.int mcf_q, .ref (wFA W), .int (nI (nF N))]))) fσ2_2 fσ2_1 (fun e8 => by simp at e8))).trans (if_pos rfl))
      have fσ3_3 : σ3.1 (wR W) = some (.inl (.int, 6, .inl fr_q)) := by rw [eσ3]; exact ((hp_ne (ne_of (x := .inl (.int, 6, .inl fr_q)) (y := .inr (.inl (14, [.int mcf_q, .ref (wFA W), .int (nI (nF N))]))) fσ2_5 fσ2_1 (fun e8 => by simp at e8))).trans ((hp_ne (ne_of (x := .inl (.int, 6, .inl fr_q)) (y := .inl (.object "java/lang/Object", 12, .inr (.inr (.inr (.inr ffA_q))))) fσ2_5 fσ2_2 (fun e8 => by simp at e8))).trans ((hp_ne (ne_of (x := .inl (.int, 6, .inl fr_q)) (y := .inr (.inl (14, [.int mcf_q, .ref (wFA W), .int (nI (nF N))]))) fσ2_5 fσ2_1 (fun e8 => by simp at e8))).trans fσ2_5)))
      have fσ3_4 : σ3.1 (wM W) = some (.inl (.int, 3, .inl fm_q)) := by rw [eσ3]; exact ((hp_ne (ne_of (x := .inl (.int, 3, .inl fm_q)) (y := .inr (.inl (14, [.int mcf_q, .ref (wFA W), .int (nI (nF N))]))) fσ2_6 fσ2_1 (fun e8 => by simp at e8))).trans ((hp_ne (ne_of (x := .inl (.int, 3, .inl fm_q)) (y := .inl (.object "java/lang/Object", 12, .inr (.inr (.inr (.inr ffA_q))))) fσ2_6 fσ2_2 (fun e8 => by simp at e8))).trans ((hp_ne (ne_of (x := .inl (.int, 3, .inl fm_q)) (y := .inr (.inl (14, [.int mcf_q, .ref (wFA W), .int (nI (nF N))]))) fσ2_6 fσ2_1 (fun e8 => by simp at e8))).trans fσ2_6)))
      have fσ3_5 : σ3.1 (wUN W) = some (.inl (.object "FlagLaundry$Test", 7, .inr (.inr (.inr (.inr fu_q))))) := by rw [eσ3]; exact ((hp_ne (ne_of (x := .inl (.object "FlagLaundry$Test", 7, .inr (.inr (.inr (.inr fu_q))))) (y := .inr (.inl (14, [.int mcf_q, .ref (wFA W), .int (nI (nF N))]))) fσ2_7 fσ2_1 (fun e8 => by simp at e8))).trans ((hp_ne (ne_of (x := .inl (.object "FlagLaundry$Test", 7, .inr (.inr (.inr (.inr fu_q))))) (y := .inl (.object "java/lang/Object", 12, .inr (.inr (.inr (.inr ffA_q))))) fσ2_7 fσ2_2 (fun e8 => by simp at e8))).trans ((hp_ne (ne_of (x := .inl (.object "FlagLaundry$Test", 7, .inr (.inr (.inr (.inr fu_q))))) (y := .inr (.inl (14, [.int mcf_q, .ref (wFA W), .int (nI (nF N))]))) fσ2_7 fσ2_1 (fun e8 => by simp at e8))).trans fσ2_7)))
      have fσ3_6 : σ3.1 y = some (.inr (.inl (2, [.int (nI n), .int (nI q.2.2.1), .int (nI q.2.2.2.1), .int v_q, .ref (S q.2.2.2.2.1), .ref wd_q, .ref (wW W), .ref x]))) := by rw [eσ3]; exact ((hp_ne (ne_of (x := .inr (.inl (2, [.int (nI n), .int (nI q.2.2.1), .int (nI q.2.2.2.1), .int v_q, .ref (S q.2.2.2.2.1), .ref wd_q, .ref (wW W), .ref x]))) (y := .inr (.inl (14, [.int mcf_q, .ref (wFA W), .int (nI (nF N))]))) fσ2_8 fσ2_1 (fun e8 => by simp at e8))).trans ((hp_ne (ne_of (x := .inr (.inl (2, [.int (nI n), .int (nI q.2.2.1), .int (nI q.2.2.2.1), .int v_q, .ref (S q.2.2.2.2.1), .ref wd_q, .ref (wW W), .ref x]))) (y := .inl (.object "java/lang/Object", 12, .inr (.inr (.inr (.inr ffA_q))))) fσ2_8 fσ2_2 (fun e8 => by simp at e8))).trans ((hp_ne (ne_of (x := .inr (.inl (2, [.int (nI n), .int (nI q.2.2.1), .int (nI q.2.2.2.1), .int v_q, .ref (S q.2.2.2.2.1), .ref wd_q, .ref (wW W), .ref x]))) (y := .inr (.inl (14, [.int mcf_q, .ref (wFA W), .int (nI (nF N))]))) fσ2_8 fσ2_1 (fun e8 => by simp at e8))).trans fσ2_8)))
      have fσ3_7 : σ3.1 x = some (.inr (.inl (0, [.ref bf, .int bd_q, .int pe_q, .int ep_q, nv_q, .ref dq_q, .ref sv_q, .ref ou_q]))) := by rw [eσ3]; exact ((hp_ne (ne_of (x := .inr (.inl (0, [.ref bf, .int bd_q, .int pe_q, .int ep_q, nv_q, .ref dq_q, .ref sv_q, .ref ou_q]))) (y := .inr (.inl (14, [.int mcf_q, .ref (wFA W), .int (nI (nF N))]))) fσ2_9 fσ2_1 (fun e8 => by simp at e8))).trans ((hp_ne (ne_of (x := .inr (.inl (0, [.ref bf, .int bd_q, .int pe_q, .int ep_q, nv_q, .ref dq_q, .ref sv_q, .ref ou_q]))) (y := .inl (.object "java/lang/Object", 12, .inr (.inr (.inr (.inr ffA_q))))) fσ2_9 fσ2_2 (fun e8 => by simp at e8))).trans ((hp_ne (ne_of (x := .inr (.inl (0, [.ref bf, .int bd_q, .int pe_q, .int ep_q, nv_q, .ref dq_q, .ref sv_q, .ref ou_q]))) (y := .inr (.inl (14, [.int mcf_q, .ref (wFA W), .int (nI (nF N))]))) fσ2_9 fσ2_1 (fun e8 => by simp at e8))).trans fσ2_9)))
      have fσ3_8 : σ3.1 bf = some (.inl (.byte, 500, .inl B)) := by rw [eσ3]; exact ((hp_ne (ne_of (x := .inl (.byte, 500, .inl B)) (y := .inr (.inl (14, [.int mcf_q, .ref (wFA W), .int (nI (nF N))]))) fσ2_10 fσ2_1 (fun e8 => by simp at e8))).trans ((hp_ne (ne_of (x := .inl (.byte, 500, .inl B)) (y := .inl (.object "java/lang/Object", 12, .inr (.inr (.inr (.inr ffA_q))))) fσ2_10 fσ2_2 (fun e8 => by simp at e8))).trans ((hp_ne (ne_of (x := .inl (.byte, 500, .inl B)) (y := .inr (.inl (14, [.int mcf_q, .ref (wFA W), .int (nI (nF N))]))) fσ2_10 fσ2_1 (fun e8 => by simp at e8))).trans fσ2_10)))
      have fσ3_9 : σ3.1 τ71.2 = some (.inr (.inl (6, [.int (nI jn), .int q.1, .int (nI jk), .int (nI jd), .int 0, .int 0, .int 0, .int 0, .ref b9]))) := by rw [eσ3]; exact ((hp_ne (ne_of (x := .inr (.inl (6, [.int (nI jn), .int q.1, .int (nI jk), .int (nI jd), .int 0, .int 0, .int 0, .int 0, .ref b9]))) (y := .inr (.inl (14, [.int mcf_q, .ref (wFA W), .int (nI (nF N))]))) fσ2_a fσ2_1 (fun e8 => by simp at e8))).trans ((hp_ne (ne_of (x := .inr (.inl (6, [.int (nI jn), .int q.1, .int (nI jk), .int (nI jd), .int 0, .int 0, .int 0, .int 0, .ref b9]))) (y := .inl (.object "java/lang/Object", 12, .inr (.inr (.inr (.inr ffA_q))))) fσ2_a fσ2_2 (fun e8 => by simp at e8))).trans ((hp_ne (ne_of (x := .inr (.inl (6, [.int (nI jn), .int q.1, .int (nI jk), .int (nI jd), .int 0, .int 0, .int 0, .int 0, .ref b9]))) (y := .inr (.inl (14, [.int mcf_q, .ref (wFA W), .int (nI (nF N))]))) fσ2_a fσ2_1 (fun e8 => by simp at e8))).trans fσ2_a)))
      have hxo : σ2.1 τ71.2 = some (flgC (fl (addN N (nI jn) q.1 (nI jk) (nI jd)) (nF N)) b9) := by rw [flg_eq b9 (fun k hk => addN_F N (nI jn) q.1 (nI jk) (nI jd) hk)]; exact fσ2_a
      have hpo : σ2.1 b9 = some (.inr (.inl (plc (fl (addN N (nI jn) q.1 (nI jk) (nI jd)) (nF N) 8) (fl (addN N (nI jn) q.1 (nI jk) (nI jd)) (nF N) 9) (fl (addN N (nI jn) q.1 (nI jk) (nI jd)) (nF N) 10)))) := by rw [addN_F N _ _ _ _ (by decide), addN_F N _ _ _ _ (by decide), addN_F N _ _ _ _ (by decide)]; exact fσ2_x0
      have xo : ext τ71 σ2 := xσ1.kxF kσ2 (Nat.le_refl _)
      have hRo2 : RW g σ2 W N := hRq.ext wτ71 xo
      have hne9 : ¬ wFA W = wFL W := ne_of hRo2.2.2.2.2.1.choose_spec.choose_spec.2.1 hRo2.2.2.2.2.1.choose_spec.choose_spec.1 ne_arr
      obtain ⟨-, ⟨mcA, hLA⟩, hAA, hk9⟩ := add_of (v := none) (n := nF N) (cap := 12) (f := ffA_q) (x := τ71.2) hne9 eσ3
      have hR7 : RW g σ3 (setFP W (upP (wF W) (nF N) τ71.2) (upP (wP W) (nF N) b9)) (addN N (nI jn) q.1 (nI jk) (nI jd)) := hRo2.addF (N' := (addN N (nI jn) q.1 (nI jk) (nI jd))) wσ2 hW hk9 hLA hAA h5q_q hxo hpo (fun i hi => Nat.ne_of_lt (wτ71 _ _ (hRq.2.2.2.2.2.2.1 i hi))) (fun j hj h => addN_h N _ _ _ _ hj h) (fun i k hi hk => addN_fl N _ _ _ _ (Nat.ne_of_lt hi) hk) (wfc_add hW hF12q _ _ _ _).2
      have hsq : ∃ i, i < 64 ∧ q.1 = nI i := (fg_pop n9_4 hW m (by rw [← eqq]; exact z0_q)).imp (fun s hs => ⟨hs.1, by rw [eqq]; exact hs.2.1⟩)
      have hE7 : fgS B n p = pN (addN N (nI jn) q.1 (nI jk) (nI jd)) q.2 := (hme (by rw [← eqq]; exact z0_q)).trans (by rw [← eqq, n9_1, ejn, ejk, ejd])
      exact A_vret dX3_flagLine_152 rfl (by rw [hE7]; exact ⟨rfl, z0_q, ⟨v_q, wd_q, fσ3_6, ⟨⟨bd_q, pe_q, ep_q, nv_q, dq_q, sv_q, ou_q, fσ3_7⟩, fσ3_8, hn5_q, hby_q⟩, hvv_q, htk_q, hcn_q, hsc_q⟩, ⟨(setFP W (upP (wF W) (nF N) τ71.2) (upP (wP W) (nF N) b9)), rfl, hR7, hO.add hW hF12q _ _ _ _ hl⟩, GN_add hG hF12q ⟨jn, hjn, rfl⟩ hsq ⟨jk, hjk, rfl⟩ ⟨jd, hjd, rfl⟩, (ky_q.kl qσ3)⟩)
  · skip
    refine A_aload_n (i := 0) dX3_flagLine_51 rfl rfl ?_
    refine A_aload_n (i := 0) dX3_flagLine_52 rfl rfl ?_
    refine A_getf cb_X3 hC_4 4 (Nat.le_of_ble_eq_true rfl) q688 rfl (v := .ref (S p4.2.2.2.1)) rfl dX3_flagLine_53 ?_
    refine A_getsO hS.2.2.2.1 q680 rfl dX3_flagLine_56 ?_
    refine A_acmp_ne_t (tgt := 66) (x := (some (S p4.2.2.2.1))) (y := (some (S 3))) dX3_flagLine_59 (by decide) ((hS.ne htk_4 (Or.inr (Or.inr (Or.inr (Or.inl rfl)))) hk9)) ?_
    refine A_iconst (v := 0) dX3_flagLine_66 (by decide) ?_
    refine A_iconst (v := 1) dX3_flagLine_67 (by decide) ?_
    refine A_callV2 (b' := 0) (c_pChkNo τs4 y n p4.2.1 p4.2.2.1 x v_4 (S p4.2.2.2.1) wd_4 (.ref (wW W)) 1 hC_4) tX3_check q722 hC_4 rfl rfl dX3_flagLine_68 (by decide) (Nat.le_of_ble_eq_true rfl) (Nat.le_of_ble_eq_true rfl) (fun w9 τ9 h9 => h9.elim) (fun E9 q9 τ9 h9 => A_out rfl (LX.ck kyτs4 hl0 h9 z0_4 (by decide) (fg_xk e1 (e2.trans (congrArg (fun z : AF => nuS B n 0 (z 7 - 1) p1) n9_1.symm)) e3 e4 (fun k => hk9 k.2))))
