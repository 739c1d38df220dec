/-! THE PARSER 8: the lines; how many there may be -/
/-- how a state goes on: the cursor grows, or nothing moves; without a fault code and place stay -/
def mv (p p' : PT) : Prop := ((p'.2.1 = p.2.1 ∧ p'.2.2.2.1 = p.2.2.2.1) ∨ (p.2.1 ≤ p'.2.1 ∧ (¬ p'.2.2.2.1 = 1 → p.2.1 < p'.2.1))) ∧ (pcd p' ≤ 0 → pca p' = pca p)
theorem mv.rf (p : PT) : mv p p := ⟨Or.inl ⟨rfl, rfl⟩, fun _ => rfl⟩
theorem mv.le {p p' : PT} (h : mv p p') : p.2.1 ≤ p'.2.1 := by
  rcases h.1 with h | h
  · exact Nat.le_of_eq h.1.symm
  · exact h.1
theorem mv.tr {a b c : PT} (h : mv a b) (k : mv b c) : mv a c := by
  have hl := h.le
  obtain ⟨h, h'⟩ := h
  obtain ⟨k, k'⟩ := k
  refine ⟨?_, fun q => (k' q).trans (h' (by have e := congrArg (fun z : Int32 × Int32 => z.1) (k' q); rw [show pcd b = pcd c from e.symm]; exact q))⟩
  rcases k with k | k
  · rcases h with h | h
    · exact Or.inl ⟨k.1.trans h.1, k.2.trans h.2⟩
    · exact Or.inr ⟨by rw [k.1]; exact hl, fun q => by rw [k.1]; exact h.2 (by rw [← k.2]; exact q)⟩
  · exact Or.inr ⟨Nat.le_trans hl k.1, fun q => Nat.lt_of_le_of_lt hl (k.2 q)⟩
theorem mv_goes (B : AF) (n : Nat) (p : PT) : mv p (goesS B n p) := by
  refine ⟨?_, fun _ => goes_pc B n p⟩
  unfold goesS
  split
  · exact Or.inr ⟨Nat.le_trans (spN_ge B n p) (tok_c _ _ _ _), fun q => Nat.lt_of_le_of_lt (spN_ge B n p) (tok_gt q)⟩
  · exact Or.inl ⟨rfl, rfl⟩
theorem mv_flt {c : Int32} (hc : ¬ c ≤ 0) (p : PT) : mv p (fltS c p) := ⟨Or.inl ⟨flt_c c p, flt_k c p⟩, fun q => absurd q (flt_gt hc p)⟩
theorem mv_nh (lo hi : Int32) (p : PT) : mv p (nhS lo hi p) := by
  unfold nhS
  split
  · split
    · exact mv.rf p
    · exact mv_flt (by decide) _
  · exact mv_flt (by decide) _
theorem mv_nu (B : AF) (n : Nat) (lo hi : Int32) (p : PT) : mv p (nuS B n lo hi p) := (mv_nh lo hi p).tr (mv_goes B n _)
theorem mv_pN (N : AF) (p : PT) : mv p (pN N p) := ⟨Or.inl ⟨rfl, rfl⟩, fun _ => rfl⟩
theorem mv_ok (N : AF) (p : PT) : mv p (okS N p) := by
  unfold okS
  split
  · exact mv_pN N p
  · exact mv.rf p
theorem mv_if {c : Prop} [Decidable c] {p a b : PT} (ha : mv p a) (hb : mv p b) : mv p (if c then a else b) := by
  split
  · exact ha
  · exact hb
theorem mv_bg (B : AF) (n k : Nat) (m : Int32) (p : PT) : mv p (bgS B n k m p) := (mv_if (mv_flt (c := 4) (by decide) p) (mv.rf p)).tr (mv_goes B n _)
theorem mv_co (B : AF) (n : Nat) (p : PT) : mv p (coS B n p) := (mv_bg B n 6 6 p).tr ((mv_nu B n 0 4 _).tr (mv_ok _ _))
theorem mv_tu (B : AF) (n : Nat) (p : PT) : mv p (tuS B n p) := (mv_bg B n 8 3 p).tr ((mv_nu B n 1 6 _).tr (mv_ok _ _))
theorem mv_na (B : AF) (n : Nat) (p : PT) : mv p (naS B n p) := by
  have h1 : mv p (na1 B n p) := mv_bg B n 7 4 p
  have h2 : mv p (na2 B n p) := h1.tr (mv_nu B n 0 99 _)
  have h3 : mv p (na3 B n p) := h2.tr (mv_nu B n 1 99 _)
  have h4 : mv p (na4 B n p) := h3.tr (mv_nu B n 0 9 _)
  exact h4.tr (mv_ok _ _)
theorem mv_crH (s : Int32) (p : PT) : mv p (crH s p) := by
  unfold crH
  exact mv_if ((mv_nh _ _ p).tr (mv_flt (by decide) _)) (mv_nh _ _ p)
theorem mv_cr (B : AF) (n : Nat) (s : Int32) (p : PT) : mv p (crS B n s p) := (mv_crH s p).tr (mv_goes B n _)
theorem mv_cq (B : AF) (n : Nat) (q : Int32 × PT) (k : Nat) : mv q.2 (cqU B n q k).2 := by
  induction k with
  | zero => rw [cqU_0]; exact mv.rf _
  | succ k ih => rw [cqU_2]; exact ih.tr (mv_cr B n _ _)
theorem mv_fg (B : AF) (n : Nat) (p : PT) : mv p (fgS B n p) := by
  have h1 : mv p (fg1 B n p) := mv_bg B n 10 12 p
  have h2 : mv p (fg2 B n p) := h1.tr (mv_nu B n 0 _ _)
  have h3 : mv p (fg3 B n p) := h2.tr (mv_nu B n 0 3 _)
  have h4 : mv p (fg4 B n p) := h3.tr (mv_nu B n 0 9 _)
  have h0 : mv p (fg0 B n p).2 := by rw [fg0_2]; exact h4.tr (mv_cr B n 0 _)
  have h5 : mv p (fg5 B n p).2 := by unfold fg5; exact h0.tr (mv_cq B n _ _)
  unfold fgS
  exact mv_if (h5.tr (mv_pN _ _)) h5
theorem mv_pu (B : AF) (n : Nat) (p : PT) : mv p (puS B n p) := by
  have h1 : mv p (pu1 B n p) := (mv_goes B n p).tr (mv_nu B n 0 _ _)
  have h2 : mv p (pu2 B n p) := h1.tr (mv_nh 0 _ _)
  have h3 : mv p (pu3 B n p) := by unfold pu3; exact mv_if (h2.tr (mv_flt (by decide) _)) h2
  unfold puS
  exact (mv_if (h3.tr (mv_pN _ _)) h3).tr (mv_goes B n _)
theorem mv_wa (B : AF) (n : Nat) (p : PT) : mv p (waS B n p) := by
  have h1 : mv p (wa_1 B n p) := (mv_goes B n p).tr (mv_nu B n 0 _ _)
  have h2 : mv p (wa_2 B n p) := h1.tr (mv_nh 0 3 _)
  have h3 : mv p (wa_3 B n p) := by unfold wa_3; exact mv_if (h2.tr (mv_flt (by decide) _)) h2
  unfold waS
  exact mv_if ((h3.tr (mv_pN _ _)).tr (mv_goes B n _)) h3
theorem mv_ha (B : AF) (n : Nat) (p : PT) : mv p (haS B n p) := by
  have h1 : mv p (ha1 B n p) := (mv_goes B n p).tr (mv_nh 0 _ _)
  have h3 : mv p (ha2 B n p) := by unfold ha2; exact mv_if (h1.tr (mv_flt (by decide) _)) h1
  unfold haS
  exact (mv_if (h3.tr (mv_pN _ _)) h3).tr (mv_goes B n _)
theorem mv_wi (B : AF) (n : Nat) (p : PT) : mv p (wiS B n p) := by
  have h : mv p (nuS B n 0 9 (goesS B n p)) := (mv_goes B n p).tr (mv_nu B n 0 9 _)
  unfold wiS
  exact mv_if (h.tr (mv_pN _ _)) h
theorem mv_pa (B : AF) (n : Nat) (p : PT) : mv p (paS B n p) := by
  have h : mv p (nuS B n 1 50 (goesS B n p)) := (mv_goes B n p).tr (mv_nu B n 1 50 _)
  unfold paS
  exact mv_if (h.tr (mv_pN _ _)) h
theorem mv_th (B : AF) (n : Nat) (p : PT) : mv p (thS B n p) := by
  unfold thS deS
  exact mv_if (mv_co B n p) (mv_if (mv_na B n p) (mv_if (mv_tu B n p) (mv_if (mv_fg B n p) (mv_if (mv_pu B n p) (mv_if (mv_wa B n p) (mv_if (mv_ha B n p) (mv_if (mv_wi B n p) (mv_if (mv_pa B n p) (mv_flt (c := 1) (by decide) p)))))))))
/-- a line takes two places at least -/
theorem li_2 {B : AF} {n : Nat} {p : PT} (k : Nat) (h : isP 4 (liU B n p (k + 1))) : (liU B n p k).2.1 + 2 ≤ (liU B n p (k + 1)).2.1 := by
  rw [liU_s] at h ⊢
  have h1 : isP 2 (goesS B n (liU B n p k)) := th_w (le_of0 h.1)
  have h2 := goes_gt (le_of0 h1.1) (by rw [h1.2]; decide)
  rcases (mv_th B n (goesS B n (liU B n p k))).1 with h3 | h3
  · exact absurd (h.2.symm.trans (h3.2.trans h1.2)) (by decide)
  · have h4 := h3.2 (by rw [h.2]; decide)
    omega
theorem liK_le {B : AF} {n : Nat} {p : PT} (h : pOK n p) (hn : n ≤ 500) : liK B n p ≤ 251 := by
  have hj : ∀ j, j < liK B n p → 2 * j ≤ (liU B n p j).2.1 := by
    intro j
    induction j with
    | zero => intro _; exact Nat.zero_le _
    | succ j ih =>
      intro hj
      have h1 := ih (by omega)
      have h2 := li_2 j (li_in hj)
      omega
  rcases Nat.eq_zero_or_pos (liK B n p) with e | e
  · omega
  · have h1 := hj (liK B n p - 1) (by omega)
    have h2 := (li_ok (B := B) h (liK B n p - 1)).1
    omega
theorem liU_0 (B : AF) (n : Nat) (p : PT) : liU B n p 0 = p := by unfold liU; exact Eq.refl p
-- how the whole goes
theorem te_x2 {B : AF} {n : Nat} {p : PT} (h : ¬ pcd (te2 B n p) ≤ 0) : pca (teS B n p) = pca (te2 B n p) := by
  have hk : liK B n (te2 B n p) = 0 := by
    rcases Nat.eq_zero_or_pos (liK B n (te2 B n p)) with e | e
    · exact e
    · have h9 := li_in e
      rw [liU_0] at h9
      exact absurd (le_of0 h9.1) h
  have h3 : te3 B n p = te2 B n p := by unfold te3; rw [hk, liU_0]
  have h4 : te4 B n p = te2 B n p := by rw [te4, h3, if_neg (fun q => h (le_of0 q.1)), flt_x h]
  unfold teS
  rw [h4]
  split
  · rw [flt_x h]
  · rfl
theorem te_x3 {B : AF} {n i : Nat} {p : PT} (hi : i < liK B n (te2 B n p)) (h : ¬ pcd (liU B n (te2 B n p) (i + 1)) ≤ 0) : pca (teS B n p) = pca (liU B n (te2 B n p) (i + 1)) := by
  have hk : liK B n (te2 B n p) = i + 1 := by
    rcases Nat.lt_or_ge (i + 1) (liK B n (te2 B n p)) with e | e
    · exact absurd (le_of0 (li_in e).1) h
    · omega
  have h3 : te3 B n p = liU B n (te2 B n p) (i + 1) := by unfold te3; rw [hk]
  have h4 : te4 B n p = liU B n (te2 B n p) (i + 1) := by rw [te4, h3, if_neg (fun q => h (le_of0 q.1)), flt_x h]
  unfold teS
  rw [h4]
  split
  · rw [flt_x h]
  · rfl
theorem te_x4 {B : AF} {n : Nat} {p : PT} (h : ¬ isP 1 (te3 B n p)) : pca (teS B n p) = pca (fltS 1 (te3 B n p)) := by
  by_cases h0 : pcd (te3 B n p) ≤ 0
  · have h4 : te4 B n p = fltS 1 (te3 B n p) := by rw [te4, if_neg h]
    have h5 : ¬ pcd (fltS 1 (te3 B n p)) ≤ 0 := flt_gt (by decide) _
    unfold teS
    rw [h4]
    split
    · rw [flt_x h5]
    · rfl
  · have h4 : te4 B n p = fltS 1 (te3 B n p) := by rw [te4, if_neg h]
    have h5 : ¬ pcd (fltS 1 (te3 B n p)) ≤ 0 := flt_gt (by decide) _
    unfold teS
    rw [h4]
    split
    · rw [flt_x h5]
    · rfl
theorem te_x5 {B : AF} {n : Nat} {p : PT} (h : isP 1 (te3 B n p)) (hc : (te3 B n p).1 6 = 0 ∨ (te3 B n p).1 7 = 0 ∨ (te3 B n p).1 8 = 0) : pca (teS B n p) = pca (fltS 4 (te3 B n p)) := by
  have h4 : te4 B n p = te3 B n p := by rw [te4, if_pos h]
  unfold teS
  rw [h4, if_pos hc]
theorem te_0 {B : AF} {n : Nat} {p : PT} (h : isP 1 (te3 B n p)) (hc : ¬ ((te3 B n p).1 6 = 0 ∨ (te3 B n p).1 7 = 0 ∨ (te3 B n p).1 8 = 0)) : teS B n p = te3 B n p := by
  have h4 : te4 B n p = te3 B n p := by rw [te4, if_pos h]
  unfold teS
  rw [h4, if_neg hc]
theorem te_x0 {B : AF} {n : Nat} {p q : PT} (eq : q = goesS B n p) (h : ¬ wordP B wLine q) : pca (te2 B n p) = pca (fltS 1 q) := by
  subst eq
  have h1 : te1 B n p = fltS 1 (goesS B n p) := by rw [te1, if_neg h, goes_x (flt_gt (by decide) _)]
  unfold te2
  rw [h1, nu_x (flt_gt (by decide) _)]
  rfl
theorem te_e1 {B : AF} {n : Nat} {p q p1 : PT} (eq : q = goesS B n p) (h : wordP B wLine q) (e1 : p1 = goesS B n q) : te1 B n p = p1 := by
  subst eq
  rw [te1, if_pos h, e1]
theorem te_e2 {B : AF} {n : Nat} {p q p1 p2 : PT} (eq : q = goesS B n p) (h : wordP B wLine q) (e1 : p1 = goesS B n q) (e2 : p2 = nuS B n 1 8 p1) : te2 B n p = pN (va_up p2.1 9 (nhV 1 8 p1)) p2 := by
  rw [te2, te_e1 eq h e1, ← e2]
theorem mv_li (B : AF) (n : Nat) (p : PT) (k : Nat) : mv p (liU B n p k) := by
  induction k with
  | zero => rw [liU_0]; exact mv.rf p
  | succ k ih => rw [liU_s]; exact (ih.tr (mv_goes B n _)).tr (mv_th B n _)
theorem mv_te (B : AF) (n : Nat) (p : PT) : mv p (teS B n p) := by
  have h0 : mv p (goesS B n p) := mv_goes B n p
  have h1 : mv p (te1 B n p) := by unfold te1; exact (mv_if h0 (h0.tr (mv_flt (by decide) _))).tr (mv_goes B n _)
  have h2 : mv p (te2 B n p) := by unfold te2; exact (h1.tr (mv_nu B n 1 8 _)).tr (mv_pN _ _)
  have h3 : mv p (te3 B n p) := by unfold te3; exact h2.tr (mv_li B n _ _)
  have h4 : mv p (te4 B n p) := by unfold te4; exact mv_if h3 (h3.tr (mv_flt (by decide) _))
  unfold teS
  exact mv_if (h4.tr (mv_flt (by decide) _)) h4
theorem tok_dep {B : AF} {n s : Nat} {p p' : PT} (h1 : p.1 = p'.1) (h2 : p.2.2.2.2 = p'.2.2.2.2) : tok B n s p = tok B n s p' := by
  unfold tok
  rw [h1, h2]
/-- the state at the beginning: what stood before in start, sort and so on is of no account -/
theorem goes_any (B N : AF) (n s s' : Nat) (tk tk' to : Int32) : goesS B n (N, 0, s, tk, to, 0, -1) = goesS B n (N, 0, s', tk', to, 0, -1) := by
  have h : ∀ s tk, goesS B n (N, 0, s, tk, to, 0, -1) = tok B n (spN B n (N, 0, s, tk, to, 0, -1)) (N, 0, s, tk, to, 0, -1) := fun s tk => goes_0 (p := (N, 0, s, tk, to, 0, -1)) (Int32.le_refl 0)
  rw [h, h]
  show tok B n (run (spP B n) n 0) _ = tok B n (run (spP B n) n 0) _
  exact tok_dep rfl rfl
/-! THE PARSER 9: the whole text -/
theorem ky.le {y lo l' : Nat} {σ τ : AH} (h : ky y lo σ τ) (k : l' ≤ lo) : ky y l' σ τ := ⟨h.1, fun a ha hy hs => h.2 a (Nat.lt_of_lt_of_le ha k) hy hs⟩
theorem LX.eq {y lo : Nat} {p1 p2 : PT} {σ τ : AH} {E : String} {q : Nat} (h : LX y lo p1 σ E q τ) (e : pca p2 = pca p1) : LX y lo p2 σ E q τ := by
  obtain ⟨h1, h2, h3, h4⟩ := h
  unfold pca at e
  exact ⟨h1, by show ¬ p2.2.2.2.2.2.1 ≤ 0; rw [e]; exact h2, by show τ.1 q = some (flwC p2.2.2.2.2.2.1 p2.2.2.2.2.2.2); rw [e]; exact h3, h4⟩
theorem LX.le {y lo l' : Nat} {p1 : PT} {σ τ : AH} {E : String} {q : Nat} (h : LX y lo p1 σ E q τ) (k : l' ≤ lo) : LX y l' p1 σ E q τ := ⟨h.1, h.2.1, h.2.2.1, h.2.2.2.le k⟩
theorem LX.to {y lo lw : Nat} {p1 p2 : PT} {σ σ' τ : AH} {E : String} {q : Nat} (h : LX y lw p1 σ' E q τ) (hl : lo ≤ lw) (k : ky y lo σ σ') (e : pca p2 = pca p1) : LX y lo p2 σ E q τ := ((h.le hl).tr k).eq e
theorem te_xn {B : AF} {n : Nat} {p q p1 p2 : PT} (eq : q = goesS B n p) (h : wordP B wLine q) (e1 : p1 = goesS B n q) (e2 : p2 = nuS B n 1 8 p1) (hf : ¬ pcd p2 ≤ 0) : pca (teS B n p) = pca p2 := by
  have e := te_e2 eq h e1 e2
  have h2 : pca (te2 B n p) = pca p2 := by rw [e]; rfl
  have h3 : ¬ pcd (te2 B n p) ≤ 0 := by rw [e]; exact hf
  exact (te_x2 h3).trans h2
theorem te_xw {B : AF} {n : Nat} {p q : PT} (eq : q = goesS B n p) (h : ¬ wordP B wLine q) : pca (teS B n p) = pca (fltS 1 q) := by
  have e := te_x0 eq h
  have h9 : ¬ pcd (fltS 1 q) ≤ 0 := flt_gt (c := 1) (by decide) q
  have e2 : pcd (te2 B n p) = pcd (fltS 1 q) := congrArg Prod.fst e
  have h3 : ¬ pcd (te2 B n p) ≤ 0 := by rw [e2]; exact h9
  exact (te_x2 h3).trans e
theorem le0_cnt {M : Int32} {c : Nat} (hM : M = nI c) (hc : c ≤ 100) (h : M ≤ 0) : M = 0 := by
  subst hM
  have h2 := (nI_lei (a := c) (b := 0) (by omega) (by decide)).mp h
  have : c = 0 := by omega
  rw [this]
  rfl
theorem GN.c173 {N N' : AF} (h : GN N) (k : ∀ j, j < 173 → N' j = N j) (h0 : ∃ x, x ≤ 1000000 ∧ N 0 = nI x) : GN N' := by
  obtain ⟨a, b, -⟩ := WN.cg (hb := 1000000) ⟨h.1, h.2.1, h0⟩ k
  have e7 : nN N' = nN N := by unfold nN; rw [k 7 (by decide)]
  exact ⟨a, b, fun n q1 q2 => by rw [e7] at q1; exact (k _ (by omega)).trans (h.2.2 n q1 q2)⟩
/-- the whole text was read -/
def TQ (g : GC) (y lo : Nat) (p' : PT) (σ : AH) : Option Value → AH → Prop := fun w τ => pcd p' = 0 ∧ (∃ W', w = some (.ref (wW W')) ∧ RW g τ W' p'.1 ∧ own lo W' p'.1) ∧ GN p'.1 ∧ ky y lo σ τ
theorem c_pInit {l : Launch} {g : GC} (σ : AH) (y x bf n : Nat) (S : Int32 → Nat) (B N : AF) (to : Int32) (hC : σ.1 y = some (.inr (.inl (2, [.int 0, .int 0, .int 0, .int 0, .null, .null, .null, .null])))) (hP : PB σ x bf B n) (hS : SRT g S) : AMet l g mX3_init 9 8 [.ref y, .ref x, .int (nI n)] σ (fun w τ => w = none ∧ PRW g τ y x bf S B n .null (goesS B n (N, 0, 0, 1, to, 0, -1)) ∧ kx y σ τ) (A_no) := by
  refine A_of rfl (by decide) (Nat.le_of_ble_eq_true rfl) (L0 := [(0, .ref y), (1, .ref x), (2, .int (nI n))]) rfl ?_
  refine A_wfh (fun wσ hgσ => ?_)
  have zσ : kx y σ σ := kx.rf
  obtain ⟨⟨bd, pe, ep, nv, dq, sv, ou, hX⟩, hBf, hn5, hby⟩ := id hP
  refine A_gok (fun hgk => ?_)
  obtain ⟨ae, hae, hes⟩ := litP24 hgk
  refine A_aload_n (i := 0) dX3_init_0 rfl rfl ?_
  refine A_aload_n (i := 1) dX3_init_1 rfl rfl ?_
  refine A_putfF cb_X3 hC 7 (Nat.le_of_ble_eq_true rfl) q691 rfl rfl rfl rfl rfl rfl (Nat.le_of_ble_eq_true rfl) dX3_init_2 ?_
  obtain ⟨σ1, eσ1⟩ : ∃ τ, τ = h_put σ y (.inr (.inl (2, [.int 0, .int 0, .int 0, .int 0, .null, .null, .null, .ref x]))) := ⟨_, rfl⟩
  refine A_st (σ' := σ1) eσ1.symm ?_
  have wσ1 : wfh σ1 := by rw [eσ1]; exact wσ.put hC
  have fσ1_0 : σ1.1 y = some (.inr (.inl (2, [.int 0, .int 0, .int 0, .int 0, .null, .null, .null, .ref x]))) := by rw [eσ1]; exact if_pos rfl
  have fσ1_1 : σ1.1 x = some (.inr (.inl (0, [.ref bf, .int bd, .int pe, .int ep, nv, .ref dq, .ref sv, .ref ou]))) := by rw [eσ1]; exact (hp_ne (ne_of (x := .inr (.inl (0, [.ref bf, .int bd, .int pe, .int ep, nv, .ref dq, .ref sv, .ref ou]))) (y := .inr (.inl (2, [.int 0, .int 0, .int 0, .int 0, .null, .null, .null, .null]))) hX hC (fun e8 => by simp at e8))).trans hX
  have fσ1_2 : σ1.1 bf = some (.inl (.byte, 500, .inl B)) := by rw [eσ1]; exact (hp_ne (ne_of (x := .inl (.byte, 500, .inl B)) (y := .inr (.inl (2, [.int 0, .int 0, .int 0, .int 0, .null, .null, .null, .null]))) hBf hC (fun e8 => by simp at e8))).trans hBf
  have zσ1 : kx y σ σ1 := by rw [eσ1]; exact zσ.put
  refine A_aload_n (i := 0) dX3_init_5 rfl rfl ?_
  refine A_objInit q410 q179 q180 dX3_init_6 (by decide) (Nat.le_of_ble_eq_true rfl) ?_
  refine A_aload_n (i := 0) dX3_init_9 rfl rfl ?_
  refine A_getsO hS.2.1 q411 rfl dX3_init_10 ?_
  refine A_putf cb_X3 fσ1_0 4 (Nat.le_of_ble_eq_true rfl) q688 rfl rfl rfl rfl (Nat.le_of_ble_eq_true rfl) dX3_init_13 ?_
  obtain ⟨σ2, eσ2⟩ : ∃ τ, τ = h_put σ1 y (.inr (.inl (2, [.int 0, .int 0, .int 0, .int 0, .ref (S 1), .null, .null, .ref x]))) := ⟨_, rfl⟩
  refine A_st (σ' := σ2) eσ2.symm ?_
  have wσ2 : wfh σ2 := by rw [eσ2]; exact wσ1.put fσ1_0
  have fσ2_0 : σ2.1 y = some (.inr (.inl (2, [.int 0, .int 0, .int 0, .int 0, .ref (S 1), .null, .null, .ref x]))) := by rw [eσ2]; exact if_pos rfl
  have fσ2_1 : σ2.1 x = some (.inr (.inl (0, [.ref bf, .int bd, .int pe, .int ep, nv, .ref dq, .ref sv, .ref ou]))) := by rw [eσ2]; exact (hp_ne (ne_of (x := .inr (.inl (0, [.ref bf, .int bd, .int pe, .int ep, nv, .ref dq, .ref sv, .ref ou]))) (y := .inr (.inl (2, [.int 0, .int 0, .int 0, .int 0, .null, .null, .null, .ref x]))) fσ1_1 fσ1_0 (fun e8 => by simp at e8))).trans fσ1_1
  have fσ2_2 : σ2.1 bf = some (.inl (.byte, 500, .inl B)) := by rw [eσ2]; exact (hp_ne (ne_of (x := .inl (.byte, 500, .inl B)) (y := .inr (.inl (2, [.int 0, .int 0, .int 0, .int 0, .null, .null, .null, .ref x]))) fσ1_2 fσ1_0 (fun e8 => by simp at e8))).trans fσ1_2
  have zσ2 : kx y σ σ2 := by rw [eσ2]; exact zσ1.put
  refine A_aload_n (i := 0) dX3_init_16 rfl rfl ?_
  refine A_ldcO hae dX3_init_17 ?_
  refine A_putf cb_X3 fσ2_0 5 (Nat.le_of_ble_eq_true rfl) q689 rfl rfl rfl rfl (Nat.le_of_ble_eq_true rfl) dX3_init_19 ?_
  obtain ⟨σ3, eσ3⟩ : ∃ τ, τ = h_put σ2 y (.inr (.inl (2, [.int 0, .int 0, .int 0, .int 0, .ref (S 1), .ref ae, .null, .ref x]))) := ⟨_, rfl⟩
  refine A_st (σ' := σ3) eσ3.symm ?_
  have wσ3 : wfh σ3 := by rw [eσ3]; exact wσ2.put fσ2_0
  have fσ3_0 : σ3.1 y = some (.inr (.inl (2, [.int 0, .int 0, .int 0, .int 0, .ref (S 1), .ref ae, .null, .ref x]))) := by rw [eσ3]; exact if_pos rfl
  have fσ3_1 : σ3.1 x = some (.inr (.inl (0, [.ref bf, .int bd, .int pe, .int ep, nv, .ref dq, .ref sv, .ref ou]))) := by rw [eσ3]; exact (hp_ne (ne_of (x := .inr (.inl (0, [.ref bf, .int bd, .int pe, .int ep, nv, .ref dq, .ref sv, .ref ou]))) (y := .inr (.inl (2, [.int 0, .int 0, .int 0, .int 0, .ref (S 1), .null, .null, .ref x]))) fσ2_1 fσ2_0 (fun e8 => by simp at e8))).trans fσ2_1
  have fσ3_2 : σ3.1 bf = some (.inl (.byte, 500, .inl B)) := by rw [eσ3]; exact (hp_ne (ne_of (x := .inl (.byte, 500, .inl B)) (y := .inr (.inl (2, [.int 0, .int 0, .int 0, .int 0, .ref (S 1), .null, .null, .ref x]))) fσ2_2 fσ2_0 (fun e8 => by simp at e8))).trans fσ2_2
  have zσ3 : kx y σ σ3 := by rw [eσ3]; exact zσ2.put
  refine A_aload_n (i := 0) dX3_init_22 rfl rfl ?_
  refine A_iload_n (i := 2) dX3_init_23 rfl rfl ?_
  refine A_putfF cb_X3 fσ3_0 0 (Nat.le_of_ble_eq_true rfl) q684 rfl rfl rfl rfl rfl rfl (Nat.le_of_ble_eq_true rfl) dX3_init_24 ?_
  obtain ⟨σ4, eσ4⟩ : ∃ τ, τ = h_put σ3 y (.inr (.inl (2, [.int (nI n), .int 0, .int 0, .int 0, .ref (S 1), .ref ae, .null, .ref x]))) := ⟨_, rfl⟩
  refine A_st (σ' := σ4) eσ4.symm ?_
  have wσ4 : wfh σ4 := by rw [eσ4]; exact wσ3.put fσ3_0
  have fσ4_0 : σ4.1 y = some (.inr (.inl (2, [.int (nI n), .int 0, .int 0, .int 0, .ref (S 1), .ref ae, .null, .ref x]))) := by rw [eσ4]; exact if_pos rfl
  have fσ4_1 : σ4.1 x = some (.inr (.inl (0, [.ref bf, .int bd, .int pe, .int ep, nv, .ref dq, .ref sv, .ref ou]))) := by rw [eσ4]; exact (hp_ne (ne_of (x := .inr (.inl (0, [.ref bf, .int bd, .int pe, .int ep, nv, .ref dq, .ref sv, .ref ou]))) (y := .inr (.inl (2, [.int 0, .int 0, .int 0, .int 0, .ref (S 1), .ref ae, .null, .ref x]))) fσ3_1 fσ3_0 (fun e8 => by simp at e8))).trans fσ3_1
  have fσ4_2 : σ4.1 bf = some (.inl (.byte, 500, .inl B)) := by rw [eσ4]; exact (hp_ne (ne_of (x := .inl (.byte, 500, .inl B)) (y := .inr (.inl (2, [.int 0, .int 0, .int 0, .int 0, .ref (S 1), .ref ae, .null, .ref x]))) fσ3_2 fσ3_0 (fun e8 => by simp at e8))).trans fσ3_2
  have zσ4 : kx y σ σ4 := by rw [eσ4]; exact zσ3.put
  refine A_aload_n (i := 0) dX3_init_27 rfl rfl ?_
  refine A_callV0 (b' := 0) (c_pStep σ4 y x bf n S .null B (N, 0, 0, 1, to, 0, -1) ⟨0, ae, fσ4_0, ⟨⟨bd, pe, ep, nv, dq, sv, ou, fσ4_1⟩, fσ4_2, hn5, hby⟩, (fun q => absurd (show (1 : Int32) = 3 from q) (by decide)), Or.inr (Or.inl rfl), Nat.zero_le _, Nat.le_refl _⟩ hS rfl) tX3_step q414 fσ4_0 rfl rfl dX3_init_28 (by decide) (Nat.le_of_ble_eq_true rfl) (Nat.le_of_ble_eq_true rfl) (fun w9 τ8 h8 => ?_) (fun E9 q9 τ9 h9 => h9.elim)
  obtain ⟨e8, hW8, k8⟩ := h8
  subst e8
  exact A_vret dX3_init_31 rfl (⟨rfl, hW8, zσ4.trx k8⟩)
theorem c_psB {l : Launch} {g : GC} (σ : AH) (y x bf n lo : Nat) (S : Int32 → Nat) (B : AF) (p q : PT) (u : List Int32) (h : PRW g σ y x bf S B n .null q) (hS : SRT g S) (hq : q = goesS B n p) (hp0 : pcd p = 0) (hZ : ∀ j, j < 173 → p.1 j = 0) (hl0 : lo ≤ σ.2) (hk2 : q.2.2.2.1 = 2) (hwd : wls B q.2.2.1 (q.2.1 - q.2.2.1) = u) (hnw : ¬ u = wLine) : AMet l g mX3_parse 47 40400 [.ref y] σ (TQ g y lo (teS B n p) σ) (LX y lo (teS B n p) σ) := by
  refine A_of rfl (by decide) (Nat.le_of_ble_eq_true rfl) (L0 := [(0, .ref y)]) rfl ?_
  refine A_wfh (fun wσ hgσ => ?_)
  have qσ : kl lo σ σ := kl.rf
  refine A_gok (fun hgk => ?_)
  have hl := hl0
  have hz0 : pcd q = 0 := by rw [hq]; exact goes_pcd hp0
  obtain ⟨v, wd, ⟨hC, ⟨⟨bd, pe, ep, nv, dq, sv, ou, hX⟩, hBf, hn5, hby⟩, hvv, htk, hcn, hsc⟩, hPW⟩ := id h
  obtain ⟨ac, hac, hsc9⟩ := litP241 hgk
  obtain ⟨_, hw6, hw0, va, hNS⟩ : q.2.2.2.1 = 2 ∧ q.2.1 - q.2.2.1 ≤ 6 ∧ 0 < q.2.1 - q.2.2.1 ∧ ∃ va, NST σ wd va 0 0 (wls B q.2.2.1 (q.2.1 - q.2.2.1)) := hPW.resolve_right (fun q9 => q9.1 hk2)
  rw [hwd] at hNS
  have hlu : (wls B q.2.2.1 (q.2.1 - q.2.2.1)).length = q.2.1 - q.2.2.1 := wls_len _ _ _
  rw [hwd] at hlu
  have hu6 : u.length < 2 ^ 31 := by rw [hlu]; exact Nat.lt_of_le_of_lt hw6 (by decide)
  refine A_aload_n (i := 0) dX3_parse_0 rfl rfl ?_
  refine A_aload_n (i := 0) dX3_parse_1 rfl rfl ?_
  refine A_getf cb_X3 hC 5 (Nat.le_of_ble_eq_true rfl) q689 rfl (v := .ref wd) rfl dX3_parse_2 ?_
  refine A_ldcO hac dX3_parse_5 ?_
  refine A_callV1E (b' := 40400) (v := some (.int (bi (u = wLine)))) (τ := σ) (c_strEq σ wd va ac 0 0 u wLine hNS hsc9 hu6 (by decide)) tJ4_equals q714 hNS.1 rfl rfl dX3_parse_7 (by decide) (Nat.le_of_ble_eq_true rfl) (Nat.le_of_ble_eq_true rfl) ?_
  refine A_int (w := 0) (bi_f hnw) ?_
  refine A_iconst (v := 1) dX3_parse_10 (by decide) ?_
  refine A_callV2 (b' := 0) (c_pChkNo σ y n q.2.1 q.2.2.1 x v (S q.2.2.2.1) wd .null 1 hC) tX3_check q722 hC rfl rfl dX3_parse_11 (by decide) (Nat.le_of_ble_eq_true rfl) (Nat.le_of_ble_eq_true rfl) (fun w9 τ9 h9 => h9.elim) (fun E9 q9 τ9 h9 => A_out rfl (LX.ck ky.rf hl0 h9 hz0 (by decide) (te_xw hq (fun q9 => hnw (hwd.symm.trans (word_eq q9))))))
theorem c_psC {l : Launch} {g : GC} (σ : AH) (y x bf n lo : Nat) (S : Int32 → Nat) (B : AF) (p q : PT) (va : Nat) (h : ∃ v wd, (σ.1 y = some (prsC n q.2.1 q.2.2.1 v (S q.2.2.2.1) wd .null x) ∧ PB σ x bf B n ∧ (q.2.2.2.1 = 3 → v = q.2.2.2.2.1) ∧ tk5 q.2.2.2.1 ∧ q.2.1 ≤ n ∧ q.2.2.1 ≤ q.2.1) ∧ NST σ wd va 0 0 []) (hS : SRT g S) (hq : q = goesS B n p) (hp0 : pcd p = 0) (hZ : ∀ j, j < 173 → p.1 j = 0) (hl0 : lo ≤ σ.2) (hk2 : ¬ q.2.2.2.1 = 2) : AMet l g mX3_parse 47 40400 [.ref y] σ (TQ g y lo (teS B n p) σ) (LX y lo (teS B n p) σ) := by
  refine A_of rfl (by decide) (Nat.le_of_ble_eq_true rfl) (L0 := [(0, .ref y)]) rfl ?_
  refine A_wfh (fun wσ hgσ => ?_)
  have qσ : kl lo σ σ := kl.rf
  refine A_gok (fun hgk => ?_)
  have hl := hl0
  have hz0 : pcd q = 0 := by rw [hq]; exact goes_pcd hp0
  obtain ⟨v, wd, ⟨hC, ⟨⟨bd, pe, ep, nv, dq, sv, ou, hX⟩, hBf, hn5, hby⟩, hvv, htk, hcn, hsc⟩, hPW⟩ := id h
  obtain ⟨ac, hac, hsc9⟩ := litP241 hgk
  refine A_aload_n (i := 0) dX3_parse_0 rfl rfl ?_
  refine A_aload_n (i := 0) dX3_parse_1 rfl rfl ?_
  refine A_getf cb_X3 hC 5 (Nat.le_of_ble_eq_true rfl) q689 rfl (v := .ref wd) rfl dX3_parse_2 ?_
  refine A_ldcO hac dX3_parse_5 ?_
  refine A_callV1E (b' := 40400) (v := some (.int (bi (([] : List Int32) = wLine)))) (τ := σ) (c_strEq σ wd va ac 0 0 [] wLine hPW hsc9 (by decide) (by decide)) tJ4_equals q714 hPW.1 rfl rfl dX3_parse_7 (by decide) (Nat.le_of_ble_eq_true rfl) (Nat.le_of_ble_eq_true rfl) ?_
  refine A_int (w := 0) (bi_f (by decide)) ?_
  refine A_iconst (v := 1) dX3_parse_10 (by decide) ?_
  refine A_callV2 (b' := 0) (c_pChkNo σ y n q.2.1 q.2.2.1 x v (S q.2.2.2.1) wd .null 1 hC) tX3_check q722 hC rfl rfl dX3_parse_11 (by decide) (Nat.le_of_ble_eq_true rfl) (Nat.le_of_ble_eq_true rfl) (fun w9 τ9 h9 => h9.elim) (fun E9 q9 τ9 h9 => A_out rfl (LX.ck ky.rf hl0 h9 hz0 (by decide) (te_xw hq (fun q9 => hk2 q9.1.2))))
theorem c_psD {l : Launch} {g : GC} (σ : AH) (y x bf n lo : Nat) (S : Int32 → Nat) (B : AF) (p q : PT) (h : ∃ v wd, (σ.1 y = some (prsC n q.2.1 q.2.2.1 v (S q.2.2.2.1) wd .null x) ∧ PB σ x bf B n ∧ (q.2.2.2.1 = 3 → v = q.2.2.2.2.1) ∧ tk5 q.2.2.2.1 ∧ q.2.1 ≤ n ∧ q.2.2.1 ≤ q.2.1) ∧ o_str g wd []) (hS : SRT g S) (hq : q = goesS B n p) (hp0 : pcd p = 0) (hZ : ∀ j, j < 173 → p.1 j = 0) (hl0 : lo ≤ σ.2) (hk2 : ¬ q.2.2.2.1 = 2) : AMet l g mX3_parse 47 40400 [.ref y] σ (TQ g y lo (teS B n p) σ) (LX y lo (teS B n p) σ) := by
  refine A_of rfl (by decide) (Nat.le_of_ble_eq_true rfl) (L0 := [(0, .ref y)]) rfl ?_
  refine A_wfh (fun wσ hgσ => ?_)
  have qσ : kl lo σ σ := kl.rf
  refine A_gok (fun hgk => ?_)
  have hl := hl0
  have hz0 : pcd q = 0 := by rw [hq]; exact goes_pcd hp0
  obtain ⟨v, wd, ⟨hC, ⟨⟨bd, pe, ep, nv, dq, sv, ou, hX⟩, hBf, hn5, hby⟩, hvv, htk, hcn, hsc⟩, hPW⟩ := id h
  obtain ⟨ac, hac, hsc9⟩ := litP241 hgk
  refine A_aload_n (i := 0) dX3_parse_0 rfl rfl ?_
  refine A_aload_n (i := 0) dX3_parse_1 rfl rfl ?_
  refine A_getf cb_X3 hC 5 (Nat.le_of_ble_eq_true rfl) q689 rfl (v := .ref wd) rfl dX3_parse_2 ?_
  refine A_ldcO hac dX3_parse_5 ?_
  refine A_callVO1E (b' := 40400) (v := some (.int 0)) (τ := σ) (c_strNo σ wd ac [] wLine hPW hsc9 (by decide)) tJ4_equals q714 hPW.choose_spec.1 dX3_parse_7 (by decide) (Nat.le_of_ble_eq_true rfl) (Nat.le_of_ble_eq_true rfl) ?_
  refine A_iconst (v := 1) dX3_parse_10 (by decide) ?_
  refine A_callV2 (b' := 0) (c_pChkNo σ y n q.2.1 q.2.2.1 x v (S q.2.2.2.1) wd .null 1 hC) tX3_check q722 hC rfl rfl dX3_parse_11 (by decide) (Nat.le_of_ble_eq_true rfl) (Nat.le_of_ble_eq_true rfl) (fun w9 τ9 h9 => h9.elim) (fun E9 q9 τ9 h9 => A_out rfl (LX.ck ky.rf hl0 h9 hz0 (by decide) (te_xw hq (fun q9 => hk2 q9.1.2))))
theorem c_psA {l : Launch} {g : GC} (σ : AH) (y x bf n lo : Nat) (S : Int32 → Nat) (B : AF) (p q : PT) (h : PRW g σ y x bf S B n .null q) (hS : SRT g S) (hq : q = goesS B n p) (hp0 : pcd p = 0) (hZ : ∀ j, j < 173 → p.1 j = 0) (hl0 : lo ≤ σ.2) (hk2 : q.2.2.2.1 = 2) (hwd : wls B q.2.2.1 (q.2.1 - q.2.2.1) = wLine) : AMet l g mX3_parse 47 40400 [.ref y] σ (TQ g y lo (teS B n p) σ) (LX y lo (teS B n p) σ) := by
  refine A_of rfl (by decide) (Nat.le_of_ble_eq_true rfl) (L0 := [(0, .ref y)]) rfl ?_
  refine A_wfh (fun wσ hgσ => ?_)
  have qσ : kl lo σ σ := kl.rf
  refine A_gok (fun hgk => ?_)
  have hl := hl0
  have hz0 : pcd q = 0 := by rw [hq]; exact goes_pcd hp0
  obtain ⟨v, wd, ⟨hC, ⟨⟨bd, pe, ep, nv, dq, sv, ou, hX⟩, hBf, hn5, hby⟩, hvv, htk, hcn, hsc⟩, hPW⟩ := id h
  obtain ⟨ac, hac, hsc9⟩ := litP241 hgk
  obtain ⟨_, hw6, hw0, va, hNS⟩ : q.2.2.2.1 = 2 ∧ q.2.1 - q.2.2.1 ≤ 6 ∧ 0 < q.2.1 - q.2.2.1 ∧ ∃ va, NST σ wd va 0 0 (wls B q.2.2.1 (q.2.1 - q.2.2.1)) := hPW.resolve_right (fun q9 => q9.1 hk2)
  rw [hwd] at hNS
  refine A_aload_n (i := 0) dX3_parse_0 rfl rfl ?_
  refine A_aload_n (i := 0) dX3_parse_1 rfl rfl ?_
  refine A_getf cb_X3 hC 5 (Nat.le_of_ble_eq_true rfl) q689 rfl (v := .ref wd) rfl dX3_parse_2 ?_
  refine A_ldcO hac dX3_parse_5 ?_
  refine A_callV1E (b' := 40400) (v := some (.int (bi (wLine = wLine)))) (τ := σ) (c_strEq σ wd va ac 0 0 wLine wLine hNS hsc9 (by decide) (by decide)) tJ4_equals q714 hNS.1 rfl rfl dX3_parse_7 (by decide) (Nat.le_of_ble_eq_true rfl) (Nat.le_of_ble_eq_true rfl) ?_
  refine A_int (w := 1) (bi_t rfl) ?_
  refine A_iconst (v := 1) dX3_parse_10 (by decide) ?_
  refine A_callV2E (b' := 40400) (v := none) (τ := σ) (c_pChk σ y 1) tX3_check q722 hC rfl rfl dX3_parse_11 (by decide) (Nat.le_of_ble_eq_true rfl) (Nat.le_of_ble_eq_true rfl) ?_
  refine A_aload_n (i := 0) dX3_parse_14 rfl rfl ?_
  refine A_callV0 (b' := 40392) (c_pStep σ y x bf n S .null B q (⟨v, wd, hC, ⟨⟨bd, pe, ep, nv, dq, sv, ou, hX⟩, hBf, hn5, hby⟩, hvv, htk, hcn, hsc⟩) hS hz0) tX3_step q414 hC rfl rfl dX3_parse_15 (by decide) (Nat.le_of_ble_eq_true rfl) (Nat.le_of_ble_eq_true rfl) (fun w9 τs1 hs1 => ?_) (fun E9 q9 τ9 h9 => h9.elim)
  obtain ⟨e8, hWτs1, kτs1⟩ := hs1
  subst e8
  obtain ⟨p1, e1⟩ : ∃ q9, q9 = goesS B n q := ⟨_, rfl⟩
  rw [← e1] at hWτs1
  have z0_1 : pcd p1 = 0 := by rw [e1]; exact goes_pcd hz0
  refine A_wfh (fun wτs1 hgτs1 => ?_)
  have kyτs1 : ky y lo σ τs1 := ky.rf.kx kτs1 hl0
  have hl : lo ≤ τs1.2 := Nat.le_trans hl0 kyτs1.1
  have qτs1 : kl lo τs1 τs1 := kl.rf
  obtain ⟨v_1, wd_1, ⟨hC_1, ⟨⟨bd_1, pe_1, ep_1, nv_1, dq_1, sv_1, ou_1, hX_1⟩, hBf_1, hn5_1, hby_1⟩, hvv_1, htk_1, hcn_1, hsc_1⟩, hPW_1⟩ := id hWτs1
  refine A_aload_n (i := 0) dX3_parse_18 rfl rfl ?_
  refine A_new (b' := 40388) (u := 4) cb_X5 q754 q755 q159 (fs := [.int 0, .null, .null, .null, .null, .null, .int 0, .int 0, .int 0, .int 0, .int 0, .int 0, .int 0, .int 0, .int 0]) (by intro j hj; rcases j with _ | j; exact rfl; rcases j with _ | j; exact rfl; rcases j with _ | j; exact rfl; rcases j with _ | j; exact rfl; rcases j with _ | j; exact rfl; rcases j with _ | j; exact rfl; rcases j with _ | j; exact rfl; rcases j with _ | j; exact rfl; rcases j with _ | j; exact rfl; rcases j with _ | j; exact rfl; rcases j with _ | j; exact rfl; rcases j with _ | j; exact rfl; rcases j with _ | j; exact rfl; rcases j with _ | j; exact rfl; rcases j with _ | j; exact rfl; omega) (Nat.le_of_ble_eq_true rfl) ⟨Nat.le_of_ble_eq_true rfl, Nat.le_of_ble_eq_true rfl⟩ dX3_parse_19 ?_
  obtain ⟨σ1, eσ1⟩ : ∃ τ, τ = h_new τs1 (.inr (.inl (4, [.int 0, .null, .null, .null, .null, .null, .int 0, .int 0, .int 0, .int 0, .int 0, .int 0, .int 0, .int 0, .int 0]))) := ⟨_, rfl⟩
  refine A_st (σ' := σ1) eσ1.symm ?_
  have wσ1 : wfh σ1 := by rw [eσ1]; exact wτs1.new
  have fσ1_0 : σ1.1 y = some (.inr (.inl (2, [.int (nI n), .int (nI p1.2.1), .int (nI p1.2.2.1), .int v_1, .ref (S p1.2.2.2.1), .ref wd_1, .null, .ref x]))) := by rw [eσ1]; exact (hn_ne (Nat.ne_of_lt (wτs1 _ _ hC_1))).trans hC_1
  have fσ1_1 : σ1.1 x = some (.inr (.inl (0, [.ref bf, .int bd_1, .int pe_1, .int ep_1, nv_1, .ref dq_1, .ref sv_1, .ref ou_1]))) := by rw [eσ1]; exact (hn_ne (Nat.ne_of_lt (wτs1 _ _ hX_1))).trans hX_1
  have fσ1_2 : σ1.1 bf = some (.inl (.byte, 500, .inl B)) := by rw [eσ1]; exact (hn_ne (Nat.ne_of_lt (wτs1 _ _ hBf_1))).trans hBf_1
  have fσ1_3 : σ1.1 τs1.2 = some (.inr (.inl (4, [.int 0, .null, .null, .null, .null, .null, .int 0, .int 0, .int 0, .int 0, .int 0, .int 0, .int 0, .int 0, .int 0]))) := by rw [eσ1]; exact if_pos rfl
  have xσ1 : ext τs1 σ1 := by rw [eσ1]; exact ext_new _ _
  have qσ1 : kl lo τs1 σ1 := by rw [eσ1]; exact qτs1.new hl
  refine A_dup dX3_parse_22 rfl ?_
  refine A_aload_n (i := 0) dX3_parse_23 rfl rfl ?_
  refine A_iconst (v := 1) dX3_parse_24 (by decide) ?_
  refine A_bipush (v := 8) dX3_parse_25 (by decide) ?_
  refine A_callV2 (b' := 40378) (c_pNum σ1 y x bf n S .null B p1 1 8 (⟨v_1, wd_1, fσ1_0, ⟨⟨bd_1, pe_1, ep_1, nv_1, dq_1, sv_1, ou_1, fσ1_1⟩, fσ1_2, hn5_1, hby_1⟩, hvv_1, htk_1, hcn_1, hsc_1⟩) hS z0_1) tX3_number q756 fσ1_0 rfl rfl dX3_parse_27 (by decide) (Nat.le_of_ble_eq_true rfl) (Nat.le_of_ble_eq_true rfl) (fun w9 τs2 hs2 => ?_) (fun E9 q9 τ9 h9 => A_out rfl (LX.of (kyτs1.kl qσ1) hl0 h9 (te_xn hq (word_of ⟨hz0, hk2⟩ hwd) e1 rfl h9.2.1)))
  obtain ⟨hc9, e9, hWτs2, kτs2⟩ := hs2
  have in9_2 := (nu_in hc9).1
  subst e9
  have hc9_2 := hc9
  obtain ⟨p2, e2⟩ : ∃ q9, q9 = nuS B n 1 8 p1 := ⟨_, rfl⟩
  rw [← e2] at hWτs2
  have z0_2 : pcd p2 = 0 := by rw [e2]; exact hc9
  refine A_wfh (fun wτs2 hgτs2 => ?_)
  have kyτs2 : ky y lo σ τs2 := (kyτs1.kl qσ1).kx kτs2 hl0
  have hl : lo ≤ τs2.2 := Nat.le_trans hl0 kyτs2.1
  have qτs2 : kl lo τs2 τs2 := kl.rf
  obtain ⟨v_2, wd_2, ⟨hC_2, ⟨⟨bd_2, pe_2, ep_2, nv_2, dq_2, sv_2, ou_2, hX_2⟩, hBf_2, hn5_2, hby_2⟩, hvv_2, htk_2, hcn_2, hsc_2⟩, hPW_2⟩ := id hWτs2
  have mτs2_τs1_2 : τs2.1 τs1.2 = some (.inr (.inl (4, [.int 0, .null, .null, .null, .null, .null, .int 0, .int 0, .int 0, .int 0, .int 0, .int 0, .int 0, .int 0, .int 0]))) := kτs2.at wσ1 fσ1_3 (ne_of fσ1_3 fσ1_0 (fun q => by simp at q))
  refine A_callI1 (b' := 40367) (c_wNew τs2 τs1.2 (nhV 1 8 p1) mτs2_τs1_2) tX5_init q764 dX3_parse_30 (by decide) (Nat.le_of_ble_eq_true rfl) (Nat.le_of_ble_eq_true rfl) (fun w9 τw hw => ?_) (fun E9 q9 τ9 h9 => h9.elim)
  obtain ⟨e9, kw9, R9, M9, NL9, NA9, FL9, FA9, UN9, ho9, hr9⟩ := hw
  subst e9
  refine A_wfh (fun wτw hgτw => ?_)
  obtain ⟨lw, elw⟩ : ∃ z, z = τs1.2 := ⟨_, rfl⟩
  have hlw2 : lw ≤ τs2.2 := by rw [elw]; exact Nat.le_trans qσ1.1 kτs2.1
  obtain ⟨W, hWw, hRW0, hOW0⟩ : ∃ W : WA, wW W = τs1.2 ∧ RW g τw W (newN (nhV 1 8 p1)) ∧ own lw W (newN (nhV 1 8 p1)) := ⟨(τs1.2, R9, M9, NL9, NA9, FL9, FA9, UN9, fun _ => 0, fun _ => 0, fun _ => 0), rfl, hr9 _ _ _, by obtain ⟨o1, o2, o3, o4, o5, o6⟩ := ho9 (fun _ => 0) (fun _ => 0) (fun _ => 0); exact ⟨Nat.le_of_eq elw, Nat.le_trans hlw2 o1, Nat.le_trans hlw2 o2, Nat.le_trans hlw2 o3, Nat.le_trans hlw2 o4, Nat.le_trans hlw2 o5, Nat.le_trans hlw2 o6, fun f hf => absurd hf (Nat.not_lt_zero _), fun f hf => absurd hf (Nat.not_lt_zero _)⟩⟩
  have qτw : kl lo τs2 τw := kw9.kl hl (Nat.le_trans hl0 kyτs1.1)
  have gyw : τw.1 y = some (.inr (.inl (2, [.int (nI n), .int (nI p2.2.1), .int (nI p2.2.2.1), .int v_2, .ref (S p2.2.2.2.1), .ref wd_2, .null, .ref x]))) := kw9.at wτs2 hC_2 (ne_of hC_2 mτs2_τs1_2 (fun q => by simp at q))
  have gxw : τw.1 x = some (.inr (.inl (0, [.ref bf, .int bd_2, .int pe_2, .int ep_2, nv_2, .ref dq_2, .ref sv_2, .ref ou_2]))) := kw9.at wτs2 hX_2 (ne_of hX_2 mτs2_τs1_2 (fun q => by simp at q))
  have gbfw : τw.1 bf = some (.inl (.byte, 500, .inl B)) := kw9.at wτs2 hBf_2 (ne_of hBf_2 mτs2_τs1_2 (fun q => by simp at q))
  have hlo : lo ≤ lw := by rw [elw]; exact Nat.le_trans hl0 kyτs1.1
  have hyw : y < lw := by rw [elw]; exact wτs1 _ _ hC_1
  have hxw : x < lw := by rw [elw]; exact wτs1 _ _ hX_1
  have hbw : bf < lw := by rw [elw]; exact wτs1 _ _ hBf_1
  rw [← hWw]
  refine A_putf cb_X3 gyw 6 (Nat.le_of_ble_eq_true rfl) q690 rfl rfl rfl rfl (Nat.le_of_ble_eq_true rfl) dX3_parse_33 ?_
  obtain ⟨σ2, eσ2⟩ : ∃ τ, τ = h_put τw y (.inr (.inl (2, [.int (nI n), .int (nI p2.2.1), .int (nI p2.2.2.1), .int v_2, .ref (S p2.2.2.2.1), .ref wd_2, .ref (wW W), .ref x]))) := ⟨_, rfl⟩
  refine A_st (σ' := σ2) eσ2.symm ?_
  have wσ2 : wfh σ2 := by rw [eσ2]; exact wτw.put gyw
  have fσ2_0 : σ2.1 y = some (.inr (.inl (2, [.int (nI n), .int (nI p2.2.1), .int (nI p2.2.2.1), .int v_2, .ref (S p2.2.2.2.1), .ref wd_2, .ref (wW W), .ref x]))) := by rw [eσ2]; exact if_pos rfl
  have fσ2_1 : σ2.1 x = some (.inr (.inl (0, [.ref bf, .int bd_2, .int pe_2, .int ep_2, nv_2, .ref dq_2, .ref sv_2, .ref ou_2]))) := by rw [eσ2]; exact (hp_ne (ne_of (x := .inr (.inl (0, [.ref bf, .int bd_2, .int pe_2, .int ep_2, nv_2, .ref dq_2, .ref sv_2, .ref ou_2]))) (y := .inr (.inl (2, [.int (nI n), .int (nI p2.2.1), .int (nI p2.2.2.1), .int v_2, .ref (S p2.2.2.2.1), .ref wd_2, .null, .ref x]))) gxw gyw (fun e8 => by simp at e8))).trans gxw
  have fσ2_2 : σ2.1 bf = some (.inl (.byte, 500, .inl B)) := by rw [eσ2]; exact (hp_ne (ne_of (x := .inl (.byte, 500, .inl B)) (y := .inr (.inl (2, [.int (nI n), .int (nI p2.2.1), .int (nI p2.2.2.1), .int v_2, .ref (S p2.2.2.2.1), .ref wd_2, .null, .ref x]))) gbfw gyw (fun e8 => by simp at e8))).trans gbfw
  have hwL : wordP B wLine q := word_of ⟨hz0, hk2⟩ hwd
  have h2t : te2 B n p = pN (va_up p2.1 9 (nhV 1 8 p1)) p2 := te_e2 hq hwL e1 e2
  have hp2 : p2.1 = p.1 := by rw [e2, nu_1, e1, goes_1, hq, goes_1]
  have hRm : RW g σ2 W (newN (nhV 1 8 p1)) := hRW0.oth wτw gyw (isW_no (by decide)) (by rw [eσ2]; exact kx.rf.put)
  have hG0 : GN (newN (nhV 1 8 p1)) := GN_new in9_2
  have hc9 : ∀ j, j < 173 → (va_up p2.1 9 (nhV 1 8 p1)) j = newN (nhV 1 8 p1) j := fun j hj => by
    by_cases c9 : j = 9
    · subst c9; rfl
    · rw [va_up_ne _ _ c9, hp2, hZ j hj]; exact (if_neg c9).symm
  have hkm : ky y lo σ σ2 := (kyτs2.kl qτw).kx (by rw [eσ2]; exact kx.rf.put) hl0
  have hok2 : pOK n (te2 B n p) := by rw [h2t]; exact ⟨hcn_2, hsc_2, by rw [show (pN (va_up p2.1 9 (nhV 1 8 p1)) p2).2.2.2.2.2.1 = 0 from z0_2]; decide, (hG0.c173 hc9 ⟨0, by decide, rfl⟩).1.1⟩
  have hlk : liK B n (te2 B n p) ≤ 251 := liK_le hok2 hn5_2
  refine A_less (b' := ((liK B n (te2 B n p)) - 0) * 160 + 4) (by omega) ?_
  refine A_sub (L' := [(0, .ref y)]) ⟨rfl, trivial⟩ ?_
  refine A_forP (α := AH) (liK B n (te2 B n p)) (fun i36 _ => ((liK B n (te2 B n p)) - i36) * 160 + 4) (fun i36 _ => [(0, .ref y)]) (fun _ τ36 => τ36) (fun i36 τ36 => pcd (liU B n (te2 B n p) i36) = 0 ∧ (∃ W9, RW g τ36 W9 (liU B n (te2 B n p) i36).1 ∧ own lw W9 (liU B n (te2 B n p) i36).1 ∧ PR τ36 y x bf S B n (.ref (wW W9)) (liU B n (te2 B n p) i36)) ∧ GN (liU B n (te2 B n p) i36).1 ∧ ky y lo σ τ36 ∧ lw ≤ τ36.2) σ2 (⟨by rw [liU_0, h2t]; exact z0_2, ⟨W, by rw [liU_0, h2t]; exact hRm.cg hG0.1.1 hc9, by rw [liU_0, h2t]; exact hOW0.up (by unfold nN; rw [show (pN (va_up p2.1 9 (nhV 1 8 p1)) p2).1 7 = newN (nhV 1 8 p1) 7 from hc9 7 (by decide)]) (by unfold nF; rw [show (pN (va_up p2.1 9 (nhV 1 8 p1)) p2).1 10 = newN (nhV 1 8 p1) 10 from hc9 10 (by decide)]), by rw [liU_0, h2t]; exact ⟨v_2, wd_2, fσ2_0, ⟨⟨bd_2, pe_2, ep_2, nv_2, dq_2, sv_2, ou_2, fσ2_1⟩, fσ2_2, hn5_2, hby_2⟩, hvv_2, htk_2, hcn_2, hsc_2⟩⟩, by rw [liU_0, h2t]; exact hG0.c173 hc9 ⟨0, by decide, rfl⟩, hkm, Nat.le_trans hlw2 (Nat.le_trans kw9.1 (by rw [eσ2]; exact Nat.le_refl _))⟩) (fun i36 τ36 hi36 hI36 ih36 => ?_) (fun τ36 hI36 => ?_)
  · skip
    refine A_less (b' := ((liK B n (te2 B n p)) - (i36 + 1)) * 160 + 4 + 160) (by omega) ?_
    obtain ⟨z0_u, ⟨W9, hR_u, hO_u, hP_u⟩, hG_u, ky_u, hlwu⟩ := hI36
    refine A_wfh (fun wτ36 hgτ36 => ?_)
    obtain ⟨u, eu⟩ : ∃ z, z = liU B n (te2 B n p) i36 := ⟨_, rfl⟩
    rw [← eu] at z0_u hR_u hO_u hP_u hG_u
    have hl : lo ≤ τ36.2 := Nat.le_trans hl0 ky_u.1
    have qτ36 : kl lo τ36 τ36 := kl.rf
    obtain ⟨v_u, wd_u, hC_u, ⟨⟨bd_u, pe_u, ep_u, nv_u, dq_u, sv_u, ou_u, hX_u⟩, hBf_u, hn5_u, hby_u⟩, hvv_u, htk_u, hcn_u, hsc_u⟩ := id hP_u
    have hD := hG_u.1
    have hW := hD.1
    have hF12 : nF u.1 ≤ 12 := hW.2.2.2.2.2
    have hN4 : nN u.1 ≤ 4 := hW.2.1.2
    have hC6 : nC u.1 ≤ 6 := hW.1.2
    have hT3 : nT u.1 ≤ 3 := hW.2.2.1.2
    have hP8 : nP u.1 ≤ 8 := hW.2.2.2.1.2
    have hRc := hR_u
    obtain ⟨h1_u, ⟨fr_u, h2_u, h2p_u⟩, ⟨fm_u, h3_u, h3p_u⟩, ⟨mcn_u, fnA_u, h4_u, h4p_u, h4q_u⟩, ⟨mcf_u, ffA_u, h5_u, h5p_u, h5q_u⟩, ⟨fu_u, h6_u, h6p_u⟩, h7_u, h8_u, h9_u, h10_u, h11_u⟩ := hRc
    have fτ36_u_0 : τ36.1 (wW W9) = some (.inr (.inl (4, [.int (u.1 9), .ref (wR W9), .ref (wM W9), .ref (wNL W9), .ref (wFL W9), .ref (wUN W9), .int (u.1 6), .int (u.1 8), .int (u.1 0), .int (u.1 1), .int (u.1 2), .int (u.1 3), .int (u.1 4), .int (u.1 5), .int (u.1 11)]))) := h1_u
    have fτ36_u_1 : τ36.1 (wFL W9) = some (.inr (.inl (14, [.int mcf_u, .ref (wFA W9), .int (nI (nF u.1))]))) := h5_u
    have fτ36_u_2 : τ36.1 (wFA W9) = some (.inl (.object "java/lang/Object", 12, .inr (.inr (.inr (.inr ffA_u))))) := h5p_u
    have fτ36_u_3 : τ36.1 (wNL W9) = some (.inr (.inl (14, [.int mcn_u, .ref (wNA W9), .int (nI (nN u.1))]))) := h4_u
    have fτ36_u_4 : τ36.1 (wNA W9) = some (.inl (.object "java/lang/Object", 4, .inr (.inr (.inr (.inr fnA_u))))) := h4p_u
    have fτ36_u_5 : τ36.1 (wR W9) = some (.inl (.int, 6, .inl fr_u)) := h2_u
    have fτ36_u_6 : τ36.1 (wM W9) = some (.inl (.int, 3, .inl fm_u)) := h3_u
    have fτ36_u_7 : τ36.1 (wUN W9) = some (.inl (.object "FlagLaundry$Test", 7, .inr (.inr (.inr (.inr fu_u))))) := h6_u
    refine A_aload_n (i := 0) dX3_parse_36 rfl rfl ?_
    have hyes : u.2.2.2.1 = 4 := by rw [eu]; exact (li_in hi36).2
    refine A_getf cb_X3 hC_u 4 (Nat.le_of_ble_eq_true rfl) q688 rfl (v := .ref (S u.2.2.2.1)) rfl dX3_parse_37 ?_
    refine A_getsO hS.2.2.2.2.1 q682 rfl dX3_parse_40 ?_
    refine A_acmp_ne_f (tgt := 57) (x := (some (S u.2.2.2.1))) (y := (some (S 4))) dX3_parse_43 (by decide) (by rw [hyes]) ?_
    refine A_aload_n (i := 0) dX3_parse_46 rfl rfl ?_
    refine A_callV0 (b' := ((liK B n (te2 B n p)) - (i36 + 1)) * 160 + 4 + 152) (c_pStep τ36 y x bf n S (.ref (wW W9)) B u (⟨v_u, wd_u, hC_u, ⟨⟨bd_u, pe_u, ep_u, nv_u, dq_u, sv_u, ou_u, hX_u⟩, hBf_u, hn5_u, hby_u⟩, hvv_u, htk_u, hcn_u, hsc_u⟩) hS z0_u) tX3_step q414 hC_u rfl rfl dX3_parse_47 (by decide) (by omega) (Nat.le_of_ble_eq_true rfl) (fun w9 τs3 hs3 => ?_) (fun E9 q9 τ9 h9 => h9.elim)
    obtain ⟨e8, hWτs3, kτs3⟩ := hs3
    subst e8
    obtain ⟨p3, e3⟩ : ∃ q9, q9 = goesS B n u := ⟨_, rfl⟩
    rw [← e3] at hWτs3
    have z0_3 : pcd p3 = 0 := by rw [e3]; exact goes_pcd z0_u
    have n9_3 : p3.1 = u.1 := by rw [e3, goes_1] <;> exact rfl
    refine A_wfh (fun wτs3 hgτs3 => ?_)
    have kyτs3 : ky y lo σ τs3 := ky_u.kx kτs3 hl0
    have hl : lo ≤ τs3.2 := Nat.le_trans hl0 kyτs3.1
    have qτs3 : kl lo τs3 τs3 := kl.rf
    have hRlτs3 : RW g τs3 W9 u.1 := hR_u.oth wτ36 hC_u (isW_no (by decide)) kτs3
    obtain ⟨v_3, wd_3, ⟨hC_3, ⟨⟨bd_3, pe_3, ep_3, nv_3, dq_3, sv_3, ou_3, hX_3⟩, hBf_3, hn5_3, hby_3⟩, hvv_3, htk_3, hcn_3, hsc_3⟩, hPW_3⟩ := id hWτs3
    have hRc := hRlτs3
    obtain ⟨h1_3, ⟨fr_3, h2_3, h2p_3⟩, ⟨fm_3, h3_3, h3p_3⟩, ⟨mcn_3, fnA_3, h4_3, h4p_3, h4q_3⟩, ⟨mcf_3, ffA_3, h5_3, h5p_3, h5q_3⟩, ⟨fu_3, h6_3, h6p_3⟩, h7_3, h8_3, h9_3, h10_3, h11_3⟩ := hRc
    have fτs3_3_0 : τs3.1 (wW W9) = some (.inr (.inl (4, [.int (u.1 9), .ref (wR W9), .ref (wM W9), .ref (wNL W9), .ref (wFL W9), .ref (wUN W9), .int (u.1 6), .int (u.1 8), .int (u.1 0), .int (u.1 1), .int (u.1 2), .int (u.1 3), .int (u.1 4), .int (u.1 5), .int (u.1 11)]))) := h1_3
    have fτs3_3_1 : τs3.1 (wFL W9) = some (.inr (.inl (14, [.int mcf_3, .ref (wFA W9), .int (nI (nF u.1))]))) := h5_3
    have fτs3_3_2 : τs3.1 (wFA W9) = some (.inl (.object "java/lang/Object", 12, .inr (.inr (.inr (.inr ffA_3))))) := h5p_3
    have fτs3_3_3 : τs3.1 (wNL W9) = some (.inr (.inl (14, [.int mcn_3, .ref (wNA W9), .int (nI (nN u.1))]))) := h4_3
    have fτs3_3_4 : τs3.1 (wNA W9) = some (.inl (.object "java/lang/Object", 4, .inr (.inr (.inr (.inr fnA_3))))) := h4p_3
    have fτs3_3_5 : τs3.1 (wR W9) = some (.inl (.int, 6, .inl fr_3)) := h2_3
    have fτs3_3_6 : τs3.1 (wM W9) = some (.inl (.int, 3, .inl fm_3)) := h3_3
    have fτs3_3_7 : τs3.1 (wUN W9) = some (.inl (.object "FlagLaundry$Test", 7, .inr (.inr (.inr (.inr fu_3))))) := h6_3
    refine A_aload_n (i := 0) dX3_parse_50 rfl rfl ?_
    refine A_callV0 (b' := ((liK B n (te2 B n p)) - (i36 + 1)) * 160 + 4 + 2) (c_pLine τs3 y x bf n lw S W9 B u.1 p3 (by exact hWτs3) hS z0_3 n9_3 hRlτs3 hO_u hG_u (Nat.le_trans hlwu kτs3.1) hyw hxw hbw) tX3_line q889 hC_3 rfl rfl dX3_parse_51 (by decide) (by omega) (Nat.le_of_ble_eq_true rfl) (fun w9 τlq hlq => ?_) (fun E9 q9 τ9 h9 => A_out rfl (h9.to hlo kyτs3 ((te_x3 hi36 (by rw [liU_s, ← eu, ← e3]; exact h9.2.1)).trans (by rw [liU_s, ← eu, ← e3]))))
    have e9 := hlq.1
    subst e9
    refine A_goto (tgt := 36) dX3_parse_54 (by decide) ?_
    refine A_less (b' := ((liK B n (te2 B n p)) - (i36 + 1)) * 160 + 4) (by omega) ?_
    refine A_sub (L' := [(0, .ref y)]) ⟨rfl, trivial⟩ ?_
    exact ih36 τlq (by obtain ⟨_, l2, l3, ⟨W2, l4, l5, l6⟩, l7, l8⟩ := hlq; rw [← l4] at l3; rw [liU_s, ← eu, ← e3]; exact ⟨l2, ⟨W2, l5, l6, l3⟩, l7, kyτs3.tr (l8.le hlo), Nat.le_trans hlwu (Nat.le_trans kτs3.1 l8.1)⟩)
  · skip
    refine A_less (b' := 4) (by omega) ?_
    obtain ⟨z0_u, ⟨W9, hR_u, hO_u, hP_u⟩, hG_u, ky_u, hlwu⟩ := hI36
    refine A_wfh (fun wτ36 hgτ36 => ?_)
    obtain ⟨u, eu⟩ : ∃ z, z = liU B n (te2 B n p) (liK B n (te2 B n p)) := ⟨_, rfl⟩
    rw [← eu] at z0_u hR_u hO_u hP_u hG_u
    have hl : lo ≤ τ36.2 := Nat.le_trans hl0 ky_u.1
    have qτ36 : kl lo τ36 τ36 := kl.rf
    obtain ⟨v_u, wd_u, hC_u, ⟨⟨bd_u, pe_u, ep_u, nv_u, dq_u, sv_u, ou_u, hX_u⟩, hBf_u, hn5_u, hby_u⟩, hvv_u, htk_u, hcn_u, hsc_u⟩ := id hP_u
    have hD := hG_u.1
    have hW := hD.1
    have hF12 : nF u.1 ≤ 12 := hW.2.2.2.2.2
    have hN4 : nN u.1 ≤ 4 := hW.2.1.2
    have hC6 : nC u.1 ≤ 6 := hW.1.2
    have hT3 : nT u.1 ≤ 3 := hW.2.2.1.2
    have hP8 : nP u.1 ≤ 8 := hW.2.2.2.1.2
    have hRc := hR_u
    obtain ⟨h1_u, ⟨fr_u, h2_u, h2p_u⟩, ⟨fm_u, h3_u, h3p_u⟩, ⟨mcn_u, fnA_u, h4_u, h4p_u, h4q_u⟩, ⟨mcf_u, ffA_u, h5_u, h5p_u, h5q_u⟩, ⟨fu_u, h6_u, h6p_u⟩, h7_u, h8_u, h9_u, h10_u, h11_u⟩ := hRc
    have fτ36_u_0 : τ36.1 (wW W9) = some (.inr (.inl (4, [.int (u.1 9), .ref (wR W9), .ref (wM W9), .ref (wNL W9), .ref (wFL W9), .ref (wUN W9), .int (u.1 6), .int (u.1 8), .int (u.1 0), .int (u.1 1), .int (u.1 2), .int (u.1 3), .int (u.1 4), .int (u.1 5), .int (u.1 11)]))) := h1_u
    have fτ36_u_1 : τ36.1 (wFL W9) = some (.inr (.inl (14, [.int mcf_u, .ref (wFA W9), .int (nI (nF u.1))]))) := h5_u
    have fτ36_u_2 : τ36.1 (wFA W9) = some (.inl (.object "java/lang/Object", 12, .inr (.inr (.inr (.inr ffA_u))))) := h5p_u
    have fτ36_u_3 : τ36.1 (wNL W9) = some (.inr (.inl (14, [.int mcn_u, .ref (wNA W9), .int (nI (nN u.1))]))) := h4_u
    have fτ36_u_4 : τ36.1 (wNA W9) = some (.inl (.object "java/lang/Object", 4, .inr (.inr (.inr (.inr fnA_u))))) := h4p_u
    have fτ36_u_5 : τ36.1 (wR W9) = some (.inl (.int, 6, .inl fr_u)) := h2_u
    have fτ36_u_6 : τ36.1 (wM W9) = some (.inl (.int, 3, .inl fm_u)) := h3_u
    have fτ36_u_7 : τ36.1 (wUN W9) = some (.inl (.object "FlagLaundry$Test", 7, .inr (.inr (.inr (.inr fu_u))))) := h6_u
    refine A_aload_n (i := 0) dX3_parse_36 rfl rfl ?_
    have hno : ¬ u.2.2.2.1 = 4 := fun hh => li_out hok2 (by rw [← eu]; exact ⟨z0_u, hh⟩)
    have h3t : te3 B n p = u := by rw [te3, eu]
    refine A_getf cb_X3 hC_u 4 (Nat.le_of_ble_eq_true rfl) q688 rfl (v := .ref (S u.2.2.2.1)) rfl dX3_parse_37 ?_
    refine A_getsO hS.2.2.2.2.1 q682 rfl dX3_parse_40 ?_
    refine A_acmp_ne_t (tgt := 57) (x := (some (S u.2.2.2.1))) (y := (some (S 4))) dX3_parse_43 (by decide) ((hS.ne htk_u (Or.inr (Or.inr (Or.inr (Or.inr rfl)))) hno)) ?_
    by_cases hk9 : u.2.2.2.1 = 1
    · skip
      refine A_aload_n (i := 0) dX3_parse_57 rfl rfl ?_
      refine A_aload_n (i := 0) dX3_parse_58 rfl rfl ?_
      refine A_getf cb_X3 hC_u 4 (Nat.le_of_ble_eq_true rfl) q688 rfl (v := .ref (S u.2.2.2.1)) rfl dX3_parse_59 ?_
      refine A_getsO hS.2.1 q411 rfl dX3_parse_62 ?_
      refine A_acmp_ne_f (tgt := 72) (x := (some (S u.2.2.2.1))) (y := (some (S 1))) dX3_parse_65 (by decide) (by rw [hk9]) ?_
      refine A_iconst (v := 1) dX3_parse_68 (by decide) ?_
      refine A_goto (tgt := 73) dX3_parse_69 (by decide) ?_
      refine A_iconst (v := 1) dX3_parse_73 (by decide) ?_
      refine A_callV2E (b' := 4) (v := none) (τ := τ36) (c_pChk τ36 y 1) tX3_check q722 hC_u rfl rfl dX3_parse_74 (by decide) (Nat.le_of_ble_eq_true rfl) (Nat.le_of_ble_eq_true rfl) ?_
      refine A_aload_n (i := 0) dX3_parse_77 rfl rfl ?_
      refine A_aload_n (i := 0) dX3_parse_78 rfl rfl ?_
      refine A_getf cb_X3 hC_u 6 (Nat.le_of_ble_eq_true rfl) q690 rfl (v := .ref (wW W9)) rfl dX3_parse_79 ?_
      refine A_getfN cb_X5 fτ36_u_0 6 (Nat.le_of_ble_eq_true rfl) q838 rfl (v := .int (u.1 6)) rfl dX3_parse_82 ?_
      refine A_if_le (tgt := 117) dX3_parse_85 (by decide) (fun c1 => ?_) (fun c1 => ?_)
      · skip
        refine A_iconst (v := 0) dX3_parse_117 (by decide) ?_
        refine A_iconst (v := 4) dX3_parse_118 (by decide) ?_
        refine A_callV2 (b' := 0) (c_pChkNo τ36 y n u.2.1 u.2.2.1 x v_u (S u.2.2.2.1) wd_u (.ref (wW W9)) 4 hC_u) tX3_check q722 hC_u rfl rfl dX3_parse_119 (by decide) (Nat.le_of_ble_eq_true rfl) (Nat.le_of_ble_eq_true rfl) (fun w9 τ9 h9 => h9.elim) (fun E9 q9 τ9 h9 => A_out rfl (LX.ck ky_u hl0 h9 z0_u (by decide) ((te_x5 (by rw [h3t]; exact ⟨z0_u, hk9⟩) (by rw [h3t]; exact Or.inl (le0_cnt hW.1.1 (Nat.le_trans hC6 (by decide)) c1))).trans (by rw [h3t]))))
      · skip
        refine A_aload_n (i := 0) dX3_parse_88 rfl rfl ?_
        refine A_getf cb_X3 hC_u 6 (Nat.le_of_ble_eq_true rfl) q690 rfl (v := .ref (wW W9)) rfl dX3_parse_89 ?_
        refine A_getfN cb_X5 fτ36_u_0 3 (Nat.le_of_ble_eq_true rfl) q831 rfl (v := .ref (wNL W9)) rfl dX3_parse_92 ?_
        refine A_callF0E (b' := 4) (v := some (.int (nI (nN u.1)))) (τ := τ36) (c_lSize τ36 (wNL W9) (wNA W9) (nN u.1) mcn_u fτ36_u_3) tF_size q968 fτ36_u_3 rfl dX3_parse_95 (by decide) (Nat.le_of_ble_eq_true rfl) (Nat.le_of_ble_eq_true rfl) ?_
        refine A_if_le (tgt := 117) dX3_parse_100 (by decide) (fun c2 => ?_) (fun c2 => ?_)
        · skip
          refine A_iconst (v := 0) dX3_parse_117 (by decide) ?_
          refine A_iconst (v := 4) dX3_parse_118 (by decide) ?_
          refine A_callV2 (b' := 0) (c_pChkNo τ36 y n u.2.1 u.2.2.1 x v_u (S u.2.2.2.1) wd_u (.ref (wW W9)) 4 hC_u) tX3_check q722 hC_u rfl rfl dX3_parse_119 (by decide) (Nat.le_of_ble_eq_true rfl) (Nat.le_of_ble_eq_true rfl) (fun w9 τ9 h9 => h9.elim) (fun E9 q9 τ9 h9 => A_out rfl (LX.ck ky_u hl0 h9 z0_u (by decide) ((te_x5 (by rw [h3t]; exact ⟨z0_u, hk9⟩) (by rw [h3t]; exact Or.inr (Or.inl (le0_cnt hW.2.1.1 (Nat.le_trans hN4 (by decide)) (by rw [hW.2.1.1]; exact c2))))).trans (by rw [h3t]))))
        · skip
          refine A_aload_n (i := 0) dX3_parse_103 rfl rfl ?_
          refine A_getf cb_X3 hC_u 6 (Nat.le_of_ble_eq_true rfl) q690 rfl (v := .ref (wW W9)) rfl dX3_parse_104 ?_
          refine A_getfN cb_X5 fτ36_u_0 7 (Nat.le_of_ble_eq_true rfl) q841 rfl (v := .int (u.1 8)) rfl dX3_parse_107 ?_
          refine A_if_le (tgt := 117) dX3_parse_110 (by decide) (fun c3 => ?_) (fun c3 => ?_)
          · skip
            refine A_iconst (v := 0) dX3_parse_117 (by decide) ?_
            refine A_iconst (v := 4) dX3_parse_118 (by decide) ?_
            refine A_callV2 (b' := 0) (c_pChkNo τ36 y n u.2.1 u.2.2.1 x v_u (S u.2.2.2.1) wd_u (.ref (wW W9)) 4 hC_u) tX3_check q722 hC_u rfl rfl dX3_parse_119 (by decide) (Nat.le_of_ble_eq_true rfl) (Nat.le_of_ble_eq_true rfl) (fun w9 τ9 h9 => h9.elim) (fun E9 q9 τ9 h9 => A_out rfl (LX.ck ky_u hl0 h9 z0_u (by decide) ((te_x5 (by rw [h3t]; exact ⟨z0_u, hk9⟩) (by rw [h3t]; exact Or.inr (Or.inr (le0_cnt hW.2.2.1.1 (Nat.le_trans hT3 (by decide)) c3)))).trans (by rw [h3t]))))
          · skip
            refine A_iconst (v := 1) dX3_parse_113 (by decide) ?_
            refine A_goto (tgt := 118) dX3_parse_114 (by decide) ?_
            refine A_iconst (v := 4) dX3_parse_118 (by decide) ?_
            refine A_callV2E (b' := 4) (v := none) (τ := τ36) (c_pChk τ36 y 4) tX3_check q722 hC_u rfl rfl dX3_parse_119 (by decide) (Nat.le_of_ble_eq_true rfl) (Nat.le_of_ble_eq_true rfl) ?_
            refine A_aload_n (i := 0) dX3_parse_122 rfl rfl ?_
            refine A_getf cb_X3 hC_u 6 (Nat.le_of_ble_eq_true rfl) q690 rfl (v := .ref (wW W9)) rfl dX3_parse_123 ?_
            exact A_aret dX3_parse_126 rfl (Or.inl ⟨_, rfl⟩) (Or.inr ⟨_, rfl⟩) (by have ht : teS B n p = u := (te_0 (by rw [h3t]; exact ⟨z0_u, hk9⟩) (by rw [h3t]; rintro (k | k | k); exact c1 (by rw [k]; exact Int32.le_refl _); exact c2 (by rw [← hW.2.1.1, k]; exact Int32.le_refl _); exact c3 (by rw [k]; exact Int32.le_refl _))).trans h3t; rw [ht]; exact ⟨z0_u, ⟨W9, rfl, hR_u, hO_u.le hlo⟩, hG_u, ky_u⟩)
    · skip
      refine A_aload_n (i := 0) dX3_parse_57 rfl rfl ?_
      refine A_aload_n (i := 0) dX3_parse_58 rfl rfl ?_
      refine A_getf cb_X3 hC_u 4 (Nat.le_of_ble_eq_true rfl) q688 rfl (v := .ref (S u.2.2.2.1)) rfl dX3_parse_59 ?_
      refine A_getsO hS.2.1 q411 rfl dX3_parse_62 ?_
      refine A_acmp_ne_t (tgt := 72) (x := (some (S u.2.2.2.1))) (y := (some (S 1))) dX3_parse_65 (by decide) ((hS.ne htk_u (Or.inr (Or.inl rfl)) hk9)) ?_
      refine A_iconst (v := 0) dX3_parse_72 (by decide) ?_
      refine A_iconst (v := 1) dX3_parse_73 (by decide) ?_
      refine A_callV2 (b' := 0) (c_pChkNo τ36 y n u.2.1 u.2.2.1 x v_u (S u.2.2.2.1) wd_u (.ref (wW W9)) 1 hC_u) tX3_check q722 hC_u rfl rfl dX3_parse_74 (by decide) (Nat.le_of_ble_eq_true rfl) (Nat.le_of_ble_eq_true rfl) (fun w9 τ9 h9 => h9.elim) (fun E9 q9 τ9 h9 => A_out rfl (LX.ck ky_u hl0 h9 z0_u (by decide) ((te_x4 (by rw [h3t]; exact fun k => hk9 k.2)).trans (by rw [h3t]))))
theorem c_pParse {l : Launch} {g : GC} (σ : AH) (y x bf n lo : Nat) (S : Int32 → Nat) (B : AF) (p q : PT) (h : PRW g σ y x bf S B n .null q) (hS : SRT g S) (hq : q = goesS B n p) (hp0 : pcd p = 0) (hZ : ∀ j, j < 173 → p.1 j = 0) (hl0 : lo ≤ σ.2) : AMet l g mX3_parse 47 40400 [.ref y] σ (TQ g y lo (teS B n p) σ) (LX y lo (teS B n p) σ) := by
  by_cases hk2 : q.2.2.2.1 = 2
  · by_cases hnw : wls B q.2.2.1 (q.2.1 - q.2.2.1) = wLine
    · exact c_psA σ y x bf n lo S B p q h hS hq hp0 hZ hl0 hk2 hnw
    · exact c_psB σ y x bf n lo S B p q _ h hS hq hp0 hZ hl0 hk2 rfl hnw
  · obtain ⟨v, wd, h1, hw⟩ := h
    rcases hw with hw | ⟨_, hw | ⟨va, hw⟩⟩
    · exact absurd hw.1 hk2
    · exact c_psD σ y x bf n lo S B p q ⟨v, wd, h1, hw⟩ hS hq hp0 hZ hl0 hk2
    · exact c_psC σ y x bf n lo S B p q va ⟨v, wd, h1, hw⟩ hS hq hp0 hZ hl0 hk2
