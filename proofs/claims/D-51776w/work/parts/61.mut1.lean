/-! THE COMPONENT 8: the world after a change -/
/-- the same world, its places anew -/
def setP (W : WA) (P : Nat → Nat) : WA := (wW W, wR W, wM W, wNL W, wNA W, wFL W, wFA W, wUN W, wF W, wN W, P)
def setFP (W : WA) (F P : Nat → Nat) : WA := (wW W, wR W, wM W, wNL W, wNA W, wFL W, wFA W, wUN W, F, wN W, P)
def setNt (W : WA) (M : Nat → Nat) : WA := (wW W, wR W, wM W, wNL W, wNA W, wFL W, wFA W, wUN W, wF W, M, wP W)
def upP (P : Nat → Nat) (f p : Nat) : Nat → Nat := fun i => if i = f then p else P i
theorem upP_s (P : Nat → Nat) (f p : Nat) : upP P f p f = p := if_pos rfl
theorem upP_n (P : Nat → Nat) {f i : Nat} (p : Nat) (h : ¬ i = f) : upP P f p i = P i := if_neg h
/-- below lo all is kept -/
def kl (lo : Nat) (σ τ : AH) : Prop := σ.2 ≤ τ.2 ∧ ∀ a, a < lo → τ.1 a = σ.1 a
theorem kl.rf {lo : Nat} {σ : AH} : kl lo σ σ := ⟨Nat.le_refl _, fun _ _ => rfl⟩
theorem kl.tr {lo : Nat} {σ τ ρ : AH} (h : kl lo σ τ) (k : kl lo τ ρ) : kl lo σ ρ := ⟨Nat.le_trans h.1 k.1, fun a ha => (k.2 a ha).trans (h.2 a ha)⟩
theorem ext.kl {lo : Nat} {σ τ : AH} (h : ext σ τ) (hl : lo ≤ σ.2) : kl lo σ τ := ⟨h.1, fun a ha => h.2 a (Nat.lt_of_lt_of_le ha hl)⟩
theorem kx.kl {lo A : Nat} {σ τ : AH} (h : kx A σ τ) (hl : lo ≤ σ.2) (hA : lo ≤ A) : kl lo σ τ := ⟨h.1, fun a ha => h.2 a (Nat.lt_of_lt_of_le ha hl) (Nat.ne_of_lt (Nat.lt_of_lt_of_le ha hA))⟩
theorem kl.toExt {σ τ : AH} (h : kl σ.2 σ τ) : ext σ τ := h
/-- a world's own cells lie at lo or above -/
def own (lo : Nat) (W : WA) (N : AF) : Prop := lo ≤ wW W ∧ lo ≤ wR W ∧ lo ≤ wM W ∧ lo ≤ wNL W ∧ lo ≤ wNA W ∧ lo ≤ wFL W ∧ lo ≤ wFA W ∧ (∀ f, f < nF N → lo ≤ wF W f) ∧ ∀ n, n < nN N → lo ≤ wN W n
/-- all of it but the world's own cell -/
def RWr (g : GC) (σ : AH) (W : WA) (N : AF) : Prop :=
  (∃ f, σ.1 (wR W) = some (intA 6 f) ∧ ∀ c, c < nC N → f c = N (12 + c)) ∧
  (∃ f, σ.1 (wM W) = some (intA 3 f) ∧ ∀ t, t < nT N → f t = N (38 + t)) ∧
  (∃ mc f, σ.1 (wNL W) = some (lstC mc (wNA W) (nN N)) ∧ σ.1 (wNA W) = some (objA "java/lang/Object" 4 f) ∧ ∀ n, n < nN N → f n = some (wN W n)) ∧
  (∃ mc f, σ.1 (wFL W) = some (lstC mc (wFA W) (nF N)) ∧ σ.1 (wFA W) = some (objA "java/lang/Object" 12 f) ∧ ∀ n, n < nF N → f n = some (wF W n)) ∧
  (∃ f, σ.1 (wUN W) = some (objA "FlagLaundry$Test" 7 f) ∧ ∀ k, k < 7 → ∃ a, f k = some a ∧ lamC g k a) ∧
  (∀ f, f < nF N → σ.1 (wF W f) = some (flgC (fl N f) (wP W f))) ∧
  (∀ f, f < nF N → σ.1 (wP W f) = some (.inr (.inl (plc (fl N f 8) (fl N f 9) (fl N f 10))))) ∧
  (∀ n, n < nN N → ∃ h, σ.1 (wN W n) = some (natC (na N n 0) (na N n 1) (na N n 2) h) ∧ HD N n h) ∧
  (∀ i j, i < nF N → j < nF N → wF W i = wF W j → i = j) ∧ (∀ i j, i < nN N → j < nN N → wN W i = wN W j → i = j)
theorem RW.of {g : GC} {σ : AH} {W : WA} {N : AF} (h : σ.1 (wW W) = some (wldC W N)) (k : RWr g σ W N) : RW g σ W N := ⟨h, k⟩
theorem RW.r {g : GC} {σ : AH} {W : WA} {N : AF} (h : RW g σ W N) : RWr g σ W N := h.2
theorem plc_cls (k a b : Int32) : (plc k a b).1 ≠ 6 ∧ (plc k a b).1 ≠ 4 ∧ (plc k a b).1 ≠ 5 ∧ (plc k a b).1 ≠ 14 := by
  unfold plc
  repeat' split
  all_goals exact ⟨by simp, by simp, by simp, by simp⟩
/-- two cells that differ lie apart -/
theorem ne_of {σ : AH} {a b : Nat} {x y : AE} (ha : σ.1 a = some x) (hb : σ.1 b = some y) (h : x ≠ y) : ¬ a = b := fun e => h (Option.some.inj (ha.symm.trans (e ▸ hb)))
theorem ne_cls {c d : Nat} {x y : List Value} (h : c ≠ d) : (.inr (.inl (c, x)) : AE) ≠ .inr (.inl (d, y)) := fun e => by cases e; exact h rfl
theorem ne_arr {t : FieldType × vp_A} {y : Nat × List Value} : (.inl t : AE) ≠ .inr (.inl y) := fun e => by cases e
theorem ne_pl {k a b : Int32} {d : Nat} {y : List Value} (h : (plc k a b).1 ≠ d) : (.inr (.inl (plc k a b)) : AE) ≠ .inr (.inl (d, y)) := fun e => by
  injection e with e
  injection e with e
  rw [e] at h
  exact h rfl
/-- the flag f is now F, the rest stays -/
def upF (N N' : AF) (f : Nat) (F : Nat → Int32) : Prop := (∀ j, j < 41 → N' j = N j) ∧ (∀ k, k < 11 → fl N' f k = F k) ∧ ∀ i k, ¬ i = f → k < 11 → fl N' i k = fl N i k
theorem upF.cnt {N N' : AF} {f : Nat} {F : Nat → Int32} (h : upF N N' f F) : nC N' = nC N ∧ nN N' = nN N ∧ nT N' = nT N ∧ nP N' = nP N ∧ nF N' = nF N := by
  unfold nC nN nT nP nF
  rw [h.1 6 (by decide), h.1 7 (by decide), h.1 8 (by decide), h.1 9 (by decide), h.1 10 (by decide)]
  exact ⟨rfl, rfl, rfl, rfl, rfl⟩
theorem flg_eq {F G : Nat → Int32} (p : Nat) (h : ∀ k, k < 11 → F k = G k) : flgC F p = flgC G p := by
  unfold flgC
  rw [h 0 (by decide), h 1 (by decide), h 2 (by decide), h 3 (by decide), h 4 (by decide), h 5 (by decide), h 6 (by decide), h 7 (by decide)]
theorem RW.flag {g : GC} {σ τ : AH} {W : WA} {N N' : AF} {f p : Nat} {F : Nat → Int32} (h : RW g σ W N) (w : wfh σ) (hW : WFc N) (hf : f < nF N) (k : kx (wF W f) σ τ) (hc : τ.1 (wF W f) = some (flgC F p)) (hp : τ.1 p = some (.inr (.inl (plc (F 8) (F 9) (F 10))))) (hN : upF N N' f F) : RW g τ (setP W (upP (wP W) f p)) N' := by
  obtain ⟨h1, ⟨f2, h2, h2'⟩, ⟨f3, h3, h3'⟩, ⟨m4, f4, h4, h4', h4''⟩, ⟨m5, f5, h5, h5', h5''⟩, ⟨f6, h6, h6'⟩, h7, h8, h9, h10, h11⟩ := h
  obtain ⟨e6, e7, e8, e9, e10⟩ := hN.cnt
  have hF := h7 f hf
  have hN4 : nN N ≤ 4 := hW.2.1.2
  have hC6 : nC N ≤ 6 := hW.1.2
  have hT3 : nT N ≤ 3 := hW.2.2.1.2
  have he : wldC (setP W (upP (wP W) f p)) N' = wldC W N := by
    unfold wldC
    rw [hN.1 9 (by decide), hN.1 6 (by decide), hN.1 8 (by decide), hN.1 0 (by decide), hN.1 1 (by decide), hN.1 2 (by decide), hN.1 3 (by decide), hN.1 4 (by decide), hN.1 5 (by decide), hN.1 11 (by decide)]
    rfl
  refine ⟨by rw [he]; exact k.at w h1 (ne_of h1 hF (ne_cls (by decide))), ⟨f2, k.at w h2 (ne_of h2 hF ne_arr), fun c hc => ?_⟩, ⟨f3, k.at w h3 (ne_of h3 hF ne_arr), fun t ht => ?_⟩, ⟨m4, f4, by rw [e7]; exact k.at w h4 (ne_of h4 hF (ne_cls (by decide))), k.at w h4' (ne_of h4' hF ne_arr), fun n hn => h4'' n (e7 ▸ hn)⟩, ⟨m5, f5, by rw [e10]; exact k.at w h5 (ne_of h5 hF (ne_cls (by decide))), k.at w h5' (ne_of h5' hF ne_arr), fun n hn => h5'' n (e10 ▸ hn)⟩, ⟨f6, k.at w h6 (ne_of h6 hF ne_arr), h6'⟩, fun i hi => ?_, fun i hi => ?_, fun n hn => ?_, fun i j hi hj => h10 i j (e10 ▸ hi) (e10 ▸ hj), fun i j hi hj => h11 i j (e7 ▸ hi) (e7 ▸ hj)⟩
  · rw [e6] at hc; rw [hN.1 (12 + c) (by omega)]; exact h2' c hc
  · rw [e8] at ht; rw [hN.1 (38 + t) (by omega)]; exact h3' t ht
  · rw [e10] at hi
    show τ.1 (wF W i) = some (flgC (fl N' i) (upP (wP W) f p i))
    by_cases c : i = f
    · subst c; rw [upP_s, flg_eq p (hN.2.1)]; exact hc
    · rw [upP_n _ _ c, flg_eq _ (fun k hk => hN.2.2 i k c hk)]; exact k.at w (h7 i hi) (fun e => c (h10 i f hi hf e))
  · rw [e10] at hi
    show τ.1 (upP (wP W) f p i) = some (.inr (.inl (plc (fl N' i 8) (fl N' i 9) (fl N' i 10))))
    by_cases c : i = f
    · subst c; rw [upP_s, hN.2.1 8 (by decide), hN.2.1 9 (by decide), hN.2.1 10 (by decide)]; exact hp
    · rw [upP_n _ _ c, hN.2.2 i 8 c (by decide), hN.2.2 i 9 c (by decide), hN.2.2 i 10 c (by decide)]; exact k.at w (h8 i hi) (ne_of (h8 i hi) hF (ne_pl (plc_cls _ _ _).1))
  · rw [e7] at hn
    obtain ⟨x, k1, k2⟩ := h9 n hn
    have q : ∀ j, j < 5 → na N' n j = na N n j := fun j hj => hN.1 _ (by omega)
    refine ⟨x, ?_, ?_⟩
    · show τ.1 (wN W n) = _
      rw [q 0 (by decide), q 1 (by decide), q 2 (by decide)]
      exact k.at w k1 (ne_of k1 hF (ne_cls (by decide)))
    · unfold HD; rw [q 0 (by decide), q 3 (by decide), q 4 (by decide)]; exact k2
/-- only numbers of the world change -/
def scl (N N' : AF) : Prop := ∀ j, ¬ j ≤ 5 → ¬ j = 11 → N' j = N j
theorem scl.fl {N N' : AF} (h : scl N N') (f k : Nat) : fl N' f k = fl N f k := h _ (by omega) (by omega)
theorem scl.na {N N' : AF} (h : scl N N') (n k : Nat) : na N' n k = na N n k := h _ (by omega) (by omega)
theorem scl.cnt {N N' : AF} (h : scl N N') : nC N' = nC N ∧ nN N' = nN N ∧ nT N' = nT N ∧ nP N' = nP N ∧ nF N' = nF N := by
  unfold nC nN nT nP nF
  rw [h 6 (by decide) (by decide), h 7 (by decide) (by decide), h 8 (by decide) (by decide), h 9 (by decide) (by decide), h 10 (by decide) (by decide)]
  exact ⟨rfl, rfl, rfl, rfl, rfl⟩
theorem RW.scal {g : GC} {σ τ : AH} {W : WA} {N N' : AF} (h : RW g σ W N) (w : wfh σ) (k : kx (wW W) σ τ) (hc : τ.1 (wW W) = some (wldC W N')) (hN : scl N N') : RW g τ W N' := by
  obtain ⟨h1, ⟨f2, h2, h2'⟩, ⟨f3, h3, h3'⟩, ⟨m4, f4, h4, h4', h4''⟩, ⟨m5, f5, h5, h5', h5''⟩, ⟨f6, h6, h6'⟩, h7, h8, h9, h10, h11⟩ := h
  obtain ⟨e6, e7, e8, e9, e10⟩ := hN.cnt
  refine ⟨hc, ⟨f2, k.at w h2 (ne_of h2 h1 ne_arr), fun c hc => ?_⟩, ⟨f3, k.at w h3 (ne_of h3 h1 ne_arr), fun t ht => ?_⟩, ⟨m4, f4, by rw [e7]; exact k.at w h4 (ne_of h4 h1 (ne_cls (by decide))), k.at w h4' (ne_of h4' h1 ne_arr), fun n hn => h4'' n (e7 ▸ hn)⟩, ⟨m5, f5, by rw [e10]; exact k.at w h5 (ne_of h5 h1 (ne_cls (by decide))), k.at w h5' (ne_of h5' h1 ne_arr), fun n hn => h5'' n (e10 ▸ hn)⟩, ⟨f6, k.at w h6 (ne_of h6 h1 ne_arr), h6'⟩, fun i hi => ?_, fun i hi => ?_, fun n hn => ?_, fun i j hi hj => h10 i j (e10 ▸ hi) (e10 ▸ hj), fun i j hi hj => h11 i j (e7 ▸ hi) (e7 ▸ hj)⟩
  · rw [e6] at hc; rw [hN (12 + c) (by omega) (by omega)]; exact h2' c hc
  · rw [e8] at ht; rw [hN (38 + t) (by omega) (by omega)]; exact h3' t ht
  · rw [e10] at hi
    rw [flg_eq _ (fun k hk => hN.fl i k)]; exact k.at w (h7 i hi) (ne_of (h7 i hi) h1 (ne_cls (by decide)))
  · rw [e10] at hi
    rw [hN.fl, hN.fl, hN.fl]; exact k.at w (h8 i hi) (ne_of (h8 i hi) h1 (ne_pl (plc_cls _ _ _).2.1))
  · rw [e7] at hn
    obtain ⟨x, k1, k2⟩ := h9 n hn
    refine ⟨x, ?_, ?_⟩
    · rw [hN.na, hN.na, hN.na]
      exact k.at w k1 (ne_of k1 h1 (ne_cls (by decide)))
    · unfold HD; rw [hN.na, hN.na, hN.na]; exact k2
/-- the nation n is handed its flags -/
theorem RW.nat {g : GC} {σ τ : AH} {W : WA} {N N' : AF} {n : Nat} {h' : Int32} (h : RW g σ W N) (w : wfh σ) (hW : WFc N) (hn : n < nN N) (k : kx (wN W n) σ τ) (hc : τ.1 (wN W n) = some (natC (na N n 0) (na N n 1) (na N n 2) h')) (hH : HD N' n h') (hN : ∀ j, ¬ j = 18 + 5 * n + 3 → ¬ j = 18 + 5 * n + 4 → N' j = N j) : RW g τ W N' := by
  obtain ⟨h1, ⟨f2, h2, h2'⟩, ⟨f3, h3, h3'⟩, ⟨m4, f4, h4, h4', h4''⟩, ⟨m5, f5, h5, h5', h5''⟩, ⟨f6, h6, h6'⟩, h7, h8, h9, h10, h11⟩ := h
  have hN4 : nN N ≤ 4 := hW.2.1.2
  have hC6 : nC N ≤ 6 := hW.1.2
  have q : ∀ j, j < 18 ∨ 38 ≤ j → N' j = N j := fun j hj => hN j (by omega) (by omega)
  obtain ⟨x9, hF, -⟩ := h9 n hn
  have e6 : nC N' = nC N := by unfold nC; rw [q 6 (by decide)]
  have e7 : nN N' = nN N := by unfold nN; rw [q 7 (by decide)]
  have e8 : nT N' = nT N := by unfold nT; rw [q 8 (by decide)]
  have e10 : nF N' = nF N := by unfold nF; rw [q 10 (by decide)]
  have qf : ∀ i k, fl N' i k = fl N i k := fun i k => q _ (by omega)
  have he : wldC W N' = wldC W N := by
    unfold wldC
    rw [q 9 (by decide), q 6 (by decide), q 8 (by decide), q 0 (by decide), q 1 (by decide), q 2 (by decide), q 3 (by decide), q 4 (by decide), q 5 (by decide), q 11 (by decide)]
  refine ⟨by rw [he]; exact k.at w h1 (ne_of h1 hF (ne_cls (by decide))), ⟨f2, k.at w h2 (ne_of h2 hF ne_arr), fun c hc => ?_⟩, ⟨f3, k.at w h3 (ne_of h3 hF ne_arr), fun t ht => ?_⟩, ⟨m4, f4, by rw [e7]; exact k.at w h4 (ne_of h4 hF (ne_cls (by decide))), k.at w h4' (ne_of h4' hF ne_arr), fun n hn => h4'' n (e7 ▸ hn)⟩, ⟨m5, f5, by rw [e10]; exact k.at w h5 (ne_of h5 hF (ne_cls (by decide))), k.at w h5' (ne_of h5' hF ne_arr), fun n hn => h5'' n (e10 ▸ hn)⟩, ⟨f6, k.at w h6 (ne_of h6 hF ne_arr), h6'⟩, fun i hi => ?_, fun i hi => ?_, fun i hi => ?_, fun i j hi hj => h10 i j (e10 ▸ hi) (e10 ▸ hj), fun i j hi hj => h11 i j (e7 ▸ hi) (e7 ▸ hj)⟩
  · rw [e6] at hc; rw [q (12 + c) (by omega)]; exact h2' c hc
  · rw [e8] at ht; rw [q (38 + t) (by omega)]; exact h3' t ht
  · rw [e10] at hi
    rw [flg_eq _ (fun k hk => qf i k)]; exact k.at w (h7 i hi) (ne_of (h7 i hi) hF (ne_cls (by decide)))
  · rw [e10] at hi
    rw [qf, qf, qf]; exact k.at w (h8 i hi) (ne_of (h8 i hi) hF (ne_pl (plc_cls _ _ _).2.2.1))
  · rw [e7] at hi
    by_cases c : i = n
    · subst c
      have qn : ∀ j, j < 3 → na N' i j = na N i j := fun j hj => hN _ (by omega) (by omega)
      exact ⟨h', by rw [qn 0 (by decide), qn 1 (by decide), qn 2 (by decide)]; exact hc, hH⟩
    · have qn : ∀ j, j < 5 → na N' i j = na N i j := fun j hj => hN _ (by omega) (by omega)
      obtain ⟨x, k1, k2⟩ := h9 i hi
      refine ⟨x, ?_, ?_⟩
      · rw [qn 0 (by decide), qn 1 (by decide), qn 2 (by decide)]
        exact k.at w k1 (fun e => c (h11 i n hi hn e))
      · unfold HD; rw [qn 0 (by decide), qn 3 (by decide), qn 4 (by decide)]; exact k2
