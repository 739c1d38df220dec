/-! THE COMPONENT 15: worlds are made; a nation, a flag more -/
/-- what stood below lo -/
def cut (σ : AH) (lo : Nat) : AH := (fun a => if a < lo then σ.1 a else none, lo)
theorem cut_wfh (σ : AH) (lo : Nat) : wfh (cut σ lo) := fun a e h => by
  by_cases c : a < lo
  · exact c
  · exact absurd ((if_neg c).symm.trans h) (by simp)
theorem cut_kl {σ τ : AH} {lo : Nat} (h : kl lo σ τ) (hl : lo ≤ σ.2) : ext (cut σ lo) τ := ⟨Nat.le_trans hl h.1, fun a ha => (h.2 a ha).trans (if_pos ha).symm⟩
theorem cut_at {σ τ : AH} {lo : Nat} (h : kl lo σ τ) {a : Nat} {e : AE} (k : (cut σ lo).1 a = some e) : τ.1 a = some e := by
  have c : a < lo := cut_wfh σ lo a e k
  exact (h.2 a c).trans ((if_pos c).symm.trans k)
theorem RW_cut {g : GC} {σ τ : AH} {W : WA} {N : AF} (h : RW g σ W N) (w : wfh σ) (e : ext σ τ) : RW g (cut τ σ.2) W N := h.ext w ⟨Nat.le_refl _, fun a ha => (if_pos ha).trans (e.2 a ha)⟩
theorem RW_uncut {g : GC} {σ τ : AH} {lo : Nat} {W : WA} {N : AF} (h : RW g (cut σ lo) W N) (k : kl lo σ τ) (hl : lo ≤ σ.2) : RW g τ W N := h.ext (cut_wfh σ lo) (cut_kl k hl)
def newN (p : Int32) : AF := fun j => if j = 9 then p else 0
/-- own, but for the world's cell and for flags and nations -/
def own1 (lo : Nat) (W : WA) : Prop := lo ≤ wR W ∧ lo ≤ wM W ∧ lo ≤ wNL W ∧ lo ≤ wNA W ∧ lo ≤ wFL W ∧ lo ≤ wFA W
theorem RW.new {g : GC} {τ : AH} {w R M NL NA FL FA UN : Nat} {F N9 P : Nat → Nat} {p m4 m5 : Int32} {f2 f3 : Nat → Int32} {f4 f5 f6 : Nat → Option Nat} (h1 : τ.1 w = some (.inr (.inl (4, [.int p, .ref R, .ref M, .ref NL, .ref FL, .ref UN, .int 0, .int 0, .int 0, .int 0, .int 0, .int 0, .int 0, .int 0, .int 0])))) (h2 : τ.1 R = some (intA 6 f2)) (h3 : τ.1 M = some (intA 3 f3)) (h4 : τ.1 NL = some (.inr (.inl (14, [.int m4, .ref NA, .int 0])))) (h4' : τ.1 NA = some (objA "java/lang/Object" 4 f4)) (h5 : τ.1 FL = some (.inr (.inl (14, [.int m5, .ref FA, .int 0])))) (h5' : τ.1 FA = some (objA "java/lang/Object" 12 f5)) (h6 : τ.1 UN = some (objA "FlagLaundry$Test" 7 f6)) (h6' : ∀ k, k < 7 → ∃ a, f6 k = some a ∧ lamC g k a) : RW g τ (w, R, M, NL, NA, FL, FA, UN, F, N9, P) (newN p) := by
  have eC : nC (newN p) = 0 := rfl
  have eN : nN (newN p) = 0 := rfl
  have eT : nT (newN p) = 0 := rfl
  have eF : nF (newN p) = 0 := rfl
  refine ⟨h1, ⟨f2, h2, fun c hc => ?_⟩, ⟨f3, h3, fun c hc => ?_⟩, ⟨m4, f4, h4, h4', fun c hc => ?_⟩, ⟨m5, f5, h5, h5', fun c hc => ?_⟩, ⟨f6, h6, h6'⟩, fun c hc => ?_, fun c hc => ?_, fun c hc => ?_, fun i j hc => ?_, fun i j hc => ?_⟩
  all_goals first | rw [eC] at hc | rw [eN] at hc | rw [eT] at hc | rw [eF] at hc
  all_goals exact absurd hc (Nat.not_lt_zero _)
/-- what World(int) leaves -/
def A_wnew (g : GC) (w : Nat) (p : Int32) (σ : AH) : Option Value → AH → Prop := fun v τ => v = none ∧ kx w σ τ ∧ ∃ R M NL NA FL FA UN, (∀ F N9 P, own1 σ.2 (w, R, M, NL, NA, FL, FA, UN, F, N9, P)) ∧ ∀ F N9 P, RW g τ (w, R, M, NL, NA, FL, FA, UN, F, N9, P) (newN p)
/-- but for two cells all is as it was -/
def k2 (a b : Nat) (σ τ : AH) : Prop := σ.2 ≤ τ.2 ∧ ∀ q, q < σ.2 → ¬ q = a → ¬ q = b → τ.1 q = σ.1 q
theorem k2.at {a b : Nat} {σ τ : AH} (h : k2 a b σ τ) (w : wfh σ) {q : Nat} {e : AE} (k : σ.1 q = some e) (ha : ¬ q = a) (hb : ¬ q = b) : τ.1 q = some e := (h.2 q (w q e k) ha hb).trans k
theorem k2.kl {a b lo : Nat} {σ τ : AH} (h : k2 a b σ τ) (hl : lo ≤ σ.2) (ha : lo ≤ a) (hb : lo ≤ b) : kl lo σ τ := ⟨h.1, fun q hq => h.2 q (Nat.lt_of_lt_of_le hq hl) (Nat.ne_of_lt (Nat.lt_of_lt_of_le hq ha)) (Nat.ne_of_lt (Nat.lt_of_lt_of_le hq hb))⟩
/-- a list has got an element more -/
def A_add (v : Option Value) (a ea n cap : Nat) (f : Nat → Option Nat) (x : Nat) (σ : AH) : Option Value → AH → Prop := fun w τ => w = v ∧ (∃ mc, τ.1 a = some (lstC mc ea (n + 1))) ∧ τ.1 ea = some (objA "java/lang/Object" cap (va_up f n (some x))) ∧ k2 a ea σ τ
theorem add_of {σ τ : AH} {a ea n cap : Nat} {mc : Int32} {f : Nat → Option Nat} {x : Nat} {v : Option Value} {A : AE} (h : ¬ ea = a) (e : τ = h_put (h_put (h_put σ a A) ea (objA "java/lang/Object" cap (va_up f n (some x)))) a (lstC mc ea (n + 1))) : A_add v a ea n cap f x σ v τ := by
  subst e
  refine ⟨rfl, ⟨mc, if_pos rfl⟩, (hp_ne h).trans (if_pos rfl), Nat.le_refl _, fun q _ ha hb => ?_⟩
  exact (hp_ne ha).trans ((hp_ne hb).trans (hp_ne ha))
theorem RWr.lne {g : GC} {σ : AH} {W : WA} {N : AF} (h : RWr g σ W N) : ¬ wFL W = wNL W := by
  obtain ⟨-, -, ⟨m4, f4, h4, h4', -⟩, ⟨m5, f5, h5, h5', -⟩, -⟩ := h
  intro e
  rw [e] at h5
  have q := Option.some.inj (h4.symm.trans h5)
  unfold lstC at q
  simp at q
  rw [← q.2.1] at h5'
  exact absurd (Option.some.inj (h4'.symm.trans h5')) (fun e => by simp at e)
theorem RWr.addN {g : GC} {σ τ : AH} {W : WA} {N N' : AF} {x : Nat} {h' mc : Int32} {f : Nat → Option Nat} (h : RWr g σ W N) (w : wfh σ) (hn : nN N < 4) (hC6 : nC N ≤ 6) (k : k2 (wNL W) (wNA W) σ τ) (hL : τ.1 (wNL W) = some (lstC mc (wNA W) (nN N + 1))) (hA : τ.1 (wNA W) = some (objA "java/lang/Object" 4 (va_up f (nN N) (some x)))) (hf : ∀ i, i < nN N → f i = some (wN W i)) (hx : σ.1 x = some (natC (na N' (nN N) 0) (na N' (nN N) 1) (na N' (nN N) 2) h')) (hH : HD N' (nN N) h') (hnew : ∀ i, i < nN N → ¬ wN W i = x) (hN : ∀ j, ¬ j = 7 → ¬ (18 + 5 * nN N ≤ j ∧ j < 23 + 5 * nN N) → N' j = N j) (h7 : nN N' = nN N + 1) : RWr g τ (setNt W (upP (wN W) (nN N) x)) N' := by
  have q : ∀ j, j < 18 ∨ 38 ≤ j → ¬ j = 7 → N' j = N j := fun j hj h7 => hN j h7 (by omega)
  have e6 : nC N' = nC N := by unfold nC; rw [q 6 (by decide) (by decide)]
  have e8 : nT N' = nT N := by unfold nT; rw [q 8 (by decide) (by decide)]
  have e10 : nF N' = nF N := by unfold nF; rw [q 10 (by decide) (by decide)]
  have qf : ∀ i k, fl N' i k = fl N i k := fun i k => q _ (by omega) (by omega)
  have qn : ∀ i j, i < nN N → j < 5 → na N' i j = na N i j := fun i j hi hj => hN _ (by omega) (by omega)
  have hne := RWr.lne h
  obtain ⟨⟨f2, h2, h2'⟩, ⟨f3, h3, h3'⟩, ⟨m4, f4, h4, h4', h4''⟩, ⟨m5, f5, h5, h5', h5''⟩, ⟨f6, h6, h6'⟩, h7', h8, h9, h10, h11⟩ := h
  refine ⟨⟨f2, k.at w h2 (ne_of h2 h4 ne_arr) (ne_of h2 h4' (fun e => by simp at e)), fun c hc => ?_⟩, ⟨f3, k.at w h3 (ne_of h3 h4 ne_arr) (ne_of h3 h4' (fun e => by simp at e)), fun t ht => ?_⟩, ⟨mc, _, by rw [h7]; exact hL, hA, fun n hn' => ?_⟩, ⟨m5, f5, by rw [e10]; exact k.at w h5 hne (ne_of h5 h4' ne_arr.symm), k.at w h5' (ne_of h5' h4 ne_arr) (ne_of h5' h4' (fun e => by simp at e)), fun n hn => h5'' n (e10 ▸ hn)⟩, ⟨f6, k.at w h6 (ne_of h6 h4 ne_arr) (ne_of h6 h4' (fun e => by simp at e)), h6'⟩, fun i hi => ?_, fun i hi => ?_, fun i hi => ?_, fun i j hi hj => h10 i j (e10 ▸ hi) (e10 ▸ hj), fun i j hi hj => ?_⟩
  · rw [e6] at hc; rw [q (12 + c) (by omega) (by omega)]; exact h2' c hc
  · rw [e8] at ht; rw [q (38 + t) (by omega) (by omega)]; exact h3' t ht
  · show va_up f (nN N) (some x) n = some (upP (wN W) (nN N) x n)
    by_cases c : n = nN N
    · rw [c, upP_s]; exact if_pos rfl
    · rw [va_up_ne _ _ c, upP_n _ _ c]; exact hf n (by omega)
  · rw [e10] at hi
    rw [flg_eq _ (fun k hk => qf i k)]; exact k.at w (h7' i hi) (ne_of (h7' i hi) h4 (ne_cls (by decide))) (ne_of (h7' i hi) h4' ne_arr.symm)
  · rw [e10] at hi
    rw [qf, qf, qf]; exact k.at w (h8 i hi) (ne_of (h8 i hi) h4 (ne_pl (plc_cls _ _ _).2.2.2)) (ne_of (h8 i hi) h4' ne_arr.symm)
  · rw [h7] at hi
    by_cases c : i = nN N
    · subst c
      refine ⟨h', ?_, hH⟩
      show τ.1 (upP (wN W) (nN N) x (nN N)) = _
      rw [upP_s]
      exact k.at w hx (ne_of hx h4 (ne_cls (by decide))) (ne_of hx h4' ne_arr.symm)
    · obtain ⟨y, k1, k2⟩ := h9 i (by omega)
      refine ⟨y, ?_, ?_⟩
      · show τ.1 (upP (wN W) (nN N) x i) = _
        rw [upP_n _ _ c, qn i 0 (by omega) (by decide), qn i 1 (by omega) (by decide), qn i 2 (by omega) (by decide)]
        exact k.at w k1 (ne_of k1 h4 (ne_cls (by decide))) (ne_of k1 h4' ne_arr.symm)
      · unfold HD; rw [qn i 0 (by omega) (by decide), qn i 3 (by omega) (by decide), qn i 4 (by omega) (by decide)]; exact k2
  · rw [h7] at hi hj
    show upP (wN W) (nN N) x i = upP (wN W) (nN N) x j → i = j
    by_cases c : i = nN N
    · by_cases d : j = nN N
      · intro _; omega
      · rw [c, upP_s, upP_n _ _ d]; intro e; exact absurd e.symm (hnew j (by omega))
    · by_cases d : j = nN N
      · rw [d, upP_s, upP_n _ _ c]; intro e; exact absurd e (hnew i (by omega))
      · rw [upP_n _ _ c, upP_n _ _ d]; exact h11 i j (by omega) (by omega)
theorem RWr.addF {g : GC} {σ τ : AH} {W : WA} {N N' : AF} {x p : Nat} {mc : Int32} {f : Nat → Option Nat} (h : RWr g σ W N) (w : wfh σ) (hC6 : nC N ≤ 6) (hN4 : nN N ≤ 4) (hT3 : nT N ≤ 3) (k : k2 (wFL W) (wFA W) σ τ) (hL : τ.1 (wFL W) = some (lstC mc (wFA W) (nF N + 1))) (hA : τ.1 (wFA W) = some (objA "java/lang/Object" 12 (va_up f (nF N) (some x)))) (hf : ∀ i, i < nF N → f i = some (wF W i)) (hx : σ.1 x = some (flgC (fl N' (nF N)) p)) (hp : σ.1 p = some (.inr (.inl (plc (fl N' (nF N) 8) (fl N' (nF N) 9) (fl N' (nF N) 10))))) (hnew : ∀ i, i < nF N → ¬ wF W i = x) (hN : ∀ j, j < 41 → ¬ j = 10 → N' j = N j) (hN2 : ∀ i k, i < nF N → k < 11 → fl N' i k = fl N i k) (h7 : nF N' = nF N + 1) : RWr g τ (setFP W (upP (wF W) (nF N) x) (upP (wP W) (nF N) p)) N' := by
  have e6 : nC N' = nC N := by unfold nC; rw [hN 6 (by decide) (by decide)]
  have e7 : nN N' = nN N := by unfold nN; rw [hN 7 (by decide) (by decide)]
  have e8 : nT N' = nT N := by unfold nT; rw [hN 8 (by decide) (by decide)]
  have hne := RWr.lne h
  obtain ⟨⟨f2, h2, h2'⟩, ⟨f3, h3, h3'⟩, ⟨m4, f4, h4, h4', h4''⟩, ⟨m5, f5, h5, h5', h5''⟩, ⟨f6, h6, h6'⟩, h7', h8, h9, h10, h11⟩ := h
  have qn : ∀ i j, i < nN N → j < 5 → na N' i j = na N i j := fun i j hi hj => hN _ (by omega) (by omega)
  refine ⟨⟨f2, k.at w h2 (ne_of h2 h5 ne_arr) (ne_of h2 h5' (fun e => by simp at e)), fun c hc => ?_⟩, ⟨f3, k.at w h3 (ne_of h3 h5 ne_arr) (ne_of h3 h5' (fun e => by simp at e)), fun t ht => ?_⟩, ⟨m4, f4, by rw [e7]; exact k.at w h4 (fun e => hne e.symm) (ne_of h4 h5' ne_arr.symm), k.at w h4' (ne_of h4' h5 ne_arr) (ne_of h4' h5' (fun e => by simp at e)), fun n hn => h4'' n (e7 ▸ hn)⟩, ⟨mc, _, by rw [h7]; exact hL, hA, fun n hn' => ?_⟩, ⟨f6, k.at w h6 (ne_of h6 h5 ne_arr) (ne_of h6 h5' (fun e => by simp at e)), h6'⟩, fun i hi => ?_, fun i hi => ?_, fun i hi => ?_, fun i j hi hj => ?_, fun i j hi hj => h11 i j (e7 ▸ hi) (e7 ▸ hj)⟩
  · rw [e6] at hc; rw [hN (12 + c) (by omega) (by omega)]; exact h2' c hc
  · rw [e8] at ht; rw [hN (38 + t) (by omega) (by omega)]; exact h3' t ht
  · show va_up f (nF N) (some x) n = some (upP (wF W) (nF N) x n)
    by_cases c : n = nF N
    · rw [c, upP_s]; exact if_pos rfl
    · rw [va_up_ne _ _ c, upP_n _ _ c]; exact hf n (by omega)
  · rw [h7] at hi
    show τ.1 (upP (wF W) (nF N) x i) = some (flgC (fl N' i) (upP (wP W) (nF N) p i))
    by_cases c : i = nF N
    · rw [c, upP_s, upP_s]
      exact k.at w hx (ne_of hx h5 (ne_cls (by decide))) (ne_of hx h5' ne_arr.symm)
    · rw [upP_n _ _ c, upP_n _ _ c, flg_eq _ (fun k hk => hN2 i k (by omega) hk)]
      exact k.at w (h7' i (by omega)) (ne_of (h7' i (by omega)) h5 (ne_cls (by decide))) (ne_of (h7' i (by omega)) h5' ne_arr.symm)
  · rw [h7] at hi
    show τ.1 (upP (wP W) (nF N) p i) = _
    by_cases c : i = nF N
    · rw [c, upP_s]
      exact k.at w hp (ne_of hp h5 (ne_pl (plc_cls _ _ _).2.2.2)) (ne_of hp h5' ne_arr.symm)
    · rw [upP_n _ _ c, hN2 i 8 (by omega) (by decide), hN2 i 9 (by omega) (by decide), hN2 i 10 (by omega) (by decide)]
      exact k.at w (h8 i (by omega)) (ne_of (h8 i (by omega)) h5 (ne_pl (plc_cls _ _ _).2.2.2)) (ne_of (h8 i (by omega)) h5' ne_arr.symm)
  · rw [e7] at hi
    obtain ⟨y, k1, k2⟩ := h9 i hi
    refine ⟨y, ?_, ?_⟩
    · show τ.1 (wN W i) = _
      rw [qn i 0 hi (by decide), qn i 1 hi (by decide), qn i 2 hi (by decide)]
      exact k.at w k1 (ne_of k1 h5 (ne_cls (by decide))) (ne_of k1 h5' ne_arr.symm)
    · unfold HD; rw [qn i 0 hi (by decide), qn i 3 hi (by decide), qn i 4 hi (by decide)]; exact k2
  · rw [h7] at hi hj
    show upP (wF W) (nF N) x i = upP (wF W) (nF N) x j → i = j
    by_cases c : i = nF N
    · by_cases d : j = nF N
      · intro _; omega
      · rw [c, upP_s, upP_n _ _ d]; intro e; exact absurd e.symm (hnew j (by omega))
    · by_cases d : j = nF N
      · rw [d, upP_s, upP_n _ _ c]; intro e; exact absurd e (hnew i (by omega))
      · rw [upP_n _ _ c, upP_n _ _ d]; exact h10 i j (by omega) (by omega)
/-- what a world has is still there -/
def nw (σ τ : AH) : Prop := σ.2 ≤ τ.2 ∧ ∀ a e, σ.1 a = some e → isW e → τ.1 a = some e
theorem nw.rf {σ : AH} : nw σ σ := ⟨Nat.le_refl _, fun _ _ h _ => h⟩
theorem nw.tr {σ τ ρ : AH} (h : nw σ τ) (k : nw τ ρ) : nw σ ρ := ⟨Nat.le_trans h.1 k.1, fun a e q i => k.2 a e (h.2 a e q i) i⟩
theorem nw.new {σ τ : AH} {c : AE} (h : nw σ τ) (w : wfh σ) : nw σ (h_new τ c) := ⟨Nat.le_succ_of_le h.1, fun a e q i => (hn_ne (Nat.ne_of_lt (Nat.lt_of_lt_of_le (w a e q) h.1))).trans (h.2 a e q i)⟩
theorem nw.put {σ τ : AH} {a : Nat} {c d : AE} (h : nw σ τ) (hc : τ.1 a = some c) (hn : ¬ isW c) : nw σ (h_put τ a d) := ⟨h.1, fun b e q i => (hp_ne (fun z => hn (by have k := h.2 b e q i; rw [z] at k; rw [Option.some.inj (hc.symm.trans k)]; exact i))).trans (h.2 b e q i)⟩
theorem nw.putF {σ τ : AH} {a : Nat} {d : AE} (h : nw σ τ) (w : wfh σ) (hb : σ.2 ≤ a) : nw σ (h_put τ a d) := ⟨h.1, fun b e q i => (hp_ne (Nat.ne_of_lt (Nat.lt_of_lt_of_le (w b e q) hb))).trans (h.2 b e q i)⟩
theorem nw.ex {σ τ ρ : AH} (h : nw σ τ) (w : wfh τ) (x : ext τ ρ) : nw σ ρ := h.tr ⟨x.1, fun _ _ q _ => x.at w q⟩
theorem nw.kx {σ τ ρ : AH} {a : Nat} {c : AE} (h : nw σ τ) (w : wfh τ) (hc : τ.1 a = some c) (hn : ¬ isW c) (k : kx a τ ρ) : nw σ ρ := h.tr ⟨k.1, fun b _ q i => k.at w q (fun z => hn (by rw [z] at q; rw [Option.some.inj (hc.symm.trans q)]; exact i))⟩
theorem nw.kxF {σ τ ρ : AH} {a : Nat} (h : nw σ τ) (w : wfh σ) (hb : σ.2 ≤ a) (k : _root_.Jvm.Pilot.CFlagLaundryLaw_law_r9784_83ea13.kx a τ ρ) : nw σ ρ := ⟨Nat.le_trans h.1 k.1, fun b e q i => (k.2 b (Nat.lt_of_lt_of_le (w b e q) h.1) (Nat.ne_of_lt (Nat.lt_of_lt_of_le (w b e q) hb))).trans (h.2 b e q i)⟩
theorem nw.kl {σ τ ρ : AH} {lo : Nat} (h : nw σ τ) (w : wfh σ) (hb : σ.2 ≤ lo) (k : kl lo τ ρ) : nw σ ρ := ⟨Nat.le_trans h.1 k.1, fun b e q i => (k.2 b (Nat.lt_of_lt_of_le (w b e q) hb)).trans (h.2 b e q i)⟩
theorem RWr.nw {g : GC} {σ τ : AH} {W : WA} {N : AF} (h : RWr g σ W N) (k : nw σ τ) : RWr g τ W N := by
  obtain ⟨⟨f2, h2, h2'⟩, ⟨f3, h3, h3'⟩, ⟨m4, f4, h4, h4', h4''⟩, ⟨m5, f5, h5, h5', h5''⟩, ⟨f6, h6, h6'⟩, h7, h8, h9, h10⟩ := h
  refine ⟨⟨f2, k.2 _ _ h2 (Or.inr (Or.inl ⟨_, _, rfl, by decide⟩)), h2'⟩, ⟨f3, k.2 _ _ h3 (Or.inr (Or.inl ⟨_, _, rfl, by decide⟩)), h3'⟩, ⟨m4, f4, k.2 _ _ h4 (Or.inl ⟨_, _, rfl, by decide⟩), k.2 _ _ h4' (Or.inr (Or.inr (Or.inl ⟨_, _, rfl, by decide⟩))), h4''⟩, ⟨m5, f5, k.2 _ _ h5 (Or.inl ⟨_, _, rfl, by decide⟩), k.2 _ _ h5' (Or.inr (Or.inr (Or.inl ⟨_, _, rfl, by decide⟩))), h5''⟩, ⟨f6, k.2 _ _ h6 (Or.inr (Or.inr (Or.inr ⟨_, rfl⟩))), h6'⟩, fun f hf => k.2 _ _ (h7 f hf) (Or.inl ⟨_, _, rfl, by decide⟩), fun f hf => k.2 _ _ (h8 f hf) (isW_plc _ _ _), fun n hn => ?_, h10⟩
  obtain ⟨x, k1, k2⟩ := h9 n hn
  exact ⟨x, k.2 _ _ k1 (Or.inl ⟨_, _, rfl, by decide⟩), k2⟩
theorem RW.nw {g : GC} {σ τ : AH} {W : WA} {N : AF} (h : RW g σ W N) (k : nw σ τ) : RW g τ W N := ⟨k.2 _ _ h.1 (Or.inl ⟨_, _, rfl, by decide⟩), RWr.nw h.2 k⟩
/-- a world's own cell has changed -/
theorem RWr.kw {g : GC} {σ τ : AH} {W : WA} {N : AF} {A : Nat} {vs : List Value} (h : RWr g σ W N) (w : wfh σ) (h1 : σ.1 A = some (.inr (.inl (4, vs)))) (k : kx A σ τ) : RWr g τ W N := by
  obtain ⟨⟨f2, h2, h2'⟩, ⟨f3, h3, h3'⟩, ⟨m4, f4, h4, h4', h4''⟩, ⟨m5, f5, h5, h5', h5''⟩, ⟨f6, h6, h6'⟩, h7, h8, h9, h10⟩ := h
  refine ⟨⟨f2, k.at w h2 (ne_of h2 h1 ne_arr), h2'⟩, ⟨f3, k.at w h3 (ne_of h3 h1 ne_arr), h3'⟩, ⟨m4, f4, k.at w h4 (ne_of h4 h1 (ne_cls (by decide))), k.at w h4' (ne_of h4' h1 ne_arr), h4''⟩, ⟨m5, f5, k.at w h5 (ne_of h5 h1 (ne_cls (by decide))), k.at w h5' (ne_of h5' h1 ne_arr), h5''⟩, ⟨f6, k.at w h6 (ne_of h6 h1 ne_arr), h6'⟩, fun i hi => k.at w (h7 i hi) (ne_of (h7 i hi) h1 (ne_cls (by decide))), fun i hi => k.at w (h8 i hi) (ne_of (h8 i hi) h1 (ne_pl (plc_cls _ _ _).2.1)), fun n hn => ?_, h10⟩
  obtain ⟨x, k1, k2⟩ := h9 n hn
  exact ⟨x, k.at w k1 (ne_of k1 h1 (ne_cls (by decide))), k2⟩
/-- the world so far: k nations, j flags -/
def part (N : AF) (k j : Nat) : AF := fun q => if q = 7 then nI k else if q = 10 then nI j else N q
theorem part_o (N : AF) (k j : Nat) {q : Nat} (h : ¬ q = 7) (h' : ¬ q = 10) : part N k j q = N q := (if_neg h).trans (if_neg h')
theorem part_fl (N : AF) (k j i q : Nat) : fl (part N k j) i q = fl N i q := part_o N k j (by omega) (by omega)
theorem part_na (N : AF) (k j i q : Nat) : na (part N k j) i q = na N i q := part_o N k j (by omega) (by omega)
theorem part_nN (N : AF) {k : Nat} (j : Nat) (hk : k < 2 ^ 31) : nN (part N k j) = k := nI_clamp hk
theorem part_nF (N : AF) (k : Nat) {j : Nat} (hj : j < 2 ^ 31) : nF (part N k j) = j := nI_clamp hj
theorem part_nC (N : AF) (k j : Nat) : nC (part N k j) = nC N := rfl
theorem part_nT (N : AF) (k j : Nat) : nT (part N k j) = nT N := rfl
theorem part_all {N : AF} (h : WFc N) : part N (nN N) (nF N) = N := by
  funext q
  unfold part
  split
  · rename_i c; rw [c]; exact h.2.1.1.symm
  · split
    · rename_i c; rw [c]; exact h.2.2.2.2.1.symm
    · rfl
theorem part_HD (N : AF) (k j i : Nat) (h : Int32) : HD (part N k j) i h ↔ HD N i h := by
  unfold HD
  rw [part_na, part_na, part_na]
theorem c_wNew {l : Launch} {g : GC} (σ : AH) (w : Nat) (p : Int32) (hw : σ.1 w = some (.inr (.inl (4, [.int 0, .null, .null, .null, .null, .null, .int 0, .int 0, .int 0, .int 0, .int 0, .int 0, .int 0, .int 0, .int 0])))) : AMet l g mX5_init 4 11 [.ref w, .int p] σ (A_wnew g w p σ) (A_no) := by
  refine A_of rfl (by decide) (Nat.le_of_ble_eq_true rfl) (L0 := [(0, .ref w), (1, .int p)]) rfl ?_
  refine A_wfh (fun wσ hgσ => ?_)
  have zσ : kx w σ σ := kx.rf
  refine A_aload_n (i := 0) dX5_init_0 rfl rfl ?_
  refine A_objInit q767 q179 q180 dX5_init_1 (by decide) (Nat.le_of_ble_eq_true rfl) ?_
  refine A_aload_n (i := 0) dX5_init_4 rfl rfl ?_
  refine A_bipush (v := 6) dX5_init_5 (by decide) ?_
  refine A_newa (b' := 9) (u := 2) (ta := .int) (atype := .int) rfl (by decide) q267 (a0 := (6, .inl (fun _ => 0))) (fun _ => rfl) (by decide) (n' := 6) (by decide) (by decide) (Nat.le_of_ble_eq_true rfl) ⟨Nat.le_of_ble_eq_true rfl, Nat.le_of_ble_eq_true rfl⟩ dX5_init_7 ?_
  obtain ⟨σ1, eσ1⟩ : ∃ τ, τ = h_new σ (.inl (.int, 6, .inl (fun _ => 0))) := ⟨_, rfl⟩
  refine A_st (σ' := σ1) eσ1.symm ?_
  have wσ1 : wfh σ1 := by rw [eσ1]; exact wσ.new
  have fσ1_0 : σ1.1 w = some (.inr (.inl (4, [.int 0, .null, .null, .null, .null, .null, .int 0, .int 0, .int 0, .int 0, .int 0, .int 0, .int 0, .int 0, .int 0]))) := by rw [eσ1]; exact (hn_ne (Nat.ne_of_lt (wσ _ _ hw))).trans hw
  have fσ1_1 : σ1.1 σ.2 = some (.inl (.int, 6, .inl (fun _ => 0))) := by rw [eσ1]; exact if_pos rfl
  have xσ1 : ext σ σ1 := by rw [eσ1]; exact ext_new _ _
  have zσ1 : kx w σ σ1 := by rw [eσ1]; exact zσ.new
  refine A_putfF cb_X5 fσ1_0 1 (Nat.le_of_ble_eq_true rfl) q824 rfl rfl rfl rfl rfl rfl (Nat.le_of_ble_eq_true rfl) dX5_init_9 ?_
  obtain ⟨σ2, eσ2⟩ : ∃ τ, τ = h_put σ1 w (.inr (.inl (4, [.int 0, .ref σ.2, .null, .null, .null, .null, .int 0, .int 0, .int 0, .int 0, .int 0, .int 0, .int 0, .int 0, .int 0]))) := ⟨_, rfl⟩
  refine A_st (σ' := σ2) eσ2.symm ?_
  have wσ2 : wfh σ2 := by rw [eσ2]; exact wσ1.put fσ1_0
  have fσ2_0 : σ2.1 w = some (.inr (.inl (4, [.int 0, .ref σ.2, .null, .null, .null, .null, .int 0, .int 0, .int 0, .int 0, .int 0, .int 0, .int 0, .int 0, .int 0]))) := by rw [eσ2]; exact if_pos rfl
  have fσ2_1 : σ2.1 σ.2 = some (.inl (.int, 6, .inl (fun _ => 0))) := by rw [eσ2]; exact (hp_ne (ne_of (x := .inl (.int, 6, .inl (fun _ => 0))) (y := .inr (.inl (4, [.int 0, .null, .null, .null, .null, .null, .int 0, .int 0, .int 0, .int 0, .int 0, .int 0, .int 0, .int 0, .int 0]))) fσ1_1 fσ1_0 (fun e8 => by simp at e8))).trans fσ1_1
  have zσ2 : kx w σ σ2 := by rw [eσ2]; exact zσ1.put
  refine A_aload_n (i := 0) dX5_init_12 rfl rfl ?_
  refine A_iconst (v := 3) dX5_init_13 (by decide) ?_
  refine A_newa (b' := 8) (u := 1) (ta := .int) (atype := .int) rfl (by decide) q267 (a0 := (3, .inl (fun _ => 0))) (fun _ => rfl) (by decide) (n' := 3) (by decide) (by decide) (Nat.le_of_ble_eq_true rfl) ⟨Nat.le_of_ble_eq_true rfl, Nat.le_of_ble_eq_true rfl⟩ dX5_init_14 ?_
  obtain ⟨σ3, eσ3⟩ : ∃ τ, τ = h_new σ2 (.inl (.int, 3, .inl (fun _ => 0))) := ⟨_, rfl⟩
  refine A_st (σ' := σ3) eσ3.symm ?_
  have wσ3 : wfh σ3 := by rw [eσ3]; exact wσ2.new
  have fσ3_0 : σ3.1 w = some (.inr (.inl (4, [.int 0, .ref σ.2, .null, .null, .null, .null, .int 0, .int 0, .int 0, .int 0, .int 0, .int 0, .int 0, .int 0, .int 0]))) := by rw [eσ3]; exact (hn_ne (Nat.ne_of_lt (wσ2 _ _ fσ2_0))).trans fσ2_0
  have fσ3_1 : σ3.1 σ.2 = some (.inl (.int, 6, .inl (fun _ => 0))) := by rw [eσ3]; exact (hn_ne (Nat.ne_of_lt (wσ2 _ _ fσ2_1))).trans fσ2_1
  have fσ3_2 : σ3.1 σ2.2 = some (.inl (.int, 3, .inl (fun _ => 0))) := by rw [eσ3]; exact if_pos rfl
  have xσ3 : ext σ2 σ3 := by rw [eσ3]; exact ext_new _ _
  have zσ3 : kx w σ σ3 := by rw [eσ3]; exact zσ2.new
  refine A_putfF cb_X5 fσ3_0 2 (Nat.le_of_ble_eq_true rfl) q827 rfl rfl rfl rfl rfl rfl (Nat.le_of_ble_eq_true rfl) dX5_init_16 ?_
  obtain ⟨σ4, eσ4⟩ : ∃ τ, τ = h_put σ3 w (.inr (.inl (4, [.int 0, .ref σ.2, .ref σ2.2, .null, .null, .null, .int 0, .int 0, .int 0, .int 0, .int 0, .int 0, .int 0, .int 0, .int 0]))) := ⟨_, rfl⟩
  refine A_st (σ' := σ4) eσ4.symm ?_
  have wσ4 : wfh σ4 := by rw [eσ4]; exact wσ3.put fσ3_0
  have fσ4_0 : σ4.1 w = some (.inr (.inl (4, [.int 0, .ref σ.2, .ref σ2.2, .null, .null, .null, .int 0, .int 0, .int 0, .int 0, .int 0, .int 0, .int 0, .int 0, .int 0]))) := by rw [eσ4]; exact if_pos rfl
  have fσ4_1 : σ4.1 σ.2 = some (.inl (.int, 6, .inl (fun _ => 0))) := by rw [eσ4]; exact (hp_ne (ne_of (x := .inl (.int, 6, .inl (fun _ => 0))) (y := .inr (.inl (4, [.int 0, .ref σ.2, .null, .null, .null, .null, .int 0, .int 0, .int 0, .int 0, .int 0, .int 0, .int 0, .int 0, .int 0]))) fσ3_1 fσ3_0 (fun e8 => by simp at e8))).trans fσ3_1
  have fσ4_2 : σ4.1 σ2.2 = some (.inl (.int, 3, .inl (fun _ => 0))) := by rw [eσ4]; exact (hp_ne (ne_of (x := .inl (.int, 3, .inl (fun _ => 0))) (y := .inr (.inl (4, [.int 0, .ref σ.2, .null, .null, .null, .null, .int 0, .int 0, .int 0, .int 0, .int 0, .int 0, .int 0, .int 0, .int 0]))) fσ3_2 fσ3_0 (fun e8 => by simp at e8))).trans fσ3_2
  have zσ4 : kx w σ σ4 := by rw [eσ4]; exact zσ3.put
  refine A_aload_n (i := 0) dX5_init_19 rfl rfl ?_
  refine A_new (b' := 7) (u := 1) cb_J20 q768 q769 q161 (fs := [.int 0, .null, .int 0]) (by intro j hj; rcases j with _ | j; exact rfl; rcases j with _ | j; exact rfl; rcases j with _ | j; exact rfl; omega) (Nat.le_of_ble_eq_true rfl) ⟨Nat.le_of_ble_eq_true rfl, Nat.le_of_ble_eq_true rfl⟩ dX5_init_20 ?_
  obtain ⟨σ5, eσ5⟩ : ∃ τ, τ = h_new σ4 (.inr (.inl (14, [.int 0, .null, .int 0]))) := ⟨_, rfl⟩
  refine A_st (σ' := σ5) eσ5.symm ?_
  have wσ5 : wfh σ5 := by rw [eσ5]; exact wσ4.new
  have fσ5_0 : σ5.1 w = some (.inr (.inl (4, [.int 0, .ref σ.2, .ref σ2.2, .null, .null, .null, .int 0, .int 0, .int 0, .int 0, .int 0, .int 0, .int 0, .int 0, .int 0]))) := by rw [eσ5]; exact (hn_ne (Nat.ne_of_lt (wσ4 _ _ fσ4_0))).trans fσ4_0
  have fσ5_1 : σ5.1 σ.2 = some (.inl (.int, 6, .inl (fun _ => 0))) := by rw [eσ5]; exact (hn_ne (Nat.ne_of_lt (wσ4 _ _ fσ4_1))).trans fσ4_1
  have fσ5_2 : σ5.1 σ2.2 = some (.inl (.int, 3, .inl (fun _ => 0))) := by rw [eσ5]; exact (hn_ne (Nat.ne_of_lt (wσ4 _ _ fσ4_2))).trans fσ4_2
  have fσ5_3 : σ5.1 σ4.2 = some (.inr (.inl (14, [.int 0, .null, .int 0]))) := by rw [eσ5]; exact if_pos rfl
  have xσ5 : ext σ4 σ5 := by rw [eσ5]; exact ext_new _ _
  have zσ5 : kx w σ σ5 := by rw [eσ5]; exact zσ4.new
  refine A_dup dX5_init_23 rfl ?_
  refine A_iconst (v := 4) dX5_init_24 (by decide) ?_
  refine A_callI1E (b' := 6) (v := none) (τ := h_put (h_new (h_put σ5 σ4.2 (.inr (.inl (14, [.int 0, .null, .int 0])))) (.inl (.object "java/lang/Object", 4, .inr (.inr (.inr (.inr (fun _ => none))))))) σ4.2 (.inr (.inl (14, [.int 0, .ref σ5.2, .int 0])))) (c_lNew4 σ5 σ4.2 fσ5_3) tJ20_init q770 dX5_init_25 (by decide) (Nat.le_of_ble_eq_true rfl) (Nat.le_of_ble_eq_true rfl) ?_
  obtain ⟨σ6, eσ6⟩ : ∃ τ, τ = h_put (h_new (h_put σ5 σ4.2 (.inr (.inl (14, [.int 0, .null, .int 0])))) (.inl (.object "java/lang/Object", 4, .inr (.inr (.inr (.inr (fun _ => none))))))) σ4.2 (.inr (.inl (14, [.int 0, .ref σ5.2, .int 0]))) := ⟨_, rfl⟩
  refine A_st (σ' := σ6) eσ6.symm ?_
  have wσ6 : wfh σ6 := by rw [eσ6]; exact (((wσ5.put fσ5_3).new).put ((hn_ne (by exact Nat.ne_of_lt (wσ5 _ _ fσ5_3))).trans (if_pos rfl)))
  have zσ6 : kx w σ σ6 := by rw [eσ6]; exact (((zσ5.putN (zσ4.1)).new).putN (zσ4.1))
  have fσ6_0 : σ6.1 w = some (.inr (.inl (4, [.int 0, .ref σ.2, .ref σ2.2, .null, .null, .null, .int 0, .int 0, .int 0, .int 0, .int 0, .int 0, .int 0, .int 0, .int 0]))) := by rw [eσ6]; exact ((hp_ne (ne_of (x := .inr (.inl (4, [.int 0, .ref σ.2, .ref σ2.2, .null, .null, .null, .int 0, .int 0, .int 0, .int 0, .int 0, .int 0, .int 0, .int 0, .int 0]))) (y := .inr (.inl (14, [.int 0, .null, .int 0]))) fσ5_0 fσ5_3 (fun e8 => by simp at e8))).trans ((hn_ne (by exact Nat.ne_of_lt (wσ5 _ _ fσ5_0))).trans ((hp_ne (ne_of (x := .inr (.inl (4, [.int 0, .ref σ.2, .ref σ2.2, .null, .null, .null, .int 0, .int 0, .int 0, .int 0, .int 0, .int 0, .int 0, .int 0, .int 0]))) (y := .inr (.inl (14, [.int 0, .null, .int 0]))) fσ5_0 fσ5_3 (fun e8 => by simp at e8))).trans fσ5_0)))
  have fσ6_1 : σ6.1 σ.2 = some (.inl (.int, 6, .inl (fun _ => 0))) := by rw [eσ6]; exact ((hp_ne (ne_of (x := .inl (.int, 6, .inl (fun _ => 0))) (y := .inr (.inl (14, [.int 0, .null, .int 0]))) fσ5_1 fσ5_3 (fun e8 => by simp at e8))).trans ((hn_ne (by exact Nat.ne_of_lt (wσ5 _ _ fσ5_1))).trans ((hp_ne (ne_of (x := .inl (.int, 6, .inl (fun _ => 0))) (y := .inr (.inl (14, [.int 0, .null, .int 0]))) fσ5_1 fσ5_3 (fun e8 => by simp at e8))).trans fσ5_1)))
  have fσ6_2 : σ6.1 σ2.2 = some (.inl (.int, 3, .inl (fun _ => 0))) := by rw [eσ6]; exact ((hp_ne (ne_of (x := .inl (.int, 3, .inl (fun _ => 0))) (y := .inr (.inl (14, [.int 0, .null, .int 0]))) fσ5_2 fσ5_3 (fun e8 => by simp at e8))).trans ((hn_ne (by exact Nat.ne_of_lt (wσ5 _ _ fσ5_2))).trans ((hp_ne (ne_of (x := .inl (.int, 3, .inl (fun _ => 0))) (y := .inr (.inl (14, [.int 0, .null, .int 0]))) fσ5_2 fσ5_3 (fun e8 => by simp at e8))).trans fσ5_2)))
  have fσ6_3 : σ6.1 σ4.2 = some (.inr (.inl (14, [.int 0, .ref σ5.2, .int 0]))) := by rw [eσ6]; exact (if_pos rfl)
  have fσ6_4 : σ6.1 σ5.2 = some (.inl (.object "java/lang/Object", 4, .inr (.inr (.inr (.inr (fun _ => none)))))) := by rw [eσ6]; exact ((hp_ne (Nat.ne_of_gt (wσ5 _ _ fσ5_3))).trans (if_pos rfl))
  refine A_putfF cb_X5 fσ6_0 3 (Nat.le_of_ble_eq_true rfl) q830 rfl rfl rfl rfl rfl rfl (Nat.le_of_ble_eq_true rfl) dX5_init_28 ?_
  obtain ⟨σ7, eσ7⟩ : ∃ τ, τ = h_put σ6 w (.inr (.inl (4, [.int 0, .ref σ.2, .ref σ2.2, .ref σ4.2, .null, .null, .int 0, .int 0, .int 0, .int 0, .int 0, .int 0, .int 0, .int 0, .int 0]))) := ⟨_, rfl⟩
  refine A_st (σ' := σ7) eσ7.symm ?_
  have wσ7 : wfh σ7 := by rw [eσ7]; exact wσ6.put fσ6_0
  have fσ7_0 : σ7.1 w = some (.inr (.inl (4, [.int 0, .ref σ.2, .ref σ2.2, .ref σ4.2, .null, .null, .int 0, .int 0, .int 0, .int 0, .int 0, .int 0, .int 0, .int 0, .int 0]))) := by rw [eσ7]; exact if_pos rfl
  have fσ7_1 : σ7.1 σ.2 = some (.inl (.int, 6, .inl (fun _ => 0))) := by rw [eσ7]; exact (hp_ne (ne_of (x := .inl (.int, 6, .inl (fun _ => 0))) (y := .inr (.inl (4, [.int 0, .ref σ.2, .ref σ2.2, .null, .null, .null, .int 0, .int 0, .int 0, .int 0, .int 0, .int 0, .int 0, .int 0, .int 0]))) fσ6_1 fσ6_0 (fun e8 => by simp at e8))).trans fσ6_1
  have fσ7_2 : σ7.1 σ2.2 = some (.inl (.int, 3, .inl (fun _ => 0))) := by rw [eσ7]; exact (hp_ne (ne_of (x := .inl (.int, 3, .inl (fun _ => 0))) (y := .inr (.inl (4, [.int 0, .ref σ.2, .ref σ2.2, .null, .null, .null, .int 0, .int 0, .int 0, .int 0, .int 0, .int 0, .int 0, .int 0, .int 0]))) fσ6_2 fσ6_0 (fun e8 => by simp at e8))).trans fσ6_2
  have fσ7_3 : σ7.1 σ4.2 = some (.inr (.inl (14, [.int 0, .ref σ5.2, .int 0]))) := by rw [eσ7]; exact (hp_ne (ne_of (x := .inr (.inl (14, [.int 0, .ref σ5.2, .int 0]))) (y := .inr (.inl (4, [.int 0, .ref σ.2, .ref σ2.2, .null, .null, .null, .int 0, .int 0, .int 0, .int 0, .int 0, .int 0, .int 0, .int 0, .int 0]))) fσ6_3 fσ6_0 (fun e8 => by simp at e8))).trans fσ6_3
  have fσ7_4 : σ7.1 σ5.2 = some (.inl (.object "java/lang/Object", 4, .inr (.inr (.inr (.inr (fun _ => none)))))) := by rw [eσ7]; exact (hp_ne (ne_of (x := .inl (.object "java/lang/Object", 4, .inr (.inr (.inr (.inr (fun _ => none)))))) (y := .inr (.inl (4, [.int 0, .ref σ.2, .ref σ2.2, .null, .null, .null, .int 0, .int 0, .int 0, .int 0, .int 0, .int 0, .int 0, .int 0, .int 0]))) fσ6_4 fσ6_0 (fun e8 => by simp at e8))).trans fσ6_4
  have zσ7 : kx w σ σ7 := by rw [eσ7]; exact zσ6.put
  refine A_aload_n (i := 0) dX5_init_31 rfl rfl ?_
  refine A_new (b' := 5) (u := 1) cb_J20 q768 q769 q161 (fs := [.int 0, .null, .int 0]) (by intro j hj; rcases j with _ | j; exact rfl; rcases j with _ | j; exact rfl; rcases j with _ | j; exact rfl; omega) (Nat.le_of_ble_eq_true rfl) ⟨Nat.le_of_ble_eq_true rfl, Nat.le_of_ble_eq_true rfl⟩ dX5_init_32 ?_
  obtain ⟨σ8, eσ8⟩ : ∃ τ, τ = h_new σ7 (.inr (.inl (14, [.int 0, .null, .int 0]))) := ⟨_, rfl⟩
  refine A_st (σ' := σ8) eσ8.symm ?_
  have wσ8 : wfh σ8 := by rw [eσ8]; exact wσ7.new
  have fσ8_0 : σ8.1 w = some (.inr (.inl (4, [.int 0, .ref σ.2, .ref σ2.2, .ref σ4.2, .null, .null, .int 0, .int 0, .int 0, .int 0, .int 0, .int 0, .int 0, .int 0, .int 0]))) := by rw [eσ8]; exact (hn_ne (Nat.ne_of_lt (wσ7 _ _ fσ7_0))).trans fσ7_0
  have fσ8_1 : σ8.1 σ.2 = some (.inl (.int, 6, .inl (fun _ => 0))) := by rw [eσ8]; exact (hn_ne (Nat.ne_of_lt (wσ7 _ _ fσ7_1))).trans fσ7_1
  have fσ8_2 : σ8.1 σ2.2 = some (.inl (.int, 3, .inl (fun _ => 0))) := by rw [eσ8]; exact (hn_ne (Nat.ne_of_lt (wσ7 _ _ fσ7_2))).trans fσ7_2
  have fσ8_3 : σ8.1 σ4.2 = some (.inr (.inl (14, [.int 0, .ref σ5.2, .int 0]))) := by rw [eσ8]; exact (hn_ne (Nat.ne_of_lt (wσ7 _ _ fσ7_3))).trans fσ7_3
  have fσ8_4 : σ8.1 σ5.2 = some (.inl (.object "java/lang/Object", 4, .inr (.inr (.inr (.inr (fun _ => none)))))) := by rw [eσ8]; exact (hn_ne (Nat.ne_of_lt (wσ7 _ _ fσ7_4))).trans fσ7_4
  have fσ8_5 : σ8.1 σ7.2 = some (.inr (.inl (14, [.int 0, .null, .int 0]))) := by rw [eσ8]; exact if_pos rfl
  have xσ8 : ext σ7 σ8 := by rw [eσ8]; exact ext_new _ _
  have zσ8 : kx w σ σ8 := by rw [eσ8]; exact zσ7.new
  refine A_dup dX5_init_35 rfl ?_
  refine A_bipush (v := 12) dX5_init_36 (by decide) ?_
  refine A_callI1E (b' := 2) (v := none) (τ := h_put (h_new (h_put σ8 σ7.2 (.inr (.inl (14, [.int 0, .null, .int 0])))) (.inl (.object "java/lang/Object", 12, .inr (.inr (.inr (.inr (fun _ => none))))))) σ7.2 (.inr (.inl (14, [.int 0, .ref σ8.2, .int 0])))) (c_lNew12 σ8 σ7.2 fσ8_5) tJ20_init q770 dX5_init_38 (by decide) (Nat.le_of_ble_eq_true rfl) (Nat.le_of_ble_eq_true rfl) ?_
  obtain ⟨σ9, eσ9⟩ : ∃ τ, τ = h_put (h_new (h_put σ8 σ7.2 (.inr (.inl (14, [.int 0, .null, .int 0])))) (.inl (.object "java/lang/Object", 12, .inr (.inr (.inr (.inr (fun _ => none))))))) σ7.2 (.inr (.inl (14, [.int 0, .ref σ8.2, .int 0]))) := ⟨_, rfl⟩
  refine A_st (σ' := σ9) eσ9.symm ?_
  have wσ9 : wfh σ9 := by rw [eσ9]; exact (((wσ8.put fσ8_5).new).put ((hn_ne (by exact Nat.ne_of_lt (wσ8 _ _ fσ8_5))).trans (if_pos rfl)))
  have zσ9 : kx w σ σ9 := by rw [eσ9]; exact (((zσ8.putN (zσ7.1)).new).putN (zσ7.1))
  have fσ9_0 : σ9.1 w = some (.inr (.inl (4, [.int 0, .ref σ.2, .ref σ2.2, .ref σ4.2, .null, .null, .int 0, .int 0, .int 0, .int 0, .int 0, .int 0, .int 0, .int 0, .int 0]))) := by rw [eσ9]; exact ((hp_ne (ne_of (x := .inr (.inl (4, [.int 0, .ref σ.2, .ref σ2.2, .ref σ4.2, .null, .null, .int 0, .int 0, .int 0, .int 0, .int 0, .int 0, .int 0, .int 0, .int 0]))) (y := .inr (.inl (14, [.int 0, .null, .int 0]))) fσ8_0 fσ8_5 (fun e8 => by simp at e8))).trans ((hn_ne (by exact Nat.ne_of_lt (wσ8 _ _ fσ8_0))).trans ((hp_ne (ne_of (x := .inr (.inl (4, [.int 0, .ref σ.2, .ref σ2.2, .ref σ4.2, .null, .null, .int 0, .int 0, .int 0, .int 0, .int 0, .int 0, .int 0, .int 0, .int 0]))) (y := .inr (.inl (14, [.int 0, .null, .int 0]))) fσ8_0 fσ8_5 (fun e8 => by simp at e8))).trans fσ8_0)))
  have fσ9_1 : σ9.1 σ.2 = some (.inl (.int, 6, .inl (fun _ => 0))) := by rw [eσ9]; exact ((hp_ne (ne_of (x := .inl (.int, 6, .inl (fun _ => 0))) (y := .inr (.inl (14, [.int 0, .null, .int 0]))) fσ8_1 fσ8_5 (fun e8 => by simp at e8))).trans ((hn_ne (by exact Nat.ne_of_lt (wσ8 _ _ fσ8_1))).trans ((hp_ne (ne_of (x := .inl (.int, 6, .inl (fun _ => 0))) (y := .inr (.inl (14, [.int 0, .null, .int 0]))) fσ8_1 fσ8_5 (fun e8 => by simp at e8))).trans fσ8_1)))
  have fσ9_2 : σ9.1 σ2.2 = some (.inl (.int, 3, .inl (fun _ => 0))) := by rw [eσ9]; exact ((hp_ne (ne_of (x := .inl (.int, 3, .inl (fun _ => 0))) (y := .inr (.inl (14, [.int 0, .null, .int 0]))) fσ8_2 fσ8_5 (fun e8 => by simp at e8))).trans ((hn_ne (by exact Nat.ne_of_lt (wσ8 _ _ fσ8_2))).trans ((hp_ne (ne_of (x := .inl (.int, 3, .inl (fun _ => 0))) (y := .inr (.inl (14, [.int 0, .null, .int 0]))) fσ8_2 fσ8_5 (fun e8 => by simp at e8))).trans fσ8_2)))
  have fσ9_3 : σ9.1 σ4.2 = some (.inr (.inl (14, [.int 0, .ref σ5.2, .int 0]))) := by rw [eσ9]; exact ((hp_ne (ne_of (x := .inr (.inl (14, [.int 0, .ref σ5.2, .int 0]))) (y := .inr (.inl (14, [.int 0, .null, .int 0]))) fσ8_3 fσ8_5 (fun e8 => by simp at e8))).trans ((hn_ne (by exact Nat.ne_of_lt (wσ8 _ _ fσ8_3))).trans ((hp_ne (ne_of (x := .inr (.inl (14, [.int 0, .ref σ5.2, .int 0]))) (y := .inr (.inl (14, [.int 0, .null, .int 0]))) fσ8_3 fσ8_5 (fun e8 => by simp at e8))).trans fσ8_3)))
  have fσ9_4 : σ9.1 σ5.2 = some (.inl (.object "java/lang/Object", 4, .inr (.inr (.inr (.inr (fun _ => none)))))) := by rw [eσ9]; exact ((hp_ne (ne_of (x := .inl (.object "java/lang/Object", 4, .inr (.inr (.inr (.inr (fun _ => none)))))) (y := .inr (.inl (14, [.int 0, .null, .int 0]))) fσ8_4 fσ8_5 (fun e8 => by simp at e8))).trans ((hn_ne (by exact Nat.ne_of_lt (wσ8 _ _ fσ8_4))).trans ((hp_ne (ne_of (x := .inl (.object "java/lang/Object", 4, .inr (.inr (.inr (.inr (fun _ => none)))))) (y := .inr (.inl (14, [.int 0, .null, .int 0]))) fσ8_4 fσ8_5 (fun e8 => by simp at e8))).trans fσ8_4)))
  have fσ9_5 : σ9.1 σ7.2 = some (.inr (.inl (14, [.int 0, .ref σ8.2, .int 0]))) := by rw [eσ9]; exact (if_pos rfl)
  have fσ9_6 : σ9.1 σ8.2 = some (.inl (.object "java/lang/Object", 12, .inr (.inr (.inr (.inr (fun _ => none)))))) := by rw [eσ9]; exact ((hp_ne (Nat.ne_of_gt (wσ8 _ _ fσ8_5))).trans (if_pos rfl))
  refine A_putfF cb_X5 fσ9_0 4 (Nat.le_of_ble_eq_true rfl) q833 rfl rfl rfl rfl rfl rfl (Nat.le_of_ble_eq_true rfl) dX5_init_41 ?_
  obtain ⟨σ10, eσ10⟩ : ∃ τ, τ = h_put σ9 w (.inr (.inl (4, [.int 0, .ref σ.2, .ref σ2.2, .ref σ4.2, .ref σ7.2, .null, .int 0, .int 0, .int 0, .int 0, .int 0, .int 0, .int 0, .int 0, .int 0]))) := ⟨_, rfl⟩
  refine A_st (σ' := σ10) eσ10.symm ?_
  have wσ10 : wfh σ10 := by rw [eσ10]; exact wσ9.put fσ9_0
  have fσ10_0 : σ10.1 w = some (.inr (.inl (4, [.int 0, .ref σ.2, .ref σ2.2, .ref σ4.2, .ref σ7.2, .null, .int 0, .int 0, .int 0, .int 0, .int 0, .int 0, .int 0, .int 0, .int 0]))) := by rw [eσ10]; exact if_pos rfl
  have fσ10_1 : σ10.1 σ.2 = some (.inl (.int, 6, .inl (fun _ => 0))) := by rw [eσ10]; exact (hp_ne (ne_of (x := .inl (.int, 6, .inl (fun _ => 0))) (y := .inr (.inl (4, [.int 0, .ref σ.2, .ref σ2.2, .ref σ4.2, .null, .null, .int 0, .int 0, .int 0, .int 0, .int 0, .int 0, .int 0, .int 0, .int 0]))) fσ9_1 fσ9_0 (fun e8 => by simp at e8))).trans fσ9_1
  have fσ10_2 : σ10.1 σ2.2 = some (.inl (.int, 3, .inl (fun _ => 0))) := by rw [eσ10]; exact (hp_ne (ne_of (x := .inl (.int, 3, .inl (fun _ => 0))) (y := .inr (.inl (4, [.int 0, .ref σ.2, .ref σ2.2, .ref σ4.2, .null, .null, .int 0, .int 0, .int 0, .int 0, .int 0, .int 0, .int 0, .int 0, .int 0]))) fσ9_2 fσ9_0 (fun e8 => by simp at e8))).trans fσ9_2
  have fσ10_3 : σ10.1 σ4.2 = some (.inr (.inl (14, [.int 0, .ref σ5.2, .int 0]))) := by rw [eσ10]; exact (hp_ne (ne_of (x := .inr (.inl (14, [.int 0, .ref σ5.2, .int 0]))) (y := .inr (.inl (4, [.int 0, .ref σ.2, .ref σ2.2, .ref σ4.2, .null, .null, .int 0, .int 0, .int 0, .int 0, .int 0, .int 0, .int 0, .int 0, .int 0]))) fσ9_3 fσ9_0 (fun e8 => by simp at e8))).trans fσ9_3
  have fσ10_4 : σ10.1 σ5.2 = some (.inl (.object "java/lang/Object", 4, .inr (.inr (.inr (.inr (fun _ => none)))))) := by rw [eσ10]; exact (hp_ne (ne_of (x := .inl (.object "java/lang/Object", 4, .inr (.inr (.inr (.inr (fun _ => none)))))) (y := .inr (.inl (4, [.int 0, .ref σ.2, .ref σ2.2, .ref σ4.2, .null, .null, .int 0, .int 0, .int 0, .int 0, .int 0, .int 0, .int 0, .int 0, .int 0]))) fσ9_4 fσ9_0 (fun e8 => by simp at e8))).trans fσ9_4
  have fσ10_5 : σ10.1 σ7.2 = some (.inr (.inl (14, [.int 0, .ref σ8.2, .int 0]))) := by rw [eσ10]; exact (hp_ne (ne_of (x := .inr (.inl (14, [.int 0, .ref σ8.2, .int 0]))) (y := .inr (.inl (4, [.int 0, .ref σ.2, .ref σ2.2, .ref σ4.2, .null, .null, .int 0, .int 0, .int 0, .int 0, .int 0, .int 0, .int 0, .int 0, .int 0]))) fσ9_5 fσ9_0 (fun e8 => by simp at e8))).trans fσ9_5
  have fσ10_6 : σ10.1 σ8.2 = some (.inl (.object "java/lang/Object", 12, .inr (.inr (.inr (.inr (fun _ => none)))))) := by rw [eσ10]; exact (hp_ne (ne_of (x := .inl (.object "java/lang/Object", 12, .inr (.inr (.inr (.inr (fun _ => none)))))) (y := .inr (.inl (4, [.int 0, .ref σ.2, .ref σ2.2, .ref σ4.2, .null, .null, .int 0, .int 0, .int 0, .int 0, .int 0, .int 0, .int 0, .int 0, .int 0]))) fσ9_6 fσ9_0 (fun e8 => by simp at e8))).trans fσ9_6
  have zσ10 : kx w σ σ10 := by rw [eσ10]; exact zσ9.put
  refine A_aload_n (i := 0) dX5_init_44 rfl rfl ?_
  refine A_bipush (v := 7) dX5_init_45 (by decide) ?_
  refine A_anew (b' := 0) (u := 2) (by decide) q803 q804 (n' := 7) (by decide) (by decide) (by decide) (Nat.le_of_ble_eq_true rfl) ⟨Nat.le_of_ble_eq_true rfl, Nat.le_of_ble_eq_true rfl⟩ dX5_init_47 ?_
  obtain ⟨σ11, eσ11⟩ : ∃ τ, τ = h_new σ10 (.inl (.object "FlagLaundry$Test", 7, .inr (.inr (.inr (.inr (fun _ => none)))))) := ⟨_, rfl⟩
  refine A_st (σ' := σ11) eσ11.symm ?_
  have wσ11 : wfh σ11 := by rw [eσ11]; exact wσ10.new
  have fσ11_0 : σ11.1 w = some (.inr (.inl (4, [.int 0, .ref σ.2, .ref σ2.2, .ref σ4.2, .ref σ7.2, .null, .int 0, .int 0, .int 0, .int 0, .int 0, .int 0, .int 0, .int 0, .int 0]))) := by rw [eσ11]; exact (hn_ne (Nat.ne_of_lt (wσ10 _ _ fσ10_0))).trans fσ10_0
  have fσ11_1 : σ11.1 σ.2 = some (.inl (.int, 6, .inl (fun _ => 0))) := by rw [eσ11]; exact (hn_ne (Nat.ne_of_lt (wσ10 _ _ fσ10_1))).trans fσ10_1
  have fσ11_2 : σ11.1 σ2.2 = some (.inl (.int, 3, .inl (fun _ => 0))) := by rw [eσ11]; exact (hn_ne (Nat.ne_of_lt (wσ10 _ _ fσ10_2))).trans fσ10_2
  have fσ11_3 : σ11.1 σ4.2 = some (.inr (.inl (14, [.int 0, .ref σ5.2, .int 0]))) := by rw [eσ11]; exact (hn_ne (Nat.ne_of_lt (wσ10 _ _ fσ10_3))).trans fσ10_3
  have fσ11_4 : σ11.1 σ5.2 = some (.inl (.object "java/lang/Object", 4, .inr (.inr (.inr (.inr (fun _ => none)))))) := by rw [eσ11]; exact (hn_ne (Nat.ne_of_lt (wσ10 _ _ fσ10_4))).trans fσ10_4
  have fσ11_5 : σ11.1 σ7.2 = some (.inr (.inl (14, [.int 0, .ref σ8.2, .int 0]))) := by rw [eσ11]; exact (hn_ne (Nat.ne_of_lt (wσ10 _ _ fσ10_5))).trans fσ10_5
  have fσ11_6 : σ11.1 σ8.2 = some (.inl (.object "java/lang/Object", 12, .inr (.inr (.inr (.inr (fun _ => none)))))) := by rw [eσ11]; exact (hn_ne (Nat.ne_of_lt (wσ10 _ _ fσ10_6))).trans fσ10_6
  have fσ11_7 : σ11.1 σ10.2 = some (.inl (.object "FlagLaundry$Test", 7, .inr (.inr (.inr (.inr (fun _ => none)))))) := by rw [eσ11]; exact if_pos rfl
  have xσ11 : ext σ10 σ11 := by rw [eσ11]; exact ext_new _ _
  have zσ11 : kx w σ σ11 := by rw [eσ11]; exact zσ10.new
  refine A_dup dX5_init_50 rfl ?_
  refine A_iconst (v := 0) dX5_init_51 (by decide) ?_
  refine A_mk1 (Nat.le_of_ble_eq_true rfl) (fun a9_1 ha9_1 => ?_)
  refine A_aastL fσ11_7 (Or.inr ⟨rfl, ha9_1⟩) (show g_sites[0]? = some _ from rfl) si1 (by decide +kernel) (by unfold vp_in; decide) dX5_init_57 ?_
  refine A_st (σ' := h_put σ11 σ10.2 (.inl (.object "FlagLaundry$Test", 7, .inr (.inr (.inr (.inr (va_up (fun _ => none) 0 (some a9_1)))))))) (rfl) ?_
  obtain ⟨σ12, eσ12⟩ : ∃ τ, τ = h_put σ11 σ10.2 (.inl (.object "FlagLaundry$Test", 7, .inr (.inr (.inr (.inr (va_up (fun _ => none) 0 (some a9_1))))))) := ⟨_, rfl⟩
  refine A_st (σ' := σ12) eσ12.symm ?_
  have wσ12 : wfh σ12 := by rw [eσ12]; exact wσ11.put fσ11_7
  have fσ12_0 : σ12.1 w = some (.inr (.inl (4, [.int 0, .ref σ.2, .ref σ2.2, .ref σ4.2, .ref σ7.2, .null, .int 0, .int 0, .int 0, .int 0, .int 0, .int 0, .int 0, .int 0, .int 0]))) := by rw [eσ12]; exact (hp_ne (ne_of (x := .inr (.inl (4, [.int 0, .ref σ.2, .ref σ2.2, .ref σ4.2, .ref σ7.2, .null, .int 0, .int 0, .int 0, .int 0, .int 0, .int 0, .int 0, .int 0, .int 0]))) (y := .inl (.object "FlagLaundry$Test", 7, .inr (.inr (.inr (.inr (fun _ => none)))))) fσ11_0 fσ11_7 (fun e8 => by simp at e8))).trans fσ11_0
  have fσ12_1 : σ12.1 σ.2 = some (.inl (.int, 6, .inl (fun _ => 0))) := by rw [eσ12]; exact (hp_ne (ne_of (x := .inl (.int, 6, .inl (fun _ => 0))) (y := .inl (.object "FlagLaundry$Test", 7, .inr (.inr (.inr (.inr (fun _ => none)))))) fσ11_1 fσ11_7 (fun e8 => by simp at e8))).trans fσ11_1
  have fσ12_2 : σ12.1 σ2.2 = some (.inl (.int, 3, .inl (fun _ => 0))) := by rw [eσ12]; exact (hp_ne (ne_of (x := .inl (.int, 3, .inl (fun _ => 0))) (y := .inl (.object "FlagLaundry$Test", 7, .inr (.inr (.inr (.inr (fun _ => none)))))) fσ11_2 fσ11_7 (fun e8 => by simp at e8))).trans fσ11_2
  have fσ12_3 : σ12.1 σ4.2 = some (.inr (.inl (14, [.int 0, .ref σ5.2, .int 0]))) := by rw [eσ12]; exact (hp_ne (ne_of (x := .inr (.inl (14, [.int 0, .ref σ5.2, .int 0]))) (y := .inl (.object "FlagLaundry$Test", 7, .inr (.inr (.inr (.inr (fun _ => none)))))) fσ11_3 fσ11_7 (fun e8 => by simp at e8))).trans fσ11_3
  have fσ12_4 : σ12.1 σ5.2 = some (.inl (.object "java/lang/Object", 4, .inr (.inr (.inr (.inr (fun _ => none)))))) := by rw [eσ12]; exact (hp_ne (ne_of (x := .inl (.object "java/lang/Object", 4, .inr (.inr (.inr (.inr (fun _ => none)))))) (y := .inl (.object "FlagLaundry$Test", 7, .inr (.inr (.inr (.inr (fun _ => none)))))) fσ11_4 fσ11_7 (fun e8 => by simp at e8))).trans fσ11_4
  have fσ12_5 : σ12.1 σ7.2 = some (.inr (.inl (14, [.int 0, .ref σ8.2, .int 0]))) := by rw [eσ12]; exact (hp_ne (ne_of (x := .inr (.inl (14, [.int 0, .ref σ8.2, .int 0]))) (y := .inl (.object "FlagLaundry$Test", 7, .inr (.inr (.inr (.inr (fun _ => none)))))) fσ11_5 fσ11_7 (fun e8 => by simp at e8))).trans fσ11_5
  have fσ12_6 : σ12.1 σ8.2 = some (.inl (.object "java/lang/Object", 12, .inr (.inr (.inr (.inr (fun _ => none)))))) := by rw [eσ12]; exact (hp_ne (ne_of (x := .inl (.object "java/lang/Object", 12, .inr (.inr (.inr (.inr (fun _ => none)))))) (y := .inl (.object "FlagLaundry$Test", 7, .inr (.inr (.inr (.inr (fun _ => none)))))) fσ11_6 fσ11_7 (fun e8 => by simp at e8))).trans fσ11_6
  have fσ12_7 : σ12.1 σ10.2 = some (.inl (.object "FlagLaundry$Test", 7, .inr (.inr (.inr (.inr (va_up (fun _ => none) 0 (some a9_1))))))) := by rw [eσ12]; exact if_pos rfl
  have zσ12 : kx w σ σ12 := by rw [eσ12]; exact zσ11.putN (zσ10.1)
  refine A_dup dX5_init_58 rfl ?_
  refine A_iconst (v := 1) dX5_init_59 (by decide) ?_
  refine A_mk2 (Nat.le_of_ble_eq_true rfl) (fun a9_2 ha9_2 => ?_)
  refine A_aastL fσ12_7 (Or.inr ⟨rfl, ha9_2⟩) (show g_sites[1]? = some _ from rfl) si2 (by decide +kernel) (by unfold vp_in; decide) dX5_init_65 ?_
  refine A_st (σ' := h_put σ12 σ10.2 (.inl (.object "FlagLaundry$Test", 7, .inr (.inr (.inr (.inr (va_up (va_up (fun _ => none) 0 (some a9_1)) 1 (some a9_2)))))))) (rfl) ?_
  obtain ⟨σ13, eσ13⟩ : ∃ τ, τ = h_put σ12 σ10.2 (.inl (.object "FlagLaundry$Test", 7, .inr (.inr (.inr (.inr (va_up (va_up (fun _ => none) 0 (some a9_1)) 1 (some a9_2))))))) := ⟨_, rfl⟩
  refine A_st (σ' := σ13) eσ13.symm ?_
  have wσ13 : wfh σ13 := by rw [eσ13]; exact wσ12.put fσ12_7
  have fσ13_0 : σ13.1 w = some (.inr (.inl (4, [.int 0, .ref σ.2, .ref σ2.2, .ref σ4.2, .ref σ7.2, .null, .int 0, .int 0, .int 0, .int 0, .int 0, .int 0, .int 0, .int 0, .int 0]))) := by rw [eσ13]; exact (hp_ne (ne_of (x := .inr (.inl (4, [.int 0, .ref σ.2, .ref σ2.2, .ref σ4.2, .ref σ7.2, .null, .int 0, .int 0, .int 0, .int 0, .int 0, .int 0, .int 0, .int 0, .int 0]))) (y := .inl (.object "FlagLaundry$Test", 7, .inr (.inr (.inr (.inr (va_up (fun _ => none) 0 (some a9_1))))))) fσ12_0 fσ12_7 (fun e8 => by simp at e8))).trans fσ12_0
  have fσ13_1 : σ13.1 σ.2 = some (.inl (.int, 6, .inl (fun _ => 0))) := by rw [eσ13]; exact (hp_ne (ne_of (x := .inl (.int, 6, .inl (fun _ => 0))) (y := .inl (.object "FlagLaundry$Test", 7, .inr (.inr (.inr (.inr (va_up (fun _ => none) 0 (some a9_1))))))) fσ12_1 fσ12_7 (fun e8 => by simp at e8))).trans fσ12_1
  have fσ13_2 : σ13.1 σ2.2 = some (.inl (.int, 3, .inl (fun _ => 0))) := by rw [eσ13]; exact (hp_ne (ne_of (x := .inl (.int, 3, .inl (fun _ => 0))) (y := .inl (.object "FlagLaundry$Test", 7, .inr (.inr (.inr (.inr (va_up (fun _ => none) 0 (some a9_1))))))) fσ12_2 fσ12_7 (fun e8 => by simp at e8))).trans fσ12_2
  have fσ13_3 : σ13.1 σ4.2 = some (.inr (.inl (14, [.int 0, .ref σ5.2, .int 0]))) := by rw [eσ13]; exact (hp_ne (ne_of (x := .inr (.inl (14, [.int 0, .ref σ5.2, .int 0]))) (y := .inl (.object "FlagLaundry$Test", 7, .inr (.inr (.inr (.inr (va_up (fun _ => none) 0 (some a9_1))))))) fσ12_3 fσ12_7 (fun e8 => by simp at e8))).trans fσ12_3
  have fσ13_4 : σ13.1 σ5.2 = some (.inl (.object "java/lang/Object", 4, .inr (.inr (.inr (.inr (fun _ => none)))))) := by rw [eσ13]; exact (hp_ne (ne_of (x := .inl (.object "java/lang/Object", 4, .inr (.inr (.inr (.inr (fun _ => none)))))) (y := .inl (.object "FlagLaundry$Test", 7, .inr (.inr (.inr (.inr (va_up (fun _ => none) 0 (some a9_1))))))) fσ12_4 fσ12_7 (fun e8 => by simp at e8))).trans fσ12_4
  have fσ13_5 : σ13.1 σ7.2 = some (.inr (.inl (14, [.int 0, .ref σ8.2, .int 0]))) := by rw [eσ13]; exact (hp_ne (ne_of (x := .inr (.inl (14, [.int 0, .ref σ8.2, .int 0]))) (y := .inl (.object "FlagLaundry$Test", 7, .inr (.inr (.inr (.inr (va_up (fun _ => none) 0 (some a9_1))))))) fσ12_5 fσ12_7 (fun e8 => by simp at e8))).trans fσ12_5
  have fσ13_6 : σ13.1 σ8.2 = some (.inl (.object "java/lang/Object", 12, .inr (.inr (.inr (.inr (fun _ => none)))))) := by rw [eσ13]; exact (hp_ne (ne_of (x := .inl (.object "java/lang/Object", 12, .inr (.inr (.inr (.inr (fun _ => none)))))) (y := .inl (.object "FlagLaundry$Test", 7, .inr (.inr (.inr (.inr (va_up (fun _ => none) 0 (some a9_1))))))) fσ12_6 fσ12_7 (fun e8 => by simp at e8))).trans fσ12_6
  have fσ13_7 : σ13.1 σ10.2 = some (.inl (.object "FlagLaundry$Test", 7, .inr (.inr (.inr (.inr (va_up (va_up (fun _ => none) 0 (some a9_1)) 1 (some a9_2))))))) := by rw [eσ13]; exact if_pos rfl
  have zσ13 : kx w σ σ13 := by rw [eσ13]; exact zσ12.putN (zσ10.1)
  refine A_dup dX5_init_66 rfl ?_
  refine A_iconst (v := 2) dX5_init_67 (by decide) ?_
  refine A_mk3 (Nat.le_of_ble_eq_true rfl) (fun a9_3 ha9_3 => ?_)
  refine A_aastL fσ13_7 (Or.inr ⟨rfl, ha9_3⟩) (show g_sites[2]? = some _ from rfl) si3 (by decide +kernel) (by unfold vp_in; decide) dX5_init_73 ?_
  refine A_st (σ' := h_put σ13 σ10.2 (.inl (.object "FlagLaundry$Test", 7, .inr (.inr (.inr (.inr (va_up (va_up (va_up (fun _ => none) 0 (some a9_1)) 1 (some a9_2)) 2 (some a9_3)))))))) (rfl) ?_
  obtain ⟨σ14, eσ14⟩ : ∃ τ, τ = h_put σ13 σ10.2 (.inl (.object "FlagLaundry$Test", 7, .inr (.inr (.inr (.inr (va_up (va_up (va_up (fun _ => none) 0 (some a9_1)) 1 (some a9_2)) 2 (some a9_3))))))) := ⟨_, rfl⟩
  refine A_st (σ' := σ14) eσ14.symm ?_
  have wσ14 : wfh σ14 := by rw [eσ14]; exact wσ13.put fσ13_7
  have fσ14_0 : σ14.1 w = some (.inr (.inl (4, [.int 0, .ref σ.2, .ref σ2.2, .ref σ4.2, .ref σ7.2, .null, .int 0, .int 0, .int 0, .int 0, .int 0, .int 0, .int 0, .int 0, .int 0]))) := by rw [eσ14]; exact (hp_ne (ne_of (x := .inr (.inl (4, [.int 0, .ref σ.2, .ref σ2.2, .ref σ4.2, .ref σ7.2, .null, .int 0, .int 0, .int 0, .int 0, .int 0, .int 0, .int 0, .int 0, .int 0]))) (y := .inl (.object "FlagLaundry$Test", 7, .inr (.inr (.inr (.inr (va_up (va_up (fun _ => none) 0 (some a9_1)) 1 (some a9_2))))))) fσ13_0 fσ13_7 (fun e8 => by simp at e8))).trans fσ13_0
  have fσ14_1 : σ14.1 σ.2 = some (.inl (.int, 6, .inl (fun _ => 0))) := by rw [eσ14]; exact (hp_ne (ne_of (x := .inl (.int, 6, .inl (fun _ => 0))) (y := .inl (.object "FlagLaundry$Test", 7, .inr (.inr (.inr (.inr (va_up (va_up (fun _ => none) 0 (some a9_1)) 1 (some a9_2))))))) fσ13_1 fσ13_7 (fun e8 => by simp at e8))).trans fσ13_1
  have fσ14_2 : σ14.1 σ2.2 = some (.inl (.int, 3, .inl (fun _ => 0))) := by rw [eσ14]; exact (hp_ne (ne_of (x := .inl (.int, 3, .inl (fun _ => 0))) (y := .inl (.object "FlagLaundry$Test", 7, .inr (.inr (.inr (.inr (va_up (va_up (fun _ => none) 0 (some a9_1)) 1 (some a9_2))))))) fσ13_2 fσ13_7 (fun e8 => by simp at e8))).trans fσ13_2
  have fσ14_3 : σ14.1 σ4.2 = some (.inr (.inl (14, [.int 0, .ref σ5.2, .int 0]))) := by rw [eσ14]; exact (hp_ne (ne_of (x := .inr (.inl (14, [.int 0, .ref σ5.2, .int 0]))) (y := .inl (.object "FlagLaundry$Test", 7, .inr (.inr (.inr (.inr (va_up (va_up (fun _ => none) 0 (some a9_1)) 1 (some a9_2))))))) fσ13_3 fσ13_7 (fun e8 => by simp at e8))).trans fσ13_3
  have fσ14_4 : σ14.1 σ5.2 = some (.inl (.object "java/lang/Object", 4, .inr (.inr (.inr (.inr (fun _ => none)))))) := by rw [eσ14]; exact (hp_ne (ne_of (x := .inl (.object "java/lang/Object", 4, .inr (.inr (.inr (.inr (fun _ => none)))))) (y := .inl (.object "FlagLaundry$Test", 7, .inr (.inr (.inr (.inr (va_up (va_up (fun _ => none) 0 (some a9_1)) 1 (some a9_2))))))) fσ13_4 fσ13_7 (fun e8 => by simp at e8))).trans fσ13_4
  have fσ14_5 : σ14.1 σ7.2 = some (.inr (.inl (14, [.int 0, .ref σ8.2, .int 0]))) := by rw [eσ14]; exact (hp_ne (ne_of (x := .inr (.inl (14, [.int 0, .ref σ8.2, .int 0]))) (y := .inl (.object "FlagLaundry$Test", 7, .inr (.inr (.inr (.inr (va_up (va_up (fun _ => none) 0 (some a9_1)) 1 (some a9_2))))))) fσ13_5 fσ13_7 (fun e8 => by simp at e8))).trans fσ13_5
  have fσ14_6 : σ14.1 σ8.2 = some (.inl (.object "java/lang/Object", 12, .inr (.inr (.inr (.inr (fun _ => none)))))) := by rw [eσ14]; exact (hp_ne (ne_of (x := .inl (.object "java/lang/Object", 12, .inr (.inr (.inr (.inr (fun _ => none)))))) (y := .inl (.object "FlagLaundry$Test", 7, .inr (.inr (.inr (.inr (va_up (va_up (fun _ => none) 0 (some a9_1)) 1 (some a9_2))))))) fσ13_6 fσ13_7 (fun e8 => by simp at e8))).trans fσ13_6
  have fσ14_7 : σ14.1 σ10.2 = some (.inl (.object "FlagLaundry$Test", 7, .inr (.inr (.inr (.inr (va_up (va_up (va_up (fun _ => none) 0 (some a9_1)) 1 (some a9_2)) 2 (some a9_3))))))) := by rw [eσ14]; exact if_pos rfl
  have zσ14 : kx w σ σ14 := by rw [eσ14]; exact zσ13.putN (zσ10.1)
  refine A_dup dX5_init_74 rfl ?_
  refine A_iconst (v := 3) dX5_init_75 (by decide) ?_
  refine A_mk4 (Nat.le_of_ble_eq_true rfl) (fun a9_4 ha9_4 => ?_)
  refine A_aastL fσ14_7 (Or.inr ⟨rfl, ha9_4⟩) (show g_sites[3]? = some _ from rfl) si4 (by decide +kernel) (by unfold vp_in; decide) dX5_init_81 ?_
  refine A_st (σ' := h_put σ14 σ10.2 (.inl (.object "FlagLaundry$Test", 7, .inr (.inr (.inr (.inr (va_up (va_up (va_up (va_up (fun _ => none) 0 (some a9_1)) 1 (some a9_2)) 2 (some a9_3)) 3 (some a9_4)))))))) (rfl) ?_
  obtain ⟨σ15, eσ15⟩ : ∃ τ, τ = h_put σ14 σ10.2 (.inl (.object "FlagLaundry$Test", 7, .inr (.inr (.inr (.inr (va_up (va_up (va_up (va_up (fun _ => none) 0 (some a9_1)) 1 (some a9_2)) 2 (some a9_3)) 3 (some a9_4))))))) := ⟨_, rfl⟩
  refine A_st (σ' := σ15) eσ15.symm ?_
  have wσ15 : wfh σ15 := by rw [eσ15]; exact wσ14.put fσ14_7
  have fσ15_0 : σ15.1 w = some (.inr (.inl (4, [.int 0, .ref σ.2, .ref σ2.2, .ref σ4.2, .ref σ7.2, .null, .int 0, .int 0, .int 0, .int 0, .int 0, .int 0, .int 0, .int 0, .int 0]))) := by rw [eσ15]; exact (hp_ne (ne_of (x := .inr (.inl (4, [.int 0, .ref σ.2, .ref σ2.2, .ref σ4.2, .ref σ7.2, .null, .int 0, .int 0, .int 0, .int 0, .int 0, .int 0, .int 0, .int 0, .int 0]))) (y := .inl (.object "FlagLaundry$Test", 7, .inr (.inr (.inr (.inr (va_up (va_up (va_up (fun _ => none) 0 (some a9_1)) 1 (some a9_2)) 2 (some a9_3))))))) fσ14_0 fσ14_7 (fun e8 => by simp at e8))).trans fσ14_0
  have fσ15_1 : σ15.1 σ.2 = some (.inl (.int, 6, .inl (fun _ => 0))) := by rw [eσ15]; exact (hp_ne (ne_of (x := .inl (.int, 6, .inl (fun _ => 0))) (y := .inl (.object "FlagLaundry$Test", 7, .inr (.inr (.inr (.inr (va_up (va_up (va_up (fun _ => none) 0 (some a9_1)) 1 (some a9_2)) 2 (some a9_3))))))) fσ14_1 fσ14_7 (fun e8 => by simp at e8))).trans fσ14_1
  have fσ15_2 : σ15.1 σ2.2 = some (.inl (.int, 3, .inl (fun _ => 0))) := by rw [eσ15]; exact (hp_ne (ne_of (x := .inl (.int, 3, .inl (fun _ => 0))) (y := .inl (.object "FlagLaundry$Test", 7, .inr (.inr (.inr (.inr (va_up (va_up (va_up (fun _ => none) 0 (some a9_1)) 1 (some a9_2)) 2 (some a9_3))))))) fσ14_2 fσ14_7 (fun e8 => by simp at e8))).trans fσ14_2
  have fσ15_3 : σ15.1 σ4.2 = some (.inr (.inl (14, [.int 0, .ref σ5.2, .int 0]))) := by rw [eσ15]; exact (hp_ne (ne_of (x := .inr (.inl (14, [.int 0, .ref σ5.2, .int 0]))) (y := .inl (.object "FlagLaundry$Test", 7, .inr (.inr (.inr (.inr (va_up (va_up (va_up (fun _ => none) 0 (some a9_1)) 1 (some a9_2)) 2 (some a9_3))))))) fσ14_3 fσ14_7 (fun e8 => by simp at e8))).trans fσ14_3
  have fσ15_4 : σ15.1 σ5.2 = some (.inl (.object "java/lang/Object", 4, .inr (.inr (.inr (.inr (fun _ => none)))))) := by rw [eσ15]; exact (hp_ne (ne_of (x := .inl (.object "java/lang/Object", 4, .inr (.inr (.inr (.inr (fun _ => none)))))) (y := .inl (.object "FlagLaundry$Test", 7, .inr (.inr (.inr (.inr (va_up (va_up (va_up (fun _ => none) 0 (some a9_1)) 1 (some a9_2)) 2 (some a9_3))))))) fσ14_4 fσ14_7 (fun e8 => by simp at e8))).trans fσ14_4
  have fσ15_5 : σ15.1 σ7.2 = some (.inr (.inl (14, [.int 0, .ref σ8.2, .int 0]))) := by rw [eσ15]; exact (hp_ne (ne_of (x := .inr (.inl (14, [.int 0, .ref σ8.2, .int 0]))) (y := .inl (.object "FlagLaundry$Test", 7, .inr (.inr (.inr (.inr (va_up (va_up (va_up (fun _ => none) 0 (some a9_1)) 1 (some a9_2)) 2 (some a9_3))))))) fσ14_5 fσ14_7 (fun e8 => by simp at e8))).trans fσ14_5
  have fσ15_6 : σ15.1 σ8.2 = some (.inl (.object "java/lang/Object", 12, .inr (.inr (.inr (.inr (fun _ => none)))))) := by rw [eσ15]; exact (hp_ne (ne_of (x := .inl (.object "java/lang/Object", 12, .inr (.inr (.inr (.inr (fun _ => none)))))) (y := .inl (.object "FlagLaundry$Test", 7, .inr (.inr (.inr (.inr (va_up (va_up (va_up (fun _ => none) 0 (some a9_1)) 1 (some a9_2)) 2 (some a9_3))))))) fσ14_6 fσ14_7 (fun e8 => by simp at e8))).trans fσ14_6
  have fσ15_7 : σ15.1 σ10.2 = some (.inl (.object "FlagLaundry$Test", 7, .inr (.inr (.inr (.inr (va_up (va_up (va_up (va_up (fun _ => none) 0 (some a9_1)) 1 (some a9_2)) 2 (some a9_3)) 3 (some a9_4))))))) := by rw [eσ15]; exact if_pos rfl
  have zσ15 : kx w σ σ15 := by rw [eσ15]; exact zσ14.putN (zσ10.1)
  refine A_dup dX5_init_82 rfl ?_
  refine A_iconst (v := 4) dX5_init_83 (by decide) ?_
  refine A_mk5 (Nat.le_of_ble_eq_true rfl) (fun a9_5 ha9_5 => ?_)
  refine A_aastL fσ15_7 (Or.inr ⟨rfl, ha9_5⟩) (show g_sites[4]? = some _ from rfl) si5 (by decide +kernel) (by unfold vp_in; decide) dX5_init_89 ?_
  refine A_st (σ' := h_put σ15 σ10.2 (.inl (.object "FlagLaundry$Test", 7, .inr (.inr (.inr (.inr (va_up (va_up (va_up (va_up (va_up (fun _ => none) 0 (some a9_1)) 1 (some a9_2)) 2 (some a9_3)) 3 (some a9_4)) 4 (some a9_5)))))))) (rfl) ?_
  obtain ⟨σ16, eσ16⟩ : ∃ τ, τ = h_put σ15 σ10.2 (.inl (.object "FlagLaundry$Test", 7, .inr (.inr (.inr (.inr (va_up (va_up (va_up (va_up (va_up (fun _ => none) 0 (some a9_1)) 1 (some a9_2)) 2 (some a9_3)) 3 (some a9_4)) 4 (some a9_5))))))) := ⟨_, rfl⟩
  refine A_st (σ' := σ16) eσ16.symm ?_
  have wσ16 : wfh σ16 := by rw [eσ16]; exact wσ15.put fσ15_7
  have fσ16_0 : σ16.1 w = some (.inr (.inl (4, [.int 0, .ref σ.2, .ref σ2.2, .ref σ4.2, .ref σ7.2, .null, .int 0, .int 0, .int 0, .int 0, .int 0, .int 0, .int 0, .int 0, .int 0]))) := by rw [eσ16]; exact (hp_ne (ne_of (x := .inr (.inl (4, [.int 0, .ref σ.2, .ref σ2.2, .ref σ4.2, .ref σ7.2, .null, .int 0, .int 0, .int 0, .int 0, .int 0, .int 0, .int 0, .int 0, .int 0]))) (y := .inl (.object "FlagLaundry$Test", 7, .inr (.inr (.inr (.inr (va_up (va_up (va_up (va_up (fun _ => none) 0 (some a9_1)) 1 (some a9_2)) 2 (some a9_3)) 3 (some a9_4))))))) fσ15_0 fσ15_7 (fun e8 => by simp at e8))).trans fσ15_0
  have fσ16_1 : σ16.1 σ.2 = some (.inl (.int, 6, .inl (fun _ => 0))) := by rw [eσ16]; exact (hp_ne (ne_of (x := .inl (.int, 6, .inl (fun _ => 0))) (y := .inl (.object "FlagLaundry$Test", 7, .inr (.inr (.inr (.inr (va_up (va_up (va_up (va_up (fun _ => none) 0 (some a9_1)) 1 (some a9_2)) 2 (some a9_3)) 3 (some a9_4))))))) fσ15_1 fσ15_7 (fun e8 => by simp at e8))).trans fσ15_1
  have fσ16_2 : σ16.1 σ2.2 = some (.inl (.int, 3, .inl (fun _ => 0))) := by rw [eσ16]; exact (hp_ne (ne_of (x := .inl (.int, 3, .inl (fun _ => 0))) (y := .inl (.object "FlagLaundry$Test", 7, .inr (.inr (.inr (.inr (va_up (va_up (va_up (va_up (fun _ => none) 0 (some a9_1)) 1 (some a9_2)) 2 (some a9_3)) 3 (some a9_4))))))) fσ15_2 fσ15_7 (fun e8 => by simp at e8))).trans fσ15_2
  have fσ16_3 : σ16.1 σ4.2 = some (.inr (.inl (14, [.int 0, .ref σ5.2, .int 0]))) := by rw [eσ16]; exact (hp_ne (ne_of (x := .inr (.inl (14, [.int 0, .ref σ5.2, .int 0]))) (y := .inl (.object "FlagLaundry$Test", 7, .inr (.inr (.inr (.inr (va_up (va_up (va_up (va_up (fun _ => none) 0 (some a9_1)) 1 (some a9_2)) 2 (some a9_3)) 3 (some a9_4))))))) fσ15_3 fσ15_7 (fun e8 => by simp at e8))).trans fσ15_3
  have fσ16_4 : σ16.1 σ5.2 = some (.inl (.object "java/lang/Object", 4, .inr (.inr (.inr (.inr (fun _ => none)))))) := by rw [eσ16]; exact (hp_ne (ne_of (x := .inl (.object "java/lang/Object", 4, .inr (.inr (.inr (.inr (fun _ => none)))))) (y := .inl (.object "FlagLaundry$Test", 7, .inr (.inr (.inr (.inr (va_up (va_up (va_up (va_up (fun _ => none) 0 (some a9_1)) 1 (some a9_2)) 2 (some a9_3)) 3 (some a9_4))))))) fσ15_4 fσ15_7 (fun e8 => by simp at e8))).trans fσ15_4
  have fσ16_5 : σ16.1 σ7.2 = some (.inr (.inl (14, [.int 0, .ref σ8.2, .int 0]))) := by rw [eσ16]; exact (hp_ne (ne_of (x := .inr (.inl (14, [.int 0, .ref σ8.2, .int 0]))) (y := .inl (.object "FlagLaundry$Test", 7, .inr (.inr (.inr (.inr (va_up (va_up (va_up (va_up (fun _ => none) 0 (some a9_1)) 1 (some a9_2)) 2 (some a9_3)) 3 (some a9_4))))))) fσ15_5 fσ15_7 (fun e8 => by simp at e8))).trans fσ15_5
  have fσ16_6 : σ16.1 σ8.2 = some (.inl (.object "java/lang/Object", 12, .inr (.inr (.inr (.inr (fun _ => none)))))) := by rw [eσ16]; exact (hp_ne (ne_of (x := .inl (.object "java/lang/Object", 12, .inr (.inr (.inr (.inr (fun _ => none)))))) (y := .inl (.object "FlagLaundry$Test", 7, .inr (.inr (.inr (.inr (va_up (va_up (va_up (va_up (fun _ => none) 0 (some a9_1)) 1 (some a9_2)) 2 (some a9_3)) 3 (some a9_4))))))) fσ15_6 fσ15_7 (fun e8 => by simp at e8))).trans fσ15_6
  have fσ16_7 : σ16.1 σ10.2 = some (.inl (.object "FlagLaundry$Test", 7, .inr (.inr (.inr (.inr (va_up (va_up (va_up (va_up (va_up (fun _ => none) 0 (some a9_1)) 1 (some a9_2)) 2 (some a9_3)) 3 (some a9_4)) 4 (some a9_5))))))) := by rw [eσ16]; exact if_pos rfl
  have zσ16 : kx w σ σ16 := by rw [eσ16]; exact zσ15.putN (zσ10.1)
  refine A_dup dX5_init_90 rfl ?_
  refine A_iconst (v := 5) dX5_init_91 (by decide) ?_
  refine A_mk6 (Nat.le_of_ble_eq_true rfl) (fun a9_6 ha9_6 => ?_)
  refine A_aastL fσ16_7 (Or.inr ⟨rfl, ha9_6⟩) (show g_sites[5]? = some _ from rfl) si6 (by decide +kernel) (by unfold vp_in; decide) dX5_init_97 ?_
  refine A_st (σ' := h_put σ16 σ10.2 (.inl (.object "FlagLaundry$Test", 7, .inr (.inr (.inr (.inr (va_up (va_up (va_up (va_up (va_up (va_up (fun _ => none) 0 (some a9_1)) 1 (some a9_2)) 2 (some a9_3)) 3 (some a9_4)) 4 (some a9_5)) 5 (some a9_6)))))))) (rfl) ?_
  obtain ⟨σ17, eσ17⟩ : ∃ τ, τ = h_put σ16 σ10.2 (.inl (.object "FlagLaundry$Test", 7, .inr (.inr (.inr (.inr (va_up (va_up (va_up (va_up (va_up (va_up (fun _ => none) 0 (some a9_1)) 1 (some a9_2)) 2 (some a9_3)) 3 (some a9_4)) 4 (some a9_5)) 5 (some a9_6))))))) := ⟨_, rfl⟩
  refine A_st (σ' := σ17) eσ17.symm ?_
  have wσ17 : wfh σ17 := by rw [eσ17]; exact wσ16.put fσ16_7
  have fσ17_0 : σ17.1 w = some (.inr (.inl (4, [.int 0, .ref σ.2, .ref σ2.2, .ref σ4.2, .ref σ7.2, .null, .int 0, .int 0, .int 0, .int 0, .int 0, .int 0, .int 0, .int 0, .int 0]))) := by rw [eσ17]; exact (hp_ne (ne_of (x := .inr (.inl (4, [.int 0, .ref σ.2, .ref σ2.2, .ref σ4.2, .ref σ7.2, .null, .int 0, .int 0, .int 0, .int 0, .int 0, .int 0, .int 0, .int 0, .int 0]))) (y := .inl (.object "FlagLaundry$Test", 7, .inr (.inr (.inr (.inr (va_up (va_up (va_up (va_up (va_up (fun _ => none) 0 (some a9_1)) 1 (some a9_2)) 2 (some a9_3)) 3 (some a9_4)) 4 (some a9_5))))))) fσ16_0 fσ16_7 (fun e8 => by simp at e8))).trans fσ16_0
  have fσ17_1 : σ17.1 σ.2 = some (.inl (.int, 6, .inl (fun _ => 0))) := by rw [eσ17]; exact (hp_ne (ne_of (x := .inl (.int, 6, .inl (fun _ => 0))) (y := .inl (.object "FlagLaundry$Test", 7, .inr (.inr (.inr (.inr (va_up (va_up (va_up (va_up (va_up (fun _ => none) 0 (some a9_1)) 1 (some a9_2)) 2 (some a9_3)) 3 (some a9_4)) 4 (some a9_5))))))) fσ16_1 fσ16_7 (fun e8 => by simp at e8))).trans fσ16_1
  have fσ17_2 : σ17.1 σ2.2 = some (.inl (.int, 3, .inl (fun _ => 0))) := by rw [eσ17]; exact (hp_ne (ne_of (x := .inl (.int, 3, .inl (fun _ => 0))) (y := .inl (.object "FlagLaundry$Test", 7, .inr (.inr (.inr (.inr (va_up (va_up (va_up (va_up (va_up (fun _ => none) 0 (some a9_1)) 1 (some a9_2)) 2 (some a9_3)) 3 (some a9_4)) 4 (some a9_5))))))) fσ16_2 fσ16_7 (fun e8 => by simp at e8))).trans fσ16_2
  have fσ17_3 : σ17.1 σ4.2 = some (.inr (.inl (14, [.int 0, .ref σ5.2, .int 0]))) := by rw [eσ17]; exact (hp_ne (ne_of (x := .inr (.inl (14, [.int 0, .ref σ5.2, .int 0]))) (y := .inl (.object "FlagLaundry$Test", 7, .inr (.inr (.inr (.inr (va_up (va_up (va_up (va_up (va_up (fun _ => none) 0 (some a9_1)) 1 (some a9_2)) 2 (some a9_3)) 3 (some a9_4)) 4 (some a9_5))))))) fσ16_3 fσ16_7 (fun e8 => by simp at e8))).trans fσ16_3
  have fσ17_4 : σ17.1 σ5.2 = some (.inl (.object "java/lang/Object", 4, .inr (.inr (.inr (.inr (fun _ => none)))))) := by rw [eσ17]; exact (hp_ne (ne_of (x := .inl (.object "java/lang/Object", 4, .inr (.inr (.inr (.inr (fun _ => none)))))) (y := .inl (.object "FlagLaundry$Test", 7, .inr (.inr (.inr (.inr (va_up (va_up (va_up (va_up (va_up (fun _ => none) 0 (some a9_1)) 1 (some a9_2)) 2 (some a9_3)) 3 (some a9_4)) 4 (some a9_5))))))) fσ16_4 fσ16_7 (fun e8 => by simp at e8))).trans fσ16_4
  have fσ17_5 : σ17.1 σ7.2 = some (.inr (.inl (14, [.int 0, .ref σ8.2, .int 0]))) := by rw [eσ17]; exact (hp_ne (ne_of (x := .inr (.inl (14, [.int 0, .ref σ8.2, .int 0]))) (y := .inl (.object "FlagLaundry$Test", 7, .inr (.inr (.inr (.inr (va_up (va_up (va_up (va_up (va_up (fun _ => none) 0 (some a9_1)) 1 (some a9_2)) 2 (some a9_3)) 3 (some a9_4)) 4 (some a9_5))))))) fσ16_5 fσ16_7 (fun e8 => by simp at e8))).trans fσ16_5
  have fσ17_6 : σ17.1 σ8.2 = some (.inl (.object "java/lang/Object", 12, .inr (.inr (.inr (.inr (fun _ => none)))))) := by rw [eσ17]; exact (hp_ne (ne_of (x := .inl (.object "java/lang/Object", 12, .inr (.inr (.inr (.inr (fun _ => none)))))) (y := .inl (.object "FlagLaundry$Test", 7, .inr (.inr (.inr (.inr (va_up (va_up (va_up (va_up (va_up (fun _ => none) 0 (some a9_1)) 1 (some a9_2)) 2 (some a9_3)) 3 (some a9_4)) 4 (some a9_5))))))) fσ16_6 fσ16_7 (fun e8 => by simp at e8))).trans fσ16_6
  have fσ17_7 : σ17.1 σ10.2 = some (.inl (.object "FlagLaundry$Test", 7, .inr (.inr (.inr (.inr (va_up (va_up (va_up (va_up (va_up (va_up (fun _ => none) 0 (some a9_1)) 1 (some a9_2)) 2 (some a9_3)) 3 (some a9_4)) 4 (some a9_5)) 5 (some a9_6))))))) := by rw [eσ17]; exact if_pos rfl
  have zσ17 : kx w σ σ17 := by rw [eσ17]; exact zσ16.putN (zσ10.1)
  refine A_dup dX5_init_98 rfl ?_
  refine A_bipush (v := 6) dX5_init_99 (by decide) ?_
  refine A_mk7 (Nat.le_of_ble_eq_true rfl) (fun a9_7 ha9_7 => ?_)
  refine A_aastL fσ17_7 (Or.inr ⟨rfl, ha9_7⟩) (show g_sites[6]? = some _ from rfl) si7 (by decide +kernel) (by unfold vp_in; decide) dX5_init_106 ?_
  refine A_st (σ' := h_put σ17 σ10.2 (.inl (.object "FlagLaundry$Test", 7, .inr (.inr (.inr (.inr (va_up (va_up (va_up (va_up (va_up (va_up (va_up (fun _ => none) 0 (some a9_1)) 1 (some a9_2)) 2 (some a9_3)) 3 (some a9_4)) 4 (some a9_5)) 5 (some a9_6)) 6 (some a9_7)))))))) (rfl) ?_
  obtain ⟨σ18, eσ18⟩ : ∃ τ, τ = h_put σ17 σ10.2 (.inl (.object "FlagLaundry$Test", 7, .inr (.inr (.inr (.inr (va_up (va_up (va_up (va_up (va_up (va_up (va_up (fun _ => none) 0 (some a9_1)) 1 (some a9_2)) 2 (some a9_3)) 3 (some a9_4)) 4 (some a9_5)) 5 (some a9_6)) 6 (some a9_7))))))) := ⟨_, rfl⟩
  refine A_st (σ' := σ18) eσ18.symm ?_
  have wσ18 : wfh σ18 := by rw [eσ18]; exact wσ17.put fσ17_7
  have fσ18_0 : σ18.1 w = some (.inr (.inl (4, [.int 0, .ref σ.2, .ref σ2.2, .ref σ4.2, .ref σ7.2, .null, .int 0, .int 0, .int 0, .int 0, .int 0, .int 0, .int 0, .int 0, .int 0]))) := by rw [eσ18]; exact (hp_ne (ne_of (x := .inr (.inl (4, [.int 0, .ref σ.2, .ref σ2.2, .ref σ4.2, .ref σ7.2, .null, .int 0, .int 0, .int 0, .int 0, .int 0, .int 0, .int 0, .int 0, .int 0]))) (y := .inl (.object "FlagLaundry$Test", 7, .inr (.inr (.inr (.inr (va_up (va_up (va_up (va_up (va_up (va_up (fun _ => none) 0 (some a9_1)) 1 (some a9_2)) 2 (some a9_3)) 3 (some a9_4)) 4 (some a9_5)) 5 (some a9_6))))))) fσ17_0 fσ17_7 (fun e8 => by simp at e8))).trans fσ17_0
  have fσ18_1 : σ18.1 σ.2 = some (.inl (.int, 6, .inl (fun _ => 0))) := by rw [eσ18]; exact (hp_ne (ne_of (x := .inl (.int, 6, .inl (fun _ => 0))) (y := .inl (.object "FlagLaundry$Test", 7, .inr (.inr (.inr (.inr (va_up (va_up (va_up (va_up (va_up (va_up (fun _ => none) 0 (some a9_1)) 1 (some a9_2)) 2 (some a9_3)) 3 (some a9_4)) 4 (some a9_5)) 5 (some a9_6))))))) fσ17_1 fσ17_7 (fun e8 => by simp at e8))).trans fσ17_1
  have fσ18_2 : σ18.1 σ2.2 = some (.inl (.int, 3, .inl (fun _ => 0))) := by rw [eσ18]; exact (hp_ne (ne_of (x := .inl (.int, 3, .inl (fun _ => 0))) (y := .inl (.object "FlagLaundry$Test", 7, .inr (.inr (.inr (.inr (va_up (va_up (va_up (va_up (va_up (va_up (fun _ => none) 0 (some a9_1)) 1 (some a9_2)) 2 (some a9_3)) 3 (some a9_4)) 4 (some a9_5)) 5 (some a9_6))))))) fσ17_2 fσ17_7 (fun e8 => by simp at e8))).trans fσ17_2
  have fσ18_3 : σ18.1 σ4.2 = some (.inr (.inl (14, [.int 0, .ref σ5.2, .int 0]))) := by rw [eσ18]; exact (hp_ne (ne_of (x := .inr (.inl (14, [.int 0, .ref σ5.2, .int 0]))) (y := .inl (.object "FlagLaundry$Test", 7, .inr (.inr (.inr (.inr (va_up (va_up (va_up (va_up (va_up (va_up (fun _ => none) 0 (some a9_1)) 1 (some a9_2)) 2 (some a9_3)) 3 (some a9_4)) 4 (some a9_5)) 5 (some a9_6))))))) fσ17_3 fσ17_7 (fun e8 => by simp at e8))).trans fσ17_3
  have fσ18_4 : σ18.1 σ5.2 = some (.inl (.object "java/lang/Object", 4, .inr (.inr (.inr (.inr (fun _ => none)))))) := by rw [eσ18]; exact (hp_ne (ne_of (x := .inl (.object "java/lang/Object", 4, .inr (.inr (.inr (.inr (fun _ => none)))))) (y := .inl (.object "FlagLaundry$Test", 7, .inr (.inr (.inr (.inr (va_up (va_up (va_up (va_up (va_up (va_up (fun _ => none) 0 (some a9_1)) 1 (some a9_2)) 2 (some a9_3)) 3 (some a9_4)) 4 (some a9_5)) 5 (some a9_6))))))) fσ17_4 fσ17_7 (fun e8 => by simp at e8))).trans fσ17_4
  have fσ18_5 : σ18.1 σ7.2 = some (.inr (.inl (14, [.int 0, .ref σ8.2, .int 0]))) := by rw [eσ18]; exact (hp_ne (ne_of (x := .inr (.inl (14, [.int 0, .ref σ8.2, .int 0]))) (y := .inl (.object "FlagLaundry$Test", 7, .inr (.inr (.inr (.inr (va_up (va_up (va_up (va_up (va_up (va_up (fun _ => none) 0 (some a9_1)) 1 (some a9_2)) 2 (some a9_3)) 3 (some a9_4)) 4 (some a9_5)) 5 (some a9_6))))))) fσ17_5 fσ17_7 (fun e8 => by simp at e8))).trans fσ17_5
  have fσ18_6 : σ18.1 σ8.2 = some (.inl (.object "java/lang/Object", 12, .inr (.inr (.inr (.inr (fun _ => none)))))) := by rw [eσ18]; exact (hp_ne (ne_of (x := .inl (.object "java/lang/Object", 12, .inr (.inr (.inr (.inr (fun _ => none)))))) (y := .inl (.object "FlagLaundry$Test", 7, .inr (.inr (.inr (.inr (va_up (va_up (va_up (va_up (va_up (va_up (fun _ => none) 0 (some a9_1)) 1 (some a9_2)) 2 (some a9_3)) 3 (some a9_4)) 4 (some a9_5)) 5 (some a9_6))))))) fσ17_6 fσ17_7 (fun e8 => by simp at e8))).trans fσ17_6
  have fσ18_7 : σ18.1 σ10.2 = some (.inl (.object "FlagLaundry$Test", 7, .inr (.inr (.inr (.inr (va_up (va_up (va_up (va_up (va_up (va_up (va_up (fun _ => none) 0 (some a9_1)) 1 (some a9_2)) 2 (some a9_3)) 3 (some a9_4)) 4 (some a9_5)) 5 (some a9_6)) 6 (some a9_7))))))) := by rw [eσ18]; exact if_pos rfl
  have zσ18 : kx w σ σ18 := by rw [eσ18]; exact zσ17.putN (zσ10.1)
  refine A_putfF cb_X5 fσ18_0 5 (Nat.le_of_ble_eq_true rfl) q835 rfl rfl rfl rfl rfl rfl (Nat.le_of_ble_eq_true rfl) dX5_init_107 ?_
  obtain ⟨σ19, eσ19⟩ : ∃ τ, τ = h_put σ18 w (.inr (.inl (4, [.int 0, .ref σ.2, .ref σ2.2, .ref σ4.2, .ref σ7.2, .ref σ10.2, .int 0, .int 0, .int 0, .int 0, .int 0, .int 0, .int 0, .int 0, .int 0]))) := ⟨_, rfl⟩
  refine A_st (σ' := σ19) eσ19.symm ?_
  have wσ19 : wfh σ19 := by rw [eσ19]; exact wσ18.put fσ18_0
  have fσ19_0 : σ19.1 w = some (.inr (.inl (4, [.int 0, .ref σ.2, .ref σ2.2, .ref σ4.2, .ref σ7.2, .ref σ10.2, .int 0, .int 0, .int 0, .int 0, .int 0, .int 0, .int 0, .int 0, .int 0]))) := by rw [eσ19]; exact if_pos rfl
  have fσ19_1 : σ19.1 σ.2 = some (.inl (.int, 6, .inl (fun _ => 0))) := by rw [eσ19]; exact (hp_ne (ne_of (x := .inl (.int, 6, .inl (fun _ => 0))) (y := .inr (.inl (4, [.int 0, .ref σ.2, .ref σ2.2, .ref σ4.2, .ref σ7.2, .null, .int 0, .int 0, .int 0, .int 0, .int 0, .int 0, .int 0, .int 0, .int 0]))) fσ18_1 fσ18_0 (fun e8 => by simp at e8))).trans fσ18_1
  have fσ19_2 : σ19.1 σ2.2 = some (.inl (.int, 3, .inl (fun _ => 0))) := by rw [eσ19]; exact (hp_ne (ne_of (x := .inl (.int, 3, .inl (fun _ => 0))) (y := .inr (.inl (4, [.int 0, .ref σ.2, .ref σ2.2, .ref σ4.2, .ref σ7.2, .null, .int 0, .int 0, .int 0, .int 0, .int 0, .int 0, .int 0, .int 0, .int 0]))) fσ18_2 fσ18_0 (fun e8 => by simp at e8))).trans fσ18_2
  have fσ19_3 : σ19.1 σ4.2 = some (.inr (.inl (14, [.int 0, .ref σ5.2, .int 0]))) := by rw [eσ19]; exact (hp_ne (ne_of (x := .inr (.inl (14, [.int 0, .ref σ5.2, .int 0]))) (y := .inr (.inl (4, [.int 0, .ref σ.2, .ref σ2.2, .ref σ4.2, .ref σ7.2, .null, .int 0, .int 0, .int 0, .int 0, .int 0, .int 0, .int 0, .int 0, .int 0]))) fσ18_3 fσ18_0 (fun e8 => by simp at e8))).trans fσ18_3
  have fσ19_4 : σ19.1 σ5.2 = some (.inl (.object "java/lang/Object", 4, .inr (.inr (.inr (.inr (fun _ => none)))))) := by rw [eσ19]; exact (hp_ne (ne_of (x := .inl (.object "java/lang/Object", 4, .inr (.inr (.inr (.inr (fun _ => none)))))) (y := .inr (.inl (4, [.int 0, .ref σ.2, .ref σ2.2, .ref σ4.2, .ref σ7.2, .null, .int 0, .int 0, .int 0, .int 0, .int 0, .int 0, .int 0, .int 0, .int 0]))) fσ18_4 fσ18_0 (fun e8 => by simp at e8))).trans fσ18_4
  have fσ19_5 : σ19.1 σ7.2 = some (.inr (.inl (14, [.int 0, .ref σ8.2, .int 0]))) := by rw [eσ19]; exact (hp_ne (ne_of (x := .inr (.inl (14, [.int 0, .ref σ8.2, .int 0]))) (y := .inr (.inl (4, [.int 0, .ref σ.2, .ref σ2.2, .ref σ4.2, .ref σ7.2, .null, .int 0, .int 0, .int 0, .int 0, .int 0, .int 0, .int 0, .int 0, .int 0]))) fσ18_5 fσ18_0 (fun e8 => by simp at e8))).trans fσ18_5
  have fσ19_6 : σ19.1 σ8.2 = some (.inl (.object "java/lang/Object", 12, .inr (.inr (.inr (.inr (fun _ => none)))))) := by rw [eσ19]; exact (hp_ne (ne_of (x := .inl (.object "java/lang/Object", 12, .inr (.inr (.inr (.inr (fun _ => none)))))) (y := .inr (.inl (4, [.int 0, .ref σ.2, .ref σ2.2, .ref σ4.2, .ref σ7.2, .null, .int 0, .int 0, .int 0, .int 0, .int 0, .int 0, .int 0, .int 0, .int 0]))) fσ18_6 fσ18_0 (fun e8 => by simp at e8))).trans fσ18_6
  have fσ19_7 : σ19.1 σ10.2 = some (.inl (.object "FlagLaundry$Test", 7, .inr (.inr (.inr (.inr (va_up (va_up (va_up (va_up (va_up (va_up (va_up (fun _ => none) 0 (some a9_1)) 1 (some a9_2)) 2 (some a9_3)) 3 (some a9_4)) 4 (some a9_5)) 5 (some a9_6)) 6 (some a9_7))))))) := by rw [eσ19]; exact (hp_ne (ne_of (x := .inl (.object "FlagLaundry$Test", 7, .inr (.inr (.inr (.inr (va_up (va_up (va_up (va_up (va_up (va_up (va_up (fun _ => none) 0 (some a9_1)) 1 (some a9_2)) 2 (some a9_3)) 3 (some a9_4)) 4 (some a9_5)) 5 (some a9_6)) 6 (some a9_7))))))) (y := .inr (.inl (4, [.int 0, .ref σ.2, .ref σ2.2, .ref σ4.2, .ref σ7.2, .null, .int 0, .int 0, .int 0, .int 0, .int 0, .int 0, .int 0, .int 0, .int 0]))) fσ18_7 fσ18_0 (fun e8 => by simp at e8))).trans fσ18_7
  have zσ19 : kx w σ σ19 := by rw [eσ19]; exact zσ18.put
  refine A_aload_n (i := 0) dX5_init_110 rfl rfl ?_
  refine A_iload_n (i := 1) dX5_init_111 rfl rfl ?_
  refine A_putfF cb_X5 fσ19_0 0 (Nat.le_of_ble_eq_true rfl) q822 rfl rfl rfl rfl rfl rfl (Nat.le_of_ble_eq_true rfl) dX5_init_112 ?_
  obtain ⟨σ20, eσ20⟩ : ∃ τ, τ = h_put σ19 w (.inr (.inl (4, [.int p, .ref σ.2, .ref σ2.2, .ref σ4.2, .ref σ7.2, .ref σ10.2, .int 0, .int 0, .int 0, .int 0, .int 0, .int 0, .int 0, .int 0, .int 0]))) := ⟨_, rfl⟩
  refine A_st (σ' := σ20) eσ20.symm ?_
  have wσ20 : wfh σ20 := by rw [eσ20]; exact wσ19.put fσ19_0
  have fσ20_0 : σ20.1 w = some (.inr (.inl (4, [.int p, .ref σ.2, .ref σ2.2, .ref σ4.2, .ref σ7.2, .ref σ10.2, .int 0, .int 0, .int 0, .int 0, .int 0, .int 0, .int 0, .int 0, .int 0]))) := by rw [eσ20]; exact if_pos rfl
  have fσ20_1 : σ20.1 σ.2 = some (.inl (.int, 6, .inl (fun _ => 0))) := by rw [eσ20]; exact (hp_ne (ne_of (x := .inl (.int, 6, .inl (fun _ => 0))) (y := .inr (.inl (4, [.int 0, .ref σ.2, .ref σ2.2, .ref σ4.2, .ref σ7.2, .ref σ10.2, .int 0, .int 0, .int 0, .int 0, .int 0, .int 0, .int 0, .int 0, .int 0]))) fσ19_1 fσ19_0 (fun e8 => by simp at e8))).trans fσ19_1
  have fσ20_2 : σ20.1 σ2.2 = some (.inl (.int, 3, .inl (fun _ => 0))) := by rw [eσ20]; exact (hp_ne (ne_of (x := .inl (.int, 3, .inl (fun _ => 0))) (y := .inr (.inl (4, [.int 0, .ref σ.2, .ref σ2.2, .ref σ4.2, .ref σ7.2, .ref σ10.2, .int 0, .int 0, .int 0, .int 0, .int 0, .int 0, .int 0, .int 0, .int 0]))) fσ19_2 fσ19_0 (fun e8 => by simp at e8))).trans fσ19_2
  have fσ20_3 : σ20.1 σ4.2 = some (.inr (.inl (14, [.int 0, .ref σ5.2, .int 0]))) := by rw [eσ20]; exact (hp_ne (ne_of (x := .inr (.inl (14, [.int 0, .ref σ5.2, .int 0]))) (y := .inr (.inl (4, [.int 0, .ref σ.2, .ref σ2.2, .ref σ4.2, .ref σ7.2, .ref σ10.2, .int 0, .int 0, .int 0, .int 0, .int 0, .int 0, .int 0, .int 0, .int 0]))) fσ19_3 fσ19_0 (fun e8 => by simp at e8))).trans fσ19_3
  have fσ20_4 : σ20.1 σ5.2 = some (.inl (.object "java/lang/Object", 4, .inr (.inr (.inr (.inr (fun _ => none)))))) := by rw [eσ20]; exact (hp_ne (ne_of (x := .inl (.object "java/lang/Object", 4, .inr (.inr (.inr (.inr (fun _ => none)))))) (y := .inr (.inl (4, [.int 0, .ref σ.2, .ref σ2.2, .ref σ4.2, .ref σ7.2, .ref σ10.2, .int 0, .int 0, .int 0, .int 0, .int 0, .int 0, .int 0, .int 0, .int 0]))) fσ19_4 fσ19_0 (fun e8 => by simp at e8))).trans fσ19_4
  have fσ20_5 : σ20.1 σ7.2 = some (.inr (.inl (14, [.int 0, .ref σ8.2, .int 0]))) := by rw [eσ20]; exact (hp_ne (ne_of (x := .inr (.inl (14, [.int 0, .ref σ8.2, .int 0]))) (y := .inr (.inl (4, [.int 0, .ref σ.2, .ref σ2.2, .ref σ4.2, .ref σ7.2, .ref σ10.2, .int 0, .int 0, .int 0, .int 0, .int 0, .int 0, .int 0, .int 0, .int 0]))) fσ19_5 fσ19_0 (fun e8 => by simp at e8))).trans fσ19_5
  have fσ20_6 : σ20.1 σ8.2 = some (.inl (.object "java/lang/Object", 12, .inr (.inr (.inr (.inr (fun _ => none)))))) := by rw [eσ20]; exact (hp_ne (ne_of (x := .inl (.object "java/lang/Object", 12, .inr (.inr (.inr (.inr (fun _ => none)))))) (y := .inr (.inl (4, [.int 0, .ref σ.2, .ref σ2.2, .ref σ4.2, .ref σ7.2, .ref σ10.2, .int 0, .int 0, .int 0, .int 0, .int 0, .int 0, .int 0, .int 0, .int 0]))) fσ19_6 fσ19_0 (fun e8 => by simp at e8))).trans fσ19_6
  have fσ20_7 : σ20.1 σ10.2 = some (.inl (.object "FlagLaundry$Test", 7, .inr (.inr (.inr (.inr (va_up (va_up (va_up (va_up (va_up (va_up (va_up (fun _ => none) 0 (some a9_1)) 1 (some a9_2)) 2 (some a9_3)) 3 (some a9_4)) 4 (some a9_5)) 5 (some a9_6)) 6 (some a9_7))))))) := by rw [eσ20]; exact (hp_ne (ne_of (x := .inl (.object "FlagLaundry$Test", 7, .inr (.inr (.inr (.inr (va_up (va_up (va_up (va_up (va_up (va_up (va_up (fun _ => none) 0 (some a9_1)) 1 (some a9_2)) 2 (some a9_3)) 3 (some a9_4)) 4 (some a9_5)) 5 (some a9_6)) 6 (some a9_7))))))) (y := .inr (.inl (4, [.int 0, .ref σ.2, .ref σ2.2, .ref σ4.2, .ref σ7.2, .ref σ10.2, .int 0, .int 0, .int 0, .int 0, .int 0, .int 0, .int 0, .int 0, .int 0]))) fσ19_7 fσ19_0 (fun e8 => by simp at e8))).trans fσ19_7
  have zσ20 : kx w σ σ20 := by rw [eσ20]; exact zσ19.put
  exact A_vret dX5_init_115 rfl (⟨rfl, zσ20, σ.2, σ2.2, σ4.2, σ5.2, σ7.2, σ8.2, σ10.2, fun _ _ _ => ⟨zσ.1, zσ2.1, zσ4.1, zσ5.1, zσ7.1, zσ8.1⟩, fun _ _ _ => RW.new fσ20_0 fσ20_1 fσ20_2 fσ20_3 fσ20_4 fσ20_5 fσ20_6 fσ20_7 (fun k hk => by match k, hk with | 0, _ => exact ⟨_, rfl, ha9_1⟩ | 1, _ => exact ⟨_, rfl, ha9_2⟩ | 2, _ => exact ⟨_, rfl, ha9_3⟩ | 3, _ => exact ⟨_, rfl, ha9_4⟩ | 4, _ => exact ⟨_, rfl, ha9_5⟩ | 5, _ => exact ⟨_, rfl, ha9_6⟩ | 6, _ => exact ⟨_, rfl, ha9_7⟩ | k + 7, hk => exact absurd hk (by omega))⟩)
theorem c_addsN {l : Launch} {g : GC} (σ : AH) (W : WA) (N : AF) (n x : Nat) (mc : Int32) (f : Nat → Option Nat) (vs : List Value) (hW : σ.1 (wW W) = some (wldC W N)) (hL : σ.1 (wNL W) = some (.inr (.inl (14, [.int mc, .ref (wNA W), .int (nI n)])))) (hE : σ.1 (wNA W) = some (.inl (.object "java/lang/Object", 4, .inr (.inr (.inr (.inr f)))))) (hX : σ.1 x = some (.inr (.inl (5, vs)))) (hn : n < 4) : AMet l g mX5_adds 4 0 [.ref (wW W), .ref x] σ (A_eq none (h_put (h_put (h_put σ (wNL W) (.inr (.inl (14, [.int (mc + 1), .ref (wNA W), .int (nI n)])))) (wNA W) (.inl (.object "java/lang/Object", 4, .inr (.inr (.inr (.inr (va_up f n (some x)))))))) (wNL W) (.inr (.inl (14, [.int (mc + 1), .ref (wNA W), .int (nI (n + 1))]))))) (A_no) := by
  refine A_of rfl (by decide) (Nat.le_of_ble_eq_true rfl) (L0 := [(0, .ref (wW W)), (1, .ref x)]) rfl ?_
  refine A_aload_n (i := 0) dX5_adds_0 rfl rfl ?_
  refine A_getf cb_X5 hW 3 (Nat.le_of_ble_eq_true rfl) q830 rfl (v := .ref (wNL W)) rfl dX5_adds_1 ?_
  refine A_aload_n (i := 1) dX5_adds_4 rfl rfl ?_
  refine A_callF1E (b' := 0) (v := some (.int 1)) (τ := h_put (h_put (h_put σ (wNL W) (.inr (.inl (14, [.int (mc + 1), .ref (wNA W), .int (nI n)])))) (wNA W) (.inl (.object "java/lang/Object", 4, .inr (.inr (.inr (.inr (va_up f n (some x)))))))) (wNL W) (.inr (.inl (14, [.int (mc + 1), .ref (wNA W), .int (nI (n + 1))])))) (c_lAddN σ (wNL W) (wNA W) n 4 mc f x vs hL hE hX hn (by decide)) tF_add q1007 hL rfl dX5_adds_5 (by decide) (Nat.le_of_ble_eq_true rfl) (Nat.le_of_ble_eq_true rfl) ?_
  obtain ⟨σ1, eσ1⟩ : ∃ τ, τ = h_put (h_put (h_put σ (wNL W) (.inr (.inl (14, [.int (mc + 1), .ref (wNA W), .int (nI n)])))) (wNA W) (.inl (.object "java/lang/Object", 4, .inr (.inr (.inr (.inr (va_up f n (some x)))))))) (wNL W) (.inr (.inl (14, [.int (mc + 1), .ref (wNA W), .int (nI (n + 1))]))) := ⟨_, rfl⟩
  refine A_st (σ' := σ1) eσ1.symm ?_
  have fσ1_0 : σ1.1 (wW W) = some (.inr (.inl (4, [.int (N 9), .ref (wR W), .ref (wM W), .ref (wNL W), .ref (wFL W), .ref (wUN W), .int (N 6), .int (N 8), .int (N 0), .int (N 1), .int (N 2), .int (N 3), .int (N 4), .int (N 5), .int (N 11)]))) := by rw [eσ1]; exact ((hp_ne (ne_of (x := .inr (.inl (4, [.int (N 9), .ref (wR W), .ref (wM W), .ref (wNL W), .ref (wFL W), .ref (wUN W), .int (N 6), .int (N 8), .int (N 0), .int (N 1), .int (N 2), .int (N 3), .int (N 4), .int (N 5), .int (N 11)]))) (y := .inr (.inl (14, [.int mc, .ref (wNA W), .int (nI n)]))) hW hL (fun e8 => by simp at e8))).trans ((hp_ne (ne_of (x := .inr (.inl (4, [.int (N 9), .ref (wR W), .ref (wM W), .ref (wNL W), .ref (wFL W), .ref (wUN W), .int (N 6), .int (N 8), .int (N 0), .int (N 1), .int (N 2), .int (N 3), .int (N 4), .int (N 5), .int (N 11)]))) (y := .inl (.object "java/lang/Object", 4, .inr (.inr (.inr (.inr f))))) hW hE (fun e8 => by simp at e8))).trans ((hp_ne (ne_of (x := .inr (.inl (4, [.int (N 9), .ref (wR W), .ref (wM W), .ref (wNL W), .ref (wFL W), .ref (wUN W), .int (N 6), .int (N 8), .int (N 0), .int (N 1), .int (N 2), .int (N 3), .int (N 4), .int (N 5), .int (N 11)]))) (y := .inr (.inl (14, [.int mc, .ref (wNA W), .int (nI n)]))) hW hL (fun e8 => by simp at e8))).trans hW)))
  have fσ1_1 : σ1.1 (wNL W) = some (.inr (.inl (14, [.int (mc + 1), .ref (wNA W), .int (nI (n + 1))]))) := by rw [eσ1]; exact (if_pos rfl)
  have fσ1_2 : σ1.1 (wNA W) = some (.inl (.object "java/lang/Object", 4, .inr (.inr (.inr (.inr (va_up f n (some x))))))) := by rw [eσ1]; exact ((hp_ne (ne_of (x := .inl (.object "java/lang/Object", 4, .inr (.inr (.inr (.inr f))))) (y := .inr (.inl (14, [.int mc, .ref (wNA W), .int (nI n)]))) hE hL (fun e8 => by simp at e8))).trans (if_pos rfl))
  have fσ1_3 : σ1.1 x = some (.inr (.inl (5, vs))) := by rw [eσ1]; exact ((hp_ne (ne_of (x := .inr (.inl (5, vs))) (y := .inr (.inl (14, [.int mc, .ref (wNA W), .int (nI n)]))) hX hL (fun e8 => by simp at e8))).trans ((hp_ne (ne_of (x := .inr (.inl (5, vs))) (y := .inl (.object "java/lang/Object", 4, .inr (.inr (.inr (.inr f))))) hX hE (fun e8 => by simp at e8))).trans ((hp_ne (ne_of (x := .inr (.inl (5, vs))) (y := .inr (.inl (14, [.int mc, .ref (wNA W), .int (nI n)]))) hX hL (fun e8 => by simp at e8))).trans hX)))
  refine A_istore_n (i := 2) dX5_adds_10 rfl (Nat.le_of_ble_eq_true rfl) ?_
  exact A_vret dX5_adds_11 rfl (⟨rfl, by rw [eσ1]⟩)
theorem c_addsF {l : Launch} {g : GC} (σ : AH) (W : WA) (N : AF) (n x : Nat) (mc : Int32) (f : Nat → Option Nat) (vs : List Value) (hW : σ.1 (wW W) = some (wldC W N)) (hL : σ.1 (wFL W) = some (.inr (.inl (14, [.int mc, .ref (wFA W), .int (nI n)])))) (hE : σ.1 (wFA W) = some (.inl (.object "java/lang/Object", 12, .inr (.inr (.inr (.inr f)))))) (hX : σ.1 x = some (.inr (.inl (6, vs)))) (hn : n < 12) : AMet l g mX5_adds_2 4 0 [.ref (wW W), .ref x] σ (A_eq none (h_put (h_put (h_put σ (wFL W) (.inr (.inl (14, [.int (mc + 1), .ref (wFA W), .int (nI n)])))) (wFA W) (.inl (.object "java/lang/Object", 12, .inr (.inr (.inr (.inr (va_up f n (some x)))))))) (wFL W) (.inr (.inl (14, [.int (mc + 1), .ref (wFA W), .int (nI (n + 1))]))))) (A_no) := by
  refine A_of rfl (by decide) (Nat.le_of_ble_eq_true rfl) (L0 := [(0, .ref (wW W)), (1, .ref x)]) rfl ?_
  refine A_aload_n (i := 0) dX5_adds_2_0 rfl rfl ?_
  refine A_getf cb_X5 hW 4 (Nat.le_of_ble_eq_true rfl) q833 rfl (v := .ref (wFL W)) rfl dX5_adds_2_1 ?_
  refine A_aload_n (i := 1) dX5_adds_2_4 rfl rfl ?_
  refine A_callF1E (b' := 0) (v := some (.int 1)) (τ := h_put (h_put (h_put σ (wFL W) (.inr (.inl (14, [.int (mc + 1), .ref (wFA W), .int (nI n)])))) (wFA W) (.inl (.object "java/lang/Object", 12, .inr (.inr (.inr (.inr (va_up f n (some x)))))))) (wFL W) (.inr (.inl (14, [.int (mc + 1), .ref (wFA W), .int (nI (n + 1))])))) (c_lAddF σ (wFL W) (wFA W) n 12 mc f x vs hL hE hX hn (by decide)) tF_add q1007 hL rfl dX5_adds_2_5 (by decide) (Nat.le_of_ble_eq_true rfl) (Nat.le_of_ble_eq_true rfl) ?_
  obtain ⟨σ1, eσ1⟩ : ∃ τ, τ = h_put (h_put (h_put σ (wFL W) (.inr (.inl (14, [.int (mc + 1), .ref (wFA W), .int (nI n)])))) (wFA W) (.inl (.object "java/lang/Object", 12, .inr (.inr (.inr (.inr (va_up f n (some x)))))))) (wFL W) (.inr (.inl (14, [.int (mc + 1), .ref (wFA W), .int (nI (n + 1))]))) := ⟨_, rfl⟩
  refine A_st (σ' := σ1) eσ1.symm ?_
  have fσ1_0 : σ1.1 (wW W) = some (.inr (.inl (4, [.int (N 9), .ref (wR W), .ref (wM W), .ref (wNL W), .ref (wFL W), .ref (wUN W), .int (N 6), .int (N 8), .int (N 0), .int (N 1), .int (N 2), .int (N 3), .int (N 4), .int (N 5), .int (N 11)]))) := by rw [eσ1]; exact ((hp_ne (ne_of (x := .inr (.inl (4, [.int (N 9), .ref (wR W), .ref (wM W), .ref (wNL W), .ref (wFL W), .ref (wUN W), .int (N 6), .int (N 8), .int (N 0), .int (N 1), .int (N 2), .int (N 3), .int (N 4), .int (N 5), .int (N 11)]))) (y := .inr (.inl (14, [.int mc, .ref (wFA W), .int (nI n)]))) hW hL (fun e8 => by simp at e8))).trans ((hp_ne (ne_of (x := .inr (.inl (4, [.int (N 9), .ref (wR W), .ref (wM W), .ref (wNL W), .ref (wFL W), .ref (wUN W), .int (N 6), .int (N 8), .int (N 0), .int (N 1), .int (N 2), .int (N 3), .int (N 4), .int (N 5), .int (N 11)]))) (y := .inl (.object "java/lang/Object", 12, .inr (.inr (.inr (.inr f))))) hW hE (fun e8 => by simp at e8))).trans ((hp_ne (ne_of (x := .inr (.inl (4, [.int (N 9), .ref (wR W), .ref (wM W), .ref (wNL W), .ref (wFL W), .ref (wUN W), .int (N 6), .int (N 8), .int (N 0), .int (N 1), .int (N 2), .int (N 3), .int (N 4), .int (N 5), .int (N 11)]))) (y := .inr (.inl (14, [.int mc, .ref (wFA W), .int (nI n)]))) hW hL (fun e8 => by simp at e8))).trans hW)))
  have fσ1_1 : σ1.1 (wFL W) = some (.inr (.inl (14, [.int (mc + 1), .ref (wFA W), .int (nI (n + 1))]))) := by rw [eσ1]; exact (if_pos rfl)
  have fσ1_2 : σ1.1 (wFA W) = some (.inl (.object "java/lang/Object", 12, .inr (.inr (.inr (.inr (va_up f n (some x))))))) := by rw [eσ1]; exact ((hp_ne (ne_of (x := .inl (.object "java/lang/Object", 12, .inr (.inr (.inr (.inr f))))) (y := .inr (.inl (14, [.int mc, .ref (wFA W), .int (nI n)]))) hE hL (fun e8 => by simp at e8))).trans (if_pos rfl))
  have fσ1_3 : σ1.1 x = some (.inr (.inl (6, vs))) := by rw [eσ1]; exact ((hp_ne (ne_of (x := .inr (.inl (6, vs))) (y := .inr (.inl (14, [.int mc, .ref (wFA W), .int (nI n)]))) hX hL (fun e8 => by simp at e8))).trans ((hp_ne (ne_of (x := .inr (.inl (6, vs))) (y := .inl (.object "java/lang/Object", 12, .inr (.inr (.inr (.inr f))))) hX hE (fun e8 => by simp at e8))).trans ((hp_ne (ne_of (x := .inr (.inl (6, vs))) (y := .inr (.inl (14, [.int mc, .ref (wFA W), .int (nI n)]))) hX hL (fun e8 => by simp at e8))).trans hX)))
  refine A_istore_n (i := 2) dX5_adds_2_10 rfl (Nat.le_of_ble_eq_true rfl) ?_
  exact A_vret dX5_adds_2_11 rfl (⟨rfl, by rw [eσ1]⟩)
