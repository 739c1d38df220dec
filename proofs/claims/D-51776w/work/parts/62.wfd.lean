/-! THE COMPONENT 9: what the changes keep -/
/-- what a flag's numbers are, in a laundry of N's counts -/
def FK (N : AF) (F : Nat → Int32) : Prop := (∃ n, n < nN N ∧ F 0 = nI n) ∧ (∃ c, c < 64 ∧ F 1 = nI c) ∧ (∃ c, c ≤ 3 ∧ F 2 = nI c) ∧ (∃ x, x ≤ 9 ∧ F 3 = nI x) ∧ (∃ x, x ≤ 9 ∧ F 4 = nI x) ∧ (∃ x, x ≤ 9 ∧ F 5 = nI x) ∧ (∃ x, x < 2 ^ nC N ∧ F 6 = nI x) ∧ ((F 8 = 0 ∧ F 9 = -1) ∨ (F 8 = 1 ∧ ∃ t, t < nT N ∧ F 9 = nI t) ∨ (F 8 = 2 ∧ ∃ p, p < nP N ∧ F 9 = nI p) ∨ (F 8 = 3 ∧ F 9 = -1))
theorem FK_iff (N : AF) (f : Nat) : FLok N f ↔ FK N (fl N f) := Iff.rfl
theorem FK.congr {N N' : AF} {F G : Nat → Int32} (h : FK N F) (hc : nC N' = nC N ∧ nN N' = nN N ∧ nT N' = nT N ∧ nP N' = nP N ∧ nF N' = nF N) (hF : ∀ k, k < 11 → G k = F k) : FK N' G := by
  obtain ⟨e1, e2, e3, e4, e5⟩ := hc
  unfold FK
  rw [e1, e2, e3, e4, hF 0 (by decide), hF 1 (by decide), hF 2 (by decide), hF 3 (by decide), hF 4 (by decide), hF 5 (by decide), hF 6 (by decide), hF 8 (by decide), hF 9 (by decide)]
  exact h
theorem WFc.hdr {N N' : AF} (w : WFc N) (h : ∀ j, 6 ≤ j → j ≤ 10 → N' j = N j) : WFc N' := by
  unfold WFc nC nN nT nP nF at *
  rw [h 6 (by decide) (by decide), h 7 (by decide) (by decide), h 8 (by decide) (by decide), h 9 (by decide) (by decide), h 10 (by decide) (by decide)]
  exact w
theorem WFd.upF {N N' : AF} {f : Nat} {F : Nat → Int32} (w : WFd N) (h : upF N N' f F) (hF : FK N F) : WFd N' := by
  refine ⟨w.1.hdr (fun j _ hj => h.1 j (by omega)), fun i hi => ?_⟩
  rw [h.cnt.2.2.2.2] at hi
  by_cases c : i = f
  · subst c; exact hF.congr h.cnt h.2.1
  · exact FK.congr (w.2 i hi) h.cnt (fun k hk => h.2.2 i k c hk)
theorem WFd.scl {N N' : AF} (w : WFd N) (h : scl N N') : WFd N' := by
  refine ⟨w.1.hdr (fun j h1 h2 => h j (by omega) (by omega)), fun i hi => ?_⟩
  rw [h.cnt.2.2.2.2] at hi
  exact FK.congr (w.2 i hi) h.cnt (fun k hk => h.fl i k)
theorem upF.rf (N : AF) (f : Nat) : upF N N f (fl N f) := ⟨fun _ _ => rfl, fun _ _ => rfl, fun _ _ _ _ => rfl⟩
theorem upF.set {N N' : AF} {f k : Nat} {F : Nat → Int32} (h : upF N N' f F) (hk : k < 11) (v : Int32) : upF N (setFl N' f k v) f (fun j => if j = k then v else F j) := by
  refine ⟨fun j hj => (va_up_ne _ _ (by omega)).trans (h.1 j hj), fun j hj => ?_, fun i j hi hj => (setFl_ne _ _ hk hj (Or.inl hi)).trans (h.2.2 i j hi hj)⟩
  show fl (setFl N' f k v) f j = if j = k then v else F j
  by_cases c : j = k
  · rw [if_pos c, c]; exact setFl_at _ _ _ _
  · rw [if_neg c, setFl_ne _ _ hk hj (Or.inr c)]; exact h.2.1 j hj
theorem upF.cg {N N' : AF} {f : Nat} {F G : Nat → Int32} (h : upF N N' f F) (e : ∀ k, k < 11 → G k = F k) : upF N N' f G := ⟨h.1, fun k hk => (h.2.1 k hk).trans (e k hk).symm, h.2.2⟩
theorem upF.goTo {N N' : AF} {f : Nat} {F : Nat → Int32} (h : upF N N' f F) (w a : Int32) : upF N (goTo N' f w a) f (fun j => if j = 9 then a else if j = 8 then w else F j) := (h.set (by decide : 8 < 11) w).set (by decide : 9 < 11) a
/-- a flag's place changes -/
def plF (F : Nat → Int32) (w a r : Int32) : Nat → Int32 := fun j => if j = 8 then w else if j = 9 then a else if j = 10 then r else F j
theorem upF_goTo (N : AF) (f : Nat) (w a : Int32) : upF N (goTo N f w a) f (plF (fl N f) w a (fl N f 10)) := (upF.goTo (upF.rf N f) w a).cg (fun k hk => by
  unfold plF
  by_cases c : k = 8
  · subst c; rfl
  · by_cases d : k = 9
    · subst d; rfl
    · rw [if_neg c, if_neg d, if_neg d, if_neg c]
      by_cases e : k = 10
      · subst e; rfl
      · exact if_neg e)
theorem FK_pl {N : AF} {F : Nat → Int32} (h : FK N F) {w a r : Int32} (hp : (w = 0 ∧ a = -1) ∨ (w = 1 ∧ ∃ t, t < nT N ∧ a = nI t) ∨ (w = 2 ∧ ∃ p, p < nP N ∧ a = nI p) ∨ (w = 3 ∧ a = -1)) : FK N (plF F w a r) := by
  obtain ⟨h0, h1, h2, h3, h4, h5, h6, -⟩ := h
  exact ⟨h0, h1, h2, h3, h4, h5, h6, hp⟩
theorem mx_tab : ∀ n, n < 16 → ∀ y, y < 16 → mx 0 (nI y - nI n) = nI (y - n) := by decide +kernel
theorem mx_tab2 : ∀ w, w < 10 → ∀ y, y < 16 → mx 0 ((nI y - 1) - (nI w / 3)) = nI (y - 1 - w / 3) := by decide +kernel
theorem mx_tab3 : ∀ h, h < 4 → ∀ y, y < 16 → mx 0 ((nI y - 1) - (2 * nI h)) = nI (y - 1 - 2 * h) := by decide +kernel
theorem mn_tab : ∀ y, y < 16 → mn 9 (nI y) = nI (if y < 9 then y else 9) := by decide +kernel
theorem FK_set {N : AF} {F : Nat → Int32} (h : FK N F) {k : Nat} (hk : k = 3 ∨ k = 4 ∨ k = 5) {v : Int32} (hv : ∃ x, x ≤ 9 ∧ v = nI x) : FK N (fun j => if j = k then v else F j) := by
  obtain ⟨h0, h1, h2, h3, h4, h5, h6, h8⟩ := h
  rcases hk with rfl | rfl | rfl
  · exact ⟨h0, h1, h2, hv, h4, h5, h6, h8⟩
  · exact ⟨h0, h1, h2, h3, hv, h5, h6, h8⟩
  · exact ⟨h0, h1, h2, h3, h4, hv, h6, h8⟩
def WFw (N : AF) : Prop := ∃ x, x ≤ 9 ∧ N 1 = nI x
theorem WFd_dry1 {N : AF} (w : WFd N) (hw : WFw N) {f : Nat} (hf : f < nF N) : WFd (dry1 N f) ∧ upF N (dry1 N f) f (fun j => if j = 4 then (if fl N f 8 = 2 then mx 0 ((fl N f 4 - 1) - (N 1 / 3)) else fl N f 4) else fl N f j) := by
  unfold dry1
  by_cases c : fl N f 8 = 2
  · rw [if_pos c, if_pos c]
    have h := (upF.rf N f).set (by decide : 4 < 11) (mx 0 ((fl N f 4 - 1) - (N 1 / 3)))
    refine ⟨w.upF h (FK_set (w.2 f hf) (Or.inr (Or.inl rfl)) ?_), h⟩
    obtain ⟨y, hy, e⟩ := (w.2 f hf).2.2.2.2.1
    obtain ⟨x, hx, e1⟩ := hw
    rw [e, e1, mx_tab2 x (by omega) y (by omega)]
    exact ⟨_, by omega, rfl⟩
  · rw [if_neg c, if_neg c]
    refine ⟨w, (upF.rf N f).cg (fun k hk => ?_)⟩
    by_cases d : k = 4
    · rw [if_pos d, d]
    · exact if_neg d
theorem dryU_1 (N : AF) : ∀ n, dryU N n 1 = N 1 := fun n => hdr_dryU N n 1 (by decide)
theorem WFd_dryU {N : AF} (w : WFd N) (hw : WFw N) : ∀ n, n ≤ nF N → WFd (dryU N n)
  | 0, _ => w
  | n + 1, h => by
    have h1 := WFd_dryU w hw n (by omega)
    exact (WFd_dry1 h1 (show WFw (dryU N n) by unfold WFw; rw [dryU_1]; exact hw) (by rw [(hdr_dryU N n).nFe]; omega)).1
theorem WFd_dryN {N : AF} (w : WFd N) (hw : WFw N) : WFd (dryN N) := WFd_dryU w hw _ (Nat.le_refl _)
/-- a flag falls off -/
theorem upF_fall (N : AF) (f : Nat) : upF N (setFl (goTo N f 0 (-1)) f 3 (mn 9 (fl (goTo N f 0 (-1)) f 3 + 1))) f (fun j => if j = 3 then mn 9 (fl N f 3 + 1) else plF (fl N f) 0 (-1) (fl N f 10) j) := by
  have h := (upF_goTo N f 0 (-1)).set (by decide : 3 < 11) (mn 9 (fl (goTo N f 0 (-1)) f 3 + 1))
  refine h.cg (fun k hk => ?_)
  by_cases c : k = 3
  · rw [if_pos c, if_pos c]
    rw [show fl (goTo N f 0 (-1)) f 3 = fl N f 3 from (upF_goTo N f 0 (-1)).2.1 3 (by decide)]
  · rw [if_neg c, if_neg c]
theorem FK_fall {N : AF} {F : Nat → Int32} (h : FK N F) (r : Int32) : FK N (fun j => if j = 3 then mn 9 (F 3 + 1) else plF F 0 (-1) r j) := by
  refine FK_set (F := plF F 0 (-1) r) (FK_pl h (Or.inl ⟨rfl, rfl⟩)) (Or.inl rfl) ?_
  obtain ⟨x, hx, e⟩ := h.2.2.2.1
  rw [e, show nI x + 1 = nI (x + 1) from nI_add x 1, mn_tab _ (by omega)]
  exact ⟨_, by split <;> omega, rfl⟩
theorem lastN_in {N : AF} (h : ¬ lastN N = -1) : ∃ j, j < nF N ∧ lastN N = nI j := (lastF_in N (nP N)).resolve_left h
theorem WFd_fallN {N : AF} (w : WFd N) : WFd (fallN N) := by
  unfold fallN
  split
  · exact w
  · split
    · exact w
    · rename_i c
      obtain ⟨j, hj, e⟩ := lastN_in c
      have hW := w.1.2.2.2.2.2
      rw [e, ixn (by omega)]
      have h1 := w.upF (upF_fall N j) (FK_fall (w.2 j hj) _)
      exact h1.scl (fun i a b => va_up_ne _ _ (by omega))
theorem WFd_passN {N : AF} (w : WFd N) (hw : WFw N) : WFd (passN N) := (WFd_fallN (WFd_dryN w hw)).scl (fun i a b => va_up_ne _ _ (by omega))
theorem fallN_1 (N : AF) : fallN N 1 = N 1 := by
  unfold fallN
  split
  · rfl
  · split
    · rfl
    · exact (va_up_ne _ _ (by decide)).trans ((upF_fall N _).1 1 (by decide))
theorem passN_1 (N : AF) : passN N 1 = N 1 := (va_up_ne _ _ (by decide)).trans ((fallN_1 _).trans (dryU_1 N _))
theorem WFd_passI {N : AF} (w : WFd N) (hw : WFw N) : ∀ n, WFd (itr passN N n) ∧ itr passN N n 1 = N 1
  | 0 => ⟨w, rfl⟩
  | n + 1 => by
    obtain ⟨h1, h2⟩ := WFd_passI w hw n
    exact ⟨WFd_passN h1 (show WFw _ by unfold WFw; rw [h2]; exact hw), (passN_1 _).trans h2⟩
/-- what stays the same by passN -/
theorem fallN_cnt (N : AF) : ∀ j, 6 ≤ j → j < 41 → fallN N j = N j := by
  intro j h1 h2
  unfold fallN
  split
  · rfl
  · split
    · rfl
    · exact (va_up_ne _ _ (by omega)).trans ((upF_fall N _).1 j h2)
theorem passN_cnt (N : AF) : ∀ j, 6 ≤ j → j < 41 → passN N j = N j := fun j h1 h2 => (va_up_ne _ _ (by omega)).trans ((fallN_cnt _ j h1 h2).trans (hdr_dry N j h2))
/-- a subset of a small set is small -/
theorem and_nI (a : Nat) (z : Int32) : ∃ y, y ≤ a ∧ nI a &&& z = nI y := by
  refine ⟨a &&& z.toBitVec.toNat, Nat.and_le_left, ?_⟩
  apply Int32.toBitVec_inj.mp
  rw [Int32.toBitVec_and]
  show BitVec.ofNat 32 a &&& z.toBitVec = BitVec.ofNat 32 (a &&& z.toBitVec.toNat)
  rw [BitVec.ofNat_and, BitVec.ofNat_toNat, BitVec.setWidth_eq]
theorem or_nI (a b : Nat) : nI a ||| nI b = nI (a ||| b) := by
  apply Int32.toBitVec_inj.mp
  rw [Int32.toBitVec_or]
  show BitVec.ofNat 32 a ||| BitVec.ofNat 32 b = BitVec.ofNat 32 (a ||| b)
  rw [BitVec.ofNat_or]
theorem shl_tab : ∀ n, n < 6 → ((1 : Int32) <<< (nI n &&& 31)) = nI (2 ^ n) := by decide
theorem hotN_in (N : AF) (h : Int32) (hC : nC N ≤ 6) : ∃ x, x < 2 ^ nC N ∧ hotN N h = nI x := by
  unfold hotN
  have H : ∀ n, n ≤ 6 → ∃ x, x < 2 ^ n ∧ orF (fun c => if ¬ h < N (12 + c) then (1 : Int32) <<< (nI c &&& 31) else 0) n = nI x := by
    intro n
    induction n with
    | zero => intro _; exact ⟨0, by decide, rfl⟩
    | succ n ih =>
      intro hn
      obtain ⟨x, hx, e⟩ := ih (by omega)
      have h2 : 2 ^ (n + 1) = 2 ^ n + 2 ^ n := by rw [Nat.pow_succ]; omega
      rw [or_s, e]
      by_cases c : h < N (12 + n)
      · rw [if_neg (not_not_intro c), Int32.or_zero]; exact ⟨x, by omega, rfl⟩
      · rw [if_pos c, shl_tab n (by omega), or_nI]
        exact ⟨_, Nat.or_lt_two_pow (by omega) (by omega), rfl⟩
  exact H _ hC
theorem runOf_in (N : AF) (s h : Int32) (hC : nC N ≤ 6) : ∃ x, x < 2 ^ nC N ∧ runOf N s h = nI x := by
  obtain ⟨x, hx, e⟩ := hotN_in N h hC
  obtain ⟨y, hy, e2⟩ := and_nI x s
  rw [runOf_eq N s h hC, e, Int32.and_comm, e2]
  exact ⟨y, by omega, rfl⟩
theorem runIn_in (N : AF) (t h : Int32) (hC : nC N ≤ 6) : ∃ x, x < 2 ^ nC N ∧ runIn N t h = nI x := by
  obtain ⟨x, hx, e⟩ := hotN_in N h hC
  obtain ⟨y, hy, e2⟩ := and_nI x (rnU N t (nF N))
  rw [← run_eq N t h hC, e, Int32.and_comm, e2]
  exact ⟨y, by omega, rfl⟩
/-- a flag that is washed -/
def waF (F : Nat → Int32) (r h : Int32) : Nat → Int32 := fun j => if j = 9 then -1 else if j = 8 then 0 else if j = 5 then mn 9 ((F 5 + 1) + h) else if j = 4 then 9 else if j = 3 then mx 0 ((F 3 - 1) - (2 * h)) else if j = 6 then F 6 ||| ((r &&& (F 1 ^^^ (-1))) &&& (F 6 ^^^ (-1))) else F j
theorem upF_wash (N : AF) (f : Nat) (r h : Int32) : upF N (washF N f r h) f (waF (fl N f) r h) := by
  have h1 := (upF.rf N f).set (by decide : 6 < 11) (fl N f 6 ||| newS N f r)
  have h2 := h1.set (by decide : 3 < 11) (dirtB (wa1 N f r) f h)
  have h3 := h2.set (by decide : 4 < 11) 9
  have h4 := h3.set (by decide : 5 < 11) (mn 9 ((fl (wa3 N f r h) f 5 + 1) + h))
  have h5 := h4.goTo 0 (-1)
  refine h5.cg (fun k hk => ?_)
  have e5 : fl (wa3 N f r h) f 5 = fl N f 5 := h3.2.1 5 (by decide)
  have e3 : fl (wa1 N f r) f 3 = fl N f 3 := h1.2.1 3 (by decide)
  unfold waF dirtB newS
  rw [e5, e3]
theorem FK_wash {N : AF} {F : Nat → Int32} (w : FK N F) {r : Int32} (hr : ∃ x, x < 2 ^ nC N ∧ r = nI x) {h : Nat} (hh : h < 4) : FK N (waF F r (nI h)) := by
  obtain ⟨w0, w1, w2, ⟨x3, h3, e3⟩, w4, ⟨x5, h5, e5⟩, ⟨x6, h6, e6⟩, w8⟩ := w
  obtain ⟨x, hx, er⟩ := hr
  refine ⟨w0, w1, w2, ?_, ⟨9, by decide, rfl⟩, ?_, ?_, Or.inl ⟨rfl, rfl⟩⟩
  · show ∃ y, y ≤ 9 ∧ mx 0 ((F 3 - 1) - (2 * nI h)) = nI y
    rw [e3, mx_tab3 h hh x3 (by omega)]
    exact ⟨_, by omega, rfl⟩
  · show ∃ y, y ≤ 9 ∧ mn 9 ((F 5 + 1) + nI h) = nI y
    rw [e5, show (nI x5 + 1) + nI h = nI (x5 + 1 + h) by rw [← nI_add, ← nI_add]; rfl, mn_tab _ (by omega)]
    exact ⟨_, by split <;> omega, rfl⟩
  · show ∃ y, y < 2 ^ nC N ∧ F 6 ||| ((r &&& (F 1 ^^^ (-1))) &&& (F 6 ^^^ (-1))) = nI y
    obtain ⟨y, hy, e⟩ := and_nI x (F 1 ^^^ (-1))
    rw [er, e]
    obtain ⟨z, hz, e'⟩ := and_nI y (F 6 ^^^ (-1))
    rw [e', e6, or_nI]
    exact ⟨_, Nat.or_lt_two_pow h6 (by omega), rfl⟩
theorem WFd_wsh {N : AF} (w : WFd N) {t r : Int32} (hr : ∃ x, x < 2 ^ nC N ∧ r = nI x) {h : Nat} (hh : h < 4) : ∀ n, n ≤ nF N → WFd (wsh N t r (nI h) n)
  | 0, _ => w
  | n + 1, hn => by
    have h1 := WFd_wsh w (t := t) hr hh n (by omega)
    rw [wsh_s]
    split
    · have hd := hdr_wsh N t r (nI h) n
      have eC : nC (wsh N t r (nI h) n) = nC N := by unfold nC; rw [hd 6 (by decide)]
      exact h1.upF (upF_wash _ n r (nI h)) (FK_wash (h1.2 n (by rw [hd.nFe]; omega)) (by rw [eC]; exact hr) hh)
    · exact h1
theorem WFd_wash {N : AF} (w : WFd N) {t : Int32} {h : Nat} (hh : h < 4) : WFd (washN N t (nI h)) :=
  (WFd_wsh w (runIn_in N t (nI h) w.1.1.2) hh _ (Nat.le_refl _)).scl (fun i a b => va_up_ne _ _ (by omega))
theorem upF_put (N : AF) (f : Nat) (t : Int32) : upF N (setFl (goTo N f 1 t) f 10 (goTo N f 1 t 11)) f (plF (fl N f) 1 t (N 11)) := by
  have h := (upF_goTo N f 1 t).set (by decide : 10 < 11) (goTo N f 1 t 11)
  refine h.cg (fun k hk => ?_)
  have e : goTo N f 1 t 11 = N 11 := (upF_goTo N f 1 t).1 11 (by decide)
  rw [e]
  unfold plF
  by_cases c : k = 10
  · subst c; rfl
  · simp only [if_neg c]
theorem WFd_put {N : AF} (w : WFd N) {f t : Nat} (hf : f < nF N) (ht : t < nT N) : WFd (putIn N f (nI t)) := (w.upF (upF_put N f (nI t)) (FK_pl (w.2 f hf) (Or.inr (Or.inl ⟨rfl, t, ht, rfl⟩)))).scl (fun i a b => va_up_ne _ _ (by omega))
theorem WFd_goTo {N : AF} (w : WFd N) {f : Nat} (hf : f < nF N) {p a : Int32} (hp : (p = 0 ∧ a = -1) ∨ (p = 1 ∧ ∃ t, t < nT N ∧ a = nI t) ∨ (p = 2 ∧ ∃ q, q < nP N ∧ a = nI q) ∨ (p = 3 ∧ a = -1)) : WFd (goTo N f p a) := w.upF (upF_goTo N f p a) (FK_pl (w.2 f hf) hp)
theorem WFd_leU {N : AF} (w : WFd N) (n : Int32) : ∀ k, k ≤ nF N → WFd (leU N n k)
  | 0, _ => w
  | k + 1, hk => by
    have h1 := WFd_leU w n k (by omega)
    unfold leU
    split
    · exact WFd_goTo h1 (by rw [(hdr_leU N n k).nFe]; omega) (Or.inr (Or.inr (Or.inr ⟨rfl, rfl⟩)))
    · exact h1
theorem WFd_clU {N : AF} (w : WFd N) (t : Int32) : ∀ k, k ≤ nF N → WFd (clU N t k)
  | 0, _ => w
  | k + 1, hk => by
    have h1 := WFd_clU w t k (by omega)
    unfold clU
    split
    · exact WFd_goTo h1 (by rw [(hdr_clU N t k).nFe]; omega) (Or.inl ⟨rfl, rfl⟩)
    · exact h1
theorem freeN_in {N : AF} (h : ¬ freeN N = -1) : ∃ q, q < nP N ∧ freeN N = nI q := by
  rcases fsr_in (p := fun p => flagOnN N (nI p) = -1) (nP N) 0 with h1 | ⟨j, h1, h2, h3, -⟩
  · exact absurd h1 h
  · exact ⟨j, by omega, h3⟩
theorem WFd_hang {N : AF} (w : WFd N) {f : Nat} (hf : f < nF N) (h : ¬ freeN N = -1) : WFd (goTo N f 2 (freeN N)) := WFd_goTo w hf (Or.inr (Or.inr (Or.inl ⟨rfl, freeN_in h⟩)))
theorem WFd_haU {N : AF} (w : WFd N) : ∀ k, k ≤ nF N → WFd (haU N k)
  | 0, _ => w
  | k + 1, hk => by
    have h1 := WFd_haU w k (by omega)
    unfold haU
    split
    · rename_i c
      exact WFd_hang h1 (by rw [(hdr_haU N k).nFe]; omega) c.2.2
    · exact h1
theorem WFd_iron {N : AF} (w : WFd N) {f h : Nat} (hf : f < nF N) (hh : h < 4) : WFd (ironN N f (nI h)) ∧ upF N (ironN N f (nI h)) f (fun j => if j = 4 then mx 0 (fl N f 4 - nI h) else if j = 5 then mx 0 (((fl N f 5 - 1) - nI h) - bi (¬ fl N f 4 ≤ 0)) else fl N f j) := by
  have h1 := (upF.rf N f).set (by decide : 5 < 11) (mx 0 (((fl N f 5 - 1) - nI h) - bi (¬ fl N f 4 ≤ 0)))
  have e4 : fl (iron1 N f (nI h)) f 4 = fl N f 4 := h1.2.1 4 (by decide)
  have h2 := h1.set (by decide : 4 < 11) (mx 0 (fl (iron1 N f (nI h)) f 4 - nI h))
  have h3 : upF N (ironN N f (nI h)) f (fun j => if j = 4 then mx 0 (fl N f 4 - nI h) else if j = 5 then mx 0 (((fl N f 5 - 1) - nI h) - bi (¬ fl N f 4 ≤ 0)) else fl N f j) := h2.cg (fun k hk => by rw [e4])
  refine ⟨w.upF h3 ?_, h3⟩
  have hF := w.2 f hf
  obtain ⟨x5, b5, e5⟩ := hF.2.2.2.2.2.1
  obtain ⟨x4, b4, e4⟩ := hF.2.2.2.2.1
  refine FK_set (F := fun j => if j = 5 then mx 0 (((fl N f 5 - 1) - nI h) - bi (¬ fl N f 4 ≤ 0)) else fl N f j) (FK_set (F := fl N f) hF (Or.inr (Or.inr rfl)) ?_) (Or.inr (Or.inl rfl)) ?_
  · obtain ⟨b, hb, eb⟩ := bi_nI (¬ fl N f 4 ≤ 0)
    rw [eb, e5, iron_tab x5 (by omega) h hh b hb]
    exact ⟨_, by omega, rfl⟩
  · rw [e4, mx_tab h (by omega) x4 (by omega)]
    exact ⟨_, by omega, rfl⟩
theorem upF_bl (N : AF) (f : Nat) : upF N (blN N f) f (fun j => if j = 7 then fl N f 7 + 1 else if j = 6 then 0 else fl N f j) := by
  have h1 := (upF.rf N f).set (by decide : 6 < 11) 0
  have h2 := h1.set (by decide : 7 < 11) (fl (setFl N f 6 0) f 7 + 1)
  have e : fl (setFl N f 6 0) f 7 = fl N f 7 := h1.2.1 7 (by decide)
  exact h2.cg (fun k hk => by rw [e])
theorem WFd_bl {N : AF} (w : WFd N) {f : Nat} (hf : f < nF N) : WFd (blN N f) := by
  refine w.upF (upF_bl N f) ?_
  obtain ⟨h0, h1, h2, h3, h4, h5, h6, h8⟩ := w.2 f hf
  exact ⟨h0, h1, h2, h3, h4, h5, ⟨0, Nat.two_pow_pos _, rfl⟩, h8⟩
/-- only nations and numbers change -/
theorem WFd.nat {N N' : AF} (w : WFd N) (h : ∀ j, (6 ≤ j ∧ j ≤ 10) ∨ 41 ≤ j → N' j = N j) : WFd N' := by
  have hc : nC N' = nC N ∧ nN N' = nN N ∧ nT N' = nT N ∧ nP N' = nP N ∧ nF N' = nF N := by
    unfold nC nN nT nP nF
    rw [h 6 (by decide), h 7 (by decide), h 8 (by decide), h 9 (by decide), h 10 (by decide)]
    exact ⟨rfl, rfl, rfl, rfl, rfl⟩
  refine ⟨w.1.hdr (fun j a b => h j (Or.inl ⟨a, b⟩)), fun i hi => ?_⟩
  rw [hc.2.2.2.2] at hi
  exact FK.congr (w.2 i hi) hc (fun k hk => h _ (Or.inr (by omega)))
theorem WFd_ho {N : AF} (w : WFd N) {n : Nat} (hn : n < nN N) : WFd (ho4 N n) := by
  have hN4 : nN N ≤ 4 := w.1.2.1.2
  refine w.nat (fun j hj => ?_)
  unfold ho4 ho3 ho2 ho1 setNa
  rw [va_up_ne _ _ (by omega), va_up_ne _ _ (by omega), va_up_ne _ _ (by omega), va_up_ne _ _ (by omega)]
theorem fl_va (N : AF) {j : Nat} (hj : j < 41) (v : Int32) (f k : Nat) : fl (va_up N j v) f k = fl N f k := va_up_ne _ _ (by omega)
theorem va_comm (N : AF) {i j : Nat} (h : ¬ i = j) (v x : Int32) : va_up (va_up N i v) j x = va_up (va_up N j x) i v := by
  funext q
  unfold va_up
  by_cases c : q = j
  · rw [if_pos c, if_neg (by omega), if_pos c]
  · rw [if_neg c]
    by_cases d : q = i
    · rw [if_pos d, if_pos d]
    · rw [if_neg d, if_neg d, if_neg c]
theorem setFl_va (N : AF) {j : Nat} (hj : j < 41) (v : Int32) (f k : Nat) (x : Int32) : setFl (va_up N j v) f k x = va_up (setFl N f k x) j v := va_comm N (by omega) v x
theorem goTo_va (N : AF) {j : Nat} (hj : j < 41) (v : Int32) (f : Nat) (w a : Int32) : goTo (va_up N j v) f w a = va_up (goTo N f w a) j v := by
  unfold goTo
  rw [setFl_va N hj, setFl_va _ hj]
/-- a flag on the floor -/
def flrN (N : AF) (f : Nat) : AF := setFl (goTo N f 0 (-1)) f 3 (mn 9 (fl (goTo N f 0 (-1)) f 3 + 1))
theorem flrN_va (N : AF) {j : Nat} (hj : j < 41) (v : Int32) (f : Nat) : flrN (va_up N j v) f = va_up (flrN N f) j v := by
  unfold flrN
  rw [goTo_va N hj, fl_va _ hj, setFl_va _ hj]
/-- whether one falls -/
def fellN (N : AF) : Int32 := if N 1 < 7 then 0 else if lastN (dryN N) = -1 then 0 else 1
