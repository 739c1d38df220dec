/-! THE TEXT: tokens and lines of the parser as pure functions -/
abbrev PT : Type := AF × Nat × Nat × Int32 × Int32 × Int32 × Int32
def run (P : Nat → Prop) [DecidablePred P] : Nat → Nat → Nat
  | 0, c => c
  | f + 1, c => if P c then run P f (c + 1) else c
theorem run_ge (P : Nat → Prop) [DecidablePred P] : ∀ f c, c ≤ run P f c
  | 0, _ => Nat.le_refl _
  | f + 1, c => by
    rw [run]
    split
    · exact Nat.le_trans (Nat.le_succ c) (run_ge P f (c + 1))
    · exact Nat.le_refl _
theorem run_in (P : Nat → Prop) [DecidablePred P] : ∀ f c k, c ≤ k → k < run P f c → P k
  | 0, c, k, h1, h2 => absurd h2 (by show ¬ k < c; omega)
  | f + 1, c, k, h1, h2 => by
    rw [run] at h2
    split at h2
    · rcases Nat.eq_or_lt_of_le h1 with e | e
      · subst e; assumption
      · exact run_in P f (c + 1) k e h2
    · omega
theorem run_out (P : Nat → Prop) [DecidablePred P] {n : Nat} (hP : ∀ k, P k → k < n) : ∀ f c, n ≤ c + f → ¬ P (run P f c)
  | 0, c, h => fun h9 => by have := hP _ h9; simp only [run] at this; omega
  | f + 1, c, h => by
    rw [run]
    split
    · exact run_out P hP f (c + 1) (by omega)
    · assumption
theorem run_le (P : Nat → Prop) [DecidablePred P] {n : Nat} (hP : ∀ k, P k → k < n) : ∀ f c, c ≤ n → run P f c ≤ n
  | 0, _, h => h
  | f + 1, c, h => by
    rw [run]
    split
    · rename_i h9
      exact run_le P hP f (c + 1) (hP _ h9)
    · exact h
abbrev spP (B : AF) (n k : Nat) : Prop := k < n ∧ B k = 32
abbrev leP (B : AF) (n k : Nat) : Prop := k < n ∧ inR (B k) 97 122
abbrev diP (B : AF) (n k : Nat) : Prop := k < n ∧ inR (B k) 48 57
/-- the number told by the first two of k digits from s on -/
def tv (B : AF) (s : Nat) : Nat → Int32
  | 0 => 0
  | j + 1 => if j < 2 then (10 * tv B s j + B (s + j)) - 48 else tv B s j
theorem tv_s (B : AF) (s j : Nat) : tv B s (j + 1) = if j < 2 then (10 * tv B s j + B (s + j)) - 48 else tv B s j := rfl
def spN (B : AF) (n : Nat) (p : PT) : Nat := run (spP B n) n p.2.1
def leN (B : AF) (n s : Nat) : Nat := run (leP B n) n s
def diN (B : AF) (n s : Nat) : Nat := run (diP B n) n s
/-- the token that begins at s -/
def tok (B : AF) (n s : Nat) (p : PT) : PT :=
  if s = n then (p.1, s, s, 1, p.2.2.2.2)
  else if leP B n s then (p.1, leN B n s, s, if leN B n s - s ≤ 6 then 2 else 0, p.2.2.2.2)
  else if diP B n s then (p.1, diN B n s, s, if diN B n s - s ≤ 2 then 3 else 0, tv B s (diN B n s - s), p.2.2.2.2.2)
  else (p.1, s + 1, s, if B s = 59 then 4 else 0, p.2.2.2.2)
def goesS (B : AF) (n : Nat) (p : PT) : PT := if p.2.2.2.2.2.1 ≤ 0 then tok B n (spN B n p) p else p
def fltS (c : Int32) (p : PT) : PT := if p.2.2.2.2.2.1 ≤ 0 then (p.1, p.2.1, p.2.2.1, p.2.2.2.1, p.2.2.2.2.1, c, nI p.2.2.1) else p
abbrev isP (its : Int32) (p : PT) : Prop := p.2.2.2.2.2.1 = 0 ∧ p.2.2.2.1 = its
abbrev wordP (B : AF) (w : List Int32) (p : PT) : Prop := isP 2 p ∧ p.2.1 - p.2.2.1 = w.length ∧ ∀ k, k < w.length → B (p.2.2.1 + k) = w.getD k 0
def nhS (lo hi : Int32) (p : PT) : PT := if isP 3 p then (if inR p.2.2.2.2.1 lo hi then p else fltS 2 p) else fltS 1 p
def nhV (lo hi : Int32) (p : PT) : Int32 := if (nhS lo hi p).2.2.2.2.2.1 ≤ 0 then (nhS lo hi p).2.2.2.2.1 else lo
def nuS (B : AF) (n : Nat) (lo hi : Int32) (p : PT) : PT := goesS B n (nhS lo hi p)
def bgS (B : AF) (n k : Nat) (most : Int32) (p : PT) : PT := goesS B n (if p.1 k = most then fltS 4 p else p)
/-- another N -/
def pN (N : AF) (p : PT) : PT := (N, p.2)
/-- if no fault was told, this N -/
def okS (N : AF) (p : PT) : PT := if p.2.2.2.2.2.1 ≤ 0 then pN N p else p
def coN (N : AF) (v : Int32) : AF := va_up (va_up N (12 + nC N) v) 6 (va_up N (12 + nC N) v 6 + 1)
def coS (B : AF) (n : Nat) (p : PT) : PT := okS (coN (nuS B n 0 4 (bgS B n 6 6 p)).1 (nhV 0 4 (bgS B n 6 6 p))) (nuS B n 0 4 (bgS B n 6 6 p))
def tuN (N : AF) (v : Int32) : AF := va_up (va_up N (38 + nT N) v) 8 (va_up N (38 + nT N) v 8 + 1)
def tuS (B : AF) (n : Nat) (p : PT) : PT := okS (tuN (nuS B n 1 6 (bgS B n 8 3 p)).1 (nhV 1 6 (bgS B n 8 3 p))) (nuS B n 1 6 (bgS B n 8 3 p))
def nanN (N : AF) (a b c : Int32) : AF := va_up (setNa (setNa (setNa N (nN N) 0 a) (nN N) 1 b) (nN N) 2 c) 7 (setNa (setNa (setNa N (nN N) 0 a) (nN N) 1 b) (nN N) 2 c 7 + 1)
def na1 (B : AF) (n : Nat) (p : PT) : PT := bgS B n 7 4 p
def na2 (B : AF) (n : Nat) (p : PT) : PT := nuS B n 0 99 (na1 B n p)
def na3 (B : AF) (n : Nat) (p : PT) : PT := nuS B n 1 99 (na2 B n p)
def na4 (B : AF) (n : Nat) (p : PT) : PT := nuS B n 0 9 (na3 B n p)
def naS (B : AF) (n : Nat) (p : PT) : PT := okS (nanN (na4 B n p).1 (nhV 0 99 (na1 B n p)) (nhV 1 99 (na2 B n p)) (nhV 0 9 (na3 B n p))) (na4 B n p)
/-- a flag's colour -/
def crH (set : Int32) (p : PT) : PT := if (nhS 0 (p.1 6 - 1) p).2.2.2.2.2.1 = 0 ∧ hasB set (nhV 0 (p.1 6 - 1) p) then fltS 3 (nhS 0 (p.1 6 - 1) p) else nhS 0 (p.1 6 - 1) p
def crS (B : AF) (n : Nat) (set : Int32) (p : PT) : PT := goesS B n (crH set p)
def crV (B : AF) (n : Nat) (set : Int32) (p : PT) : Int32 := if (crS B n set p).2.2.2.2.2.1 ≤ 0 then set ||| ((1 : Int32) <<< (nhV 0 (p.1 6 - 1) p &&& 31)) else set
/-- the colours behind the first -/
def cqU (B : AF) (n : Nat) (q : Int32 × PT) : Nat → Int32 × PT
  | 0 => q
  | k + 1 => (crV B n (cqU B n q k).1 (cqU B n q k).2, crS B n (cqU B n q k).1 (cqU B n q k).2)
theorem cqU_s (B : AF) (n : Nat) (q : Int32 × PT) (k : Nat) : cqU B n q (k + 1) = (crV B n (cqU B n q k).1 (cqU B n q k).2, crS B n (cqU B n q k).1 (cqU B n q k).2) := rfl
def cqK (B : AF) (n : Nat) (q : Int32 × PT) : Nat := run (fun k => isP 3 (cqU B n q k).2) (n + 1) 0
def fg1 (B : AF) (n : Nat) (p : PT) : PT := bgS B n 10 12 p
def fg2 (B : AF) (n : Nat) (p : PT) : PT := nuS B n 0 ((fg1 B n p).1 7 - 1) (fg1 B n p)
def fg3 (B : AF) (n : Nat) (p : PT) : PT := nuS B n 0 3 (fg2 B n p)
def fg4 (B : AF) (n : Nat) (p : PT) : PT := nuS B n 0 9 (fg3 B n p)
def fg0 (B : AF) (n : Nat) (p : PT) : Int32 × PT := (crV B n 0 (fg4 B n p), crS B n 0 (fg4 B n p))
def fg5 (B : AF) (n : Nat) (p : PT) : Int32 × PT := cqU B n (fg0 B n p) (cqK B n (fg0 B n p))
def fgS (B : AF) (n : Nat) (p : PT) : PT := if (fg5 B n p).2.2.2.2.2.2.1 = 0 then pN (addN (fg5 B n p).2.1 (nhV 0 ((fg1 B n p).1 7 - 1) (fg1 B n p)) (fg5 B n p).1 (nhV 0 3 (fg2 B n p)) (nhV 0 9 (fg3 B n p))) (fg5 B n p).2 else (fg5 B n p).2
def pu1 (B : AF) (n : Nat) (p : PT) : PT := nuS B n 0 ((goesS B n p).1 10 - 1) (goesS B n p)
def puF (B : AF) (n : Nat) (p : PT) : Int32 := nhV 0 ((goesS B n p).1 10 - 1) (goesS B n p)
def pu2 (B : AF) (n : Nat) (p : PT) : PT := nhS 0 ((pu1 B n p).1 8 - 1) (pu1 B n p)
def puT (B : AF) (n : Nat) (p : PT) : Int32 := nhV 0 ((pu1 B n p).1 8 - 1) (pu1 B n p)
def pu3 (B : AF) (n : Nat) (p : PT) : PT := if (pu2 B n p).2.2.2.2.2.1 = 0 ∧ ¬ whyPutN (pu2 B n p).1 (ix (puF B n p)) (ix (puT B n p)) = 0 then fltS 3 (pu2 B n p) else pu2 B n p
def puS (B : AF) (n : Nat) (p : PT) : PT := goesS B n (if (pu3 B n p).2.2.2.2.2.1 = 0 then pN (putIn (pu3 B n p).1 (ix (puF B n p)) (puT B n p)) (pu3 B n p) else pu3 B n p)
def wa_1 (B : AF) (n : Nat) (p : PT) : PT := nuS B n 0 ((goesS B n p).1 8 - 1) (goesS B n p)
def waT (B : AF) (n : Nat) (p : PT) : Int32 := nhV 0 ((goesS B n p).1 8 - 1) (goesS B n p)
def wa_2 (B : AF) (n : Nat) (p : PT) : PT := nhS 0 3 (wa_1 B n p)
def waH (B : AF) (n : Nat) (p : PT) : Int32 := nhV 0 3 (wa_1 B n p)
def wa_3 (B : AF) (n : Nat) (p : PT) : PT := if (wa_2 B n p).2.2.2.2.2.1 = 0 ∧ ¬ whyWashN (wa_2 B n p).1 (waT B n p) (waH B n p) = 0 then fltS 3 (wa_2 B n p) else wa_2 B n p
def waS (B : AF) (n : Nat) (p : PT) : PT := if (wa_3 B n p).2.2.2.2.2.1 ≤ 0 then goesS B n (pN (washN (wa_3 B n p).1 (waT B n p) (waH B n p)) (wa_3 B n p)) else wa_3 B n p
def haF (B : AF) (n : Nat) (p : PT) : Int32 := nhV 0 ((goesS B n p).1 10 - 1) (goesS B n p)
def ha1 (B : AF) (n : Nat) (p : PT) : PT := nhS 0 ((goesS B n p).1 10 - 1) (goesS B n p)
def ha2 (B : AF) (n : Nat) (p : PT) : PT := if (ha1 B n p).2.2.2.2.2.1 = 0 ∧ ¬ canHangN (ha1 B n p).1 (ix (haF B n p)) then fltS 3 (ha1 B n p) else ha1 B n p
def haS (B : AF) (n : Nat) (p : PT) : PT := goesS B n (if (ha2 B n p).2.2.2.2.2.1 = 0 then pN (goTo (ha2 B n p).1 (ix (haF B n p)) 2 (freeN (ha2 B n p).1)) (ha2 B n p) else ha2 B n p)
def wiS (B : AF) (n : Nat) (p : PT) : PT := if (nuS B n 0 9 (goesS B n p)).2.2.2.2.2.1 = 0 then pN (va_up (nuS B n 0 9 (goesS B n p)).1 1 (nhV 0 9 (goesS B n p))) (nuS B n 0 9 (goesS B n p)) else nuS B n 0 9 (goesS B n p)
def paS (B : AF) (n : Nat) (p : PT) : PT := if (nuS B n 1 50 (goesS B n p)).2.2.2.2.2.1 = 0 then pN (itr passN (nuS B n 1 50 (goesS B n p)).1 (ix (nhV 1 50 (goesS B n p)))) (nuS B n 1 50 (goesS B n p)) else nuS B n 1 50 (goesS B n p)
def wPut : List Int32 := [112, 117, 116]
def wWash : List Int32 := [119, 97, 115, 104]
def wHang : List Int32 := [104, 97, 110, 103]
def wWind : List Int32 := [119, 105, 110, 100]
def wPass : List Int32 := [112, 97, 115, 115]
def wColour : List Int32 := [99, 111, 108, 111, 117, 114]
def wNation : List Int32 := [110, 97, 116, 105, 111, 110]
def wTub : List Int32 := [116, 117, 98]
def wFlag : List Int32 := [102, 108, 97, 103]
def wLine : List Int32 := [108, 105, 110, 101]
def deS (B : AF) (n : Nat) (p : PT) : PT := if wordP B wPut p then puS B n p else if wordP B wWash p then waS B n p else if wordP B wHang p then haS B n p else if wordP B wWind p then wiS B n p else if wordP B wPass p then paS B n p else fltS 1 p
def thS (B : AF) (n : Nat) (p : PT) : PT := if wordP B wColour p then coS B n p else if wordP B wNation p then naS B n p else if wordP B wTub p then tuS B n p else if wordP B wFlag p then fgS B n p else deS B n p
/-- the lines -/
def liU (B : AF) (n : Nat) (p : PT) : Nat → PT
  | 0 => p
  | k + 1 => thS B n (goesS B n (liU B n p k))
theorem liU_s (B : AF) (n : Nat) (p : PT) (k : Nat) : liU B n p (k + 1) = thS B n (goesS B n (liU B n p k)) := rfl
def liK (B : AF) (n : Nat) (p : PT) : Nat := run (fun k => isP 4 (liU B n p k)) (n + 1) 0
def te1 (B : AF) (n : Nat) (p : PT) : PT := goesS B n (if wordP B wLine (goesS B n p) then goesS B n p else fltS 1 (goesS B n p))
def te2 (B : AF) (n : Nat) (p : PT) : PT := pN (va_up (nuS B n 1 8 (te1 B n p)).1 9 (nhV 1 8 (te1 B n p))) (nuS B n 1 8 (te1 B n p))
def te3 (B : AF) (n : Nat) (p : PT) : PT := liU B n (te2 B n p) (liK B n (te2 B n p))
def te4 (B : AF) (n : Nat) (p : PT) : PT := if isP 1 (te3 B n p) then te3 B n p else fltS 1 (te3 B n p)
def teS (B : AF) (n : Nat) (p : PT) : PT := if (te4 B n p).1 6 = 0 ∨ (te4 B n p).1 7 = 0 ∨ (te4 B n p).1 8 = 0 then fltS 4 (te4 B n p) else te4 B n p
theorem spN_ge (B : AF) (n : Nat) (p : PT) : p.2.1 ≤ spN B n p := run_ge _ _ _
theorem spN_in {B : AF} {n k : Nat} {p : PT} (h1 : p.2.1 ≤ k) (h2 : k < spN B n p) : spP B n k := run_in _ _ _ k h1 h2
theorem spN_out (B : AF) (n : Nat) (p : PT) : ¬ spP B n (spN B n p) := run_out _ (n := n) (fun _ h => h.1) _ _ (by omega)
theorem spN_le {B : AF} {n : Nat} {p : PT} (h : p.2.1 ≤ n) : spN B n p ≤ n := run_le _ (n := n) (fun _ h => h.1) _ _ h
theorem leN_ge (B : AF) (n s : Nat) : s ≤ leN B n s := run_ge _ _ _
theorem leN_in {B : AF} {n k s : Nat} (h1 : s ≤ k) (h2 : k < leN B n s) : leP B n k := run_in _ _ _ k h1 h2
theorem leN_out (B : AF) (n s : Nat) : ¬ leP B n (leN B n s) := run_out _ (n := n) (fun _ h => h.1) _ _ (by omega)
theorem leN_le {B : AF} {n s : Nat} (h : s ≤ n) : leN B n s ≤ n := run_le _ (n := n) (fun _ h => h.1) _ _ h
theorem leN_gt {B : AF} {n s : Nat} (h : leP B n s) : s < leN B n s := by
  have h1 := leN_ge B n s
  rcases Nat.eq_or_lt_of_le h1 with e | e
  · exact absurd (e ▸ h) (leN_out B n s)
  · exact e
theorem diN_ge (B : AF) (n s : Nat) : s ≤ diN B n s := run_ge _ _ _
theorem diN_in {B : AF} {n k s : Nat} (h1 : s ≤ k) (h2 : k < diN B n s) : diP B n k := run_in _ _ _ k h1 h2
theorem diN_out (B : AF) (n s : Nat) : ¬ diP B n (diN B n s) := run_out _ (n := n) (fun _ h => h.1) _ _ (by omega)
theorem diN_le {B : AF} {n s : Nat} (h : s ≤ n) : diN B n s ≤ n := run_le _ (n := n) (fun _ h => h.1) _ _ h
theorem diN_gt {B : AF} {n s : Nat} (h : diP B n s) : s < diN B n s := by
  have h1 := diN_ge B n s
  rcases Nat.eq_or_lt_of_le h1 with e | e
  · exact absurd (e ▸ h) (diN_out B n s)
  · exact e
theorem goes_x {B : AF} {n : Nat} {p : PT} (h : ¬ p.2.2.2.2.2.1 ≤ 0) : goesS B n p = p := if_neg h
theorem goes_0 {B : AF} {n : Nat} {p : PT} (h : p.2.2.2.2.2.1 ≤ 0) : goesS B n p = tok B n (spN B n p) p := if_pos h
theorem tok_e {B : AF} {n s : Nat} {p : PT} (h : s = n) : tok B n s p = (p.1, s, s, 1, p.2.2.2.2) := if_pos h
theorem tok_l {B : AF} {n s : Nat} {p : PT} (h : ¬ s = n) (h1 : leP B n s) : tok B n s p = (p.1, leN B n s, s, if leN B n s - s ≤ 6 then 2 else 0, p.2.2.2.2) := by rw [tok, if_neg h, if_pos h1]
theorem tok_d {B : AF} {n s : Nat} {p : PT} (h : ¬ s = n) (h1 : ¬ leP B n s) (h2 : diP B n s) : tok B n s p = (p.1, diN B n s, s, if diN B n s - s ≤ 2 then 3 else 0, tv B s (diN B n s - s), p.2.2.2.2.2) := by rw [tok, if_neg h, if_neg h1, if_pos h2]
theorem tok_o {B : AF} {n s : Nat} {p : PT} (h : ¬ s = n) (h1 : ¬ leP B n s) (h2 : ¬ diP B n s) : tok B n s p = (p.1, s + 1, s, if B s = 59 then 4 else 0, p.2.2.2.2) := by rw [tok, if_neg h, if_neg h1, if_neg h2]
theorem tok_1 (B : AF) (n s : Nat) (p : PT) : (tok B n s p).1 = p.1 := by unfold tok; split <;> (try split) <;> (try split) <;> rfl
theorem tok_s (B : AF) (n s : Nat) (p : PT) : (tok B n s p).2.2.1 = s := by unfold tok; split <;> (try split) <;> (try split) <;> rfl
theorem tok_pc (B : AF) (n s : Nat) (p : PT) : (tok B n s p).2.2.2.2.2 = p.2.2.2.2.2 := by unfold tok; split <;> (try split) <;> (try split) <;> rfl
theorem tok_c (B : AF) (n s : Nat) (p : PT) : s ≤ (tok B n s p).2.1 := by
  have h1 := leN_ge B n s
  have h2 := diN_ge B n s
  unfold tok
  split <;> (try split) <;> (try split) <;> simp only <;> omega
theorem tok_n {B : AF} {n s : Nat} {p : PT} (h : s ≤ n) : (tok B n s p).2.1 ≤ n := by
  have h1 := leN_le (B := B) h
  have h2 := diN_le (B := B) h
  unfold tok
  split <;> (try split) <;> (try split) <;> simp only <;> omega
/-- a token that isn't the end moves the cursor -/
theorem tok_gt {B : AF} {n s : Nat} {p : PT} (h : ¬ (tok B n s p).2.2.2.1 = 1) : s < (tok B n s p).2.1 := by
  unfold tok at h ⊢
  split at h
  · exact absurd rfl h
  · rename_i h0
    rw [if_neg h0]
    split
    · rename_i h1; exact leN_gt h1
    · split
      · rename_i h1; exact diN_gt h1
      · exact Nat.lt_succ_self _
theorem goes_1 (B : AF) (n : Nat) (p : PT) : (goesS B n p).1 = p.1 := by unfold goesS; split; exact tok_1 _ _ _ _; rfl
theorem goes_pc (B : AF) (n : Nat) (p : PT) : (goesS B n p).2.2.2.2.2 = p.2.2.2.2.2 := by unfold goesS; split; exact tok_pc _ _ _ _; rfl
theorem goes_c (B : AF) (n : Nat) (p : PT) : p.2.1 ≤ (goesS B n p).2.1 := by
  unfold goesS
  split
  · exact Nat.le_trans (spN_ge B n p) (tok_c _ _ _ _)
  · exact Nat.le_refl _
/-- what holds of a state of the parser: the cursor is in the text, the start not behind it, the code no negative number, the counts -/
def pOK (n : Nat) (p : PT) : Prop := p.2.1 ≤ n ∧ p.2.2.1 ≤ p.2.1 ∧ ¬ p.2.2.2.2.2.1 < 0 ∧ WFc p.1
theorem goes_n {B : AF} {n : Nat} {p : PT} (h : p.2.1 ≤ n) : (goesS B n p).2.1 ≤ n := by
  unfold goesS
  split
  · exact tok_n (spN_le h)
  · exact h
theorem goes_ok0 {B : AF} {n : Nat} {p : PT} (h0 : p.2.2.2.2.2.1 = 0) (h : p.2.1 ≤ n) (hw : WFc p.1) : pOK n (goesS B n p) := by
  refine ⟨goes_n h, ?_, ?_, ?_⟩
  · rw [goes_0 (by rw [h0]; exact Int32.le_refl _), tok_s]
    exact tok_c _ _ _ _
  · rw [goes_pc, h0]; decide
  · rw [goes_1]; exact hw
theorem goes_ok {B : AF} {n : Nat} {p : PT} (h : pOK n p) : pOK n (goesS B n p) := by
  obtain ⟨h1, h2, h3, h4⟩ := h
  refine ⟨goes_n h1, ?_, ?_, ?_⟩
  · unfold goesS
    split
    · rw [tok_s]; exact tok_c _ _ _ _
    · exact h2
  · rw [goes_pc]; exact h3
  · rw [goes_1]; exact h4
theorem pc0 {n : Nat} {p : PT} (h : pOK n p) : p.2.2.2.2.2.1 ≤ 0 ↔ p.2.2.2.2.2.1 = 0 := by
  have h3 := h.2.2.1
  rw [Int32.lt_iff_toInt_lt] at h3
  rw [Int32.le_iff_toInt_le]
  constructor
  · intro h4
    apply Int32.toInt_inj.mp
    have : (0 : Int32).toInt = 0 := by decide
    omega
  · intro h4
    rw [h4]
    exact Int.le_refl _
theorem flt_1 (c : Int32) (p : PT) : (fltS c p).1 = p.1 := by unfold fltS; split <;> rfl
theorem flt_c (c : Int32) (p : PT) : (fltS c p).2.1 = p.2.1 := by unfold fltS; split <;> rfl
theorem flt_s (c : Int32) (p : PT) : (fltS c p).2.2.1 = p.2.2.1 := by unfold fltS; split <;> rfl
theorem flt_k (c : Int32) (p : PT) : (fltS c p).2.2.2.1 = p.2.2.2.1 := by unfold fltS; split <;> rfl
theorem flt_x {c : Int32} {p : PT} (h : ¬ p.2.2.2.2.2.1 ≤ 0) : fltS c p = p := if_neg h
theorem flt_0 {c : Int32} {p : PT} (h : p.2.2.2.2.2.1 ≤ 0) : fltS c p = (p.1, p.2.1, p.2.2.1, p.2.2.2.1, p.2.2.2.2.1, c, nI p.2.2.1) := if_pos h
theorem flt_gt {c : Int32} (hc : ¬ c ≤ 0) (p : PT) : ¬ (fltS c p).2.2.2.2.2.1 ≤ 0 := by
  unfold fltS
  split
  · exact hc
  · assumption
theorem flt_ok {c : Int32} (hc : ¬ c < 0) {n : Nat} {p : PT} (h : pOK n p) : pOK n (fltS c p) := by
  obtain ⟨h1, h2, h3, h4⟩ := h
  refine ⟨by rw [flt_c]; exact h1, by rw [flt_c, flt_s]; exact h2, ?_, by rw [flt_1]; exact h4⟩
  unfold fltS
  split
  · exact hc
  · exact h3
theorem nh_1 (lo hi : Int32) (p : PT) : (nhS lo hi p).1 = p.1 := by unfold nhS; split <;> (try split) <;> first | rfl | exact flt_1 _ _
theorem nh_c (lo hi : Int32) (p : PT) : (nhS lo hi p).2.1 = p.2.1 := by unfold nhS; split <;> (try split) <;> first | rfl | exact flt_c _ _
theorem nh_ok {lo hi : Int32} {n : Nat} {p : PT} (h : pOK n p) : pOK n (nhS lo hi p) := by
  unfold nhS
  split
  · split
    · exact h
    · exact flt_ok (by decide) h
  · exact flt_ok (by decide) h
theorem nh_x {lo hi : Int32} {p : PT} (h : ¬ p.2.2.2.2.2.1 ≤ 0) : nhS lo hi p = p := by
  unfold nhS
  split
  · rename_i h1
    exact absurd (by rw [h1.1]; exact Int32.le_refl _) h
  · exact flt_x h
/-- no fault: the number is there, and within -/
theorem nh_in {lo hi : Int32} {p : PT} (h : (nhS lo hi p).2.2.2.2.2.1 ≤ 0) : isP 3 p ∧ nhS lo hi p = p ∧ nhV lo hi p = p.2.2.2.2.1 ∧ inR p.2.2.2.2.1 lo hi := by
  by_cases c1 : isP 3 p
  · by_cases c2 : inR p.2.2.2.2.1 lo hi
    · have e : nhS lo hi p = p := by rw [nhS, if_pos c1, if_pos c2]
      refine ⟨c1, e, ?_, c2⟩
      rw [nhV, if_pos h, e]
    · exfalso
      rw [nhS, if_pos c1, if_neg c2] at h
      exact flt_gt (by decide) _ h
  · exfalso
    rw [nhS, if_neg c1] at h
    exact flt_gt (by decide) _ h
theorem nhV_x {lo hi : Int32} {p : PT} (h : ¬ (nhS lo hi p).2.2.2.2.2.1 ≤ 0) : nhV lo hi p = lo := if_neg h
theorem nhV_in {lo hi : Int32} (hl : lo ≤ hi) (p : PT) (h : (nhS lo hi p).2.2.2.2.2.1 ≤ 0) : inR (nhV lo hi p) lo hi := by
  obtain ⟨h1, h2, h3, h4⟩ := nh_in h
  rw [h3]
  exact h4
theorem nu_1 (B : AF) (n : Nat) (lo hi : Int32) (p : PT) : (nuS B n lo hi p).1 = p.1 := by rw [nuS, goes_1, nh_1]
theorem nu_c (B : AF) (n : Nat) (lo hi : Int32) (p : PT) : p.2.1 ≤ (nuS B n lo hi p).2.1 := by rw [nuS, ← nh_c lo hi p]; exact goes_c _ _ _
theorem nu_ok {B : AF} {lo hi : Int32} {n : Nat} {p : PT} (h : pOK n p) : pOK n (nuS B n lo hi p) := goes_ok (nh_ok h)
theorem nu_pc (B : AF) (n : Nat) (lo hi : Int32) (p : PT) : (nuS B n lo hi p).2.2.2.2.2 = (nhS lo hi p).2.2.2.2.2 := goes_pc _ _ _
theorem nu_x {B : AF} {n : Nat} {lo hi : Int32} {p : PT} (h : ¬ p.2.2.2.2.2.1 ≤ 0) : nuS B n lo hi p = p := by rw [nuS, nh_x h, goes_x h]
theorem bg_1 (B : AF) (n k : Nat) (m : Int32) (p : PT) : (bgS B n k m p).1 = p.1 := by rw [bgS, goes_1]; split <;> first | rfl | exact flt_1 _ _
theorem bg_c (B : AF) (n k : Nat) (m : Int32) (p : PT) : p.2.1 ≤ (bgS B n k m p).2.1 := by
  rw [bgS]
  refine Nat.le_trans ?_ (goes_c _ _ _)
  split
  · rw [flt_c]; exact Nat.le_refl _
  · exact Nat.le_refl _
theorem bg_ok {B : AF} {n k : Nat} {m : Int32} {p : PT} (h : pOK n p) : pOK n (bgS B n k m p) := by
  rw [bgS]
  apply goes_ok
  split
  · exact flt_ok (by decide) h
  · exact h
theorem bg_x {B : AF} {n k : Nat} {m : Int32} {p : PT} (h : ¬ p.2.2.2.2.2.1 ≤ 0) : bgS B n k m p = p := by
  rw [bgS]
  split
  · rw [flt_x h, goes_x h]
  · exact goes_x h
theorem bg_ne {B : AF} {n k : Nat} {m : Int32} {p : PT} (h : (bgS B n k m p).2.2.2.2.2.1 ≤ 0) : ¬ p.1 k = m := by
  intro e
  rw [bgS, if_pos e, goes_pc] at h
  exact flt_gt (by decide) _ h
theorem up_at (N : AF) (k : Nat) (v : Int32) : va_up N k v k = v := if_pos rfl
theorem up_ne (N : AF) {k j : Nat} (v : Int32) (h : ¬ j = k) : va_up N k v j = N j := if_neg h
theorem wfc_6 {N : AF} (h : WFc N) (hk : ¬ N 6 = 6) {v : Int32} (hv : v = N 6 + 1) : WFc (va_up N 6 v) := by
  obtain ⟨⟨a1, a2⟩, ⟨b1, b2⟩, ⟨c1, c2⟩, ⟨d1, d2⟩, e1, e2⟩ := h
  subst hv
  have h6 : ¬ nC N = 6 := fun e => hk (by rw [a1, e]; decide)
  have e6 : N 6 + 1 = nI (nC N + 1) := by rw [nI_succ, ← a1]
  have f6 : nC (va_up N 6 (N 6 + 1)) = nC N + 1 := by
    show (va_up N 6 (N 6 + 1) 6).toNatClampNeg = _
    rw [up_at, e6, nI_clamp (by omega)]
  refine ⟨⟨?_, ?_⟩, ⟨b1, b2⟩, ⟨c1, c2⟩, ⟨d1, d2⟩, e1, e2⟩
  · rw [f6, up_at, e6]
  · rw [f6]; omega
theorem wfc_7 {N : AF} (h : WFc N) (hk : ¬ N 7 = 4) {v : Int32} (hv : v = N 7 + 1) : WFc (va_up N 7 v) := by
  obtain ⟨⟨a1, a2⟩, ⟨b1, b2⟩, ⟨c1, c2⟩, ⟨d1, d2⟩, e1, e2⟩ := h
  subst hv
  have h6 : ¬ nN N = 4 := fun e => hk (by rw [b1, e]; decide)
  have e6 : N 7 + 1 = nI (nN N + 1) := by rw [nI_succ, ← b1]
  have f6 : nN (va_up N 7 (N 7 + 1)) = nN N + 1 := by
    show (va_up N 7 (N 7 + 1) 7).toNatClampNeg = _
    rw [up_at, e6, nI_clamp (by omega)]
  refine ⟨⟨a1, a2⟩, ⟨?_, ?_⟩, ⟨c1, c2⟩, ⟨d1, d2⟩, e1, e2⟩
  · rw [f6, up_at, e6]
  · rw [f6]; omega
theorem wfc_8 {N : AF} (h : WFc N) (hk : ¬ N 8 = 3) {v : Int32} (hv : v = N 8 + 1) : WFc (va_up N 8 v) := by
  obtain ⟨⟨a1, a2⟩, ⟨b1, b2⟩, ⟨c1, c2⟩, ⟨d1, d2⟩, e1, e2⟩ := h
  subst hv
  have h6 : ¬ nT N = 3 := fun e => hk (by rw [c1, e]; decide)
  have e6 : N 8 + 1 = nI (nT N + 1) := by rw [nI_succ, ← c1]
  have f6 : nT (va_up N 8 (N 8 + 1)) = nT N + 1 := by
    show (va_up N 8 (N 8 + 1) 8).toNatClampNeg = _
    rw [up_at, e6, nI_clamp (by omega)]
  refine ⟨⟨a1, a2⟩, ⟨b1, b2⟩, ⟨?_, ?_⟩, ⟨d1, d2⟩, e1, e2⟩
  · rw [f6, up_at, e6]
  · rw [f6]; omega
theorem wfc_9 {N : AF} (h : WFc N) {v : Int32} (hv : inR v 1 8) : WFc (va_up N 9 v) := by
  obtain ⟨⟨a1, a2⟩, ⟨b1, b2⟩, ⟨c1, c2⟩, ⟨d1, d2⟩, e1, e2⟩ := h
  have hp : ∃ k, k ≤ 8 ∧ v = nI k := by
    obtain ⟨h1, h2⟩ := hv
    refine ⟨v.toInt.toNat, ?_, ?_⟩
    · rw [Int32.lt_iff_toInt_lt] at h2
      have : (8 : Int32).toInt = 8 := by decide
      omega
    · rw [Int32.lt_iff_toInt_lt] at h1 h2
      have e8 : (8 : Int32).toInt = 8 := by decide
      have e1 : (1 : Int32).toInt = 1 := by decide
      apply Int32.toInt_inj.mp
      rw [nI_toInt (by omega)]
      omega
  obtain ⟨k, hk, rfl⟩ := hp
  have f : nP (va_up N 9 (nI k)) = k := by
    show (va_up N 9 (nI k) 9).toNatClampNeg = _
    rw [up_at, nI_clamp (by omega)]
  refine ⟨⟨a1, a2⟩, ⟨b1, b2⟩, ⟨c1, c2⟩, ⟨?_, ?_⟩, e1, e2⟩
  · rw [f, up_at]
  · rw [f]; exact hk
theorem wfc_10 {N : AF} (h : WFc N) (hk : nF N < 12) {v : Int32} (hv : v = N 10 + 1) : WFc (va_up N 10 v) ∧ nF (va_up N 10 v) = nF N + 1 := by
  obtain ⟨⟨a1, a2⟩, ⟨b1, b2⟩, ⟨c1, c2⟩, ⟨d1, d2⟩, e1, e2⟩ := h
  subst hv
  have e6 : N 10 + 1 = nI (nF N + 1) := by rw [nI_succ, ← e1]
  have f6 : nF (va_up N 10 (N 10 + 1)) = nF N + 1 := by
    show (va_up N 10 (N 10 + 1) 10).toNatClampNeg = _
    rw [up_at, e6, nI_clamp (by omega)]
  refine ⟨⟨⟨a1, a2⟩, ⟨b1, b2⟩, ⟨c1, c2⟩, ⟨d1, d2⟩, ?_, ?_⟩, f6⟩
  · rw [f6, up_at, e6]
  · rw [f6]; omega
theorem nF_12 {N : AF} (h : WFc N) (hk : ¬ N 10 = 12) : nF N < 12 := by
  obtain ⟨⟨a1, a2⟩, ⟨b1, b2⟩, ⟨c1, c2⟩, ⟨d1, d2⟩, e1, e2⟩ := h
  have h6 : ¬ nF N = 12 := fun e => hk (by rw [e1, e]; decide)
  omega
theorem hdr_clr (N : AF) (f : Nat) : ∀ k, hdr (clrU N f k) N
  | 0 => hdr.rf
  | k + 1 => (hdr_set _ _ _ _).tr (hdr_clr N f k)
theorem hdr_af1 (N : AF) (n o c d : Int32) : hdr (goTo (af1 N n o c d) (nF N) 0 (-1)) N := (hdr_goTo _ _ _ _).tr ((hdr_set _ _ _ _).tr ((hdr_set _ _ _ _).tr ((hdr_set _ _ _ _).tr ((hdr_set _ _ _ _).tr (hdr_clr _ _ _)))))
theorem wfc_add {N : AF} (h : WFc N) (hk : nF N < 12) (n o c d : Int32) : WFc (addN N n o c d) ∧ nF (addN N n o c d) = nF N + 1 := by
  have hh := hdr_af1 N n o c d
  have h1 := wfc_10 (hh.wf h) (by rw [hh.nFe]; exact hk) (rfl : goTo (af1 N n o c d) (nF N) 0 (-1) 10 + 1 = _)
  rw [hh.nFe] at h1
  exact h1
theorem wfc_co {N : AF} (h : WFc N) (hk : ¬ N 6 = 6) (v : Int32) : WFc (coN N v) := by
  have hw : WFc (va_up N (12 + nC N) v) := (cts_up N _ v (Or.inr (by omega))).wf h
  exact wfc_6 hw (by rw [up_ne _ _ (by omega)]; exact hk) rfl
theorem wfc_tu {N : AF} (h : WFc N) (hk : ¬ N 8 = 3) (v : Int32) : WFc (tuN N v) := by
  have hw : WFc (va_up N (38 + nT N) v) := (cts_up N _ v (Or.inr (by omega))).wf h
  exact wfc_8 hw (by rw [up_ne _ _ (by omega)]; exact hk) rfl
theorem cts_nan (N : AF) (a b c : Int32) : cts (setNa (setNa (setNa N (nN N) 0 a) (nN N) 1 b) (nN N) 2 c) N := (cts_na _ _ _ _).tr ((cts_na _ _ _ _).tr (cts_na _ _ _ _))
theorem wfc_nan {N : AF} (h : WFc N) (hk : ¬ N 7 = 4) (a b c : Int32) : WFc (nanN N a b c) :=
  wfc_7 ((cts_nan N a b c).wf h) (by rw [cts_nan N a b c 7 (by omega) (by omega)]; exact hk) rfl
theorem ok_1 (N : AF) (p : PT) : (okS N p).2 = p.2 := by unfold okS; split <;> rfl
theorem ok_ok {N : AF} {n : Nat} {p : PT} (h : pOK n p) (hw : p.2.2.2.2.2.1 ≤ 0 → WFc N) : pOK n (okS N p) := by
  obtain ⟨h1, h2, h3, h4⟩ := h
  unfold okS
  split
  · rename_i h9
    exact ⟨h1, h2, h3, hw h9⟩
  · exact ⟨h1, h2, h3, h4⟩
theorem pN_2 (N : AF) (p : PT) : (pN N p).2 = p.2 := rfl
theorem pN_1 (N : AF) (p : PT) : (pN N p).1 = N := rfl
theorem pN_ok {N : AF} {n : Nat} {p : PT} (h : pOK n p) (hw : WFc N) : pOK n (pN N p) := ⟨h.1, h.2.1, h.2.2.1, hw⟩
/-- a fault at the start stays: no later step is without -/
theorem nu_le {B : AF} {n : Nat} {lo hi : Int32} {p : PT} (h : (nuS B n lo hi p).2.2.2.2.2.1 ≤ 0) : p.2.2.2.2.2.1 ≤ 0 := by
  by_cases c : p.2.2.2.2.2.1 ≤ 0
  · exact c
  · rw [nu_x c] at h; exact absurd h c
theorem nh_le {lo hi : Int32} {p : PT} (h : (nhS lo hi p).2.2.2.2.2.1 ≤ 0) : p.2.2.2.2.2.1 ≤ 0 := by
  by_cases c : p.2.2.2.2.2.1 ≤ 0
  · exact c
  · rw [nh_x c] at h; exact absurd h c
theorem nu_le2 {B : AF} {n : Nat} {lo hi : Int32} {p : PT} (h : (nuS B n lo hi p).2.2.2.2.2.1 ≤ 0) : (nhS lo hi p).2.2.2.2.2.1 ≤ 0 := by
  rw [nu_pc] at h
  exact h
theorem goes_le {B : AF} {n : Nat} {p : PT} (h : (goesS B n p).2.2.2.2.2.1 ≤ 0) : p.2.2.2.2.2.1 ≤ 0 := by rw [goes_pc] at h; exact h
theorem co_ok {B : AF} {n : Nat} {p : PT} (h : pOK n p) : pOK n (coS B n p) := by
  have h1 : pOK n (nuS B n 0 4 (bgS B n 6 6 p)) := nu_ok (bg_ok h)
  refine ok_ok h1 (fun h9 => ?_)
  refine wfc_co h1.2.2.2 ?_ _
  rw [nu_1, bg_1]
  exact bg_ne (nu_le h9)
theorem tu_ok {B : AF} {n : Nat} {p : PT} (h : pOK n p) : pOK n (tuS B n p) := by
  have h1 : pOK n (nuS B n 1 6 (bgS B n 8 3 p)) := nu_ok (bg_ok h)
  refine ok_ok h1 (fun h9 => ?_)
  refine wfc_tu h1.2.2.2 ?_ _
  rw [nu_1, bg_1]
  exact bg_ne (nu_le h9)
theorem na4_1 (B : AF) (n : Nat) (p : PT) : (na4 B n p).1 = p.1 := by rw [na4, nu_1, na3, nu_1, na2, nu_1, na1, bg_1]
theorem na_ok {B : AF} {n : Nat} {p : PT} (h : pOK n p) : pOK n (naS B n p) := by
  have h1 : pOK n (na4 B n p) := by
    unfold na4 na3 na2 na1
    exact nu_ok (nu_ok (nu_ok (bg_ok h)))
  refine ok_ok h1 (fun h9 => ?_)
  refine wfc_nan h1.2.2.2 ?_ _ _ _
  rw [na4_1]
  unfold na4 na3 na2 na1 at h9
  exact bg_ne (nu_le (nu_le (nu_le h9)))
theorem crH_1 (set : Int32) (p : PT) : (crH set p).1 = p.1 := by
  unfold crH
  split
  · rw [flt_1, nh_1]
  · exact nh_1 _ _ _
theorem crH_c (set : Int32) (p : PT) : (crH set p).2.1 = p.2.1 := by
  unfold crH
  split
  · rw [flt_c, nh_c]
  · exact nh_c _ _ _
theorem crH_ok {set : Int32} {n : Nat} {p : PT} (h : pOK n p) : pOK n (crH set p) := by
  unfold crH
  split
  · exact flt_ok (by decide) (nh_ok h)
  · exact nh_ok h
theorem cr_ok {B : AF} {set : Int32} {n : Nat} {p : PT} (h : pOK n p) : pOK n (crS B n set p) := goes_ok (crH_ok h)
theorem cr_1 (B : AF) (n : Nat) (set : Int32) (p : PT) : (crS B n set p).1 = p.1 := by rw [crS, goes_1, crH_1]
theorem cr_c (B : AF) (n : Nat) (set : Int32) (p : PT) : p.2.1 ≤ (crS B n set p).2.1 := by rw [crS, ← crH_c set p]; exact goes_c _ _ _
theorem cr_x {B : AF} {n : Nat} {set : Int32} {p : PT} (h : ¬ p.2.2.2.2.2.1 ≤ 0) : crS B n set p = p := by
  have e : crH set p = p := by
    unfold crH
    rw [nh_x h, if_neg (fun h9 => h (by rw [h9.1]; exact Int32.le_refl _))]
  rw [crS, e, goes_x h]
theorem cr_le {B : AF} {n : Nat} {set : Int32} {p : PT} (h : (crS B n set p).2.2.2.2.2.1 ≤ 0) : p.2.2.2.2.2.1 ≤ 0 := by
  by_cases c : p.2.2.2.2.2.1 ≤ 0
  · exact c
  · rw [cr_x c] at h; exact absurd h c
theorem run_full (P : Nat → Prop) [DecidablePred P] : ∀ f c, run P f c = c + f ∨ ¬ P (run P f c)
  | 0, _ => Or.inl rfl
  | f + 1, c => by
    rw [run]
    split
    · rcases run_full P f (c + 1) with h | h
      · exact Or.inl (by omega)
      · exact Or.inr h
    · right; assumption
/-- a row of states that moves the cursor as long as P holds comes to an end -/
theorem run_end {u : Nat → PT} (P : Nat → Prop) [DecidablePred P] {n : Nat} (hc : ∀ k, P (k + 1) → (u k).2.1 < (u (k + 1)).2.1) (hn : ∀ k, (u k).2.1 ≤ n) : ¬ P (run P (n + 1) 0) := by
  intro hP
  rcases run_full P (n + 1) 0 with h | h
  · have hj : ∀ j, j ≤ n + 1 → j ≤ (u j).2.1 := by
      intro j
      induction j with
      | zero => intro _; exact Nat.zero_le _
      | succ j ih =>
        intro hj
        have hPj : P (j + 1) := by
          rcases Nat.lt_or_ge (j + 1) (run P (n + 1) 0) with e | e
          · exact run_in P (n + 1) 0 (j + 1) (Nat.zero_le _) e
          · rw [show j + 1 = run P (n + 1) 0 by omega]; exact hP
        have h1 := hc j hPj
        have h2 := ih (by omega)
        omega
    have h1 := hj (n + 1) (Nat.le_refl _)
    have h2 := hn (n + 1)
    omega
  · exact h hP
theorem le_of0 {x : Int32} (h : x = 0) : x ≤ 0 := by rw [h]; exact Int32.le_refl _
/-- a token that isn't the end: the cursor has moved -/
theorem goes_gt {B : AF} {n : Nat} {p : PT} (h0 : (goesS B n p).2.2.2.2.2.1 ≤ 0) (h : ¬ (goesS B n p).2.2.2.1 = 1) : p.2.1 < (goesS B n p).2.1 := by
  have h1 := goes_le h0
  rw [goes_0 h1] at h ⊢
  exact Nat.lt_of_le_of_lt (spN_ge B n p) (tok_gt h)
theorem cl_ok {B : AF} {n : Nat} {q : Int32 × PT} (h : pOK n q.2) : ∀ k, pOK n (cqU B n q k).2
  | 0 => h
  | k + 1 => cr_ok (cl_ok h k)
theorem cl_1 (B : AF) (n : Nat) (q : Int32 × PT) : ∀ k, (cqU B n q k).2.1 = q.2.1
  | 0 => rfl
  | k + 1 => (cr_1 _ _ _ _).trans (cl_1 B n q k)
theorem cqU_2 (B : AF) (n : Nat) (q : Int32 × PT) (k : Nat) : (cqU B n q (k + 1)).2 = crS B n (cqU B n q k).1 (cqU B n q k).2 := by rw [cqU_s]
theorem cl_c (B : AF) (n : Nat) (q : Int32 × PT) : ∀ k, q.2.2.1 ≤ (cqU B n q k).2.2.1
  | 0 => Nat.le_refl _
  | k + 1 => by
    rw [cqU_2]
    exact Nat.le_trans (cl_c B n q k) (cr_c _ _ _ _)
theorem cl_le {B : AF} {n : Nat} {q : Int32 × PT} : ∀ {k : Nat}, (cqU B n q k).2.2.2.2.2.2.1 ≤ 0 → q.2.2.2.2.2.2.1 ≤ 0 := by
  intro k
  induction k with
  | zero => exact id
  | succ k ih =>
    intro h
    rw [cqU_2] at h
    exact ih (cr_le h)
theorem cl_in {B : AF} {n k : Nat} {q : Int32 × PT} (h : k < cqK B n q) : isP 3 (cqU B n q k).2 := run_in (fun k => isP 3 (cqU B n q k).2) (n + 1) 0 k (Nat.zero_le _) h
theorem cl_out {B : AF} {n : Nat} {q : Int32 × PT} (h : pOK n q.2) : ¬ isP 3 (cqU B n q (cqK B n q)).2 := by
  refine run_end (u := fun k => (cqU B n q k).2) (fun k => isP 3 (cqU B n q k).2) (fun k hk => ?_) (fun k => (cl_ok h k).1)
  rw [cqU_s] at hk ⊢
  show (cqU B n q k).2.2.1 < (crS B n (cqU B n q k).1 (cqU B n q k).2).2.1
  have hk : isP 3 (crS B n (cqU B n q k).1 (cqU B n q k).2) := hk
  unfold crS at hk ⊢
  have h1 := goes_gt (le_of0 hk.1) (by rw [hk.2]; decide)
  rw [crH_c] at h1
  exact h1
theorem fg5_1 (B : AF) (n : Nat) (p : PT) : (fg5 B n p).2.1 = p.1 := by rw [fg5, cl_1]; show (crS B n 0 (fg4 B n p)).1 = _; rw [cr_1, fg4, nu_1, fg3, nu_1, fg2, nu_1, fg1, bg_1]
theorem fg4_ok {B : AF} {n : Nat} {p : PT} (h : pOK n p) : pOK n (fg4 B n p) := by
  unfold fg4 fg3 fg2 fg1
  exact nu_ok (nu_ok (nu_ok (bg_ok h)))
theorem fg0_2 (B : AF) (n : Nat) (p : PT) : (fg0 B n p).2 = crS B n 0 (fg4 B n p) := by simp only [fg0]
theorem fg0_ok {B : AF} {n : Nat} {p : PT} (h : pOK n p) : pOK n (fg0 B n p).2 := by
  have h1 : pOK n (crS B n 0 (fg4 B n p)) := cr_ok (fg4_ok h)
  rw [fg0_2]
  exact h1
theorem fg5_ok {B : AF} {n : Nat} {p : PT} (h : pOK n p) : pOK n (fg5 B n p).2 := by
  unfold fg5
  exact cl_ok (fg0_ok h) _
theorem fg5_ne {B : AF} {n : Nat} {p : PT} (h : (fg5 B n p).2.2.2.2.2.2.1 ≤ 0) : ¬ p.1 10 = 12 := by
  unfold fg5 at h
  have h1 := cl_le h
  rw [fg0_2] at h1
  have h2 := cr_le h1
  unfold fg4 fg3 fg2 fg1 at h2
  exact bg_ne (nu_le (nu_le (nu_le h2)))
theorem fg_ok {B : AF} {n : Nat} {p : PT} (h : pOK n p) : pOK n (fgS B n p) := by
  have h5 := fg5_ok (B := B) h
  unfold fgS
  split
  · rename_i h9
    refine pN_ok h5 (wfc_add h5.2.2.2 (nF_12 h5.2.2.2 ?_) _ _ _ _).1
    rw [fg5_1]
    exact fg5_ne (le_of0 h9)
  · exact h5
theorem cts_wash (N : AF) (t h : Int32) : cts (washN N t h) N := (cts_up _ _ _ (by omega)).tr (hdr_wsh N t _ h _).cts
theorem pu1_ok {B : AF} {n : Nat} {p : PT} (h : pOK n p) : pOK n (pu1 B n p) := nu_ok (goes_ok h)
theorem pu3_ok {B : AF} {n : Nat} {p : PT} (h : pOK n p) : pOK n (pu3 B n p) := by
  unfold pu3
  split
  · exact flt_ok (by decide) (nh_ok (pu1_ok h))
  · exact nh_ok (pu1_ok h)
theorem pu_ok {B : AF} {n : Nat} {p : PT} (h : pOK n p) : pOK n (puS B n p) := by
  have h3 := pu3_ok (B := B) h
  unfold puS
  apply goes_ok
  split
  · exact pN_ok h3 ((cts_putIn _ _ _).wf h3.2.2.2)
  · exact h3
theorem wa3_ok {B : AF} {n : Nat} {p : PT} (h : pOK n p) : pOK n (wa_3 B n p) := by
  unfold wa_3
  split
  · exact flt_ok (by decide) (nh_ok (nu_ok (goes_ok h)))
  · exact nh_ok (nu_ok (goes_ok h))
theorem wa_ok {B : AF} {n : Nat} {p : PT} (h : pOK n p) : pOK n (waS B n p) := by
  have h3 := wa3_ok (B := B) h
  unfold waS
  split
  · exact goes_ok (pN_ok h3 ((cts_wash _ _ _).wf h3.2.2.2))
  · exact h3
theorem ha2_ok {B : AF} {n : Nat} {p : PT} (h : pOK n p) : pOK n (ha2 B n p) := by
  unfold ha2
  split
  · exact flt_ok (by decide) (nh_ok (goes_ok h))
  · exact nh_ok (goes_ok h)
theorem ha_ok {B : AF} {n : Nat} {p : PT} (h : pOK n p) : pOK n (haS B n p) := by
  have h3 := ha2_ok (B := B) h
  unfold haS
  apply goes_ok
  split
  · exact pN_ok h3 ((hdr_goTo _ _ _ _).wf h3.2.2.2)
  · exact h3
theorem wi_ok {B : AF} {n : Nat} {p : PT} (h : pOK n p) : pOK n (wiS B n p) := by
  have h3 : pOK n (nuS B n 0 9 (goesS B n p)) := nu_ok (goes_ok h)
  unfold wiS
  split
  · exact pN_ok h3 ((cts_up _ _ _ (by omega)).wf h3.2.2.2)
  · exact h3
theorem pa_ok {B : AF} {n : Nat} {p : PT} (h : pOK n p) : pOK n (paS B n p) := by
  have h3 : pOK n (nuS B n 1 50 (goesS B n p)) := nu_ok (goes_ok h)
  unfold paS
  split
  · exact pN_ok h3 ((cts_it _ _).wf h3.2.2.2)
  · exact h3
theorem de_ok {B : AF} {n : Nat} {p : PT} (h : pOK n p) : pOK n (deS B n p) := by
  unfold deS
  split; exact pu_ok h
  split; exact wa_ok h
  split; exact ha_ok h
  split; exact wi_ok h
  split; exact pa_ok h
  exact flt_ok (by decide) h
theorem th_ok {B : AF} {n : Nat} {p : PT} (h : pOK n p) : pOK n (thS B n p) := by
  unfold thS
  split; exact co_ok h
  split; exact na_ok h
  split; exact tu_ok h
  split; exact fg_ok h
  exact de_ok h
theorem ok_c (N : AF) (p : PT) : (okS N p).2.1 = p.2.1 := by rw [ok_1]
theorem co_c (B : AF) (n : Nat) (p : PT) : p.2.1 ≤ (coS B n p).2.1 := by
  unfold coS
  rw [ok_c]
  exact Nat.le_trans (bg_c B n 6 6 p) (nu_c _ _ _ _ _)
theorem tu_c (B : AF) (n : Nat) (p : PT) : p.2.1 ≤ (tuS B n p).2.1 := by
  unfold tuS
  rw [ok_c]
  exact Nat.le_trans (bg_c B n 8 3 p) (nu_c _ _ _ _ _)
theorem na_c (B : AF) (n : Nat) (p : PT) : p.2.1 ≤ (naS B n p).2.1 := by
  unfold naS
  rw [ok_c]
  unfold na4 na3 na2 na1
  exact Nat.le_trans (Nat.le_trans (Nat.le_trans (bg_c B n 7 4 p) (nu_c _ _ _ _ _)) (nu_c _ _ _ _ _)) (nu_c _ _ _ _ _)
theorem fg_c (B : AF) (n : Nat) (p : PT) : p.2.1 ≤ (fgS B n p).2.1 := by
  have h4 : p.2.1 ≤ (fg4 B n p).2.1 := by
    unfold fg4 fg3 fg2 fg1
    exact Nat.le_trans (Nat.le_trans (Nat.le_trans (bg_c B n 10 12 p) (nu_c _ _ _ _ _)) (nu_c _ _ _ _ _)) (nu_c _ _ _ _ _)
  have h5 : p.2.1 ≤ (fg5 B n p).2.2.1 := by
    unfold fg5
    refine Nat.le_trans h4 (Nat.le_trans ?_ (cl_c _ _ _ _))
    rw [fg0_2]
    exact cr_c B n 0 (fg4 B n p)
  unfold fgS
  split
  · rw [pN_2]; exact h5
  · exact h5
theorem pu_c (B : AF) (n : Nat) (p : PT) : p.2.1 ≤ (puS B n p).2.1 := by
  have h1 : p.2.1 ≤ (pu3 B n p).2.1 := by
    have h2 : p.2.1 ≤ (pu2 B n p).2.1 := by
      unfold pu2
      rw [nh_c]
      unfold pu1
      exact Nat.le_trans (goes_c B n p) (nu_c _ _ _ _ _)
    unfold pu3
    split
    · rw [flt_c]; exact h2
    · exact h2
  unfold puS
  refine Nat.le_trans h1 (Nat.le_trans ?_ (goes_c _ _ _))
  split
  · rw [pN_2]; exact Nat.le_refl _
  · exact Nat.le_refl _
theorem wa_c (B : AF) (n : Nat) (p : PT) : p.2.1 ≤ (waS B n p).2.1 := by
  have h1 : p.2.1 ≤ (wa_3 B n p).2.1 := by
    have h2 : p.2.1 ≤ (wa_2 B n p).2.1 := by
      unfold wa_2
      rw [nh_c]
      unfold wa_1
      exact Nat.le_trans (goes_c B n p) (nu_c _ _ _ _ _)
    unfold wa_3
    split
    · rw [flt_c]; exact h2
    · exact h2
  unfold waS
  split
  · refine Nat.le_trans h1 (Nat.le_trans ?_ (goes_c _ _ _))
    rw [pN_2]; exact Nat.le_refl _
  · exact h1
theorem ha_c (B : AF) (n : Nat) (p : PT) : p.2.1 ≤ (haS B n p).2.1 := by
  have h1 : p.2.1 ≤ (ha2 B n p).2.1 := by
    have h2 : p.2.1 ≤ (ha1 B n p).2.1 := by
      unfold ha1
      rw [nh_c]
      exact goes_c B n p
    unfold ha2
    split
    · rw [flt_c]; exact h2
    · exact h2
  unfold haS
  refine Nat.le_trans h1 (Nat.le_trans ?_ (goes_c _ _ _))
  split
  · rw [pN_2]; exact Nat.le_refl _
  · exact Nat.le_refl _
theorem wi_c (B : AF) (n : Nat) (p : PT) : p.2.1 ≤ (wiS B n p).2.1 := by
  have h2 : p.2.1 ≤ (nuS B n 0 9 (goesS B n p)).2.1 := Nat.le_trans (goes_c B n p) (nu_c _ _ _ _ _)
  unfold wiS
  split
  · rw [pN_2]; exact h2
  · exact h2
theorem pa_c (B : AF) (n : Nat) (p : PT) : p.2.1 ≤ (paS B n p).2.1 := by
  have h2 : p.2.1 ≤ (nuS B n 1 50 (goesS B n p)).2.1 := Nat.le_trans (goes_c B n p) (nu_c _ _ _ _ _)
  unfold paS
  split
  · rw [pN_2]; exact h2
  · exact h2
theorem de_c (B : AF) (n : Nat) (p : PT) : p.2.1 ≤ (deS B n p).2.1 := by
  unfold deS
  split; exact pu_c _ _ _
  split; exact wa_c _ _ _
  split; exact ha_c _ _ _
  split; exact wi_c _ _ _
  split; exact pa_c _ _ _
  rw [flt_c]; exact Nat.le_refl _
theorem th_c (B : AF) (n : Nat) (p : PT) : p.2.1 ≤ (thS B n p).2.1 := by
  unfold thS
  split; exact co_c _ _ _
  split; exact na_c _ _ _
  split; exact tu_c _ _ _
  split; exact fg_c _ _ _
  exact de_c _ _ _
/-- a line without a fault begins with a word -/
theorem th_w {B : AF} {n : Nat} {p : PT} (h : (thS B n p).2.2.2.2.2.1 ≤ 0) : isP 2 p := by
  by_cases c : isP 2 p
  · exact c
  · exfalso
    have hw : ∀ w, ¬ wordP B w p := fun w h9 => c h9.1
    unfold thS at h
    rw [if_neg (hw _), if_neg (hw _), if_neg (hw _), if_neg (hw _)] at h
    unfold deS at h
    rw [if_neg (hw _), if_neg (hw _), if_neg (hw _), if_neg (hw _), if_neg (hw _)] at h
    exact flt_gt (by decide) _ h
theorem li_ok {B : AF} {n : Nat} {p : PT} (h : pOK n p) : ∀ k, pOK n (liU B n p k)
  | 0 => h
  | k + 1 => th_ok (goes_ok (li_ok h k))
theorem li_in {B : AF} {n k : Nat} {p : PT} (h : k < liK B n p) : isP 4 (liU B n p k) := run_in (fun k => isP 4 (liU B n p k)) (n + 1) 0 k (Nat.zero_le _) h
theorem li_out {B : AF} {n : Nat} {p : PT} (h : pOK n p) : ¬ isP 4 (liU B n p (liK B n p)) := by
  refine run_end (u := fun k => liU B n p k) (fun k => isP 4 (liU B n p k)) (fun k hk => ?_) (fun k => (li_ok h k).1)
  have hk : isP 4 (thS B n (goesS B n (liU B n p k))) := hk
  have h1 := th_w (le_of0 hk.1)
  have h2 := goes_gt (le_of0 h1.1) (by rw [h1.2]; decide)
  exact Nat.lt_of_lt_of_le h2 (th_c _ _ _)
