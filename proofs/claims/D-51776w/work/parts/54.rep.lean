/-! THE COMPONENT 2: interface calls by arity; the world in the heap -/
section ARows2
variable {l : Launch} {g : GC} {mi : MI} {d b : Nat} {Q : Option Value → AH → Prop} {X : String → Nat → AH → Prop} {pc : Nat} {L : List (Nat × Value)} {st : List Value} {σ : AH}
theorem A_callF0E {ci : Nat} {x : MethodName} {mi' : MI} {d' k' b' : Nat} {bR : Nat} {fs : List Value} {r9 : vw_C}  {v : Option Value} {τ : AH} (hM : AMet l g mi' d' k' (.ref bR :: []) σ (A_eq v τ) A_no) (hm : A_MF r9.1 x mi' 0) {ix cnt : Nat} (hq : Cond.methodLink mi.1.cls ix x ∈ lw_all) (hO : σ.1 bR = some (.inr (.inl (ci, fs)))) (hcl : vwCl[ci]? = some r9) (hd : decode mi.2.1 pc = .ok (.invokeinterface ix cnt, 5)) (hdp : d' + 1 ≤ d) (hk : k' + b' ≤ b) (hw : (st.map fun v => v.category).sum ≤ 8) (kk : AW l g mi d b' Q X (pc + 5) L (v.toList ++ st) τ) : AW l g mi d b Q X pc L (.ref bR :: st) σ :=
  A_callF (As := []) hM hm hq hO hcl hd rfl hdp hk hw (fun w τ' h => by obtain ⟨e1, e2⟩ := h; subst e1; subst e2; exact kk) (fun E q τ' h => h.elim)
theorem A_callF1E {ci : Nat} {x : MethodName} {mi' : MI} {d' k' b' : Nat} {bR : Nat} {fs : List Value} {r9 : vw_C} {a1 : Value} {v : Option Value} {τ : AH} (hM : AMet l g mi' d' k' (.ref bR :: [a1]) σ (A_eq v τ) A_no) (hm : A_MF r9.1 x mi' 1) {ix cnt : Nat} (hq : Cond.methodLink mi.1.cls ix x ∈ lw_all) (hO : σ.1 bR = some (.inr (.inl (ci, fs)))) (hcl : vwCl[ci]? = some r9) (hd : decode mi.2.1 pc = .ok (.invokeinterface ix cnt, 5)) (hdp : d' + 1 ≤ d) (hk : k' + b' ≤ b) (hw : (st.map fun v => v.category).sum ≤ 8) (kk : AW l g mi d b' Q X (pc + 5) L (v.toList ++ st) τ) : AW l g mi d b Q X pc L (a1 :: .ref bR :: st) σ :=
  A_callF (As := [a1]) hM hm hq hO hcl hd rfl hdp hk hw (fun w τ' h => by obtain ⟨e1, e2⟩ := h; subst e1; subst e2; exact kk) (fun E q τ' h => h.elim)
end ARows2
theorem tF_size : A_MF "java/util/ArrayList" ⟨"java/util/List", "size", "()I"⟩ mJ20_size 0 := ⟨⟨q972, q974, q161, q976⟩, rfl, ⟨by decide +kernel, by decide +kernel, by decide +kernel⟩, by decide, q970, q969, q975, q973, q971⟩
theorem tF_get : A_MF "java/util/ArrayList" ⟨"java/util/List", "get", "(I)Ljava/lang/Object;"⟩ mJ20_get 1 := ⟨⟨q1161, q1163, q161, q1165⟩, rfl, ⟨by decide +kernel, by decide +kernel, by decide +kernel⟩, by decide, q1160, q1159, q1164, q1162, q971⟩
theorem tF_add : A_MF "java/util/ArrayList" ⟨"java/util/List", "add", "(Ljava/lang/Object;)Z"⟩ mJ20_add 1 := ⟨⟨q1010, q1012, q161, q1014⟩, rfl, ⟨by decide +kernel, by decide +kernel, by decide +kernel⟩, by decide, q1009, q1008, q1013, q1011, q971⟩
theorem tF_iterator : A_MF "java/util/ArrayList" ⟨"java/util/List", "iterator", "()Ljava/util/Iterator;"⟩ mJ20_iterator 0 := ⟨⟨q1571, q1573, q161, q1575⟩, rfl, ⟨by decide +kernel, by decide +kernel, by decide +kernel⟩, by decide, q1570, q1569, q1574, q1572, q971⟩
theorem tF_hasNext : A_MF "java/util/ArrayList$Itr" ⟨"java/util/Iterator", "hasNext", "()Z"⟩ mJ23_hasNext 0 := ⟨⟨q1600, q1602, q170, q1604⟩, rfl, ⟨by decide +kernel, by decide +kernel, by decide +kernel⟩, by decide, q1598, q1597, q1603, q1601, q1599⟩
theorem tF_next : A_MF "java/util/ArrayList$Itr" ⟨"java/util/Iterator", "next", "()Ljava/lang/Object;"⟩ mJ23_next 0 := ⟨⟨q1609, q1611, q170, q1613⟩, rfl, ⟨by decide +kernel, by decide +kernel, by decide +kernel⟩, by decide, q1608, q1607, q1612, q1610, q1599⟩
/-- where a world's cells lie: the world, runs, room, nations and their array, flags and theirs, the tests; each flag, each nation, each flag's place -/
abbrev WA : Type := Nat × Nat × Nat × Nat × Nat × Nat × Nat × Nat × (Nat → Nat) × (Nat → Nat) × (Nat → Nat)
def wW (W : WA) : Nat := W.1
def wR (W : WA) : Nat := W.2.1
def wM (W : WA) : Nat := W.2.2.1
def wNL (W : WA) : Nat := W.2.2.2.1
def wNA (W : WA) : Nat := W.2.2.2.2.1
def wFL (W : WA) : Nat := W.2.2.2.2.2.1
def wFA (W : WA) : Nat := W.2.2.2.2.2.2.1
def wUN (W : WA) : Nat := W.2.2.2.2.2.2.2.1
def wF (W : WA) : Nat → Nat := W.2.2.2.2.2.2.2.2.1
def wN (W : WA) : Nat → Nat := W.2.2.2.2.2.2.2.2.2.1
def wP (W : WA) : Nat → Nat := W.2.2.2.2.2.2.2.2.2.2
abbrev wldC (W : WA) (N : AF) : AE := .inr (.inl (4, [.int (N 9), .ref (wR W), .ref (wM W), .ref (wNL W), .ref (wFL W), .ref (wUN W), .int (N 6), .int (N 8), .int (N 0), .int (N 1), .int (N 2), .int (N 3), .int (N 4), .int (N 5), .int (N 11)]))
abbrev lstC (mc : Int32) (e n : Nat) : AE := .inr (.inl (14, [.int mc, .ref e, .int (nI n)]))
abbrev objA (K : String) (n : Nat) (f : Nat → Option Nat) : AE := .inl (.object K, n, .inr (.inr (.inr (.inr f))))
abbrev intA (n : Nat) (f : Nat → Int32) : AE := .inl (.int, n, .inl f)
abbrev flgC (F : Nat → Int32) (p : Nat) : AE := .inr (.inl (6, [.int (F 0), .int (F 1), .int (F 2), .int (F 3), .int (F 4), .int (F 5), .int (F 6), .int (F 7), .ref p]))
abbrev natC (d f n h : Int32) : AE := .inr (.inl (5, [.int d, .int f, .int n, .int h]))
def HD (N : AF) (n : Nat) (h : Int32) : Prop := (na N n 3 = 0 ∧ h = -1) ∨ (na N n 3 = 1 ∧ ¬ h = -1 ∧ na N n 4 = mx 0 (h - na N n 0))
/-- the world at W holds N -/
def RW (g : GC) (σ : AH) (W : WA) (N : AF) : Prop :=
  σ.1 (wW W) = some (wldC W N) ∧
  (∃ f, σ.1 (wR W) = some (intA 6 f) ∧ ∀ c, c < nC N → f c = N (12 + c)) ∧
  (∃ f, σ.1 (wM W) = some (intA 3 f) ∧ ∀ t, t < nT N → f t = N (38 + t)) ∧
  (∃ mc f, σ.1 (wNL W) = some (lstC mc (wNA W) (nN N)) ∧ σ.1 (wNA W) = some (objA "java/lang/Object" 4 f) ∧ ∀ n, n < nN N → f n = some (wN W n)) ∧
  (∃ mc f, σ.1 (wFL W) = some (lstC mc (wFA W) (nF N)) ∧ σ.1 (wFA W) = some (objA "java/lang/Object" 12 f) ∧ ∀ n, n < nF N → f n = some (wF W n)) ∧
  (∃ f, σ.1 (wUN W) = some (objA "FlagLaundry$Test" 7 f) ∧ ∀ k, k < 7 → ∃ a, f k = some a ∧ lamC g k a) ∧
  (∀ f, f < nF N → σ.1 (wF W f) = some (flgC (fl N f) (wP W f))) ∧
  (∀ f, f < nF N → σ.1 (wP W f) = some (.inr (.inl (plc (fl N f 8) (fl N f 9) (fl N f 10))))) ∧
  (∀ n, n < nN N → ∃ h, σ.1 (wN W n) = some (natC (na N n 0) (na N n 1) (na N n 2) h) ∧ HD N n h) ∧
  (∀ i j, i < nF N → j < nF N → wF W i = wF W j → i = j) ∧ (∀ i j, i < nN N → j < nN N → wN W i = wN W j → i = j)
theorem RW.ext {g : GC} {σ τ : AH} {W : WA} {N : AF} (h : RW g σ W N) (w : wfh σ) (e : ext σ τ) : RW g τ W N := by
  obtain ⟨h1, ⟨f2, h2, h2'⟩, ⟨f3, h3, h3'⟩, ⟨m4, f4, h4, h4', h4''⟩, ⟨m5, f5, h5, h5', h5''⟩, ⟨f6, h6, h6'⟩, h7, h8, h9, h10⟩ := h
  refine ⟨e.at w h1, ⟨f2, e.at w h2, h2'⟩, ⟨f3, e.at w h3, h3'⟩, ⟨m4, f4, e.at w h4, e.at w h4', h4''⟩, ⟨m5, f5, e.at w h5, e.at w h5', h5''⟩, ⟨f6, e.at w h6, h6'⟩, fun f hf => e.at w (h7 f hf), fun f hf => e.at w (h8 f hf), fun n hn => ?_, h10⟩
  obtain ⟨h, k1, k2⟩ := h9 n hn
  exact ⟨h, e.at w k1, k2⟩
/-- the answer v, the heap has but grown -/
def A_ext (v : Option Value) (σ : AH) : Option Value → AH → Prop := fun w τ => w = v ∧ ext σ τ
