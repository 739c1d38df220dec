/-! THE LAW 2: what FlagLaundry and the model have in common -/
/-- orders: those in tubs have all been given, none twice -/
def ORD (hb : Nat) (N : AF) : Prop := ∃ c, c ≤ hb ∧ N 11 = nI c ∧ (∀ f, f < nF N → fl N f 8 = 1 → ∃ k, k < c ∧ fl N f 10 = nI k) ∧ ∀ f f', f < nF N → f' < nF N → fl N f 8 = 1 → fl N f' 8 = 1 → fl N f 10 = fl N f' 10 → f = f'
def NK (hb : Nat) (N : AF) : Prop := WN N hb ∧ ORD hb N
theorem ORD.le {a b : Nat} {N : AF} (h : ORD a N) (k : a ≤ b) : ORD b N := by
  obtain ⟨c, h1, h2⟩ := h
  exact ⟨c, Nat.le_trans h1 k, h2⟩
theorem NK.le {a b : Nat} {N : AF} (h : NK a N) (k : a ≤ b) : NK b N := ⟨h.1.le k, h.2.le k⟩
theorem ORD.cg {hb : Nat} {N N' : AF} (h : ORD hb N) (h8 : WFc N) (k : ∀ j, j < 173 → N' j = N j) : ORD hb N' := by
  obtain ⟨c, h1, h2, h3, h4⟩ := h
  have e : nF N' = nF N := by unfold nF; rw [k 10 (by decide)]
  have hF := h8.2.2.2.2.2
  have f9 : ∀ f j, f < nF N → j < 11 → fl N' f j = fl N f j := fun f j hf hj => k _ (by omega)
  refine ⟨c, h1, (k 11 (by decide)).trans h2, fun f hf h => ?_, fun f f' hf hf' a b q => ?_⟩
  · rw [e] at hf
    rw [f9 f 10 hf (by decide)]
    exact h3 f hf (by rw [← f9 f 8 hf (by decide)]; exact h)
  · rw [e] at hf hf'
    exact h4 f f' hf hf' (by rw [← f9 f 8 hf (by decide)]; exact a) (by rw [← f9 f' 8 hf' (by decide)]; exact b) (by rw [← f9 f 10 hf (by decide), ← f9 f' 10 hf' (by decide)]; exact q)
theorem NK.cg {hb : Nat} {N N' : AF} (h : NK hb N) (k : ∀ j, j < 173 → N' j = N j) : NK hb N' := ⟨h.1.cg k, h.2.cg h.1.1.1 k⟩
/-- the fields of the model that FlagLaundry has too -/
abbrev kM (ms : MM) : Int32 × Int32 × Int32 × Int32 × AF × Int32 × AF × AF × AF × AF × Int32 × AF := (m_bd ms, m_pc ms, m_pa ms, m_is ms, m_now ms, m_um ms, m_und ms, m_isv ms, m_sav ms, m_buf ms, m_ps ms, m_pag ms)
abbrev KM : Type := Int32 × Int32 × Int32 × Int32 × AF × Int32 × AF × AF × AF × AF × Int32 × AF
/-- the world now -/
def CPw (g : GC) (σ : AH) (is : Int32) (N : AF) (nv : Value) (W : WA) : Prop := (is = 0 ∧ nv = .null) ∨ (¬ is = 0 ∧ nv = .ref (wW W) ∧ RW g σ W N)
/-- the past -/
def CPu (g : GC) (σ : AH) (hb : Nat) (is um : Int32) (und : AF) (dq da hq u : Nat) (e : Nat → Nat) (Ws : Nat → WA) : Prop := um = nI u ∧ u ≤ 8 ∧ DQ σ dq da hq u e ∧ (0 < u → ¬ is = 0) ∧ ∀ i, i < u → e i = wW (Ws i) ∧ RW g σ (Ws i) (wld und i) ∧ NK hb (wld und i)
/-- what was saved -/
def CPs (g : GC) (σ : AH) (hb : Nat) (is : Int32) (isv sav : AF) (sv : Nat) (fs : Nat → Option Nat) (Vs : Nat → WA) : Prop := σ.1 sv = some (objA "FlagLaundry$World" 2 fs) ∧ ∀ s, s < 2 → (isv s = 0 ∧ fs s = none) ∨ (¬ isv s = 0 ∧ ¬ is = 0 ∧ fs s = some (wW (Vs s)) ∧ RW g σ (Vs s) (wld sav s) ∧ NK hb (wld sav s))
/-- the page -/
def CPp (σ : AH) (ps : Int32) (pag : AF) (ou sa cap : Nat) (ml : Int32) (f : AF) (lp : List Int32) : Prop := SBd σ ou sa cap ml f lp ∧ lp.length ≤ 60 ∧ ps = nI lp.length ∧ ∀ q, q < lp.length → pag q = lp.getD q 0
/-- where FlagLaundry's own things lie: off the model's and the law's -/
def CPa (b9 x bf dq da sv ou sa : Nat) : Prop := x < b9 ∧ bf < b9 ∧ dq < b9 ∧ da < b9 ∧ sv < b9 ∧ ou < b9 ∧ (sa < b9 ∨ b9 + 11 ≤ sa)
/-- FlagLaundry stands as the model's fields say -/
def CPx (g : GC) (σ : AH) (x b9 hb k9 : Nat) (z : KM) (bf dq da sv ou hq u sa cap : Nat) (ml : Int32) (e : Nat → Nat) (fs : Nat → Option Nat) (nv : Value) (W : WA) (Ws Vs : Nat → WA) (f : AF) (lp : List Int32) : Prop :=
  CPa b9 x bf dq da sv ou sa ∧ σ.1 x = some (lauC bf z.1 z.2.1 z.2.2.1 nv dq sv ou) ∧ (z.1 = nI k9 ∧ k9 ≤ 500) ∧ σ.1 bf = some (bytA 500 z.2.2.2.2.2.2.2.2.2.1) ∧ byt z.2.2.2.2.2.2.2.2.2.1 ∧ CPw g σ z.2.2.2.1 z.2.2.2.2.1 nv W ∧ NK hb z.2.2.2.2.1 ∧ CPu g σ hb z.2.2.2.1 z.2.2.2.2.2.1 z.2.2.2.2.2.2.1 dq da hq u e Ws ∧ CPs g σ hb z.2.2.2.1 z.2.2.2.2.2.2.2.1 z.2.2.2.2.2.2.2.2.1 sv fs Vs ∧ CPp σ z.2.2.2.2.2.2.2.2.2.2.1 z.2.2.2.2.2.2.2.2.2.2.2 ou sa cap ml f lp
def CP (g : GC) (σ : AH) (x b9 hb : Nat) (z : KM) : Prop := ∃ k9 bf dq da sv ou hq u sa cap ml e fs nv W Ws Vs f lp, CPx g σ x b9 hb k9 z bf dq da sv ou hq u sa cap ml e fs nv W Ws Vs f lp
/-- off the model's and the law's cells all is kept -/
def kO (b9 : Nat) (σ τ : AH) : Prop := σ.2 ≤ τ.2 ∧ ∀ a e, σ.1 a = some e → (a < b9 ∨ b9 + 11 ≤ a) → τ.1 a = some e
theorem CPx.fr {g : GC} {σ τ : AH} {x b9 hb k9 : Nat} {z : KM} {bf dq da sv ou hq u sa cap : Nat} {ml : Int32} {e : Nat → Nat} {fs : Nat → Option Nat} {nv : Value} {W : WA} {Ws Vs : Nat → WA} {f : AF} {lp : List Int32} (h : CPx g σ x b9 hb k9 z bf dq da sv ou hq u sa cap ml e fs nv W Ws Vs f lp) (k : kO b9 σ τ) (n : nw σ τ) : CPx g τ x b9 hb k9 z bf dq da sv ou hq u sa cap ml e fs nv W Ws Vs f lp := by
  obtain ⟨⟨a1, a2, a3, a4, a5, a6, a7⟩, h1, h2, h3, h4, h5, h6, ⟨u1, u2, ⟨d1, d2, d3, fd, d4, d5⟩, u4, u5⟩, ⟨s1, s2⟩, ⟨p1, p2, p3⟩, p4, p5⟩ := h
  refine ⟨⟨a1, a2, a3, a4, a5, a6, a7⟩, k.2 _ _ h1 (Or.inl a1), h2, k.2 _ _ h3 (Or.inl a2), h4, ?_, h6, ⟨u1, u2, ⟨d1, d2, k.2 _ _ d3 (Or.inl a3), fd, k.2 _ _ d4 (Or.inl a4), d5⟩, u4, fun i hi => ?_⟩, ⟨k.2 _ _ s1 (Or.inl a5), fun s hs => ?_⟩, ⟨k.2 _ _ p1 (Or.inl a6), k.2 _ _ p2 a7, p3⟩, p4, p5⟩
  · rcases h5 with h | ⟨q1, q2, q3⟩
    · exact Or.inl h
    · exact Or.inr ⟨q1, q2, q3.nw n⟩
  · obtain ⟨q1, q2, q3⟩ := u5 i hi
    exact ⟨q1, q2.nw n, q3⟩
  · rcases s2 s hs with q | ⟨q1, q2, q3, q4, q5⟩
    · exact Or.inl q
    · exact Or.inr ⟨q1, q2, q3, q4.nw n, q5⟩
theorem CP.fr {g : GC} {σ τ : AH} {x b9 hb : Nat} {z : KM} (h : CP g σ x b9 hb z) (k : kO b9 σ τ) (n : nw σ τ) : CP g τ x b9 hb z := by
  obtain ⟨k9, bf, dq, da, sv, ou, hq, u, sa, cap, ml, e, fs, nv, W, Ws, Vs, f, lp, h⟩ := h
  exact ⟨k9, bf, dq, da, sv, ou, hq, u, sa, cap, ml, e, fs, nv, W, Ws, Vs, f, lp, h.fr k n⟩
theorem CPu.le {g : GC} {σ : AH} {a b : Nat} {is um : Int32} {und : AF} {dq da hq u : Nat} {e : Nat → Nat} {Ws : Nat → WA} (h : CPu g σ a is um und dq da hq u e Ws) (k : a ≤ b) : CPu g σ b is um und dq da hq u e Ws := ⟨h.1, h.2.1, h.2.2.1, h.2.2.2.1, fun i hi => ⟨(h.2.2.2.2 i hi).1, (h.2.2.2.2 i hi).2.1, (h.2.2.2.2 i hi).2.2.le k⟩⟩
theorem CPs.le {g : GC} {σ : AH} {a b : Nat} {is : Int32} {isv sav : AF} {sv : Nat} {fs : Nat → Option Nat} {Vs : Nat → WA} (h : CPs g σ a is isv sav sv fs Vs) (k : a ≤ b) : CPs g σ b is isv sav sv fs Vs := ⟨h.1, fun s hs => by
  rcases h.2 s hs with q | ⟨q1, q2, q3, q4, q5⟩
  · exact Or.inl q
  · exact Or.inr ⟨q1, q2, q3, q4, q5.le k⟩⟩
theorem CP.le {g : GC} {σ : AH} {x b9 a b : Nat} {z : KM} (h : CP g σ x b9 a z) (k : a ≤ b) : CP g σ x b9 b z := by
  obtain ⟨k9, bf, dq, da, sv, ou, hq, u, sa, cap, ml, e, fs, nv, W, Ws, Vs, f, lp, h1, h2, h3, h4, h5, h6, h7, h8, h9, h10⟩ := h
  exact ⟨k9, bf, dq, da, sv, ou, hq, u, sa, cap, ml, e, fs, nv, W, Ws, Vs, f, lp, h1, h2, h3, h4, h5, h6, h7.le k, h8.le k, h9.le k, h10⟩
/-- the model's cells and the law's two arrays -/
def LC (σ : AH) (b9 : Nat) (ms : MM) (oa : Nat → Int64) (oD : Nat → UInt64) : Prop := mc b9 ms σ = σ ∧ σ.1 (b9 + 9) = some (.inl (.long, 1, .inr (.inl oa))) ∧ σ.1 (b9 + 10) = some (.inl (.double, 1, .inr (.inr (.inr (.inl oD))))) ∧ b9 + 11 ≤ σ.2
theorem mc_in {b9 : Nat} {ms : MM} {σ τ : AH} {a : Nat} (h1 : b9 ≤ a) (h2 : a < b9 + 9) : (mc b9 ms σ).1 a = (mc b9 ms τ).1 a := by
  have e : a = b9 ∨ a = b9 + 1 ∨ a = b9 + 2 ∨ a = b9 + 3 ∨ a = b9 + 4 ∨ a = b9 + 5 ∨ a = b9 + 6 ∨ a = b9 + 7 ∨ a = b9 + 8 := by omega
  rcases e with e | e | e | e | e | e | e | e | e <;> subst e
  · rw [mc_0, mc_0]
  · rw [mc_1, mc_1]
  · rw [mc_2, mc_2]
  · rw [mc_3, mc_3]
  · rw [mc_4, mc_4]
  · rw [mc_5, mc_5]
  · rw [mc_6, mc_6]
  · rw [mc_7, mc_7]
  · rw [mc_8, mc_8]
theorem mc_self {b9 : Nat} {ms : MM} {σ : AH} (h : ∀ a, b9 ≤ a → a < b9 + 9 → σ.1 a = (mc b9 ms σ).1 a) : mc b9 ms σ = σ := by
  refine Prod.ext (funext fun a => ?_) rfl
  by_cases c : b9 ≤ a ∧ a < b9 + 9
  · exact (h a c.1 c.2).symm
  · exact mc_out (by omega)
theorem LC.fr {σ τ : AH} {b9 : Nat} {ms : MM} {oa : Nat → Int64} {oD : Nat → UInt64} (h : LC σ b9 ms oa oD) (k : ∀ a, b9 ≤ a → a < b9 + 11 → τ.1 a = σ.1 a) (hs : σ.2 ≤ τ.2) : LC τ b9 ms oa oD := by
  obtain ⟨h1, h2, h3, h4⟩ := h
  refine ⟨mc_self (fun a p q => ?_), (k _ (by omega) (by omega)).trans h2, (k _ (by omega) (by omega)).trans h3, Nat.le_trans h4 hs⟩
  rw [k a p (by omega), mc_in (τ := σ) p q, h1]
theorem LC.mc {σ : AH} {b9 : Nat} {ms ms' : MM} {oa : Nat → Int64} {oD : Nat → UInt64} (h : LC σ b9 ms oa oD) : LC (mc b9 ms' σ) b9 ms' oa oD := by
  obtain ⟨h1, h2, h3, h4⟩ := h
  refine ⟨mc_self (fun a p q => mc_in p q), (mc_out (by omega)).trans h2, (mc_out (by omega)).trans h3, h4⟩
theorem LC.nW {σ : AH} {b9 : Nat} {ms : MM} {oa : Nat → Int64} {oD : Nat → UInt64} (h : LC σ b9 ms oa oD) {a : Nat} {e : AE} (k : σ.1 a = some e) (w : isW e) : a < b9 ∨ b9 + 11 ≤ a := by
  obtain ⟨h1, h2, h3, h4⟩ := h
  refine Classical.byContradiction fun c => ?_
  have m : ∀ c, σ.1 a = some c → ¬ isW c → False := fun c h n => n (by rw [← Option.some.inj (k.symm.trans h)]; exact w)
  have e : a = b9 ∨ a = b9 + 1 ∨ a = b9 + 2 ∨ a = b9 + 3 ∨ a = b9 + 4 ∨ a = b9 + 5 ∨ a = b9 + 6 ∨ a = b9 + 7 ∨ a = b9 + 8 ∨ a = b9 + 9 ∨ a = b9 + 10 := by omega
  rcases e with e | e | e | e | e | e | e | e | e | e | e <;> subst e
  · exact m _ (by rw [← h1]; exact mc_0 _ _ _) (isW_no (by decide))
  · exact m _ (by rw [← h1]; exact mc_1 _ _ _) (isW_ia (by decide))
  · exact m _ (by rw [← h1]; exact mc_2 _ _ _) (isW_ia (by decide))
  · exact m _ (by rw [← h1]; exact mc_3 _ _ _) (isW_ia (by decide))
  · exact m _ (by rw [← h1]; exact mc_4 _ _ _) (isW_ia (by decide))
  · exact m _ (by rw [← h1]; exact mc_5 _ _ _) (isW_ty ⟨by decide, by decide, by decide⟩)
  · exact m _ (by rw [← h1]; exact mc_6 _ _ _) (isW_ty ⟨by decide, by decide, by decide⟩)
  · exact m _ (by rw [← h1]; exact mc_7 _ _ _) (isW_ia (by decide))
  · exact m _ (by rw [← h1]; exact mc_8 _ _ _) (isW_ty ⟨by decide, by decide, by decide⟩)
  · exact m _ h2 (isW_ty ⟨by decide, by decide, by decide⟩)
  · exact m _ h3 (isW_ty ⟨by decide, by decide, by decide⟩)
/-- the whole: FlagLaundry as msC, the model as msM -/
def HS (g : GC) (σ : AH) (x b9 hb : Nat) (z : KM) (ms : MM) (oa : Nat → Int64) (oD : Nat → UInt64) : Prop := CP g σ x b9 hb z ∧ LC σ b9 ms oa oD
theorem kO.nw {σ τ : AH} {b9 : Nat} {ms : MM} {oa : Nat → Int64} {oD : Nat → UInt64} (k : kO b9 σ τ) (h : LC σ b9 ms oa oD) : nw σ τ := ⟨k.1, fun a e p q => k.2 a e p (h.nW p q)⟩
/-- the model's own step -/
theorem HS.mc {g : GC} {σ : AH} {x b9 hb : Nat} {z : KM} {ms ms' : MM} {oa : Nat → Int64} {oD : Nat → UInt64} (h : HS g σ x b9 hb z ms oa oD) : HS g (mc b9 ms' σ) x b9 hb z ms' oa oD := by
  have k : kO b9 σ (_root_.Jvm.Pilot.CFlagLaundryLaw_law_r9784_83ea13.mc b9 ms' σ) := ⟨Nat.le_refl _, fun a e p q => (mc_out (by omega)).trans p⟩
  exact ⟨h.1.fr k (k.nw h.2), h.2.mc⟩
theorem kx.kO {σ τ : AH} {b9 a : Nat} (k : kx a σ τ) (w : wfh σ) (ha : b9 ≤ a ∧ a < b9 + 11) : kO b9 σ τ := ⟨k.1, fun q e p r => k.at w p (by omega)⟩
theorem ext.kO {σ τ : AH} {b9 : Nat} (k : ext σ τ) (w : wfh σ) : kO b9 σ τ := ⟨k.1, fun q e p _ => k.at w p⟩
/-- a question: nothing has changed but the law's array -/
theorem HS.q {g : GC} {σ τ : AH} {x b9 hb : Nat} {z : KM} {ms : MM} {oa oa' : Nat → Int64} {oD : Nat → UInt64} (h : HS g σ x b9 hb z ms oa oD) (w : wfh σ) (k : kx (b9 + 9) σ τ) (ho : τ.1 (b9 + 9) = some (.inl (.long, 1, .inr (.inl oa')))) : HS g τ x b9 hb z ms oa' oD := by
  have hk := k.kO (b9 := b9) w ⟨by omega, by omega⟩
  obtain ⟨h0, h1, h2, h3, h4⟩ := h
  refine ⟨h0.fr hk (hk.nw ⟨h1, h2, h3, h4⟩), mc_self (fun a p q => ?_), ho, k.at w h3 (by omega), Nat.le_trans h4 k.1⟩
  rw [k.2 a (by omega) (by omega), mc_in (τ := σ) p q, h1]
theorem HS.qD {g : GC} {σ τ : AH} {x b9 hb : Nat} {z : KM} {ms : MM} {oa : Nat → Int64} {oD oD' : Nat → UInt64} (h : HS g σ x b9 hb z ms oa oD) (w : wfh σ) (k : kx (b9 + 10) σ τ) (ho : τ.1 (b9 + 10) = some (.inl (.double, 1, .inr (.inr (.inr (.inl oD')))))) : HS g τ x b9 hb z ms oa oD' := by
  have hk := k.kO (b9 := b9) w ⟨by omega, by omega⟩
  obtain ⟨h0, h1, h2, h3, h4⟩ := h
  refine ⟨h0.fr hk (hk.nw ⟨h1, h2, h3, h4⟩), mc_self (fun a p q => ?_), k.at w h2 (by omega), ho, Nat.le_trans h4 k.1⟩
  rw [k.2 a (by omega) (by omega), mc_in (τ := σ) p q, h1]
theorem es1 {a E : String} {i : Nat} (h : [a][i]? = some E) : i = 0 ∧ E = a := by
  rcases i with _ | i
  · exact ⟨rfl, (Option.some.inj h).symm⟩
  · simp at h
theorem es2 {a b E : String} {i : Nat} (h : [a, b][i]? = some E) : (i = 0 ∧ E = a) ∨ (i = 1 ∧ E = b) := by
  rcases i with _ | _ | i
  · exact Or.inl ⟨rfl, (Option.some.inj h).symm⟩
  · exact Or.inr ⟨rfl, (Option.some.inj h).symm⟩
  · simp at h
theorem es3 {a b c E : String} {i : Nat} (h : [a, b, c][i]? = some E) : (i = 0 ∧ E = a) ∨ (i = 1 ∧ E = b) ∨ (i = 2 ∧ E = c) := by
  rcases i with _ | _ | _ | i
  · exact Or.inl ⟨rfl, (Option.some.inj h).symm⟩
  · exact Or.inr (Or.inl ⟨rfl, (Option.some.inj h).symm⟩)
  · exact Or.inr (Or.inr ⟨rfl, (Option.some.inj h).symm⟩)
  · simp at h
def esI (es : List String) : Prop := ∀ (i j : Nat) (E : String), es[i]? = some E → es[j]? = some E → i = j
theorem esI1 (a : String) : esI [a] := fun _ _ _ h k => (es1 h).1.trans (es1 k).1.symm
theorem esI2 {a b : String} (n : ¬ a = b) : esI [a, b] := fun i j E h k => by
  rcases es2 h with ⟨rfl, rfl⟩ | ⟨rfl, rfl⟩ <;> rcases es2 k with ⟨rfl, e⟩ | ⟨rfl, e⟩ <;> first | rfl | exact absurd e n | exact absurd e.symm n
theorem esI3 {a b c : String} (n : ¬ a = b ∧ ¬ a = c ∧ ¬ b = c) : esI [a, b, c] := fun i j E h k => by
  obtain ⟨n1, n2, n3⟩ := n
  rcases es3 h with ⟨rfl, rfl⟩ | ⟨rfl, rfl⟩ | ⟨rfl, rfl⟩ <;> rcases es3 k with ⟨rfl, e⟩ | ⟨rfl, e⟩ | ⟨rfl, e⟩ <;> first | rfl | exact absurd e n1 | exact absurd e.symm n1 | exact absurd e n2 | exact absurd e.symm n2 | exact absurd e n3 | exact absurd e.symm n3
theorem thr1 {a E : String} {T : Int32} {σ τ : AH} {q : Nat} (h : A_thr [a] T σ E q τ) : E = a := by
  obtain ⟨_, i, hi, _⟩ := h
  exact (es1 hi).2
theorem thr2 {a b E : String} {T : Int32} {σ τ : AH} {q : Nat} (h : A_thr [a, b] T σ E q τ) : E = a ∨ E = b := by
  obtain ⟨_, i, hi, _⟩ := h
  rcases es2 hi with ⟨_, e⟩ | ⟨_, e⟩
  · exact Or.inl e
  · exact Or.inr e
theorem thr3 {a b c E : String} {T : Int32} {σ τ : AH} {q : Nat} (h : A_thr [a, b, c] T σ E q τ) : E = a ∨ E = b ∨ E = c := by
  obtain ⟨_, i, hi, _⟩ := h
  rcases es3 hi with ⟨_, e⟩ | ⟨_, e⟩ | ⟨_, e⟩
  · exact Or.inl e
  · exact Or.inr (Or.inl e)
  · exact Or.inr (Or.inr e)
/-- an answer of a wrapper: T, and the number -/
def AO (g : GC) (x b9 hb : Nat) (z : KM) (ms : MM) (oD : Nat → UInt64) (T v : Int32) : Option Value → AH → Prop := fun w τ => w = some (.int T) ∧ ∃ oa', HS g τ x b9 hb z ms oa' oD ∧ (T = 0 → oa' 0 = v.toInt64)
theorem HS.out {g : GC} {σ : AH} {x b9 hb : Nat} {z : KM} {ms : MM} {oa : Nat → Int64} {oD : Nat → UInt64} (h : HS g σ x b9 hb z ms oa oD) : σ.1 (b9 + 9) = some (.inl (.long, 1, .inr (.inl oa))) := h.2.2.1
theorem HS.ask {g : GC} {σ τ : AH} {x b9 hb : Nat} {z : KM} {ms : MM} {oa : Nat → Int64} {oD : Nat → UInt64} (h : HS g σ x b9 hb z ms oa oD) (w : wfh σ) {T v : Int32} {es : List String} (hn : esI es) (hes : es.length < 2 ^ 31) {w9 : Option Value} (hq : WQ (A_val T (.int v) σ) (A_thr es T σ) es (b9 + 9) oa w9 τ) : AO g x b9 hb z ms oD T v w9 τ := by
  rcases hq with ⟨v', τ', ⟨hT, e, hx⟩, e2, e3⟩ | ⟨E, q, τ', i, ⟨hx, j, hj, hT⟩, hi, e2, e3⟩
  · have ev : v' = v := by cases e; rfl
    subst ev
    subst e3
    exact ⟨by rw [e2, hT], _, h.q w ((kx.rf.ex hx).put) (if_pos rfl), fun _ => if_pos rfl⟩
  · subst e3
    have ei : i = j := hn i j E hi hj
    refine ⟨by rw [e2, hT, ei], oa, h.q w (kx.rf.ex hx) (hx.at w h.out), fun q => ?_⟩
    rw [hT] at q
    exact absurd q (nI_ne0 (Nat.succ_pos _) (Nat.lt_of_le_of_lt (Nat.succ_le_of_lt (List.getElem?_eq_some_iff.mp hj).1) hes))
theorem CPx.ld {g : GC} {σ : AH} {x b9 hb k9 : Nat} {z : KM} {bf dq da sv ou hq u sa cap : Nat} {ml : Int32} {e : Nat → Nat} {fs : Nat → Option Nat} {nv : Value} {W : WA} {Ws Vs : Nat → WA} {f : AF} {lp : List Int32} (h : CPx g σ x b9 hb k9 z bf dq da sv ou hq u sa cap ml e fs nv W Ws Vs f lp) (hhb : hb < 2 ^ 30) : LD g σ z.2.2.2.1 nv W z.2.2.2.2.1 := by
  obtain ⟨-, -, -, -, -, h5, ⟨⟨h6, h7, y, h8, h9⟩, -⟩, -⟩ := h
  rcases h5 with q | ⟨q1, q2, q3⟩
  · exact Or.inl q
  · exact Or.inr ⟨q1, q2, q3, h6, h7, y, Nat.lt_of_le_of_lt h8 hhb, h9⟩
theorem HS.wfc {g : GC} {σ : AH} {x b9 hb : Nat} {ms ms2 : MM} {oa : Nat → Int64} {oD : Nat → UInt64} (h : HS g σ x b9 hb (kM ms) ms2 oa oD) : WFd (m_now ms) ∧ WFw (m_now ms) := by
  obtain ⟨⟨k9, bf, dq, da, sv, ou, hq, u, sa, cap, ml, e, fs, nv, W, Ws, Vs, f, lp, -, -, -, -, -, -, ⟨⟨h6, h7, -⟩, -⟩, -⟩, -⟩ := h
  exact ⟨h6, h7⟩
theorem o_count {l : Launch} {g : GC} (σ : AH) (x b9 hb : Nat) (ms : MM) (oa : Nat → Int64) (oD : Nat → UInt64) (a1 : Int32) (hhb : hb < 2 ^ 30) (h : HS g σ x b9 hb (kM ms) ms oa oD) : AMet l g mX0_count 35 2 [.ref x, .int a1, .ref (b9 + 9)] σ (AO g x b9 hb (kM ms) ms oD (mayT (m_is ms) (bi (inR a1 0 15)) 1) (countN (m_now ms) a1)) A_no := by
  obtain ⟨⟨k9, bf, dq, da, sv, ou, hq, u, sa, cap, ml, e, fs, nv, W, Ws, Vs, f5, lp, hC⟩, hL⟩ := id h
  exact w_count σ x (b9 + 9) a1 oa _ hC.2.1 (q_count σ x bf dq sv ou _ _ _ (m_is ms) nv W (m_now ms) a1 (hC.ld hhb) hC.2.1) (fun w _ τ hv => ⟨⟨_, hv.2.1⟩, hv.2.2.at w hL.2.1⟩) (fun E q τ hx => thr2 hx) (fun w w9 τ hq => h.ask w (esI2 (by decide)) (by decide) hq)
theorem o_colour {l : Launch} {g : GC} (σ : AH) (x b9 hb : Nat) (ms : MM) (oa : Nat → Int64) (oD : Nat → UInt64) (a1 a2 : Int32) (hhb : hb < 2 ^ 30) (h : HS g σ x b9 hb (kM ms) ms oa oD) : AMet l g mX0_colour 32 2 [.ref x, .int a1, .int a2, .ref (b9 + 9)] σ (AO g x b9 hb (kM ms) ms oD (mayT (m_is ms) (bi (okC (m_is ms) (m_now ms) a1)) (bi (inR a2 0 2))) (if a2 = 0 then (m_now ms) (12 + ix a1) else if a2 = 1 then withN (m_now ms) a1 1 else withN (m_now ms) a1 6)) A_no := by
  obtain ⟨⟨k9, bf, dq, da, sv, ou, hq, u, sa, cap, ml, e, fs, nv, W, Ws, Vs, f5, lp, hC⟩, hL⟩ := id h
  exact w_colour σ x (b9 + 9) a1 a2 oa _ hC.2.1 (q_colour σ x bf dq sv ou _ _ _ (m_is ms) nv W (m_now ms) a1 a2 (hC.ld hhb) hC.2.1) (fun w _ τ hv => ⟨⟨_, hv.2.1⟩, hv.2.2.at w hL.2.1⟩) (fun E q τ hx => thr3 hx) (fun w w9 τ hq => h.ask w (esI3 ⟨by decide, by decide, by decide⟩) (by decide) hq)
theorem o_nation {l : Launch} {g : GC} (σ : AH) (x b9 hb : Nat) (ms : MM) (oa : Nat → Int64) (oD : Nat → UInt64) (a1 a2 : Int32) (hhb : hb < 2 ^ 30) (h : HS g σ x b9 hb (kM ms) ms oa oD) : AMet l g mX0_nation 35 2 [.ref x, .int a1, .int a2, .ref (b9 + 9)] σ (AO g x b9 hb (kM ms) ms oD (mayT (m_is ms) (bi (okN (m_is ms) (m_now ms) a1)) (bi (inR a2 0 6))) (nationN (m_now ms) (ix a1) a2)) A_no := by
  obtain ⟨⟨k9, bf, dq, da, sv, ou, hq, u, sa, cap, ml, e, fs, nv, W, Ws, Vs, f5, lp, hC⟩, hL⟩ := id h
  exact w_nation σ x (b9 + 9) a1 a2 oa _ hC.2.1 (q_nation σ x bf dq sv ou _ _ _ (m_is ms) nv W (m_now ms) a1 a2 (hC.ld hhb) hC.2.1) (fun w _ τ hv => ⟨⟨_, hv.2.1⟩, hv.2.2.at w hL.2.1⟩) (fun E q τ hx => thr3 hx) (fun w w9 τ hq => h.ask w (esI3 ⟨by decide, by decide, by decide⟩) (by decide) hq)
theorem o_flag {l : Launch} {g : GC} (σ : AH) (x b9 hb : Nat) (ms : MM) (oa : Nat → Int64) (oD : Nat → UInt64) (a1 a2 : Int32) (hhb : hb < 2 ^ 30) (h : HS g σ x b9 hb (kM ms) ms oa oD) : AMet l g mX0_flag 11 2 [.ref x, .int a1, .int a2, .ref (b9 + 9)] σ (AO g x b9 hb (kM ms) ms oD (mayT (m_is ms) (bi (okF (m_is ms) (m_now ms) a1)) (bi (inR a2 0 9))) (fl (m_now ms) (ix a1) (ix a2))) A_no := by
  obtain ⟨⟨k9, bf, dq, da, sv, ou, hq, u, sa, cap, ml, e, fs, nv, W, Ws, Vs, f5, lp, hC⟩, hL⟩ := id h
  exact w_flag σ x (b9 + 9) a1 a2 oa _ hC.2.1 (q_flag σ x bf dq sv ou _ _ _ (m_is ms) nv W (m_now ms) a1 a2 (hC.ld hhb) hC.2.1) (fun w _ τ hv => ⟨⟨_, hv.2.1⟩, hv.2.2.at w hL.2.1⟩) (fun E q τ hx => thr3 hx) (fun w w9 τ hq => h.ask w (esI3 ⟨by decide, by decide, by decide⟩) (by decide) hq)
theorem o_tub {l : Launch} {g : GC} (σ : AH) (x b9 hb : Nat) (ms : MM) (oa : Nat → Int64) (oD : Nat → UInt64) (a1 a2 : Int32) (hhb : hb < 2 ^ 30) (h : HS g σ x b9 hb (kM ms) ms oa oD) : AMet l g mX0_tub 35 2 [.ref x, .int a1, .int a2, .ref (b9 + 9)] σ (AO g x b9 hb (kM ms) ms oD (mayT (m_is ms) (bi (okT (m_is ms) (m_now ms) a1)) (bi (inR a2 0 4))) (tubN (m_now ms) (ix a1) a2)) A_no := by
  obtain ⟨⟨k9, bf, dq, da, sv, ou, hq, u, sa, cap, ml, e, fs, nv, W, Ws, Vs, f5, lp, hC⟩, hL⟩ := id h
  exact w_tub σ x (b9 + 9) a1 a2 oa _ hC.2.1 (q_tub σ x bf dq sv ou _ _ _ (m_is ms) nv W (m_now ms) a1 a2 (hC.ld hhb) hC.2.1) (fun w _ τ hv => ⟨⟨_, hv.2.1⟩, hv.2.2.at w hL.2.1⟩) (fun E q τ hx => thr3 hx) (fun w w9 τ hq => h.ask w (esI3 ⟨by decide, by decide, by decide⟩) (by decide) hq)
theorem o_inTub {l : Launch} {g : GC} (σ : AH) (x b9 hb : Nat) (ms : MM) (oa : Nat → Int64) (oD : Nat → UInt64) (a1 a2 : Int32) (hhb : hb < 2 ^ 30) (h : HS g σ x b9 hb (kM ms) ms oa oD) : AMet l g mX0_inTub 37 20 [.ref x, .int a1, .int a2, .ref (b9 + 9)] σ (AO g x b9 hb (kM ms) ms oD (mayT (m_is ms) (bi (okT (m_is ms) (m_now ms) a1)) 1) (flagInN (m_now ms) a1 a2)) A_no := by
  obtain ⟨⟨k9, bf, dq, da, sv, ou, hq, u, sa, cap, ml, e, fs, nv, W, Ws, Vs, f5, lp, hC⟩, hL⟩ := id h
  exact w_inTub σ x (b9 + 9) a1 a2 oa _ hC.2.1 (q_inTub σ x bf dq sv ou _ _ _ (m_is ms) nv W (m_now ms) a1 a2 (hC.ld hhb) hC.2.1) (fun w _ τ hv => ⟨⟨_, hv.2.1⟩, hv.2.2.at w hL.2.1⟩) (fun E q τ hx => thr2 hx) (fun w w9 τ hq => h.ask w (esI2 (by decide)) (by decide) hq)
theorem o_onPeg {l : Launch} {g : GC} (σ : AH) (x b9 hb : Nat) (ms : MM) (oa : Nat → Int64) (oD : Nat → UInt64) (a1 : Int32) (hhb : hb < 2 ^ 30) (h : HS g σ x b9 hb (kM ms) ms oa oD) : AMet l g mX0_onPeg 10 2 [.ref x, .int a1, .ref (b9 + 9)] σ (AO g x b9 hb (kM ms) ms oD (mayT (m_is ms) (bi (¬ (m_is ms) = 0 ∧ inR a1 0 ((m_now ms) 9 - 1))) 1) (flagOnN (m_now ms) a1)) A_no := by
  obtain ⟨⟨k9, bf, dq, da, sv, ou, hq, u, sa, cap, ml, e, fs, nv, W, Ws, Vs, f5, lp, hC⟩, hL⟩ := id h
  exact w_onPeg σ x (b9 + 9) a1 oa _ hC.2.1 (q_onPeg σ x bf dq sv ou _ _ _ (m_is ms) nv W (m_now ms) a1 (hC.ld hhb) hC.2.1) (fun w _ τ hv => ⟨⟨_, hv.2.1⟩, hv.2.2.at w hL.2.1⟩) (fun E q τ hx => thr2 hx) (fun w w9 τ hq => h.ask w (esI2 (by decide)) (by decide) hq)
theorem o_freePegs {l : Launch} {g : GC} (σ : AH) (x b9 hb : Nat) (ms : MM) (oa : Nat → Int64) (oD : Nat → UInt64) (hhb : hb < 2 ^ 30) (h : HS g σ x b9 hb (kM ms) ms oa oD) : AMet l g mX0_freePegs 35 2 [.ref x, .ref (b9 + 9)] σ (AO g x b9 hb (kM ms) ms oD (mayT (m_is ms) 1 1) ((m_now ms) 9 - atN (m_now ms) 2)) A_no := by
  obtain ⟨⟨k9, bf, dq, da, sv, ou, hq, u, sa, cap, ml, e, fs, nv, W, Ws, Vs, f5, lp, hC⟩, hL⟩ := id h
  exact w_freePegs σ x (b9 + 9) oa _ hC.2.1 (q_freePegs σ x bf dq sv ou _ _ _ (m_is ms) nv W (m_now ms) (hC.ld hhb) hC.2.1) (fun w _ τ hv => ⟨⟨_, hv.2.1⟩, hv.2.2.at w hL.2.1⟩) (fun E q τ hx => thr1 hx) (fun w w9 τ hq => h.ask w (esI1 _) (by decide) hq)
theorem o_wettest {l : Launch} {g : GC} (σ : AH) (x b9 hb : Nat) (ms : MM) (oa : Nat → Int64) (oD : Nat → UInt64) (hhb : hb < 2 ^ 30) (h : HS g σ x b9 hb (kM ms) ms oa oD) : AMet l g mX0_wettest 10 2 [.ref x, .ref (b9 + 9)] σ (AO g x b9 hb (kM ms) ms oD (mayT (m_is ms) 1 1) (wetU (m_now ms) (nF (m_now ms)))) A_no := by
  obtain ⟨⟨k9, bf, dq, da, sv, ou, hq, u, sa, cap, ml, e, fs, nv, W, Ws, Vs, f5, lp, hC⟩, hL⟩ := id h
  exact w_wettest σ x (b9 + 9) oa _ hC.2.1 (q_wettest σ x bf dq sv ou _ _ _ (m_is ms) nv W (m_now ms) (hC.ld hhb) hC.2.1) (fun w _ τ hv => ⟨⟨_, hv.2.1⟩, hv.2.2.at w hL.2.1⟩) (fun E q τ hx => thr1 hx) (fun w w9 τ hq => h.ask w (esI1 _) (by decide) hq)
theorem o_gap {l : Launch} {g : GC} (σ : AH) (x b9 hb : Nat) (ms : MM) (oa : Nat → Int64) (oD : Nat → UInt64) (hhb : hb < 2 ^ 30) (h : HS g σ x b9 hb (kM ms) ms oa oD) : AMet l g mX0_gap 37 5 [.ref x, .ref (b9 + 9)] σ (AO g x b9 hb (kM ms) ms oD (mayT (m_is ms) 1 1) (gapN (m_now ms))) A_no := by
  obtain ⟨⟨k9, bf, dq, da, sv, ou, hq, u, sa, cap, ml, e, fs, nv, W, Ws, Vs, f5, lp, hC⟩, hL⟩ := id h
  exact w_gap σ x (b9 + 9) oa _ hC.2.1 (q_gap σ x bf dq sv ou _ _ _ (m_is ms) nv W (m_now ms) (hC.ld hhb) hC.2.1) (fun w _ τ hv => ⟨⟨_, hv.2.1⟩, hv.2.2.at w hL.2.1⟩) (fun E q τ hx => thr1 hx) (fun w w9 τ hq => h.ask w (esI1 _) (by decide) hq)
theorem o_why {l : Launch} {g : GC} (σ : AH) (x b9 hb : Nat) (ms : MM) (oa : Nat → Int64) (oD : Nat → UInt64) (a1 : Int32) (hhb : hb < 2 ^ 30) (h : HS g σ x b9 hb (kM ms) ms oa oD) : AMet l g mX0_why 15 2 [.ref x, .int a1, .ref (b9 + 9)] σ (AO g x b9 hb (kM ms) ms oD (mayT (m_is ms) (bi (okF (m_is ms) (m_now ms) a1)) 1) (whyN (m_now ms) (ix a1))) A_no := by
  obtain ⟨⟨k9, bf, dq, da, sv, ou, hq, u, sa, cap, ml, e, fs, nv, W, Ws, Vs, f5, lp, hC⟩, hL⟩ := id h
  exact w_why σ x (b9 + 9) a1 oa _ hC.2.1 (q_why σ x bf dq sv ou _ _ _ (m_is ms) nv W (m_now ms) a1 (hC.ld hhb) hC.2.1) (fun w _ τ hv => ⟨⟨_, hv.2.1⟩, hv.2.2.at w hL.2.1⟩) (fun E q τ hx => thr2 hx) (fun w w9 τ hq => h.ask w (esI2 (by decide)) (by decide) hq)
theorem o_reasons {l : Launch} {g : GC} (σ : AH) (x b9 hb : Nat) (ms : MM) (oa : Nat → Int64) (oD : Nat → UInt64) (a1 : Int32) (hhb : hb < 2 ^ 30) (h : HS g σ x b9 hb (kM ms) ms oa oD) : AMet l g mX0_reasons 14 2 [.ref x, .int a1, .ref (b9 + 9)] σ (AO g x b9 hb (kM ms) ms oD (mayT (m_is ms) (bi (okF (m_is ms) (m_now ms) a1)) 1) (reasN (m_now ms) (ix a1))) A_no := by
  obtain ⟨⟨k9, bf, dq, da, sv, ou, hq, u, sa, cap, ml, e, fs, nv, W, Ws, Vs, f5, lp, hC⟩, hL⟩ := id h
  exact w_reasons σ x (b9 + 9) a1 oa _ hC.2.1 (q_reasons σ x bf dq sv ou _ _ _ (m_is ms) nv W (m_now ms) a1 (hC.ld hhb) hC.2.1) (fun w _ τ hv => ⟨⟨_, hv.2.1⟩, hv.2.2.at w hL.2.1⟩) (fun E q τ hx => thr2 hx) (fun w w9 τ hq => h.ask w (esI2 (by decide)) (by decide) hq)
theorem o_culprit {l : Launch} {g : GC} (σ : AH) (x b9 hb : Nat) (ms : MM) (oa : Nat → Int64) (oD : Nat → UInt64) (a1 : Int32) (hhb : hb < 2 ^ 30) (h : HS g σ x b9 hb (kM ms) ms oa oD) : AMet l g mX0_culprit 16 2 [.ref x, .int a1, .ref (b9 + 9)] σ (AO g x b9 hb (kM ms) ms oD (mayT (m_is ms) (bi (okN (m_is ms) (m_now ms) a1)) 1) (culpN (m_now ms) a1)) A_no := by
  obtain ⟨⟨k9, bf, dq, da, sv, ou, hq, u, sa, cap, ml, e, fs, nv, W, Ws, Vs, f5, lp, hC⟩, hL⟩ := id h
  exact w_culprit σ x (b9 + 9) a1 oa _ hC.2.1 (q_culprit σ x bf dq sv ou _ _ _ (m_is ms) nv W (m_now ms) a1 (hC.ld hhb) hC.2.1) (fun w _ τ hv => ⟨⟨_, hv.2.1⟩, hv.2.2.at w hL.2.1⟩) (fun E q τ hx => thr2 hx) (fun w w9 τ hq => h.ask w (esI2 (by decide)) (by decide) hq)
theorem o_whyNotPut {l : Launch} {g : GC} (σ : AH) (x b9 hb : Nat) (ms : MM) (oa : Nat → Int64) (oD : Nat → UInt64) (a1 a2 : Int32) (hhb : hb < 2 ^ 30) (h : HS g σ x b9 hb (kM ms) ms oa oD) : AMet l g mX0_whyNotPut 46 6 [.ref x, .int a1, .int a2, .ref (b9 + 9)] σ (AO g x b9 hb (kM ms) ms oD (mayT (m_is ms) (bi (okF (m_is ms) (m_now ms) a1 ∧ okT (m_is ms) (m_now ms) a2)) 1) (whyPutN (m_now ms) (ix a1) (ix a2))) A_no := by
  obtain ⟨⟨k9, bf, dq, da, sv, ou, hq, u, sa, cap, ml, e, fs, nv, W, Ws, Vs, f5, lp, hC⟩, hL⟩ := id h
  exact w_whyNotPut σ x (b9 + 9) a1 a2 oa _ hC.2.1 (q_whyNotPut σ x bf dq sv ou _ _ _ (m_is ms) nv W (m_now ms) a1 a2 (hC.ld hhb) hC.2.1) (fun w _ τ hv => ⟨⟨_, hv.2.1⟩, hv.2.2.at w hL.2.1⟩) (fun E q τ hx => thr2 hx) (fun w w9 τ hq => h.ask w (esI2 (by decide)) (by decide) hq)
theorem o_whyNotWash {l : Launch} {g : GC} (σ : AH) (x b9 hb : Nat) (ms : MM) (oa : Nat → Int64) (oD : Nat → UInt64) (a1 a2 : Int32) (hhb : hb < 2 ^ 30) (h : HS g σ x b9 hb (kM ms) ms oa oD) : AMet l g mX0_whyNotWash 37 2 [.ref x, .int a1, .int a2, .ref (b9 + 9)] σ (AO g x b9 hb (kM ms) ms oD (mayT (m_is ms) (bi (okT (m_is ms) (m_now ms) a1)) (bi (inR a2 0 3))) (whyWashN (m_now ms) a1 a2)) A_no := by
  obtain ⟨⟨k9, bf, dq, da, sv, ou, hq, u, sa, cap, ml, e, fs, nv, W, Ws, Vs, f5, lp, hC⟩, hL⟩ := id h
  exact w_whyNotWash σ x (b9 + 9) a1 a2 oa _ hC.2.1 (q_whyNotWash σ x bf dq sv ou _ _ _ (m_is ms) nv W (m_now ms) a1 a2 (hC.ld hhb) hC.2.1) (fun w _ τ hv => ⟨⟨_, hv.2.1⟩, hv.2.2.at w hL.2.1⟩) (fun E q τ hx => thr3 hx) (fun w w9 τ hq => h.ask w (esI3 ⟨by decide, by decide, by decide⟩) (by decide) hq)
theorem o_whyNotIron {l : Launch} {g : GC} (σ : AH) (x b9 hb : Nat) (ms : MM) (oa : Nat → Int64) (oD : Nat → UInt64) (a1 a2 : Int32) (hhb : hb < 2 ^ 30) (h : HS g σ x b9 hb (kM ms) ms oa oD) : AMet l g mX0_whyNotIron 17 2 [.ref x, .int a1, .int a2, .ref (b9 + 9)] σ (AO g x b9 hb (kM ms) ms oD (mayT (m_is ms) (bi (okF (m_is ms) (m_now ms) a1)) (bi (inR a2 0 3))) (whyIronN (m_now ms) (ix a1) a2)) A_no := by
  obtain ⟨⟨k9, bf, dq, da, sv, ou, hq, u, sa, cap, ml, e, fs, nv, W, Ws, Vs, f5, lp, hC⟩, hL⟩ := id h
  exact w_whyNotIron σ x (b9 + 9) a1 a2 oa _ hC.2.1 (q_whyNotIron σ x bf dq sv ou _ _ _ (m_is ms) nv W (m_now ms) a1 a2 (hC.ld hhb) hC.2.1) (fun w _ τ hv => ⟨⟨_, hv.2.1⟩, hv.2.2.at w hL.2.1⟩) (fun E q τ hx => thr3 hx) (fun w w9 τ hq => h.ask w (esI3 ⟨by decide, by decide, by decide⟩) (by decide) hq)
theorem o_whyNotBleach {l : Launch} {g : GC} (σ : AH) (x b9 hb : Nat) (ms : MM) (oa : Nat → Int64) (oD : Nat → UInt64) (a1 : Int32) (hhb : hb < 2 ^ 30) (h : HS g σ x b9 hb (kM ms) ms oa oD) : AMet l g mX0_whyNotBleach 17 2 [.ref x, .int a1, .ref (b9 + 9)] σ (AO g x b9 hb (kM ms) ms oD (mayT (m_is ms) (bi (okF (m_is ms) (m_now ms) a1)) 1) (whyBlN (m_now ms) (ix a1))) A_no := by
  obtain ⟨⟨k9, bf, dq, da, sv, ou, hq, u, sa, cap, ml, e, fs, nv, W, Ws, Vs, f5, lp, hC⟩, hL⟩ := id h
  exact w_whyNotBleach σ x (b9 + 9) a1 oa _ hC.2.1 (q_whyNotBleach σ x bf dq sv ou _ _ _ (m_is ms) nv W (m_now ms) a1 (hC.ld hhb) hC.2.1) (fun w _ τ hv => ⟨⟨_, hv.2.1⟩, hv.2.2.at w hL.2.1⟩) (fun E q τ hx => thr2 hx) (fun w w9 τ hq => h.ask w (esI2 (by decide)) (by decide) hq)
theorem o_running {l : Launch} {g : GC} (σ : AH) (x b9 hb : Nat) (ms : MM) (oa : Nat → Int64) (oD : Nat → UInt64) (a1 a2 : Int32) (hhb : hb < 2 ^ 30) (h : HS g σ x b9 hb (kM ms) ms oa oD) : AMet l g mX0_running 12 2 [.ref x, .int a1, .int a2, .ref (b9 + 9)] σ (AO g x b9 hb (kM ms) ms oD (mayT (m_is ms) (bi (okT (m_is ms) (m_now ms) a1)) (bi (inR a2 0 3))) (runIn (m_now ms) a1 a2)) A_no := by
  obtain ⟨⟨k9, bf, dq, da, sv, ou, hq, u, sa, cap, ml, e, fs, nv, W, Ws, Vs, f5, lp, hC⟩, hL⟩ := id h
  exact w_running σ x (b9 + 9) a1 a2 oa _ hC.2.1 (q_running σ x bf dq sv ou _ _ _ (m_is ms) nv W (m_now ms) a1 a2 (hC.ld hhb) hC.2.1) (fun w _ τ hv => ⟨⟨_, hv.2.1⟩, hv.2.2.at w hL.2.1⟩) (fun E q τ hx => thr3 hx) (fun w w9 τ hq => h.ask w (esI3 ⟨by decide, by decide, by decide⟩) (by decide) hq)
theorem o_stainedIf {l : Launch} {g : GC} (σ : AH) (x b9 hb : Nat) (ms : MM) (oa : Nat → Int64) (oD : Nat → UInt64) (a1 a2 : Int32) (hhb : hb < 2 ^ 30) (h : HS g σ x b9 hb (kM ms) ms oa oD) : AMet l g mX0_stainedIf 35 2 [.ref x, .int a1, .int a2, .ref (b9 + 9)] σ (AO g x b9 hb (kM ms) ms oD (mayT (m_is ms) (bi (okT (m_is ms) (m_now ms) a1)) (bi (inR a2 0 3))) (stainBy (m_now ms) a1 a2)) A_no := by
  obtain ⟨⟨k9, bf, dq, da, sv, ou, hq, u, sa, cap, ml, e, fs, nv, W, Ws, Vs, f5, lp, hC⟩, hL⟩ := id h
  exact w_stainedIf σ x (b9 + 9) a1 a2 oa _ hC.2.1 (q_stainedIf σ x bf dq sv ou _ _ _ (m_is ms) nv W (m_now ms) a1 a2 (hC.ld hhb) hC.2.1) (fun w _ τ hv => ⟨⟨_, hv.2.1⟩, hv.2.2.at w hL.2.1⟩) (fun E q τ hx => thr3 hx) (fun w w9 τ hq => h.ask w (esI3 ⟨by decide, by decide, by decide⟩) (by decide) hq)
theorem o_dirtIf {l : Launch} {g : GC} (σ : AH) (x b9 hb : Nat) (ms : MM) (oa : Nat → Int64) (oD : Nat → UInt64) (a1 a2 : Int32) (hhb : hb < 2 ^ 30) (h : HS g σ x b9 hb (kM ms) ms oa oD) : AMet l g mX0_dirtIf 12 2 [.ref x, .int a1, .int a2, .ref (b9 + 9)] σ (AO g x b9 hb (kM ms) ms oD (mayT (m_is ms) (bi (okT (m_is ms) (m_now ms) a1)) (bi (inR a2 0 3))) (dirtBy (m_now ms) a1 a2)) A_no := by
  obtain ⟨⟨k9, bf, dq, da, sv, ou, hq, u, sa, cap, ml, e, fs, nv, W, Ws, Vs, f5, lp, hC⟩, hL⟩ := id h
  exact w_dirtIf σ x (b9 + 9) a1 a2 oa _ hC.2.1 (q_dirtIf σ x bf dq sv ou _ _ _ (m_is ms) nv W (m_now ms) a1 a2 (hC.ld hhb) hC.2.1) (fun w _ τ hv => ⟨⟨_, hv.2.1⟩, hv.2.2.at w hL.2.1⟩) (fun E q τ hx => thr3 hx) (fun w w9 τ hq => h.ask w (esI3 ⟨by decide, by decide, by decide⟩) (by decide) hq)
theorem o_bestHeat {l : Launch} {g : GC} (σ : AH) (x b9 hb : Nat) (ms : MM) (oa : Nat → Int64) (oD : Nat → UInt64) (a1 : Int32) (hhb : hb < 2 ^ 30) (h : HS g σ x b9 hb (kM ms) ms oa oD) : AMet l g mX0_bestHeat 37 14 [.ref x, .int a1, .ref (b9 + 9)] σ (AO g x b9 hb (kM ms) ms oD (mayT (m_is ms) (bi (okT (m_is ms) (m_now ms) a1)) 1) ((bhU (m_now ms) a1 4).1)) A_no := by
  obtain ⟨⟨k9, bf, dq, da, sv, ou, hq, u, sa, cap, ml, e, fs, nv, W, Ws, Vs, f5, lp, hC⟩, hL⟩ := id h
  exact w_bestHeat σ x (b9 + 9) a1 oa _ hC.2.1 (q_bestHeat σ x bf dq sv ou _ _ _ (m_is ms) nv W (m_now ms) a1 (hC.ld hhb) hC.2.1) (fun w _ τ hv => ⟨⟨_, hv.2.1⟩, hv.2.2.at w hL.2.1⟩) (fun E q τ hx => thr2 hx) (fun w w9 τ hq => h.ask w (esI2 (by decide)) (by decide) hq)
theorem o_firstSafe {l : Launch} {g : GC} (σ : AH) (x b9 hb : Nat) (ms : MM) (oa : Nat → Int64) (oD : Nat → UInt64) (a1 a2 : Int32) (hhb : hb < 2 ^ 30) (h : HS g σ x b9 hb (kM ms) ms oa oD) : AMet l g mX0_firstSafe 46 110 [.ref x, .int a1, .int a2, .ref (b9 + 9)] σ (AO g x b9 hb (kM ms) ms oD (mayT (m_is ms) (bi (okT (m_is ms) (m_now ms) a1)) (bi (inR a2 0 3))) (firstSafeN (m_now ms) (ix a1) a2)) A_no := by
  obtain ⟨⟨k9, bf, dq, da, sv, ou, hq, u, sa, cap, ml, e, fs, nv, W, Ws, Vs, f5, lp, hC⟩, hL⟩ := id h
  exact w_firstSafe σ x (b9 + 9) a1 a2 oa _ hC.2.1 (q_firstSafe σ x bf dq sv ou _ _ _ (m_is ms) nv W (m_now ms) a1 a2 (hC.ld hhb) hC.2.1) (fun w _ τ hv => ⟨⟨_, hv.2.1⟩, hv.2.2.at w hL.2.1⟩) (fun E q τ hx => thr3 hx) (fun w w9 τ hq => h.ask w (esI3 ⟨by decide, by decide, by decide⟩) (by decide) hq)
theorem o_doNotMix {l : Launch} {g : GC} (σ : AH) (x b9 hb : Nat) (ms : MM) (oa : Nat → Int64) (oD : Nat → UInt64) (a1 a2 a3 : Int32) (hhb : hb < 2 ^ 30) (h : HS g σ x b9 hb (kM ms) ms oa oD) : AMet l g mX0_doNotMix 11 2 [.ref x, .int a1, .int a2, .int a3, .ref (b9 + 9)] σ (AO g x b9 hb (kM ms) ms oD (mayT (m_is ms) (bi (okF (m_is ms) (m_now ms) a1 ∧ okF (m_is ms) (m_now ms) a2)) (bi (inR a3 0 3))) (mixN (m_now ms) (ix a1) (ix a2) a3)) A_no := by
  obtain ⟨⟨k9, bf, dq, da, sv, ou, hq, u, sa, cap, ml, e, fs, nv, W, Ws, Vs, f5, lp, hC⟩, hL⟩ := id h
  exact w_doNotMix σ x (b9 + 9) a1 a2 a3 oa _ hC.2.1 (q_doNotMix σ x bf dq sv ou _ _ _ (m_is ms) nv W (m_now ms) a1 a2 a3 (hC.ld hhb) hC.2.1) (fun w _ τ hv => ⟨⟨_, hv.2.1⟩, hv.2.2.at w hL.2.1⟩) (fun E q τ hx => thr3 hx) (fun w w9 τ hq => h.ask w (esI3 ⟨by decide, by decide, by decide⟩) (by decide) hq)
theorem o_groups {l : Launch} {g : GC} (σ : AH) (x b9 hb : Nat) (ms : MM) (oa : Nat → Int64) (oD : Nat → UInt64) (a1 : Int32) (hhb : hb < 2 ^ 30) (h : HS g σ x b9 hb (kM ms) ms oa oD) : AMet l g mX0_groups 12 5 [.ref x, .int a1, .ref (b9 + 9)] σ (AO g x b9 hb (kM ms) ms oD (mayT (m_is ms) (bi (inR a1 0 3)) 1) (nI (gU (m_now ms) a1 (nF (m_now ms))).2)) A_no := by
  obtain ⟨⟨k9, bf, dq, da, sv, ou, hq, u, sa, cap, ml, e, fs, nv, W, Ws, Vs, f5, lp, hC⟩, hL⟩ := id h
  exact w_groups σ x (b9 + 9) a1 oa _ hC.2.1 (q_groups σ x bf dq sv ou _ _ _ (m_is ms) nv W (m_now ms) a1 (hC.ld hhb) hC.2.1) (fun w _ τ hv => ⟨⟨_, hv.2.1⟩, hv.2.2.at w hL.2.1⟩) (fun E q τ hx => thr2 hx) (fun w w9 τ hq => h.ask w (esI2 (by decide)) (by decide) hq)
theorem o_purest {l : Launch} {g : GC} (σ : AH) (x b9 hb : Nat) (ms : MM) (oa : Nat → Int64) (oD : Nat → UInt64) (a1 : Int32) (hhb : hb < 2 ^ 30) (h : HS g σ x b9 hb (kM ms) ms oa oD) : AMet l g mX0_purest 32 14 [.ref x, .int a1, .ref (b9 + 9)] σ (AO g x b9 hb (kM ms) ms oD (mayT (m_is ms) (bi (inR a1 0 3)) 1) (purU (m_now ms) a1 (nF (m_now ms)))) A_no := by
  obtain ⟨⟨k9, bf, dq, da, sv, ou, hq, u, sa, cap, ml, e, fs, nv, W, Ws, Vs, f5, lp, hC⟩, hL⟩ := id h
  exact w_purest σ x (b9 + 9) a1 oa _ hC.2.1 (q_purest σ x bf dq sv ou _ _ _ (m_is ms) nv W (m_now ms) a1 (hC.ld hhb) hC.2.1) (fun w _ τ hv => ⟨⟨_, hv.2.1⟩, hv.2.2.at w hL.2.1⟩) (fun E q τ hx => thr2 hx) (fun w w9 τ hq => h.ask w (esI2 (by decide)) (by decide) hq)
theorem o_washesFor {l : Launch} {g : GC} (σ : AH) (x b9 hb : Nat) (ms : MM) (oa : Nat → Int64) (oD : Nat → UInt64) (a1 : Int32) (hhb : hb < 2 ^ 30) (h : HS g σ x b9 hb (kM ms) ms oa oD) : AMet l g mX0_washesFor 11 2 [.ref x, .int a1, .ref (b9 + 9)] σ (AO g x b9 hb (kM ms) ms oD (mayT (m_is ms) (bi (okF (m_is ms) (m_now ms) a1)) 1) (wForN (m_now ms) (ix a1))) A_no := by
  obtain ⟨⟨k9, bf, dq, da, sv, ou, hq, u, sa, cap, ml, e, fs, nv, W, Ws, Vs, f5, lp, hC⟩, hL⟩ := id h
  exact w_washesFor σ x (b9 + 9) a1 oa _ hC.2.1 (q_washesFor σ x bf dq sv ou _ _ _ (m_is ms) nv W (m_now ms) a1 (hC.ld hhb) hC.2.1) (fun w _ τ hv => ⟨⟨_, hv.2.1⟩, hv.2.2.at w hL.2.1⟩) (fun E q τ hx => thr2 hx) (fun w w9 τ hq => h.ask w (esI2 (by decide)) (by decide) hq)
theorem o_dryIn {l : Launch} {g : GC} (σ : AH) (x b9 hb : Nat) (ms : MM) (oa : Nat → Int64) (oD : Nat → UInt64) (a1 : Int32) (hhb : hb < 2 ^ 30) (h : HS g σ x b9 hb (kM ms) ms oa oD) : AMet l g mX0_dryIn 24 174 [.ref x, .int a1, .ref (b9 + 9)] σ (AO g x b9 hb (kM ms) ms oD (mayT (m_is ms) (bi (okF (m_is ms) (m_now ms) a1)) 1) (dryIn (m_now ms) (ix a1))) A_no := by
  obtain ⟨⟨k9, bf, dq, da, sv, ou, hq, u, sa, cap, ml, e, fs, nv, W, Ws, Vs, f5, lp, hC⟩, hL⟩ := id h
  exact w_dryIn σ x (b9 + 9) a1 oa _ hC.2.1 (q_dryIn σ x bf dq sv ou _ _ _ (m_is ms) nv W (m_now ms) a1 (hC.ld hhb) hC.2.1) (fun w _ τ hv => ⟨⟨_, hv.2.1⟩, hv.2.2.at w hL.2.1⟩) (fun E q τ hx => thr2 hx) (fun w w9 τ hq => h.ask w (esI2 (by decide)) (by decide) hq)
theorem o_dryByWind {l : Launch} {g : GC} (σ : AH) (x b9 hb : Nat) (ms : MM) (oa : Nat → Int64) (oD : Nat → UInt64) (a1 a2 : Int32) (hhb : hb < 2 ^ 30) (h : HS g σ x b9 hb (kM ms) ms oa oD) : AMet l g mX0_dryByWind 24 174 [.ref x, .int a1, .int a2, .ref (b9 + 9)] σ (AO g x b9 hb (kM ms) ms oD (mayT (m_is ms) (bi (okF (m_is ms) (m_now ms) a1)) (bi (inR a2 0 9))) (dryIn (va_up (m_now ms) 1 a2) (ix a1))) A_no := by
  obtain ⟨⟨k9, bf, dq, da, sv, ou, hq, u, sa, cap, ml, e, fs, nv, W, Ws, Vs, f5, lp, hC⟩, hL⟩ := id h
  exact w_dryByWind σ x (b9 + 9) a1 a2 oa _ hC.2.1 (q_dryByWind σ x bf dq sv ou _ _ _ (m_is ms) nv W (m_now ms) a1 a2 (hC.ld hhb) hC.2.1) (fun w _ τ hv => ⟨⟨_, hv.2.1⟩, hv.2.2.at w hL.2.1⟩) (fun E q τ hx => thr3 hx) (fun w w9 τ hq => h.ask w (esI3 ⟨by decide, by decide, by decide⟩) (by decide) hq)
theorem o_fallsIn {l : Launch} {g : GC} (σ : AH) (x b9 hb : Nat) (ms : MM) (oa : Nat → Int64) (oD : Nat → UInt64) (a1 : Int32) (hhb : hb < 2 ^ 30) (h : HS g σ x b9 hb (kM ms) ms oa oD) : AMet l g mX0_fallsIn 18 172 [.ref x, .int a1, .ref (b9 + 9)] σ (AO g x b9 hb (kM ms) ms oD (mayT (m_is ms) (bi (inR a1 0 99)) 1) (itr passN (m_now ms) (ix a1) 5 - (m_now ms) 5)) A_no := by
  obtain ⟨⟨k9, bf, dq, da, sv, ou, hq, u, sa, cap, ml, e, fs, nv, W, Ws, Vs, f5, lp, hC⟩, hL⟩ := id h
  exact w_fallsIn σ x (b9 + 9) a1 oa _ hC.2.1 (q_fallsIn σ x bf dq sv ou _ _ _ (m_is ms) nv W (m_now ms) a1 (hC.ld hhb) hC.2.1) (fun w _ τ hv => ⟨⟨_, hv.2.1⟩, hv.2.2.at w hL.2.1⟩) (fun E q τ hx => thr2 hx) (fun w w9 τ hq => h.ask w (esI2 (by decide)) (by decide) hq)
theorem o_payIf {l : Launch} {g : GC} (σ : AH) (x b9 hb : Nat) (ms : MM) (oa : Nat → Int64) (oD : Nat → UInt64) (a1 a2 : Int32) (hhb : hb < 2 ^ 30) (h : HS g σ x b9 hb (kM ms) ms oa oD) : AMet l g mX0_payIf 35 2 [.ref x, .int a1, .int a2, .ref (b9 + 9)] σ (AO g x b9 hb (kM ms) ms oD (mayT (m_is ms) (bi (okN (m_is ms) (m_now ms) a1)) (bi (inR a2 0 99))) (payInN (m_now ms) (ix a1) a2)) A_no := by
  obtain ⟨⟨k9, bf, dq, da, sv, ou, hq, u, sa, cap, ml, e, fs, nv, W, Ws, Vs, f5, lp, hC⟩, hL⟩ := id h
  exact w_payIf σ x (b9 + 9) a1 a2 oa _ hC.2.1 (q_payIf σ x bf dq sv ou _ _ _ (m_is ms) nv W (m_now ms) a1 a2 (hC.ld hhb) hC.2.1) (fun w _ τ hv => ⟨⟨_, hv.2.1⟩, hv.2.2.at w hL.2.1⟩) (fun E q τ hx => thr3 hx) (fun w w9 τ hq => h.ask w (esI3 ⟨by decide, by decide, by decide⟩) (by decide) hq)
theorem o_latest {l : Launch} {g : GC} (σ : AH) (x b9 hb : Nat) (ms : MM) (oa : Nat → Int64) (oD : Nat → UInt64) (a1 : Int32) (hhb : hb < 2 ^ 30) (h : HS g σ x b9 hb (kM ms) ms oa oD) : AMet l g mX0_latest 35 2 [.ref x, .int a1, .ref (b9 + 9)] σ (AO g x b9 hb (kM ms) ms oD (mayT (m_is ms) (bi (okN (m_is ms) (m_now ms) a1)) 1) (lastHN (m_now ms) (ix a1))) A_no := by
  obtain ⟨⟨k9, bf, dq, da, sv, ou, hq, u, sa, cap, ml, e, fs, nv, W, Ws, Vs, f5, lp, hC⟩, hL⟩ := id h
  exact w_latest σ x (b9 + 9) a1 oa _ hC.2.1 (q_latest σ x bf dq sv ou _ _ _ (m_is ms) nv W (m_now ms) a1 (hC.ld hhb) hC.2.1) (fun w _ τ hv => ⟨⟨_, hv.2.1⟩, hv.2.2.at w hL.2.1⟩) (fun E q τ hx => thr2 hx) (fun w w9 τ hq => h.ask w (esI2 (by decide)) (by decide) hq)
theorem o_dearest {l : Launch} {g : GC} (σ : AH) (x b9 hb : Nat) (ms : MM) (oa : Nat → Int64) (oD : Nat → UInt64) (hhb : hb < 2 ^ 30) (h : HS g σ x b9 hb (kM ms) ms oa oD) : AMet l g mX0_dearest 35 6 [.ref x, .ref (b9 + 9)] σ (AO g x b9 hb (kM ms) ms oD (mayT (m_is ms) 1 1) ((deU (m_now ms) (nN (m_now ms))).1)) A_no := by
  obtain ⟨⟨k9, bf, dq, da, sv, ou, hq, u, sa, cap, ml, e, fs, nv, W, Ws, Vs, f5, lp, hC⟩, hL⟩ := id h
  exact w_dearest σ x (b9 + 9) oa _ hC.2.1 (q_dearest σ x bf dq sv ou _ _ _ (m_is ms) nv W (m_now ms) (hC.ld hhb) hC.2.1) (fun w _ τ hv => ⟨⟨_, hv.2.1⟩, hv.2.2.at w hL.2.1⟩) (fun E q τ hx => thr1 hx) (fun w w9 τ hq => h.ask w (esI1 _) (by decide) hq)
theorem o_ironsFor {l : Launch} {g : GC} (σ : AH) (x b9 hb : Nat) (ms : MM) (oa : Nat → Int64) (oD : Nat → UInt64) (a1 a2 : Int32) (hhb : hb < 2 ^ 30) (h : HS g σ x b9 hb (kM ms) ms oa oD) : AMet l g mX0_ironsFor 17 8 [.ref x, .int a1, .int a2, .ref (b9 + 9)] σ (AO g x b9 hb (kM ms) ms oD (mayT (m_is ms) (bi (okF (m_is ms) (m_now ms) a1)) (bi (inR a2 0 3))) (ironForN (m_now ms) (ix a1) a2)) A_no := by
  obtain ⟨⟨k9, bf, dq, da, sv, ou, hq, u, sa, cap, ml, e, fs, nv, W, Ws, Vs, f5, lp, hC⟩, hL⟩ := id h
  exact w_ironsFor σ x (b9 + 9) a1 a2 oa _ hC.2.1 (q_ironsFor σ x bf dq sv ou _ _ _ (m_is ms) nv W (m_now ms) a1 a2 (hC.ld hhb) hC.2.1) (fun w _ τ hv => ⟨⟨_, hv.2.1⟩, hv.2.2.at w hL.2.1⟩) (fun E q τ hx => thr3 hx) (fun w w9 τ hq => h.ask w (esI3 ⟨by decide, by decide, by decide⟩) (by decide) hq)
