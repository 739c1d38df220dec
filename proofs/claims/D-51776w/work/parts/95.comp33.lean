/-! THE LAW 3: changes -/
theorem CPu.tr {g : GC} {σ τ : AH} {hb : Nat} {is um : Int32} {und : AF} {dq da hq hq' u : Nat} {e : Nat → Nat} {Ws : Nat → WA} (h : CPu g σ hb is um und dq da hq u e Ws) (hd : DQ τ dq da hq' u e) (n : nw σ τ) : CPu g τ hb is um und dq da hq' u e Ws := ⟨h.1, h.2.1, hd, h.2.2.2.1, fun i hi => ⟨(h.2.2.2.2 i hi).1, (h.2.2.2.2 i hi).2.1.nw n, (h.2.2.2.2 i hi).2.2⟩⟩
theorem CPs.tr {g : GC} {σ τ : AH} {hb : Nat} {is : Int32} {isv sav : AF} {sv : Nat} {fs : Nat → Option Nat} {Vs : Nat → WA} (h : CPs g σ hb is isv sav sv fs Vs) (hs : τ.1 sv = some (objA "FlagLaundry$World" 2 fs)) (n : nw σ τ) : CPs g τ hb is isv sav sv fs Vs := ⟨hs, fun s q => by
  rcases h.2 s q with z | ⟨q1, q2, q3, q4, q5⟩
  · exact Or.inl z
  · exact Or.inr ⟨q1, q2, q3, q4.nw n, q5⟩⟩
theorem CPw.tr {g : GC} {σ τ : AH} {is : Int32} {N : AF} {nv : Value} {W : WA} (h : CPw g σ is N nv W) (n : nw σ τ) : CPw g τ is N nv W := by
  rcases h with q | ⟨q1, q2, q3⟩
  · exact Or.inl q
  · exact Or.inr ⟨q1, q2, q3.nw n⟩
theorem CPp.tr {σ τ : AH} {ps : Int32} {pag : AF} {ou sa cap : Nat} {ml : Int32} {f : AF} {lp : List Int32} (h : CPp σ ps pag ou sa cap ml f lp) (k : ∀ a e, σ.1 a = some e → a = ou ∨ a = sa → τ.1 a = some e) : CPp τ ps pag ou sa cap ml f lp := by
  obtain ⟨⟨h1, h2, h3⟩, h4⟩ := h
  exact ⟨⟨k _ _ h1 (Or.inl rfl), k _ _ h2 (Or.inr rfl), h3⟩, h4⟩
/-- FlagLaundry has stepped: its own cells l alone have changed -/
theorem LC.fra {σ τ : AH} {b9 : Nat} {ms : MM} {oa : Nat → Int64} {oD : Nat → UInt64} {l : List Nat} (h : LC σ b9 ms oa oD) (k : frS l σ τ) (hl : ∀ a, a ∈ l → a < b9 ∨ b9 + 11 ≤ a) : LC τ b9 ms oa oD := by
  have h9 := h
  obtain ⟨h1, h2, h3, h4⟩ := h
  refine h9.fr (fun a p q => k.2 a (by omega) (fun m => by have := hl a m; omega) (fun va z y c => ?_)) k.1
  have m : ∀ t, σ.1 a = some t → (∀ va h z, ¬ t = strC va h z) → False := fun t ht n => n va z y (Option.some.inj (ht.symm.trans c))
  have e : a = b9 ∨ a = b9 + 1 ∨ a = b9 + 2 ∨ a = b9 + 3 ∨ a = b9 + 4 ∨ a = b9 + 5 ∨ a = b9 + 6 ∨ a = b9 + 7 ∨ a = b9 + 8 ∨ a = b9 + 9 ∨ a = b9 + 10 := by omega
  rcases e with e | e | e | e | e | e | e | e | e | e | e <;> subst e
  · exact m _ (by rw [← h1]; exact mc_0 _ _ _) (fun _ _ _ q => by injection q with q; injection q with q; injection q with q _; cases q)
  · exact m _ (by rw [← h1]; exact mc_1 _ _ _) (fun _ _ _ q => by cases q)
  · exact m _ (by rw [← h1]; exact mc_2 _ _ _) (fun _ _ _ q => by cases q)
  · exact m _ (by rw [← h1]; exact mc_3 _ _ _) (fun _ _ _ q => by cases q)
  · exact m _ (by rw [← h1]; exact mc_4 _ _ _) (fun _ _ _ q => by cases q)
  · exact m _ (by rw [← h1]; exact mc_5 _ _ _) (fun _ _ _ q => by cases q)
  · exact m _ (by rw [← h1]; exact mc_6 _ _ _) (fun _ _ _ q => by cases q)
  · exact m _ (by rw [← h1]; exact mc_7 _ _ _) (fun _ _ _ q => by cases q)
  · exact m _ (by rw [← h1]; exact mc_8 _ _ _) (fun _ _ _ q => by cases q)
  · exact m _ h2 (fun _ _ _ q => by cases q)
  · exact m _ h3 (fun _ _ _ q => by cases q)
theorem esT {es : List String} (hn : esI es) (hes : es.length < 2 ^ 31) {i j : Nat} {E : String} (hi : es[i]? = some E) (hj : es[j]? = some E) {T : Int32} (hT : T = nI (j + 1)) : nI (i + 1) = T ∧ ¬ T = 0 := ⟨by rw [hT, hn i j E hi hj], fun q => by rw [hT] at q; exact absurd q (nI_ne0 (Nat.succ_pos _) (Nat.lt_of_le_of_lt (Nat.succ_le_of_lt (List.getElem?_eq_some_iff.mp hj).1) hes))⟩
/-- a wrapper's answer out of two cases: all well (T = 0, the new state behind τ'), or an exception and nothing has changed -/
theorem HS.two {g : GC} {σ τ : AH} {x b9 hb hb' : Nat} {z z' : KM} {ms : MM} {oa : Nat → Int64} {oD : Nat → UInt64} (h : HS g σ x b9 hb z ms oa oD) (w : wfh σ) {T v : Int32} {es : List String} (hn : esI es) (hes : es.length < 2 ^ 31) {Qx : Option Value → AH → Prop} {w9 : Option Value} (hq : WQ Qx (A_thr es T σ) es (b9 + 9) oa w9 τ) (hle : hb ≤ hb') (hz : ¬ T = 0 → z' = z) (hg : ∀ v' τ', Qx (some (.int v')) τ' → T = 0 ∧ v' = v ∧ HS g τ' x b9 hb' z' ms oa oD) : AO g x b9 hb' z' ms oD T v w9 τ := by
  rcases hq with ⟨v', τ', hQ, e2, e3⟩ | ⟨E, q, τ', i, ⟨hx, j, hj, hT⟩, hi, e2, e3⟩
  · obtain ⟨hT, ev, hH⟩ := hg v' τ' hQ
    subst ev
    subst e3
    refine ⟨by rw [e2, hT], va_up oa 0 v'.toInt64, ?_, fun _ => if_pos rfl⟩
    obtain ⟨h0, h1, h2, h3, h4⟩ := hH
    have hk : kO b9 τ' (h_put τ' (b9 + 9) (.inl (.long, 1, .inr (.inl (va_up oa 0 v'.toInt64))))) := ⟨Nat.le_refl _, fun a e p r => (hp_ne (by omega)).trans p⟩
    refine ⟨h0.fr hk (hk.nw ⟨h1, h2, h3, h4⟩), mc_self (fun a p q => ?_), if_pos rfl, (hp_ne (by omega)).trans h3, h4⟩
    rw [hp_ne (by omega), mc_in (τ := τ') p q, h1]
  · subst e3
    obtain ⟨eT, n0⟩ := esT hn hes hi hj hT
    rw [hz n0]
    refine ⟨by rw [e2, eT], oa, ?_, fun q => absurd q n0⟩
    have hH := h.q w (kx.rf.ex hx) (hx.at w h.out)
    exact ⟨hH.1.le hle, hH.2⟩
/-- the page anew -/
theorem HS.pg {g : GC} {σ τ : AH} {x b9 hb k9 : Nat} {z : KM} {ms : MM} {oa : Nat → Int64} {oD : Nat → UInt64} {bf dq da sv ou hq u sa cap : Nat} {ml : Int32} {e : Nat → Nat} {fs : Nat → Option Nat} {nv : Value} {W : WA} {Ws Vs : Nat → WA} {f : AF} {lp L : List Int32} (hC : CPx g σ x b9 hb k9 z bf dq da sv ou hq u sa cap ml e fs nv W Ws Vs f lp) (hL : LC σ b9 ms oa oD) (w : wfh σ) (hS : SX σ ou sa τ L L.length) (hl : L.length ≤ 60) : HS g τ x b9 hb (z.1, z.2.1, z.2.2.1, z.2.2.2.1, z.2.2.2.2.1, z.2.2.2.2.2.1, z.2.2.2.2.2.2.1, z.2.2.2.2.2.2.2.1, z.2.2.2.2.2.2.2.2.1, z.2.2.2.2.2.2.2.2.2.1, nI L.length, pgA z.2.2.2.2.2.2.2.2.2.2.2 L) ms oa oD := by
  obtain ⟨⟨a1, a2, a3, a4, a5, a6, a7⟩, h1, h2, h3, h4, h5, h6, h7, ⟨s1, s2⟩, hB, p3, p4⟩ := hC
  obtain ⟨sa', cap', ml', f', -, hB', hfr, hsa⟩ := hS
  have hs1 := hB.1
  have hs2 := hB.2.1
  have kp : ∀ a c, σ.1 a = some c → (¬ a = ou) → (¬ a = sa) → τ.1 a = some c := fun a c h n1 n2 => hfr.at w h (by simp only [List.mem_cons, List.not_mem_nil, or_false]; exact fun q => q.elim n1 n2)
  have nn : nw σ τ := SBd.nw hB w hfr
  obtain ⟨d1, d2, d3, fd, d4, d5⟩ := h7.2.2.1
  have hsz := hL.2.2.2
  refine ⟨⟨k9, bf, dq, da, sv, ou, hq, u, sa', cap', ml', e, fs, nv, W, Ws, Vs, f', L, ⟨a1, a2, a3, a4, a5, a6, by rcases hsa with q | q; rw [q]; exact a7; exact Or.inr (Nat.le_trans hsz q)⟩, kp _ _ h1 (ne_of h1 hs1 (ne_cls (by decide))) (ne_of h1 hs2 ne_arr.symm), h2, kp _ _ h3 (ne_of h3 hs1 ne_arr) (ne_of h3 hs2 ?_), h4, h5.tr nn, h6, h7.tr ⟨d1, d2, kp _ _ d3 (ne_of d3 hs1 (ne_cls (by decide))) (ne_of d3 hs2 ne_arr.symm), fd, kp _ _ d4 (ne_of d4 hs1 ne_arr) (ne_of d4 hs2 (fun q => by simp at q)), d5⟩ nn, CPs.tr ⟨s1, s2⟩ (kp _ _ s1 (ne_of s1 hs1 ne_arr) (ne_of s1 hs2 (fun q => by simp at q))) nn, hB', hl, rfl, fun q hq => if_pos hq⟩, hL.fra hfr.S (fun a m => ?_)⟩
  · intro q
    injection q with q
    injection q with _ q
    injection q with q _
    rcases hB.2.2.1 with c | c | c <;> omega
  · simp only [List.mem_cons, List.not_mem_nil, or_false] at m
    rcases m with m | m
    · subst m; exact Or.inl a6
    · subst m; exact a7
theorem gq_0 {α : Type} {T : Int32} {a b : α} (h : T = 0) : gq T a b = a := if_pos h
theorem gq_1 {α : Type} {T : Int32} {a b : α} (h : ¬ T = 0) : gq T a b = b := if_neg h
theorem wld_remU (A N : AF) {u : Nat} (hu : u ≤ 8) {i j : Nat} (hi : i < remC u) (hj : j < 173) : wld (remU A N u) i j = if u = 8 then (if i = 7 then N j else wld A (i + 1) j) else if i = u then N j else wld A i j := by
  unfold remU
  unfold remC at hi
  by_cases c : u = 8
  · rw [if_pos c] at hi
    rw [if_pos c, if_pos c]
    by_cases c7 : i = 7
    · rw [if_pos c7, c7]; exact wld_set _ _ hj
    · rw [if_neg c7, wld_setN _ _ c7 hj]; exact wld_sh A (by omega) hj
  · rw [if_neg c] at hi
    rw [if_neg c, if_neg c]
    by_cases c7 : i = u
    · rw [if_pos c7, c7]; exact wld_set _ _ hj
    · rw [if_neg c7]; exact wld_setN _ _ c7 hj
/-- behind a change: the present goes into the past -/
theorem CPu.ch {g : GC} {σ τ : AH} {hb hb' : Nat} {is um : Int32} {und N : AF} {dq da hq h' u : Nat} {e : Nat → Nat} {Ws : Nat → WA} {W : WA} (h : CPu g σ hb is um und dq da hq u e Ws) (his : ¬ is = 0) (hR : RW g σ W N) (hN : NK hb N) (hd : DQ τ dq da h' (remC u) (chE u e (wW W))) (n : nw σ τ) (hle : hb ≤ hb') : CPu g τ hb' is (nI (remC u)) (remU und N u) dq da h' (remC u) (chE u e (wW W)) (chW u Ws W) := by
  obtain ⟨u1, u2, -, -, u5⟩ := h
  refine ⟨rfl, by unfold remC; split <;> omega, hd, fun _ => his, fun i hi => ?_⟩
  have hw := fun j (hj : j < 173) => wld_remU und N u2 hi hj
  unfold remC at hi
  by_cases c : u = 8
  · rw [if_pos c] at hi
    simp only [if_pos c] at hw
    by_cases c7 : i = 7
    · simp only [if_pos c7] at hw
      refine ⟨?_, ?_, (hN.le hle).cg hw⟩
      · unfold chE chW; rw [if_pos c, if_pos c, if_pos c7, c7]; exact upP_s _ _ _
      · unfold chW; rw [if_pos c, if_pos c7]; exact (hR.nw n).cg hN.1.1.1 hw
    · simp only [if_neg c7] at hw
      obtain ⟨q1, q2, q3⟩ := u5 (i + 1) (by omega)
      refine ⟨?_, ?_, (q3.le hle).cg hw⟩
      · unfold chE chW; rw [if_pos c, if_pos c, if_neg c7, upP_n _ _ c7]; exact q1
      · unfold chW; rw [if_pos c, if_neg c7]; exact (q2.nw n).cg q3.1.1.1 hw
  · rw [if_neg c] at hi
    simp only [if_neg c] at hw
    by_cases c7 : i = u
    · simp only [if_pos c7] at hw
      refine ⟨?_, ?_, (hN.le hle).cg hw⟩
      · unfold chE chW; rw [if_neg c, if_neg c, if_pos c7, c7]; exact upP_s _ _ _
      · unfold chW; rw [if_neg c, if_pos c7]; exact (hR.nw n).cg hN.1.1.1 hw
    · simp only [if_neg c7] at hw
      obtain ⟨q1, q2, q3⟩ := u5 i (by omega)
      refine ⟨?_, ?_, (q3.le hle).cg hw⟩
      · unfold chE chW; rw [if_neg c, if_neg c, if_neg c7, upP_n _ _ c7]; exact q1
      · unfold chW; rw [if_neg c, if_neg c7]; exact (q2.nw n).cg q3.1.1.1 hw
/-- the cells that a change of [x, dq, da] keeps -/
theorem CPx.keep {g : GC} {σ τ : AH} {x b9 hb k9 : Nat} {z : KM} {bf dq da sv ou hq u sa cap : Nat} {ml : Int32} {e : Nat → Nat} {fs : Nat → Option Nat} {nv : Value} {W : WA} {Ws Vs : Nat → WA} {f : AF} {lp : List Int32} (hC : CPx g σ x b9 hb k9 z bf dq da sv ou hq u sa cap ml e fs nv W Ws Vs f lp) (w : wfh σ) (k : frS [x, dq, da] σ τ) : τ.1 bf = some (bytA 500 z.2.2.2.2.2.2.2.2.2.1) ∧ τ.1 sv = some (objA "FlagLaundry$World" 2 fs) ∧ CPp τ z.2.2.2.2.2.2.2.2.2.2.1 z.2.2.2.2.2.2.2.2.2.2.2 ou sa cap ml f lp := by
  obtain ⟨-, h1, h2, h3, h4, h5, h6, h7, ⟨s1, s2⟩, hB, p3, p4⟩ := hC
  obtain ⟨d1, d2, d3, fd, d4, d5⟩ := h7.2.2.1
  have nl : ∀ a c, σ.1 a = some c → (∀ vs, ¬ c = .inr (.inl (0, vs))) → (∀ vs, ¬ c = .inr (.inl (11, vs))) → (∀ v, ¬ c = .inl (.object "java/lang/Object", v)) → ¬ a ∈ [x, dq, da] := fun a c h n1 n2 n3 m => by
    simp only [List.mem_cons, List.not_mem_nil, or_false] at m
    rcases m with m | m | m
    · subst m; exact n1 _ (Option.some.inj (h.symm.trans h1))
    · subst m; exact n2 _ (Option.some.inj (h.symm.trans d3))
    · subst m; exact n3 _ (Option.some.inj (h.symm.trans d4))
  refine ⟨k.arr w h3 (nl _ _ h3 (fun _ q => by cases q) (fun _ q => by cases q) (fun _ q => by simp at q)), k.arr w s1 (nl _ _ s1 (fun _ q => by cases q) (fun _ q => by cases q) (fun _ q => by simp at q)), ⟨?_, ?_, hB.2.2⟩, p3, p4⟩
  · exact k.cell w hB.1 (by decide) (nl _ _ hB.1 (fun _ q => by injection q with q; injection q with q; injection q with q _; cases q) (fun _ q => by injection q with q; injection q with q; injection q with q _; cases q) (fun _ q => by cases q))
  · exact k.arr w hB.2.1 (nl _ _ hB.2.1 (fun _ q => by cases q) (fun _ q => by cases q) (fun _ q => by simp at q))
theorem CPa.l3 {b9 x bf dq da sv ou sa : Nat} (h : CPa b9 x bf dq da sv ou sa) : ∀ a, a ∈ [x, dq, da] → a < b9 ∨ b9 + 11 ≤ a := fun a m => by
  obtain ⟨a1, a2, a3, a4, a5, a6, a7⟩ := h
  simp only [List.mem_cons, List.not_mem_nil, or_false] at m
  rcases m with m | m | m <;> subst m <;> left <;> assumption
abbrev zMQ (z : KM) (u : Nat) (N' : AF) : KM := (z.1, z.2.1, z.2.2.1, z.2.2.2.1, N', nI (remC u), remU z.2.2.2.2.2.2.1 z.2.2.2.2.1 u, z.2.2.2.2.2.2.2.1, z.2.2.2.2.2.2.2.2.1, z.2.2.2.2.2.2.2.2.2.1, z.2.2.2.2.2.2.2.2.2.2.1, z.2.2.2.2.2.2.2.2.2.2.2)
theorem HS.mq {g : GC} {σ τ : AH} {x b9 hb hb' k9 : Nat} {z : KM} {ms : MM} {oa : Nat → Int64} {oD : Nat → UInt64} {bf dq da sv ou hq u sa cap : Nat} {ml : Int32} {e : Nat → Nat} {fs : Nat → Option Nat} {nv : Value} {W : WA} {Ws Vs : Nat → WA} {f : AF} {lp : List Int32} {T : Int32} {v : Value} {N' : AF} {w9 : Option Value} (hC : CPx g σ x b9 hb k9 z bf dq da sv ou hq u sa cap ml e fs nv W Ws Vs f lp) (hL : LC σ b9 ms oa oD) (w : wfh σ) (hm : A_mq g T v bf z.1 z.2.1 z.2.2.1 dq sv ou x da u e W N' σ w9 τ) (his : ¬ z.2.2.2.1 = 0) (hle : hb ≤ hb') (hN : NK hb' N') : HS g τ x b9 hb' (zMQ z u N') ms oa oD := by
  obtain ⟨-, -, V, h', hx, hRV, hd, hfr, n⟩ := hm
  obtain ⟨k1, k2, k3⟩ := hC.keep w hfr.S
  obtain ⟨a0, h1, h2, h3, h4, h5, h6, h7, h8, h9⟩ := hC
  have hRW : RW g σ W z.2.2.2.2.1 := by
    rcases h5 with q | ⟨_, _, q⟩
    · exact absurd q.1 his
    · exact q
  exact ⟨⟨k9, bf, dq, da, sv, ou, h', remC u, sa, cap, ml, chE u e (wW W), fs, _, V, chW u Ws W, Vs, f, lp, a0, hx, h2, k1, h4, Or.inr ⟨his, rfl, hRV⟩, hN, h7.ch his hRW h6 hd n hle, (h8.tr k2 n).le hle, k3⟩, hL.fra hfr.S a0.l3⟩
abbrev zUN (z : KM) (N' : AF) (um : Int32) : KM := (z.1, z.2.1, z.2.2.1, z.2.2.2.1, N', um, z.2.2.2.2.2.2.1, z.2.2.2.2.2.2.2.1, z.2.2.2.2.2.2.2.2.1, z.2.2.2.2.2.2.2.2.2.1, z.2.2.2.2.2.2.2.2.2.2.1, z.2.2.2.2.2.2.2.2.2.2.2)
/-- back -/
theorem HS.undo {g : GC} {σ τ : AH} {x b9 hb k9 h' : Nat} {z : KM} {ms : MM} {oa : Nat → Int64} {oD : Nat → UInt64} {bf dq da sv ou hq u sa cap : Nat} {ml : Int32} {e : Nat → Nat} {fs : Nat → Option Nat} {nv : Value} {W : WA} {Ws Vs : Nat → WA} {f : AF} {lp : List Int32} (hC : CPx g σ x b9 hb k9 z bf dq da sv ou hq u sa cap ml e fs nv W Ws Vs f lp) (hL : LC σ b9 ms oa oD) (w : wfh σ) (h0 : 0 < u) (hx : τ.1 x = some (lauC bf z.1 z.2.1 z.2.2.1 (.ref (e (u - 1))) dq sv ou)) (hd : DQ τ dq da h' (u - 1) e) (hfr : fra [x, dq, da] σ τ) (n : nw σ τ) : HS g τ x b9 hb (zUN z (wld z.2.2.2.2.2.2.1 (u - 1)) (nI (u - 1))) ms oa oD := by
  obtain ⟨k1, k2, k3⟩ := hC.keep w hfr.S
  obtain ⟨a0, h1, h2, h3, h4, h5, h6, ⟨u1, u2, u3, u4, u5⟩, h8, h9⟩ := hC
  obtain ⟨q1, q2, q3⟩ := u5 (u - 1) (by omega)
  rw [q1] at hx
  exact ⟨⟨k9, bf, dq, da, sv, ou, h', u - 1, sa, cap, ml, e, fs, _, Ws (u - 1), Ws, Vs, f, lp, a0, hx, h2, k1, h4, Or.inr ⟨u4 h0, rfl, q2.nw n⟩, q3, ⟨rfl, by omega, hd, fun q => u4 h0, fun i hi => ⟨(u5 i (by omega)).1, (u5 i (by omega)).2.1.nw n, (u5 i (by omega)).2.2⟩⟩, h8.tr k2 n, k3⟩, hL.fra hfr.S a0.l3⟩
/-- a saved world comes back -/
theorem HS.rest {g : GC} {σ τ : AH} {x b9 hb k9 h' s : Nat} {z : KM} {ms : MM} {oa : Nat → Int64} {oD : Nat → UInt64} {bf dq da sv ou hq u sa cap : Nat} {ml : Int32} {e : Nat → Nat} {fs : Nat → Option Nat} {nv : Value} {W : WA} {Ws Vs : Nat → WA} {f : AF} {lp : List Int32} (hC : CPx g σ x b9 hb k9 z bf dq da sv ou hq u sa cap ml e fs nv W Ws Vs f lp) (hL : LC σ b9 ms oa oD) (w : wfh σ) (hs : s < 2) (hi : ¬ z.2.2.2.2.2.2.2.1 s = 0) (hx : τ.1 x = some (lauC bf z.1 z.2.1 z.2.2.1 (.ref (wW (Vs s))) dq sv ou)) (hd : DQ τ dq da h' 0 e) (hfr : fra [x, dq, da] σ τ) (n : nw σ τ) : HS g τ x b9 hb (zUN z (wld z.2.2.2.2.2.2.2.2.1 s) 0) ms oa oD := by
  obtain ⟨k1, k2, k3⟩ := hC.keep w hfr.S
  obtain ⟨a0, h1, h2, h3, h4, h5, h6, ⟨u1, u2, u3, u4, u5⟩, h8, h9⟩ := hC
  rcases h8.2 s hs with q | ⟨q1, q2, q3, q4, q5⟩
  · exact absurd q.1 hi
  · exact ⟨⟨k9, bf, dq, da, sv, ou, h', 0, sa, cap, ml, e, fs, _, Vs s, Ws, Vs, f, lp, a0, hx, h2, k1, h4, Or.inr ⟨q2, rfl, q4.nw n⟩, q5, ⟨rfl, by omega, hd, fun q => absurd q (Nat.lt_irrefl 0), fun i hi => absurd hi (Nat.not_lt_zero i)⟩, h8.tr k2 n, k3⟩, hL.fra hfr.S a0.l3⟩
/-- the present world is saved -/
theorem HS.save {g : GC} {σ τ : AH} {x b9 hb k9 s : Nat} {z : KM} {ms : MM} {oa : Nat → Int64} {oD : Nat → UInt64} {bf dq da sv ou hq u sa cap : Nat} {ml : Int32} {e : Nat → Nat} {fs : Nat → Option Nat} {nv : Value} {W : WA} {Ws Vs : Nat → WA} {f : AF} {lp : List Int32} (hC : CPx g σ x b9 hb k9 z bf dq da sv ou hq u sa cap ml e fs nv W Ws Vs f lp) (hL : LC σ b9 ms oa oD) (w : wfh σ) (his : ¬ z.2.2.2.1 = 0) (hv : τ.1 sv = some (objA "FlagLaundry$World" 2 (va_up fs s (some (wW W))))) (k : kx sv σ τ) : HS g τ x b9 hb (z.1, z.2.1, z.2.2.1, z.2.2.2.1, z.2.2.2.2.1, z.2.2.2.2.2.1, z.2.2.2.2.2.2.1, va_up z.2.2.2.2.2.2.2.1 s 1, setWld z.2.2.2.2.2.2.2.2.1 z.2.2.2.2.1 s, z.2.2.2.2.2.2.2.2.2.1, z.2.2.2.2.2.2.2.2.2.2.1, z.2.2.2.2.2.2.2.2.2.2.2) ms oa oD := by
  obtain ⟨a0, h1, h2, h3, h4, h5, h6, h7, ⟨s1, s2⟩, hB, p3, p4⟩ := hC
  obtain ⟨a1, a2, a3, a4, a5, a6, a7⟩ := a0
  have hsv : ¬ isW (objA "FlagLaundry$World" 2 fs) := isW_ty ⟨by decide, by decide, by decide⟩
  have n : nw σ τ := nw.rf.kx w s1 hsv k
  have hRW : RW g σ W z.2.2.2.2.1 := by
    rcases h5 with q | ⟨_, _, q⟩
    · exact absurd q.1 his
    · exact q
  obtain ⟨d1, d2, d3, fd, d4, d5⟩ := h7.2.2.1
  refine ⟨⟨k9, bf, dq, da, sv, ou, hq, u, sa, cap, ml, e, _, nv, W, Ws, fun i => if i = s then W else Vs i, f, lp, ⟨a1, a2, a3, a4, a5, a6, a7⟩, k.at w h1 (ne_of h1 s1 ne_arr.symm), h2, k.at w h3 (ne_of h3 s1 (fun q => by simp at q)), h4, h5.tr n, h6, h7.tr ⟨d1, d2, k.at w d3 (ne_of d3 s1 ne_arr.symm), fd, k.at w d4 (ne_of d4 s1 (fun q => by simp at q)), d5⟩ n, ⟨hv, fun i hi => ?_⟩, CPp.tr ⟨hB, p3, p4⟩ (fun a c ha hc => ?_)⟩, hL.fr (fun a p q => k.2 a (by have := hL.2.2.2; omega) (by omega)) k.1⟩
  · by_cases c : i = s
    · subst c
      right
      have eV : (fun q => if q = i then W else Vs q) i = W := if_pos rfl
      refine ⟨by show ¬ va_up z.2.2.2.2.2.2.2.1 i 1 i = 0; rw [show va_up z.2.2.2.2.2.2.2.1 i 1 i = 1 from if_pos rfl]; decide, his, ?_, ?_, ?_⟩
      · rw [eV]; exact if_pos rfl
      · rw [eV]; exact (hRW.nw n).cg h6.1.1.1 (fun j hj => wld_set _ _ hj)
      · exact h6.cg (fun j hj => wld_set _ _ hj)
    · rcases s2 i hi with q | ⟨q1, q2, q3, q4, q5⟩
      · exact Or.inl ⟨(va_up_ne _ _ c).trans q.1, (va_up_ne _ _ c).trans q.2⟩
      · exact Or.inr ⟨by show ¬ va_up z.2.2.2.2.2.2.2.1 s 1 i = 0; rw [va_up_ne _ _ c]; exact q1, q2, by rw [show (fun q => if q = s then W else Vs q) i = Vs i from if_neg c]; exact (va_up_ne _ _ c).trans q3, by rw [show (fun q => if q = s then W else Vs q) i = Vs i from if_neg c]; exact (q4.nw n).cg q5.1.1.1 (fun j hj => wld_setN _ _ c hj), q5.cg (fun j hj => wld_setN _ _ c hj)⟩
  · rcases hc with hc | hc
    · subst hc; rw [hB.1] at ha; rw [← Option.some.inj ha]; exact k.at w hB.1 (ne_of hB.1 s1 ne_arr.symm)
    · subst hc; rw [hB.2.1] at ha; rw [← Option.some.inj ha]; exact k.at w hB.2.1 (ne_of hB.2.1 s1 (fun q => by simp at q))
/-- a text is read -/
theorem HS.load {g : GC} {σ τ : AH} {x b9 hb hb' k9 : Nat} {z : KM} {ms : MM} {oa : Nat → Int64} {oD : Nat → UInt64} {bf dq da sv ou hq u sa cap : Nat} {ml : Int32} {e : Nat → Nat} {fs : Nat → Option Nat} {nv : Value} {W : WA} {Ws Vs : Nat → WA} {f : AF} {lp : List Int32} {i : Int32} {R : PT} {w9 : Option Value} (hC : CPx g σ x b9 hb k9 z bf dq da sv ou hq u sa cap ml e fs nv W Ws Vs f lp) (hL : LC σ b9 ms oa oD) (w : wfh σ) (hm : LDQ g σ x bf dq da sv ou k9 fs e i R w9 τ) (hle : hb ≤ hb') (hN : NK hb' R.1) : HS g τ x b9 hb' (0, 0, -1, 1, R.1, 0, z.2.2.2.2.2.2.1, va_up (va_up z.2.2.2.2.2.2.2.1 0 0) 1 0, z.2.2.2.2.2.2.2.2.1, z.2.2.2.2.2.2.2.2.2.1, z.2.2.2.2.2.2.2.2.2.2.1, z.2.2.2.2.2.2.2.2.2.2.2) ms oa oD := by
  obtain ⟨-, -, -, W', h9, hx, hRW, -, hd, hs, hfr⟩ := hm
  obtain ⟨a0, h1, h2, h3, h4, h5, h6, h7, ⟨s1, s2⟩, hB, p3, p4⟩ := hC
  obtain ⟨d1, d2, d3, fd, d4, d5⟩ := h7.2.2.1
  have nl : ∀ a c, σ.1 a = some c → (∀ vs, ¬ c = .inr (.inl (0, vs))) → (∀ vs, ¬ c = .inr (.inl (11, vs))) → (∀ K v, ¬ c = .inl (.object K, v)) → ¬ a ∈ [x, dq, da, sv] := fun a c h n1 n2 n3 m => by
    simp only [List.mem_cons, List.not_mem_nil, or_false] at m
    rcases m with m | m | m | m
    · subst m; exact n1 _ (Option.some.inj (h.symm.trans h1))
    · subst m; exact n2 _ (Option.some.inj (h.symm.trans d3))
    · subst m; exact n3 _ _ (Option.some.inj (h.symm.trans d4))
    · subst m; exact n3 _ _ (Option.some.inj (h.symm.trans s1))
  obtain ⟨a1, a2, a3, a4, a5, a6, a7⟩ := a0
  have e0 : va_up (va_up z.2.2.2.2.2.2.2.1 0 0) 1 0 0 = 0 := (va_up_ne _ _ (by decide)).trans (if_pos rfl)
  have e1 : va_up (va_up z.2.2.2.2.2.2.2.1 0 0) 1 0 1 = 0 := if_pos rfl
  have g0 : va_up (va_up fs 0 none) 1 none 0 = none := (va_up_ne _ _ (by decide)).trans (if_pos rfl)
  have g1 : va_up (va_up fs 0 none) 1 none 1 = none := if_pos rfl
  refine ⟨⟨0, bf, dq, da, sv, ou, h9, 0, sa, cap, ml, e, _, _, W', Ws, Vs, f, lp, ⟨a1, a2, a3, a4, a5, a6, a7⟩, hx, ⟨rfl, Nat.zero_le _⟩, hfr.arr w h3 (nl _ _ h3 (fun _ q => by cases q) (fun _ q => by cases q) (fun _ _ q => by cases q)), h4, Or.inr ⟨(show ¬ (1 : Int32) = 0 by decide), rfl, hRW⟩, hN, ⟨rfl, by omega, hd, fun q => absurd q (Nat.lt_irrefl 0), fun i hi => absurd hi (Nat.not_lt_zero i)⟩, ⟨hs, fun s q => Or.inl ?_⟩, ⟨⟨?_, ?_, hB.2.2⟩, p3, p4⟩⟩, hL.fra hfr (fun a m => ?_)⟩
  · have : s = 0 ∨ s = 1 := by omega
    rcases this with rfl | rfl
    · exact ⟨e0, g0⟩
    · exact ⟨e1, g1⟩
  · exact hfr.cell w hB.1 (by decide) (nl _ _ hB.1 (fun _ q => by injection q with q; injection q with q; injection q with q _; cases q) (fun _ q => by injection q with q; injection q with q; injection q with q _; cases q) (fun _ _ q => by cases q))
  · exact hfr.arr w hB.2.1 (nl _ _ hB.2.1 (fun _ q => by cases q) (fun _ q => by cases q) (fun _ _ q => by cases q))
  · simp only [List.mem_cons, List.not_mem_nil, or_false] at m
    rcases m with m | m | m | m <;> subst m <;> left <;> assumption
/-- a text that is no good: the code and the place of the fault -/
theorem HS.loadX {g : GC} {σ τ : AH} {x b9 hb k9 : Nat} {z : KM} {ms : MM} {oa : Nat → Int64} {oD : Nat → UInt64} {bf dq da sv ou hq u sa cap : Nat} {ml : Int32} {e : Nat → Nat} {fs : Nat → Option Nat} {nv : Value} {W : WA} {Ws Vs : Nat → WA} {f : AF} {lp : List Int32} {pe ep : Int32} (hC : CPx g σ x b9 hb k9 z bf dq da sv ou hq u sa cap ml e fs nv W Ws Vs f lp) (hL : LC σ b9 ms oa oD) (w : wfh σ) (hx : τ.1 x = some (lauC bf 0 pe ep nv dq sv ou)) (hfr : frS [x] σ τ) : HS g τ x b9 hb (0, pe, ep, z.2.2.2) ms oa oD := by
  obtain ⟨k1, k2, k3⟩ := hC.keep w (hfr.sub (fun a m => by simp only [List.mem_cons, List.not_mem_nil, or_false] at m ⊢; exact Or.inl m))
  obtain ⟨a0, h1, h2, h3, h4, h5, h6, h7, h8, h9⟩ := hC
  have n : nw σ τ := ⟨hfr.1, fun a c p q => (hfr.2 a (w _ _ p) (fun m => by
    simp only [List.mem_cons, List.not_mem_nil, or_false] at m
    subst m
    rw [h1] at p
    rw [← Option.some.inj p] at q
    exact isW_no (by decide) q) (fun va hh zz r => by
    rw [r] at p
    rw [← Option.some.inj p] at q
    exact isW_no (by decide) q)).trans p⟩
  have hd : DQ τ dq da hq u e := h7.2.2.1.S hfr w (fun m => by
    simp only [List.mem_cons, List.not_mem_nil, or_false] at m
    obtain ⟨_, _, d3, _⟩ := h7.2.2.1
    exact ne_of d3 h1 (ne_cls (by decide)) m) (fun m => by
    simp only [List.mem_cons, List.not_mem_nil, or_false] at m
    obtain ⟨_, _, _, fd, d4, _⟩ := h7.2.2.1
    exact ne_of d4 h1 ne_arr m)
  exact ⟨⟨0, bf, dq, da, sv, ou, hq, u, sa, cap, ml, e, fs, nv, W, Ws, Vs, f, lp, a0, hx, ⟨rfl, Nat.zero_le _⟩, k1, h4, h5.tr n, h6, h7.tr hd n, h8.tr k2 n, k3⟩, hL.fra hfr (fun a m => by simp only [List.mem_cons, List.not_mem_nil, or_false] at m; subst m; exact Or.inl a0.1)⟩
/-- bytes more -/
theorem HS.app {g : GC} {σ τ : AH} {x b9 hb k9 k' : Nat} {z : KM} {ms : MM} {oa : Nat → Int64} {oD : Nat → UInt64} {bf dq da sv ou hq u sa cap : Nat} {ml : Int32} {e : Nat → Nat} {fs : Nat → Option Nat} {nv : Value} {W : WA} {Ws Vs : Nat → WA} {f B' : AF} {lp : List Int32} (hC : CPx g σ x b9 hb k9 z bf dq da sv ou hq u sa cap ml e fs nv W Ws Vs f lp) (hL : LC σ b9 ms oa oD) (w : wfh σ) (hx : τ.1 x = some (lauC bf (nI k') z.2.1 z.2.2.1 nv dq sv ou)) (hbf : τ.1 bf = some (bytA 500 B')) (hk : k' ≤ 500) (hB' : byt B') (hfr : fra [x, bf] σ τ) (n : nw σ τ) : HS g τ x b9 hb (nI k', z.2.1, z.2.2.1, z.2.2.2.1, z.2.2.2.2.1, z.2.2.2.2.2.1, z.2.2.2.2.2.2.1, z.2.2.2.2.2.2.2.1, z.2.2.2.2.2.2.2.2.1, B', z.2.2.2.2.2.2.2.2.2.2.1, z.2.2.2.2.2.2.2.2.2.2.2) ms oa oD := by
  obtain ⟨⟨a1, a2, a3, a4, a5, a6, a7⟩, h1, h2, h3, h4, h5, h6, h7, ⟨s1, s2⟩, hB, p3, p4⟩ := hC
  obtain ⟨d1, d2, d3, fd, d4, d5⟩ := h7.2.2.1
  have kp : ∀ a c, σ.1 a = some c → (¬ a = x) → (¬ a = bf) → τ.1 a = some c := fun a c h n1 n2 => hfr.at w h (by simp only [List.mem_cons, List.not_mem_nil, or_false]; exact fun q => q.elim n1 n2)
  refine ⟨⟨k', bf, dq, da, sv, ou, hq, u, sa, cap, ml, e, fs, nv, W, Ws, Vs, f, lp, ⟨a1, a2, a3, a4, a5, a6, a7⟩, hx, ⟨rfl, hk⟩, hbf, hB', h5.tr n, h6, h7.tr ⟨d1, d2, kp _ _ d3 (ne_of d3 h1 (ne_cls (by decide))) (ne_of d3 h3 ne_arr.symm), fd, kp _ _ d4 (ne_of d4 h1 ne_arr) (ne_of d4 h3 (fun q => by simp at q)), d5⟩ n, CPs.tr ⟨s1, s2⟩ (kp _ _ s1 (ne_of s1 h1 ne_arr) (ne_of s1 h3 (fun q => by simp at q))) n, ⟨⟨kp _ _ hB.1 (ne_of hB.1 h1 (ne_cls (by decide))) (ne_of hB.1 h3 ne_arr.symm), kp _ _ hB.2.1 (ne_of hB.2.1 h1 ne_arr) (ne_of hB.2.1 h3 ?_), hB.2.2⟩, p3, p4⟩⟩, hL.fra hfr.S (fun a m => ?_)⟩
  · intro q
    injection q with q
    injection q with _ q
    injection q with q _
    rcases hB.2.2.1 with c | c | c <;> omega
  · simp only [List.mem_cons, List.not_mem_nil, or_false] at m
    rcases m with m | m <;> subst m <;> left <;> assumption
/-! THE LAW 4: hours and orders -/
/-- hour, orders and what is in the tubs stay, or flags leave -/
def OS (N N' : AF) : Prop := N' 0 = N 0 ∧ N' 11 = N 11 ∧ nF N' = nF N ∧ ∀ f, fl N' f 8 = 1 → fl N f 8 = 1 ∧ fl N' f 10 = fl N f 10
theorem OS.rf {N : AF} : OS N N := ⟨rfl, rfl, rfl, fun _ h => ⟨h, rfl⟩⟩
theorem OS.tr {A B C : AF} (h : OS A B) (k : OS B C) : OS A C := ⟨k.1.trans h.1, k.2.1.trans h.2.1, k.2.2.1.trans h.2.2.1, fun f q => ⟨(h.2.2.2 f (k.2.2.2 f q).1).1, (k.2.2.2 f q).2.trans (h.2.2.2 f (k.2.2.2 f q).1).2⟩⟩
theorem OS_set (N : AF) (f : Nat) {k : Nat} (v : Int32) (h8 : ¬ k = 8) (h10 : ¬ k = 10) (hk : k < 11) : OS N (setFl N f k v) := by
  have q : ∀ f' j, ¬ (41 + 11 * f' + j = 41 + 11 * f + k) → fl (setFl N f k v) f' j = fl N f' j := fun f' j h => va_up_ne _ _ h
  refine ⟨va_up_ne _ _ (by omega), va_up_ne _ _ (by omega), by unfold nF; rw [show setFl N f k v 10 = N 10 from va_up_ne _ _ (by omega)], fun f' h => ?_⟩
  rw [q f' 8 (by omega)] at h
  exact ⟨h, q f' 10 (by omega)⟩
theorem OS_goTo (N : AF) (f : Nat) {w : Int32} (hw : ¬ w = 1) (a : Int32) : OS N (goTo N f w a) := by
  refine ⟨hdr_goTo N f w a 0 (by decide), hdr_goTo N f w a 11 (by decide), (hdr_goTo N f w a).nFe, fun f' h => ?_⟩
  have q : ∀ j, j < 11 → ¬ (f' = f ∧ (j = 8 ∨ j = 9)) → fl (goTo N f w a) f' j = fl N f' j := fun j hj h => (va_up_ne _ _ (by omega)).trans (va_up_ne _ _ (by omega))
  by_cases c : f' = f
  · exfalso
    subst c
    have e : fl (goTo N f' w a) f' 8 = w := (va_up_ne _ _ (by omega)).trans (if_pos rfl)
    rw [e] at h
    exact hw h
  · exact ⟨by rw [← q 8 (by decide) (fun z => c z.1)]; exact h, q 10 (by decide) (fun z => c z.1)⟩
theorem OS_va (N : AF) {j : Nat} (v : Int32) (h : j < 41) (h0 : ¬ j = 0) (h10 : ¬ j = 10) (h11 : ¬ j = 11) : OS N (va_up N j v) := by
  refine ⟨va_up_ne _ _ (by omega), va_up_ne _ _ (by omega), by unfold nF; rw [va_up_ne _ _ (by omega)], fun f q => ?_⟩
  rw [fl_va _ h] at q ⊢
  exact ⟨q, rfl⟩
def HO (hb : Nat) (N : AF) : Prop := (∃ x, x ≤ hb ∧ N 0 = nI x) ∧ ORD hb N
theorem HO.os {hb : Nat} {N N' : AF} (h : HO hb N) (k : OS N N') : HO hb N' := by
  obtain ⟨⟨x, hx, e⟩, c, h1, h2, h3, h4⟩ := h
  obtain ⟨k0, k1, k2, k3⟩ := k
  refine ⟨⟨x, hx, k0.trans e⟩, c, h1, k1.trans h2, fun f hf q => ?_, fun f f' hf hf' q q' r => ?_⟩
  · rw [k2] at hf
    rw [(k3 f q).2]
    exact h3 f hf (k3 f q).1
  · rw [k2] at hf hf'
    rw [(k3 f q).2, (k3 f' q').2] at r
    exact h4 f f' hf hf' (k3 f q).1 (k3 f' q').1 r
theorem HO.le {a b : Nat} {N : AF} (h : HO a N) (k : a ≤ b) : HO b N := by
  obtain ⟨⟨x, hx, e⟩, h2⟩ := h
  exact ⟨⟨x, Nat.le_trans hx k, e⟩, h2.le k⟩
theorem HO.hour {hb : Nat} {N : AF} (h : HO hb N) : HO (hb + 1) (va_up N 0 (N 0 + 1)) := by
  obtain ⟨⟨x, hx, e⟩, c, h1, h2, h3, h4⟩ := h
  have eF : nF (va_up N 0 (N 0 + 1)) = nF N := by unfold nF; rw [va_up_ne _ _ (by decide)]
  refine ⟨⟨x + 1, by omega, (if_pos rfl).trans (by rw [e, nI_succ])⟩, c, by omega, (va_up_ne _ _ (by decide)).trans h2, fun f hf q => ?_, fun f f' hf hf' q q' r => ?_⟩
  · rw [eF] at hf; rw [fl_va _ (by decide)] at q ⊢; exact h3 f hf q
  · rw [eF] at hf hf'; rw [fl_va _ (by decide)] at q q'; rw [fl_va _ (by decide), fl_va _ (by decide)] at r; exact h4 f f' hf hf' q q' r
theorem HO_put {hb : Nat} {N : AF} (h : HO hb N) (hhb : hb < 2 ^ 30) (f : Nat) (t : Int32) : HO (hb + 1) (putIn N f t) := by
  obtain ⟨⟨x, hx, e⟩, c, h1, h2, h3, h4⟩ := h
  obtain ⟨u1, u2, u3⟩ := upF_put N f t
  have eF : nF (putIn N f t) = nF N := by unfold nF; rw [show putIn N f t 10 = N 10 from (va_up_ne _ _ (by decide)).trans (u1 10 (by decide))]
  have v1 : ∀ j, j < 11 → fl (putIn N f t) f j = plF (fl N f) 1 t (N 11) j := fun j hj => (fl_va _ (by decide) _ _ _).trans (u2 j hj)
  have v2 : ∀ i j, ¬ i = f → j < 11 → fl (putIn N f t) i j = fl N i j := fun i j hi hj => (fl_va _ (by decide) _ _ _).trans (u3 i j hi hj)
  have v10 : fl (putIn N f t) f 10 = nI c := (v1 10 (by decide)).trans h2
  refine ⟨⟨x, by omega, ((va_up_ne _ _ (by decide)).trans (u1 0 (by decide))).trans e⟩, c + 1, by omega, ?_, fun i hi q => ?_, fun i i' hi hi' q q' r => ?_⟩
  · have e2 : setFl (goTo N f 1 t) f 10 (goTo N f 1 t 11) 11 = N 11 := u1 11 (by decide)
    unfold putIn
    rw [up_at, e2, h2, nI_succ]
  · rw [eF] at hi
    by_cases c9 : i = f
    · subst c9; exact ⟨c, by omega, v10⟩
    · rw [v2 i 8 c9 (by decide)] at q
      rw [v2 i 10 c9 (by decide)]
      obtain ⟨k, hk, ek⟩ := h3 i hi q
      exact ⟨k, by omega, ek⟩
  · rw [eF] at hi hi'
    by_cases c9 : i = f
    · by_cases c8 : i' = f
      · rw [c9, c8]
      · exfalso
        rw [c9, v10, v2 i' 10 c8 (by decide)] at r
        rw [v2 i' 8 c8 (by decide)] at q'
        obtain ⟨k, hk, ek⟩ := h3 i' hi' q'
        rw [ek] at r
        have := (nI_eqi (by omega) (by omega)).mp r
        omega
    · by_cases c8 : i' = f
      · exfalso
        rw [c8, v10, v2 i 10 c9 (by decide)] at r
        rw [v2 i 8 c9 (by decide)] at q
        obtain ⟨k, hk, ek⟩ := h3 i hi q
        rw [ek] at r
        have := (nI_eqi (by omega) (by omega)).mp r
        omega
      · rw [v2 i 8 c9 (by decide)] at q
        rw [v2 i' 8 c8 (by decide)] at q'
        rw [v2 i 10 c9 (by decide), v2 i' 10 c8 (by decide)] at r
        exact h4 i i' hi hi' q q' r
theorem OS_wsh (N : AF) (t r h : Int32) (n : Nat) : OS N (wsh N t r h n) := by
  induction n with
  | zero => exact OS.rf
  | succ n ih =>
    show OS N (if inTub (wsh N t r h n) n t then washF (wsh N t r h n) n r h else wsh N t r h n)
    split
    · refine ih.tr ?_
      refine OS.tr ?_ (OS_goTo _ _ (by decide) _)
      unfold wa4 wa3 wa2 wa1
      exact (OS_set _ _ _ (by decide) (by decide) (by decide)).tr ((OS_set _ _ _ (by decide) (by decide) (by decide)).tr ((OS_set _ _ _ (by decide) (by decide) (by decide)).tr (OS_set _ _ _ (by decide) (by decide) (by decide))))
    · exact ih
theorem OS_wash (N : AF) (t h : Int32) : OS N (washN N t h) := (OS_wsh N t _ h _).tr (OS_va _ _ (by decide) (by decide) (by decide) (by decide))
theorem OS_dry (N : AF) (n : Nat) : OS N (dryU N n) := by
  induction n with
  | zero => exact OS.rf
  | succ n ih =>
    refine ih.tr ?_
    show OS (dryU N n) (dry1 (dryU N n) n)
    unfold dry1
    split
    · exact OS_set _ _ _ (by decide) (by decide) (by decide)
    · exact OS.rf
theorem OS_fall (N : AF) : OS N (fallN N) := by
  unfold fallN
  split
  · exact OS.rf
  · split
    · exact OS.rf
    · unfold fallAt
      exact (OS_goTo _ _ (by decide) _).tr ((OS_set _ _ _ (by decide) (by decide) (by decide)).tr (OS_va _ _ (by decide) (by decide) (by decide) (by decide)))
theorem HO_pass {hb : Nat} {N : AF} (h : HO hb N) : HO (hb + 1) (passN N) := ((h.os (OS_dry N (nF N))).os (OS_fall _)).hour
theorem HO_itr {hb : Nat} {N : AF} (h : HO hb N) : ∀ k, HO (hb + k) (itr passN N k)
  | 0 => h
  | k + 1 => HO_pass (HO_itr h k)
theorem OS_leU (N : AF) (n : Int32) (k : Nat) : OS N (leU N n k) := by
  induction k with
  | zero => exact OS.rf
  | succ k ih =>
    show OS N (if fl (leU N n k) k 0 = n then goTo (leU N n k) k 3 (-1) else leU N n k)
    split
    · exact ih.tr (OS_goTo _ _ (by decide) _)
    · exact ih
theorem OS_clU (N : AF) (t : Int32) (k : Nat) : OS N (clU N t k) := by
  induction k with
  | zero => exact OS.rf
  | succ k ih =>
    show OS N (if inTub (clU N t k) k t then goTo (clU N t k) k 0 (-1) else clU N t k)
    split
    · exact ih.tr (OS_goTo _ _ (by decide) _)
    · exact ih
theorem OS_haU (N : AF) (k : Nat) : OS N (haU N k) := by
  induction k with
  | zero => exact OS.rf
  | succ k ih =>
    show OS N (if haP (haU N k) k then goTo (haU N k) k 2 (freeN (haU N k)) else haU N k)
    split
    · exact ih.tr (OS_goTo _ _ (by decide) _)
    · exact ih
theorem OS_iron (N : AF) (f : Nat) (h : Int32) : OS N (ironN N f h) := by
  unfold ironN iron1
  exact (OS_set _ _ _ (by decide) (by decide) (by decide)).tr (OS_set _ _ _ (by decide) (by decide) (by decide))
theorem OS_bl (N : AF) (f : Nat) : OS N (blN N f) := by
  unfold blN
  exact (OS_set _ _ _ (by decide) (by decide) (by decide)).tr (OS_set _ _ _ (by decide) (by decide) (by decide))
theorem OS_ho (N : AF) {n : Nat} (hn : n < 4) : OS N (hoN N n) := by
  unfold hoN ho4 ho3 ho2 ho1 setNa
  exact ((OS_va _ _ (by decide) (by decide) (by decide) (by decide)).tr ((OS_va _ _ (by decide) (by decide) (by decide) (by decide)).tr ((OS_va _ _ (by omega) (by omega) (by omega) (by omega)).tr (OS_va _ _ (by omega) (by omega) (by omega) (by omega))))).tr (OS_leU _ _ _)
theorem HO_add {hb : Nat} {N : AF} (h : HO hb N) (hW : WFc N) (hk : nF N < 12) (n o c d : Int32) : HO hb (addN N n o c d) := by
  obtain ⟨⟨x, hx, e⟩, c', h1, h2, h3, h4⟩ := h
  have eF := (wfc_add hW hk n o c d).2
  have v1 : fl (addN N n o c d) (nF N) 8 = 0 := (addN_F N n o c d (by decide)).trans rfl
  have v2 : ∀ i j, ¬ i = nF N → j < 11 → fl (addN N n o c d) i j = fl N i j := fun i j hi hj => addN_fl N n o c d hi hj
  refine ⟨⟨x, hx, (addN_h N n o c d (by decide) (by decide)).trans e⟩, c', h1, (addN_h N n o c d (by decide) (by decide)).trans h2, fun i hi q => ?_, fun i i' hi hi' q q' r => ?_⟩
  · rw [eF] at hi
    have c9 : ¬ i = nF N := fun e => by rw [e, v1] at q; exact absurd q (by decide)
    rw [v2 i 8 c9 (by decide)] at q
    rw [v2 i 10 c9 (by decide)]
    exact h3 i (by omega) q
  · rw [eF] at hi hi'
    have c9 : ¬ i = nF N := fun e => by rw [e, v1] at q; exact absurd q (by decide)
    have c8 : ¬ i' = nF N := fun e => by rw [e, v1] at q'; exact absurd q' (by decide)
    rw [v2 i 8 c9 (by decide)] at q
    rw [v2 i' 8 c8 (by decide)] at q'
    rw [v2 i 10 c9 (by decide), v2 i' 10 c8 (by decide)] at r
    exact h4 i i' (by omega) (by omega) q q' r
theorem NK.ho {hb : Nat} {N : AF} (h : NK hb N) : HO hb N := ⟨h.1.2.2, h.2⟩
theorem NK.of {hb : Nat} {N N' : AF} (hd : WFd N') (hw : WFw N) (h1 : N' 1 = N 1) (ho : HO hb N') : NK hb N' := by
  obtain ⟨y, hy, e⟩ := hw
  exact ⟨⟨hd, ⟨y, hy, h1.trans e⟩, ho.1⟩, ho.2⟩
theorem ok_ix {v M : Int32} {n : Nat} (hM : M = nI n) (hn : n ≤ 1000) (h : inR v 0 (M - 1)) : ∃ j, j < n ∧ v = nI j ∧ ix v = j := by
  obtain ⟨j, hj, e⟩ := in_ex hM hn h
  exact ⟨j, hj, e, by rw [e]; exact ixn (by omega)⟩
theorem n_put {hb : Nat} {N : AF} {is f t : Int32} {q : Int32} (h : NK hb N) (hhb : hb < 2 ^ 30) (hT : mayT is (bi (okF is N f ∧ okT is N t)) q = 0) : NK (hb + 13000) (putIn N (ix f) t) := by
  obtain ⟨⟨_, h1⟩, ⟨_, h2⟩⟩ := bi_ne0.mp (mayT_0.mp hT).2.1
  have hW := h.1.1.1
  obtain ⟨j, hj, e, ej⟩ := ok_ix hW.2.2.2.2.1 (Nat.le_trans hW.2.2.2.2.2 (by decide)) h1
  obtain ⟨k, hk, e2, ek⟩ := ok_ix hW.2.2.1.1 (Nat.le_trans hW.2.2.1.2 (by decide)) h2
  rw [ej, e2]
  exact NK.of (WFd_put h.1.1 hj hk) h.1.2.1 (((va_up_ne _ _ (by decide)).trans ((upF_put N j (nI k)).1 1 (by decide)))) ((HO_put h.ho hhb j (nI k)).le (by omega))
theorem n_wash {hb : Nat} {N : AF} {is t h9 q : Int32} {p : Prop} [Decidable p] (h : NK hb N) (hT : mayT is q (bi (okT is N t ∧ inR h9 0 3 ∧ p)) = 0) : NK (hb + 13000) (washN N t h9) := by
  obtain ⟨_, h1, _⟩ := bi_ne0.mp (mayT_0.mp hT).2.2
  obtain ⟨k, hk, e⟩ := hk_ex h1
  rw [e]
  exact NK.of (WFd_wash h.1.1 (Nat.lt_succ_of_le hk)) h.1.2.1 ((va_up_ne _ _ (by decide)).trans (hdr_wsh N t _ _ _ 1 (by decide))) ((h.ho.os (OS_wash N t (nI k))).le (by omega))
theorem n_hang {hb : Nat} {N : AF} {is f q : Int32} (h : NK hb N) (hT : mayT is q (bi (okF is N f ∧ canHangN N (ix f))) = 0) : NK (hb + 13000) (goTo N (ix f) 2 (freeN N)) := by
  obtain ⟨⟨_, h1⟩, _, h3⟩ := bi_ne0.mp (mayT_0.mp hT).2.2
  have hW := h.1.1.1
  obtain ⟨j, hj, e, ej⟩ := ok_ix hW.2.2.2.2.1 (Nat.le_trans hW.2.2.2.2.2 (by decide)) h1
  rw [ej]
  exact NK.of (WFd_hang h.1.1 hj h3) h.1.2.1 (hdr_goTo _ _ _ _ 1 (by decide)) ((h.ho.os (OS_goTo _ _ (by decide) _)).le (by omega))
theorem n_hangAll {hb : Nat} {N : AF} (h : NK hb N) : NK (hb + 13000) (haU N (nF N)) := NK.of (WFd_haU h.1.1 _ (Nat.le_refl _)) h.1.2.1 (hdr_haU N _ 1 (by decide)) ((h.ho.os (OS_haU N _)).le (by omega))
theorem n_takeDown {hb : Nat} {N : AF} {is f q : Int32} {p : Prop} [Decidable p] (h : NK hb N) (hT : mayT is q (bi (okF is N f ∧ p)) = 0) : NK (hb + 13000) (goTo N (ix f) 0 (-1)) := by
  obtain ⟨⟨_, h1⟩, _⟩ := bi_ne0.mp (mayT_0.mp hT).2.2
  have hW := h.1.1.1
  obtain ⟨j, hj, e, ej⟩ := ok_ix hW.2.2.2.2.1 (Nat.le_trans hW.2.2.2.2.2 (by decide)) h1
  rw [ej]
  exact NK.of (WFd_goTo h.1.1 hj (Or.inl ⟨rfl, rfl⟩)) h.1.2.1 (hdr_goTo _ _ _ _ 1 (by decide)) ((h.ho.os (OS_goTo _ _ (by decide) _)).le (by omega))
theorem n_clearTub {hb : Nat} {N : AF} {t : Int32} (h : NK hb N) : NK (hb + 13000) (clU N t (nF N)) := NK.of (WFd_clU h.1.1 t _ (Nat.le_refl _)) h.1.2.1 (hdr_clU N t _ 1 (by decide)) ((h.ho.os (OS_clU N t _)).le (by omega))
theorem n_iron {hb : Nat} {N : AF} {is f h9 q : Int32} {p : Prop} [Decidable p] (h : NK hb N) (hT : mayT is q (bi (okF is N f ∧ inR h9 0 3 ∧ p)) = 0) : NK (hb + 13000) (ironN N (ix f) h9) := by
  obtain ⟨⟨_, h1⟩, h2, _⟩ := bi_ne0.mp (mayT_0.mp hT).2.2
  have hW := h.1.1.1
  obtain ⟨j, hj, e, ej⟩ := ok_ix hW.2.2.2.2.1 (Nat.le_trans hW.2.2.2.2.2 (by decide)) h1
  obtain ⟨k, hk, ek⟩ := hk_ex h2
  rw [ej, ek]
  exact NK.of (WFd_iron h.1.1 hj (Nat.lt_succ_of_le hk)).1 h.1.2.1 ((WFd_iron h.1.1 hj (Nat.lt_succ_of_le hk)).2.1 1 (by decide)) ((h.ho.os (OS_iron N j (nI k))).le (by omega))
theorem n_bleach {hb : Nat} {N : AF} {is f q : Int32} {p : Prop} [Decidable p] (h : NK hb N) (hT : mayT is q (bi (okF is N f ∧ p)) = 0) : NK (hb + 13000) (blN N (ix f)) := by
  obtain ⟨⟨_, h1⟩, _⟩ := bi_ne0.mp (mayT_0.mp hT).2.2
  have hW := h.1.1.1
  obtain ⟨j, hj, e, ej⟩ := ok_ix hW.2.2.2.2.1 (Nat.le_trans hW.2.2.2.2.2 (by decide)) h1
  rw [ej]
  exact NK.of (WFd_bl h.1.1 hj) h.1.2.1 (by unfold blN setFl; rw [va_up_ne _ _ (by omega), va_up_ne _ _ (by omega)]) ((h.ho.os (OS_bl N j)).le (by omega))
theorem n_handOver {hb : Nat} {N : AF} {is n q : Int32} {p : Prop} [Decidable p] (h : NK hb N) (hT : mayT is q (bi (okN is N n ∧ p)) = 0) : NK (hb + 13000) (hoN N (ix n)) := by
  obtain ⟨⟨_, h1⟩, _⟩ := bi_ne0.mp (mayT_0.mp hT).2.2
  have hW := h.1.1.1
  obtain ⟨j, hj, e, ej⟩ := ok_ix hW.2.1.1 (Nat.le_trans hW.2.1.2 (by decide)) h1
  rw [ej]
  have h4 : j < 4 := Nat.lt_of_lt_of_le hj hW.2.1.2
  exact NK.of (WFd_leU (WFd_ho h.1.1 hj) (nI j) (nF (ho4 N j)) (Nat.le_refl _)) h.1.2.1 ((hdr_leU _ _ _ 1 (by decide)).trans (by unfold ho4 ho3 ho2 ho1 setNa; rw [va_up_ne _ _ (by omega), va_up_ne _ _ (by omega), va_up_ne _ _ (by decide), va_up_ne _ _ (by decide)])) ((h.ho.os (OS_ho N h4)).le (by omega))
theorem n_pass {hb : Nat} {N : AF} {is h9 q : Int32} (h : NK hb N) (hT : mayT is (bi (inR h9 1 50)) q = 0) : NK (hb + 13000) (itr passN N (ix h9)) := by
  obtain ⟨k, hk, e⟩ := in1_e2 (n := 50) (by decide) (bi_ne0.mp (mayT_0.mp hT).2.1)
  rw [show ix h9 = k by rw [e]; exact ixn (by omega)]
  exact NK.of (WFd_passI h.1.1 h.1.2.1 k).1 h.1.2.1 (WFd_passI h.1.1 h.1.2.1 k).2 ((HO_itr h.ho k).le (by omega))
theorem n_setWind {hb : Nat} {N : AF} {is v q : Int32} (h : NK hb N) (hT : mayT is (bi (inR v 0 9)) q = 0) : NK (hb + 13000) (va_up N 1 v) := by
  obtain ⟨k, hk, e⟩ := in6_ex (n := 9) (by decide) (bi_ne0.mp (mayT_0.mp hT).2.1)
  have ho := (h.ho.os (OS_va N v (by decide : 1 < 41) (by decide) (by decide) (by decide))).le (show hb ≤ hb + 13000 by omega)
  exact ⟨⟨WFd_1 h.1.1 v, ⟨k, hk, (if_pos rfl).trans e⟩, ho.1⟩, ho.2⟩
theorem WFd_add {N : AF} (hd : WFd N) (hk : nF N < 12) {n o c d : Int32} (hn : ∃ i, i < nN N ∧ n = nI i) (ho : ∃ i, i < 64 ∧ o = nI i) (hc : ∃ i, i ≤ 3 ∧ c = nI i) (hd9 : ∃ i, i ≤ 9 ∧ d = nI i) : WFd (addN N n o c d) := by
  have hw := hd.1
  have q : ∀ j, j < 41 → ¬ j = 10 → addN N n o c d j = N j := fun j a b => addN_h N n o c d a b
  have e6 : nC (addN N n o c d) = nC N := by unfold nC; rw [q 6 (by decide) (by decide)]
  have e7 : nN (addN N n o c d) = nN N := by unfold nN; rw [q 7 (by decide) (by decide)]
  have e8 : nT (addN N n o c d) = nT N := by unfold nT; rw [q 8 (by decide) (by decide)]
  have e9 : nP (addN N n o c d) = nP N := by unfold nP; rw [q 9 (by decide) (by decide)]
  refine ⟨(wfc_add hw hk n o c d).1, fun f hf => ?_⟩
  rw [(wfc_add hw hk n o c d).2] at hf
  by_cases e : f = nF N
  · subst e
    have F : ∀ k, k < 11 → fl (addN N n o c d) (nF N) k = adF n o c d k := fun k hk => addN_F N n o c d hk
    refine ⟨?_, ?_, ?_, ?_, ?_, ?_, ?_, Or.inl ⟨(F 8 (by decide)).trans rfl, (F 9 (by decide)).trans rfl⟩⟩
    · rw [e7, F 0 (by decide)]; exact hn
    · rw [F 1 (by decide)]; exact ho
    · rw [F 2 (by decide)]; exact hc
    · rw [F 3 (by decide)]; exact hd9
    · rw [F 4 (by decide)]; exact ⟨0, by decide, rfl⟩
    · rw [F 5 (by decide)]; exact ⟨0, by decide, rfl⟩
    · rw [F 6 (by decide)]; exact ⟨0, Nat.two_pow_pos _, rfl⟩
  · exact (hd.2 f (by omega)).up (Nat.le_of_eq e7.symm) (Nat.le_of_eq e6.symm) (Nat.le_of_eq e8.symm) e9 (fun k hk => addN_fl N n o c d e hk)
theorem shT : ∀ c, c ≤ 6 → ((1 : Int32) <<< (nI c &&& 31)) - 1 = nI (2 ^ c - 1) ∧ 2 ^ c - 1 < 64 := by decide +kernel
theorem n_addFlag {hb : Nat} {N : AF} {is n o c d q : Int32} {p : Prop} [Decidable p] (h : NK hb N) (hT : mayT is q (bi (okN is N n ∧ inR o 1 ((1 <<< (N 6 &&& 31)) - 1) ∧ inR c 0 3 ∧ inR d 0 9 ∧ p ∧ ¬ 12 ≤ N 10)) = 0) : NK (hb + 13000) (addN N n o c d) := by
  obtain ⟨⟨_, h1⟩, h2, h3, h4, _, h6⟩ := bi_ne0.mp (mayT_0.mp hT).2.2
  have hW := h.1.1.1
  obtain ⟨j, hj, e, ej⟩ := ok_ix hW.2.1.1 (Nat.le_trans hW.2.1.2 (by decide)) h1
  have hk : nF N < 12 := by
    rw [hW.2.2.2.2.1] at h6
    exact Nat.lt_of_not_le (fun q => h6 ((nI_lei (by decide : 12 < 2 ^ 31) (by have := hW.2.2.2.2.2; omega)).mpr q))
  rw [hW.1.1, (shT _ hW.1.2).1] at h2
  obtain ⟨k2, hk2, e2⟩ := in1_e2 (by have := (shT _ hW.1.2).2; omega) h2
  obtain ⟨k4, hk4, e4⟩ := in6_ex (n := 9) (by decide) h4
  exact NK.of (WFd_add h.1.1 hk ⟨j, hj, e⟩ ⟨k2, by have := (shT _ hW.1.2).2; omega, e2⟩ (hk_ex h3) ⟨k4, hk4, e4⟩) h.1.2.1 (addN_h N n o c d (by decide) (by decide)) ((HO_add h.ho hW hk n o c d).le (by omega))
-- what a text leaves
theorem OS_co {N : AF} (hW : WFc N) (v : Int32) : OS N (coN N v) := by
  have hC := hW.1.2
  unfold coN
  exact (OS_va _ _ (by omega) (by omega) (by omega) (by omega)).tr (OS_va _ _ (by decide) (by decide) (by decide) (by decide))
theorem OS_tu {N : AF} (hW : WFc N) (hk : ¬ N 8 = 3) (v : Int32) : OS N (tuN N v) := by
  have hT : nT N < 3 := Nat.lt_of_le_of_ne hW.2.2.1.2 (fun e => hk (by rw [hW.2.2.1.1, e]; decide))
  unfold tuN
  exact (OS_va _ _ (by omega) (by omega) (by omega) (by omega)).tr (OS_va _ _ (by decide) (by decide) (by decide) (by decide))
theorem OS_nan {N : AF} (hW : WFc N) (a b c : Int32) : OS N (nanN N a b c) := by
  have hT := hW.2.1.2
  unfold nanN setNa
  exact (((OS_va _ _ (by omega) (by omega) (by omega) (by omega)).tr (OS_va _ _ (by omega) (by omega) (by omega) (by omega))).tr (OS_va _ _ (by omega) (by omega) (by omega) (by omega))).tr (OS_va _ _ (by decide) (by decide) (by decide) (by decide))
theorem HO_okS {hb : Nat} {p : PT} {N' : AF} (h : HO hb p.1) (hN : p.2.2.2.2.2.1 ≤ 0 → HO hb N') : HO hb (okS N' p).1 := by
  unfold okS
  split
  · exact hN ‹_›
  · exact h
theorem HO_co {hb n : Nat} {B : AF} {p : PT} (h : HO hb p.1) (hp : pOK n p) : HO hb (coS B n p).1 := by
  refine HO_okS (by rw [nu_1, bg_1]; exact h) (fun _ => ?_)
  rw [nu_1, bg_1]
  exact h.os (OS_co hp.2.2.2 _)
theorem HO_tu {hb n : Nat} {B : AF} {p : PT} (h : HO hb p.1) (hp : pOK n p) : HO hb (tuS B n p).1 := by
  refine HO_okS (by rw [nu_1, bg_1]; exact h) (fun h9 => ?_)
  have hk := bg_ne (nu_le h9)
  rw [nu_1, bg_1]
  exact h.os (OS_tu hp.2.2.2 hk _)
theorem HO_na {hb n : Nat} {B : AF} {p : PT} (h : HO hb p.1) (hp : pOK n p) : HO hb (naS B n p).1 := by
  refine HO_okS (by rw [na4_1]; exact h) (fun _ => ?_)
  rw [na4_1]
  exact h.os (OS_nan hp.2.2.2 _ _ _)
theorem HO_fg {hb n : Nat} {B : AF} {p : PT} (h : HO hb p.1) (hp : pOK n p) : HO hb (fgS B n p).1 := by
  unfold fgS
  split
  · rename_i h9
    show HO hb (addN _ _ _ _ _)
    rw [fg5_1]
    exact HO_add h hp.2.2.2 (nF_12 hp.2.2.2 (fg5_ne (le_of0 h9))) _ _ _ _
  · rw [fg5_1]; exact h
theorem pu3_1 (B : AF) (n : Nat) (p : PT) : (pu3 B n p).1 = p.1 := by
  have e : (pu2 B n p).1 = p.1 := by rw [pu2, nh_1, pu1, nu_1, goes_1]
  unfold pu3
  split
  · rw [flt_1, e]
  · exact e
theorem HO_pu {hb n : Nat} {B : AF} {p : PT} (h : HO hb p.1) (hhb : hb < 2 ^ 30) : HO (hb + 1) (puS B n p).1 := by
  unfold puS
  rw [goes_1]
  split
  · show HO (hb + 1) (putIn _ _ _)
    rw [pu3_1]
    exact HO_put h hhb _ _
  · rw [pu3_1]; exact h.le (by omega)
theorem HO_wa {hb n : Nat} {B : AF} {p : PT} (h : HO hb p.1) : HO hb (waS B n p).1 := by
  have e2 : (wa_2 B n p).1 = p.1 := by rw [wa_2, nh_1, wa_1, nu_1, goes_1]
  have e : (wa_3 B n p).1 = p.1 := by
    unfold wa_3
    split
    · rw [flt_1, e2]
    · exact e2
  unfold waS
  split
  · rw [goes_1]
    show HO hb (washN _ _ _)
    rw [e]
    exact h.os (OS_wash _ _ _)
  · rw [e]; exact h
theorem HO_ha {hb n : Nat} {B : AF} {p : PT} (h : HO hb p.1) : HO hb (haS B n p).1 := by
  have e2 : (ha1 B n p).1 = p.1 := by rw [ha1, nh_1, goes_1]
  have e : (ha2 B n p).1 = p.1 := by
    unfold ha2
    split
    · rw [flt_1, e2]
    · exact e2
  unfold haS
  rw [goes_1]
  split
  · show HO hb (goTo _ _ _ _)
    rw [e]
    exact h.os (OS_goTo _ _ (by decide) _)
  · rw [e]; exact h
theorem HO_wi {hb n : Nat} {B : AF} {p : PT} (h : HO hb p.1) : HO hb (wiS B n p).1 := by
  have e : (nuS B n 0 9 (goesS B n p)).1 = p.1 := by rw [nu_1, goes_1]
  unfold wiS
  split
  · show HO hb (va_up _ 1 _)
    rw [e]
    exact h.os (OS_va _ _ (by decide) (by decide) (by decide) (by decide))
  · rw [e]; exact h
theorem HO_pa {hb n : Nat} {B : AF} {p : PT} (h : HO hb p.1) : HO (hb + 50) (paS B n p).1 := by
  have e : (nuS B n 1 50 (goesS B n p)).1 = p.1 := by rw [nu_1, goes_1]
  unfold paS
  split
  · rename_i h9
    show HO (hb + 50) (itr passN _ _)
    rw [e]
    obtain ⟨k, hk, ek⟩ := in1_e2 (n := 50) (by decide) (nu_in h9).1
    rw [show ix (nhV 1 50 (goesS B n p)) = k by rw [ek]; exact ixn (by omega)]
    exact (HO_itr h k).le (by omega)
  · rw [e]; exact h.le (by omega)
theorem HO_th {hb n : Nat} {B : AF} {p : PT} (h : HO hb p.1) (hp : pOK n p) (hhb : hb < 2 ^ 30) : HO (hb + 50) (thS B n p).1 := by
  unfold thS deS
  split; exact (HO_co h hp).le (by omega)
  split; exact (HO_na h hp).le (by omega)
  split; exact (HO_tu h hp).le (by omega)
  split; exact (HO_fg h hp).le (by omega)
  split; exact (HO_pu h hhb).le (by omega)
  split; exact (HO_wa h).le (by omega)
  split; exact (HO_ha h).le (by omega)
  split; exact (HO_wi h).le (by omega)
  split; exact HO_pa h
  rw [flt_1]
  exact h.le (by omega)
theorem HO_li {hb n : Nat} {B : AF} {p : PT} (h : HO hb p.1) (hp : pOK n p) (k : Nat) (hk : hb + 50 * k < 2 ^ 30) : HO (hb + 50 * k) (liU B n p k).1 := by
  induction k with
  | zero => rw [liU_0]; exact h
  | succ k ih =>
    have h1 := ih (by omega)
    rw [liU_s]
    have h2 : HO (hb + 50 * k) (goesS B n (liU B n p k)).1 := by rw [goes_1]; exact h1
    exact (HO_th h2 (goes_ok (li_ok hp k)) (by omega)).le (by omega)
theorem te1_1 (B : AF) (n : Nat) (p : PT) : (te1 B n p).1 = p.1 := by
  unfold te1
  rw [goes_1]
  split
  · rw [goes_1]
  · rw [flt_1, goes_1]
theorem te1_ok {n : Nat} {B : AF} {p : PT} (h : pOK n p) : pOK n (te1 B n p) := by
  unfold te1
  refine goes_ok ?_
  split
  · exact goes_ok h
  · exact flt_ok (by decide) (goes_ok h)
theorem HO_0 (N : AF) : HO 0 (va_up (zrU N 173) 9 0) ∧ nF (zrU N 173) = 0 ∧ zrU N 173 0 = 0 ∧ zrU N 173 11 = 0 := by
  have z : ∀ j, j < 173 → zrU N 173 j = 0 := fun j hj => if_pos hj
  have eF : nF (va_up (zrU N 173) 9 0) = 0 := by unfold nF; rw [va_up_ne _ _ (by decide), z 10 (by decide)]; rfl
  refine ⟨⟨⟨0, Nat.le_refl _, (va_up_ne _ _ (by decide)).trans (z 0 (by decide))⟩, 0, Nat.le_refl _, (va_up_ne _ _ (by decide)).trans (z 11 (by decide)), fun f hf => ?_, fun f f' hf => ?_⟩, ?_, z 0 (by decide), z 11 (by decide)⟩
  · rw [eF] at hf; exact absurd hf (Nat.not_lt_zero f)
  · rw [eF] at hf; exact absurd hf (Nat.not_lt_zero f)
  · unfold nF; rw [z 10 (by decide)]; rfl
theorem HO_z {hb : Nat} {N : AF} (hF : nF N = 0) (h0 : N 0 = 0) (h11 : N 11 = 0) : HO hb N := ⟨⟨0, Nat.zero_le _, h0⟩, 0, Nat.zero_le _, h11, fun f hf => by rw [hF] at hf; exact absurd hf (Nat.not_lt_zero f), fun f f' hf => by rw [hF] at hf; exact absurd hf (Nat.not_lt_zero f)⟩
theorem te4_1 (B : AF) (n : Nat) (p : PT) : (te4 B n p).1 = (te3 B n p).1 := by
  unfold te4
  split
  · rfl
  · rw [flt_1]
theorem teS_1 (B : AF) (n : Nat) (p : PT) : (teS B n p).1 = (te3 B n p).1 := by
  unfold teS
  split
  · rw [flt_1, te4_1]
  · exact te4_1 B n p
theorem te_c2 {B : AF} {n : Nat} {p : PT} (h : ¬ pcd (te2 B n p) ≤ 0) : pcd (teS B n p) = pcd (te2 B n p) := by
  have e := te_x2 h
  unfold pca at e
  unfold pcd
  rw [e]
theorem pN_pcd (N : AF) (p : PT) : pcd (pN N p) = pcd p := rfl
theorem te2_c {B : AF} {n : Nat} {p : PT} (h : pcd (te2 B n p) ≤ 0) : (nuS B n 1 8 (te1 B n p)).2.2.2.2.2.1 ≤ 0 := by
  unfold te2 at h
  rw [pN_pcd] at h
  exact h
theorem te2_1 (B : AF) (n : Nat) (p : PT) : (te2 B n p).1 = va_up p.1 9 (nhV 1 8 (te1 B n p)) := by
  unfold te2
  rw [pN_1, nu_1, te1_1]
theorem HO_te {n : Nat} {B N : AF} {s0 : Nat} {tk to : Int32} (hn : n ≤ 500) (hc : pcd (ldR B N s0 tk to n) = 0) : HO 13000 (ldR B N s0 tk to n).1 := by
  obtain ⟨-, z1, z2, z3⟩ := HO_0 N
  have hz : ∀ j, j < 173 → zrU N 173 j = 0 := fun j hj => if_pos hj
  obtain ⟨p, ep⟩ : ∃ p : PT, p = (zrU N 173, 0, s0, tk, to, 0, -1) := ⟨_, rfl⟩
  have e1 : p.1 = zrU N 173 := by rw [ep]
  have hW : WFc p.1 := by
    rw [e1]
    refine ⟨⟨?_, ?_⟩, ⟨?_, ?_⟩, ⟨?_, ?_⟩, ⟨?_, ?_⟩, ?_, ?_⟩ <;> first | unfold nC | unfold nN | unfold nT | unfold nP | unfold nF
    all_goals rw [hz _ (by decide)]
    all_goals decide
  have hg : pOK n (goesS B n p) := goes_ok0 (by rw [ep]) (by rw [ep]; exact Nat.zero_le _) hW
  have hr : ldR B N s0 tk to n = teS B n p := by rw [ep]; rfl
  rw [hr] at hc ⊢
  rw [teS_1]
  have ht1 : pOK n (te1 B n p) := by
    unfold te1
    refine goes_ok ?_
    split
    · exact hg
    · exact flt_ok (by decide) hg
  have h3c : pcd (te2 B n p) ≤ 0 := by
    refine Classical.byContradiction (fun q => ?_)
    have e2 := te_c2 q
    rw [← e2, hc] at q
    exact q (Int32.le_refl 0)
  have hn2 := te2_c h3c
  have hin := nhV_in (lo := 1) (hi := 8) (by decide) (te1 B n p) (nu_le2 hn2)
  have hok2 : pOK n (te2 B n p) := by
    unfold te2
    exact pN_ok (nu_ok ht1) (wfc_9 (by rw [nu_1, te1_1]; exact hW) hin)
  have e2 := te2_1 B n p
  have h2 : HO 0 (te2 B n p).1 := by
    rw [e2, e1]
    refine HO_z ?_ ((va_up_ne _ _ (by decide)).trans z2) ((va_up_ne _ _ (by decide)).trans z3)
    unfold nF
    rw [va_up_ne _ _ (by decide)]
    exact z1
  have hk := liK_le (B := B) hok2 hn
  unfold te3
  exact (HO_li h2 hok2 (liK B n (te2 B n p)) (by omega)).le (by omega)
theorem n_load {n : Nat} {B N : AF} {s0 : Nat} {tk to : Int32} (hb : Nat) (hn : n ≤ 500) (hc : pcd (ldR B N s0 tk to n) = 0) (hG : GN (ldR B N s0 tk to n).1) : NK (hb + 13000) (ldR B N s0 tk to n).1 := by
  have ho := (HO_te hn hc).le (show 13000 ≤ hb + 13000 by omega)
  exact ⟨⟨hG.1, hG.2.1, ho.1⟩, ho.2⟩
theorem at_load {n : Nat} {B N : AF} {s0 : Nat} {tk to : Int32} (hc : pcd (ldR B N s0 tk to n) ≤ 0) : pca (ldR B N s0 tk to n) = (0, -1) := by
  unfold ldR at hc ⊢
  exact ((mv_te B n (zrU N 173, 0, s0, tk, to, 0, -1)).2 hc).trans rfl
abbrev zq (ms : MM) (u : Nat) (T : Int32) (N' : AF) : KM := (m_bd ms, m_pc ms, m_pa ms, m_is ms, gq T N' (m_now ms), nI (gq T (remC u) u), gq T (remU (m_und ms) (m_now ms) u) (m_und ms), m_isv ms, m_sav ms, m_buf ms, m_ps ms, m_pag ms)
theorem zq_0 {ms : MM} {u : Nat} {T : Int32} {N' : AF} (h : T = 0) : zq ms u T N' = zMQ (kM ms) u N' := by unfold zq; rw [gq_0 h, gq_0 h, gq_0 h]
theorem zq_1 {ms : MM} {u : Nat} {T : Int32} {N' : AF} (h : ¬ T = 0) (hu : m_um ms = nI u) : zq ms u T N' = kM ms := by unfold zq kM; rw [gq_1 h, gq_1 h, gq_1 h, ← hu]
theorem CPx.u {g : GC} {σ : AH} {x b9 hb k9 : Nat} {ms : MM} {bf dq da sv ou hq u0 u sa cap : Nat} {ml : Int32} {e : Nat → Nat} {fs : Nat → Option Nat} {nv : Value} {W : WA} {Ws Vs : Nat → WA} {f : AF} {lp : List Int32} (h : CPx g σ x b9 hb k9 (kM ms) bf dq da sv ou hq u0 sa cap ml e fs nv W Ws Vs f lp) (hum : m_um ms = nI u) (hu : u ≤ 8) : u0 = u := by
  obtain ⟨-, -, -, -, -, -, -, ⟨h1, h2, -⟩, -⟩ := h
  exact (nI_eqi (by omega) (by omega)).mp (h1.symm.trans hum)
theorem CPx.k {g : GC} {σ : AH} {x b9 hb k0 k9 : Nat} {ms : MM} {bf dq da sv ou hq u sa cap : Nat} {ml : Int32} {e : Nat → Nat} {fs : Nat → Option Nat} {nv : Value} {W : WA} {Ws Vs : Nat → WA} {f : AF} {lp : List Int32} (h : CPx g σ x b9 hb k0 (kM ms) bf dq da sv ou hq u sa cap ml e fs nv W Ws Vs f lp) (hbd : m_bd ms = nI k9) (hk : k9 ≤ 500) : k0 = k9 := by
  obtain ⟨-, -, ⟨h1, h2⟩, -⟩ := h
  exact (nI_eqi (by omega) (by omega)).mp (h1.symm.trans hbd)
theorem iv {v w : Int32} (h : (some (.int v) : Option Value) = some (.int w)) : v = w := by cases h; rfl
theorem o_put {l : Launch} {g : GC} (σ : AH) (x b9 hb : Nat) (ms : MM) (oa : Nat → Int64) (oD : Nat → UInt64) (a1 a2 : Int32) (hhb : hb < 2 ^ 30) (h : HS g σ x b9 hb (kM ms) ms oa oD) {u : Nat} (hum : m_um ms = nI u) (hu8 : u ≤ 8) : AMet l g mX0_put 46 77 [.ref x, .int a1, .int a2, .ref (b9 + 9)] σ (AO g x b9 (hb + 13000) (zq ms u (mayT (m_is ms) (bi (okF (m_is ms) (m_now ms) a1 ∧ okT (m_is ms) (m_now ms) a2)) (bi (okB (m_is ms) (m_now ms) a1 a2 ∧ whyPutN (m_now ms) (ix a1) (ix a2) = 0))) (putIn (m_now ms) (ix a1) a2)) ms oD (mayT (m_is ms) (bi (okF (m_is ms) (m_now ms) a1 ∧ okT (m_is ms) (m_now ms) a2)) (bi (okB (m_is ms) (m_now ms) a1 a2 ∧ whyPutN (m_now ms) (ix a1) (ix a2) = 0))) (manyT (putIn (m_now ms) (ix a1) a2) a2)) A_no := by
  obtain ⟨⟨k9, bf, dq, da, sv, ou, hq, u0, sa, cap, ml, e, fs, nv, W, Ws, Vs, f5, lp, hC⟩, hL⟩ := id h
  have hu0 := (hC.u hum hu8).symm
  subst hu0
  have hN := hC.2.2.2.2.2.2.1
  exact w_put σ x (b9 + 9) a1 a2 oa _ hC.2.1 (q_put σ x bf dq sv ou _ _ _ (m_is ms) nv W (m_now ms) a1 a2 da hq u e (hC.ld hhb) hC.2.1 hC.2.2.2.2.2.2.2.1.2.2.1 hu8) (fun w _ τ hv => ⟨⟨_, hv.2.1⟩, by obtain ⟨_, _, _, _, _, _, _, hfr, _⟩ := hv; exact (hL.fra hfr.S hC.1.l3).2.1⟩) (fun E q τ hx => thr3 hx) (fun w w9 τ hq => h.two w (esI3 ⟨by decide, by decide, by decide⟩) (by decide) hq (Nat.le_add_right _ _) (fun n => zq_1 n hum) (fun v' τ' hm => ⟨hm.1, iv hm.2.1, by rw [zq_0 hm.1]; exact HS.mq hC hL w hm (mayT_0.mp hm.1).1 (Nat.le_add_right _ _) (n_put hN hhb hm.1)⟩))
theorem o_wash {l : Launch} {g : GC} (σ : AH) (x b9 hb : Nat) (ms : MM) (oa : Nat → Int64) (oD : Nat → UInt64) (a1 a2 : Int32) (hhb : hb < 2 ^ 30) (h : HS g σ x b9 hb (kM ms) ms oa oD) {u : Nat} (hum : m_um ms = nI u) (hu8 : u ≤ 8) : AMet l g mX0_wash 37 83 [.ref x, .int a1, .int a2, .ref (b9 + 9)] σ (AO g x b9 (hb + 13000) (zq ms u (mayT (m_is ms) (bi (okT (m_is ms) (m_now ms) a1)) (bi (okT (m_is ms) (m_now ms) a1 ∧ inR a2 0 3 ∧ whyWashN (m_now ms) a1 a2 = 0))) (washN (m_now ms) a1 a2)) ms oD (mayT (m_is ms) (bi (okT (m_is ms) (m_now ms) a1)) (bi (okT (m_is ms) (m_now ms) a1 ∧ inR a2 0 3 ∧ whyWashN (m_now ms) a1 a2 = 0))) (stainBy (m_now ms) a1 a2)) A_no := by
  obtain ⟨⟨k9, bf, dq, da, sv, ou, hq, u0, sa, cap, ml, e, fs, nv, W, Ws, Vs, f5, lp, hC⟩, hL⟩ := id h
  have hu0 := (hC.u hum hu8).symm
  subst hu0
  have hN := hC.2.2.2.2.2.2.1
  exact w_wash σ x (b9 + 9) a1 a2 oa _ hC.2.1 (q_wash σ x bf dq sv ou _ _ _ (m_is ms) nv W (m_now ms) a1 a2 da hq u e (hC.ld hhb) hC.2.1 hC.2.2.2.2.2.2.2.1.2.2.1 hu8) (fun w _ τ hv => ⟨⟨_, hv.2.1⟩, by obtain ⟨_, _, _, _, _, _, _, hfr, _⟩ := hv; exact (hL.fra hfr.S hC.1.l3).2.1⟩) (fun E q τ hx => thr3 hx) (fun w w9 τ hq => h.two w (esI3 ⟨by decide, by decide, by decide⟩) (by decide) hq (Nat.le_add_right _ _) (fun n => zq_1 n hum) (fun v' τ' hm => ⟨hm.1, iv hm.2.1, by rw [zq_0 hm.1]; exact HS.mq hC hL w hm (mayT_0.mp hm.1).1 (Nat.le_add_right _ _) (n_wash hN hm.1)⟩))
theorem o_hang {l : Launch} {g : GC} (σ : AH) (x b9 hb : Nat) (ms : MM) (oa : Nat → Int64) (oD : Nat → UInt64) (a1 : Int32) (hhb : hb < 2 ^ 30) (h : HS g σ x b9 hb (kM ms) ms oa oD) {u : Nat} (hum : m_um ms = nI u) (hu8 : u ≤ 8) : AMet l g mX0_hang 11 73 [.ref x, .int a1, .ref (b9 + 9)] σ (AO g x b9 (hb + 13000) (zq ms u (mayT (m_is ms) (bi (okF (m_is ms) (m_now ms) a1)) (bi (okF (m_is ms) (m_now ms) a1 ∧ canHangN (m_now ms) (ix a1)))) (goTo (m_now ms) (ix a1) 2 (freeN (m_now ms)))) ms oD (mayT (m_is ms) (bi (okF (m_is ms) (m_now ms) a1)) (bi (okF (m_is ms) (m_now ms) a1 ∧ canHangN (m_now ms) (ix a1)))) (fl (goTo (m_now ms) (ix a1) 2 (freeN (m_now ms))) (ix a1) 9)) A_no := by
  obtain ⟨⟨k9, bf, dq, da, sv, ou, hq, u0, sa, cap, ml, e, fs, nv, W, Ws, Vs, f5, lp, hC⟩, hL⟩ := id h
  have hu0 := (hC.u hum hu8).symm
  subst hu0
  have hN := hC.2.2.2.2.2.2.1
  exact w_hang σ x (b9 + 9) a1 oa _ hC.2.1 (q_hang σ x bf dq sv ou _ _ _ (m_is ms) nv W (m_now ms) a1 da hq u e (hC.ld hhb) hC.2.1 hC.2.2.2.2.2.2.2.1.2.2.1 hu8) (fun w _ τ hv => ⟨⟨_, hv.2.1⟩, by obtain ⟨_, _, _, _, _, _, _, hfr, _⟩ := hv; exact (hL.fra hfr.S hC.1.l3).2.1⟩) (fun E q τ hx => thr3 hx) (fun w w9 τ hq => h.two w (esI3 ⟨by decide, by decide, by decide⟩) (by decide) hq (Nat.le_add_right _ _) (fun n => zq_1 n hum) (fun v' τ' hm => ⟨hm.1, iv hm.2.1, by rw [zq_0 hm.1]; exact HS.mq hC hL w hm (mayT_0.mp hm.1).1 (Nat.le_add_right _ _) (n_hang hN hm.1)⟩))
theorem o_hangAll {l : Launch} {g : GC} (σ : AH) (x b9 hb : Nat) (ms : MM) (oa : Nat → Int64) (oD : Nat → UInt64) (hhb : hb < 2 ^ 30) (h : HS g σ x b9 hb (kM ms) ms oa oD) {u : Nat} (hum : m_um ms = nI u) (hu8 : u ≤ 8) : AMet l g mX0_hangAll 11 83 [.ref x, .ref (b9 + 9)] σ (AO g x b9 (hb + 13000) (zq ms u (mayT (m_is ms) 1 1) (haU (m_now ms) (nF (m_now ms)))) ms oD (mayT (m_is ms) 1 1) (haC (m_now ms) (nF (m_now ms)))) A_no := by
  obtain ⟨⟨k9, bf, dq, da, sv, ou, hq, u0, sa, cap, ml, e, fs, nv, W, Ws, Vs, f5, lp, hC⟩, hL⟩ := id h
  have hu0 := (hC.u hum hu8).symm
  subst hu0
  have hN := hC.2.2.2.2.2.2.1
  exact w_hangAll σ x (b9 + 9) oa _ hC.2.1 (q_hangAll σ x bf dq sv ou _ _ _ (m_is ms) nv W (m_now ms) da hq u e (hC.ld hhb) hC.2.1 hC.2.2.2.2.2.2.2.1.2.2.1 hu8) (fun w _ τ hv => ⟨⟨_, hv.2.1⟩, by obtain ⟨_, _, _, _, _, _, _, hfr, _⟩ := hv; exact (hL.fra hfr.S hC.1.l3).2.1⟩) (fun E q τ hx => thr1 hx) (fun w w9 τ hq => h.two w (esI1 _) (by decide) hq (Nat.le_add_right _ _) (fun n => zq_1 n hum) (fun v' τ' hm => ⟨hm.1, iv hm.2.1, by rw [zq_0 hm.1]; exact HS.mq hC hL w hm (mayT_0.mp hm.1).1 (Nat.le_add_right _ _) (n_hangAll hN)⟩))
theorem o_takeDown {l : Launch} {g : GC} (σ : AH) (x b9 hb : Nat) (ms : MM) (oa : Nat → Int64) (oD : Nat → UInt64) (a1 : Int32) (hhb : hb < 2 ^ 30) (h : HS g σ x b9 hb (kM ms) ms oa oD) {u : Nat} (hum : m_um ms = nI u) (hu8 : u ≤ 8) : AMet l g mX0_takeDown 11 71 [.ref x, .int a1, .ref (b9 + 9)] σ (AO g x b9 (hb + 13000) (zq ms u (mayT (m_is ms) (bi (okF (m_is ms) (m_now ms) a1)) (bi (okF (m_is ms) (m_now ms) a1 ∧ (fl (m_now ms) (ix a1) 8 = 1 ∨ fl (m_now ms) (ix a1) 8 = 2)))) (goTo (m_now ms) (ix a1) 0 (-1))) ms oD (mayT (m_is ms) (bi (okF (m_is ms) (m_now ms) a1)) (bi (okF (m_is ms) (m_now ms) a1 ∧ (fl (m_now ms) (ix a1) 8 = 1 ∨ fl (m_now ms) (ix a1) 8 = 2)))) (fl (goTo (m_now ms) (ix a1) 0 (-1)) (ix a1) 4)) A_no := by
  obtain ⟨⟨k9, bf, dq, da, sv, ou, hq, u0, sa, cap, ml, e, fs, nv, W, Ws, Vs, f5, lp, hC⟩, hL⟩ := id h
  have hu0 := (hC.u hum hu8).symm
  subst hu0
  have hN := hC.2.2.2.2.2.2.1
  exact w_takeDown σ x (b9 + 9) a1 oa _ hC.2.1 (q_takeDown σ x bf dq sv ou _ _ _ (m_is ms) nv W (m_now ms) a1 da hq u e (hC.ld hhb) hC.2.1 hC.2.2.2.2.2.2.2.1.2.2.1 hu8) (fun w _ τ hv => ⟨⟨_, hv.2.1⟩, by obtain ⟨_, _, _, _, _, _, _, hfr, _⟩ := hv; exact (hL.fra hfr.S hC.1.l3).2.1⟩) (fun E q τ hx => thr3 hx) (fun w w9 τ hq => h.two w (esI3 ⟨by decide, by decide, by decide⟩) (by decide) hq (Nat.le_add_right _ _) (fun n => zq_1 n hum) (fun v' τ' hm => ⟨hm.1, iv hm.2.1, by rw [zq_0 hm.1]; exact HS.mq hC hL w hm (mayT_0.mp hm.1).1 (Nat.le_add_right _ _) (n_takeDown hN hm.1)⟩))
theorem o_clearTub {l : Launch} {g : GC} (σ : AH) (x b9 hb : Nat) (ms : MM) (oa : Nat → Int64) (oD : Nat → UInt64) (a1 : Int32) (hhb : hb < 2 ^ 30) (h : HS g σ x b9 hb (kM ms) ms oa oD) {u : Nat} (hum : m_um ms = nI u) (hu8 : u ≤ 8) : AMet l g mX0_clearTub 35 84 [.ref x, .int a1, .ref (b9 + 9)] σ (AO g x b9 (hb + 13000) (zq ms u (mayT (m_is ms) (bi (okT (m_is ms) (m_now ms) a1)) 1) (clU (m_now ms) a1 (nF (m_now ms)))) ms oD (mayT (m_is ms) (bi (okT (m_is ms) (m_now ms) a1)) 1) (manyT (m_now ms) a1)) A_no := by
  obtain ⟨⟨k9, bf, dq, da, sv, ou, hq, u0, sa, cap, ml, e, fs, nv, W, Ws, Vs, f5, lp, hC⟩, hL⟩ := id h
  have hu0 := (hC.u hum hu8).symm
  subst hu0
  have hN := hC.2.2.2.2.2.2.1
  exact w_clearTub σ x (b9 + 9) a1 oa _ hC.2.1 (q_clearTub σ x bf dq sv ou _ _ _ (m_is ms) nv W (m_now ms) a1 da hq u e (hC.ld hhb) hC.2.1 hC.2.2.2.2.2.2.2.1.2.2.1 hu8) (fun w _ τ hv => ⟨⟨_, hv.2.1⟩, by obtain ⟨_, _, _, _, _, _, _, hfr, _⟩ := hv; exact (hL.fra hfr.S hC.1.l3).2.1⟩) (fun E q τ hx => thr2 hx) (fun w w9 τ hq => h.two w (esI2 (by decide)) (by decide) hq (Nat.le_add_right _ _) (fun n => zq_1 n hum) (fun v' τ' hm => ⟨hm.1, iv hm.2.1, by rw [zq_0 hm.1]; exact HS.mq hC hL w hm (mayT_0.mp hm.1).1 (Nat.le_add_right _ _) (n_clearTub hN)⟩))
theorem o_iron {l : Launch} {g : GC} (σ : AH) (x b9 hb : Nat) (ms : MM) (oa : Nat → Int64) (oD : Nat → UInt64) (a1 a2 : Int32) (hhb : hb < 2 ^ 30) (h : HS g σ x b9 hb (kM ms) ms oa oD) {u : Nat} (hum : m_um ms = nI u) (hu8 : u ≤ 8) : AMet l g mX0_iron 17 71 [.ref x, .int a1, .int a2, .ref (b9 + 9)] σ (AO g x b9 (hb + 13000) (zq ms u (mayT (m_is ms) (bi (okF (m_is ms) (m_now ms) a1)) (bi (okF (m_is ms) (m_now ms) a1 ∧ inR a2 0 3 ∧ whyIronN (m_now ms) (ix a1) a2 = 0))) (ironN (m_now ms) (ix a1) a2)) ms oD (mayT (m_is ms) (bi (okF (m_is ms) (m_now ms) a1)) (bi (okF (m_is ms) (m_now ms) a1 ∧ inR a2 0 3 ∧ whyIronN (m_now ms) (ix a1) a2 = 0))) (fl (ironN (m_now ms) (ix a1) a2) (ix a1) 5)) A_no := by
  obtain ⟨⟨k9, bf, dq, da, sv, ou, hq, u0, sa, cap, ml, e, fs, nv, W, Ws, Vs, f5, lp, hC⟩, hL⟩ := id h
  have hu0 := (hC.u hum hu8).symm
  subst hu0
  have hN := hC.2.2.2.2.2.2.1
  exact w_iron σ x (b9 + 9) a1 a2 oa _ hC.2.1 (q_iron σ x bf dq sv ou _ _ _ (m_is ms) nv W (m_now ms) a1 a2 da hq u e (hC.ld hhb) hC.2.1 hC.2.2.2.2.2.2.2.1.2.2.1 hu8) (fun w _ τ hv => ⟨⟨_, hv.2.1⟩, by obtain ⟨_, _, _, _, _, _, _, hfr, _⟩ := hv; exact (hL.fra hfr.S hC.1.l3).2.1⟩) (fun E q τ hx => thr3 hx) (fun w w9 τ hq => h.two w (esI3 ⟨by decide, by decide, by decide⟩) (by decide) hq (Nat.le_add_right _ _) (fun n => zq_1 n hum) (fun v' τ' hm => ⟨hm.1, iv hm.2.1, by rw [zq_0 hm.1]; exact HS.mq hC hL w hm (mayT_0.mp hm.1).1 (Nat.le_add_right _ _) (n_iron hN hm.1)⟩))
theorem o_bleach {l : Launch} {g : GC} (σ : AH) (x b9 hb : Nat) (ms : MM) (oa : Nat → Int64) (oD : Nat → UInt64) (a1 : Int32) (hhb : hb < 2 ^ 30) (h : HS g σ x b9 hb (kM ms) ms oa oD) {u : Nat} (hum : m_um ms = nI u) (hu8 : u ≤ 8) : AMet l g mX0_bleach 17 72 [.ref x, .int a1, .ref (b9 + 9)] σ (AO g x b9 (hb + 13000) (zq ms u (mayT (m_is ms) (bi (okF (m_is ms) (m_now ms) a1)) (bi (okF (m_is ms) (m_now ms) a1 ∧ whyBlN (m_now ms) (ix a1) = 0))) (blN (m_now ms) (ix a1))) ms oD (mayT (m_is ms) (bi (okF (m_is ms) (m_now ms) a1)) (bi (okF (m_is ms) (m_now ms) a1 ∧ whyBlN (m_now ms) (ix a1) = 0))) (stN (m_now ms) (ix a1))) A_no := by
  obtain ⟨⟨k9, bf, dq, da, sv, ou, hq, u0, sa, cap, ml, e, fs, nv, W, Ws, Vs, f5, lp, hC⟩, hL⟩ := id h
  have hu0 := (hC.u hum hu8).symm
  subst hu0
  have hN := hC.2.2.2.2.2.2.1
  exact w_bleach σ x (b9 + 9) a1 oa _ hC.2.1 (q_bleach σ x bf dq sv ou _ _ _ (m_is ms) nv W (m_now ms) a1 da hq u e (hC.ld hhb) hC.2.1 hC.2.2.2.2.2.2.2.1.2.2.1 hu8) (fun w _ τ hv => ⟨⟨_, hv.2.1⟩, by obtain ⟨_, _, _, _, _, _, _, hfr, _⟩ := hv; exact (hL.fra hfr.S hC.1.l3).2.1⟩) (fun E q τ hx => thr3 hx) (fun w w9 τ hq => h.two w (esI3 ⟨by decide, by decide, by decide⟩) (by decide) hq (Nat.le_add_right _ _) (fun n => zq_1 n hum) (fun v' τ' hm => ⟨hm.1, iv hm.2.1, by rw [zq_0 hm.1]; exact HS.mq hC hL w hm (mayT_0.mp hm.1).1 (Nat.le_add_right _ _) (n_bleach hN hm.1)⟩))
theorem o_handOver {l : Launch} {g : GC} (σ : AH) (x b9 hb : Nat) (ms : MM) (oa : Nat → Int64) (oD : Nat → UInt64) (a1 : Int32) (hhb : hb < 2 ^ 30) (h : HS g σ x b9 hb (kM ms) ms oa oD) {u : Nat} (hum : m_um ms = nI u) (hu8 : u ≤ 8) : AMet l g mX0_handOver 38 86 [.ref x, .int a1, .ref (b9 + 9)] σ (AO g x b9 (hb + 13000) (zq ms u (mayT (m_is ms) (bi (okN (m_is ms) (m_now ms) a1)) (bi (okN (m_is ms) (m_now ms) a1 ∧ ¬ flagsN (m_now ms) a1 ≤ 0 ∧ ¬ na (m_now ms) (ix a1) 3 = 1 ∧ culpN (m_now ms) a1 = -1))) (hoN (m_now ms) (ix a1))) ms oD (mayT (m_is ms) (bi (okN (m_is ms) (m_now ms) a1)) (bi (okN (m_is ms) (m_now ms) a1 ∧ ¬ flagsN (m_now ms) a1 ≤ 0 ∧ ¬ na (m_now ms) (ix a1) 3 = 1 ∧ culpN (m_now ms) a1 = -1))) (payN (m_now ms) (ix a1) ((m_now ms) 0))) A_no := by
  obtain ⟨⟨k9, bf, dq, da, sv, ou, hq, u0, sa, cap, ml, e, fs, nv, W, Ws, Vs, f5, lp, hC⟩, hL⟩ := id h
  have hu0 := (hC.u hum hu8).symm
  subst hu0
  have hN := hC.2.2.2.2.2.2.1
  exact w_handOver σ x (b9 + 9) a1 oa _ hC.2.1 (q_handOver σ x bf dq sv ou _ _ _ (m_is ms) nv W (m_now ms) a1 da hq u e (hC.ld hhb) hC.2.1 hC.2.2.2.2.2.2.2.1.2.2.1 hu8) (fun w _ τ hv => ⟨⟨_, hv.2.1⟩, by obtain ⟨_, _, _, _, _, _, _, hfr, _⟩ := hv; exact (hL.fra hfr.S hC.1.l3).2.1⟩) (fun E q τ hx => thr3 hx) (fun w w9 τ hq => h.two w (esI3 ⟨by decide, by decide, by decide⟩) (by decide) hq (Nat.le_add_right _ _) (fun n => zq_1 n hum) (fun v' τ' hm => ⟨hm.1, iv hm.2.1, by rw [zq_0 hm.1]; exact HS.mq hC hL w hm (mayT_0.mp hm.1).1 (Nat.le_add_right _ _) (n_handOver hN hm.1)⟩))
theorem o_pass {l : Launch} {g : GC} (σ : AH) (x b9 hb : Nat) (ms : MM) (oa : Nat → Int64) (oD : Nat → UInt64) (a1 : Int32) (hhb : hb < 2 ^ 30) (h : HS g σ x b9 hb (kM ms) ms oa oD) {u : Nat} (hum : m_um ms = nI u) (hu8 : u ≤ 8) : AMet l g mX0_pass 18 171 [.ref x, .int a1, .ref (b9 + 9)] σ (AO g x b9 (hb + 13000) (zq ms u (mayT (m_is ms) (bi (inR a1 1 50)) 1) (itr passN (m_now ms) (ix a1))) ms oD (mayT (m_is ms) (bi (inR a1 1 50)) 1) (itr passN (m_now ms) (ix a1) 5 - (m_now ms) 5)) A_no := by
  obtain ⟨⟨k9, bf, dq, da, sv, ou, hq, u0, sa, cap, ml, e, fs, nv, W, Ws, Vs, f5, lp, hC⟩, hL⟩ := id h
  have hu0 := (hC.u hum hu8).symm
  subst hu0
  have hN := hC.2.2.2.2.2.2.1
  exact w_pass σ x (b9 + 9) a1 oa _ hC.2.1 (q_pass σ x bf dq sv ou _ _ _ (m_is ms) nv W (m_now ms) a1 da hq u e (hC.ld hhb) hC.2.1 hC.2.2.2.2.2.2.2.1.2.2.1 hu8) (fun w _ τ hv => ⟨⟨_, hv.2.1⟩, by obtain ⟨_, _, _, _, _, _, _, hfr, _⟩ := hv; exact (hL.fra hfr.S hC.1.l3).2.1⟩) (fun E q τ hx => thr2 hx) (fun w w9 τ hq => h.two w (esI2 (by decide)) (by decide) hq (Nat.le_add_right _ _) (fun n => zq_1 n hum) (fun v' τ' hm => ⟨hm.1, iv hm.2.1, by rw [zq_0 hm.1]; exact HS.mq hC hL w hm (mayT_0.mp hm.1).1 (Nat.le_add_right _ _) (n_pass hN hm.1)⟩))
theorem o_setWind {l : Launch} {g : GC} (σ : AH) (x b9 hb : Nat) (ms : MM) (oa : Nat → Int64) (oD : Nat → UInt64) (a1 : Int32) (hhb : hb < 2 ^ 30) (h : HS g σ x b9 hb (kM ms) ms oa oD) {u : Nat} (hum : m_um ms = nI u) (hu8 : u ≤ 8) : AMet l g mX0_setWind 11 71 [.ref x, .int a1, .ref (b9 + 9)] σ (AO g x b9 (hb + 13000) (zq ms u (mayT (m_is ms) (bi (inR a1 0 9)) 1) (va_up (m_now ms) 1 a1)) ms oD (mayT (m_is ms) (bi (inR a1 0 9)) 1) ((m_now ms) 1)) A_no := by
  obtain ⟨⟨k9, bf, dq, da, sv, ou, hq, u0, sa, cap, ml, e, fs, nv, W, Ws, Vs, f5, lp, hC⟩, hL⟩ := id h
  have hu0 := (hC.u hum hu8).symm
  subst hu0
  have hN := hC.2.2.2.2.2.2.1
  exact w_setWind σ x (b9 + 9) a1 oa _ hC.2.1 (q_setWind σ x bf dq sv ou _ _ _ (m_is ms) nv W (m_now ms) a1 da hq u e (hC.ld hhb) hC.2.1 hC.2.2.2.2.2.2.2.1.2.2.1 hu8) (fun w _ τ hv => ⟨⟨_, hv.2.1⟩, by obtain ⟨_, _, _, _, _, _, _, hfr, _⟩ := hv; exact (hL.fra hfr.S hC.1.l3).2.1⟩) (fun E q τ hx => thr2 hx) (fun w w9 τ hq => h.two w (esI2 (by decide)) (by decide) hq (Nat.le_add_right _ _) (fun n => zq_1 n hum) (fun v' τ' hm => ⟨hm.1, iv hm.2.1, by rw [zq_0 hm.1]; exact HS.mq hC hL w hm (mayT_0.mp hm.1).1 (Nat.le_add_right _ _) (n_setWind hN hm.1)⟩))
theorem o_addFlag {l : Launch} {g : GC} (σ : AH) (x b9 hb : Nat) (ms : MM) (oa : Nat → Int64) (oD : Nat → UInt64) (a1 a2 a3 a4 : Int32) (hhb : hb < 2 ^ 30) (h : HS g σ x b9 hb (kM ms) ms oa oD) {u : Nat} (hum : m_um ms = nI u) (hu8 : u ≤ 8) : AMet l g mX0_addFlag 11 76 [.ref x, .int a1, .int a2, .int a3, .int a4, .ref (b9 + 9)] σ (AO g x b9 (hb + 13000) (zq ms u (mayT (m_is ms) (bi (okN (m_is ms) (m_now ms) a1)) (bi (okN (m_is ms) (m_now ms) a1 ∧ inR a2 1 ((1 <<< ((m_now ms) 6 &&& 31)) - 1) ∧ inR a3 0 3 ∧ inR a4 0 9 ∧ ¬ na (m_now ms) (ix a1) 3 = 1 ∧ ¬ 12 ≤ (m_now ms) 10))) (addN (m_now ms) a1 a2 a3 a4)) ms oD (mayT (m_is ms) (bi (okN (m_is ms) (m_now ms) a1)) (bi (okN (m_is ms) (m_now ms) a1 ∧ inR a2 1 ((1 <<< ((m_now ms) 6 &&& 31)) - 1) ∧ inR a3 0 3 ∧ inR a4 0 9 ∧ ¬ na (m_now ms) (ix a1) 3 = 1 ∧ ¬ 12 ≤ (m_now ms) 10))) (nI (nF (m_now ms)))) A_no := by
  obtain ⟨⟨k9, bf, dq, da, sv, ou, hq, u0, sa, cap, ml, e, fs, nv, W, Ws, Vs, f5, lp, hC⟩, hL⟩ := id h
  have hu0 := (hC.u hum hu8).symm
  subst hu0
  have hN := hC.2.2.2.2.2.2.1
  exact w_addFlag σ x (b9 + 9) a1 a2 a3 a4 oa _ hC.2.1 (q_addFlag σ x bf dq sv ou _ _ _ (m_is ms) nv W (m_now ms) a1 a2 a3 a4 da hq u e (hC.ld hhb) hC.2.1 hC.2.2.2.2.2.2.2.1.2.2.1 hu8) (fun w _ τ hv => ⟨⟨_, hv.2.1⟩, by obtain ⟨_, _, _, _, _, _, _, hfr, _⟩ := hv; exact (hL.fra hfr.S hC.1.l3).2.1⟩) (fun E q τ hx => thr3 hx) (fun w w9 τ hq => h.two w (esI3 ⟨by decide, by decide, by decide⟩) (by decide) hq (Nat.le_add_right _ _) (fun n => zq_1 n hum) (fun v' τ' hm => ⟨hm.1, iv hm.2.1, by rw [zq_0 hm.1]; exact HS.mq hC hL w hm (mayT_0.mp hm.1).1 (Nat.le_add_right _ _) (n_addFlag hN hm.1)⟩))
abbrev zp (ms : MM) (T : Int32) (L : List Int32) : KM := (m_bd ms, m_pc ms, m_pa ms, m_is ms, m_now ms, m_um ms, m_und ms, m_isv ms, m_sav ms, m_buf ms, gq T (nI L.length) (m_ps ms), gq T (pgA (m_pag ms) L) (m_pag ms))
theorem zp_0 {ms : MM} {T : Int32} {L : List Int32} (h : T = 0) : zp ms T L = (m_bd ms, m_pc ms, m_pa ms, m_is ms, m_now ms, m_um ms, m_und ms, m_isv ms, m_sav ms, m_buf ms, nI L.length, pgA (m_pag ms) L) := by unfold zp; rw [gq_0 h, gq_0 h]
theorem zp_1 {ms : MM} {T : Int32} {L : List Int32} (h : ¬ T = 0) : zp ms T L = kM ms := by unfold zp kM; rw [gq_1 h, gq_1 h]
theorem ix_many {N : AF} (t : Int32) (hW : WFc N) : ix (manyT N t) ≤ 12 := by
  obtain ⟨m, hm, e⟩ := manyT_ix (N := N) (t := t)
  have := hW.2.2.2.2.2
  rw [e, ixn (by omega)]
  omega
theorem dash_le {l : List Int32} {n : Nat} (h : l.length ≤ n) (hn : 1 ≤ n) : (orDash l).length ≤ n := by
  unfold orDash
  split
  · rename_i h9
    rw [List.length_append, h9]
    exact hn
  · exact h
theorem o_writeFlag {l : Launch} {g : GC} (σ : AH) (x b9 hb : Nat) (ms : MM) (oa : Nat → Int64) (oD : Nat → UInt64) (a1 : Int32) (hhb : hb < 2 ^ 30) (h : HS g σ x b9 hb (kM ms) ms oa oD) : AMet l g mX0_writeFlag 11 306 [.ref x, .int a1, .ref (b9 + 9)] σ (AO g x b9 hb (zp ms (mayT (m_is ms) (bi (okF (m_is ms) (m_now ms) a1)) 1) (txF (m_now ms) (ix a1) (nC (m_now ms)))) ms oD (mayT (m_is ms) (bi (okF (m_is ms) (m_now ms) a1)) 1) (nI (txF (m_now ms) (ix a1) (nC (m_now ms))).length)) A_no := by
  obtain ⟨⟨k9, bf, dq, da, sv, ou, hq, u, sa, cap, ml, e, fs, nv, W, Ws, Vs, f5, lp, hC⟩, hL⟩ := id h
  have hWc : WFc (m_now ms) := (hC.2.2.2.2.2.2.1).1.1.1
  exact w_writeFlag σ x (b9 + 9) a1 oa _ hC.2.1 (q_writeFlag σ x bf dq sv ou _ _ _ (m_is ms) nv W (m_now ms) a1 sa cap ml f5 lp (hC.ld hhb) hC.2.1 hC.2.2.2.2.2.2.2.2.2.1 (Nat.le_trans hC.2.2.2.2.2.2.2.2.2.2.1 (by decide))) (fun w _ τ hv => ⟨⟨_, hv.2.1⟩, (hL.fra hv.2.2.fr.S (fun a m => by simp only [List.mem_cons, List.not_mem_nil, or_false] at m; rcases m with m | m; subst m; exact Or.inl hC.1.2.2.2.2.2.1; subst m; exact hC.1.2.2.2.2.2.2)).2.1⟩) (fun E q τ hx => thr2 hx) (fun w w9 τ hq => h.two w (esI2 (by decide)) (by decide) hq (Nat.le_refl _) (fun n => zp_1 n) (fun v' τ' hm => ⟨hm.1, iv hm.2.1, by rw [zp_0 hm.1]; exact HS.pg hC hL w hm.2.2 (Nat.le_trans (txF_le _ _ _) (by have := hWc.1.2; omega))⟩))
theorem o_writeTub {l : Launch} {g : GC} (σ : AH) (x b9 hb : Nat) (ms : MM) (oa : Nat → Int64) (oD : Nat → UInt64) (a1 : Int32) (hhb : hb < 2 ^ 30) (h : HS g σ x b9 hb (kM ms) ms oa oD) (hIn : INS (m_now ms)) : AMet l g mX0_writeTub 37 740 [.ref x, .int a1, .ref (b9 + 9)] σ (AO g x b9 hb (zp ms (mayT (m_is ms) (bi (okT (m_is ms) (m_now ms) a1)) 1) (orDash (txT (m_now ms) a1 (ix (manyT (m_now ms) a1))))) ms oD (mayT (m_is ms) (bi (okT (m_is ms) (m_now ms) a1)) 1) (nI (orDash (txT (m_now ms) a1 (ix (manyT (m_now ms) a1)))).length)) A_no := by
  obtain ⟨⟨k9, bf, dq, da, sv, ou, hq, u, sa, cap, ml, e, fs, nv, W, Ws, Vs, f5, lp, hC⟩, hL⟩ := id h
  have hWc : WFc (m_now ms) := (hC.2.2.2.2.2.2.1).1.1.1
  exact w_writeTub σ x (b9 + 9) a1 oa _ hC.2.1 (q_writeTub σ x bf dq sv ou _ _ _ (m_is ms) nv W (m_now ms) a1 sa cap ml f5 lp (hC.ld hhb) hC.2.1 hC.2.2.2.2.2.2.2.2.2.1 (Nat.le_trans hC.2.2.2.2.2.2.2.2.2.2.1 (by decide)) hIn) (fun w _ τ hv => ⟨⟨_, hv.2.1⟩, (hL.fra hv.2.2.fr.S (fun a m => by simp only [List.mem_cons, List.not_mem_nil, or_false] at m; rcases m with m | m; subst m; exact Or.inl hC.1.2.2.2.2.2.1; subst m; exact hC.1.2.2.2.2.2.2)).2.1⟩) (fun E q τ hx => thr2 hx) (fun w w9 τ hq => h.two w (esI2 (by decide)) (by decide) hq (Nat.le_refl _) (fun n => zp_1 n) (fun v' τ' hm => ⟨hm.1, iv hm.2.1, by rw [zp_0 hm.1]; exact HS.pg hC hL w hm.2.2 (dash_le (Nat.le_trans (txT_le _ _ _) (by have := ix_many (N := m_now ms) a1 hWc; omega)) (by decide))⟩))
theorem o_writeNation {l : Launch} {g : GC} (σ : AH) (x b9 hb : Nat) (ms : MM) (oa : Nat → Int64) (oD : Nat → UInt64) (a1 : Int32) (hhb : hb < 2 ^ 30) (h : HS g σ x b9 hb (kM ms) ms oa oD) : AMet l g mX0_writeNation 15 920 [.ref x, .int a1, .ref (b9 + 9)] σ (AO g x b9 hb (zp ms (mayT (m_is ms) (bi (okN (m_is ms) (m_now ms) a1)) 1) (orDash (txN (m_now ms) a1 (nF (m_now ms))))) ms oD (mayT (m_is ms) (bi (okN (m_is ms) (m_now ms) a1)) 1) (nI (orDash (txN (m_now ms) a1 (nF (m_now ms)))).length)) A_no := by
  obtain ⟨⟨k9, bf, dq, da, sv, ou, hq, u, sa, cap, ml, e, fs, nv, W, Ws, Vs, f5, lp, hC⟩, hL⟩ := id h
  have hWc : WFc (m_now ms) := (hC.2.2.2.2.2.2.1).1.1.1
  exact w_writeNation σ x (b9 + 9) a1 oa _ hC.2.1 (q_writeNation σ x bf dq sv ou _ _ _ (m_is ms) nv W (m_now ms) a1 sa cap ml f5 lp (hC.ld hhb) hC.2.1 hC.2.2.2.2.2.2.2.2.2.1 (Nat.le_trans hC.2.2.2.2.2.2.2.2.2.2.1 (by decide))) (fun w _ τ hv => ⟨⟨_, hv.2.1⟩, (hL.fra hv.2.2.fr.S (fun a m => by simp only [List.mem_cons, List.not_mem_nil, or_false] at m; rcases m with m | m; subst m; exact Or.inl hC.1.2.2.2.2.2.1; subst m; exact hC.1.2.2.2.2.2.2)).2.1⟩) (fun E q τ hx => thr2 hx) (fun w w9 τ hq => h.two w (esI2 (by decide)) (by decide) hq (Nat.le_refl _) (fun n => zp_1 n) (fun v' τ' hm => ⟨hm.1, iv hm.2.1, by rw [zp_0 hm.1]; exact HS.pg hC hL w hm.2.2 (dash_le (Nat.le_trans (txN_le _ _ _) (by have := hWc.2.2.2.2.2; omega)) (by decide))⟩))
theorem o_writeLine {l : Launch} {g : GC} (σ : AH) (x b9 hb : Nat) (ms : MM) (oa : Nat → Int64) (oD : Nat → UInt64) (hhb : hb < 2 ^ 30) (h : HS g σ x b9 hb (kM ms) ms oa oD) : AMet l g mX0_writeLine 10 306 [.ref x, .ref (b9 + 9)] σ (AO g x b9 hb (zp ms (mayT (m_is ms) 1 1) (txL (m_now ms) (nP (m_now ms)))) ms oD (mayT (m_is ms) 1 1) (nI (txL (m_now ms) (nP (m_now ms))).length)) A_no := by
  obtain ⟨⟨k9, bf, dq, da, sv, ou, hq, u, sa, cap, ml, e, fs, nv, W, Ws, Vs, f5, lp, hC⟩, hL⟩ := id h
  have hWc : WFc (m_now ms) := (hC.2.2.2.2.2.2.1).1.1.1
  exact w_writeLine σ x (b9 + 9) oa _ hC.2.1 (q_writeLine σ x bf dq sv ou _ _ _ (m_is ms) nv W (m_now ms) sa cap ml f5 lp (hC.ld hhb) hC.2.1 hC.2.2.2.2.2.2.2.2.2.1 (Nat.le_trans hC.2.2.2.2.2.2.2.2.2.2.1 (by decide))) (fun w _ τ hv => ⟨⟨_, hv.2.1⟩, (hL.fra hv.2.2.fr.S (fun a m => by simp only [List.mem_cons, List.not_mem_nil, or_false] at m; rcases m with m | m; subst m; exact Or.inl hC.1.2.2.2.2.2.1; subst m; exact hC.1.2.2.2.2.2.2)).2.1⟩) (fun E q τ hx => thr1 hx) (fun w w9 τ hq => h.two w (esI1 _) (by decide) hq (Nat.le_refl _) (fun n => zp_1 n) (fun v' τ' hm => ⟨hm.1, iv hm.2.1, by rw [zp_0 hm.1]; exact HS.pg hC hL w hm.2.2 (Nat.le_trans (txL_le _ _) (by have := hWc.2.2.2.1.2; omega))⟩))
theorem AO.v {g : GC} {x b9 hb : Nat} {z : KM} {ms : MM} {oD : Nat → UInt64} {T v v' : Int32} {w : Option Value} {τ : AH} (h : AO g x b9 hb z ms oD T v w τ) (e : T = 0 → v' = v) : AO g x b9 hb z ms oD T v' w τ := by
  obtain ⟨h1, oa', h2, h3⟩ := h
  exact ⟨h1, oa', h2, fun q => by rw [e q]; exact h3 q⟩
theorem inR_ix {i : Int32} {n : Nat} (h : inR i 0 (nI n - 1)) (hn : n ≤ 1000) : ix i < n := by
  obtain ⟨j, hj, e⟩ := in_ex (n := n) rfl hn h
  rw [e, ixn (by omega)]
  exact hj
/-- a double's answer -/
def AD (g : GC) (x b9 hb : Nat) (z : KM) (ms : MM) (oa : Nat → Int64) (T : Int32) (v : UInt64) : Option Value → AH → Prop := fun w τ => w = some (.int T) ∧ ∃ oD', HS g τ x b9 hb z ms oa oD' ∧ (T = 0 → oD' 0 = v)
theorem HS.outD {g : GC} {σ : AH} {x b9 hb : Nat} {z : KM} {ms : MM} {oa : Nat → Int64} {oD : Nat → UInt64} (h : HS g σ x b9 hb z ms oa oD) : σ.1 (b9 + 10) = some (.inl (.double, 1, .inr (.inr (.inr (.inl oD))))) := h.2.2.2.1
theorem HS.askD {g : GC} {σ τ : AH} {x b9 hb : Nat} {z : KM} {ms : MM} {oa : Nat → Int64} {oD : Nat → UInt64} (h : HS g σ x b9 hb z ms oa oD) (w : wfh σ) {T : Int32} {v : UInt32} {es : List String} (hn : esI es) (hes : es.length < 2 ^ 31) {w9 : Option Value} (hq : WD (A_val T (.float v) σ) (A_thr es T σ) es (b9 + 10) oD w9 τ) : AD g x b9 hb z ms oa T (FP.f2d v) w9 τ := by
  rcases hq with ⟨v', τ', ⟨hT, e, hx⟩, e2, e3⟩ | ⟨E, q, τ', i, ⟨hx, j, hj, hT⟩, hi, e2, e3⟩
  · have ev : v' = v := by cases e; rfl
    subst ev
    subst e3
    exact ⟨by rw [e2, hT], _, h.qD w ((kx.rf.ex hx).put) (if_pos rfl), fun _ => if_pos rfl⟩
  · subst e3
    obtain ⟨eT, n0⟩ := esT hn hes hi hj hT
    exact ⟨by rw [e2, eT], oD, h.qD w (kx.rf.ex hx) (hx.at w h.outD), fun q => absurd q n0⟩
theorem HS.askE {g : GC} {σ τ : AH} {x b9 hb : Nat} {z : KM} {ms : MM} {oa : Nat → Int64} {oD : Nat → UInt64} (h : HS g σ x b9 hb z ms oa oD) (w : wfh σ) {T : Int32} {v : UInt64} {es : List String} (hn : esI es) (hes : es.length < 2 ^ 31) {w9 : Option Value} (hq : WE (A_val T (.double v) σ) (A_thr es T σ) es (b9 + 10) oD w9 τ) : AD g x b9 hb z ms oa T v w9 τ := by
  rcases hq with ⟨v', τ', ⟨hT, e, hx⟩, e2, e3⟩ | ⟨E, q, τ', i, ⟨hx, j, hj, hT⟩, hi, e2, e3⟩
  · have ev : v' = v := by cases e; rfl
    subst ev
    subst e3
    exact ⟨by rw [e2, hT], _, h.qD w ((kx.rf.ex hx).put) (if_pos rfl), fun _ => if_pos rfl⟩
  · subst e3
    obtain ⟨eT, n0⟩ := esT hn hes hi hj hT
    exact ⟨by rw [e2, eT], oD, h.qD w (kx.rf.ex hx) (hx.at w h.outD), fun q => absurd q n0⟩
theorem sh64 : ∀ a, a < 25 → ∀ b, b < 13 → ¬ b = 0 → vf_n64 (FP.f2d (FP.fdiv (FP.i2f (nI a)) (FP.i2f (nI b)))) := by
  unfold vf_n64
  decide +kernel
theorem sh64z : vf_n64 (FP.f2d FP.fconst0) := by
  unfold vf_n64
  decide +kernel
theorem share64 {N : AF} (h : WFc N) : vf_n64 (FP.f2d (shareN 0 N)) := by
  unfold shareN
  split
  · rename_i h0
    have hF := h.2.2.2.2.2
    have e := h.2.2.2.2.1
    obtain ⟨a, h1, h2⟩ := sm_ex (p := fun f => whyN N f = 0) (nF N)
    obtain ⟨b, h3, h4⟩ := sm_ex (p := fun f => fl N f 8 = 3) (nF N)
    have e1 : readyN N + atN N 3 = nI (a + b) := by
      show sm (fun f => bi (whyN N f = 0)) (nF N) + sm (fun f => bi (fl N f 8 = 3)) (nF N) = _
      rw [h2, h4, nI_add]
    have e2 : ¬ nF N = 0 := fun q => h0.2 (by rw [e, q]; decide)
    rw [e1, e]
    exact sh64 _ (by omega) _ (by omega) e2
  · exact sh64z
theorem o_textByte {l : Launch} {g : GC} (σ : AH) (x b9 hb : Nat) (ms : MM) (oa : Nat → Int64) (oD : Nat → UInt64) (a1 : Int32) (hhb : hb < 2 ^ 30) (h : HS g σ x b9 hb (kM ms) ms oa oD) {k9 : Nat} (hps : m_ps ms = nI k9) (hk9 : k9 ≤ 60) : AMet l g mX0_textByte 9 2 [.ref x, .int a1, .ref (b9 + 9)] σ (AO g x b9 hb (kM ms) ms oD (mayT (bi (inR a1 0 (nI k9 - 1))) 1 1) (m_pag ms (ix a1))) A_no := by
  obtain ⟨⟨k0, bf, dq, da, sv, ou, hq, u, sa, cap, ml, e, fs, nv, W, Ws, Vs, f5, lp, hC⟩, hL⟩ := id h
  obtain ⟨hB, hl6, hpl, hpg⟩ := hC.2.2.2.2.2.2.2.2.2
  have ek : lp.length = k9 := (nI_eqi (by omega) (by omega)).mp (hpl.symm.trans hps)
  subst ek
  exact w_textByte σ x (b9 + 9) a1 oa _ hC.2.1 (q_textByte σ x bf dq sv ou _ _ _ nv a1 sa cap ml f5 lp hC.2.1 hB (Nat.le_trans hl6 (by decide))) (fun w _ τ hv => ⟨⟨_, hv.2.1⟩, hv.2.2.at w hL.2.1⟩) (fun E q τ hx => thr1 hx) (fun w w9 τ hq => (h.ask w (esI1 _) (by decide) hq).v (fun T0 => hpg _ (inR_ix (bi_ne0.mp (mayT_0.mp T0).1) (by omega))))
theorem o_readyShare {l : Launch} {g : GC} (σ : AH) (x b9 hb : Nat) (ms : MM) (oa : Nat → Int64) (oD : Nat → UInt64) (hhb : hb < 2 ^ 30) (h : HS g σ x b9 hb (kM ms) ms oa oD) : AMet l g mX0_readyShare 35 4 [.ref x, .ref (b9 + 10)] σ (AD g x b9 hb (kM ms) ms oa (mayT (m_is ms) 1 1) (FP.f2d (shareN 0 (m_now ms)))) A_no := by
  obtain ⟨⟨k9, bf, dq, da, sv, ou, hq, u, sa, cap, ml, e, fs, nv, W, Ws, Vs, f5, lp, hC⟩, hL⟩ := id h
  exact w_readyShare σ x (b9 + 10) oD _ hC.2.1 (q_readyShare σ x bf dq sv ou _ _ _ (m_is ms) nv W (m_now ms) (hC.ld hhb) hC.2.1) (fun w _ τ hv => ⟨⟨_, hv.2.1, share64 (hC.2.2.2.2.2.2.1).1.1.1⟩, hv.2.2.at w hL.2.2.1⟩) (fun E q τ hx => thr1 hx) (fun w w9 τ hq => h.askD w (esI1 _) (by decide) hq)
theorem o_meanDirt {l : Launch} {g : GC} (σ : AH) (x b9 hb : Nat) (ms : MM) (oa : Nat → Int64) (oD : Nat → UInt64) (hhb : hb < 2 ^ 30) (h : HS g σ x b9 hb (kM ms) ms oa oD) : AMet l g mX0_meanDirt 10 4 [.ref x, .ref (b9 + 10)] σ (AD g x b9 hb (kM ms) ms oa (mayT (m_is ms) 1 1) (meanN 0 (m_now ms))) A_no := by
  obtain ⟨⟨k9, bf, dq, da, sv, ou, hq, u, sa, cap, ml, e, fs, nv, W, Ws, Vs, f5, lp, hC⟩, hL⟩ := id h
  exact w_meanDirt σ x (b9 + 10) oD _ hC.2.1 (q_meanDirt σ x bf dq sv ou _ _ _ (m_is ms) nv W (m_now ms) (hC.ld hhb) hC.2.1) (fun w _ τ hv => ⟨⟨_, hv.2.1⟩, hv.2.2.at w hL.2.2.1⟩) (fun E q τ hx => thr1 hx) (fun w w9 τ hq => h.askE w (esI1 _) (by decide) hq)
abbrev zu (ms : MM) (u : Nat) (T : Int32) : KM := (m_bd ms, m_pc ms, m_pa ms, m_is ms, gq T (wld (m_und ms) (u - 1)) (m_now ms), gq T (nI (u - 1)) (nI u), m_und ms, m_isv ms, m_sav ms, m_buf ms, m_ps ms, m_pag ms)
theorem zu_0 {ms : MM} {u : Nat} {T : Int32} (h : T = 0) : zu ms u T = zUN (kM ms) (wld (m_und ms) (u - 1)) (nI (u - 1)) := by unfold zu; rw [gq_0 h, gq_0 h]
theorem zu_1 {ms : MM} {u : Nat} {T : Int32} (h : ¬ T = 0) (hu : m_um ms = nI u) : zu ms u T = kM ms := by unfold zu kM; rw [gq_1 h, gq_1 h, ← hu]
theorem o_undo {l : Launch} {g : GC} (σ : AH) (x b9 hb : Nat) (ms : MM) (oa : Nat → Int64) (oD : Nat → UInt64) (hhb : hb < 2 ^ 30) (h : HS g σ x b9 hb (kM ms) ms oa oD) {u : Nat} (hum : m_um ms = nI u) (hu8 : u ≤ 8) : AMet l g mX0_undo 8 2 [.ref x, .ref (b9 + 9)] σ (AO g x b9 hb (zu ms u (mayT (bi (0 < nI u)) 1 1)) ms oD (mayT (bi (0 < nI u)) 1 1) (nI (u - 1))) A_no := by
  obtain ⟨⟨k9, bf, dq, da, sv, ou, hq, u0, sa, cap, ml, e, fs, nv, W, Ws, Vs, f5, lp, hC⟩, hL⟩ := id h
  have hu0 := (hC.u hum hu8).symm
  subst hu0
  exact w_undo σ x (b9 + 9) oa _ hC.2.1 (q_undo σ x bf dq sv ou _ _ _ nv da hq u e hC.2.1 hC.2.2.2.2.2.2.2.1.2.2.1 hu8 (fun i hi => by obtain ⟨q1, q2, _⟩ := hC.2.2.2.2.2.2.2.1.2.2.2.2 i hi; rw [q1]; exact ⟨_, q2.1⟩)) (fun w _ τ hv => ⟨⟨_, hv.2.1⟩, by obtain ⟨_, _, _, _, _, hfr, _⟩ := hv; exact (hL.fra hfr.S hC.1.l3).2.1⟩) (fun E q τ hx => thr1 hx) (fun w w9 τ hq => h.two w (esI1 _) (by decide) hq (Nat.le_refl _) (fun n => zu_1 n hum) (fun v' τ' hm => by obtain ⟨hT, hv, h', hx, hd, hfr, n⟩ := hm; refine ⟨hT, iv hv, ?_⟩; rw [zu_0 hT]; exact HS.undo hC hL w ((nI_lti (by decide : 0 < 2 ^ 31) (by omega)).mp (bi_ne0.mp (mayT_0.mp hT).1)) hx hd hfr n))
abbrev zs (ms : MM) (s : Nat) (T : Int32) : KM := (m_bd ms, m_pc ms, m_pa ms, m_is ms, m_now ms, m_um ms, m_und ms, gq T (va_up (m_isv ms) s 1) (m_isv ms), gq T (setWld (m_sav ms) (m_now ms) s) (m_sav ms), m_buf ms, m_ps ms, m_pag ms)
theorem zs_0 {ms : MM} {s : Nat} {T : Int32} (h : T = 0) : zs ms s T = (m_bd ms, m_pc ms, m_pa ms, m_is ms, m_now ms, m_um ms, m_und ms, va_up (m_isv ms) s 1, setWld (m_sav ms) (m_now ms) s, m_buf ms, m_ps ms, m_pag ms) := by unfold zs; rw [gq_0 h, gq_0 h]
theorem zs_1 {ms : MM} {s : Nat} {T : Int32} (h : ¬ T = 0) : zs ms s T = kM ms := by unfold zs kM; rw [gq_1 h, gq_1 h]
theorem o_save {l : Launch} {g : GC} (σ : AH) (x b9 hb : Nat) (ms : MM) (oa : Nat → Int64) (oD : Nat → UInt64) (a1 : Int32) (hhb : hb < 2 ^ 30) (h : HS g σ x b9 hb (kM ms) ms oa oD) : AMet l g mX0_save 10 2 [.ref x, .int a1, .ref (b9 + 9)] σ (AO g x b9 hb (zs ms (ix a1) (mayT (m_is ms) (bi (inR a1 0 1)) 1)) ms oD (mayT (m_is ms) (bi (inR a1 0 1)) 1) (m_now ms 0)) A_no := by
  obtain ⟨⟨k9, bf, dq, da, sv, ou, hq, u, sa, cap, ml, e, fs, nv, W, Ws, Vs, f5, lp, hC⟩, hL⟩ := id h
  have hsv := hC.2.2.2.2.2.2.2.2.1.1
  exact w_save σ x (b9 + 9) a1 oa _ hC.2.1 (q_save σ x bf dq sv ou _ _ _ (m_is ms) nv W (m_now ms) a1 fs (hC.ld hhb) hC.2.1 hsv) (fun w _ τ hv => ⟨⟨_, hv.2.1⟩, (hL.fr (fun a p q => hv.2.2.2.2 a (by have := hL.2.2.2; omega) (by have := hC.1.2.2.2.2.1; omega)) hv.2.2.2.1).2.1⟩) (fun E q τ hx => thr2 hx) (fun w w9 τ hq => h.two w (esI2 (by decide)) (by decide) hq (Nat.le_refl _) (fun n => zs_1 n) (fun v' τ' hm => by obtain ⟨hT, hv, hs, hk⟩ := hm; refine ⟨hT, iv hv, ?_⟩; rw [zs_0 hT]; exact HS.save hC hL w (mayT_0.mp hT).1 hs hk))
abbrev zr (ms : MM) (s : Nat) (T : Int32) : KM := (m_bd ms, m_pc ms, m_pa ms, m_is ms, gq T (wld (m_sav ms) s) (m_now ms), gq T 0 (m_um ms), m_und ms, m_isv ms, m_sav ms, m_buf ms, m_ps ms, m_pag ms)
theorem zr_0 {ms : MM} {s : Nat} {T : Int32} (h : T = 0) : zr ms s T = zUN (kM ms) (wld (m_sav ms) s) 0 := by unfold zr; rw [gq_0 h, gq_0 h]
theorem zr_1 {ms : MM} {s : Nat} {T : Int32} (h : ¬ T = 0) : zr ms s T = kM ms := by unfold zr kM; rw [gq_1 h, gq_1 h]
theorem ix_2 {h : Int32} (k : inR h 0 1) : ix h < 2 := by
  obtain ⟨j, hj, e⟩ := in6_ex (n := 1) (by decide) k
  rw [e, ixn (by omega)]
  omega
theorem o_restore {l : Launch} {g : GC} (σ : AH) (x b9 hb : Nat) (ms : MM) (oa : Nat → Int64) (oD : Nat → UInt64) (a1 : Int32) (hhb : hb < 2 ^ 30) (h : HS g σ x b9 hb (kM ms) ms oa oD) : AMet l g mX0_restore 9 2 [.ref x, .int a1, .ref (b9 + 9)] σ (AO g x b9 hb (zr ms (ix a1) (mayT (bi (inR a1 0 1)) (bi (inR a1 0 1 ∧ ¬ m_isv ms (ix a1) = 0)) 1)) ms oD (mayT (bi (inR a1 0 1)) (bi (inR a1 0 1 ∧ ¬ m_isv ms (ix a1) = 0)) 1) (wld (m_sav ms) (ix a1) 0)) A_no := by
  obtain ⟨⟨k9, bf, dq, da, sv, ou, hq, u, sa, cap, ml, e, fs, nv, W, Ws, Vs, f5, lp, hC⟩, hL⟩ := id h
  have hsv := hC.2.2.2.2.2.2.2.2.1
  exact w_restore σ x (b9 + 9) a1 oa _ hC.2.1 (q_restore σ x bf dq sv ou _ _ _ nv da hq u e fs (m_isv ms) (m_sav ms) Vs a1 hC.2.1 hC.2.2.2.2.2.2.2.1.2.2.1 hsv.1 (fun s hs => by rcases hsv.2 s hs with q | ⟨q1, _, q3, q4, _⟩; exact Or.inl q; exact Or.inr ⟨q1, q3, q4.1⟩)) (fun w _ τ hv => ⟨⟨_, hv.2.1⟩, by obtain ⟨_, _, _, _, _, hfr, _⟩ := hv; exact (hL.fra hfr.S hC.1.l3).2.1⟩) (fun E q τ hx => thr2 hx) (fun w w9 τ hq => h.two w (esI2 (by decide)) (by decide) hq (Nat.le_refl _) (fun n => zr_1 n) (fun v' τ' hm => by obtain ⟨hT, hv, h', hx, hd, hfr, n⟩ := hm; refine ⟨hT, iv hv, ?_⟩; rw [zr_0 hT]; have hh := bi_ne0.mp (mayT_0.mp hT).2.1; exact HS.rest hC hL w (ix_2 hh.1) hh.2 hx hd hfr n))
abbrev tl (k9 : Nat) (i : Int32) (R : PT) : Int32 := gq (mayT (bi (inR i 0 (nI k9))) 1 1) (if R.2.2.2.2.2.1 ≤ 0 then mayT (bi (inR i 0 (nI k9))) 1 1 else 2) (mayT (bi (inR i 0 (nI k9))) 1 1)
abbrev zl (ms : MM) (k9 u : Nat) (i : Int32) (R : PT) : KM := (nI (gq (mayT (bi (inR i 0 (nI k9))) 1 1) (0) k9), gq (mayT (bi (inR i 0 (nI k9))) 1 1) (R.2.2.2.2.2.1) (m_pc ms), gq (mayT (bi (inR i 0 (nI k9))) 1 1) (R.2.2.2.2.2.2) (m_pa ms), gq (mayT (bi (inR i 0 (nI k9))) 1 1) (if R.2.2.2.2.2.1 ≤ 0 then 1 else (m_is ms)) (m_is ms), gq (mayT (bi (inR i 0 (nI k9))) 1 1) (if R.2.2.2.2.2.1 ≤ 0 then R.1 else (m_now ms)) (m_now ms), nI (gq (mayT (bi (inR i 0 (nI k9))) 1 1) (if R.2.2.2.2.2.1 ≤ 0 then 0 else u) u), m_und ms, gq (mayT (bi (inR i 0 (nI k9))) 1 1) (if R.2.2.2.2.2.1 ≤ 0 then va_up (va_up (m_isv ms) 0 0) 1 0 else (m_isv ms)) (m_isv ms), m_sav ms, m_buf ms, m_ps ms, m_pag ms)
theorem zl_no {ms : MM} {k9 u : Nat} {i : Int32} {R : PT} (h : ¬ inR i 0 (nI k9)) (hu : m_um ms = nI u) (hb : m_bd ms = nI k9) : zl ms k9 u i R = kM ms ∧ tl k9 i R = 1 := by
  have e : mayT (bi (inR i 0 (nI k9))) 1 1 = 1 := by rw [bi_f h]; rfl
  unfold zl tl kM
  rw [e]
  refine ⟨?_, rfl⟩
  simp only [gq, if_neg (show ¬ (1 : Int32) = 0 by decide)]
  rw [← hu, ← hb]
theorem zl_ok {ms : MM} {k9 u : Nat} {i : Int32} {R : PT} (h : inR i 0 (nI k9)) (hc : R.2.2.2.2.2.1 = 0) (ha : R.2.2.2.2.2.2 = -1) : zl ms k9 u i R = (0, 0, -1, 1, R.1, 0, m_und ms, va_up (va_up (m_isv ms) 0 0) 1 0, m_sav ms, m_buf ms, m_ps ms, m_pag ms) ∧ tl k9 i R = 0 := by
  have e : mayT (bi (inR i 0 (nI k9))) 1 1 = 0 := by rw [bi_t h]; rfl
  have h9 : R.2.2.2.2.2.1 ≤ 0 := le_of0 hc
  unfold zl tl
  rw [e]
  simp only [gq, if_pos, h9]
  rw [hc, ha]
  exact ⟨rfl, trivial⟩
theorem zl_x {ms : MM} {k9 u : Nat} {i : Int32} {R : PT} (h : inR i 0 (nI k9)) (hc : ¬ R.2.2.2.2.2.1 ≤ 0) (hu : m_um ms = nI u) : zl ms k9 u i R = (0, R.2.2.2.2.2.1, R.2.2.2.2.2.2, (kM ms).2.2.2) ∧ tl k9 i R = 2 := by
  have e : mayT (bi (inR i 0 (nI k9))) 1 1 = 0 := by rw [bi_t h]; rfl
  unfold zl tl kM
  rw [e]
  simp only [gq, if_pos, hc, if_false]
  rw [← hu]
  exact ⟨rfl, trivial⟩
theorem pca_at {R : PT} (h : pca R = (0, -1)) : R.2.2.2.2.2.2 = -1 := congrArg Prod.snd h
theorem HS.ldk {g : GC} {σ τ : AH} {x b9 hb u k9 : Nat} {ms : MM} {oa : Nat → Int64} {oD : Nat → UInt64} {bf dq da sv ou hq sa cap : Nat} {ml : Int32} {e : Nat → Nat} {fs : Nat → Option Nat} {nv : Value} {W : WA} {Ws Vs : Nat → WA} {f : AF} {lp : List Int32} {i : Int32} {R : PT} {w9 : Option Value} (h : HS g σ x b9 hb (kM ms) ms oa oD) (hC : CPx g σ x b9 hb k9 (kM ms) bf dq da sv ou hq u sa cap ml e fs nv W Ws Vs f lp) (hL : LC σ b9 ms oa oD) (w : wfh σ) (hum : m_um ms = nI u) (hbd : m_bd ms = nI k9) (hGN : inR i 0 (nI k9) → pcd R = 0 → GN R.1 → NK (hb + 13000) R.1) (hat : pcd R ≤ 0 → R.2.2.2.2.2.2 = -1) (hq9 : WQ (LDQ g σ x bf dq da sv ou k9 fs e i R) (LDX σ x bf dq sv ou k9 nv i R) ["java/lang/IndexOutOfBoundsException", "java/lang/IllegalArgumentException"] (b9 + 9) oa w9 τ) : AO g x b9 (hb + 13000) (zl ms k9 u i R) ms oD (tl k9 i R) (gd (mayT (bi (inR i 0 (nI k9))) 1 1) (if R.2.2.2.2.2.1 ≤ 0 then R.1 10 else 0)) w9 τ := by
  rcases hq9 with ⟨v', τ', hQ, e2, e3⟩ | ⟨E, q, τ', j, hx, hi, e2, e3⟩
  · have hQ9 := hQ
    obtain ⟨q1, q2, q3, W', h9, q4, q5, q6, q7⟩ := hQ
    have ha := hat (le_of0 q2)
    obtain ⟨z1, z2⟩ := zl_ok (ms := ms) (u := u) q1 q2 ha
    have hH := HS.load hC hL w hQ9 (Nat.le_add_right hb 13000) (hGN q1 q2 q6)
    rw [z1, z2]
    subst e3
    have ev := iv q3
    subst ev
    refine ⟨e2, va_up oa 0 (nI (nF R.1)).toInt64, ?_, fun _ => ?_⟩
    · obtain ⟨h0, h1, h2, h3, h4⟩ := hH
      have hk : kO b9 τ' (h_put τ' (b9 + 9) (.inl (.long, 1, .inr (.inl (va_up oa 0 (nI (nF R.1)).toInt64))))) := ⟨Nat.le_refl _, fun a e p r => (hp_ne (by omega)).trans p⟩
      refine ⟨h0.fr hk (hk.nw ⟨h1, h2, h3, h4⟩), mc_self (fun a p q => ?_), if_pos rfl, (hp_ne (by omega)).trans h3, h4⟩
      rw [hp_ne (by omega), mc_in (τ := τ') p q, h1]
    · have e9 : mayT (bi (inR i 0 (nI k9))) 1 1 = 0 := by rw [bi_t q1]; rfl
      rw [e9, if_pos (le_of0 q2), q6.1.1.2.2.2.2.1]
      exact if_pos rfl
  · subst e3
    rcases hx with ⟨rfl, c1, c2⟩ | ⟨rfl, c1, c2, c3, c4⟩
    · have ej : j = 0 := esI2 (a := "java/lang/IndexOutOfBoundsException") (b := "java/lang/IllegalArgumentException") (by decide) j 0 _ hi rfl
      obtain ⟨z1, z2⟩ := zl_no (R := R) c1 hum hbd
      rw [z1, z2]
      refine ⟨by rw [e2, ej]; rfl, oa, ?_, fun q => absurd q (by decide)⟩
      have hH := h.q w (kx.rf.ex c2) (c2.at w h.out)
      exact ⟨hH.1.le (Nat.le_add_right _ _), hH.2⟩
    · have ej : j = 1 := esI2 (a := "java/lang/IndexOutOfBoundsException") (b := "java/lang/IllegalArgumentException") (by decide) j 1 _ hi rfl
      obtain ⟨z1, z2⟩ := zl_x (ms := ms) (u := u) c1 c2 hum
      rw [z1, z2]
      refine ⟨by rw [e2, ej]; rfl, oa, ?_, fun q => absurd q (by decide)⟩
      have hH := HS.loadX hC hL w c3 c4
      exact ⟨hH.1.le (Nat.le_add_right _ _), hH.2⟩
theorem o_load {l : Launch} {g : GC} (σ : AH) (x b9 hb : Nat) (ms : MM) (oa : Nat → Int64) (oD : Nat → UInt64) (a1 : Int32) (hhb : hb < 2 ^ 30) (h : HS g σ x b9 hb (kM ms) ms oa oD) {u k9 s0 : Nat} (hum : m_um ms = nI u) (hu8 : u ≤ 8) (hbd : m_bd ms = nI k9) (hk5 : k9 ≤ 500) : AMet l g mX0_load 50 40500 [.ref x, .int a1, .ref (b9 + 9)] σ (AO g x b9 (hb + 13000) (zl ms k9 u a1 (ldR (m_buf ms) (m_now ms) s0 (m_tk ms) (m_to ms) (ix a1))) ms oD (tl k9 a1 (ldR (m_buf ms) (m_now ms) s0 (m_tk ms) (m_to ms) (ix a1))) (gd (mayT (bi (inR a1 0 (nI k9))) 1 1) (if (ldR (m_buf ms) (m_now ms) s0 (m_tk ms) (m_to ms) (ix a1)).2.2.2.2.2.1 ≤ 0 then (ldR (m_buf ms) (m_now ms) s0 (m_tk ms) (m_to ms) (ix a1)).1 10 else 0))) A_no := by
  obtain ⟨⟨k0, bf, dq, da, sv, ou, hq, u0, sa, cap, ml, e, fs, nv, W, Ws, Vs, f5, lp, hC⟩, hL⟩ := id h
  have hu0 := (hC.u hum hu8).symm
  subst hu0
  have hk0 := (hC.k hbd hk5).symm
  subst hk0
  have hX := hC.2.1
  rw [show (kM ms).1 = nI k9 from hbd] at hX
  have hn5 : inR a1 0 (nI k9) → ix a1 ≤ 500 := fun c => by obtain ⟨n, hn, e⟩ := in6_ex (Nat.le_trans hk5 (by decide)) c; rw [e, ixn (by omega)]; omega
  have hM := (c_loadC (l := l) (g := g) σ x bf dq da sv ou k9 hq u _ _ nv fs e _ (m_now ms) s0 (m_tk ms) (m_to ms) a1 hX hk5 hC.2.2.2.1 hC.2.2.2.2.1 hC.2.2.2.2.2.2.2.1.2.2.1 hC.2.2.2.2.2.2.2.2.1.1)
  have hG := fun c q6 q7 => n_load (B := m_buf ms) (N := m_now ms) (s0 := s0) (tk := m_tk ms) (to := m_to ms) (n := ix a1) hb (hn5 c) q6 q7
  have hA := at_load (B := m_buf ms) (N := m_now ms) (s0 := s0) (tk := m_tk ms) (to := m_to ms) (n := ix a1)
  obtain ⟨R, eR⟩ : ∃ R, R = ldR (m_buf ms) (m_now ms) s0 (m_tk ms) (m_to ms) (ix a1) := ⟨_, rfl⟩
  rw [← eR] at hM hG hA ⊢
  exact w_load σ x (b9 + 9) a1 oa _ hX hM (fun w _ τ hv => by obtain ⟨q1, q2, q3, W', h9, q4, q5, q6, q7, q8, q9⟩ := hv; exact ⟨⟨_, q3⟩, (hL.fra q9 (fun a m => by simp only [List.mem_cons, List.not_mem_nil, or_false] at m; rcases m with m | m | m | m; subst m; exact Or.inl hC.1.1; subst m; exact Or.inl hC.1.2.2.1; subst m; exact Or.inl hC.1.2.2.2.1; subst m; exact Or.inl hC.1.2.2.2.2.1)).2.1⟩) (fun E q τ hx => by rcases hx with ⟨e, _⟩ | ⟨e, _⟩; exact Or.inl e; exact Or.inr e) (fun w w9 τ hq => HS.ldk h hC hL w hum hbd hG (fun c => pca_at (hA c)) hq)
