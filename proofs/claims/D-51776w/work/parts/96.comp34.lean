/-! THE LAW 5: its turns -/
section ALaw
variable {l : Launch} {g : GC} {mi : MI} {d b : Nat} {Q : Option Value → AH → Prop} {X : String → Nat → AH → Prop} {pc : Nat} {L : List (Nat × Value)} {st : List Value} {σ : AH}
theorem A_ialdO {q n : Nat} {f : Nat → Value} (h : o_arr g .int q n f) {i : Int32} (hin : vp_in i n) {v : Value} (hv : f i.toNatClampNeg = v) (hd : decode mi.2.1 pc = .ok (.iaload, 1)) (kk : AW l g mi d b Q X (pc + 1) L (v :: st) σ) : AW l g mi d b Q X pc L (.int i :: .ref q :: st) σ := by
  intro p e R s m args below meth c H locs cells slots ls C hP hL hl
  have hc := C
  obtain ⟨hx, hb, hr, hlk, hml, hown, hts, hg, hW, hrest⟩ := C
  obtain ⟨cell, h1, h2, h3, h4, h5, h6, h7⟩ := va_T.moved hW.alike (va_T.kept h (o_keep hP))
  have hlt : i.toNatClampNeg < n := Nat.not_le.mp fun q => hin (Or.inr q)
  have hin' : ¬ (i < 0 ∨ cell.slots.size ≤ i.toNatClampNeg) := by
    intro q
    rcases q with q | q
    · exact hin (Or.inl q)
    · omega
  exact W.iald (v := v) hx hb h1 h2 h3 hin' (by rw [h6 _ hlt, hv]) rfl rfl hd (kk p e R s m args below meth c H locs cells slots ls hc hP hL hl)
end ALaw
theorem lg_self (a : Int64) : lg_cmp a a = 0 := by
  unfold lg_cmp
  simp
abbrev mLaw : MI := (x, (cL_law, (9, (ret, []))))
/-- between two turns -/
def TI (g : GC) (x b9 hb : Nat) (σ : AH) : Prop := ∃ ms oa oD s0, HS g σ x b9 hb (kM ms) ms oa oD ∧ m_st ms = nI s0
theorem HS.u {g : GC} {σ : AH} {x b9 hb : Nat} {ms ms2 : MM} {oa : Nat → Int64} {oD : Nat → UInt64} (h : HS g σ x b9 hb (kM ms) ms2 oa oD) : ∃ u, u ≤ 8 ∧ m_um ms = nI u := by
  obtain ⟨⟨k9, bf, dq, da, sv, ou, hq, u, sa, cap, ml, e, fs, nv, W, Ws, Vs, f, lp, hC⟩, -⟩ := h
  exact ⟨u, hC.2.2.2.2.2.2.2.1.2.1, hC.2.2.2.2.2.2.2.1.1⟩
theorem HS.k {g : GC} {σ : AH} {x b9 hb : Nat} {ms ms2 : MM} {oa : Nat → Int64} {oD : Nat → UInt64} (h : HS g σ x b9 hb (kM ms) ms2 oa oD) : ∃ k, k ≤ 500 ∧ m_bd ms = nI k := by
  obtain ⟨⟨k9, bf, dq, da, sv, ou, hq, u, sa, cap, ml, e, fs, nv, W, Ws, Vs, f, lp, hC⟩, -⟩ := h
  exact ⟨k9, hC.2.2.1.2, hC.2.2.1.1⟩
theorem HS.p {g : GC} {σ : AH} {x b9 hb : Nat} {ms ms2 : MM} {oa : Nat → Int64} {oD : Nat → UInt64} (h : HS g σ x b9 hb (kM ms) ms2 oa oD) : ∃ k, k ≤ 60 ∧ m_ps ms = nI k := by
  obtain ⟨⟨k9, bf, dq, da, sv, ou, hq, u, sa, cap, ml, e, fs, nv, W, Ws, Vs, f, lp, hC⟩, -⟩ := h
  exact ⟨lp.length, hC.2.2.2.2.2.2.2.2.2.2.1, hC.2.2.2.2.2.2.2.2.2.2.2.1⟩
theorem gd_0 {T v : Int32} (h : T = 0) : gd T v = v := if_pos h
theorem HS.nk {g : GC} {σ : AH} {x b9 hb : Nat} {ms ms2 : MM} {oa : Nat → Int64} {oD : Nat → UInt64} (h : HS g σ x b9 hb (kM ms) ms2 oa oD) : NK hb (m_now ms) := by
  obtain ⟨⟨k9, bf, dq, da, sv, ou, hq, u, sa, cap, ml, e, fs, nv, W, Ws, Vs, f, lp, hC⟩, -⟩ := h
  exact hC.2.2.2.2.2.2.1
theorem sh_dc : ∀ a, a < 25 → ∀ b, b < 13 → ¬ b = 0 → Op.cmpValue (FP.dcmp (FP.f2d (FP.fdiv (FP.i2f (nI a)) (FP.i2f (nI b)))) (FP.f2d (FP.fdiv (FP.i2f (nI a)) (FP.i2f (nI b))))) .l = 0 := by decide +kernel
theorem sh_dc0 : Op.cmpValue (FP.dcmp (FP.f2d FP.fconst0) (FP.f2d FP.fconst0)) .l = 0 := by decide +kernel
theorem share_dc {N : AF} (h : WFc N) : Op.cmpValue (FP.dcmp (FP.f2d (shareN 0 N)) (FP.f2d (shareN 0 N))) .l = 0 := by
  unfold shareN
  split
  · rename_i h0
    have hF := h.2.2.2.2.2
    have e := h.2.2.2.2.1
    obtain ⟨a, h1, h2⟩ := sm_ex (p := fun f => whyN N f = 0) (nF N)
    obtain ⟨b, h3, h4⟩ := sm_ex (p := fun f => fl N f 8 = 3) (nF N)
    have e1 : readyN N + atN N 3 = nI (a + b) := by
      show sm (fun f => bi (whyN N f = 0)) (nF N) + sm (fun f => bi (fl N f 8 = 3)) (nF N) = _
      rw [h2, h4, nI_add]
    have e2 : ¬ nF N = 0 := fun q => h0.2 (by rw [e, q]; decide)
    rw [e1, e]
    exact sh_dc _ (by omega) _ (by omega) e2
  · exact sh_dc0
theorem me_dc : ∀ a, a < 109 → ∀ b, b < 13 → ¬ b = 0 → Op.cmpValue (FP.dcmp (FP.ddiv (FP.i2d (nI a)) (FP.i2d (nI b))) (FP.ddiv (FP.i2d (nI a)) (FP.i2d (nI b)))) .l = 0 := by decide +kernel
theorem me_dc0 : Op.cmpValue (FP.dcmp FP.dconst0 FP.dconst0) .l = 0 := by decide +kernel
theorem mean_dc {N : AF} (h : WFd N) : Op.cmpValue (FP.dcmp (meanN 0 N) (meanN 0 N)) .l = 0 := by
  unfold meanN
  split
  · rename_i h0
    have hF := h.1.2.2.2.2.2
    have e := h.1.2.2.2.2.1
    obtain ⟨a, h1, h2⟩ := smd_ex (f := fun f => fl N f 3) (n := nF N) (fun k hk => (h.2 k hk).2.2.2.1)
    have e2 : ¬ nF N = 0 := fun q => h0.2 (by rw [e, q]; decide)
    rw [h2, e]
    exact me_dc _ (by omega) _ (by omega) e2
  · exact me_dc0
theorem whyW_1 {N : AF} {t h : Int32} (h0 : manyT N t = 0) : ¬ whyWashN N t h = 0 := by
  unfold whyWashN
  rw [if_pos h0]
  decide
theorem least_ex {N : AF} (h : WFd N) (t : Int32) : ∃ L, L ≤ 3 ∧ leastN N t = nI L := by
  have g : ∀ n, n ≤ nF N → ∃ L, L ≤ 3 ∧ lcF N t n = nI L := by
    intro n
    induction n with
    | zero => intro _; exact ⟨3, Nat.le_refl _, rfl⟩
    | succ n ih =>
      intro hn
      obtain ⟨L, hL, e⟩ := ih (by omega)
      obtain ⟨c, hc, e2⟩ := (h.2 n (by omega)).2.2.1
      rw [lcF_s, e, e2]
      split
      · have q : ∀ a, a ≤ 3 → ∀ b, b ≤ 3 → ∃ L, L ≤ 3 ∧ mn (nI a) (nI b) = nI L := by decide +kernel
        exact q L hL c hc
      · exact ⟨L, hL, rfl⟩
  exact g (nF N) (Nat.le_refl _)
theorem mx9 : ∀ x, x ≤ 9 → ∀ k, k ≤ 3 → ∃ y, y ≤ 9 ∧ mx 0 ((nI x - 1) - (2 * nI k)) = nI y := by decide +kernel
theorem sb_lt : ∀ a, a ≤ 12 → ∀ b, b ≤ 12 → ((nI a - nI b < 0 ↔ a < b) ∧ (nI a - nI b = 0 ↔ a = b)) := by decide +kernel
theorem bh_ex {N : AF} (h : WFd N) (t : Int32) {k : Nat} (hk : k ≤ 3) : ∃ s d, s ≤ 12 ∧ d ≤ 108 ∧ stainBy N t (nI k) = nI s ∧ dirtBy N t (nI k) = nI d ∧ bhV N t k = nI (999 * s + d) := by
  have hF := h.1.2.2.2.2.2
  obtain ⟨s, hs, es⟩ := sm_ex (p := fun f => inTub N f t ∧ ¬ newS N f (runIn N t (nI k)) = 0) (nF N)
  obtain ⟨d, hd, ed⟩ := smd_ex (f := fun f => if inTub N f t then dirtB N f (nI k) else 0) (n := nF N) (fun f hf => by
    show ∃ x, x ≤ 9 ∧ (if inTub N f t then dirtB N f (nI k) else 0) = nI x
    split
    · obtain ⟨x, hx, ex⟩ := (h.2 f hf).2.2.2.1
      unfold dirtB
      rw [ex]
      exact mx9 x hx k hk
    · exact ⟨0, by decide, rfl⟩)
  have e1 : stainBy N t (nI k) = nI s := es
  have e2 : dirtBy N t (nI k) = nI d := ed
  refine ⟨s, d, by omega, by omega, e1, e2, ?_⟩
  unfold bhV
  rw [e1, e2, show (999 : Int32) = nI 999 from rfl, pk_mul, nI_add]
theorem better_iff {N : AF} (h : WFd N) (t : Int32) {k j : Nat} (hk : k ≤ 3) (hj : j ≤ 3) : betterN N t (nI k) (nI j) ↔ ¬ bhV N t j ≤ bhV N t k := by
  obtain ⟨s, d, hs, hd, e1, e2, e3⟩ := bh_ex h t hk
  obtain ⟨s', d', hs', hd', f1, f2, f3⟩ := bh_ex h t hj
  obtain ⟨q1, q2⟩ := sb_lt s hs s' hs'
  rw [e3, f3, nI_lei (by omega) (by omega)]
  unfold betterN
  rw [e1, f1, e2, f2, q1, q2, nI_lei (by omega) (by omega)]
  omega
theorem bh_step {N : AF} (h : WFd N) {t : Int32} {k j : Nat} (hk : k ≤ 3) (hj : j ≤ 3) (hb : bhU N t k = (nI j, bhV N t j)) (ok : whyWashN N t (nI k) = 0) : bhU N t (k + 1) = if betterN N t (nI k) (nI j) then (nI k, bhV N t k) else (nI j, bhV N t j) := by
  rw [bhU_s, if_neg (fun q => q ok), hb]
  have n1 : ¬ nI j = -1 := nI_m1 (by omega)
  by_cases c : betterN N t (nI k) (nI j)
  · rw [if_pos c, if_neg (fun q => ((better_iff h t hk hj).mp c) q.2)]
  · rw [if_neg c, if_pos ⟨n1, Classical.byContradiction (fun q => c ((better_iff h t hk hj).mpr q))⟩]
theorem best_eq {N : AF} (h : WFd N) (t : Int32) : bestN N t = (bhU N t 4).1 := by
  unfold bestN
  by_cases h0 : manyT N t = 0
  · have w : ∀ k, ¬ whyWashN N t (nI k) = 0 := fun k => whyW_1 h0
    rw [if_pos h0, bhU_s, if_pos (w 3), bhU_s, if_pos (w 2), bhU_s, if_pos (w 1), bhU_s, if_pos (w 0)]
    rfl
  rw [if_neg h0]
  obtain ⟨L, hL, eL⟩ := least_ex h t
  have ok : ∀ k, k ≤ L → whyWashN N t (nI k) = 0 := fun k hk => by
    unfold whyWashN
    rw [if_neg h0, eL, if_neg (fun q => by have := (nI_lti (by omega) (by omega)).mp q; omega)]
  have no : ∀ k, k ≤ 3 → L < k → ¬ whyWashN N t (nI k) = 0 := fun k hk3 hk => by
    unfold whyWashN
    rw [if_neg h0, eL, if_pos ((nI_lti (by omega) (by omega)).mpr hk)]
    decide
  have e1 : bhU N t 1 = (nI 0, bhV N t 0) := by
    rw [bhU_s, if_neg (fun q => q (ok 0 (Nat.zero_le _))), if_neg (fun q => q.1 rfl)]
  rw [eL]
  have l1 : nI L < 1 ↔ L < 1 := nI_lti (b := 1) (by omega) (by decide)
  have l2 : nI L < 2 ↔ L < 2 := nI_lti (b := 2) (by omega) (by decide)
  have l3 : nI L < 3 ↔ L < 3 := nI_lti (b := 3) (by omega) (by decide)
  by_cases c1 : L < 1
  · rw [if_pos (l1.mpr c1), bhU_s, if_pos (no 3 (by decide) (by omega)), bhU_s, if_pos (no 2 (by decide) (by omega)), bhU_s, if_pos (no 1 (by decide) (by omega)), e1]
    rfl
  rw [if_neg (fun q => c1 (l1.mp q))]
  obtain ⟨j1, hj1, b1, e2⟩ : ∃ j, j ≤ 1 ∧ bh1 N t = nI j ∧ bhU N t 2 = (nI j, bhV N t j) := by
    have q := bh_step h (k := 1) (j := 0) (by decide) (by decide) e1 (ok 1 (by omega))
    unfold bh1
    by_cases c : betterN N t (nI 1) (nI 0)
    · rw [if_pos c] at q
      exact ⟨1, by decide, if_pos c, q⟩
    · rw [if_neg c] at q
      exact ⟨0, by decide, if_neg c, q⟩
  by_cases c2 : L < 2
  · rw [if_pos (l2.mpr c2), bhU_s, if_pos (no 3 (by decide) (by omega)), bhU_s, if_pos (no 2 (by decide) (by omega)), e2]
    exact b1
  rw [if_neg (fun q => c2 (l2.mp q))]
  obtain ⟨j2, hj2, b2, e3⟩ : ∃ j, j ≤ 2 ∧ bh2 N t = nI j ∧ bhU N t 3 = (nI j, bhV N t j) := by
    have q := bh_step h (k := 2) (j := j1) (by decide) (by omega) e2 (ok 2 (by omega))
    unfold bh2
    rw [b1]
    by_cases c : betterN N t (nI 2) (nI j1)
    · rw [if_pos c] at q
      exact ⟨2, by decide, if_pos c, q⟩
    · rw [if_neg c] at q
      exact ⟨j1, by omega, if_neg c, q⟩
  by_cases c3 : L < 3
  · rw [if_pos (l3.mpr c3), bhU_s, if_pos (no 3 (by decide) (by omega)), e3]
    exact b2
  rw [if_neg (fun q => c3 (l3.mp q))]
  have q := bh_step h (k := 3) (j := j2) (by decide) (by omega) e3 (ok 3 (by omega))
  rw [q]
  unfold bh3
  rw [b2]
  by_cases c : betterN N t (nI 3) (nI j2)
  · rw [if_pos c]
    exact if_pos c
  · rw [if_neg c]
    exact if_neg c
-- orders
def cN (p : Nat → Prop) [DecidablePred p] : Nat → Nat
  | 0 => 0
  | n + 1 => cN p n + if p n then 1 else 0
theorem sm_cN (p : Nat → Prop) [DecidablePred p] (n : Nat) : sm (fun k => bi (p k)) n = nI (cN p n) := by
  induction n with
  | zero => rfl
  | succ n ih =>
    rw [sm_s, ih]
    show nI (cN p n) + bi (p n) = nI (cN p n + if p n then 1 else 0)
    by_cases c : p n
    · rw [if_pos c, bi_t c]; exact nI_add _ 1
    · rw [if_neg c, bi_f c]; exact nI_add _ 0
theorem cN_cg {p q : Nat → Prop} [DecidablePred p] [DecidablePred q] {n : Nat} (h : ∀ k, k < n → (p k ↔ q k)) : cN p n = cN q n := by
  induction n with
  | zero => rfl
  | succ n ih =>
    have e := ih (fun k hk => h k (by omega))
    have hn := h n (by omega)
    show cN p n + (if p n then 1 else 0) = cN q n + (if q n then 1 else 0)
    rw [e]
    by_cases c : p n
    · rw [if_pos c, if_pos (hn.mp c)]
    · rw [if_neg c, if_neg (fun z => c (hn.mpr z))]
theorem cN_0 {p : Nat → Prop} [DecidablePred p] {n : Nat} (h : ∀ k, k < n → ¬ p k) : cN p n = 0 := by
  induction n with
  | zero => rfl
  | succ n ih =>
    show cN p n + (if p n then 1 else 0) = 0
    rw [ih (fun k hk => h k (by omega)), if_neg (h n (by omega))]
theorem cN_le {p : Nat → Prop} [DecidablePred p] (n : Nat) : cN p n ≤ n := by
  induction n with
  | zero => exact Nat.le_refl _
  | succ n ih =>
    show cN p n + (if p n then 1 else 0) ≤ n + 1
    split <;> omega
/-- one more at most, and if one more then there is one -/
theorem cN_1 {p r q : Nat → Prop} [DecidablePred p] [DecidablePred q] {n : Nat} (h : ∀ k, k < n → (q k ↔ p k ∨ r k)) (hd : ∀ k, k < n → p k → ¬ r k) (hu : ∀ k k', k < n → k' < n → r k → r k' → k = k') : (cN q n = cN p n ∧ ∀ k, k < n → ¬ r k) ∨ (cN q n = cN p n + 1 ∧ ∃ k, k < n ∧ r k) := by
  induction n with
  | zero => exact Or.inl ⟨rfl, fun k hk => absurd hk (Nat.not_lt_zero k)⟩
  | succ n ih =>
    have i := ih (fun k hk => h k (by omega)) (fun k hk => hd k (by omega)) (fun k k' hk hk' => hu k k' (by omega) (by omega))
    have hn := h n (by omega)
    show (cN q n + (if q n then 1 else 0) = cN p n + (if p n then 1 else 0) ∧ _) ∨ (cN q n + (if q n then 1 else 0) = cN p n + (if p n then 1 else 0) + 1 ∧ _)
    by_cases cr : r n
    · have cp : ¬ p n := fun z => hd n (by omega) z cr
      rw [if_pos (hn.mpr (Or.inr cr)), if_neg cp]
      rcases i with ⟨e, _⟩ | ⟨_, k, hk, hr⟩
      · exact Or.inr ⟨by rw [e], n, by omega, cr⟩
      · exact absurd (hu k n (by omega) (by omega) hr cr) (by omega)
    · by_cases cp : p n
      · rw [if_pos (hn.mpr (Or.inl cp)), if_pos cp]
        rcases i with ⟨e, a⟩ | ⟨e, k, hk, hr⟩
        · exact Or.inl ⟨by rw [e], fun k hk z => by
            rcases Nat.lt_or_ge k n with c | c
            · exact a k c z
            · exact cr (by rw [show n = k by omega]; exact z)⟩
        · exact Or.inr ⟨by omega, k, by omega, hr⟩
      · rw [if_neg (fun z => (hn.mp z).elim cp cr), if_neg cp]
        rcases i with ⟨e, a⟩ | ⟨e, k, hk, hr⟩
        · exact Or.inl ⟨by rw [e], fun k hk z => by
            rcases Nat.lt_or_ge k n with c | c
            · exact a k c z
            · exact cr (by rw [show n = k by omega]; exact z)⟩
        · exact Or.inr ⟨by omega, k, by omega, hr⟩
theorem fsr_hit {p : Nat → Prop} [DecidablePred p] {f : Nat} (hf : p f) : ∀ n i, i ≤ f → f < i + n → ∃ k, k < i + n ∧ fsr p i n = nI k
  | 0, i, h1, h2 => absurd h2 (by omega)
  | n + 1, i, h1, h2 => by
    show ∃ k, k < i + (n + 1) ∧ (if p i then nI i else fsr p (i + 1) n) = nI k
    by_cases c : p i
    · exact ⟨i, by omega, if_pos c⟩
    · have hne : ¬ i = f := fun e => c (by rw [e]; exact hf)
      obtain ⟨k, hk, e⟩ := fsr_hit hf n (i + 1) (by omega) (by omega)
      exact ⟨k, by omega, (if_neg c).trans e⟩
theorem ins_of {hb : Nat} {N : AF} (h : NK hb N) (hhb : hb < 2 ^ 30) : INS N := by
  obtain ⟨⟨hd, _⟩, c, hc, e11, ho, hu⟩ := h
  have hF := hd.1.2.2.2.2.2
  intro t i hi
  have hk : ∀ k, k < nF N → inTub N k t → (fl N k 10).toNatClampNeg < c ∧ fl N k 10 = nI (fl N k 10).toNatClampNeg := fun k hk hin => by
    obtain ⟨j, hj, e⟩ := ho k hk hin.1
    rw [e, nI_clamp (by omega)]
    exact ⟨hj, rfl⟩
  have hm : manyT N t = nI (cN (fun k => inTub N k t ∧ (fl N k 10).toNatClampNeg < c) (nF N)) := by
    unfold manyT
    rw [sm_cN]
    rw [cN_cg (q := fun k => inTub N k t ∧ (fl N k 10).toNatClampNeg < c) (fun k q => ⟨fun z => ⟨z, (hk k q z).1⟩, fun z => z.1⟩)]
  have hml := cN_le (p := fun k => inTub N k t ∧ (fl N k 10).toNatClampNeg < c) (nF N)
  rw [hm, ixn (by omega)] at hi
  -- where the count passes i
  have hex : ∀ v, i < cN (fun k => inTub N k t ∧ (fl N k 10).toNatClampNeg < v) (nF N) → ∃ v', cN (fun k => inTub N k t ∧ (fl N k 10).toNatClampNeg < v') (nF N) = i ∧ ∃ k, k < nF N ∧ inTub N k t ∧ (fl N k 10).toNatClampNeg = v' := by
    intro v
    induction v with
    | zero => intro q; rw [cN_0 (fun k _ z => Nat.not_lt_zero _ z.2)] at q; exact absurd q (Nat.not_lt_zero _)
    | succ v ih =>
      intro q
      by_cases c9 : i < cN (fun k => inTub N k t ∧ (fl N k 10).toNatClampNeg < v) (nF N)
      · exact ih c9
      · rcases cN_1 (p := fun k => inTub N k t ∧ (fl N k 10).toNatClampNeg < v) (r := fun k => inTub N k t ∧ (fl N k 10).toNatClampNeg = v) (q := fun k => inTub N k t ∧ (fl N k 10).toNatClampNeg < v + 1) (n := nF N) (fun k _ => ⟨fun z => by
            rcases Nat.lt_or_ge (fl N k 10).toNatClampNeg v with a | a
            · exact Or.inl ⟨z.1, a⟩
            · exact Or.inr ⟨z.1, by omega⟩, fun z => by
            rcases z with z | z
            · exact ⟨z.1, by omega⟩
            · exact ⟨z.1, by omega⟩⟩) (fun k _ a b => by omega) (fun k k' q1 q2 a b => hu k k' q1 q2 a.1.1 b.1.1 (by rw [(hk k q1 a.1).2, (hk k' q2 b.1).2, a.2, b.2])) with ⟨e, _⟩ | ⟨e, k, q1, q2⟩
        · omega
        · exact ⟨v, by omega, k, q1, q2.1, q2.2⟩
  obtain ⟨v, hv, f, hf, hin, hfo⟩ := hex c hi
  have ha : aheadN N f = nI i := by
    unfold aheadN
    rw [sm_cN, ← hv]
    rw [cN_cg (q := fun k => inTub N k t ∧ (fl N k 10).toNatClampNeg < v) (fun k q => ?_)]
    rw [hin.2]
    refine ⟨fun z => ⟨z.1, ?_⟩, fun z => ⟨z.1, fun y => ?_⟩⟩
    · have h1 := (hk k q z.1).2
      have h2 := (hk f hf hin).2
      have h3 := (hk k q z.1).1
      have h4 := (hk f hf hin).1
      have z2 := z.2
      rw [h1, h2, nI_lei (by omega) (by omega)] at z2
      omega
    · have h1 := (hk k q z.1).2
      have h2 := (hk f hf hin).2
      have h3 := (hk k q z.1).1
      have h4 := (hk f hf hin).1
      have z2 := z.2
      rw [h1, h2, nI_lei (by omega) (by omega)] at y
      omega
  obtain ⟨k, hk9, e⟩ := fsr_hit (p := fun f => inTub N f t ∧ aheadN N f = nI i) (f := f) ⟨hin, ha⟩ (nF N) 0 (Nat.zero_le _) (by omega)
  exact ⟨k, by omega, e⟩
theorem t_load {l : Launch} {g : GC} {b : Nat} {Q : Option Value → AH → Prop} {X : String → Nat → AH → Prop} (σ : AH) (x b9 hb bs k n : Nat) (xs : Nat → Int32) (hs : o_arr g .int bs n (fun j => .int (xs j))) (hk : 6 * k + 6 ≤ n) (hn : n ≤ 144) (hhb : hb < 2 ^ 30) (hT : TI g x b9 hb σ) (kk : ∀ τ, TI g x b9 (hb + 13000) τ → AW l g mLaw 60 b Q X 3776 [(0, .ref bs), (1, .ref x), (2, .ref b9), (3, .ref (b9 + 9)), (4, .ref (b9 + 10)), (5, .int (nI (6 * k)))] [] τ) : AW l g mLaw 60 (b + 41000) Q X 377 [(0, .ref bs), (1, .ref x), (2, .ref b9), (3, .ref (b9 + 9)), (4, .ref (b9 + 10)), (5, .int (nI (6 * k)))] [] σ := by
  obtain ⟨ms, oa, oD, s0, hH, hst⟩ := hT
  obtain ⟨u, hu8, hum⟩ := hH.u
  obtain ⟨k9, hk5, hbd⟩ := hH.k
  have hwf := hH.wfc
  refine A_aload_n (i := 1) dL_law_377 rfl rfl ?_
  refine A_aload_n (i := 0) dL_law_378 rfl rfl ?_
  refine A_iload dL_law_379 rfl ?_
  refine A_iconst (v := 1) dL_law_381 (by decide) ?_
  refine A_iadd dL_law_382 ?_
  refine A_int (w := nI ((6 * k) + 1)) (nI_add (6 * k) 1) ?_
  refine A_ialdO hs (vp_in_nI (by omega) (by omega)) (v := .int (xs (6 * k + 1))) (by rw [nI_clamp (by omega)]) dL_law_383 ?_
  refine A_aload_n (i := 3) dL_law_384 rfl rfl ?_
  refine A_callSH3 (b' := b + 500) (o_load σ x b9 hb ms oa oD (xs (6 * k + 1)) hhb hH (s0 := s0) hum hu8 hbd hk5) tX0_load (by decide) q291 dL_law_385 (by decide) (by omega) (Nat.le_of_ble_eq_true rfl) (fun w9 τ1 h9 => ?_) (fun E9 q9 τ9 h9 => h9.elim)
  obtain ⟨e1, oa1, hH1, hv1⟩ := h9
  subst e1
  refine A_istore dL_law_388 (Nat.le_of_ble_eq_true rfl) ?_
  refine A_aload_n (i := 2) dL_law_390 rfl rfl ?_
  refine A_aload_n (i := 0) dL_law_391 rfl rfl ?_
  refine A_iload dL_law_392 rfl ?_
  refine A_iconst (v := 1) dL_law_394 (by decide) ?_
  refine A_iadd dL_law_395 ?_
  refine A_int (w := nI ((6 * k) + 1)) (nI_add (6 * k) 1) ?_
  refine A_ialdO hs (vp_in_nI (by omega) (by omega)) (v := .int (xs (6 * k + 1))) (by rw [nI_clamp (by omega)]) dL_law_396 ?_
  refine A_st (σ' := mc b9 (⟨m_thr ms, m_is ms, nI u, nI k9, m_pc ms, m_pa ms, m_sz ms, m_cu ms, nI s0, m_tk ms, m_to ms, m_ps ms, m_now ms, m_asd ms, m_und ms, m_sav ms, m_isv ms, (m_buf ms), m_grp ms, m_pag ms⟩ : MM) τ1) (by rw [← hum, ← hbd, ← hst]; exact hH1.2.1.symm) ?_
  refine A_callV1 (b' := b + 500) (c_load b9 ms τ1 k9 s0 u (m_buf ms) (xs (6 * k + 1)) hk5) tX2_load q2315 (mc_0 _ _ _) rfl rfl dL_law_397 (by decide) (by omega) (Nat.le_of_ble_eq_true rfl) (fun w9 τ2 h9 => ?_) (fun E9 q9 τ9 h9 => h9.elim)
  obtain ⟨e1, e2⟩ := h9
  obtain ⟨ms2, ems, em2⟩ : ∃ ms2 : MM, ms2 = (⟨gq (mayT (bi (inR (xs (6 * k + 1)) 0 (nI k9))) 1 1) (if (ldR (m_buf ms) (m_now ms) s0 (m_tk ms) (m_to ms) (ix (xs (6 * k + 1)))).2.2.2.2.2.1 ≤ 0 then mayT (bi (inR (xs (6 * k + 1)) 0 (nI k9))) 1 1 else 2) (mayT (bi (inR (xs (6 * k + 1)) 0 (nI k9))) 1 1), gq (mayT (bi (inR (xs (6 * k + 1)) 0 (nI k9))) 1 1) (if (ldR (m_buf ms) (m_now ms) s0 (m_tk ms) (m_to ms) (ix (xs (6 * k + 1)))).2.2.2.2.2.1 ≤ 0 then 1 else (m_is ms)) (m_is ms), nI (gq (mayT (bi (inR (xs (6 * k + 1)) 0 (nI k9))) 1 1) (if (ldR (m_buf ms) (m_now ms) s0 (m_tk ms) (m_to ms) (ix (xs (6 * k + 1)))).2.2.2.2.2.1 ≤ 0 then 0 else u) u), nI (gq (mayT (bi (inR (xs (6 * k + 1)) 0 (nI k9))) 1 1) (0) k9), gq (mayT (bi (inR (xs (6 * k + 1)) 0 (nI k9))) 1 1) ((ldR (m_buf ms) (m_now ms) s0 (m_tk ms) (m_to ms) (ix (xs (6 * k + 1)))).2.2.2.2.2.1) (m_pc ms), gq (mayT (bi (inR (xs (6 * k + 1)) 0 (nI k9))) 1 1) ((ldR (m_buf ms) (m_now ms) s0 (m_tk ms) (m_to ms) (ix (xs (6 * k + 1)))).2.2.2.2.2.2) (m_pa ms), gq (mayT (bi (inR (xs (6 * k + 1)) 0 (nI k9))) 1 1) ((xs (6 * k + 1))) (m_sz ms), gq (mayT (bi (inR (xs (6 * k + 1)) 0 (nI k9))) 1 1) (nI (ldR (m_buf ms) (m_now ms) s0 (m_tk ms) (m_to ms) (ix (xs (6 * k + 1)))).2.1) (m_cu ms), nI (gq (mayT (bi (inR (xs (6 * k + 1)) 0 (nI k9))) 1 1) ((ldR (m_buf ms) (m_now ms) s0 (m_tk ms) (m_to ms) (ix (xs (6 * k + 1)))).2.2.1) s0), gq (mayT (bi (inR (xs (6 * k + 1)) 0 (nI k9))) 1 1) ((ldR (m_buf ms) (m_now ms) s0 (m_tk ms) (m_to ms) (ix (xs (6 * k + 1)))).2.2.2.1) (m_tk ms), gq (mayT (bi (inR (xs (6 * k + 1)) 0 (nI k9))) 1 1) ((ldR (m_buf ms) (m_now ms) s0 (m_tk ms) (m_to ms) (ix (xs (6 * k + 1)))).2.2.2.2.1) (m_to ms), m_ps ms, gq (mayT (bi (inR (xs (6 * k + 1)) 0 (nI k9))) 1 1) (if (ldR (m_buf ms) (m_now ms) s0 (m_tk ms) (m_to ms) (ix (xs (6 * k + 1)))).2.2.2.2.2.1 ≤ 0 then (ldR (m_buf ms) (m_now ms) s0 (m_tk ms) (m_to ms) (ix (xs (6 * k + 1)))).1 else (m_now ms)) (m_now ms), gq (mayT (bi (inR (xs (6 * k + 1)) 0 (nI k9))) 1 1) ((m_now ms)) (m_asd ms), m_und ms, m_sav ms, gq (mayT (bi (inR (xs (6 * k + 1)) 0 (nI k9))) 1 1) (if (ldR (m_buf ms) (m_now ms) s0 (m_tk ms) (m_to ms) (ix (xs (6 * k + 1)))).2.2.2.2.2.1 ≤ 0 then va_up (va_up (m_isv ms) 0 0) 1 0 else (m_isv ms)) (m_isv ms), (m_buf ms), m_grp ms, m_pag ms⟩ : MM) ∧ τ2 = mc b9 ms2 τ1 := ⟨_, rfl, e2⟩
  subst e1
  have hH2 : HS g τ2 x b9 (hb + 13000) (zl ms k9 u (xs (6 * k + 1)) (ldR (m_buf ms) (m_now ms) s0 (m_tk ms) (m_to ms) (ix (xs (6 * k + 1))))) ms2 oa1 oD := by rw [em2]; exact hH1.mc
  have hz2 : (zl ms k9 u (xs (6 * k + 1)) (ldR (m_buf ms) (m_now ms) s0 (m_tk ms) (m_to ms) (ix (xs (6 * k + 1))))) = kM ms2 := ((congrArg (fun z : MM => kM z) ems).trans rfl).symm
  have hthr : m_thr ms2 = (tl k9 (xs (6 * k + 1)) (ldR (m_buf ms) (m_now ms) s0 (m_tk ms) (m_to ms) (ix (xs (6 * k + 1))))) := (congrArg (fun z : MM => m_thr z) ems).trans rfl
  have hst2 := (congrArg (fun z : MM => m_st z) ems)
  simp only [m_st] at hst2
  refine A_istore dL_law_400 (Nat.le_of_ble_eq_true rfl) ?_
  refine A_aload_n (i := 2) dL_law_402 rfl rfl ?_
  refine A_st (σ' := mc b9 ms2 τ2) hH2.2.1.symm ?_
  refine A_callV0E (b' := b + 500) (v := some (.int (m_thr ms2))) (τ := mc b9 ms2 τ2) (c_thrown b9 ms2 τ2) tX2_thrown q2291 (mc_0 _ _ _) rfl rfl dL_law_403 (by decide) (by omega) (Nat.le_of_ble_eq_true rfl) ?_
  refine A_st (σ' := τ2) hH2.2.1 ?_
  refine A_iload dL_law_406 rfl ?_
  refine A_icmp_eq_t (tgt := 413) dL_law_408 (by decide) (hthr) ?_
  refine A_iload dL_law_413 rfl ?_
  refine A_if_ne (tgt := 430) dL_law_415 (by decide) (fun c1 => ?_) (fun c1 => ?_)
  · skip
    refine A_goto (tgt := 3776) dL_law_430 (by decide) ?_
    refine A_sub (L' := [(0, .ref bs), (1, .ref x), (2, .ref b9), (3, .ref (b9 + 9)), (4, .ref (b9 + 10)), (5, .int (nI (6 * k)))]) ⟨rfl, rfl, rfl, rfl, rfl, rfl, trivial⟩ ?_
    refine A_less (b' := b) (by omega) ?_
    exact kk τ2 ⟨ms2, oa1, oD, _, by rw [← hz2]; exact hH2, hst2⟩
  · skip
    refine A_aload_n (i := 3) dL_law_418 rfl rfl ?_
    refine A_iconst (v := 0) dL_law_419 (by decide) ?_
    refine A_lald hH2.2.2.1 (by unfold vp_in; decide) dL_law_420 ?_
    refine A_iload dL_law_421 rfl ?_
    refine A_i2l dL_law_423 rfl ?_
    refine A_lcmp dL_law_424 ?_
    refine A_if_eq_t (tgt := 430) dL_law_425 (by decide) (by rw [show oa1 (0 : Int32).toNatClampNeg = _ from hv1 c1]; exact lg_self _) ?_
    refine A_goto (tgt := 3776) dL_law_430 (by decide) ?_
    refine A_sub (L' := [(0, .ref bs), (1, .ref x), (2, .ref b9), (3, .ref (b9 + 9)), (4, .ref (b9 + 10)), (5, .int (nI (6 * k)))]) ⟨rfl, rfl, rfl, rfl, rfl, rfl, trivial⟩ ?_
    refine A_less (b' := b) (by omega) ?_
    exact kk τ2 ⟨ms2, oa1, oD, _, by rw [← hz2]; exact hH2, hst2⟩
theorem t_count {l : Launch} {g : GC} {b : Nat} {Q : Option Value → AH → Prop} {X : String → Nat → AH → Prop} (σ : AH) (x b9 hb bs k n : Nat) (xs : Nat → Int32) (hs : o_arr g .int bs n (fun j => .int (xs j))) (hk : 6 * k + 6 ≤ n) (hn : n ≤ 144) (hhb : hb < 2 ^ 30) (hT : TI g x b9 hb σ) (kk : ∀ τ, TI g x b9 hb τ → AW l g mLaw 60 b Q X 3776 [(0, .ref bs), (1, .ref x), (2, .ref b9), (3, .ref (b9 + 9)), (4, .ref (b9 + 10)), (5, .int (nI (6 * k)))] [] τ) : AW l g mLaw 60 (b + 41000) Q X 472 [(0, .ref bs), (1, .ref x), (2, .ref b9), (3, .ref (b9 + 9)), (4, .ref (b9 + 10)), (5, .int (nI (6 * k)))] [] σ := by
  obtain ⟨ms, oa, oD, s0, hH, hst⟩ := hT
  have hwf := hH.wfc
  refine A_aload_n (i := 1) dL_law_472 rfl rfl ?_
  refine A_aload_n (i := 0) dL_law_473 rfl rfl ?_
  refine A_iload dL_law_474 rfl ?_
  refine A_iconst (v := 1) dL_law_476 (by decide) ?_
  refine A_iadd dL_law_477 ?_
  refine A_int (w := nI ((6 * k) + 1)) (nI_add (6 * k) 1) ?_
  refine A_ialdO hs (vp_in_nI (by omega) (by omega)) (v := .int (xs (6 * k + 1))) (by rw [nI_clamp (by omega)]) dL_law_478 ?_
  refine A_aload_n (i := 3) dL_law_479 rfl rfl ?_
  refine A_callSH3 (b' := b + 40998) (o_count σ x b9 hb ms oa oD (xs (6 * k + 1)) hhb hH) tX0_count (by decide) q1375 dL_law_480 (by decide) (by omega) (Nat.le_of_ble_eq_true rfl) (fun w9 τ1 h9 => ?_) (fun E9 q9 τ9 h9 => h9.elim)
  obtain ⟨e1, oa1, hH1, hv1⟩ := h9
  subst e1
  refine A_istore dL_law_483 (Nat.le_of_ble_eq_true rfl) ?_
  refine A_aload_n (i := 2) dL_law_485 rfl rfl ?_
  refine A_aload_n (i := 0) dL_law_486 rfl rfl ?_
  refine A_iload dL_law_487 rfl ?_
  refine A_iconst (v := 1) dL_law_489 (by decide) ?_
  refine A_iadd dL_law_490 ?_
  refine A_int (w := nI ((6 * k) + 1)) (nI_add (6 * k) 1) ?_
  refine A_ialdO hs (vp_in_nI (by omega) (by omega)) (v := .int (xs (6 * k + 1))) (by rw [nI_clamp (by omega)]) dL_law_491 ?_
  refine A_st (σ' := mc b9 ms τ1) hH1.2.1.symm ?_
  refine A_callV1 (b' := b + 40998) (c_count b9 ms τ1 (xs (6 * k + 1)) hwf.1.1) tX2_count q2561 (mc_0 _ _ _) rfl rfl dL_law_492 (by decide) (by omega) (Nat.le_of_ble_eq_true rfl) (fun w9 τ2 h9 => ?_) (fun E9 q9 τ9 h9 => h9.elim)
  obtain ⟨e1, e2⟩ := h9
  obtain ⟨ms2, ems, em2⟩ : ∃ ms2 : MM, ms2 = (⟨mayT (m_is ms) (bi (inR (xs (6 * k + 1)) 0 15)) 1, m_is ms, m_um ms, m_bd ms, m_pc ms, m_pa ms, m_sz ms, m_cu ms, m_st ms, m_tk ms, m_to ms, m_ps ms, m_now ms, m_asd ms, m_und ms, m_sav ms, m_isv ms, m_buf ms, m_grp ms, m_pag ms⟩ : MM) ∧ τ2 = mc b9 ms2 τ1 := ⟨_, rfl, e2⟩
  subst e1
  have hH2 : HS g τ2 x b9 hb (kM ms) ms2 oa1 oD := by rw [em2]; exact hH1.mc
  have hz2 : (kM ms) = kM ms2 := ((congrArg (fun z : MM => kM z) ems).trans rfl).symm
  have hthr : m_thr ms2 = mayT (m_is ms) (bi (inR (xs (6 * k + 1)) 0 15)) 1 := (congrArg (fun z : MM => m_thr z) ems).trans rfl
  have hst2 := ((congrArg (fun z : MM => m_st z) ems).trans rfl).trans hst
  refine A_istore dL_law_495 (Nat.le_of_ble_eq_true rfl) ?_
  refine A_aload_n (i := 2) dL_law_497 rfl rfl ?_
  refine A_st (σ' := mc b9 ms2 τ2) hH2.2.1.symm ?_
  refine A_callV0E (b' := b + 40998) (v := some (.int (m_thr ms2))) (τ := mc b9 ms2 τ2) (c_thrown b9 ms2 τ2) tX2_thrown q2291 (mc_0 _ _ _) rfl rfl dL_law_498 (by decide) (by omega) (Nat.le_of_ble_eq_true rfl) ?_
  refine A_st (σ' := τ2) hH2.2.1 ?_
  refine A_iload dL_law_501 rfl ?_
  refine A_icmp_eq_t (tgt := 508) dL_law_503 (by decide) (hthr) ?_
  refine A_iload dL_law_508 rfl ?_
  refine A_if_ne (tgt := 525) dL_law_510 (by decide) (fun c1 => ?_) (fun c1 => ?_)
  · skip
    refine A_goto (tgt := 3776) dL_law_525 (by decide) ?_
    refine A_sub (L' := [(0, .ref bs), (1, .ref x), (2, .ref b9), (3, .ref (b9 + 9)), (4, .ref (b9 + 10)), (5, .int (nI (6 * k)))]) ⟨rfl, rfl, rfl, rfl, rfl, rfl, trivial⟩ ?_
    refine A_less (b' := b) (by omega) ?_
    exact kk τ2 ⟨ms2, oa1, oD, _, by rw [← hz2]; exact hH2, hst2⟩
  · skip
    refine A_aload_n (i := 3) dL_law_513 rfl rfl ?_
    refine A_iconst (v := 0) dL_law_514 (by decide) ?_
    refine A_lald hH2.2.2.1 (by unfold vp_in; decide) dL_law_515 ?_
    refine A_iload dL_law_516 rfl ?_
    refine A_i2l dL_law_518 rfl ?_
    refine A_lcmp dL_law_519 ?_
    refine A_if_eq_t (tgt := 525) dL_law_520 (by decide) (by rw [show oa1 (0 : Int32).toNatClampNeg = _ from hv1 c1]; rw [gd_0 (show mayT (m_is ms) (bi (inR (xs (6 * k + 1)) 0 15)) 1 = 0 from c1)]; exact lg_self _) ?_
    refine A_goto (tgt := 3776) dL_law_525 (by decide) ?_
    refine A_sub (L' := [(0, .ref bs), (1, .ref x), (2, .ref b9), (3, .ref (b9 + 9)), (4, .ref (b9 + 10)), (5, .int (nI (6 * k)))]) ⟨rfl, rfl, rfl, rfl, rfl, rfl, trivial⟩ ?_
    refine A_less (b' := b) (by omega) ?_
    exact kk τ2 ⟨ms2, oa1, oD, _, by rw [← hz2]; exact hH2, hst2⟩
theorem t_colour {l : Launch} {g : GC} {b : Nat} {Q : Option Value → AH → Prop} {X : String → Nat → AH → Prop} (σ : AH) (x b9 hb bs k n : Nat) (xs : Nat → Int32) (hs : o_arr g .int bs n (fun j => .int (xs j))) (hk : 6 * k + 6 ≤ n) (hn : n ≤ 144) (hhb : hb < 2 ^ 30) (hT : TI g x b9 hb σ) (kk : ∀ τ, TI g x b9 hb τ → AW l g mLaw 60 b Q X 3776 [(0, .ref bs), (1, .ref x), (2, .ref b9), (3, .ref (b9 + 9)), (4, .ref (b9 + 10)), (5, .int (nI (6 * k)))] [] τ) : AW l g mLaw 60 (b + 41000) Q X 528 [(0, .ref bs), (1, .ref x), (2, .ref b9), (3, .ref (b9 + 9)), (4, .ref (b9 + 10)), (5, .int (nI (6 * k)))] [] σ := by
  obtain ⟨ms, oa, oD, s0, hH, hst⟩ := hT
  have hwf := hH.wfc
  refine A_aload_n (i := 1) dL_law_528 rfl rfl ?_
  refine A_aload_n (i := 0) dL_law_529 rfl rfl ?_
  refine A_iload dL_law_530 rfl ?_
  refine A_iconst (v := 1) dL_law_532 (by decide) ?_
  refine A_iadd dL_law_533 ?_
  refine A_int (w := nI ((6 * k) + 1)) (nI_add (6 * k) 1) ?_
  refine A_ialdO hs (vp_in_nI (by omega) (by omega)) (v := .int (xs (6 * k + 1))) (by rw [nI_clamp (by omega)]) dL_law_534 ?_
  refine A_aload_n (i := 0) dL_law_535 rfl rfl ?_
  refine A_iload dL_law_536 rfl ?_
  refine A_iconst (v := 2) dL_law_538 (by decide) ?_
  refine A_iadd dL_law_539 ?_
  refine A_int (w := nI ((6 * k) + 2)) (nI_add (6 * k) 2) ?_
  refine A_ialdO hs (vp_in_nI (by omega) (by omega)) (v := .int (xs (6 * k + 2))) (by rw [nI_clamp (by omega)]) dL_law_540 ?_
  refine A_aload_n (i := 3) dL_law_541 rfl rfl ?_
  refine A_callSH4 (b' := b + 40998) (o_colour σ x b9 hb ms oa oD (xs (6 * k + 1)) (xs (6 * k + 2)) hhb hH) tX0_colour (by decide) q1435 dL_law_542 (by decide) (by omega) (Nat.le_of_ble_eq_true rfl) (fun w9 τ1 h9 => ?_) (fun E9 q9 τ9 h9 => h9.elim)
  obtain ⟨e1, oa1, hH1, hv1⟩ := h9
  subst e1
  refine A_istore dL_law_545 (Nat.le_of_ble_eq_true rfl) ?_
  refine A_aload_n (i := 2) dL_law_547 rfl rfl ?_
  refine A_aload_n (i := 0) dL_law_548 rfl rfl ?_
  refine A_iload dL_law_549 rfl ?_
  refine A_iconst (v := 1) dL_law_551 (by decide) ?_
  refine A_iadd dL_law_552 ?_
  refine A_int (w := nI ((6 * k) + 1)) (nI_add (6 * k) 1) ?_
  refine A_ialdO hs (vp_in_nI (by omega) (by omega)) (v := .int (xs (6 * k + 1))) (by rw [nI_clamp (by omega)]) dL_law_553 ?_
  refine A_aload_n (i := 0) dL_law_554 rfl rfl ?_
  refine A_iload dL_law_555 rfl ?_
  refine A_iconst (v := 2) dL_law_557 (by decide) ?_
  refine A_iadd dL_law_558 ?_
  refine A_int (w := nI ((6 * k) + 2)) (nI_add (6 * k) 2) ?_
  refine A_ialdO hs (vp_in_nI (by omega) (by omega)) (v := .int (xs (6 * k + 2))) (by rw [nI_clamp (by omega)]) dL_law_559 ?_
  refine A_st (σ' := mc b9 ms τ1) hH1.2.1.symm ?_
  refine A_callV2 (b' := b + 40998) (c_colour b9 ms τ1 (xs (6 * k + 1)) (xs (6 * k + 2)) hwf.1.1) tX2_colour q2585 (mc_0 _ _ _) rfl rfl dL_law_560 (by decide) (by omega) (Nat.le_of_ble_eq_true rfl) (fun w9 τ2 h9 => ?_) (fun E9 q9 τ9 h9 => h9.elim)
  obtain ⟨e1, e2⟩ := h9
  obtain ⟨ms2, ems, em2⟩ : ∃ ms2 : MM, ms2 = (⟨mayT (m_is ms) (bi (okC (m_is ms) (m_now ms) (xs (6 * k + 1)))) (bi (inR (xs (6 * k + 2)) 0 2)), m_is ms, m_um ms, m_bd ms, m_pc ms, m_pa ms, m_sz ms, m_cu ms, m_st ms, m_tk ms, m_to ms, m_ps ms, m_now ms, m_asd ms, m_und ms, m_sav ms, m_isv ms, m_buf ms, m_grp ms, m_pag ms⟩ : MM) ∧ τ2 = mc b9 ms2 τ1 := ⟨_, rfl, e2⟩
  subst e1
  have hH2 : HS g τ2 x b9 hb (kM ms) ms2 oa1 oD := by rw [em2]; exact hH1.mc
  have hz2 : (kM ms) = kM ms2 := ((congrArg (fun z : MM => kM z) ems).trans rfl).symm
  have hthr : m_thr ms2 = mayT (m_is ms) (bi (okC (m_is ms) (m_now ms) (xs (6 * k + 1)))) (bi (inR (xs (6 * k + 2)) 0 2)) := (congrArg (fun z : MM => m_thr z) ems).trans rfl
  have hst2 := ((congrArg (fun z : MM => m_st z) ems).trans rfl).trans hst
  refine A_istore dL_law_563 (Nat.le_of_ble_eq_true rfl) ?_
  refine A_aload_n (i := 2) dL_law_565 rfl rfl ?_
  refine A_st (σ' := mc b9 ms2 τ2) hH2.2.1.symm ?_
  refine A_callV0E (b' := b + 40998) (v := some (.int (m_thr ms2))) (τ := mc b9 ms2 τ2) (c_thrown b9 ms2 τ2) tX2_thrown q2291 (mc_0 _ _ _) rfl rfl dL_law_566 (by decide) (by omega) (Nat.le_of_ble_eq_true rfl) ?_
  refine A_st (σ' := τ2) hH2.2.1 ?_
  refine A_iload dL_law_569 rfl ?_
  refine A_icmp_eq_t (tgt := 576) dL_law_571 (by decide) (hthr) ?_
  refine A_iload dL_law_576 rfl ?_
  refine A_if_ne (tgt := 593) dL_law_578 (by decide) (fun c1 => ?_) (fun c1 => ?_)
  · skip
    refine A_goto (tgt := 3776) dL_law_593 (by decide) ?_
    refine A_sub (L' := [(0, .ref bs), (1, .ref x), (2, .ref b9), (3, .ref (b9 + 9)), (4, .ref (b9 + 10)), (5, .int (nI (6 * k)))]) ⟨rfl, rfl, rfl, rfl, rfl, rfl, trivial⟩ ?_
    refine A_less (b' := b) (by omega) ?_
    exact kk τ2 ⟨ms2, oa1, oD, _, by rw [← hz2]; exact hH2, hst2⟩
  · skip
    refine A_aload_n (i := 3) dL_law_581 rfl rfl ?_
    refine A_iconst (v := 0) dL_law_582 (by decide) ?_
    refine A_lald hH2.2.2.1 (by unfold vp_in; decide) dL_law_583 ?_
    refine A_iload dL_law_584 rfl ?_
    refine A_i2l dL_law_586 rfl ?_
    refine A_lcmp dL_law_587 ?_
    refine A_if_eq_t (tgt := 593) dL_law_588 (by decide) (by rw [show oa1 (0 : Int32).toNatClampNeg = _ from hv1 c1]; rw [gd_0 (show mayT (m_is ms) (bi (okC (m_is ms) (m_now ms) (xs (6 * k + 1)))) (bi (inR (xs (6 * k + 2)) 0 2)) = 0 from c1)]; exact lg_self _) ?_
    refine A_goto (tgt := 3776) dL_law_593 (by decide) ?_
    refine A_sub (L' := [(0, .ref bs), (1, .ref x), (2, .ref b9), (3, .ref (b9 + 9)), (4, .ref (b9 + 10)), (5, .int (nI (6 * k)))]) ⟨rfl, rfl, rfl, rfl, rfl, rfl, trivial⟩ ?_
    refine A_less (b' := b) (by omega) ?_
    exact kk τ2 ⟨ms2, oa1, oD, _, by rw [← hz2]; exact hH2, hst2⟩
theorem t_nation {l : Launch} {g : GC} {b : Nat} {Q : Option Value → AH → Prop} {X : String → Nat → AH → Prop} (σ : AH) (x b9 hb bs k n : Nat) (xs : Nat → Int32) (hs : o_arr g .int bs n (fun j => .int (xs j))) (hk : 6 * k + 6 ≤ n) (hn : n ≤ 144) (hhb : hb < 2 ^ 30) (hT : TI g x b9 hb σ) (kk : ∀ τ, TI g x b9 hb τ → AW l g mLaw 60 b Q X 3776 [(0, .ref bs), (1, .ref x), (2, .ref b9), (3, .ref (b9 + 9)), (4, .ref (b9 + 10)), (5, .int (nI (6 * k)))] [] τ) : AW l g mLaw 60 (b + 41000) Q X 596 [(0, .ref bs), (1, .ref x), (2, .ref b9), (3, .ref (b9 + 9)), (4, .ref (b9 + 10)), (5, .int (nI (6 * k)))] [] σ := by
  obtain ⟨ms, oa, oD, s0, hH, hst⟩ := hT
  have hwf := hH.wfc
  refine A_aload_n (i := 1) dL_law_596 rfl rfl ?_
  refine A_aload_n (i := 0) dL_law_597 rfl rfl ?_
  refine A_iload dL_law_598 rfl ?_
  refine A_iconst (v := 1) dL_law_600 (by decide) ?_
  refine A_iadd dL_law_601 ?_
  refine A_int (w := nI ((6 * k) + 1)) (nI_add (6 * k) 1) ?_
  refine A_ialdO hs (vp_in_nI (by omega) (by omega)) (v := .int (xs (6 * k + 1))) (by rw [nI_clamp (by omega)]) dL_law_602 ?_
  refine A_aload_n (i := 0) dL_law_603 rfl rfl ?_
  refine A_iload dL_law_604 rfl ?_
  refine A_iconst (v := 2) dL_law_606 (by decide) ?_
  refine A_iadd dL_law_607 ?_
  refine A_int (w := nI ((6 * k) + 2)) (nI_add (6 * k) 2) ?_
  refine A_ialdO hs (vp_in_nI (by omega) (by omega)) (v := .int (xs (6 * k + 2))) (by rw [nI_clamp (by omega)]) dL_law_608 ?_
  refine A_aload_n (i := 3) dL_law_609 rfl rfl ?_
  refine A_callSH4 (b' := b + 40998) (o_nation σ x b9 hb ms oa oD (xs (6 * k + 1)) (xs (6 * k + 2)) hhb hH) tX0_nation (by decide) q1448 dL_law_610 (by decide) (by omega) (Nat.le_of_ble_eq_true rfl) (fun w9 τ1 h9 => ?_) (fun E9 q9 τ9 h9 => h9.elim)
  obtain ⟨e1, oa1, hH1, hv1⟩ := h9
  subst e1
  refine A_istore dL_law_613 (Nat.le_of_ble_eq_true rfl) ?_
  refine A_aload_n (i := 2) dL_law_615 rfl rfl ?_
  refine A_aload_n (i := 0) dL_law_616 rfl rfl ?_
  refine A_iload dL_law_617 rfl ?_
  refine A_iconst (v := 1) dL_law_619 (by decide) ?_
  refine A_iadd dL_law_620 ?_
  refine A_int (w := nI ((6 * k) + 1)) (nI_add (6 * k) 1) ?_
  refine A_ialdO hs (vp_in_nI (by omega) (by omega)) (v := .int (xs (6 * k + 1))) (by rw [nI_clamp (by omega)]) dL_law_621 ?_
  refine A_aload_n (i := 0) dL_law_622 rfl rfl ?_
  refine A_iload dL_law_623 rfl ?_
  refine A_iconst (v := 2) dL_law_625 (by decide) ?_
  refine A_iadd dL_law_626 ?_
  refine A_int (w := nI ((6 * k) + 2)) (nI_add (6 * k) 2) ?_
  refine A_ialdO hs (vp_in_nI (by omega) (by omega)) (v := .int (xs (6 * k + 2))) (by rw [nI_clamp (by omega)]) dL_law_627 ?_
  refine A_st (σ' := mc b9 ms τ1) hH1.2.1.symm ?_
  refine A_callV2 (b' := b + 40998) (c_nation b9 ms τ1 (xs (6 * k + 1)) (xs (6 * k + 2)) hwf.1.1) tX2_nation q2597 (mc_0 _ _ _) rfl rfl dL_law_628 (by decide) (by omega) (Nat.le_of_ble_eq_true rfl) (fun w9 τ2 h9 => ?_) (fun E9 q9 τ9 h9 => h9.elim)
  obtain ⟨e1, e2⟩ := h9
  obtain ⟨ms2, ems, em2⟩ : ∃ ms2 : MM, ms2 = (⟨mayT (m_is ms) (bi (okN (m_is ms) (m_now ms) (xs (6 * k + 1)))) (bi (inR (xs (6 * k + 2)) 0 6)), m_is ms, m_um ms, m_bd ms, m_pc ms, m_pa ms, m_sz ms, m_cu ms, m_st ms, m_tk ms, m_to ms, m_ps ms, m_now ms, m_asd ms, m_und ms, m_sav ms, m_isv ms, m_buf ms, m_grp ms, m_pag ms⟩ : MM) ∧ τ2 = mc b9 ms2 τ1 := ⟨_, rfl, e2⟩
  subst e1
  have hH2 : HS g τ2 x b9 hb (kM ms) ms2 oa1 oD := by rw [em2]; exact hH1.mc
  have hz2 : (kM ms) = kM ms2 := ((congrArg (fun z : MM => kM z) ems).trans rfl).symm
  have hthr : m_thr ms2 = mayT (m_is ms) (bi (okN (m_is ms) (m_now ms) (xs (6 * k + 1)))) (bi (inR (xs (6 * k + 2)) 0 6)) := (congrArg (fun z : MM => m_thr z) ems).trans rfl
  have hst2 := ((congrArg (fun z : MM => m_st z) ems).trans rfl).trans hst
  refine A_istore dL_law_631 (Nat.le_of_ble_eq_true rfl) ?_
  refine A_aload_n (i := 2) dL_law_633 rfl rfl ?_
  refine A_st (σ' := mc b9 ms2 τ2) hH2.2.1.symm ?_
  refine A_callV0E (b' := b + 40998) (v := some (.int (m_thr ms2))) (τ := mc b9 ms2 τ2) (c_thrown b9 ms2 τ2) tX2_thrown q2291 (mc_0 _ _ _) rfl rfl dL_law_634 (by decide) (by omega) (Nat.le_of_ble_eq_true rfl) ?_
  refine A_st (σ' := τ2) hH2.2.1 ?_
  refine A_iload dL_law_637 rfl ?_
  refine A_icmp_eq_t (tgt := 644) dL_law_639 (by decide) (hthr) ?_
  refine A_iload dL_law_644 rfl ?_
  refine A_if_ne (tgt := 661) dL_law_646 (by decide) (fun c1 => ?_) (fun c1 => ?_)
  · skip
    refine A_goto (tgt := 3776) dL_law_661 (by decide) ?_
    refine A_sub (L' := [(0, .ref bs), (1, .ref x), (2, .ref b9), (3, .ref (b9 + 9)), (4, .ref (b9 + 10)), (5, .int (nI (6 * k)))]) ⟨rfl, rfl, rfl, rfl, rfl, rfl, trivial⟩ ?_
    refine A_less (b' := b) (by omega) ?_
    exact kk τ2 ⟨ms2, oa1, oD, _, by rw [← hz2]; exact hH2, hst2⟩
  · skip
    refine A_aload_n (i := 3) dL_law_649 rfl rfl ?_
    refine A_iconst (v := 0) dL_law_650 (by decide) ?_
    refine A_lald hH2.2.2.1 (by unfold vp_in; decide) dL_law_651 ?_
    refine A_iload dL_law_652 rfl ?_
    refine A_i2l dL_law_654 rfl ?_
    refine A_lcmp dL_law_655 ?_
    refine A_if_eq_t (tgt := 661) dL_law_656 (by decide) (by rw [show oa1 (0 : Int32).toNatClampNeg = _ from hv1 c1]; rw [gd_0 (show mayT (m_is ms) (bi (okN (m_is ms) (m_now ms) (xs (6 * k + 1)))) (bi (inR (xs (6 * k + 2)) 0 6)) = 0 from c1)]; exact lg_self _) ?_
    refine A_goto (tgt := 3776) dL_law_661 (by decide) ?_
    refine A_sub (L' := [(0, .ref bs), (1, .ref x), (2, .ref b9), (3, .ref (b9 + 9)), (4, .ref (b9 + 10)), (5, .int (nI (6 * k)))]) ⟨rfl, rfl, rfl, rfl, rfl, rfl, trivial⟩ ?_
    refine A_less (b' := b) (by omega) ?_
    exact kk τ2 ⟨ms2, oa1, oD, _, by rw [← hz2]; exact hH2, hst2⟩
theorem t_flag {l : Launch} {g : GC} {b : Nat} {Q : Option Value → AH → Prop} {X : String → Nat → AH → Prop} (σ : AH) (x b9 hb bs k n : Nat) (xs : Nat → Int32) (hs : o_arr g .int bs n (fun j => .int (xs j))) (hk : 6 * k + 6 ≤ n) (hn : n ≤ 144) (hhb : hb < 2 ^ 30) (hT : TI g x b9 hb σ) (kk : ∀ τ, TI g x b9 hb τ → AW l g mLaw 60 b Q X 3776 [(0, .ref bs), (1, .ref x), (2, .ref b9), (3, .ref (b9 + 9)), (4, .ref (b9 + 10)), (5, .int (nI (6 * k)))] [] τ) : AW l g mLaw 60 (b + 41000) Q X 664 [(0, .ref bs), (1, .ref x), (2, .ref b9), (3, .ref (b9 + 9)), (4, .ref (b9 + 10)), (5, .int (nI (6 * k)))] [] σ := by
  obtain ⟨ms, oa, oD, s0, hH, hst⟩ := hT
  have hwf := hH.wfc
  refine A_aload_n (i := 1) dL_law_664 rfl rfl ?_
  refine A_aload_n (i := 0) dL_law_665 rfl rfl ?_
  refine A_iload dL_law_666 rfl ?_
  refine A_iconst (v := 1) dL_law_668 (by decide) ?_
  refine A_iadd dL_law_669 ?_
  refine A_int (w := nI ((6 * k) + 1)) (nI_add (6 * k) 1) ?_
  refine A_ialdO hs (vp_in_nI (by omega) (by omega)) (v := .int (xs (6 * k + 1))) (by rw [nI_clamp (by omega)]) dL_law_670 ?_
  refine A_aload_n (i := 0) dL_law_671 rfl rfl ?_
  refine A_iload dL_law_672 rfl ?_
  refine A_iconst (v := 2) dL_law_674 (by decide) ?_
  refine A_iadd dL_law_675 ?_
  refine A_int (w := nI ((6 * k) + 2)) (nI_add (6 * k) 2) ?_
  refine A_ialdO hs (vp_in_nI (by omega) (by omega)) (v := .int (xs (6 * k + 2))) (by rw [nI_clamp (by omega)]) dL_law_676 ?_
  refine A_aload_n (i := 3) dL_law_677 rfl rfl ?_
  refine A_callSH4 (b' := b + 40998) (o_flag σ x b9 hb ms oa oD (xs (6 * k + 1)) (xs (6 * k + 2)) hhb hH) tX0_flag (by decide) q1483 dL_law_678 (by decide) (by omega) (Nat.le_of_ble_eq_true rfl) (fun w9 τ1 h9 => ?_) (fun E9 q9 τ9 h9 => h9.elim)
  obtain ⟨e1, oa1, hH1, hv1⟩ := h9
  subst e1
  refine A_istore dL_law_681 (Nat.le_of_ble_eq_true rfl) ?_
  refine A_aload_n (i := 2) dL_law_683 rfl rfl ?_
  refine A_aload_n (i := 0) dL_law_684 rfl rfl ?_
  refine A_iload dL_law_685 rfl ?_
  refine A_iconst (v := 1) dL_law_687 (by decide) ?_
  refine A_iadd dL_law_688 ?_
  refine A_int (w := nI ((6 * k) + 1)) (nI_add (6 * k) 1) ?_
  refine A_ialdO hs (vp_in_nI (by omega) (by omega)) (v := .int (xs (6 * k + 1))) (by rw [nI_clamp (by omega)]) dL_law_689 ?_
  refine A_aload_n (i := 0) dL_law_690 rfl rfl ?_
  refine A_iload dL_law_691 rfl ?_
  refine A_iconst (v := 2) dL_law_693 (by decide) ?_
  refine A_iadd dL_law_694 ?_
  refine A_int (w := nI ((6 * k) + 2)) (nI_add (6 * k) 2) ?_
  refine A_ialdO hs (vp_in_nI (by omega) (by omega)) (v := .int (xs (6 * k + 2))) (by rw [nI_clamp (by omega)]) dL_law_695 ?_
  refine A_st (σ' := mc b9 ms τ1) hH1.2.1.symm ?_
  refine A_callV2 (b' := b + 40998) (c_flag b9 ms τ1 (xs (6 * k + 1)) (xs (6 * k + 2)) hwf.1.1) tX2_flag q2625 (mc_0 _ _ _) rfl rfl dL_law_696 (by decide) (by omega) (Nat.le_of_ble_eq_true rfl) (fun w9 τ2 h9 => ?_) (fun E9 q9 τ9 h9 => h9.elim)
  obtain ⟨e1, e2⟩ := h9
  obtain ⟨ms2, ems, em2⟩ : ∃ ms2 : MM, ms2 = (⟨mayT (m_is ms) (bi (okF (m_is ms) (m_now ms) (xs (6 * k + 1)))) (bi (inR (xs (6 * k + 2)) 0 9)), m_is ms, m_um ms, m_bd ms, m_pc ms, m_pa ms, m_sz ms, m_cu ms, m_st ms, m_tk ms, m_to ms, m_ps ms, m_now ms, m_asd ms, m_und ms, m_sav ms, m_isv ms, m_buf ms, m_grp ms, m_pag ms⟩ : MM) ∧ τ2 = mc b9 ms2 τ1 := ⟨_, rfl, e2⟩
  subst e1
  have hH2 : HS g τ2 x b9 hb (kM ms) ms2 oa1 oD := by rw [em2]; exact hH1.mc
  have hz2 : (kM ms) = kM ms2 := ((congrArg (fun z : MM => kM z) ems).trans rfl).symm
  have hthr : m_thr ms2 = mayT (m_is ms) (bi (okF (m_is ms) (m_now ms) (xs (6 * k + 1)))) (bi (inR (xs (6 * k + 2)) 0 9)) := (congrArg (fun z : MM => m_thr z) ems).trans rfl
  have hst2 := ((congrArg (fun z : MM => m_st z) ems).trans rfl).trans hst
  refine A_istore dL_law_699 (Nat.le_of_ble_eq_true rfl) ?_
  refine A_aload_n (i := 2) dL_law_701 rfl rfl ?_
  refine A_st (σ' := mc b9 ms2 τ2) hH2.2.1.symm ?_
  refine A_callV0E (b' := b + 40998) (v := some (.int (m_thr ms2))) (τ := mc b9 ms2 τ2) (c_thrown b9 ms2 τ2) tX2_thrown q2291 (mc_0 _ _ _) rfl rfl dL_law_702 (by decide) (by omega) (Nat.le_of_ble_eq_true rfl) ?_
  refine A_st (σ' := τ2) hH2.2.1 ?_
  refine A_iload dL_law_705 rfl ?_
  refine A_icmp_eq_t (tgt := 712) dL_law_707 (by decide) (hthr) ?_
  refine A_iload dL_law_712 rfl ?_
  refine A_if_ne (tgt := 729) dL_law_714 (by decide) (fun c1 => ?_) (fun c1 => ?_)
  · skip
    refine A_goto (tgt := 3776) dL_law_729 (by decide) ?_
    refine A_sub (L' := [(0, .ref bs), (1, .ref x), (2, .ref b9), (3, .ref (b9 + 9)), (4, .ref (b9 + 10)), (5, .int (nI (6 * k)))]) ⟨rfl, rfl, rfl, rfl, rfl, rfl, trivial⟩ ?_
    refine A_less (b' := b) (by omega) ?_
    exact kk τ2 ⟨ms2, oa1, oD, _, by rw [← hz2]; exact hH2, hst2⟩
  · skip
    refine A_aload_n (i := 3) dL_law_717 rfl rfl ?_
    refine A_iconst (v := 0) dL_law_718 (by decide) ?_
    refine A_lald hH2.2.2.1 (by unfold vp_in; decide) dL_law_719 ?_
    refine A_iload dL_law_720 rfl ?_
    refine A_i2l dL_law_722 rfl ?_
    refine A_lcmp dL_law_723 ?_
    refine A_if_eq_t (tgt := 729) dL_law_724 (by decide) (by rw [show oa1 (0 : Int32).toNatClampNeg = _ from hv1 c1]; rw [gd_0 (show mayT (m_is ms) (bi (okF (m_is ms) (m_now ms) (xs (6 * k + 1)))) (bi (inR (xs (6 * k + 2)) 0 9)) = 0 from c1)]; exact lg_self _) ?_
    refine A_goto (tgt := 3776) dL_law_729 (by decide) ?_
    refine A_sub (L' := [(0, .ref bs), (1, .ref x), (2, .ref b9), (3, .ref (b9 + 9)), (4, .ref (b9 + 10)), (5, .int (nI (6 * k)))]) ⟨rfl, rfl, rfl, rfl, rfl, rfl, trivial⟩ ?_
    refine A_less (b' := b) (by omega) ?_
    exact kk τ2 ⟨ms2, oa1, oD, _, by rw [← hz2]; exact hH2, hst2⟩
theorem t_tub {l : Launch} {g : GC} {b : Nat} {Q : Option Value → AH → Prop} {X : String → Nat → AH → Prop} (σ : AH) (x b9 hb bs k n : Nat) (xs : Nat → Int32) (hs : o_arr g .int bs n (fun j => .int (xs j))) (hk : 6 * k + 6 ≤ n) (hn : n ≤ 144) (hhb : hb < 2 ^ 30) (hT : TI g x b9 hb σ) (kk : ∀ τ, TI g x b9 hb τ → AW l g mLaw 60 b Q X 3776 [(0, .ref bs), (1, .ref x), (2, .ref b9), (3, .ref (b9 + 9)), (4, .ref (b9 + 10)), (5, .int (nI (6 * k)))] [] τ) : AW l g mLaw 60 (b + 41000) Q X 732 [(0, .ref bs), (1, .ref x), (2, .ref b9), (3, .ref (b9 + 9)), (4, .ref (b9 + 10)), (5, .int (nI (6 * k)))] [] σ := by
  obtain ⟨ms, oa, oD, s0, hH, hst⟩ := hT
  have hwf := hH.wfc
  refine A_aload_n (i := 1) dL_law_732 rfl rfl ?_
  refine A_aload_n (i := 0) dL_law_733 rfl rfl ?_
  refine A_iload dL_law_734 rfl ?_
  refine A_iconst (v := 1) dL_law_736 (by decide) ?_
  refine A_iadd dL_law_737 ?_
  refine A_int (w := nI ((6 * k) + 1)) (nI_add (6 * k) 1) ?_
  refine A_ialdO hs (vp_in_nI (by omega) (by omega)) (v := .int (xs (6 * k + 1))) (by rw [nI_clamp (by omega)]) dL_law_738 ?_
  refine A_aload_n (i := 0) dL_law_739 rfl rfl ?_
  refine A_iload dL_law_740 rfl ?_
  refine A_iconst (v := 2) dL_law_742 (by decide) ?_
  refine A_iadd dL_law_743 ?_
  refine A_int (w := nI ((6 * k) + 2)) (nI_add (6 * k) 2) ?_
  refine A_ialdO hs (vp_in_nI (by omega) (by omega)) (v := .int (xs (6 * k + 2))) (by rw [nI_clamp (by omega)]) dL_law_744 ?_
  refine A_aload_n (i := 3) dL_law_745 rfl rfl ?_
  refine A_callSH4 (b' := b + 40998) (o_tub σ x b9 hb ms oa oD (xs (6 * k + 1)) (xs (6 * k + 2)) hhb hH) tX0_tub (by decide) q1498 dL_law_746 (by decide) (by omega) (Nat.le_of_ble_eq_true rfl) (fun w9 τ1 h9 => ?_) (fun E9 q9 τ9 h9 => h9.elim)
  obtain ⟨e1, oa1, hH1, hv1⟩ := h9
  subst e1
  refine A_istore dL_law_749 (Nat.le_of_ble_eq_true rfl) ?_
  refine A_aload_n (i := 2) dL_law_751 rfl rfl ?_
  refine A_aload_n (i := 0) dL_law_752 rfl rfl ?_
  refine A_iload dL_law_753 rfl ?_
  refine A_iconst (v := 1) dL_law_755 (by decide) ?_
  refine A_iadd dL_law_756 ?_
  refine A_int (w := nI ((6 * k) + 1)) (nI_add (6 * k) 1) ?_
  refine A_ialdO hs (vp_in_nI (by omega) (by omega)) (v := .int (xs (6 * k + 1))) (by rw [nI_clamp (by omega)]) dL_law_757 ?_
  refine A_aload_n (i := 0) dL_law_758 rfl rfl ?_
  refine A_iload dL_law_759 rfl ?_
  refine A_iconst (v := 2) dL_law_761 (by decide) ?_
  refine A_iadd dL_law_762 ?_
  refine A_int (w := nI ((6 * k) + 2)) (nI_add (6 * k) 2) ?_
  refine A_ialdO hs (vp_in_nI (by omega) (by omega)) (v := .int (xs (6 * k + 2))) (by rw [nI_clamp (by omega)]) dL_law_763 ?_
  refine A_st (σ' := mc b9 ms τ1) hH1.2.1.symm ?_
  refine A_callV2 (b' := b + 40998) (c_tub b9 ms τ1 (xs (6 * k + 1)) (xs (6 * k + 2)) hwf.1.1) tX2_tub q2633 (mc_0 _ _ _) rfl rfl dL_law_764 (by decide) (by omega) (Nat.le_of_ble_eq_true rfl) (fun w9 τ2 h9 => ?_) (fun E9 q9 τ9 h9 => h9.elim)
  obtain ⟨e1, e2⟩ := h9
  obtain ⟨ms2, ems, em2⟩ : ∃ ms2 : MM, ms2 = (⟨mayT (m_is ms) (bi (okT (m_is ms) (m_now ms) (xs (6 * k + 1)))) (bi (inR (xs (6 * k + 2)) 0 4)), m_is ms, m_um ms, m_bd ms, m_pc ms, m_pa ms, m_sz ms, m_cu ms, m_st ms, m_tk ms, m_to ms, m_ps ms, m_now ms, m_asd ms, m_und ms, m_sav ms, m_isv ms, m_buf ms, m_grp ms, m_pag ms⟩ : MM) ∧ τ2 = mc b9 ms2 τ1 := ⟨_, rfl, e2⟩
  subst e1
  have hH2 : HS g τ2 x b9 hb (kM ms) ms2 oa1 oD := by rw [em2]; exact hH1.mc
  have hz2 : (kM ms) = kM ms2 := ((congrArg (fun z : MM => kM z) ems).trans rfl).symm
  have hthr : m_thr ms2 = mayT (m_is ms) (bi (okT (m_is ms) (m_now ms) (xs (6 * k + 1)))) (bi (inR (xs (6 * k + 2)) 0 4)) := (congrArg (fun z : MM => m_thr z) ems).trans rfl
  have hst2 := ((congrArg (fun z : MM => m_st z) ems).trans rfl).trans hst
  refine A_istore dL_law_767 (Nat.le_of_ble_eq_true rfl) ?_
  refine A_aload_n (i := 2) dL_law_769 rfl rfl ?_
  refine A_st (σ' := mc b9 ms2 τ2) hH2.2.1.symm ?_
  refine A_callV0E (b' := b + 40998) (v := some (.int (m_thr ms2))) (τ := mc b9 ms2 τ2) (c_thrown b9 ms2 τ2) tX2_thrown q2291 (mc_0 _ _ _) rfl rfl dL_law_770 (by decide) (by omega) (Nat.le_of_ble_eq_true rfl) ?_
  refine A_st (σ' := τ2) hH2.2.1 ?_
  refine A_iload dL_law_773 rfl ?_
  refine A_icmp_eq_t (tgt := 780) dL_law_775 (by decide) (hthr) ?_
  refine A_iload dL_law_780 rfl ?_
  refine A_if_ne (tgt := 797) dL_law_782 (by decide) (fun c1 => ?_) (fun c1 => ?_)
  · skip
    refine A_goto (tgt := 3776) dL_law_797 (by decide) ?_
    refine A_sub (L' := [(0, .ref bs), (1, .ref x), (2, .ref b9), (3, .ref (b9 + 9)), (4, .ref (b9 + 10)), (5, .int (nI (6 * k)))]) ⟨rfl, rfl, rfl, rfl, rfl, rfl, trivial⟩ ?_
    refine A_less (b' := b) (by omega) ?_
    exact kk τ2 ⟨ms2, oa1, oD, _, by rw [← hz2]; exact hH2, hst2⟩
  · skip
    refine A_aload_n (i := 3) dL_law_785 rfl rfl ?_
    refine A_iconst (v := 0) dL_law_786 (by decide) ?_
    refine A_lald hH2.2.2.1 (by unfold vp_in; decide) dL_law_787 ?_
    refine A_iload dL_law_788 rfl ?_
    refine A_i2l dL_law_790 rfl ?_
    refine A_lcmp dL_law_791 ?_
    refine A_if_eq_t (tgt := 797) dL_law_792 (by decide) (by rw [show oa1 (0 : Int32).toNatClampNeg = _ from hv1 c1]; rw [gd_0 (show mayT (m_is ms) (bi (okT (m_is ms) (m_now ms) (xs (6 * k + 1)))) (bi (inR (xs (6 * k + 2)) 0 4)) = 0 from c1)]; exact lg_self _) ?_
    refine A_goto (tgt := 3776) dL_law_797 (by decide) ?_
    refine A_sub (L' := [(0, .ref bs), (1, .ref x), (2, .ref b9), (3, .ref (b9 + 9)), (4, .ref (b9 + 10)), (5, .int (nI (6 * k)))]) ⟨rfl, rfl, rfl, rfl, rfl, rfl, trivial⟩ ?_
    refine A_less (b' := b) (by omega) ?_
    exact kk τ2 ⟨ms2, oa1, oD, _, by rw [← hz2]; exact hH2, hst2⟩
theorem t_inTub {l : Launch} {g : GC} {b : Nat} {Q : Option Value → AH → Prop} {X : String → Nat → AH → Prop} (σ : AH) (x b9 hb bs k n : Nat) (xs : Nat → Int32) (hs : o_arr g .int bs n (fun j => .int (xs j))) (hk : 6 * k + 6 ≤ n) (hn : n ≤ 144) (hhb : hb < 2 ^ 30) (hT : TI g x b9 hb σ) (kk : ∀ τ, TI g x b9 hb τ → AW l g mLaw 60 b Q X 3776 [(0, .ref bs), (1, .ref x), (2, .ref b9), (3, .ref (b9 + 9)), (4, .ref (b9 + 10)), (5, .int (nI (6 * k)))] [] τ) : AW l g mLaw 60 (b + 41000) Q X 800 [(0, .ref bs), (1, .ref x), (2, .ref b9), (3, .ref (b9 + 9)), (4, .ref (b9 + 10)), (5, .int (nI (6 * k)))] [] σ := by
  obtain ⟨ms, oa, oD, s0, hH, hst⟩ := hT
  have hwf := hH.wfc
  refine A_aload_n (i := 1) dL_law_800 rfl rfl ?_
  refine A_aload_n (i := 0) dL_law_801 rfl rfl ?_
  refine A_iload dL_law_802 rfl ?_
  refine A_iconst (v := 1) dL_law_804 (by decide) ?_
  refine A_iadd dL_law_805 ?_
  refine A_int (w := nI ((6 * k) + 1)) (nI_add (6 * k) 1) ?_
  refine A_ialdO hs (vp_in_nI (by omega) (by omega)) (v := .int (xs (6 * k + 1))) (by rw [nI_clamp (by omega)]) dL_law_806 ?_
  refine A_aload_n (i := 0) dL_law_807 rfl rfl ?_
  refine A_iload dL_law_808 rfl ?_
  refine A_iconst (v := 2) dL_law_810 (by decide) ?_
  refine A_iadd dL_law_811 ?_
  refine A_int (w := nI ((6 * k) + 2)) (nI_add (6 * k) 2) ?_
  refine A_ialdO hs (vp_in_nI (by omega) (by omega)) (v := .int (xs (6 * k + 2))) (by rw [nI_clamp (by omega)]) dL_law_812 ?_
  refine A_aload_n (i := 3) dL_law_813 rfl rfl ?_
  refine A_callSH4 (b' := b + 40980) (o_inTub σ x b9 hb ms oa oD (xs (6 * k + 1)) (xs (6 * k + 2)) hhb hH) tX0_inTub (by decide) q1517 dL_law_814 (by decide) (by omega) (Nat.le_of_ble_eq_true rfl) (fun w9 τ1 h9 => ?_) (fun E9 q9 τ9 h9 => h9.elim)
  obtain ⟨e1, oa1, hH1, hv1⟩ := h9
  subst e1
  refine A_istore dL_law_817 (Nat.le_of_ble_eq_true rfl) ?_
  refine A_aload_n (i := 2) dL_law_819 rfl rfl ?_
  refine A_aload_n (i := 0) dL_law_820 rfl rfl ?_
  refine A_iload dL_law_821 rfl ?_
  refine A_iconst (v := 1) dL_law_823 (by decide) ?_
  refine A_iadd dL_law_824 ?_
  refine A_int (w := nI ((6 * k) + 1)) (nI_add (6 * k) 1) ?_
  refine A_ialdO hs (vp_in_nI (by omega) (by omega)) (v := .int (xs (6 * k + 1))) (by rw [nI_clamp (by omega)]) dL_law_825 ?_
  refine A_aload_n (i := 0) dL_law_826 rfl rfl ?_
  refine A_iload dL_law_827 rfl ?_
  refine A_iconst (v := 2) dL_law_829 (by decide) ?_
  refine A_iadd dL_law_830 ?_
  refine A_int (w := nI ((6 * k) + 2)) (nI_add (6 * k) 2) ?_
  refine A_ialdO hs (vp_in_nI (by omega) (by omega)) (v := .int (xs (6 * k + 2))) (by rw [nI_clamp (by omega)]) dL_law_831 ?_
  refine A_st (σ' := mc b9 ms τ1) hH1.2.1.symm ?_
  refine A_callV2 (b' := b + 40980) (c_inTub b9 ms τ1 (xs (6 * k + 1)) (xs (6 * k + 2)) hwf.1.1) tX2_inTub q2645 (mc_0 _ _ _) rfl rfl dL_law_832 (by decide) (by omega) (Nat.le_of_ble_eq_true rfl) (fun w9 τ2 h9 => ?_) (fun E9 q9 τ9 h9 => h9.elim)
  obtain ⟨e1, e2⟩ := h9
  obtain ⟨ms2, ems, em2⟩ : ∃ ms2 : MM, ms2 = (⟨mayT (m_is ms) (bi (okT (m_is ms) (m_now ms) (xs (6 * k + 1)))) 1, m_is ms, m_um ms, m_bd ms, m_pc ms, m_pa ms, m_sz ms, m_cu ms, m_st ms, m_tk ms, m_to ms, m_ps ms, m_now ms, m_asd ms, m_und ms, m_sav ms, m_isv ms, m_buf ms, m_grp ms, m_pag ms⟩ : MM) ∧ τ2 = mc b9 ms2 τ1 := ⟨_, rfl, e2⟩
  subst e1
  have hH2 : HS g τ2 x b9 hb (kM ms) ms2 oa1 oD := by rw [em2]; exact hH1.mc
  have hz2 : (kM ms) = kM ms2 := ((congrArg (fun z : MM => kM z) ems).trans rfl).symm
  have hthr : m_thr ms2 = mayT (m_is ms) (bi (okT (m_is ms) (m_now ms) (xs (6 * k + 1)))) 1 := (congrArg (fun z : MM => m_thr z) ems).trans rfl
  have hst2 := ((congrArg (fun z : MM => m_st z) ems).trans rfl).trans hst
  refine A_istore dL_law_835 (Nat.le_of_ble_eq_true rfl) ?_
  refine A_aload_n (i := 2) dL_law_837 rfl rfl ?_
  refine A_st (σ' := mc b9 ms2 τ2) hH2.2.1.symm ?_
  refine A_callV0E (b' := b + 40980) (v := some (.int (m_thr ms2))) (τ := mc b9 ms2 τ2) (c_thrown b9 ms2 τ2) tX2_thrown q2291 (mc_0 _ _ _) rfl rfl dL_law_838 (by decide) (by omega) (Nat.le_of_ble_eq_true rfl) ?_
  refine A_st (σ' := τ2) hH2.2.1 ?_
  refine A_iload dL_law_841 rfl ?_
  refine A_icmp_eq_t (tgt := 848) dL_law_843 (by decide) (hthr) ?_
  refine A_iload dL_law_848 rfl ?_
  refine A_if_ne (tgt := 865) dL_law_850 (by decide) (fun c1 => ?_) (fun c1 => ?_)
  · skip
    refine A_goto (tgt := 3776) dL_law_865 (by decide) ?_
    refine A_sub (L' := [(0, .ref bs), (1, .ref x), (2, .ref b9), (3, .ref (b9 + 9)), (4, .ref (b9 + 10)), (5, .int (nI (6 * k)))]) ⟨rfl, rfl, rfl, rfl, rfl, rfl, trivial⟩ ?_
    refine A_less (b' := b) (by omega) ?_
    exact kk τ2 ⟨ms2, oa1, oD, _, by rw [← hz2]; exact hH2, hst2⟩
  · skip
    refine A_aload_n (i := 3) dL_law_853 rfl rfl ?_
    refine A_iconst (v := 0) dL_law_854 (by decide) ?_
    refine A_lald hH2.2.2.1 (by unfold vp_in; decide) dL_law_855 ?_
    refine A_iload dL_law_856 rfl ?_
    refine A_i2l dL_law_858 rfl ?_
    refine A_lcmp dL_law_859 ?_
    refine A_if_eq_t (tgt := 865) dL_law_860 (by decide) (by rw [show oa1 (0 : Int32).toNatClampNeg = _ from hv1 c1]; rw [gd_0 (show mayT (m_is ms) (bi (okT (m_is ms) (m_now ms) (xs (6 * k + 1)))) 1 = 0 from c1)]; exact lg_self _) ?_
    refine A_goto (tgt := 3776) dL_law_865 (by decide) ?_
    refine A_sub (L' := [(0, .ref bs), (1, .ref x), (2, .ref b9), (3, .ref (b9 + 9)), (4, .ref (b9 + 10)), (5, .int (nI (6 * k)))]) ⟨rfl, rfl, rfl, rfl, rfl, rfl, trivial⟩ ?_
    refine A_less (b' := b) (by omega) ?_
    exact kk τ2 ⟨ms2, oa1, oD, _, by rw [← hz2]; exact hH2, hst2⟩
theorem t_onPeg {l : Launch} {g : GC} {b : Nat} {Q : Option Value → AH → Prop} {X : String → Nat → AH → Prop} (σ : AH) (x b9 hb bs k n : Nat) (xs : Nat → Int32) (hs : o_arr g .int bs n (fun j => .int (xs j))) (hk : 6 * k + 6 ≤ n) (hn : n ≤ 144) (hhb : hb < 2 ^ 30) (hT : TI g x b9 hb σ) (kk : ∀ τ, TI g x b9 hb τ → AW l g mLaw 60 b Q X 3776 [(0, .ref bs), (1, .ref x), (2, .ref b9), (3, .ref (b9 + 9)), (4, .ref (b9 + 10)), (5, .int (nI (6 * k)))] [] τ) : AW l g mLaw 60 (b + 41000) Q X 868 [(0, .ref bs), (1, .ref x), (2, .ref b9), (3, .ref (b9 + 9)), (4, .ref (b9 + 10)), (5, .int (nI (6 * k)))] [] σ := by
  obtain ⟨ms, oa, oD, s0, hH, hst⟩ := hT
  have hwf := hH.wfc
  refine A_aload_n (i := 1) dL_law_868 rfl rfl ?_
  refine A_aload_n (i := 0) dL_law_869 rfl rfl ?_
  refine A_iload dL_law_870 rfl ?_
  refine A_iconst (v := 1) dL_law_872 (by decide) ?_
  refine A_iadd dL_law_873 ?_
  refine A_int (w := nI ((6 * k) + 1)) (nI_add (6 * k) 1) ?_
  refine A_ialdO hs (vp_in_nI (by omega) (by omega)) (v := .int (xs (6 * k + 1))) (by rw [nI_clamp (by omega)]) dL_law_874 ?_
  refine A_aload_n (i := 3) dL_law_875 rfl rfl ?_
  refine A_callSH3 (b' := b + 40998) (o_onPeg σ x b9 hb ms oa oD (xs (6 * k + 1)) hhb hH) tX0_onPeg (by decide) q1534 dL_law_876 (by decide) (by omega) (Nat.le_of_ble_eq_true rfl) (fun w9 τ1 h9 => ?_) (fun E9 q9 τ9 h9 => h9.elim)
  obtain ⟨e1, oa1, hH1, hv1⟩ := h9
  subst e1
  refine A_istore dL_law_879 (Nat.le_of_ble_eq_true rfl) ?_
  refine A_aload_n (i := 2) dL_law_881 rfl rfl ?_
  refine A_aload_n (i := 0) dL_law_882 rfl rfl ?_
  refine A_iload dL_law_883 rfl ?_
  refine A_iconst (v := 1) dL_law_885 (by decide) ?_
  refine A_iadd dL_law_886 ?_
  refine A_int (w := nI ((6 * k) + 1)) (nI_add (6 * k) 1) ?_
  refine A_ialdO hs (vp_in_nI (by omega) (by omega)) (v := .int (xs (6 * k + 1))) (by rw [nI_clamp (by omega)]) dL_law_887 ?_
  refine A_st (σ' := mc b9 ms τ1) hH1.2.1.symm ?_
  refine A_callV1 (b' := b + 40998) (c_onPeg b9 ms τ1 (xs (6 * k + 1)) hwf.1.1) tX2_onPeg q2661 (mc_0 _ _ _) rfl rfl dL_law_888 (by decide) (by omega) (Nat.le_of_ble_eq_true rfl) (fun w9 τ2 h9 => ?_) (fun E9 q9 τ9 h9 => h9.elim)
  obtain ⟨e1, e2⟩ := h9
  obtain ⟨ms2, ems, em2⟩ : ∃ ms2 : MM, ms2 = (⟨mayT (m_is ms) (bi (¬ (m_is ms) = 0 ∧ inR (xs (6 * k + 1)) 0 ((m_now ms) 9 - 1))) 1, m_is ms, m_um ms, m_bd ms, m_pc ms, m_pa ms, m_sz ms, m_cu ms, m_st ms, m_tk ms, m_to ms, m_ps ms, m_now ms, m_asd ms, m_und ms, m_sav ms, m_isv ms, m_buf ms, m_grp ms, m_pag ms⟩ : MM) ∧ τ2 = mc b9 ms2 τ1 := ⟨_, rfl, e2⟩
  subst e1
  have hH2 : HS g τ2 x b9 hb (kM ms) ms2 oa1 oD := by rw [em2]; exact hH1.mc
  have hz2 : (kM ms) = kM ms2 := ((congrArg (fun z : MM => kM z) ems).trans rfl).symm
  have hthr : m_thr ms2 = mayT (m_is ms) (bi (¬ (m_is ms) = 0 ∧ inR (xs (6 * k + 1)) 0 ((m_now ms) 9 - 1))) 1 := (congrArg (fun z : MM => m_thr z) ems).trans rfl
  have hst2 := ((congrArg (fun z : MM => m_st z) ems).trans rfl).trans hst
  refine A_istore dL_law_891 (Nat.le_of_ble_eq_true rfl) ?_
  refine A_aload_n (i := 2) dL_law_893 rfl rfl ?_
  refine A_st (σ' := mc b9 ms2 τ2) hH2.2.1.symm ?_
  refine A_callV0E (b' := b + 40998) (v := some (.int (m_thr ms2))) (τ := mc b9 ms2 τ2) (c_thrown b9 ms2 τ2) tX2_thrown q2291 (mc_0 _ _ _) rfl rfl dL_law_894 (by decide) (by omega) (Nat.le_of_ble_eq_true rfl) ?_
  refine A_st (σ' := τ2) hH2.2.1 ?_
  refine A_iload dL_law_897 rfl ?_
  refine A_icmp_eq_t (tgt := 904) dL_law_899 (by decide) (hthr) ?_
  refine A_iload dL_law_904 rfl ?_
  refine A_if_ne (tgt := 921) dL_law_906 (by decide) (fun c1 => ?_) (fun c1 => ?_)
  · skip
    refine A_goto (tgt := 3776) dL_law_921 (by decide) ?_
    refine A_sub (L' := [(0, .ref bs), (1, .ref x), (2, .ref b9), (3, .ref (b9 + 9)), (4, .ref (b9 + 10)), (5, .int (nI (6 * k)))]) ⟨rfl, rfl, rfl, rfl, rfl, rfl, trivial⟩ ?_
    refine A_less (b' := b) (by omega) ?_
    exact kk τ2 ⟨ms2, oa1, oD, _, by rw [← hz2]; exact hH2, hst2⟩
  · skip
    refine A_aload_n (i := 3) dL_law_909 rfl rfl ?_
    refine A_iconst (v := 0) dL_law_910 (by decide) ?_
    refine A_lald hH2.2.2.1 (by unfold vp_in; decide) dL_law_911 ?_
    refine A_iload dL_law_912 rfl ?_
    refine A_i2l dL_law_914 rfl ?_
    refine A_lcmp dL_law_915 ?_
    refine A_if_eq_t (tgt := 921) dL_law_916 (by decide) (by rw [show oa1 (0 : Int32).toNatClampNeg = _ from hv1 c1]; rw [gd_0 (show mayT (m_is ms) (bi (¬ (m_is ms) = 0 ∧ inR (xs (6 * k + 1)) 0 ((m_now ms) 9 - 1))) 1 = 0 from c1)]; exact lg_self _) ?_
    refine A_goto (tgt := 3776) dL_law_921 (by decide) ?_
    refine A_sub (L' := [(0, .ref bs), (1, .ref x), (2, .ref b9), (3, .ref (b9 + 9)), (4, .ref (b9 + 10)), (5, .int (nI (6 * k)))]) ⟨rfl, rfl, rfl, rfl, rfl, rfl, trivial⟩ ?_
    refine A_less (b' := b) (by omega) ?_
    exact kk τ2 ⟨ms2, oa1, oD, _, by rw [← hz2]; exact hH2, hst2⟩
theorem t_freePegs {l : Launch} {g : GC} {b : Nat} {Q : Option Value → AH → Prop} {X : String → Nat → AH → Prop} (σ : AH) (x b9 hb bs k n : Nat) (xs : Nat → Int32) (hs : o_arr g .int bs n (fun j => .int (xs j))) (hk : 6 * k + 6 ≤ n) (hn : n ≤ 144) (hhb : hb < 2 ^ 30) (hT : TI g x b9 hb σ) (kk : ∀ τ, TI g x b9 hb τ → AW l g mLaw 60 b Q X 3776 [(0, .ref bs), (1, .ref x), (2, .ref b9), (3, .ref (b9 + 9)), (4, .ref (b9 + 10)), (5, .int (nI (6 * k)))] [] τ) : AW l g mLaw 60 (b + 41000) Q X 924 [(0, .ref bs), (1, .ref x), (2, .ref b9), (3, .ref (b9 + 9)), (4, .ref (b9 + 10)), (5, .int (nI (6 * k)))] [] σ := by
  obtain ⟨ms, oa, oD, s0, hH, hst⟩ := hT
  have hwf := hH.wfc
  refine A_aload_n (i := 1) dL_law_924 rfl rfl ?_
  refine A_aload_n (i := 3) dL_law_925 rfl rfl ?_
  refine A_callSH2 (b' := b + 40998) (o_freePegs σ x b9 hb ms oa oD hhb hH) tX0_freePegs (by decide) q1542 dL_law_926 (by decide) (by omega) (Nat.le_of_ble_eq_true rfl) (fun w9 τ1 h9 => ?_) (fun E9 q9 τ9 h9 => h9.elim)
  obtain ⟨e1, oa1, hH1, hv1⟩ := h9
  subst e1
  refine A_istore dL_law_929 (Nat.le_of_ble_eq_true rfl) ?_
  refine A_aload_n (i := 2) dL_law_931 rfl rfl ?_
  refine A_st (σ' := mc b9 ms τ1) hH1.2.1.symm ?_
  refine A_callV0 (b' := b + 40998) (c_freePegs b9 ms τ1 hwf.1.1) tX2_freePegs q2665 (mc_0 _ _ _) rfl rfl dL_law_932 (by decide) (by omega) (Nat.le_of_ble_eq_true rfl) (fun w9 τ2 h9 => ?_) (fun E9 q9 τ9 h9 => h9.elim)
  obtain ⟨e1, e2⟩ := h9
  obtain ⟨ms2, ems, em2⟩ : ∃ ms2 : MM, ms2 = (⟨mayT (m_is ms) 1 1, m_is ms, m_um ms, m_bd ms, m_pc ms, m_pa ms, m_sz ms, m_cu ms, m_st ms, m_tk ms, m_to ms, m_ps ms, m_now ms, m_asd ms, m_und ms, m_sav ms, m_isv ms, m_buf ms, m_grp ms, m_pag ms⟩ : MM) ∧ τ2 = mc b9 ms2 τ1 := ⟨_, rfl, e2⟩
  subst e1
  have hH2 : HS g τ2 x b9 hb (kM ms) ms2 oa1 oD := by rw [em2]; exact hH1.mc
  have hz2 : (kM ms) = kM ms2 := ((congrArg (fun z : MM => kM z) ems).trans rfl).symm
  have hthr : m_thr ms2 = mayT (m_is ms) 1 1 := (congrArg (fun z : MM => m_thr z) ems).trans rfl
  have hst2 := ((congrArg (fun z : MM => m_st z) ems).trans rfl).trans hst
  refine A_istore dL_law_935 (Nat.le_of_ble_eq_true rfl) ?_
  refine A_aload_n (i := 2) dL_law_937 rfl rfl ?_
  refine A_st (σ' := mc b9 ms2 τ2) hH2.2.1.symm ?_
  refine A_callV0E (b' := b + 40998) (v := some (.int (m_thr ms2))) (τ := mc b9 ms2 τ2) (c_thrown b9 ms2 τ2) tX2_thrown q2291 (mc_0 _ _ _) rfl rfl dL_law_938 (by decide) (by omega) (Nat.le_of_ble_eq_true rfl) ?_
  refine A_st (σ' := τ2) hH2.2.1 ?_
  refine A_iload dL_law_941 rfl ?_
  refine A_icmp_eq_t (tgt := 948) dL_law_943 (by decide) (hthr) ?_
  refine A_iload dL_law_948 rfl ?_
  refine A_if_ne (tgt := 965) dL_law_950 (by decide) (fun c1 => ?_) (fun c1 => ?_)
  · skip
    refine A_goto (tgt := 3776) dL_law_965 (by decide) ?_
    refine A_sub (L' := [(0, .ref bs), (1, .ref x), (2, .ref b9), (3, .ref (b9 + 9)), (4, .ref (b9 + 10)), (5, .int (nI (6 * k)))]) ⟨rfl, rfl, rfl, rfl, rfl, rfl, trivial⟩ ?_
    refine A_less (b' := b) (by omega) ?_
    exact kk τ2 ⟨ms2, oa1, oD, _, by rw [← hz2]; exact hH2, hst2⟩
  · skip
    refine A_aload_n (i := 3) dL_law_953 rfl rfl ?_
    refine A_iconst (v := 0) dL_law_954 (by decide) ?_
    refine A_lald hH2.2.2.1 (by unfold vp_in; decide) dL_law_955 ?_
    refine A_iload dL_law_956 rfl ?_
    refine A_i2l dL_law_958 rfl ?_
    refine A_lcmp dL_law_959 ?_
    refine A_if_eq_t (tgt := 965) dL_law_960 (by decide) (by rw [show oa1 (0 : Int32).toNatClampNeg = _ from hv1 c1]; rw [gd_0 (show mayT (m_is ms) 1 1 = 0 from c1)]; exact lg_self _) ?_
    refine A_goto (tgt := 3776) dL_law_965 (by decide) ?_
    refine A_sub (L' := [(0, .ref bs), (1, .ref x), (2, .ref b9), (3, .ref (b9 + 9)), (4, .ref (b9 + 10)), (5, .int (nI (6 * k)))]) ⟨rfl, rfl, rfl, rfl, rfl, rfl, trivial⟩ ?_
    refine A_less (b' := b) (by omega) ?_
    exact kk τ2 ⟨ms2, oa1, oD, _, by rw [← hz2]; exact hH2, hst2⟩
theorem t_wettest {l : Launch} {g : GC} {b : Nat} {Q : Option Value → AH → Prop} {X : String → Nat → AH → Prop} (σ : AH) (x b9 hb bs k n : Nat) (xs : Nat → Int32) (hs : o_arr g .int bs n (fun j => .int (xs j))) (hk : 6 * k + 6 ≤ n) (hn : n ≤ 144) (hhb : hb < 2 ^ 30) (hT : TI g x b9 hb σ) (kk : ∀ τ, TI g x b9 hb τ → AW l g mLaw 60 b Q X 3776 [(0, .ref bs), (1, .ref x), (2, .ref b9), (3, .ref (b9 + 9)), (4, .ref (b9 + 10)), (5, .int (nI (6 * k)))] [] τ) : AW l g mLaw 60 (b + 41000) Q X 968 [(0, .ref bs), (1, .ref x), (2, .ref b9), (3, .ref (b9 + 9)), (4, .ref (b9 + 10)), (5, .int (nI (6 * k)))] [] σ := by
  obtain ⟨ms, oa, oD, s0, hH, hst⟩ := hT
  have hwf := hH.wfc
  refine A_aload_n (i := 1) dL_law_968 rfl rfl ?_
  refine A_aload_n (i := 3) dL_law_969 rfl rfl ?_
  refine A_callSH2 (b' := b + 40998) (o_wettest σ x b9 hb ms oa oD hhb hH) tX0_wettest (by decide) q1549 dL_law_970 (by decide) (by omega) (Nat.le_of_ble_eq_true rfl) (fun w9 τ1 h9 => ?_) (fun E9 q9 τ9 h9 => h9.elim)
  obtain ⟨e1, oa1, hH1, hv1⟩ := h9
  subst e1
  refine A_istore dL_law_973 (Nat.le_of_ble_eq_true rfl) ?_
  refine A_aload_n (i := 2) dL_law_975 rfl rfl ?_
  refine A_st (σ' := mc b9 ms τ1) hH1.2.1.symm ?_
  refine A_callV0 (b' := b + 40998) (c_wettest b9 ms τ1 hwf.1.1) tX2_wettest q2673 (mc_0 _ _ _) rfl rfl dL_law_976 (by decide) (by omega) (Nat.le_of_ble_eq_true rfl) (fun w9 τ2 h9 => ?_) (fun E9 q9 τ9 h9 => h9.elim)
  obtain ⟨e1, e2⟩ := h9
  obtain ⟨ms2, ems, em2⟩ : ∃ ms2 : MM, ms2 = (⟨mayT (m_is ms) 1 1, m_is ms, m_um ms, m_bd ms, m_pc ms, m_pa ms, m_sz ms, m_cu ms, m_st ms, m_tk ms, m_to ms, m_ps ms, m_now ms, m_asd ms, m_und ms, m_sav ms, m_isv ms, m_buf ms, m_grp ms, m_pag ms⟩ : MM) ∧ τ2 = mc b9 ms2 τ1 := ⟨_, rfl, e2⟩
  subst e1
  have hH2 : HS g τ2 x b9 hb (kM ms) ms2 oa1 oD := by rw [em2]; exact hH1.mc
  have hz2 : (kM ms) = kM ms2 := ((congrArg (fun z : MM => kM z) ems).trans rfl).symm
  have hthr : m_thr ms2 = mayT (m_is ms) 1 1 := (congrArg (fun z : MM => m_thr z) ems).trans rfl
  have hst2 := ((congrArg (fun z : MM => m_st z) ems).trans rfl).trans hst
  refine A_istore dL_law_979 (Nat.le_of_ble_eq_true rfl) ?_
  refine A_aload_n (i := 2) dL_law_981 rfl rfl ?_
  refine A_st (σ' := mc b9 ms2 τ2) hH2.2.1.symm ?_
  refine A_callV0E (b' := b + 40998) (v := some (.int (m_thr ms2))) (τ := mc b9 ms2 τ2) (c_thrown b9 ms2 τ2) tX2_thrown q2291 (mc_0 _ _ _) rfl rfl dL_law_982 (by decide) (by omega) (Nat.le_of_ble_eq_true rfl) ?_
  refine A_st (σ' := τ2) hH2.2.1 ?_
  refine A_iload dL_law_985 rfl ?_
  refine A_icmp_eq_t (tgt := 992) dL_law_987 (by decide) (hthr) ?_
  refine A_iload dL_law_992 rfl ?_
  refine A_if_ne (tgt := 1009) dL_law_994 (by decide) (fun c1 => ?_) (fun c1 => ?_)
  · skip
    refine A_goto (tgt := 3776) dL_law_1009 (by decide) ?_
    refine A_sub (L' := [(0, .ref bs), (1, .ref x), (2, .ref b9), (3, .ref (b9 + 9)), (4, .ref (b9 + 10)), (5, .int (nI (6 * k)))]) ⟨rfl, rfl, rfl, rfl, rfl, rfl, trivial⟩ ?_
    refine A_less (b' := b) (by omega) ?_
    exact kk τ2 ⟨ms2, oa1, oD, _, by rw [← hz2]; exact hH2, hst2⟩
  · skip
    refine A_aload_n (i := 3) dL_law_997 rfl rfl ?_
    refine A_iconst (v := 0) dL_law_998 (by decide) ?_
    refine A_lald hH2.2.2.1 (by unfold vp_in; decide) dL_law_999 ?_
    refine A_iload dL_law_1000 rfl ?_
    refine A_i2l dL_law_1002 rfl ?_
    refine A_lcmp dL_law_1003 ?_
    refine A_if_eq_t (tgt := 1009) dL_law_1004 (by decide) (by rw [show oa1 (0 : Int32).toNatClampNeg = _ from hv1 c1]; rw [gd_0 (show mayT (m_is ms) 1 1 = 0 from c1)]; exact lg_self _) ?_
    refine A_goto (tgt := 3776) dL_law_1009 (by decide) ?_
    refine A_sub (L' := [(0, .ref bs), (1, .ref x), (2, .ref b9), (3, .ref (b9 + 9)), (4, .ref (b9 + 10)), (5, .int (nI (6 * k)))]) ⟨rfl, rfl, rfl, rfl, rfl, rfl, trivial⟩ ?_
    refine A_less (b' := b) (by omega) ?_
    exact kk τ2 ⟨ms2, oa1, oD, _, by rw [← hz2]; exact hH2, hst2⟩
theorem t_gap {l : Launch} {g : GC} {b : Nat} {Q : Option Value → AH → Prop} {X : String → Nat → AH → Prop} (σ : AH) (x b9 hb bs k n : Nat) (xs : Nat → Int32) (hs : o_arr g .int bs n (fun j => .int (xs j))) (hk : 6 * k + 6 ≤ n) (hn : n ≤ 144) (hhb : hb < 2 ^ 30) (hT : TI g x b9 hb σ) (kk : ∀ τ, TI g x b9 hb τ → AW l g mLaw 60 b Q X 3776 [(0, .ref bs), (1, .ref x), (2, .ref b9), (3, .ref (b9 + 9)), (4, .ref (b9 + 10)), (5, .int (nI (6 * k)))] [] τ) : AW l g mLaw 60 (b + 41000) Q X 1012 [(0, .ref bs), (1, .ref x), (2, .ref b9), (3, .ref (b9 + 9)), (4, .ref (b9 + 10)), (5, .int (nI (6 * k)))] [] σ := by
  obtain ⟨ms, oa, oD, s0, hH, hst⟩ := hT
  have hwf := hH.wfc
  refine A_aload_n (i := 1) dL_law_1012 rfl rfl ?_
  refine A_aload_n (i := 3) dL_law_1013 rfl rfl ?_
  refine A_callSH2 (b' := b + 40995) (o_gap σ x b9 hb ms oa oD hhb hH) tX0_gap (by decide) q1556 dL_law_1014 (by decide) (by omega) (Nat.le_of_ble_eq_true rfl) (fun w9 τ1 h9 => ?_) (fun E9 q9 τ9 h9 => h9.elim)
  obtain ⟨e1, oa1, hH1, hv1⟩ := h9
  subst e1
  refine A_istore dL_law_1017 (Nat.le_of_ble_eq_true rfl) ?_
  refine A_aload_n (i := 2) dL_law_1019 rfl rfl ?_
  refine A_st (σ' := mc b9 ms τ1) hH1.2.1.symm ?_
  refine A_callV0 (b' := b + 40995) (c_gap b9 ms τ1 hwf.1) tX2_gap q2677 (mc_0 _ _ _) rfl rfl dL_law_1020 (by decide) (by omega) (Nat.le_of_ble_eq_true rfl) (fun w9 τ2 h9 => ?_) (fun E9 q9 τ9 h9 => h9.elim)
  obtain ⟨e1, e2⟩ := h9
  obtain ⟨ms2, ems, em2⟩ : ∃ ms2 : MM, ms2 = (⟨mayT (m_is ms) 1 1, m_is ms, m_um ms, m_bd ms, m_pc ms, m_pa ms, m_sz ms, m_cu ms, m_st ms, m_tk ms, m_to ms, m_ps ms, m_now ms, m_asd ms, m_und ms, m_sav ms, m_isv ms, m_buf ms, m_grp ms, m_pag ms⟩ : MM) ∧ τ2 = mc b9 ms2 τ1 := ⟨_, rfl, e2⟩
  subst e1
  have hH2 : HS g τ2 x b9 hb (kM ms) ms2 oa1 oD := by rw [em2]; exact hH1.mc
  have hz2 : (kM ms) = kM ms2 := ((congrArg (fun z : MM => kM z) ems).trans rfl).symm
  have hthr : m_thr ms2 = mayT (m_is ms) 1 1 := (congrArg (fun z : MM => m_thr z) ems).trans rfl
  have hst2 := ((congrArg (fun z : MM => m_st z) ems).trans rfl).trans hst
  refine A_istore dL_law_1023 (Nat.le_of_ble_eq_true rfl) ?_
  refine A_aload_n (i := 2) dL_law_1025 rfl rfl ?_
  refine A_st (σ' := mc b9 ms2 τ2) hH2.2.1.symm ?_
  refine A_callV0E (b' := b + 40995) (v := some (.int (m_thr ms2))) (τ := mc b9 ms2 τ2) (c_thrown b9 ms2 τ2) tX2_thrown q2291 (mc_0 _ _ _) rfl rfl dL_law_1026 (by decide) (by omega) (Nat.le_of_ble_eq_true rfl) ?_
  refine A_st (σ' := τ2) hH2.2.1 ?_
  refine A_iload dL_law_1029 rfl ?_
  refine A_icmp_eq_t (tgt := 1036) dL_law_1031 (by decide) (hthr) ?_
  refine A_iload dL_law_1036 rfl ?_
  refine A_if_ne (tgt := 1053) dL_law_1038 (by decide) (fun c1 => ?_) (fun c1 => ?_)
  · skip
    refine A_goto (tgt := 3776) dL_law_1053 (by decide) ?_
    refine A_sub (L' := [(0, .ref bs), (1, .ref x), (2, .ref b9), (3, .ref (b9 + 9)), (4, .ref (b9 + 10)), (5, .int (nI (6 * k)))]) ⟨rfl, rfl, rfl, rfl, rfl, rfl, trivial⟩ ?_
    refine A_less (b' := b) (by omega) ?_
    exact kk τ2 ⟨ms2, oa1, oD, _, by rw [← hz2]; exact hH2, hst2⟩
  · skip
    refine A_aload_n (i := 3) dL_law_1041 rfl rfl ?_
    refine A_iconst (v := 0) dL_law_1042 (by decide) ?_
    refine A_lald hH2.2.2.1 (by unfold vp_in; decide) dL_law_1043 ?_
    refine A_iload dL_law_1044 rfl ?_
    refine A_i2l dL_law_1046 rfl ?_
    refine A_lcmp dL_law_1047 ?_
    refine A_if_eq_t (tgt := 1053) dL_law_1048 (by decide) (by rw [show oa1 (0 : Int32).toNatClampNeg = _ from hv1 c1]; rw [gd_0 (show mayT (m_is ms) 1 1 = 0 from c1)]; exact lg_self _) ?_
    refine A_goto (tgt := 3776) dL_law_1053 (by decide) ?_
    refine A_sub (L' := [(0, .ref bs), (1, .ref x), (2, .ref b9), (3, .ref (b9 + 9)), (4, .ref (b9 + 10)), (5, .int (nI (6 * k)))]) ⟨rfl, rfl, rfl, rfl, rfl, rfl, trivial⟩ ?_
    refine A_less (b' := b) (by omega) ?_
    exact kk τ2 ⟨ms2, oa1, oD, _, by rw [← hz2]; exact hH2, hst2⟩
theorem t_why {l : Launch} {g : GC} {b : Nat} {Q : Option Value → AH → Prop} {X : String → Nat → AH → Prop} (σ : AH) (x b9 hb bs k n : Nat) (xs : Nat → Int32) (hs : o_arr g .int bs n (fun j => .int (xs j))) (hk : 6 * k + 6 ≤ n) (hn : n ≤ 144) (hhb : hb < 2 ^ 30) (hT : TI g x b9 hb σ) (kk : ∀ τ, TI g x b9 hb τ → AW l g mLaw 60 b Q X 3776 [(0, .ref bs), (1, .ref x), (2, .ref b9), (3, .ref (b9 + 9)), (4, .ref (b9 + 10)), (5, .int (nI (6 * k)))] [] τ) : AW l g mLaw 60 (b + 41000) Q X 1056 [(0, .ref bs), (1, .ref x), (2, .ref b9), (3, .ref (b9 + 9)), (4, .ref (b9 + 10)), (5, .int (nI (6 * k)))] [] σ := by
  obtain ⟨ms, oa, oD, s0, hH, hst⟩ := hT
  have hwf := hH.wfc
  refine A_aload_n (i := 1) dL_law_1056 rfl rfl ?_
  refine A_aload_n (i := 0) dL_law_1057 rfl rfl ?_
  refine A_iload dL_law_1058 rfl ?_
  refine A_iconst (v := 1) dL_law_1060 (by decide) ?_
  refine A_iadd dL_law_1061 ?_
  refine A_int (w := nI ((6 * k) + 1)) (nI_add (6 * k) 1) ?_
  refine A_ialdO hs (vp_in_nI (by omega) (by omega)) (v := .int (xs (6 * k + 1))) (by rw [nI_clamp (by omega)]) dL_law_1062 ?_
  refine A_aload_n (i := 3) dL_law_1063 rfl rfl ?_
  refine A_callSH3 (b' := b + 40998) (o_why σ x b9 hb ms oa oD (xs (6 * k + 1)) hhb hH) tX0_why (by decide) q1623 dL_law_1064 (by decide) (by omega) (Nat.le_of_ble_eq_true rfl) (fun w9 τ1 h9 => ?_) (fun E9 q9 τ9 h9 => h9.elim)
  obtain ⟨e1, oa1, hH1, hv1⟩ := h9
  subst e1
  refine A_istore dL_law_1067 (Nat.le_of_ble_eq_true rfl) ?_
  refine A_aload_n (i := 2) dL_law_1069 rfl rfl ?_
  refine A_aload_n (i := 0) dL_law_1070 rfl rfl ?_
  refine A_iload dL_law_1071 rfl ?_
  refine A_iconst (v := 1) dL_law_1073 (by decide) ?_
  refine A_iadd dL_law_1074 ?_
  refine A_int (w := nI ((6 * k) + 1)) (nI_add (6 * k) 1) ?_
  refine A_ialdO hs (vp_in_nI (by omega) (by omega)) (v := .int (xs (6 * k + 1))) (by rw [nI_clamp (by omega)]) dL_law_1075 ?_
  refine A_st (σ' := mc b9 ms τ1) hH1.2.1.symm ?_
  refine A_callV1 (b' := b + 40998) (c_why b9 ms τ1 (xs (6 * k + 1)) hwf.1.1) tX2_why q2682 (mc_0 _ _ _) rfl rfl dL_law_1076 (by decide) (by omega) (Nat.le_of_ble_eq_true rfl) (fun w9 τ2 h9 => ?_) (fun E9 q9 τ9 h9 => h9.elim)
  obtain ⟨e1, e2⟩ := h9
  obtain ⟨ms2, ems, em2⟩ : ∃ ms2 : MM, ms2 = (⟨mayT (m_is ms) (bi (okF (m_is ms) (m_now ms) (xs (6 * k + 1)))) 1, m_is ms, m_um ms, m_bd ms, m_pc ms, m_pa ms, m_sz ms, m_cu ms, m_st ms, m_tk ms, m_to ms, m_ps ms, m_now ms, m_asd ms, m_und ms, m_sav ms, m_isv ms, m_buf ms, m_grp ms, m_pag ms⟩ : MM) ∧ τ2 = mc b9 ms2 τ1 := ⟨_, rfl, e2⟩
  subst e1
  have hH2 : HS g τ2 x b9 hb (kM ms) ms2 oa1 oD := by rw [em2]; exact hH1.mc
  have hz2 : (kM ms) = kM ms2 := ((congrArg (fun z : MM => kM z) ems).trans rfl).symm
  have hthr : m_thr ms2 = mayT (m_is ms) (bi (okF (m_is ms) (m_now ms) (xs (6 * k + 1)))) 1 := (congrArg (fun z : MM => m_thr z) ems).trans rfl
  have hst2 := ((congrArg (fun z : MM => m_st z) ems).trans rfl).trans hst
  refine A_istore dL_law_1079 (Nat.le_of_ble_eq_true rfl) ?_
  refine A_aload_n (i := 2) dL_law_1081 rfl rfl ?_
  refine A_st (σ' := mc b9 ms2 τ2) hH2.2.1.symm ?_
  refine A_callV0E (b' := b + 40998) (v := some (.int (m_thr ms2))) (τ := mc b9 ms2 τ2) (c_thrown b9 ms2 τ2) tX2_thrown q2291 (mc_0 _ _ _) rfl rfl dL_law_1082 (by decide) (by omega) (Nat.le_of_ble_eq_true rfl) ?_
  refine A_st (σ' := τ2) hH2.2.1 ?_
  refine A_iload dL_law_1085 rfl ?_
  refine A_icmp_eq_t (tgt := 1092) dL_law_1087 (by decide) (hthr) ?_
  refine A_iload dL_law_1092 rfl ?_
  refine A_if_ne (tgt := 1109) dL_law_1094 (by decide) (fun c1 => ?_) (fun c1 => ?_)
  · skip
    refine A_goto (tgt := 3776) dL_law_1109 (by decide) ?_
    refine A_sub (L' := [(0, .ref bs), (1, .ref x), (2, .ref b9), (3, .ref (b9 + 9)), (4, .ref (b9 + 10)), (5, .int (nI (6 * k)))]) ⟨rfl, rfl, rfl, rfl, rfl, rfl, trivial⟩ ?_
    refine A_less (b' := b) (by omega) ?_
    exact kk τ2 ⟨ms2, oa1, oD, _, by rw [← hz2]; exact hH2, hst2⟩
  · skip
    refine A_aload_n (i := 3) dL_law_1097 rfl rfl ?_
    refine A_iconst (v := 0) dL_law_1098 (by decide) ?_
    refine A_lald hH2.2.2.1 (by unfold vp_in; decide) dL_law_1099 ?_
    refine A_iload dL_law_1100 rfl ?_
    refine A_i2l dL_law_1102 rfl ?_
    refine A_lcmp dL_law_1103 ?_
    refine A_if_eq_t (tgt := 1109) dL_law_1104 (by decide) (by rw [show oa1 (0 : Int32).toNatClampNeg = _ from hv1 c1]; rw [gd_0 (show mayT (m_is ms) (bi (okF (m_is ms) (m_now ms) (xs (6 * k + 1)))) 1 = 0 from c1)]; exact lg_self _) ?_
    refine A_goto (tgt := 3776) dL_law_1109 (by decide) ?_
    refine A_sub (L' := [(0, .ref bs), (1, .ref x), (2, .ref b9), (3, .ref (b9 + 9)), (4, .ref (b9 + 10)), (5, .int (nI (6 * k)))]) ⟨rfl, rfl, rfl, rfl, rfl, rfl, trivial⟩ ?_
    refine A_less (b' := b) (by omega) ?_
    exact kk τ2 ⟨ms2, oa1, oD, _, by rw [← hz2]; exact hH2, hst2⟩
theorem t_reasons {l : Launch} {g : GC} {b : Nat} {Q : Option Value → AH → Prop} {X : String → Nat → AH → Prop} (σ : AH) (x b9 hb bs k n : Nat) (xs : Nat → Int32) (hs : o_arr g .int bs n (fun j => .int (xs j))) (hk : 6 * k + 6 ≤ n) (hn : n ≤ 144) (hhb : hb < 2 ^ 30) (hT : TI g x b9 hb σ) (kk : ∀ τ, TI g x b9 hb τ → AW l g mLaw 60 b Q X 3776 [(0, .ref bs), (1, .ref x), (2, .ref b9), (3, .ref (b9 + 9)), (4, .ref (b9 + 10)), (5, .int (nI (6 * k)))] [] τ) : AW l g mLaw 60 (b + 41000) Q X 1112 [(0, .ref bs), (1, .ref x), (2, .ref b9), (3, .ref (b9 + 9)), (4, .ref (b9 + 10)), (5, .int (nI (6 * k)))] [] σ := by
  obtain ⟨ms, oa, oD, s0, hH, hst⟩ := hT
  have hwf := hH.wfc
  refine A_aload_n (i := 1) dL_law_1112 rfl rfl ?_
  refine A_aload_n (i := 0) dL_law_1113 rfl rfl ?_
  refine A_iload dL_law_1114 rfl ?_
  refine A_iconst (v := 1) dL_law_1116 (by decide) ?_
  refine A_iadd dL_law_1117 ?_
  refine A_int (w := nI ((6 * k) + 1)) (nI_add (6 * k) 1) ?_
  refine A_ialdO hs (vp_in_nI (by omega) (by omega)) (v := .int (xs (6 * k + 1))) (by rw [nI_clamp (by omega)]) dL_law_1118 ?_
  refine A_aload_n (i := 3) dL_law_1119 rfl rfl ?_
  refine A_callSH3 (b' := b + 40998) (o_reasons σ x b9 hb ms oa oD (xs (6 * k + 1)) hhb hH) tX0_reasons (by decide) q1631 dL_law_1120 (by decide) (by omega) (Nat.le_of_ble_eq_true rfl) (fun w9 τ1 h9 => ?_) (fun E9 q9 τ9 h9 => h9.elim)
  obtain ⟨e1, oa1, hH1, hv1⟩ := h9
  subst e1
  refine A_istore dL_law_1123 (Nat.le_of_ble_eq_true rfl) ?_
  refine A_aload_n (i := 2) dL_law_1125 rfl rfl ?_
  refine A_aload_n (i := 0) dL_law_1126 rfl rfl ?_
  refine A_iload dL_law_1127 rfl ?_
  refine A_iconst (v := 1) dL_law_1129 (by decide) ?_
  refine A_iadd dL_law_1130 ?_
  refine A_int (w := nI ((6 * k) + 1)) (nI_add (6 * k) 1) ?_
  refine A_ialdO hs (vp_in_nI (by omega) (by omega)) (v := .int (xs (6 * k + 1))) (by rw [nI_clamp (by omega)]) dL_law_1131 ?_
  refine A_st (σ' := mc b9 ms τ1) hH1.2.1.symm ?_
  refine A_callV1 (b' := b + 40998) (c_reasons b9 ms τ1 (xs (6 * k + 1)) hwf.1.1) tX2_reasons q2690 (mc_0 _ _ _) rfl rfl dL_law_1132 (by decide) (by omega) (Nat.le_of_ble_eq_true rfl) (fun w9 τ2 h9 => ?_) (fun E9 q9 τ9 h9 => h9.elim)
  obtain ⟨e1, e2⟩ := h9
  obtain ⟨ms2, ems, em2⟩ : ∃ ms2 : MM, ms2 = (⟨mayT (m_is ms) (bi (okF (m_is ms) (m_now ms) (xs (6 * k + 1)))) 1, m_is ms, m_um ms, m_bd ms, m_pc ms, m_pa ms, m_sz ms, m_cu ms, m_st ms, m_tk ms, m_to ms, m_ps ms, m_now ms, m_asd ms, m_und ms, m_sav ms, m_isv ms, m_buf ms, m_grp ms, m_pag ms⟩ : MM) ∧ τ2 = mc b9 ms2 τ1 := ⟨_, rfl, e2⟩
  subst e1
  have hH2 : HS g τ2 x b9 hb (kM ms) ms2 oa1 oD := by rw [em2]; exact hH1.mc
  have hz2 : (kM ms) = kM ms2 := ((congrArg (fun z : MM => kM z) ems).trans rfl).symm
  have hthr : m_thr ms2 = mayT (m_is ms) (bi (okF (m_is ms) (m_now ms) (xs (6 * k + 1)))) 1 := (congrArg (fun z : MM => m_thr z) ems).trans rfl
  have hst2 := ((congrArg (fun z : MM => m_st z) ems).trans rfl).trans hst
  refine A_istore dL_law_1135 (Nat.le_of_ble_eq_true rfl) ?_
  refine A_aload_n (i := 2) dL_law_1137 rfl rfl ?_
  refine A_st (σ' := mc b9 ms2 τ2) hH2.2.1.symm ?_
  refine A_callV0E (b' := b + 40998) (v := some (.int (m_thr ms2))) (τ := mc b9 ms2 τ2) (c_thrown b9 ms2 τ2) tX2_thrown q2291 (mc_0 _ _ _) rfl rfl dL_law_1138 (by decide) (by omega) (Nat.le_of_ble_eq_true rfl) ?_
  refine A_st (σ' := τ2) hH2.2.1 ?_
  refine A_iload dL_law_1141 rfl ?_
  refine A_icmp_eq_t (tgt := 1148) dL_law_1143 (by decide) (hthr) ?_
  refine A_iload dL_law_1148 rfl ?_
  refine A_if_ne (tgt := 1165) dL_law_1150 (by decide) (fun c1 => ?_) (fun c1 => ?_)
  · skip
    refine A_goto (tgt := 3776) dL_law_1165 (by decide) ?_
    refine A_sub (L' := [(0, .ref bs), (1, .ref x), (2, .ref b9), (3, .ref (b9 + 9)), (4, .ref (b9 + 10)), (5, .int (nI (6 * k)))]) ⟨rfl, rfl, rfl, rfl, rfl, rfl, trivial⟩ ?_
    refine A_less (b' := b) (by omega) ?_
    exact kk τ2 ⟨ms2, oa1, oD, _, by rw [← hz2]; exact hH2, hst2⟩
  · skip
    refine A_aload_n (i := 3) dL_law_1153 rfl rfl ?_
    refine A_iconst (v := 0) dL_law_1154 (by decide) ?_
    refine A_lald hH2.2.2.1 (by unfold vp_in; decide) dL_law_1155 ?_
    refine A_iload dL_law_1156 rfl ?_
    refine A_i2l dL_law_1158 rfl ?_
    refine A_lcmp dL_law_1159 ?_
    refine A_if_eq_t (tgt := 1165) dL_law_1160 (by decide) (by rw [show oa1 (0 : Int32).toNatClampNeg = _ from hv1 c1]; rw [gd_0 (show mayT (m_is ms) (bi (okF (m_is ms) (m_now ms) (xs (6 * k + 1)))) 1 = 0 from c1)]; exact lg_self _) ?_
    refine A_goto (tgt := 3776) dL_law_1165 (by decide) ?_
    refine A_sub (L' := [(0, .ref bs), (1, .ref x), (2, .ref b9), (3, .ref (b9 + 9)), (4, .ref (b9 + 10)), (5, .int (nI (6 * k)))]) ⟨rfl, rfl, rfl, rfl, rfl, rfl, trivial⟩ ?_
    refine A_less (b' := b) (by omega) ?_
    exact kk τ2 ⟨ms2, oa1, oD, _, by rw [← hz2]; exact hH2, hst2⟩
theorem t_culprit {l : Launch} {g : GC} {b : Nat} {Q : Option Value → AH → Prop} {X : String → Nat → AH → Prop} (σ : AH) (x b9 hb bs k n : Nat) (xs : Nat → Int32) (hs : o_arr g .int bs n (fun j => .int (xs j))) (hk : 6 * k + 6 ≤ n) (hn : n ≤ 144) (hhb : hb < 2 ^ 30) (hT : TI g x b9 hb σ) (kk : ∀ τ, TI g x b9 hb τ → AW l g mLaw 60 b Q X 3776 [(0, .ref bs), (1, .ref x), (2, .ref b9), (3, .ref (b9 + 9)), (4, .ref (b9 + 10)), (5, .int (nI (6 * k)))] [] τ) : AW l g mLaw 60 (b + 41000) Q X 1168 [(0, .ref bs), (1, .ref x), (2, .ref b9), (3, .ref (b9 + 9)), (4, .ref (b9 + 10)), (5, .int (nI (6 * k)))] [] σ := by
  obtain ⟨ms, oa, oD, s0, hH, hst⟩ := hT
  have hwf := hH.wfc
  refine A_aload_n (i := 1) dL_law_1168 rfl rfl ?_
  refine A_aload_n (i := 0) dL_law_1169 rfl rfl ?_
  refine A_iload dL_law_1170 rfl ?_
  refine A_iconst (v := 1) dL_law_1172 (by decide) ?_
  refine A_iadd dL_law_1173 ?_
  refine A_int (w := nI ((6 * k) + 1)) (nI_add (6 * k) 1) ?_
  refine A_ialdO hs (vp_in_nI (by omega) (by omega)) (v := .int (xs (6 * k + 1))) (by rw [nI_clamp (by omega)]) dL_law_1174 ?_
  refine A_aload_n (i := 3) dL_law_1175 rfl rfl ?_
  refine A_callSH3 (b' := b + 40998) (o_culprit σ x b9 hb ms oa oD (xs (6 * k + 1)) hhb hH) tX0_culprit (by decide) q1638 dL_law_1176 (by decide) (by omega) (Nat.le_of_ble_eq_true rfl) (fun w9 τ1 h9 => ?_) (fun E9 q9 τ9 h9 => h9.elim)
  obtain ⟨e1, oa1, hH1, hv1⟩ := h9
  subst e1
  refine A_istore dL_law_1179 (Nat.le_of_ble_eq_true rfl) ?_
  refine A_aload_n (i := 2) dL_law_1181 rfl rfl ?_
  refine A_aload_n (i := 0) dL_law_1182 rfl rfl ?_
  refine A_iload dL_law_1183 rfl ?_
  refine A_iconst (v := 1) dL_law_1185 (by decide) ?_
  refine A_iadd dL_law_1186 ?_
  refine A_int (w := nI ((6 * k) + 1)) (nI_add (6 * k) 1) ?_
  refine A_ialdO hs (vp_in_nI (by omega) (by omega)) (v := .int (xs (6 * k + 1))) (by rw [nI_clamp (by omega)]) dL_law_1187 ?_
  refine A_st (σ' := mc b9 ms τ1) hH1.2.1.symm ?_
  refine A_callV1 (b' := b + 40998) (c_culprit b9 ms τ1 (xs (6 * k + 1)) hwf.1.1) tX2_culprit q2694 (mc_0 _ _ _) rfl rfl dL_law_1188 (by decide) (by omega) (Nat.le_of_ble_eq_true rfl) (fun w9 τ2 h9 => ?_) (fun E9 q9 τ9 h9 => h9.elim)
  obtain ⟨e1, e2⟩ := h9
  obtain ⟨ms2, ems, em2⟩ : ∃ ms2 : MM, ms2 = (⟨mayT (m_is ms) (bi (okN (m_is ms) (m_now ms) (xs (6 * k + 1)))) 1, m_is ms, m_um ms, m_bd ms, m_pc ms, m_pa ms, m_sz ms, m_cu ms, m_st ms, m_tk ms, m_to ms, m_ps ms, m_now ms, m_asd ms, m_und ms, m_sav ms, m_isv ms, m_buf ms, m_grp ms, m_pag ms⟩ : MM) ∧ τ2 = mc b9 ms2 τ1 := ⟨_, rfl, e2⟩
  subst e1
  have hH2 : HS g τ2 x b9 hb (kM ms) ms2 oa1 oD := by rw [em2]; exact hH1.mc
  have hz2 : (kM ms) = kM ms2 := ((congrArg (fun z : MM => kM z) ems).trans rfl).symm
  have hthr : m_thr ms2 = mayT (m_is ms) (bi (okN (m_is ms) (m_now ms) (xs (6 * k + 1)))) 1 := (congrArg (fun z : MM => m_thr z) ems).trans rfl
  have hst2 := ((congrArg (fun z : MM => m_st z) ems).trans rfl).trans hst
  refine A_istore dL_law_1191 (Nat.le_of_ble_eq_true rfl) ?_
  refine A_aload_n (i := 2) dL_law_1193 rfl rfl ?_
  refine A_st (σ' := mc b9 ms2 τ2) hH2.2.1.symm ?_
  refine A_callV0E (b' := b + 40998) (v := some (.int (m_thr ms2))) (τ := mc b9 ms2 τ2) (c_thrown b9 ms2 τ2) tX2_thrown q2291 (mc_0 _ _ _) rfl rfl dL_law_1194 (by decide) (by omega) (Nat.le_of_ble_eq_true rfl) ?_
  refine A_st (σ' := τ2) hH2.2.1 ?_
  refine A_iload dL_law_1197 rfl ?_
  refine A_icmp_eq_t (tgt := 1204) dL_law_1199 (by decide) (hthr) ?_
  refine A_iload dL_law_1204 rfl ?_
  refine A_if_ne (tgt := 1221) dL_law_1206 (by decide) (fun c1 => ?_) (fun c1 => ?_)
  · skip
    refine A_goto (tgt := 3776) dL_law_1221 (by decide) ?_
    refine A_sub (L' := [(0, .ref bs), (1, .ref x), (2, .ref b9), (3, .ref (b9 + 9)), (4, .ref (b9 + 10)), (5, .int (nI (6 * k)))]) ⟨rfl, rfl, rfl, rfl, rfl, rfl, trivial⟩ ?_
    refine A_less (b' := b) (by omega) ?_
    exact kk τ2 ⟨ms2, oa1, oD, _, by rw [← hz2]; exact hH2, hst2⟩
  · skip
    refine A_aload_n (i := 3) dL_law_1209 rfl rfl ?_
    refine A_iconst (v := 0) dL_law_1210 (by decide) ?_
    refine A_lald hH2.2.2.1 (by unfold vp_in; decide) dL_law_1211 ?_
    refine A_iload dL_law_1212 rfl ?_
    refine A_i2l dL_law_1214 rfl ?_
    refine A_lcmp dL_law_1215 ?_
    refine A_if_eq_t (tgt := 1221) dL_law_1216 (by decide) (by rw [show oa1 (0 : Int32).toNatClampNeg = _ from hv1 c1]; rw [gd_0 (show mayT (m_is ms) (bi (okN (m_is ms) (m_now ms) (xs (6 * k + 1)))) 1 = 0 from c1)]; exact lg_self _) ?_
    refine A_goto (tgt := 3776) dL_law_1221 (by decide) ?_
    refine A_sub (L' := [(0, .ref bs), (1, .ref x), (2, .ref b9), (3, .ref (b9 + 9)), (4, .ref (b9 + 10)), (5, .int (nI (6 * k)))]) ⟨rfl, rfl, rfl, rfl, rfl, rfl, trivial⟩ ?_
    refine A_less (b' := b) (by omega) ?_
    exact kk τ2 ⟨ms2, oa1, oD, _, by rw [← hz2]; exact hH2, hst2⟩
theorem t_whyNotPut {l : Launch} {g : GC} {b : Nat} {Q : Option Value → AH → Prop} {X : String → Nat → AH → Prop} (σ : AH) (x b9 hb bs k n : Nat) (xs : Nat → Int32) (hs : o_arr g .int bs n (fun j => .int (xs j))) (hk : 6 * k + 6 ≤ n) (hn : n ≤ 144) (hhb : hb < 2 ^ 30) (hT : TI g x b9 hb σ) (kk : ∀ τ, TI g x b9 hb τ → AW l g mLaw 60 b Q X 3776 [(0, .ref bs), (1, .ref x), (2, .ref b9), (3, .ref (b9 + 9)), (4, .ref (b9 + 10)), (5, .int (nI (6 * k)))] [] τ) : AW l g mLaw 60 (b + 41000) Q X 1224 [(0, .ref bs), (1, .ref x), (2, .ref b9), (3, .ref (b9 + 9)), (4, .ref (b9 + 10)), (5, .int (nI (6 * k)))] [] σ := by
  obtain ⟨ms, oa, oD, s0, hH, hst⟩ := hT
  have hwf := hH.wfc
  refine A_aload_n (i := 1) dL_law_1224 rfl rfl ?_
  refine A_aload_n (i := 0) dL_law_1225 rfl rfl ?_
  refine A_iload dL_law_1226 rfl ?_
  refine A_iconst (v := 1) dL_law_1228 (by decide) ?_
  refine A_iadd dL_law_1229 ?_
  refine A_int (w := nI ((6 * k) + 1)) (nI_add (6 * k) 1) ?_
  refine A_ialdO hs (vp_in_nI (by omega) (by omega)) (v := .int (xs (6 * k + 1))) (by rw [nI_clamp (by omega)]) dL_law_1230 ?_
  refine A_aload_n (i := 0) dL_law_1231 rfl rfl ?_
  refine A_iload dL_law_1232 rfl ?_
  refine A_iconst (v := 2) dL_law_1234 (by decide) ?_
  refine A_iadd dL_law_1235 ?_
  refine A_int (w := nI ((6 * k) + 2)) (nI_add (6 * k) 2) ?_
  refine A_ialdO hs (vp_in_nI (by omega) (by omega)) (v := .int (xs (6 * k + 2))) (by rw [nI_clamp (by omega)]) dL_law_1236 ?_
  refine A_aload_n (i := 3) dL_law_1237 rfl rfl ?_
  refine A_callSH4 (b' := b + 40994) (o_whyNotPut σ x b9 hb ms oa oD (xs (6 * k + 1)) (xs (6 * k + 2)) hhb hH) tX0_whyNotPut (by decide) q1649 dL_law_1238 (by decide) (by omega) (Nat.le_of_ble_eq_true rfl) (fun w9 τ1 h9 => ?_) (fun E9 q9 τ9 h9 => h9.elim)
  obtain ⟨e1, oa1, hH1, hv1⟩ := h9
  subst e1
  refine A_istore dL_law_1241 (Nat.le_of_ble_eq_true rfl) ?_
  refine A_aload_n (i := 2) dL_law_1243 rfl rfl ?_
  refine A_aload_n (i := 0) dL_law_1244 rfl rfl ?_
  refine A_iload dL_law_1245 rfl ?_
  refine A_iconst (v := 1) dL_law_1247 (by decide) ?_
  refine A_iadd dL_law_1248 ?_
  refine A_int (w := nI ((6 * k) + 1)) (nI_add (6 * k) 1) ?_
  refine A_ialdO hs (vp_in_nI (by omega) (by omega)) (v := .int (xs (6 * k + 1))) (by rw [nI_clamp (by omega)]) dL_law_1249 ?_
  refine A_aload_n (i := 0) dL_law_1250 rfl rfl ?_
  refine A_iload dL_law_1251 rfl ?_
  refine A_iconst (v := 2) dL_law_1253 (by decide) ?_
  refine A_iadd dL_law_1254 ?_
  refine A_int (w := nI ((6 * k) + 2)) (nI_add (6 * k) 2) ?_
  refine A_ialdO hs (vp_in_nI (by omega) (by omega)) (v := .int (xs (6 * k + 2))) (by rw [nI_clamp (by omega)]) dL_law_1255 ?_
  refine A_st (σ' := mc b9 ms τ1) hH1.2.1.symm ?_
  refine A_callV2 (b' := b + 40994) (c_whyNotPut b9 ms τ1 (xs (6 * k + 1)) (xs (6 * k + 2)) hwf.1.1) tX2_whyNotPut q2702 (mc_0 _ _ _) rfl rfl dL_law_1256 (by decide) (by omega) (Nat.le_of_ble_eq_true rfl) (fun w9 τ2 h9 => ?_) (fun E9 q9 τ9 h9 => h9.elim)
  obtain ⟨e1, e2⟩ := h9
  obtain ⟨ms2, ems, em2⟩ : ∃ ms2 : MM, ms2 = (⟨mayT (m_is ms) (bi (okB (m_is ms) (m_now ms) (xs (6 * k + 1)) (xs (6 * k + 2)))) 1, m_is ms, m_um ms, m_bd ms, m_pc ms, m_pa ms, m_sz ms, m_cu ms, m_st ms, m_tk ms, m_to ms, m_ps ms, m_now ms, m_asd ms, m_und ms, m_sav ms, m_isv ms, m_buf ms, m_grp ms, m_pag ms⟩ : MM) ∧ τ2 = mc b9 ms2 τ1 := ⟨_, rfl, e2⟩
  subst e1
  have hH2 : HS g τ2 x b9 hb (kM ms) ms2 oa1 oD := by rw [em2]; exact hH1.mc
  have hz2 : (kM ms) = kM ms2 := ((congrArg (fun z : MM => kM z) ems).trans rfl).symm
  have hthr : m_thr ms2 = mayT (m_is ms) (bi (okF (m_is ms) (m_now ms) (xs (6 * k + 1)) ∧ okT (m_is ms) (m_now ms) (xs (6 * k + 2)))) 1 := (congrArg (fun z : MM => m_thr z) ems).trans rfl
  have hst2 := ((congrArg (fun z : MM => m_st z) ems).trans rfl).trans hst
  refine A_istore dL_law_1259 (Nat.le_of_ble_eq_true rfl) ?_
  refine A_aload_n (i := 2) dL_law_1261 rfl rfl ?_
  refine A_st (σ' := mc b9 ms2 τ2) hH2.2.1.symm ?_
  refine A_callV0E (b' := b + 40994) (v := some (.int (m_thr ms2))) (τ := mc b9 ms2 τ2) (c_thrown b9 ms2 τ2) tX2_thrown q2291 (mc_0 _ _ _) rfl rfl dL_law_1262 (by decide) (by omega) (Nat.le_of_ble_eq_true rfl) ?_
  refine A_st (σ' := τ2) hH2.2.1 ?_
  refine A_iload dL_law_1265 rfl ?_
  refine A_icmp_eq_t (tgt := 1272) dL_law_1267 (by decide) (hthr) ?_
  refine A_iload dL_law_1272 rfl ?_
  refine A_if_ne (tgt := 1289) dL_law_1274 (by decide) (fun c1 => ?_) (fun c1 => ?_)
  · skip
    refine A_goto (tgt := 3776) dL_law_1289 (by decide) ?_
    refine A_sub (L' := [(0, .ref bs), (1, .ref x), (2, .ref b9), (3, .ref (b9 + 9)), (4, .ref (b9 + 10)), (5, .int (nI (6 * k)))]) ⟨rfl, rfl, rfl, rfl, rfl, rfl, trivial⟩ ?_
    refine A_less (b' := b) (by omega) ?_
    exact kk τ2 ⟨ms2, oa1, oD, _, by rw [← hz2]; exact hH2, hst2⟩
  · skip
    refine A_aload_n (i := 3) dL_law_1277 rfl rfl ?_
    refine A_iconst (v := 0) dL_law_1278 (by decide) ?_
    refine A_lald hH2.2.2.1 (by unfold vp_in; decide) dL_law_1279 ?_
    refine A_iload dL_law_1280 rfl ?_
    refine A_i2l dL_law_1282 rfl ?_
    refine A_lcmp dL_law_1283 ?_
    refine A_if_eq_t (tgt := 1289) dL_law_1284 (by decide) (by rw [show oa1 (0 : Int32).toNatClampNeg = _ from hv1 c1]; rw [gd_0 (show mayT (m_is ms) (bi (okF (m_is ms) (m_now ms) (xs (6 * k + 1)) ∧ okT (m_is ms) (m_now ms) (xs (6 * k + 2)))) 1 = 0 from c1)]; exact lg_self _) ?_
    refine A_goto (tgt := 3776) dL_law_1289 (by decide) ?_
    refine A_sub (L' := [(0, .ref bs), (1, .ref x), (2, .ref b9), (3, .ref (b9 + 9)), (4, .ref (b9 + 10)), (5, .int (nI (6 * k)))]) ⟨rfl, rfl, rfl, rfl, rfl, rfl, trivial⟩ ?_
    refine A_less (b' := b) (by omega) ?_
    exact kk τ2 ⟨ms2, oa1, oD, _, by rw [← hz2]; exact hH2, hst2⟩
theorem t_whyNotWash {l : Launch} {g : GC} {b : Nat} {Q : Option Value → AH → Prop} {X : String → Nat → AH → Prop} (σ : AH) (x b9 hb bs k n : Nat) (xs : Nat → Int32) (hs : o_arr g .int bs n (fun j => .int (xs j))) (hk : 6 * k + 6 ≤ n) (hn : n ≤ 144) (hhb : hb < 2 ^ 30) (hT : TI g x b9 hb σ) (kk : ∀ τ, TI g x b9 hb τ → AW l g mLaw 60 b Q X 3776 [(0, .ref bs), (1, .ref x), (2, .ref b9), (3, .ref (b9 + 9)), (4, .ref (b9 + 10)), (5, .int (nI (6 * k)))] [] τ) : AW l g mLaw 60 (b + 41000) Q X 1292 [(0, .ref bs), (1, .ref x), (2, .ref b9), (3, .ref (b9 + 9)), (4, .ref (b9 + 10)), (5, .int (nI (6 * k)))] [] σ := by
  obtain ⟨ms, oa, oD, s0, hH, hst⟩ := hT
  have hwf := hH.wfc
  refine A_aload_n (i := 1) dL_law_1292 rfl rfl ?_
  refine A_aload_n (i := 0) dL_law_1293 rfl rfl ?_
  refine A_iload dL_law_1294 rfl ?_
  refine A_iconst (v := 1) dL_law_1296 (by decide) ?_
  refine A_iadd dL_law_1297 ?_
  refine A_int (w := nI ((6 * k) + 1)) (nI_add (6 * k) 1) ?_
  refine A_ialdO hs (vp_in_nI (by omega) (by omega)) (v := .int (xs (6 * k + 1))) (by rw [nI_clamp (by omega)]) dL_law_1298 ?_
  refine A_aload_n (i := 0) dL_law_1299 rfl rfl ?_
  refine A_iload dL_law_1300 rfl ?_
  refine A_iconst (v := 2) dL_law_1302 (by decide) ?_
  refine A_iadd dL_law_1303 ?_
  refine A_int (w := nI ((6 * k) + 2)) (nI_add (6 * k) 2) ?_
  refine A_ialdO hs (vp_in_nI (by omega) (by omega)) (v := .int (xs (6 * k + 2))) (by rw [nI_clamp (by omega)]) dL_law_1304 ?_
  refine A_aload_n (i := 3) dL_law_1305 rfl rfl ?_
  refine A_callSH4 (b' := b + 40998) (o_whyNotWash σ x b9 hb ms oa oD (xs (6 * k + 1)) (xs (6 * k + 2)) hhb hH) tX0_whyNotWash (by decide) q1661 dL_law_1306 (by decide) (by omega) (Nat.le_of_ble_eq_true rfl) (fun w9 τ1 h9 => ?_) (fun E9 q9 τ9 h9 => h9.elim)
  obtain ⟨e1, oa1, hH1, hv1⟩ := h9
  subst e1
  refine A_istore dL_law_1309 (Nat.le_of_ble_eq_true rfl) ?_
  refine A_aload_n (i := 2) dL_law_1311 rfl rfl ?_
  refine A_aload_n (i := 0) dL_law_1312 rfl rfl ?_
  refine A_iload dL_law_1313 rfl ?_
  refine A_iconst (v := 1) dL_law_1315 (by decide) ?_
  refine A_iadd dL_law_1316 ?_
  refine A_int (w := nI ((6 * k) + 1)) (nI_add (6 * k) 1) ?_
  refine A_ialdO hs (vp_in_nI (by omega) (by omega)) (v := .int (xs (6 * k + 1))) (by rw [nI_clamp (by omega)]) dL_law_1317 ?_
  refine A_aload_n (i := 0) dL_law_1318 rfl rfl ?_
  refine A_iload dL_law_1319 rfl ?_
  refine A_iconst (v := 2) dL_law_1321 (by decide) ?_
  refine A_iadd dL_law_1322 ?_
  refine A_int (w := nI ((6 * k) + 2)) (nI_add (6 * k) 2) ?_
  refine A_ialdO hs (vp_in_nI (by omega) (by omega)) (v := .int (xs (6 * k + 2))) (by rw [nI_clamp (by omega)]) dL_law_1323 ?_
  refine A_st (σ' := mc b9 ms τ1) hH1.2.1.symm ?_
  refine A_callV2 (b' := b + 40998) (c_whyNotWash b9 ms τ1 (xs (6 * k + 1)) (xs (6 * k + 2)) hwf.1.1) tX2_whyNotWash q2706 (mc_0 _ _ _) rfl rfl dL_law_1324 (by decide) (by omega) (Nat.le_of_ble_eq_true rfl) (fun w9 τ2 h9 => ?_) (fun E9 q9 τ9 h9 => h9.elim)
  obtain ⟨e1, e2⟩ := h9
  obtain ⟨ms2, ems, em2⟩ : ∃ ms2 : MM, ms2 = (⟨mayT (m_is ms) (bi (okT (m_is ms) (m_now ms) (xs (6 * k + 1)))) (bi (inR (xs (6 * k + 2)) 0 3)), m_is ms, m_um ms, m_bd ms, m_pc ms, m_pa ms, m_sz ms, m_cu ms, m_st ms, m_tk ms, m_to ms, m_ps ms, m_now ms, m_asd ms, m_und ms, m_sav ms, m_isv ms, m_buf ms, m_grp ms, m_pag ms⟩ : MM) ∧ τ2 = mc b9 ms2 τ1 := ⟨_, rfl, e2⟩
  subst e1
  have hH2 : HS g τ2 x b9 hb (kM ms) ms2 oa1 oD := by rw [em2]; exact hH1.mc
  have hz2 : (kM ms) = kM ms2 := ((congrArg (fun z : MM => kM z) ems).trans rfl).symm
  have hthr : m_thr ms2 = mayT (m_is ms) (bi (okT (m_is ms) (m_now ms) (xs (6 * k + 1)))) (bi (inR (xs (6 * k + 2)) 0 3)) := (congrArg (fun z : MM => m_thr z) ems).trans rfl
  have hst2 := ((congrArg (fun z : MM => m_st z) ems).trans rfl).trans hst
  refine A_istore dL_law_1327 (Nat.le_of_ble_eq_true rfl) ?_
  refine A_aload_n (i := 2) dL_law_1329 rfl rfl ?_
  refine A_st (σ' := mc b9 ms2 τ2) hH2.2.1.symm ?_
  refine A_callV0E (b' := b + 40998) (v := some (.int (m_thr ms2))) (τ := mc b9 ms2 τ2) (c_thrown b9 ms2 τ2) tX2_thrown q2291 (mc_0 _ _ _) rfl rfl dL_law_1330 (by decide) (by omega) (Nat.le_of_ble_eq_true rfl) ?_
  refine A_st (σ' := τ2) hH2.2.1 ?_
  refine A_iload dL_law_1333 rfl ?_
  refine A_icmp_eq_t (tgt := 1340) dL_law_1335 (by decide) (hthr) ?_
  refine A_iload dL_law_1340 rfl ?_
  refine A_if_ne (tgt := 1357) dL_law_1342 (by decide) (fun c1 => ?_) (fun c1 => ?_)
  · skip
    refine A_goto (tgt := 3776) dL_law_1357 (by decide) ?_
    refine A_sub (L' := [(0, .ref bs), (1, .ref x), (2, .ref b9), (3, .ref (b9 + 9)), (4, .ref (b9 + 10)), (5, .int (nI (6 * k)))]) ⟨rfl, rfl, rfl, rfl, rfl, rfl, trivial⟩ ?_
    refine A_less (b' := b) (by omega) ?_
    exact kk τ2 ⟨ms2, oa1, oD, _, by rw [← hz2]; exact hH2, hst2⟩
  · skip
    refine A_aload_n (i := 3) dL_law_1345 rfl rfl ?_
    refine A_iconst (v := 0) dL_law_1346 (by decide) ?_
    refine A_lald hH2.2.2.1 (by unfold vp_in; decide) dL_law_1347 ?_
    refine A_iload dL_law_1348 rfl ?_
    refine A_i2l dL_law_1350 rfl ?_
    refine A_lcmp dL_law_1351 ?_
    refine A_if_eq_t (tgt := 1357) dL_law_1352 (by decide) (by rw [show oa1 (0 : Int32).toNatClampNeg = _ from hv1 c1]; rw [gd_0 (show mayT (m_is ms) (bi (okT (m_is ms) (m_now ms) (xs (6 * k + 1)))) (bi (inR (xs (6 * k + 2)) 0 3)) = 0 from c1)]; exact lg_self _) ?_
    refine A_goto (tgt := 3776) dL_law_1357 (by decide) ?_
    refine A_sub (L' := [(0, .ref bs), (1, .ref x), (2, .ref b9), (3, .ref (b9 + 9)), (4, .ref (b9 + 10)), (5, .int (nI (6 * k)))]) ⟨rfl, rfl, rfl, rfl, rfl, rfl, trivial⟩ ?_
    refine A_less (b' := b) (by omega) ?_
    exact kk τ2 ⟨ms2, oa1, oD, _, by rw [← hz2]; exact hH2, hst2⟩
theorem t_whyNotIron {l : Launch} {g : GC} {b : Nat} {Q : Option Value → AH → Prop} {X : String → Nat → AH → Prop} (σ : AH) (x b9 hb bs k n : Nat) (xs : Nat → Int32) (hs : o_arr g .int bs n (fun j => .int (xs j))) (hk : 6 * k + 6 ≤ n) (hn : n ≤ 144) (hhb : hb < 2 ^ 30) (hT : TI g x b9 hb σ) (kk : ∀ τ, TI g x b9 hb τ → AW l g mLaw 60 b Q X 3776 [(0, .ref bs), (1, .ref x), (2, .ref b9), (3, .ref (b9 + 9)), (4, .ref (b9 + 10)), (5, .int (nI (6 * k)))] [] τ) : AW l g mLaw 60 (b + 41000) Q X 1360 [(0, .ref bs), (1, .ref x), (2, .ref b9), (3, .ref (b9 + 9)), (4, .ref (b9 + 10)), (5, .int (nI (6 * k)))] [] σ := by
  obtain ⟨ms, oa, oD, s0, hH, hst⟩ := hT
  have hwf := hH.wfc
  refine A_aload_n (i := 1) dL_law_1360 rfl rfl ?_
  refine A_aload_n (i := 0) dL_law_1361 rfl rfl ?_
  refine A_iload dL_law_1362 rfl ?_
  refine A_iconst (v := 1) dL_law_1364 (by decide) ?_
  refine A_iadd dL_law_1365 ?_
  refine A_int (w := nI ((6 * k) + 1)) (nI_add (6 * k) 1) ?_
  refine A_ialdO hs (vp_in_nI (by omega) (by omega)) (v := .int (xs (6 * k + 1))) (by rw [nI_clamp (by omega)]) dL_law_1366 ?_
  refine A_aload_n (i := 0) dL_law_1367 rfl rfl ?_
  refine A_iload dL_law_1368 rfl ?_
  refine A_iconst (v := 2) dL_law_1370 (by decide) ?_
  refine A_iadd dL_law_1371 ?_
  refine A_int (w := nI ((6 * k) + 2)) (nI_add (6 * k) 2) ?_
  refine A_ialdO hs (vp_in_nI (by omega) (by omega)) (v := .int (xs (6 * k + 2))) (by rw [nI_clamp (by omega)]) dL_law_1372 ?_
  refine A_aload_n (i := 3) dL_law_1373 rfl rfl ?_
  refine A_callSH4 (b' := b + 40998) (o_whyNotIron σ x b9 hb ms oa oD (xs (6 * k + 1)) (xs (6 * k + 2)) hhb hH) tX0_whyNotIron (by decide) q1677 dL_law_1374 (by decide) (by omega) (Nat.le_of_ble_eq_true rfl) (fun w9 τ1 h9 => ?_) (fun E9 q9 τ9 h9 => h9.elim)
  obtain ⟨e1, oa1, hH1, hv1⟩ := h9
  subst e1
  refine A_istore dL_law_1377 (Nat.le_of_ble_eq_true rfl) ?_
  refine A_aload_n (i := 2) dL_law_1379 rfl rfl ?_
  refine A_aload_n (i := 0) dL_law_1380 rfl rfl ?_
  refine A_iload dL_law_1381 rfl ?_
  refine A_iconst (v := 1) dL_law_1383 (by decide) ?_
  refine A_iadd dL_law_1384 ?_
  refine A_int (w := nI ((6 * k) + 1)) (nI_add (6 * k) 1) ?_
  refine A_ialdO hs (vp_in_nI (by omega) (by omega)) (v := .int (xs (6 * k + 1))) (by rw [nI_clamp (by omega)]) dL_law_1385 ?_
  refine A_aload_n (i := 0) dL_law_1386 rfl rfl ?_
  refine A_iload dL_law_1387 rfl ?_
  refine A_iconst (v := 2) dL_law_1389 (by decide) ?_
  refine A_iadd dL_law_1390 ?_
  refine A_int (w := nI ((6 * k) + 2)) (nI_add (6 * k) 2) ?_
  refine A_ialdO hs (vp_in_nI (by omega) (by omega)) (v := .int (xs (6 * k + 2))) (by rw [nI_clamp (by omega)]) dL_law_1391 ?_
  refine A_st (σ' := mc b9 ms τ1) hH1.2.1.symm ?_
  refine A_callV2 (b' := b + 40998) (c_whyNotIron b9 ms τ1 (xs (6 * k + 1)) (xs (6 * k + 2)) hwf.1.1) tX2_whyNotIron q2717 (mc_0 _ _ _) rfl rfl dL_law_1392 (by decide) (by omega) (Nat.le_of_ble_eq_true rfl) (fun w9 τ2 h9 => ?_) (fun E9 q9 τ9 h9 => h9.elim)
  obtain ⟨e1, e2⟩ := h9
  obtain ⟨ms2, ems, em2⟩ : ∃ ms2 : MM, ms2 = (⟨mayT (m_is ms) (bi (okF (m_is ms) (m_now ms) (xs (6 * k + 1)))) (bi (inR (xs (6 * k + 2)) 0 3)), m_is ms, m_um ms, m_bd ms, m_pc ms, m_pa ms, m_sz ms, m_cu ms, m_st ms, m_tk ms, m_to ms, m_ps ms, m_now ms, m_asd ms, m_und ms, m_sav ms, m_isv ms, m_buf ms, m_grp ms, m_pag ms⟩ : MM) ∧ τ2 = mc b9 ms2 τ1 := ⟨_, rfl, e2⟩
  subst e1
  have hH2 : HS g τ2 x b9 hb (kM ms) ms2 oa1 oD := by rw [em2]; exact hH1.mc
  have hz2 : (kM ms) = kM ms2 := ((congrArg (fun z : MM => kM z) ems).trans rfl).symm
  have hthr : m_thr ms2 = mayT (m_is ms) (bi (okF (m_is ms) (m_now ms) (xs (6 * k + 1)))) (bi (inR (xs (6 * k + 2)) 0 3)) := (congrArg (fun z : MM => m_thr z) ems).trans rfl
  have hst2 := ((congrArg (fun z : MM => m_st z) ems).trans rfl).trans hst
  refine A_istore dL_law_1395 (Nat.le_of_ble_eq_true rfl) ?_
  refine A_aload_n (i := 2) dL_law_1397 rfl rfl ?_
  refine A_st (σ' := mc b9 ms2 τ2) hH2.2.1.symm ?_
  refine A_callV0E (b' := b + 40998) (v := some (.int (m_thr ms2))) (τ := mc b9 ms2 τ2) (c_thrown b9 ms2 τ2) tX2_thrown q2291 (mc_0 _ _ _) rfl rfl dL_law_1398 (by decide) (by omega) (Nat.le_of_ble_eq_true rfl) ?_
  refine A_st (σ' := τ2) hH2.2.1 ?_
  refine A_iload dL_law_1401 rfl ?_
  refine A_icmp_eq_t (tgt := 1408) dL_law_1403 (by decide) (hthr) ?_
  refine A_iload dL_law_1408 rfl ?_
  refine A_if_ne (tgt := 1425) dL_law_1410 (by decide) (fun c1 => ?_) (fun c1 => ?_)
  · skip
    refine A_goto (tgt := 3776) dL_law_1425 (by decide) ?_
    refine A_sub (L' := [(0, .ref bs), (1, .ref x), (2, .ref b9), (3, .ref (b9 + 9)), (4, .ref (b9 + 10)), (5, .int (nI (6 * k)))]) ⟨rfl, rfl, rfl, rfl, rfl, rfl, trivial⟩ ?_
    refine A_less (b' := b) (by omega) ?_
    exact kk τ2 ⟨ms2, oa1, oD, _, by rw [← hz2]; exact hH2, hst2⟩
  · skip
    refine A_aload_n (i := 3) dL_law_1413 rfl rfl ?_
    refine A_iconst (v := 0) dL_law_1414 (by decide) ?_
    refine A_lald hH2.2.2.1 (by unfold vp_in; decide) dL_law_1415 ?_
    refine A_iload dL_law_1416 rfl ?_
    refine A_i2l dL_law_1418 rfl ?_
    refine A_lcmp dL_law_1419 ?_
    refine A_if_eq_t (tgt := 1425) dL_law_1420 (by decide) (by rw [show oa1 (0 : Int32).toNatClampNeg = _ from hv1 c1]; rw [gd_0 (show mayT (m_is ms) (bi (okF (m_is ms) (m_now ms) (xs (6 * k + 1)))) (bi (inR (xs (6 * k + 2)) 0 3)) = 0 from c1)]; exact lg_self _) ?_
    refine A_goto (tgt := 3776) dL_law_1425 (by decide) ?_
    refine A_sub (L' := [(0, .ref bs), (1, .ref x), (2, .ref b9), (3, .ref (b9 + 9)), (4, .ref (b9 + 10)), (5, .int (nI (6 * k)))]) ⟨rfl, rfl, rfl, rfl, rfl, rfl, trivial⟩ ?_
    refine A_less (b' := b) (by omega) ?_
    exact kk τ2 ⟨ms2, oa1, oD, _, by rw [← hz2]; exact hH2, hst2⟩
theorem t_whyNotBleach {l : Launch} {g : GC} {b : Nat} {Q : Option Value → AH → Prop} {X : String → Nat → AH → Prop} (σ : AH) (x b9 hb bs k n : Nat) (xs : Nat → Int32) (hs : o_arr g .int bs n (fun j => .int (xs j))) (hk : 6 * k + 6 ≤ n) (hn : n ≤ 144) (hhb : hb < 2 ^ 30) (hT : TI g x b9 hb σ) (kk : ∀ τ, TI g x b9 hb τ → AW l g mLaw 60 b Q X 3776 [(0, .ref bs), (1, .ref x), (2, .ref b9), (3, .ref (b9 + 9)), (4, .ref (b9 + 10)), (5, .int (nI (6 * k)))] [] τ) : AW l g mLaw 60 (b + 41000) Q X 1428 [(0, .ref bs), (1, .ref x), (2, .ref b9), (3, .ref (b9 + 9)), (4, .ref (b9 + 10)), (5, .int (nI (6 * k)))] [] σ := by
  obtain ⟨ms, oa, oD, s0, hH, hst⟩ := hT
  have hwf := hH.wfc
  refine A_aload_n (i := 1) dL_law_1428 rfl rfl ?_
  refine A_aload_n (i := 0) dL_law_1429 rfl rfl ?_
  refine A_iload dL_law_1430 rfl ?_
  refine A_iconst (v := 1) dL_law_1432 (by decide) ?_
  refine A_iadd dL_law_1433 ?_
  refine A_int (w := nI ((6 * k) + 1)) (nI_add (6 * k) 1) ?_
  refine A_ialdO hs (vp_in_nI (by omega) (by omega)) (v := .int (xs (6 * k + 1))) (by rw [nI_clamp (by omega)]) dL_law_1434 ?_
  refine A_aload_n (i := 3) dL_law_1435 rfl rfl ?_
  refine A_callSH3 (b' := b + 40998) (o_whyNotBleach σ x b9 hb ms oa oD (xs (6 * k + 1)) hhb hH) tX0_whyNotBleach (by decide) q1699 dL_law_1436 (by decide) (by omega) (Nat.le_of_ble_eq_true rfl) (fun w9 τ1 h9 => ?_) (fun E9 q9 τ9 h9 => h9.elim)
  obtain ⟨e1, oa1, hH1, hv1⟩ := h9
  subst e1
  refine A_istore dL_law_1439 (Nat.le_of_ble_eq_true rfl) ?_
  refine A_aload_n (i := 2) dL_law_1441 rfl rfl ?_
  refine A_aload_n (i := 0) dL_law_1442 rfl rfl ?_
  refine A_iload dL_law_1443 rfl ?_
  refine A_iconst (v := 1) dL_law_1445 (by decide) ?_
  refine A_iadd dL_law_1446 ?_
  refine A_int (w := nI ((6 * k) + 1)) (nI_add (6 * k) 1) ?_
  refine A_ialdO hs (vp_in_nI (by omega) (by omega)) (v := .int (xs (6 * k + 1))) (by rw [nI_clamp (by omega)]) dL_law_1447 ?_
  refine A_st (σ' := mc b9 ms τ1) hH1.2.1.symm ?_
  refine A_callV1 (b' := b + 40998) (c_whyNotBleach b9 ms τ1 (xs (6 * k + 1)) hwf.1.1) tX2_whyNotBleach q2725 (mc_0 _ _ _) rfl rfl dL_law_1448 (by decide) (by omega) (Nat.le_of_ble_eq_true rfl) (fun w9 τ2 h9 => ?_) (fun E9 q9 τ9 h9 => h9.elim)
  obtain ⟨e1, e2⟩ := h9
  obtain ⟨ms2, ems, em2⟩ : ∃ ms2 : MM, ms2 = (⟨mayT (m_is ms) (bi (okF (m_is ms) (m_now ms) (xs (6 * k + 1)))) 1, m_is ms, m_um ms, m_bd ms, m_pc ms, m_pa ms, m_sz ms, m_cu ms, m_st ms, m_tk ms, m_to ms, m_ps ms, m_now ms, m_asd ms, m_und ms, m_sav ms, m_isv ms, m_buf ms, m_grp ms, m_pag ms⟩ : MM) ∧ τ2 = mc b9 ms2 τ1 := ⟨_, rfl, e2⟩
  subst e1
  have hH2 : HS g τ2 x b9 hb (kM ms) ms2 oa1 oD := by rw [em2]; exact hH1.mc
  have hz2 : (kM ms) = kM ms2 := ((congrArg (fun z : MM => kM z) ems).trans rfl).symm
  have hthr : m_thr ms2 = mayT (m_is ms) (bi (okF (m_is ms) (m_now ms) (xs (6 * k + 1)))) 1 := (congrArg (fun z : MM => m_thr z) ems).trans rfl
  have hst2 := ((congrArg (fun z : MM => m_st z) ems).trans rfl).trans hst
  refine A_istore dL_law_1451 (Nat.le_of_ble_eq_true rfl) ?_
  refine A_aload_n (i := 2) dL_law_1453 rfl rfl ?_
  refine A_st (σ' := mc b9 ms2 τ2) hH2.2.1.symm ?_
  refine A_callV0E (b' := b + 40998) (v := some (.int (m_thr ms2))) (τ := mc b9 ms2 τ2) (c_thrown b9 ms2 τ2) tX2_thrown q2291 (mc_0 _ _ _) rfl rfl dL_law_1454 (by decide) (by omega) (Nat.le_of_ble_eq_true rfl) ?_
  refine A_st (σ' := τ2) hH2.2.1 ?_
  refine A_iload dL_law_1457 rfl ?_
  refine A_icmp_eq_t (tgt := 1464) dL_law_1459 (by decide) (hthr) ?_
  refine A_iload dL_law_1464 rfl ?_
  refine A_if_ne (tgt := 1481) dL_law_1466 (by decide) (fun c1 => ?_) (fun c1 => ?_)
  · skip
    refine A_goto (tgt := 3776) dL_law_1481 (by decide) ?_
    refine A_sub (L' := [(0, .ref bs), (1, .ref x), (2, .ref b9), (3, .ref (b9 + 9)), (4, .ref (b9 + 10)), (5, .int (nI (6 * k)))]) ⟨rfl, rfl, rfl, rfl, rfl, rfl, trivial⟩ ?_
    refine A_less (b' := b) (by omega) ?_
    exact kk τ2 ⟨ms2, oa1, oD, _, by rw [← hz2]; exact hH2, hst2⟩
  · skip
    refine A_aload_n (i := 3) dL_law_1469 rfl rfl ?_
    refine A_iconst (v := 0) dL_law_1470 (by decide) ?_
    refine A_lald hH2.2.2.1 (by unfold vp_in; decide) dL_law_1471 ?_
    refine A_iload dL_law_1472 rfl ?_
    refine A_i2l dL_law_1474 rfl ?_
    refine A_lcmp dL_law_1475 ?_
    refine A_if_eq_t (tgt := 1481) dL_law_1476 (by decide) (by rw [show oa1 (0 : Int32).toNatClampNeg = _ from hv1 c1]; rw [gd_0 (show mayT (m_is ms) (bi (okF (m_is ms) (m_now ms) (xs (6 * k + 1)))) 1 = 0 from c1)]; exact lg_self _) ?_
    refine A_goto (tgt := 3776) dL_law_1481 (by decide) ?_
    refine A_sub (L' := [(0, .ref bs), (1, .ref x), (2, .ref b9), (3, .ref (b9 + 9)), (4, .ref (b9 + 10)), (5, .int (nI (6 * k)))]) ⟨rfl, rfl, rfl, rfl, rfl, rfl, trivial⟩ ?_
    refine A_less (b' := b) (by omega) ?_
    exact kk τ2 ⟨ms2, oa1, oD, _, by rw [← hz2]; exact hH2, hst2⟩
theorem t_running {l : Launch} {g : GC} {b : Nat} {Q : Option Value → AH → Prop} {X : String → Nat → AH → Prop} (σ : AH) (x b9 hb bs k n : Nat) (xs : Nat → Int32) (hs : o_arr g .int bs n (fun j => .int (xs j))) (hk : 6 * k + 6 ≤ n) (hn : n ≤ 144) (hhb : hb < 2 ^ 30) (hT : TI g x b9 hb σ) (kk : ∀ τ, TI g x b9 hb τ → AW l g mLaw 60 b Q X 3776 [(0, .ref bs), (1, .ref x), (2, .ref b9), (3, .ref (b9 + 9)), (4, .ref (b9 + 10)), (5, .int (nI (6 * k)))] [] τ) : AW l g mLaw 60 (b + 41000) Q X 1484 [(0, .ref bs), (1, .ref x), (2, .ref b9), (3, .ref (b9 + 9)), (4, .ref (b9 + 10)), (5, .int (nI (6 * k)))] [] σ := by
  obtain ⟨ms, oa, oD, s0, hH, hst⟩ := hT
  have hwf := hH.wfc
  refine A_aload_n (i := 1) dL_law_1484 rfl rfl ?_
  refine A_aload_n (i := 0) dL_law_1485 rfl rfl ?_
  refine A_iload dL_law_1486 rfl ?_
  refine A_iconst (v := 1) dL_law_1488 (by decide) ?_
  refine A_iadd dL_law_1489 ?_
  refine A_int (w := nI ((6 * k) + 1)) (nI_add (6 * k) 1) ?_
  refine A_ialdO hs (vp_in_nI (by omega) (by omega)) (v := .int (xs (6 * k + 1))) (by rw [nI_clamp (by omega)]) dL_law_1490 ?_
  refine A_aload_n (i := 0) dL_law_1491 rfl rfl ?_
  refine A_iload dL_law_1492 rfl ?_
  refine A_iconst (v := 2) dL_law_1494 (by decide) ?_
  refine A_iadd dL_law_1495 ?_
  refine A_int (w := nI ((6 * k) + 2)) (nI_add (6 * k) 2) ?_
  refine A_ialdO hs (vp_in_nI (by omega) (by omega)) (v := .int (xs (6 * k + 2))) (by rw [nI_clamp (by omega)]) dL_law_1496 ?_
  refine A_aload_n (i := 3) dL_law_1497 rfl rfl ?_
  refine A_callSH4 (b' := b + 40998) (o_running σ x b9 hb ms oa oD (xs (6 * k + 1)) (xs (6 * k + 2)) hhb hH) tX0_running (by decide) q1715 dL_law_1498 (by decide) (by omega) (Nat.le_of_ble_eq_true rfl) (fun w9 τ1 h9 => ?_) (fun E9 q9 τ9 h9 => h9.elim)
  obtain ⟨e1, oa1, hH1, hv1⟩ := h9
  subst e1
  refine A_istore dL_law_1501 (Nat.le_of_ble_eq_true rfl) ?_
  refine A_aload_n (i := 2) dL_law_1503 rfl rfl ?_
  refine A_aload_n (i := 0) dL_law_1504 rfl rfl ?_
  refine A_iload dL_law_1505 rfl ?_
  refine A_iconst (v := 1) dL_law_1507 (by decide) ?_
  refine A_iadd dL_law_1508 ?_
  refine A_int (w := nI ((6 * k) + 1)) (nI_add (6 * k) 1) ?_
  refine A_ialdO hs (vp_in_nI (by omega) (by omega)) (v := .int (xs (6 * k + 1))) (by rw [nI_clamp (by omega)]) dL_law_1509 ?_
  refine A_aload_n (i := 0) dL_law_1510 rfl rfl ?_
  refine A_iload dL_law_1511 rfl ?_
  refine A_iconst (v := 2) dL_law_1513 (by decide) ?_
  refine A_iadd dL_law_1514 ?_
  refine A_int (w := nI ((6 * k) + 2)) (nI_add (6 * k) 2) ?_
  refine A_ialdO hs (vp_in_nI (by omega) (by omega)) (v := .int (xs (6 * k + 2))) (by rw [nI_clamp (by omega)]) dL_law_1515 ?_
  refine A_st (σ' := mc b9 ms τ1) hH1.2.1.symm ?_
  refine A_callV2 (b' := b + 40998) (c_running b9 ms τ1 (xs (6 * k + 1)) (xs (6 * k + 2)) hwf.1.1) tX2_running q2733 (mc_0 _ _ _) rfl rfl dL_law_1516 (by decide) (by omega) (Nat.le_of_ble_eq_true rfl) (fun w9 τ2 h9 => ?_) (fun E9 q9 τ9 h9 => h9.elim)
  obtain ⟨e1, e2⟩ := h9
  obtain ⟨ms2, ems, em2⟩ : ∃ ms2 : MM, ms2 = (⟨mayT (m_is ms) (bi (okT (m_is ms) (m_now ms) (xs (6 * k + 1)))) (bi (inR (xs (6 * k + 2)) 0 3)), m_is ms, m_um ms, m_bd ms, m_pc ms, m_pa ms, m_sz ms, m_cu ms, m_st ms, m_tk ms, m_to ms, m_ps ms, m_now ms, m_asd ms, m_und ms, m_sav ms, m_isv ms, m_buf ms, m_grp ms, m_pag ms⟩ : MM) ∧ τ2 = mc b9 ms2 τ1 := ⟨_, rfl, e2⟩
  subst e1
  have hH2 : HS g τ2 x b9 hb (kM ms) ms2 oa1 oD := by rw [em2]; exact hH1.mc
  have hz2 : (kM ms) = kM ms2 := ((congrArg (fun z : MM => kM z) ems).trans rfl).symm
  have hthr : m_thr ms2 = mayT (m_is ms) (bi (okT (m_is ms) (m_now ms) (xs (6 * k + 1)))) (bi (inR (xs (6 * k + 2)) 0 3)) := (congrArg (fun z : MM => m_thr z) ems).trans rfl
  have hst2 := ((congrArg (fun z : MM => m_st z) ems).trans rfl).trans hst
  refine A_istore dL_law_1519 (Nat.le_of_ble_eq_true rfl) ?_
  refine A_aload_n (i := 2) dL_law_1521 rfl rfl ?_
  refine A_st (σ' := mc b9 ms2 τ2) hH2.2.1.symm ?_
  refine A_callV0E (b' := b + 40998) (v := some (.int (m_thr ms2))) (τ := mc b9 ms2 τ2) (c_thrown b9 ms2 τ2) tX2_thrown q2291 (mc_0 _ _ _) rfl rfl dL_law_1522 (by decide) (by omega) (Nat.le_of_ble_eq_true rfl) ?_
  refine A_st (σ' := τ2) hH2.2.1 ?_
  refine A_iload dL_law_1525 rfl ?_
  refine A_icmp_eq_t (tgt := 1532) dL_law_1527 (by decide) (hthr) ?_
  refine A_iload dL_law_1532 rfl ?_
  refine A_if_ne (tgt := 1549) dL_law_1534 (by decide) (fun c1 => ?_) (fun c1 => ?_)
  · skip
    refine A_goto (tgt := 3776) dL_law_1549 (by decide) ?_
    refine A_sub (L' := [(0, .ref bs), (1, .ref x), (2, .ref b9), (3, .ref (b9 + 9)), (4, .ref (b9 + 10)), (5, .int (nI (6 * k)))]) ⟨rfl, rfl, rfl, rfl, rfl, rfl, trivial⟩ ?_
    refine A_less (b' := b) (by omega) ?_
    exact kk τ2 ⟨ms2, oa1, oD, _, by rw [← hz2]; exact hH2, hst2⟩
  · skip
    refine A_aload_n (i := 3) dL_law_1537 rfl rfl ?_
    refine A_iconst (v := 0) dL_law_1538 (by decide) ?_
    refine A_lald hH2.2.2.1 (by unfold vp_in; decide) dL_law_1539 ?_
    refine A_iload dL_law_1540 rfl ?_
    refine A_i2l dL_law_1542 rfl ?_
    refine A_lcmp dL_law_1543 ?_
    refine A_if_eq_t (tgt := 1549) dL_law_1544 (by decide) (by rw [show oa1 (0 : Int32).toNatClampNeg = _ from hv1 c1]; rw [gd_0 (show mayT (m_is ms) (bi (okT (m_is ms) (m_now ms) (xs (6 * k + 1)))) (bi (inR (xs (6 * k + 2)) 0 3)) = 0 from c1)]; exact lg_self _) ?_
    refine A_goto (tgt := 3776) dL_law_1549 (by decide) ?_
    refine A_sub (L' := [(0, .ref bs), (1, .ref x), (2, .ref b9), (3, .ref (b9 + 9)), (4, .ref (b9 + 10)), (5, .int (nI (6 * k)))]) ⟨rfl, rfl, rfl, rfl, rfl, rfl, trivial⟩ ?_
    refine A_less (b' := b) (by omega) ?_
    exact kk τ2 ⟨ms2, oa1, oD, _, by rw [← hz2]; exact hH2, hst2⟩
theorem t_stainedIf {l : Launch} {g : GC} {b : Nat} {Q : Option Value → AH → Prop} {X : String → Nat → AH → Prop} (σ : AH) (x b9 hb bs k n : Nat) (xs : Nat → Int32) (hs : o_arr g .int bs n (fun j => .int (xs j))) (hk : 6 * k + 6 ≤ n) (hn : n ≤ 144) (hhb : hb < 2 ^ 30) (hT : TI g x b9 hb σ) (kk : ∀ τ, TI g x b9 hb τ → AW l g mLaw 60 b Q X 3776 [(0, .ref bs), (1, .ref x), (2, .ref b9), (3, .ref (b9 + 9)), (4, .ref (b9 + 10)), (5, .int (nI (6 * k)))] [] τ) : AW l g mLaw 60 (b + 41000) Q X 1552 [(0, .ref bs), (1, .ref x), (2, .ref b9), (3, .ref (b9 + 9)), (4, .ref (b9 + 10)), (5, .int (nI (6 * k)))] [] σ := by
  obtain ⟨ms, oa, oD, s0, hH, hst⟩ := hT
  have hwf := hH.wfc
  refine A_aload_n (i := 1) dL_law_1552 rfl rfl ?_
  refine A_aload_n (i := 0) dL_law_1553 rfl rfl ?_
  refine A_iload dL_law_1554 rfl ?_
  refine A_iconst (v := 1) dL_law_1556 (by decide) ?_
  refine A_iadd dL_law_1557 ?_
  refine A_int (w := nI ((6 * k) + 1)) (nI_add (6 * k) 1) ?_
  refine A_ialdO hs (vp_in_nI (by omega) (by omega)) (v := .int (xs (6 * k + 1))) (by rw [nI_clamp (by omega)]) dL_law_1558 ?_
  refine A_aload_n (i := 0) dL_law_1559 rfl rfl ?_
  refine A_iload dL_law_1560 rfl ?_
  refine A_iconst (v := 2) dL_law_1562 (by decide) ?_
  refine A_iadd dL_law_1563 ?_
  refine A_int (w := nI ((6 * k) + 2)) (nI_add (6 * k) 2) ?_
  refine A_ialdO hs (vp_in_nI (by omega) (by omega)) (v := .int (xs (6 * k + 2))) (by rw [nI_clamp (by omega)]) dL_law_1564 ?_
  refine A_aload_n (i := 3) dL_law_1565 rfl rfl ?_
  refine A_callSH4 (b' := b + 40998) (o_stainedIf σ x b9 hb ms oa oD (xs (6 * k + 1)) (xs (6 * k + 2)) hhb hH) tX0_stainedIf (by decide) q1723 dL_law_1566 (by decide) (by omega) (Nat.le_of_ble_eq_true rfl) (fun w9 τ1 h9 => ?_) (fun E9 q9 τ9 h9 => h9.elim)
  obtain ⟨e1, oa1, hH1, hv1⟩ := h9
  subst e1
  refine A_istore dL_law_1569 (Nat.le_of_ble_eq_true rfl) ?_
  refine A_aload_n (i := 2) dL_law_1571 rfl rfl ?_
  refine A_aload_n (i := 0) dL_law_1572 rfl rfl ?_
  refine A_iload dL_law_1573 rfl ?_
  refine A_iconst (v := 1) dL_law_1575 (by decide) ?_
  refine A_iadd dL_law_1576 ?_
  refine A_int (w := nI ((6 * k) + 1)) (nI_add (6 * k) 1) ?_
  refine A_ialdO hs (vp_in_nI (by omega) (by omega)) (v := .int (xs (6 * k + 1))) (by rw [nI_clamp (by omega)]) dL_law_1577 ?_
  refine A_aload_n (i := 0) dL_law_1578 rfl rfl ?_
  refine A_iload dL_law_1579 rfl ?_
  refine A_iconst (v := 2) dL_law_1581 (by decide) ?_
  refine A_iadd dL_law_1582 ?_
  refine A_int (w := nI ((6 * k) + 2)) (nI_add (6 * k) 2) ?_
  refine A_ialdO hs (vp_in_nI (by omega) (by omega)) (v := .int (xs (6 * k + 2))) (by rw [nI_clamp (by omega)]) dL_law_1583 ?_
  refine A_st (σ' := mc b9 ms τ1) hH1.2.1.symm ?_
  refine A_callV2 (b' := b + 40998) (c_stainedIf b9 ms τ1 (xs (6 * k + 1)) (xs (6 * k + 2)) hwf.1.1) tX2_stainedIf q2737 (mc_0 _ _ _) rfl rfl dL_law_1584 (by decide) (by omega) (Nat.le_of_ble_eq_true rfl) (fun w9 τ2 h9 => ?_) (fun E9 q9 τ9 h9 => h9.elim)
  obtain ⟨e1, e2⟩ := h9
  obtain ⟨ms2, ems, em2⟩ : ∃ ms2 : MM, ms2 = (⟨mayT (m_is ms) (bi (okT (m_is ms) (m_now ms) (xs (6 * k + 1)))) (bi (inR (xs (6 * k + 2)) 0 3)), m_is ms, m_um ms, m_bd ms, m_pc ms, m_pa ms, m_sz ms, m_cu ms, m_st ms, m_tk ms, m_to ms, m_ps ms, m_now ms, m_asd ms, m_und ms, m_sav ms, m_isv ms, m_buf ms, m_grp ms, m_pag ms⟩ : MM) ∧ τ2 = mc b9 ms2 τ1 := ⟨_, rfl, e2⟩
  subst e1
  have hH2 : HS g τ2 x b9 hb (kM ms) ms2 oa1 oD := by rw [em2]; exact hH1.mc
  have hz2 : (kM ms) = kM ms2 := ((congrArg (fun z : MM => kM z) ems).trans rfl).symm
  have hthr : m_thr ms2 = mayT (m_is ms) (bi (okT (m_is ms) (m_now ms) (xs (6 * k + 1)))) (bi (inR (xs (6 * k + 2)) 0 3)) := (congrArg (fun z : MM => m_thr z) ems).trans rfl
  have hst2 := ((congrArg (fun z : MM => m_st z) ems).trans rfl).trans hst
  refine A_istore dL_law_1587 (Nat.le_of_ble_eq_true rfl) ?_
  refine A_aload_n (i := 2) dL_law_1589 rfl rfl ?_
  refine A_st (σ' := mc b9 ms2 τ2) hH2.2.1.symm ?_
  refine A_callV0E (b' := b + 40998) (v := some (.int (m_thr ms2))) (τ := mc b9 ms2 τ2) (c_thrown b9 ms2 τ2) tX2_thrown q2291 (mc_0 _ _ _) rfl rfl dL_law_1590 (by decide) (by omega) (Nat.le_of_ble_eq_true rfl) ?_
  refine A_st (σ' := τ2) hH2.2.1 ?_
  refine A_iload dL_law_1593 rfl ?_
  refine A_icmp_eq_t (tgt := 1600) dL_law_1595 (by decide) (hthr) ?_
  refine A_iload dL_law_1600 rfl ?_
  refine A_if_ne (tgt := 1617) dL_law_1602 (by decide) (fun c1 => ?_) (fun c1 => ?_)
  · skip
    refine A_goto (tgt := 3776) dL_law_1617 (by decide) ?_
    refine A_sub (L' := [(0, .ref bs), (1, .ref x), (2, .ref b9), (3, .ref (b9 + 9)), (4, .ref (b9 + 10)), (5, .int (nI (6 * k)))]) ⟨rfl, rfl, rfl, rfl, rfl, rfl, trivial⟩ ?_
    refine A_less (b' := b) (by omega) ?_
    exact kk τ2 ⟨ms2, oa1, oD, _, by rw [← hz2]; exact hH2, hst2⟩
  · skip
    refine A_aload_n (i := 3) dL_law_1605 rfl rfl ?_
    refine A_iconst (v := 0) dL_law_1606 (by decide) ?_
    refine A_lald hH2.2.2.1 (by unfold vp_in; decide) dL_law_1607 ?_
    refine A_iload dL_law_1608 rfl ?_
    refine A_i2l dL_law_1610 rfl ?_
    refine A_lcmp dL_law_1611 ?_
    refine A_if_eq_t (tgt := 1617) dL_law_1612 (by decide) (by rw [show oa1 (0 : Int32).toNatClampNeg = _ from hv1 c1]; rw [gd_0 (show mayT (m_is ms) (bi (okT (m_is ms) (m_now ms) (xs (6 * k + 1)))) (bi (inR (xs (6 * k + 2)) 0 3)) = 0 from c1)]; exact lg_self _) ?_
    refine A_goto (tgt := 3776) dL_law_1617 (by decide) ?_
    refine A_sub (L' := [(0, .ref bs), (1, .ref x), (2, .ref b9), (3, .ref (b9 + 9)), (4, .ref (b9 + 10)), (5, .int (nI (6 * k)))]) ⟨rfl, rfl, rfl, rfl, rfl, rfl, trivial⟩ ?_
    refine A_less (b' := b) (by omega) ?_
    exact kk τ2 ⟨ms2, oa1, oD, _, by rw [← hz2]; exact hH2, hst2⟩
theorem t_dirtIf {l : Launch} {g : GC} {b : Nat} {Q : Option Value → AH → Prop} {X : String → Nat → AH → Prop} (σ : AH) (x b9 hb bs k n : Nat) (xs : Nat → Int32) (hs : o_arr g .int bs n (fun j => .int (xs j))) (hk : 6 * k + 6 ≤ n) (hn : n ≤ 144) (hhb : hb < 2 ^ 30) (hT : TI g x b9 hb σ) (kk : ∀ τ, TI g x b9 hb τ → AW l g mLaw 60 b Q X 3776 [(0, .ref bs), (1, .ref x), (2, .ref b9), (3, .ref (b9 + 9)), (4, .ref (b9 + 10)), (5, .int (nI (6 * k)))] [] τ) : AW l g mLaw 60 (b + 41000) Q X 1620 [(0, .ref bs), (1, .ref x), (2, .ref b9), (3, .ref (b9 + 9)), (4, .ref (b9 + 10)), (5, .int (nI (6 * k)))] [] σ := by
  obtain ⟨ms, oa, oD, s0, hH, hst⟩ := hT
  have hwf := hH.wfc
  refine A_aload_n (i := 1) dL_law_1620 rfl rfl ?_
  refine A_aload_n (i := 0) dL_law_1621 rfl rfl ?_
  refine A_iload dL_law_1622 rfl ?_
  refine A_iconst (v := 1) dL_law_1624 (by decide) ?_
  refine A_iadd dL_law_1625 ?_
  refine A_int (w := nI ((6 * k) + 1)) (nI_add (6 * k) 1) ?_
  refine A_ialdO hs (vp_in_nI (by omega) (by omega)) (v := .int (xs (6 * k + 1))) (by rw [nI_clamp (by omega)]) dL_law_1626 ?_
  refine A_aload_n (i := 0) dL_law_1627 rfl rfl ?_
  refine A_iload dL_law_1628 rfl ?_
  refine A_iconst (v := 2) dL_law_1630 (by decide) ?_
  refine A_iadd dL_law_1631 ?_
  refine A_int (w := nI ((6 * k) + 2)) (nI_add (6 * k) 2) ?_
  refine A_ialdO hs (vp_in_nI (by omega) (by omega)) (v := .int (xs (6 * k + 2))) (by rw [nI_clamp (by omega)]) dL_law_1632 ?_
  refine A_aload_n (i := 3) dL_law_1633 rfl rfl ?_
  refine A_callSH4 (b' := b + 40998) (o_dirtIf σ x b9 hb ms oa oD (xs (6 * k + 1)) (xs (6 * k + 2)) hhb hH) tX0_dirtIf (by decide) q1737 dL_law_1634 (by decide) (by omega) (Nat.le_of_ble_eq_true rfl) (fun w9 τ1 h9 => ?_) (fun E9 q9 τ9 h9 => h9.elim)
  obtain ⟨e1, oa1, hH1, hv1⟩ := h9
  subst e1
  refine A_istore dL_law_1637 (Nat.le_of_ble_eq_true rfl) ?_
  refine A_aload_n (i := 2) dL_law_1639 rfl rfl ?_
  refine A_aload_n (i := 0) dL_law_1640 rfl rfl ?_
  refine A_iload dL_law_1641 rfl ?_
  refine A_iconst (v := 1) dL_law_1643 (by decide) ?_
  refine A_iadd dL_law_1644 ?_
  refine A_int (w := nI ((6 * k) + 1)) (nI_add (6 * k) 1) ?_
  refine A_ialdO hs (vp_in_nI (by omega) (by omega)) (v := .int (xs (6 * k + 1))) (by rw [nI_clamp (by omega)]) dL_law_1645 ?_
  refine A_aload_n (i := 0) dL_law_1646 rfl rfl ?_
  refine A_iload dL_law_1647 rfl ?_
  refine A_iconst (v := 2) dL_law_1649 (by decide) ?_
  refine A_iadd dL_law_1650 ?_
  refine A_int (w := nI ((6 * k) + 2)) (nI_add (6 * k) 2) ?_
  refine A_ialdO hs (vp_in_nI (by omega) (by omega)) (v := .int (xs (6 * k + 2))) (by rw [nI_clamp (by omega)]) dL_law_1651 ?_
  refine A_st (σ' := mc b9 ms τ1) hH1.2.1.symm ?_
  refine A_callV2 (b' := b + 40998) (c_dirtIf b9 ms τ1 (xs (6 * k + 1)) (xs (6 * k + 2)) hwf.1.1) tX2_dirtIf q2741 (mc_0 _ _ _) rfl rfl dL_law_1652 (by decide) (by omega) (Nat.le_of_ble_eq_true rfl) (fun w9 τ2 h9 => ?_) (fun E9 q9 τ9 h9 => h9.elim)
  obtain ⟨e1, e2⟩ := h9
  obtain ⟨ms2, ems, em2⟩ : ∃ ms2 : MM, ms2 = (⟨mayT (m_is ms) (bi (okT (m_is ms) (m_now ms) (xs (6 * k + 1)))) (bi (inR (xs (6 * k + 2)) 0 3)), m_is ms, m_um ms, m_bd ms, m_pc ms, m_pa ms, m_sz ms, m_cu ms, m_st ms, m_tk ms, m_to ms, m_ps ms, m_now ms, m_asd ms, m_und ms, m_sav ms, m_isv ms, m_buf ms, m_grp ms, m_pag ms⟩ : MM) ∧ τ2 = mc b9 ms2 τ1 := ⟨_, rfl, e2⟩
  subst e1
  have hH2 : HS g τ2 x b9 hb (kM ms) ms2 oa1 oD := by rw [em2]; exact hH1.mc
  have hz2 : (kM ms) = kM ms2 := ((congrArg (fun z : MM => kM z) ems).trans rfl).symm
  have hthr : m_thr ms2 = mayT (m_is ms) (bi (okT (m_is ms) (m_now ms) (xs (6 * k + 1)))) (bi (inR (xs (6 * k + 2)) 0 3)) := (congrArg (fun z : MM => m_thr z) ems).trans rfl
  have hst2 := ((congrArg (fun z : MM => m_st z) ems).trans rfl).trans hst
  refine A_istore dL_law_1655 (Nat.le_of_ble_eq_true rfl) ?_
  refine A_aload_n (i := 2) dL_law_1657 rfl rfl ?_
  refine A_st (σ' := mc b9 ms2 τ2) hH2.2.1.symm ?_
  refine A_callV0E (b' := b + 40998) (v := some (.int (m_thr ms2))) (τ := mc b9 ms2 τ2) (c_thrown b9 ms2 τ2) tX2_thrown q2291 (mc_0 _ _ _) rfl rfl dL_law_1658 (by decide) (by omega) (Nat.le_of_ble_eq_true rfl) ?_
  refine A_st (σ' := τ2) hH2.2.1 ?_
  refine A_iload dL_law_1661 rfl ?_
  refine A_icmp_eq_t (tgt := 1668) dL_law_1663 (by decide) (hthr) ?_
  refine A_iload dL_law_1668 rfl ?_
  refine A_if_ne (tgt := 1685) dL_law_1670 (by decide) (fun c1 => ?_) (fun c1 => ?_)
  · skip
    refine A_goto (tgt := 3776) dL_law_1685 (by decide) ?_
    refine A_sub (L' := [(0, .ref bs), (1, .ref x), (2, .ref b9), (3, .ref (b9 + 9)), (4, .ref (b9 + 10)), (5, .int (nI (6 * k)))]) ⟨rfl, rfl, rfl, rfl, rfl, rfl, trivial⟩ ?_
    refine A_less (b' := b) (by omega) ?_
    exact kk τ2 ⟨ms2, oa1, oD, _, by rw [← hz2]; exact hH2, hst2⟩
  · skip
    refine A_aload_n (i := 3) dL_law_1673 rfl rfl ?_
    refine A_iconst (v := 0) dL_law_1674 (by decide) ?_
    refine A_lald hH2.2.2.1 (by unfold vp_in; decide) dL_law_1675 ?_
    refine A_iload dL_law_1676 rfl ?_
    refine A_i2l dL_law_1678 rfl ?_
    refine A_lcmp dL_law_1679 ?_
    refine A_if_eq_t (tgt := 1685) dL_law_1680 (by decide) (by rw [show oa1 (0 : Int32).toNatClampNeg = _ from hv1 c1]; rw [gd_0 (show mayT (m_is ms) (bi (okT (m_is ms) (m_now ms) (xs (6 * k + 1)))) (bi (inR (xs (6 * k + 2)) 0 3)) = 0 from c1)]; exact lg_self _) ?_
    refine A_goto (tgt := 3776) dL_law_1685 (by decide) ?_
    refine A_sub (L' := [(0, .ref bs), (1, .ref x), (2, .ref b9), (3, .ref (b9 + 9)), (4, .ref (b9 + 10)), (5, .int (nI (6 * k)))]) ⟨rfl, rfl, rfl, rfl, rfl, rfl, trivial⟩ ?_
    refine A_less (b' := b) (by omega) ?_
    exact kk τ2 ⟨ms2, oa1, oD, _, by rw [← hz2]; exact hH2, hst2⟩
theorem t_bestHeat {l : Launch} {g : GC} {b : Nat} {Q : Option Value → AH → Prop} {X : String → Nat → AH → Prop} (σ : AH) (x b9 hb bs k n : Nat) (xs : Nat → Int32) (hs : o_arr g .int bs n (fun j => .int (xs j))) (hk : 6 * k + 6 ≤ n) (hn : n ≤ 144) (hhb : hb < 2 ^ 30) (hT : TI g x b9 hb σ) (kk : ∀ τ, TI g x b9 hb τ → AW l g mLaw 60 b Q X 3776 [(0, .ref bs), (1, .ref x), (2, .ref b9), (3, .ref (b9 + 9)), (4, .ref (b9 + 10)), (5, .int (nI (6 * k)))] [] τ) : AW l g mLaw 60 (b + 41000) Q X 1688 [(0, .ref bs), (1, .ref x), (2, .ref b9), (3, .ref (b9 + 9)), (4, .ref (b9 + 10)), (5, .int (nI (6 * k)))] [] σ := by
  obtain ⟨ms, oa, oD, s0, hH, hst⟩ := hT
  have hwf := hH.wfc
  refine A_aload_n (i := 1) dL_law_1688 rfl rfl ?_
  refine A_aload_n (i := 0) dL_law_1689 rfl rfl ?_
  refine A_iload dL_law_1690 rfl ?_
  refine A_iconst (v := 1) dL_law_1692 (by decide) ?_
  refine A_iadd dL_law_1693 ?_
  refine A_int (w := nI ((6 * k) + 1)) (nI_add (6 * k) 1) ?_
  refine A_ialdO hs (vp_in_nI (by omega) (by omega)) (v := .int (xs (6 * k + 1))) (by rw [nI_clamp (by omega)]) dL_law_1694 ?_
  refine A_aload_n (i := 3) dL_law_1695 rfl rfl ?_
  refine A_callSH3 (b' := b + 40986) (o_bestHeat σ x b9 hb ms oa oD (xs (6 * k + 1)) hhb hH) tX0_bestHeat (by decide) q1749 dL_law_1696 (by decide) (by omega) (Nat.le_of_ble_eq_true rfl) (fun w9 τ1 h9 => ?_) (fun E9 q9 τ9 h9 => h9.elim)
  obtain ⟨e1, oa1, hH1, hv1⟩ := h9
  subst e1
  refine A_istore dL_law_1699 (Nat.le_of_ble_eq_true rfl) ?_
  refine A_aload_n (i := 2) dL_law_1701 rfl rfl ?_
  refine A_aload_n (i := 0) dL_law_1702 rfl rfl ?_
  refine A_iload dL_law_1703 rfl ?_
  refine A_iconst (v := 1) dL_law_1705 (by decide) ?_
  refine A_iadd dL_law_1706 ?_
  refine A_int (w := nI ((6 * k) + 1)) (nI_add (6 * k) 1) ?_
  refine A_ialdO hs (vp_in_nI (by omega) (by omega)) (v := .int (xs (6 * k + 1))) (by rw [nI_clamp (by omega)]) dL_law_1707 ?_
  refine A_st (σ' := mc b9 ms τ1) hH1.2.1.symm ?_
  refine A_callV1 (b' := b + 40986) (c_bestHeat b9 ms τ1 (xs (6 * k + 1)) hwf.1.1) tX2_bestHeat q2749 (mc_0 _ _ _) rfl rfl dL_law_1708 (by decide) (by omega) (Nat.le_of_ble_eq_true rfl) (fun w9 τ2 h9 => ?_) (fun E9 q9 τ9 h9 => h9.elim)
  obtain ⟨e1, e2⟩ := h9
  obtain ⟨ms2, ems, em2⟩ : ∃ ms2 : MM, ms2 = (⟨mayT (m_is ms) (bi (okT (m_is ms) (m_now ms) (xs (6 * k + 1)))) 1, m_is ms, m_um ms, m_bd ms, m_pc ms, m_pa ms, m_sz ms, m_cu ms, m_st ms, m_tk ms, m_to ms, m_ps ms, m_now ms, m_asd ms, m_und ms, m_sav ms, m_isv ms, m_buf ms, m_grp ms, m_pag ms⟩ : MM) ∧ τ2 = mc b9 ms2 τ1 := ⟨_, rfl, e2⟩
  subst e1
  have hH2 : HS g τ2 x b9 hb (kM ms) ms2 oa1 oD := by rw [em2]; exact hH1.mc
  have hz2 : (kM ms) = kM ms2 := ((congrArg (fun z : MM => kM z) ems).trans rfl).symm
  have hthr : m_thr ms2 = mayT (m_is ms) (bi (okT (m_is ms) (m_now ms) (xs (6 * k + 1)))) 1 := (congrArg (fun z : MM => m_thr z) ems).trans rfl
  have hst2 := ((congrArg (fun z : MM => m_st z) ems).trans rfl).trans hst
  refine A_istore dL_law_1711 (Nat.le_of_ble_eq_true rfl) ?_
  refine A_aload_n (i := 2) dL_law_1713 rfl rfl ?_
  refine A_st (σ' := mc b9 ms2 τ2) hH2.2.1.symm ?_
  refine A_callV0E (b' := b + 40986) (v := some (.int (m_thr ms2))) (τ := mc b9 ms2 τ2) (c_thrown b9 ms2 τ2) tX2_thrown q2291 (mc_0 _ _ _) rfl rfl dL_law_1714 (by decide) (by omega) (Nat.le_of_ble_eq_true rfl) ?_
  refine A_st (σ' := τ2) hH2.2.1 ?_
  refine A_iload dL_law_1717 rfl ?_
  refine A_icmp_eq_t (tgt := 1724) dL_law_1719 (by decide) (hthr) ?_
  refine A_iload dL_law_1724 rfl ?_
  refine A_if_ne (tgt := 1741) dL_law_1726 (by decide) (fun c1 => ?_) (fun c1 => ?_)
  · skip
    refine A_goto (tgt := 3776) dL_law_1741 (by decide) ?_
    refine A_sub (L' := [(0, .ref bs), (1, .ref x), (2, .ref b9), (3, .ref (b9 + 9)), (4, .ref (b9 + 10)), (5, .int (nI (6 * k)))]) ⟨rfl, rfl, rfl, rfl, rfl, rfl, trivial⟩ ?_
    refine A_less (b' := b) (by omega) ?_
    exact kk τ2 ⟨ms2, oa1, oD, _, by rw [← hz2]; exact hH2, hst2⟩
  · skip
    refine A_aload_n (i := 3) dL_law_1729 rfl rfl ?_
    refine A_iconst (v := 0) dL_law_1730 (by decide) ?_
    refine A_lald hH2.2.2.1 (by unfold vp_in; decide) dL_law_1731 ?_
    refine A_iload dL_law_1732 rfl ?_
    refine A_i2l dL_law_1734 rfl ?_
    refine A_lcmp dL_law_1735 ?_
    refine A_if_eq_t (tgt := 1741) dL_law_1736 (by decide) (by rw [show oa1 (0 : Int32).toNatClampNeg = _ from hv1 c1]; rw [gd_0 (show mayT (m_is ms) (bi (okT (m_is ms) (m_now ms) (xs (6 * k + 1)))) 1 = 0 from c1), best_eq hwf.1]; exact lg_self _) ?_
    refine A_goto (tgt := 3776) dL_law_1741 (by decide) ?_
    refine A_sub (L' := [(0, .ref bs), (1, .ref x), (2, .ref b9), (3, .ref (b9 + 9)), (4, .ref (b9 + 10)), (5, .int (nI (6 * k)))]) ⟨rfl, rfl, rfl, rfl, rfl, rfl, trivial⟩ ?_
    refine A_less (b' := b) (by omega) ?_
    exact kk τ2 ⟨ms2, oa1, oD, _, by rw [← hz2]; exact hH2, hst2⟩
theorem t_firstSafe {l : Launch} {g : GC} {b : Nat} {Q : Option Value → AH → Prop} {X : String → Nat → AH → Prop} (σ : AH) (x b9 hb bs k n : Nat) (xs : Nat → Int32) (hs : o_arr g .int bs n (fun j => .int (xs j))) (hk : 6 * k + 6 ≤ n) (hn : n ≤ 144) (hhb : hb < 2 ^ 30) (hT : TI g x b9 hb σ) (kk : ∀ τ, TI g x b9 hb τ → AW l g mLaw 60 b Q X 3776 [(0, .ref bs), (1, .ref x), (2, .ref b9), (3, .ref (b9 + 9)), (4, .ref (b9 + 10)), (5, .int (nI (6 * k)))] [] τ) : AW l g mLaw 60 (b + 41000) Q X 1744 [(0, .ref bs), (1, .ref x), (2, .ref b9), (3, .ref (b9 + 9)), (4, .ref (b9 + 10)), (5, .int (nI (6 * k)))] [] σ := by
  obtain ⟨ms, oa, oD, s0, hH, hst⟩ := hT
  have hwf := hH.wfc
  refine A_aload_n (i := 1) dL_law_1744 rfl rfl ?_
  refine A_aload_n (i := 0) dL_law_1745 rfl rfl ?_
  refine A_iload dL_law_1746 rfl ?_
  refine A_iconst (v := 1) dL_law_1748 (by decide) ?_
  refine A_iadd dL_law_1749 ?_
  refine A_int (w := nI ((6 * k) + 1)) (nI_add (6 * k) 1) ?_
  refine A_ialdO hs (vp_in_nI (by omega) (by omega)) (v := .int (xs (6 * k + 1))) (by rw [nI_clamp (by omega)]) dL_law_1750 ?_
  refine A_aload_n (i := 0) dL_law_1751 rfl rfl ?_
  refine A_iload dL_law_1752 rfl ?_
  refine A_iconst (v := 2) dL_law_1754 (by decide) ?_
  refine A_iadd dL_law_1755 ?_
  refine A_int (w := nI ((6 * k) + 2)) (nI_add (6 * k) 2) ?_
  refine A_ialdO hs (vp_in_nI (by omega) (by omega)) (v := .int (xs (6 * k + 2))) (by rw [nI_clamp (by omega)]) dL_law_1756 ?_
  refine A_aload_n (i := 3) dL_law_1757 rfl rfl ?_
  refine A_callSH4 (b' := b + 40890) (o_firstSafe σ x b9 hb ms oa oD (xs (6 * k + 1)) (xs (6 * k + 2)) hhb hH) tX0_firstSafe (by decide) q1756 dL_law_1758 (by decide) (by omega) (Nat.le_of_ble_eq_true rfl) (fun w9 τ1 h9 => ?_) (fun E9 q9 τ9 h9 => h9.elim)
  obtain ⟨e1, oa1, hH1, hv1⟩ := h9
  subst e1
  refine A_istore dL_law_1761 (Nat.le_of_ble_eq_true rfl) ?_
  refine A_aload_n (i := 2) dL_law_1763 rfl rfl ?_
  refine A_aload_n (i := 0) dL_law_1764 rfl rfl ?_
  refine A_iload dL_law_1765 rfl ?_
  refine A_iconst (v := 1) dL_law_1767 (by decide) ?_
  refine A_iadd dL_law_1768 ?_
  refine A_int (w := nI ((6 * k) + 1)) (nI_add (6 * k) 1) ?_
  refine A_ialdO hs (vp_in_nI (by omega) (by omega)) (v := .int (xs (6 * k + 1))) (by rw [nI_clamp (by omega)]) dL_law_1769 ?_
  refine A_aload_n (i := 0) dL_law_1770 rfl rfl ?_
  refine A_iload dL_law_1771 rfl ?_
  refine A_iconst (v := 2) dL_law_1773 (by decide) ?_
  refine A_iadd dL_law_1774 ?_
  refine A_int (w := nI ((6 * k) + 2)) (nI_add (6 * k) 2) ?_
  refine A_ialdO hs (vp_in_nI (by omega) (by omega)) (v := .int (xs (6 * k + 2))) (by rw [nI_clamp (by omega)]) dL_law_1775 ?_
  refine A_st (σ' := mc b9 ms τ1) hH1.2.1.symm ?_
  refine A_callV2 (b' := b + 40890) (c_firstSafe b9 ms τ1 (xs (6 * k + 1)) (xs (6 * k + 2)) hwf.1.1) tX2_firstSafe q2757 (mc_0 _ _ _) rfl rfl dL_law_1776 (by decide) (by omega) (Nat.le_of_ble_eq_true rfl) (fun w9 τ2 h9 => ?_) (fun E9 q9 τ9 h9 => h9.elim)
  obtain ⟨y0, e1, e2⟩ := h9
  obtain ⟨ms2, ems, em2⟩ : ∃ ms2 : MM, ms2 = (⟨mayT (m_is ms) (bi (okT (m_is ms) (m_now ms) (xs (6 * k + 1)))) (bi (inR (xs (6 * k + 2)) 0 3)), m_is ms, m_um ms, m_bd ms, m_pc ms, m_pa ms, m_sz ms, m_cu ms, m_st ms, m_tk ms, m_to ms, m_ps ms, m_now ms, y0, m_und ms, m_sav ms, m_isv ms, m_buf ms, m_grp ms, m_pag ms⟩ : MM) ∧ τ2 = mc b9 ms2 τ1 := ⟨_, rfl, e2⟩
  subst e1
  have hH2 : HS g τ2 x b9 hb (kM ms) ms2 oa1 oD := by rw [em2]; exact hH1.mc
  have hz2 : (kM ms) = kM ms2 := ((congrArg (fun z : MM => kM z) ems).trans rfl).symm
  have hthr : m_thr ms2 = mayT (m_is ms) (bi (okT (m_is ms) (m_now ms) (xs (6 * k + 1)))) (bi (inR (xs (6 * k + 2)) 0 3)) := (congrArg (fun z : MM => m_thr z) ems).trans rfl
  have hst2 := ((congrArg (fun z : MM => m_st z) ems).trans rfl).trans hst
  refine A_istore dL_law_1779 (Nat.le_of_ble_eq_true rfl) ?_
  refine A_aload_n (i := 2) dL_law_1781 rfl rfl ?_
  refine A_st (σ' := mc b9 ms2 τ2) hH2.2.1.symm ?_
  refine A_callV0E (b' := b + 40890) (v := some (.int (m_thr ms2))) (τ := mc b9 ms2 τ2) (c_thrown b9 ms2 τ2) tX2_thrown q2291 (mc_0 _ _ _) rfl rfl dL_law_1782 (by decide) (by omega) (Nat.le_of_ble_eq_true rfl) ?_
  refine A_st (σ' := τ2) hH2.2.1 ?_
  refine A_iload dL_law_1785 rfl ?_
  refine A_icmp_eq_t (tgt := 1792) dL_law_1787 (by decide) (hthr) ?_
  refine A_iload dL_law_1792 rfl ?_
  refine A_if_ne (tgt := 1809) dL_law_1794 (by decide) (fun c1 => ?_) (fun c1 => ?_)
  · skip
    refine A_goto (tgt := 3776) dL_law_1809 (by decide) ?_
    refine A_sub (L' := [(0, .ref bs), (1, .ref x), (2, .ref b9), (3, .ref (b9 + 9)), (4, .ref (b9 + 10)), (5, .int (nI (6 * k)))]) ⟨rfl, rfl, rfl, rfl, rfl, rfl, trivial⟩ ?_
    refine A_less (b' := b) (by omega) ?_
    exact kk τ2 ⟨ms2, oa1, oD, _, by rw [← hz2]; exact hH2, hst2⟩
  · skip
    refine A_aload_n (i := 3) dL_law_1797 rfl rfl ?_
    refine A_iconst (v := 0) dL_law_1798 (by decide) ?_
    refine A_lald hH2.2.2.1 (by unfold vp_in; decide) dL_law_1799 ?_
    refine A_iload dL_law_1800 rfl ?_
    refine A_i2l dL_law_1802 rfl ?_
    refine A_lcmp dL_law_1803 ?_
    refine A_if_eq_t (tgt := 1809) dL_law_1804 (by decide) (by rw [show oa1 (0 : Int32).toNatClampNeg = _ from hv1 c1]; rw [gd_0 (show mayT (m_is ms) (bi (okT (m_is ms) (m_now ms) (xs (6 * k + 1)))) (bi (inR (xs (6 * k + 2)) 0 3)) = 0 from c1)]; exact lg_self _) ?_
    refine A_goto (tgt := 3776) dL_law_1809 (by decide) ?_
    refine A_sub (L' := [(0, .ref bs), (1, .ref x), (2, .ref b9), (3, .ref (b9 + 9)), (4, .ref (b9 + 10)), (5, .int (nI (6 * k)))]) ⟨rfl, rfl, rfl, rfl, rfl, rfl, trivial⟩ ?_
    refine A_less (b' := b) (by omega) ?_
    exact kk τ2 ⟨ms2, oa1, oD, _, by rw [← hz2]; exact hH2, hst2⟩
theorem t_doNotMix {l : Launch} {g : GC} {b : Nat} {Q : Option Value → AH → Prop} {X : String → Nat → AH → Prop} (σ : AH) (x b9 hb bs k n : Nat) (xs : Nat → Int32) (hs : o_arr g .int bs n (fun j => .int (xs j))) (hk : 6 * k + 6 ≤ n) (hn : n ≤ 144) (hhb : hb < 2 ^ 30) (hT : TI g x b9 hb σ) (kk : ∀ τ, TI g x b9 hb τ → AW l g mLaw 60 b Q X 3776 [(0, .ref bs), (1, .ref x), (2, .ref b9), (3, .ref (b9 + 9)), (4, .ref (b9 + 10)), (5, .int (nI (6 * k)))] [] τ) : AW l g mLaw 60 (b + 41000) Q X 1812 [(0, .ref bs), (1, .ref x), (2, .ref b9), (3, .ref (b9 + 9)), (4, .ref (b9 + 10)), (5, .int (nI (6 * k)))] [] σ := by
  obtain ⟨ms, oa, oD, s0, hH, hst⟩ := hT
  have hwf := hH.wfc
  refine A_aload_n (i := 1) dL_law_1812 rfl rfl ?_
  refine A_aload_n (i := 0) dL_law_1813 rfl rfl ?_
  refine A_iload dL_law_1814 rfl ?_
  refine A_iconst (v := 1) dL_law_1816 (by decide) ?_
  refine A_iadd dL_law_1817 ?_
  refine A_int (w := nI ((6 * k) + 1)) (nI_add (6 * k) 1) ?_
  refine A_ialdO hs (vp_in_nI (by omega) (by omega)) (v := .int (xs (6 * k + 1))) (by rw [nI_clamp (by omega)]) dL_law_1818 ?_
  refine A_aload_n (i := 0) dL_law_1819 rfl rfl ?_
  refine A_iload dL_law_1820 rfl ?_
  refine A_iconst (v := 2) dL_law_1822 (by decide) ?_
  refine A_iadd dL_law_1823 ?_
  refine A_int (w := nI ((6 * k) + 2)) (nI_add (6 * k) 2) ?_
  refine A_ialdO hs (vp_in_nI (by omega) (by omega)) (v := .int (xs (6 * k + 2))) (by rw [nI_clamp (by omega)]) dL_law_1824 ?_
  refine A_aload_n (i := 0) dL_law_1825 rfl rfl ?_
  refine A_iload dL_law_1826 rfl ?_
  refine A_iconst (v := 3) dL_law_1828 (by decide) ?_
  refine A_iadd dL_law_1829 ?_
  refine A_int (w := nI ((6 * k) + 3)) (nI_add (6 * k) 3) ?_
  refine A_ialdO hs (vp_in_nI (by omega) (by omega)) (v := .int (xs (6 * k + 3))) (by rw [nI_clamp (by omega)]) dL_law_1830 ?_
  refine A_aload_n (i := 3) dL_law_1831 rfl rfl ?_
  refine A_callSH5 (b' := b + 40998) (o_doNotMix σ x b9 hb ms oa oD (xs (6 * k + 1)) (xs (6 * k + 2)) (xs (6 * k + 3)) hhb hH) tX0_doNotMix (by decide) q1764 dL_law_1832 (by decide) (by omega) (Nat.le_of_ble_eq_true rfl) (fun w9 τ1 h9 => ?_) (fun E9 q9 τ9 h9 => h9.elim)
  obtain ⟨e1, oa1, hH1, hv1⟩ := h9
  subst e1
  refine A_istore dL_law_1835 (Nat.le_of_ble_eq_true rfl) ?_
  refine A_aload_n (i := 2) dL_law_1837 rfl rfl ?_
  refine A_aload_n (i := 0) dL_law_1838 rfl rfl ?_
  refine A_iload dL_law_1839 rfl ?_
  refine A_iconst (v := 1) dL_law_1841 (by decide) ?_
  refine A_iadd dL_law_1842 ?_
  refine A_int (w := nI ((6 * k) + 1)) (nI_add (6 * k) 1) ?_
  refine A_ialdO hs (vp_in_nI (by omega) (by omega)) (v := .int (xs (6 * k + 1))) (by rw [nI_clamp (by omega)]) dL_law_1843 ?_
  refine A_aload_n (i := 0) dL_law_1844 rfl rfl ?_
  refine A_iload dL_law_1845 rfl ?_
  refine A_iconst (v := 2) dL_law_1847 (by decide) ?_
  refine A_iadd dL_law_1848 ?_
  refine A_int (w := nI ((6 * k) + 2)) (nI_add (6 * k) 2) ?_
  refine A_ialdO hs (vp_in_nI (by omega) (by omega)) (v := .int (xs (6 * k + 2))) (by rw [nI_clamp (by omega)]) dL_law_1849 ?_
  refine A_aload_n (i := 0) dL_law_1850 rfl rfl ?_
  refine A_iload dL_law_1851 rfl ?_
  refine A_iconst (v := 3) dL_law_1853 (by decide) ?_
  refine A_iadd dL_law_1854 ?_
  refine A_int (w := nI ((6 * k) + 3)) (nI_add (6 * k) 3) ?_
  refine A_ialdO hs (vp_in_nI (by omega) (by omega)) (v := .int (xs (6 * k + 3))) (by rw [nI_clamp (by omega)]) dL_law_1855 ?_
  refine A_st (σ' := mc b9 ms τ1) hH1.2.1.symm ?_
  refine A_callV3 (b' := b + 40998) (c_doNotMix b9 ms τ1 (xs (6 * k + 1)) (xs (6 * k + 2)) (xs (6 * k + 3)) hwf.1.1) tX2_doNotMix q2765 (mc_0 _ _ _) rfl rfl dL_law_1856 (by decide) (by omega) (Nat.le_of_ble_eq_true rfl) (fun w9 τ2 h9 => ?_) (fun E9 q9 τ9 h9 => h9.elim)
  obtain ⟨e1, e2⟩ := h9
  obtain ⟨ms2, ems, em2⟩ : ∃ ms2 : MM, ms2 = (⟨mayT (m_is ms) (bi (okF (m_is ms) (m_now ms) (xs (6 * k + 1)) ∧ okF (m_is ms) (m_now ms) (xs (6 * k + 2)))) (bi (inR (xs (6 * k + 3)) 0 3)), m_is ms, m_um ms, m_bd ms, m_pc ms, m_pa ms, m_sz ms, m_cu ms, m_st ms, m_tk ms, m_to ms, m_ps ms, m_now ms, m_asd ms, m_und ms, m_sav ms, m_isv ms, m_buf ms, m_grp ms, m_pag ms⟩ : MM) ∧ τ2 = mc b9 ms2 τ1 := ⟨_, rfl, e2⟩
  subst e1
  have hH2 : HS g τ2 x b9 hb (kM ms) ms2 oa1 oD := by rw [em2]; exact hH1.mc
  have hz2 : (kM ms) = kM ms2 := ((congrArg (fun z : MM => kM z) ems).trans rfl).symm
  have hthr : m_thr ms2 = mayT (m_is ms) (bi (okF (m_is ms) (m_now ms) (xs (6 * k + 1)) ∧ okF (m_is ms) (m_now ms) (xs (6 * k + 2)))) (bi (inR (xs (6 * k + 3)) 0 3)) := (congrArg (fun z : MM => m_thr z) ems).trans rfl
  have hst2 := ((congrArg (fun z : MM => m_st z) ems).trans rfl).trans hst
  refine A_istore dL_law_1859 (Nat.le_of_ble_eq_true rfl) ?_
  refine A_aload_n (i := 2) dL_law_1861 rfl rfl ?_
  refine A_st (σ' := mc b9 ms2 τ2) hH2.2.1.symm ?_
  refine A_callV0E (b' := b + 40998) (v := some (.int (m_thr ms2))) (τ := mc b9 ms2 τ2) (c_thrown b9 ms2 τ2) tX2_thrown q2291 (mc_0 _ _ _) rfl rfl dL_law_1862 (by decide) (by omega) (Nat.le_of_ble_eq_true rfl) ?_
  refine A_st (σ' := τ2) hH2.2.1 ?_
  refine A_iload dL_law_1865 rfl ?_
  refine A_icmp_eq_t (tgt := 1872) dL_law_1867 (by decide) (hthr) ?_
  refine A_iload dL_law_1872 rfl ?_
  refine A_if_ne (tgt := 1889) dL_law_1874 (by decide) (fun c1 => ?_) (fun c1 => ?_)
  · skip
    refine A_goto (tgt := 3776) dL_law_1889 (by decide) ?_
    refine A_sub (L' := [(0, .ref bs), (1, .ref x), (2, .ref b9), (3, .ref (b9 + 9)), (4, .ref (b9 + 10)), (5, .int (nI (6 * k)))]) ⟨rfl, rfl, rfl, rfl, rfl, rfl, trivial⟩ ?_
    refine A_less (b' := b) (by omega) ?_
    exact kk τ2 ⟨ms2, oa1, oD, _, by rw [← hz2]; exact hH2, hst2⟩
  · skip
    refine A_aload_n (i := 3) dL_law_1877 rfl rfl ?_
    refine A_iconst (v := 0) dL_law_1878 (by decide) ?_
    refine A_lald hH2.2.2.1 (by unfold vp_in; decide) dL_law_1879 ?_
    refine A_iload dL_law_1880 rfl ?_
    refine A_i2l dL_law_1882 rfl ?_
    refine A_lcmp dL_law_1883 ?_
    refine A_if_eq_t (tgt := 1889) dL_law_1884 (by decide) (by rw [show oa1 (0 : Int32).toNatClampNeg = _ from hv1 c1]; rw [gd_0 (show mayT (m_is ms) (bi (okF (m_is ms) (m_now ms) (xs (6 * k + 1)) ∧ okF (m_is ms) (m_now ms) (xs (6 * k + 2)))) (bi (inR (xs (6 * k + 3)) 0 3)) = 0 from c1)]; exact lg_self _) ?_
    refine A_goto (tgt := 3776) dL_law_1889 (by decide) ?_
    refine A_sub (L' := [(0, .ref bs), (1, .ref x), (2, .ref b9), (3, .ref (b9 + 9)), (4, .ref (b9 + 10)), (5, .int (nI (6 * k)))]) ⟨rfl, rfl, rfl, rfl, rfl, rfl, trivial⟩ ?_
    refine A_less (b' := b) (by omega) ?_
    exact kk τ2 ⟨ms2, oa1, oD, _, by rw [← hz2]; exact hH2, hst2⟩
theorem t_groups {l : Launch} {g : GC} {b : Nat} {Q : Option Value → AH → Prop} {X : String → Nat → AH → Prop} (σ : AH) (x b9 hb bs k n : Nat) (xs : Nat → Int32) (hs : o_arr g .int bs n (fun j => .int (xs j))) (hk : 6 * k + 6 ≤ n) (hn : n ≤ 144) (hhb : hb < 2 ^ 30) (hT : TI g x b9 hb σ) (kk : ∀ τ, TI g x b9 hb τ → AW l g mLaw 60 b Q X 3776 [(0, .ref bs), (1, .ref x), (2, .ref b9), (3, .ref (b9 + 9)), (4, .ref (b9 + 10)), (5, .int (nI (6 * k)))] [] τ) : AW l g mLaw 60 (b + 41000) Q X 1892 [(0, .ref bs), (1, .ref x), (2, .ref b9), (3, .ref (b9 + 9)), (4, .ref (b9 + 10)), (5, .int (nI (6 * k)))] [] σ := by
  obtain ⟨ms, oa, oD, s0, hH, hst⟩ := hT
  have hwf := hH.wfc
  refine A_aload_n (i := 1) dL_law_1892 rfl rfl ?_
  refine A_aload_n (i := 0) dL_law_1893 rfl rfl ?_
  refine A_iload dL_law_1894 rfl ?_
  refine A_iconst (v := 1) dL_law_1896 (by decide) ?_
  refine A_iadd dL_law_1897 ?_
  refine A_int (w := nI ((6 * k) + 1)) (nI_add (6 * k) 1) ?_
  refine A_ialdO hs (vp_in_nI (by omega) (by omega)) (v := .int (xs (6 * k + 1))) (by rw [nI_clamp (by omega)]) dL_law_1898 ?_
  refine A_aload_n (i := 3) dL_law_1899 rfl rfl ?_
  refine A_callSH3 (b' := b + 40995) (o_groups σ x b9 hb ms oa oD (xs (6 * k + 1)) hhb hH) tX0_groups (by decide) q1779 dL_law_1900 (by decide) (by omega) (Nat.le_of_ble_eq_true rfl) (fun w9 τ1 h9 => ?_) (fun E9 q9 τ9 h9 => h9.elim)
  obtain ⟨e1, oa1, hH1, hv1⟩ := h9
  subst e1
  refine A_istore dL_law_1903 (Nat.le_of_ble_eq_true rfl) ?_
  refine A_aload_n (i := 2) dL_law_1905 rfl rfl ?_
  refine A_aload_n (i := 0) dL_law_1906 rfl rfl ?_
  refine A_iload dL_law_1907 rfl ?_
  refine A_iconst (v := 1) dL_law_1909 (by decide) ?_
  refine A_iadd dL_law_1910 ?_
  refine A_int (w := nI ((6 * k) + 1)) (nI_add (6 * k) 1) ?_
  refine A_ialdO hs (vp_in_nI (by omega) (by omega)) (v := .int (xs (6 * k + 1))) (by rw [nI_clamp (by omega)]) dL_law_1911 ?_
  refine A_st (σ' := mc b9 ms τ1) hH1.2.1.symm ?_
  refine A_callV1 (b' := b + 40995) (c_groups b9 ms τ1 (xs (6 * k + 1)) hwf.1.1) tX2_groups q2773 (mc_0 _ _ _) rfl rfl dL_law_1912 (by decide) (by omega) (Nat.le_of_ble_eq_true rfl) (fun w9 τ2 h9 => ?_) (fun E9 q9 τ9 h9 => h9.elim)
  obtain ⟨y0, e1, e2⟩ := h9
  obtain ⟨ms2, ems, em2⟩ : ∃ ms2 : MM, ms2 = (⟨mayT (m_is ms) (bi (inR (xs (6 * k + 1)) 0 3)) 1, m_is ms, m_um ms, m_bd ms, m_pc ms, m_pa ms, m_sz ms, m_cu ms, m_st ms, m_tk ms, m_to ms, m_ps ms, m_now ms, m_asd ms, m_und ms, m_sav ms, m_isv ms, m_buf ms, y0, m_pag ms⟩ : MM) ∧ τ2 = mc b9 ms2 τ1 := ⟨_, rfl, e2⟩
  subst e1
  have hH2 : HS g τ2 x b9 hb (kM ms) ms2 oa1 oD := by rw [em2]; exact hH1.mc
  have hz2 : (kM ms) = kM ms2 := ((congrArg (fun z : MM => kM z) ems).trans rfl).symm
  have hthr : m_thr ms2 = mayT (m_is ms) (bi (inR (xs (6 * k + 1)) 0 3)) 1 := (congrArg (fun z : MM => m_thr z) ems).trans rfl
  have hst2 := ((congrArg (fun z : MM => m_st z) ems).trans rfl).trans hst
  refine A_istore dL_law_1915 (Nat.le_of_ble_eq_true rfl) ?_
  refine A_aload_n (i := 2) dL_law_1917 rfl rfl ?_
  refine A_st (σ' := mc b9 ms2 τ2) hH2.2.1.symm ?_
  refine A_callV0E (b' := b + 40995) (v := some (.int (m_thr ms2))) (τ := mc b9 ms2 τ2) (c_thrown b9 ms2 τ2) tX2_thrown q2291 (mc_0 _ _ _) rfl rfl dL_law_1918 (by decide) (by omega) (Nat.le_of_ble_eq_true rfl) ?_
  refine A_st (σ' := τ2) hH2.2.1 ?_
  refine A_iload dL_law_1921 rfl ?_
  refine A_icmp_eq_t (tgt := 1928) dL_law_1923 (by decide) (hthr) ?_
  refine A_iload dL_law_1928 rfl ?_
  refine A_if_ne (tgt := 1945) dL_law_1930 (by decide) (fun c1 => ?_) (fun c1 => ?_)
  · skip
    refine A_goto (tgt := 3776) dL_law_1945 (by decide) ?_
    refine A_sub (L' := [(0, .ref bs), (1, .ref x), (2, .ref b9), (3, .ref (b9 + 9)), (4, .ref (b9 + 10)), (5, .int (nI (6 * k)))]) ⟨rfl, rfl, rfl, rfl, rfl, rfl, trivial⟩ ?_
    refine A_less (b' := b) (by omega) ?_
    exact kk τ2 ⟨ms2, oa1, oD, _, by rw [← hz2]; exact hH2, hst2⟩
  · skip
    refine A_aload_n (i := 3) dL_law_1933 rfl rfl ?_
    refine A_iconst (v := 0) dL_law_1934 (by decide) ?_
    refine A_lald hH2.2.2.1 (by unfold vp_in; decide) dL_law_1935 ?_
    refine A_iload dL_law_1936 rfl ?_
    refine A_i2l dL_law_1938 rfl ?_
    refine A_lcmp dL_law_1939 ?_
    refine A_if_eq_t (tgt := 1945) dL_law_1940 (by decide) (by rw [show oa1 (0 : Int32).toNatClampNeg = _ from hv1 c1]; rw [gd_0 (show mayT (m_is ms) (bi (inR (xs (6 * k + 1)) 0 3)) 1 = 0 from c1)]; exact lg_self _) ?_
    refine A_goto (tgt := 3776) dL_law_1945 (by decide) ?_
    refine A_sub (L' := [(0, .ref bs), (1, .ref x), (2, .ref b9), (3, .ref (b9 + 9)), (4, .ref (b9 + 10)), (5, .int (nI (6 * k)))]) ⟨rfl, rfl, rfl, rfl, rfl, rfl, trivial⟩ ?_
    refine A_less (b' := b) (by omega) ?_
    exact kk τ2 ⟨ms2, oa1, oD, _, by rw [← hz2]; exact hH2, hst2⟩
theorem t_purest {l : Launch} {g : GC} {b : Nat} {Q : Option Value → AH → Prop} {X : String → Nat → AH → Prop} (σ : AH) (x b9 hb bs k n : Nat) (xs : Nat → Int32) (hs : o_arr g .int bs n (fun j => .int (xs j))) (hk : 6 * k + 6 ≤ n) (hn : n ≤ 144) (hhb : hb < 2 ^ 30) (hT : TI g x b9 hb σ) (kk : ∀ τ, TI g x b9 hb τ → AW l g mLaw 60 b Q X 3776 [(0, .ref bs), (1, .ref x), (2, .ref b9), (3, .ref (b9 + 9)), (4, .ref (b9 + 10)), (5, .int (nI (6 * k)))] [] τ) : AW l g mLaw 60 (b + 41000) Q X 1948 [(0, .ref bs), (1, .ref x), (2, .ref b9), (3, .ref (b9 + 9)), (4, .ref (b9 + 10)), (5, .int (nI (6 * k)))] [] σ := by
  obtain ⟨ms, oa, oD, s0, hH, hst⟩ := hT
  have hwf := hH.wfc
  refine A_aload_n (i := 1) dL_law_1948 rfl rfl ?_
  refine A_aload_n (i := 0) dL_law_1949 rfl rfl ?_
  refine A_iload dL_law_1950 rfl ?_
  refine A_iconst (v := 1) dL_law_1952 (by decide) ?_
  refine A_iadd dL_law_1953 ?_
  refine A_int (w := nI ((6 * k) + 1)) (nI_add (6 * k) 1) ?_
  refine A_ialdO hs (vp_in_nI (by omega) (by omega)) (v := .int (xs (6 * k + 1))) (by rw [nI_clamp (by omega)]) dL_law_1954 ?_
  refine A_aload_n (i := 3) dL_law_1955 rfl rfl ?_
  refine A_callSH3 (b' := b + 40986) (o_purest σ x b9 hb ms oa oD (xs (6 * k + 1)) hhb hH) tX0_purest (by decide) q1791 dL_law_1956 (by decide) (by omega) (Nat.le_of_ble_eq_true rfl) (fun w9 τ1 h9 => ?_) (fun E9 q9 τ9 h9 => h9.elim)
  obtain ⟨e1, oa1, hH1, hv1⟩ := h9
  subst e1
  refine A_istore dL_law_1959 (Nat.le_of_ble_eq_true rfl) ?_
  refine A_aload_n (i := 2) dL_law_1961 rfl rfl ?_
  refine A_aload_n (i := 0) dL_law_1962 rfl rfl ?_
  refine A_iload dL_law_1963 rfl ?_
  refine A_iconst (v := 1) dL_law_1965 (by decide) ?_
  refine A_iadd dL_law_1966 ?_
  refine A_int (w := nI ((6 * k) + 1)) (nI_add (6 * k) 1) ?_
  refine A_ialdO hs (vp_in_nI (by omega) (by omega)) (v := .int (xs (6 * k + 1))) (by rw [nI_clamp (by omega)]) dL_law_1967 ?_
  refine A_st (σ' := mc b9 ms τ1) hH1.2.1.symm ?_
  refine A_callV1 (b' := b + 40986) (c_purest b9 ms τ1 (xs (6 * k + 1)) hwf.1.1) tX2_purest q2781 (mc_0 _ _ _) rfl rfl dL_law_1968 (by decide) (by omega) (Nat.le_of_ble_eq_true rfl) (fun w9 τ2 h9 => ?_) (fun E9 q9 τ9 h9 => h9.elim)
  obtain ⟨e1, e2⟩ := h9
  obtain ⟨ms2, ems, em2⟩ : ∃ ms2 : MM, ms2 = (⟨mayT (m_is ms) (bi (inR (xs (6 * k + 1)) 0 3)) 1, m_is ms, m_um ms, m_bd ms, m_pc ms, m_pa ms, m_sz ms, m_cu ms, m_st ms, m_tk ms, m_to ms, m_ps ms, m_now ms, m_asd ms, m_und ms, m_sav ms, m_isv ms, m_buf ms, m_grp ms, m_pag ms⟩ : MM) ∧ τ2 = mc b9 ms2 τ1 := ⟨_, rfl, e2⟩
  subst e1
  have hH2 : HS g τ2 x b9 hb (kM ms) ms2 oa1 oD := by rw [em2]; exact hH1.mc
  have hz2 : (kM ms) = kM ms2 := ((congrArg (fun z : MM => kM z) ems).trans rfl).symm
  have hthr : m_thr ms2 = mayT (m_is ms) (bi (inR (xs (6 * k + 1)) 0 3)) 1 := (congrArg (fun z : MM => m_thr z) ems).trans rfl
  have hst2 := ((congrArg (fun z : MM => m_st z) ems).trans rfl).trans hst
  refine A_istore dL_law_1971 (Nat.le_of_ble_eq_true rfl) ?_
  refine A_aload_n (i := 2) dL_law_1973 rfl rfl ?_
  refine A_st (σ' := mc b9 ms2 τ2) hH2.2.1.symm ?_
  refine A_callV0E (b' := b + 40986) (v := some (.int (m_thr ms2))) (τ := mc b9 ms2 τ2) (c_thrown b9 ms2 τ2) tX2_thrown q2291 (mc_0 _ _ _) rfl rfl dL_law_1974 (by decide) (by omega) (Nat.le_of_ble_eq_true rfl) ?_
  refine A_st (σ' := τ2) hH2.2.1 ?_
  refine A_iload dL_law_1977 rfl ?_
  refine A_icmp_eq_t (tgt := 1984) dL_law_1979 (by decide) (hthr) ?_
  refine A_iload dL_law_1984 rfl ?_
  refine A_if_ne (tgt := 2001) dL_law_1986 (by decide) (fun c1 => ?_) (fun c1 => ?_)
  · skip
    refine A_goto (tgt := 3776) dL_law_2001 (by decide) ?_
    refine A_sub (L' := [(0, .ref bs), (1, .ref x), (2, .ref b9), (3, .ref (b9 + 9)), (4, .ref (b9 + 10)), (5, .int (nI (6 * k)))]) ⟨rfl, rfl, rfl, rfl, rfl, rfl, trivial⟩ ?_
    refine A_less (b' := b) (by omega) ?_
    exact kk τ2 ⟨ms2, oa1, oD, _, by rw [← hz2]; exact hH2, hst2⟩
  · skip
    refine A_aload_n (i := 3) dL_law_1989 rfl rfl ?_
    refine A_iconst (v := 0) dL_law_1990 (by decide) ?_
    refine A_lald hH2.2.2.1 (by unfold vp_in; decide) dL_law_1991 ?_
    refine A_iload dL_law_1992 rfl ?_
    refine A_i2l dL_law_1994 rfl ?_
    refine A_lcmp dL_law_1995 ?_
    refine A_if_eq_t (tgt := 2001) dL_law_1996 (by decide) (by rw [show oa1 (0 : Int32).toNatClampNeg = _ from hv1 c1]; rw [gd_0 (show mayT (m_is ms) (bi (inR (xs (6 * k + 1)) 0 3)) 1 = 0 from c1)]; exact lg_self _) ?_
    refine A_goto (tgt := 3776) dL_law_2001 (by decide) ?_
    refine A_sub (L' := [(0, .ref bs), (1, .ref x), (2, .ref b9), (3, .ref (b9 + 9)), (4, .ref (b9 + 10)), (5, .int (nI (6 * k)))]) ⟨rfl, rfl, rfl, rfl, rfl, rfl, trivial⟩ ?_
    refine A_less (b' := b) (by omega) ?_
    exact kk τ2 ⟨ms2, oa1, oD, _, by rw [← hz2]; exact hH2, hst2⟩
theorem t_washesFor {l : Launch} {g : GC} {b : Nat} {Q : Option Value → AH → Prop} {X : String → Nat → AH → Prop} (σ : AH) (x b9 hb bs k n : Nat) (xs : Nat → Int32) (hs : o_arr g .int bs n (fun j => .int (xs j))) (hk : 6 * k + 6 ≤ n) (hn : n ≤ 144) (hhb : hb < 2 ^ 30) (hT : TI g x b9 hb σ) (kk : ∀ τ, TI g x b9 hb τ → AW l g mLaw 60 b Q X 3776 [(0, .ref bs), (1, .ref x), (2, .ref b9), (3, .ref (b9 + 9)), (4, .ref (b9 + 10)), (5, .int (nI (6 * k)))] [] τ) : AW l g mLaw 60 (b + 41000) Q X 2004 [(0, .ref bs), (1, .ref x), (2, .ref b9), (3, .ref (b9 + 9)), (4, .ref (b9 + 10)), (5, .int (nI (6 * k)))] [] σ := by
  obtain ⟨ms, oa, oD, s0, hH, hst⟩ := hT
  have hwf := hH.wfc
  refine A_aload_n (i := 1) dL_law_2004 rfl rfl ?_
  refine A_aload_n (i := 0) dL_law_2005 rfl rfl ?_
  refine A_iload dL_law_2006 rfl ?_
  refine A_iconst (v := 1) dL_law_2008 (by decide) ?_
  refine A_iadd dL_law_2009 ?_
  refine A_int (w := nI ((6 * k) + 1)) (nI_add (6 * k) 1) ?_
  refine A_ialdO hs (vp_in_nI (by omega) (by omega)) (v := .int (xs (6 * k + 1))) (by rw [nI_clamp (by omega)]) dL_law_2010 ?_
  refine A_aload_n (i := 3) dL_law_2011 rfl rfl ?_
  refine A_callSH3 (b' := b + 40998) (o_washesFor σ x b9 hb ms oa oD (xs (6 * k + 1)) hhb hH) tX0_washesFor (by decide) q1800 dL_law_2012 (by decide) (by omega) (Nat.le_of_ble_eq_true rfl) (fun w9 τ1 h9 => ?_) (fun E9 q9 τ9 h9 => h9.elim)
  obtain ⟨e1, oa1, hH1, hv1⟩ := h9
  subst e1
  refine A_istore dL_law_2015 (Nat.le_of_ble_eq_true rfl) ?_
  refine A_aload_n (i := 2) dL_law_2017 rfl rfl ?_
  refine A_aload_n (i := 0) dL_law_2018 rfl rfl ?_
  refine A_iload dL_law_2019 rfl ?_
  refine A_iconst (v := 1) dL_law_2021 (by decide) ?_
  refine A_iadd dL_law_2022 ?_
  refine A_int (w := nI ((6 * k) + 1)) (nI_add (6 * k) 1) ?_
  refine A_ialdO hs (vp_in_nI (by omega) (by omega)) (v := .int (xs (6 * k + 1))) (by rw [nI_clamp (by omega)]) dL_law_2023 ?_
  refine A_st (σ' := mc b9 ms τ1) hH1.2.1.symm ?_
  refine A_callV1 (b' := b + 40998) (c_washesFor b9 ms τ1 (xs (6 * k + 1)) hwf.1) tX2_washesFor q2789 (mc_0 _ _ _) rfl rfl dL_law_2024 (by decide) (by omega) (Nat.le_of_ble_eq_true rfl) (fun w9 τ2 h9 => ?_) (fun E9 q9 τ9 h9 => h9.elim)
  obtain ⟨e1, e2⟩ := h9
  obtain ⟨ms2, ems, em2⟩ : ∃ ms2 : MM, ms2 = (⟨mayT (m_is ms) (bi (okF (m_is ms) (m_now ms) (xs (6 * k + 1)))) 1, m_is ms, m_um ms, m_bd ms, m_pc ms, m_pa ms, m_sz ms, m_cu ms, m_st ms, m_tk ms, m_to ms, m_ps ms, m_now ms, m_asd ms, m_und ms, m_sav ms, m_isv ms, m_buf ms, m_grp ms, m_pag ms⟩ : MM) ∧ τ2 = mc b9 ms2 τ1 := ⟨_, rfl, e2⟩
  subst e1
  have hH2 : HS g τ2 x b9 hb (kM ms) ms2 oa1 oD := by rw [em2]; exact hH1.mc
  have hz2 : (kM ms) = kM ms2 := ((congrArg (fun z : MM => kM z) ems).trans rfl).symm
  have hthr : m_thr ms2 = mayT (m_is ms) (bi (okF (m_is ms) (m_now ms) (xs (6 * k + 1)))) 1 := (congrArg (fun z : MM => m_thr z) ems).trans rfl
  have hst2 := ((congrArg (fun z : MM => m_st z) ems).trans rfl).trans hst
  refine A_istore dL_law_2027 (Nat.le_of_ble_eq_true rfl) ?_
  refine A_aload_n (i := 2) dL_law_2029 rfl rfl ?_
  refine A_st (σ' := mc b9 ms2 τ2) hH2.2.1.symm ?_
  refine A_callV0E (b' := b + 40998) (v := some (.int (m_thr ms2))) (τ := mc b9 ms2 τ2) (c_thrown b9 ms2 τ2) tX2_thrown q2291 (mc_0 _ _ _) rfl rfl dL_law_2030 (by decide) (by omega) (Nat.le_of_ble_eq_true rfl) ?_
  refine A_st (σ' := τ2) hH2.2.1 ?_
  refine A_iload dL_law_2033 rfl ?_
  refine A_icmp_eq_t (tgt := 2040) dL_law_2035 (by decide) (hthr) ?_
  refine A_iload dL_law_2040 rfl ?_
  refine A_if_ne (tgt := 2057) dL_law_2042 (by decide) (fun c1 => ?_) (fun c1 => ?_)
  · skip
    refine A_goto (tgt := 3776) dL_law_2057 (by decide) ?_
    refine A_sub (L' := [(0, .ref bs), (1, .ref x), (2, .ref b9), (3, .ref (b9 + 9)), (4, .ref (b9 + 10)), (5, .int (nI (6 * k)))]) ⟨rfl, rfl, rfl, rfl, rfl, rfl, trivial⟩ ?_
    refine A_less (b' := b) (by omega) ?_
    exact kk τ2 ⟨ms2, oa1, oD, _, by rw [← hz2]; exact hH2, hst2⟩
  · skip
    refine A_aload_n (i := 3) dL_law_2045 rfl rfl ?_
    refine A_iconst (v := 0) dL_law_2046 (by decide) ?_
    refine A_lald hH2.2.2.1 (by unfold vp_in; decide) dL_law_2047 ?_
    refine A_iload dL_law_2048 rfl ?_
    refine A_i2l dL_law_2050 rfl ?_
    refine A_lcmp dL_law_2051 ?_
    refine A_if_eq_t (tgt := 2057) dL_law_2052 (by decide) (by rw [show oa1 (0 : Int32).toNatClampNeg = _ from hv1 c1]; rw [gd_0 (show mayT (m_is ms) (bi (okF (m_is ms) (m_now ms) (xs (6 * k + 1)))) 1 = 0 from c1)]; exact lg_self _) ?_
    refine A_goto (tgt := 3776) dL_law_2057 (by decide) ?_
    refine A_sub (L' := [(0, .ref bs), (1, .ref x), (2, .ref b9), (3, .ref (b9 + 9)), (4, .ref (b9 + 10)), (5, .int (nI (6 * k)))]) ⟨rfl, rfl, rfl, rfl, rfl, rfl, trivial⟩ ?_
    refine A_less (b' := b) (by omega) ?_
    exact kk τ2 ⟨ms2, oa1, oD, _, by rw [← hz2]; exact hH2, hst2⟩
theorem t_dryIn {l : Launch} {g : GC} {b : Nat} {Q : Option Value → AH → Prop} {X : String → Nat → AH → Prop} (σ : AH) (x b9 hb bs k n : Nat) (xs : Nat → Int32) (hs : o_arr g .int bs n (fun j => .int (xs j))) (hk : 6 * k + 6 ≤ n) (hn : n ≤ 144) (hhb : hb < 2 ^ 30) (hT : TI g x b9 hb σ) (kk : ∀ τ, TI g x b9 hb τ → AW l g mLaw 60 b Q X 3776 [(0, .ref bs), (1, .ref x), (2, .ref b9), (3, .ref (b9 + 9)), (4, .ref (b9 + 10)), (5, .int (nI (6 * k)))] [] τ) : AW l g mLaw 60 (b + 41000) Q X 2060 [(0, .ref bs), (1, .ref x), (2, .ref b9), (3, .ref (b9 + 9)), (4, .ref (b9 + 10)), (5, .int (nI (6 * k)))] [] σ := by
  obtain ⟨ms, oa, oD, s0, hH, hst⟩ := hT
  have hwf := hH.wfc
  refine A_aload_n (i := 1) dL_law_2060 rfl rfl ?_
  refine A_aload_n (i := 0) dL_law_2061 rfl rfl ?_
  refine A_iload dL_law_2062 rfl ?_
  refine A_iconst (v := 1) dL_law_2064 (by decide) ?_
  refine A_iadd dL_law_2065 ?_
  refine A_int (w := nI ((6 * k) + 1)) (nI_add (6 * k) 1) ?_
  refine A_ialdO hs (vp_in_nI (by omega) (by omega)) (v := .int (xs (6 * k + 1))) (by rw [nI_clamp (by omega)]) dL_law_2066 ?_
  refine A_aload_n (i := 3) dL_law_2067 rfl rfl ?_
  refine A_callSH3 (b' := b + 40826) (o_dryIn σ x b9 hb ms oa oD (xs (6 * k + 1)) hhb hH) tX0_dryIn (by decide) q1809 dL_law_2068 (by decide) (by omega) (Nat.le_of_ble_eq_true rfl) (fun w9 τ1 h9 => ?_) (fun E9 q9 τ9 h9 => h9.elim)
  obtain ⟨e1, oa1, hH1, hv1⟩ := h9
  subst e1
  refine A_istore dL_law_2071 (Nat.le_of_ble_eq_true rfl) ?_
  refine A_aload_n (i := 2) dL_law_2073 rfl rfl ?_
  refine A_aload_n (i := 0) dL_law_2074 rfl rfl ?_
  refine A_iload dL_law_2075 rfl ?_
  refine A_iconst (v := 1) dL_law_2077 (by decide) ?_
  refine A_iadd dL_law_2078 ?_
  refine A_int (w := nI ((6 * k) + 1)) (nI_add (6 * k) 1) ?_
  refine A_ialdO hs (vp_in_nI (by omega) (by omega)) (v := .int (xs (6 * k + 1))) (by rw [nI_clamp (by omega)]) dL_law_2079 ?_
  refine A_st (σ' := mc b9 ms τ1) hH1.2.1.symm ?_
  refine A_callV1 (b' := b + 40826) (c_dryIn b9 ms τ1 (xs (6 * k + 1)) hwf.1.1) tX2_dryIn q2793 (mc_0 _ _ _) rfl rfl dL_law_2080 (by decide) (by omega) (Nat.le_of_ble_eq_true rfl) (fun w9 τ2 h9 => ?_) (fun E9 q9 τ9 h9 => h9.elim)
  obtain ⟨y0, e1, e2⟩ := h9
  obtain ⟨ms2, ems, em2⟩ : ∃ ms2 : MM, ms2 = (⟨mayT (m_is ms) (bi (okF (m_is ms) (m_now ms) (xs (6 * k + 1)))) 1, m_is ms, m_um ms, m_bd ms, m_pc ms, m_pa ms, m_sz ms, m_cu ms, m_st ms, m_tk ms, m_to ms, m_ps ms, m_now ms, y0, m_und ms, m_sav ms, m_isv ms, m_buf ms, m_grp ms, m_pag ms⟩ : MM) ∧ τ2 = mc b9 ms2 τ1 := ⟨_, rfl, e2⟩
  subst e1
  have hH2 : HS g τ2 x b9 hb (kM ms) ms2 oa1 oD := by rw [em2]; exact hH1.mc
  have hz2 : (kM ms) = kM ms2 := ((congrArg (fun z : MM => kM z) ems).trans rfl).symm
  have hthr : m_thr ms2 = mayT (m_is ms) (bi (okF (m_is ms) (m_now ms) (xs (6 * k + 1)))) 1 := (congrArg (fun z : MM => m_thr z) ems).trans rfl
  have hst2 := ((congrArg (fun z : MM => m_st z) ems).trans rfl).trans hst
  refine A_istore dL_law_2083 (Nat.le_of_ble_eq_true rfl) ?_
  refine A_aload_n (i := 2) dL_law_2085 rfl rfl ?_
  refine A_st (σ' := mc b9 ms2 τ2) hH2.2.1.symm ?_
  refine A_callV0E (b' := b + 40826) (v := some (.int (m_thr ms2))) (τ := mc b9 ms2 τ2) (c_thrown b9 ms2 τ2) tX2_thrown q2291 (mc_0 _ _ _) rfl rfl dL_law_2086 (by decide) (by omega) (Nat.le_of_ble_eq_true rfl) ?_
  refine A_st (σ' := τ2) hH2.2.1 ?_
  refine A_iload dL_law_2089 rfl ?_
  refine A_icmp_eq_t (tgt := 2096) dL_law_2091 (by decide) (hthr) ?_
  refine A_iload dL_law_2096 rfl ?_
  refine A_if_ne (tgt := 2113) dL_law_2098 (by decide) (fun c1 => ?_) (fun c1 => ?_)
  · skip
    refine A_goto (tgt := 3776) dL_law_2113 (by decide) ?_
    refine A_sub (L' := [(0, .ref bs), (1, .ref x), (2, .ref b9), (3, .ref (b9 + 9)), (4, .ref (b9 + 10)), (5, .int (nI (6 * k)))]) ⟨rfl, rfl, rfl, rfl, rfl, rfl, trivial⟩ ?_
    refine A_less (b' := b) (by omega) ?_
    exact kk τ2 ⟨ms2, oa1, oD, _, by rw [← hz2]; exact hH2, hst2⟩
  · skip
    refine A_aload_n (i := 3) dL_law_2101 rfl rfl ?_
    refine A_iconst (v := 0) dL_law_2102 (by decide) ?_
    refine A_lald hH2.2.2.1 (by unfold vp_in; decide) dL_law_2103 ?_
    refine A_iload dL_law_2104 rfl ?_
    refine A_i2l dL_law_2106 rfl ?_
    refine A_lcmp dL_law_2107 ?_
    refine A_if_eq_t (tgt := 2113) dL_law_2108 (by decide) (by rw [show oa1 (0 : Int32).toNatClampNeg = _ from hv1 c1]; rw [gd_0 (show mayT (m_is ms) (bi (okF (m_is ms) (m_now ms) (xs (6 * k + 1)))) 1 = 0 from c1)]; exact lg_self _) ?_
    refine A_goto (tgt := 3776) dL_law_2113 (by decide) ?_
    refine A_sub (L' := [(0, .ref bs), (1, .ref x), (2, .ref b9), (3, .ref (b9 + 9)), (4, .ref (b9 + 10)), (5, .int (nI (6 * k)))]) ⟨rfl, rfl, rfl, rfl, rfl, rfl, trivial⟩ ?_
    refine A_less (b' := b) (by omega) ?_
    exact kk τ2 ⟨ms2, oa1, oD, _, by rw [← hz2]; exact hH2, hst2⟩
theorem t_dryByWind {l : Launch} {g : GC} {b : Nat} {Q : Option Value → AH → Prop} {X : String → Nat → AH → Prop} (σ : AH) (x b9 hb bs k n : Nat) (xs : Nat → Int32) (hs : o_arr g .int bs n (fun j => .int (xs j))) (hk : 6 * k + 6 ≤ n) (hn : n ≤ 144) (hhb : hb < 2 ^ 30) (hT : TI g x b9 hb σ) (kk : ∀ τ, TI g x b9 hb τ → AW l g mLaw 60 b Q X 3776 [(0, .ref bs), (1, .ref x), (2, .ref b9), (3, .ref (b9 + 9)), (4, .ref (b9 + 10)), (5, .int (nI (6 * k)))] [] τ) : AW l g mLaw 60 (b + 41000) Q X 2116 [(0, .ref bs), (1, .ref x), (2, .ref b9), (3, .ref (b9 + 9)), (4, .ref (b9 + 10)), (5, .int (nI (6 * k)))] [] σ := by
  obtain ⟨ms, oa, oD, s0, hH, hst⟩ := hT
  have hwf := hH.wfc
  refine A_aload_n (i := 1) dL_law_2116 rfl rfl ?_
  refine A_aload_n (i := 0) dL_law_2117 rfl rfl ?_
  refine A_iload dL_law_2118 rfl ?_
  refine A_iconst (v := 1) dL_law_2120 (by decide) ?_
  refine A_iadd dL_law_2121 ?_
  refine A_int (w := nI ((6 * k) + 1)) (nI_add (6 * k) 1) ?_
  refine A_ialdO hs (vp_in_nI (by omega) (by omega)) (v := .int (xs (6 * k + 1))) (by rw [nI_clamp (by omega)]) dL_law_2122 ?_
  refine A_aload_n (i := 0) dL_law_2123 rfl rfl ?_
  refine A_iload dL_law_2124 rfl ?_
  refine A_iconst (v := 2) dL_law_2126 (by decide) ?_
  refine A_iadd dL_law_2127 ?_
  refine A_int (w := nI ((6 * k) + 2)) (nI_add (6 * k) 2) ?_
  refine A_ialdO hs (vp_in_nI (by omega) (by omega)) (v := .int (xs (6 * k + 2))) (by rw [nI_clamp (by omega)]) dL_law_2128 ?_
  refine A_aload_n (i := 3) dL_law_2129 rfl rfl ?_
  refine A_callSH4 (b' := b + 40826) (o_dryByWind σ x b9 hb ms oa oD (xs (6 * k + 1)) (xs (6 * k + 2)) hhb hH) tX0_dryByWind (by decide) q1836 dL_law_2130 (by decide) (by omega) (Nat.le_of_ble_eq_true rfl) (fun w9 τ1 h9 => ?_) (fun E9 q9 τ9 h9 => h9.elim)
  obtain ⟨e1, oa1, hH1, hv1⟩ := h9
  subst e1
  refine A_istore dL_law_2133 (Nat.le_of_ble_eq_true rfl) ?_
  refine A_aload_n (i := 2) dL_law_2135 rfl rfl ?_
  refine A_aload_n (i := 0) dL_law_2136 rfl rfl ?_
  refine A_iload dL_law_2137 rfl ?_
  refine A_iconst (v := 1) dL_law_2139 (by decide) ?_
  refine A_iadd dL_law_2140 ?_
  refine A_int (w := nI ((6 * k) + 1)) (nI_add (6 * k) 1) ?_
  refine A_ialdO hs (vp_in_nI (by omega) (by omega)) (v := .int (xs (6 * k + 1))) (by rw [nI_clamp (by omega)]) dL_law_2141 ?_
  refine A_aload_n (i := 0) dL_law_2142 rfl rfl ?_
  refine A_iload dL_law_2143 rfl ?_
  refine A_iconst (v := 2) dL_law_2145 (by decide) ?_
  refine A_iadd dL_law_2146 ?_
  refine A_int (w := nI ((6 * k) + 2)) (nI_add (6 * k) 2) ?_
  refine A_ialdO hs (vp_in_nI (by omega) (by omega)) (v := .int (xs (6 * k + 2))) (by rw [nI_clamp (by omega)]) dL_law_2147 ?_
  refine A_st (σ' := mc b9 ms τ1) hH1.2.1.symm ?_
  refine A_callV2 (b' := b + 40826) (c_dryByWind b9 ms τ1 (xs (6 * k + 1)) (xs (6 * k + 2)) hwf.1.1) tX2_dryByWind q2801 (mc_0 _ _ _) rfl rfl dL_law_2148 (by decide) (by omega) (Nat.le_of_ble_eq_true rfl) (fun w9 τ2 h9 => ?_) (fun E9 q9 τ9 h9 => h9.elim)
  obtain ⟨y0, e1, e2⟩ := h9
  obtain ⟨ms2, ems, em2⟩ : ∃ ms2 : MM, ms2 = (⟨mayT (m_is ms) (bi (okF (m_is ms) (m_now ms) (xs (6 * k + 1)))) (bi (inR (xs (6 * k + 2)) 0 9)), m_is ms, m_um ms, m_bd ms, m_pc ms, m_pa ms, m_sz ms, m_cu ms, m_st ms, m_tk ms, m_to ms, m_ps ms, m_now ms, y0, m_und ms, m_sav ms, m_isv ms, m_buf ms, m_grp ms, m_pag ms⟩ : MM) ∧ τ2 = mc b9 ms2 τ1 := ⟨_, rfl, e2⟩
  subst e1
  have hH2 : HS g τ2 x b9 hb (kM ms) ms2 oa1 oD := by rw [em2]; exact hH1.mc
  have hz2 : (kM ms) = kM ms2 := ((congrArg (fun z : MM => kM z) ems).trans rfl).symm
  have hthr : m_thr ms2 = mayT (m_is ms) (bi (okF (m_is ms) (m_now ms) (xs (6 * k + 1)))) (bi (inR (xs (6 * k + 2)) 0 9)) := (congrArg (fun z : MM => m_thr z) ems).trans rfl
  have hst2 := ((congrArg (fun z : MM => m_st z) ems).trans rfl).trans hst
  refine A_istore dL_law_2151 (Nat.le_of_ble_eq_true rfl) ?_
  refine A_aload_n (i := 2) dL_law_2153 rfl rfl ?_
  refine A_st (σ' := mc b9 ms2 τ2) hH2.2.1.symm ?_
  refine A_callV0E (b' := b + 40826) (v := some (.int (m_thr ms2))) (τ := mc b9 ms2 τ2) (c_thrown b9 ms2 τ2) tX2_thrown q2291 (mc_0 _ _ _) rfl rfl dL_law_2154 (by decide) (by omega) (Nat.le_of_ble_eq_true rfl) ?_
  refine A_st (σ' := τ2) hH2.2.1 ?_
  refine A_iload dL_law_2157 rfl ?_
  refine A_icmp_eq_t (tgt := 2164) dL_law_2159 (by decide) (hthr) ?_
  refine A_iload dL_law_2164 rfl ?_
  refine A_if_ne (tgt := 2181) dL_law_2166 (by decide) (fun c1 => ?_) (fun c1 => ?_)
  · skip
    refine A_goto (tgt := 3776) dL_law_2181 (by decide) ?_
    refine A_sub (L' := [(0, .ref bs), (1, .ref x), (2, .ref b9), (3, .ref (b9 + 9)), (4, .ref (b9 + 10)), (5, .int (nI (6 * k)))]) ⟨rfl, rfl, rfl, rfl, rfl, rfl, trivial⟩ ?_
    refine A_less (b' := b) (by omega) ?_
    exact kk τ2 ⟨ms2, oa1, oD, _, by rw [← hz2]; exact hH2, hst2⟩
  · skip
    refine A_aload_n (i := 3) dL_law_2169 rfl rfl ?_
    refine A_iconst (v := 0) dL_law_2170 (by decide) ?_
    refine A_lald hH2.2.2.1 (by unfold vp_in; decide) dL_law_2171 ?_
    refine A_iload dL_law_2172 rfl ?_
    refine A_i2l dL_law_2174 rfl ?_
    refine A_lcmp dL_law_2175 ?_
    refine A_if_eq_t (tgt := 2181) dL_law_2176 (by decide) (by rw [show oa1 (0 : Int32).toNatClampNeg = _ from hv1 c1]; rw [gd_0 (show mayT (m_is ms) (bi (okF (m_is ms) (m_now ms) (xs (6 * k + 1)))) (bi (inR (xs (6 * k + 2)) 0 9)) = 0 from c1)]; exact lg_self _) ?_
    refine A_goto (tgt := 3776) dL_law_2181 (by decide) ?_
    refine A_sub (L' := [(0, .ref bs), (1, .ref x), (2, .ref b9), (3, .ref (b9 + 9)), (4, .ref (b9 + 10)), (5, .int (nI (6 * k)))]) ⟨rfl, rfl, rfl, rfl, rfl, rfl, trivial⟩ ?_
    refine A_less (b' := b) (by omega) ?_
    exact kk τ2 ⟨ms2, oa1, oD, _, by rw [← hz2]; exact hH2, hst2⟩
theorem t_fallsIn {l : Launch} {g : GC} {b : Nat} {Q : Option Value → AH → Prop} {X : String → Nat → AH → Prop} (σ : AH) (x b9 hb bs k n : Nat) (xs : Nat → Int32) (hs : o_arr g .int bs n (fun j => .int (xs j))) (hk : 6 * k + 6 ≤ n) (hn : n ≤ 144) (hhb : hb < 2 ^ 30) (hT : TI g x b9 hb σ) (kk : ∀ τ, TI g x b9 hb τ → AW l g mLaw 60 b Q X 3776 [(0, .ref bs), (1, .ref x), (2, .ref b9), (3, .ref (b9 + 9)), (4, .ref (b9 + 10)), (5, .int (nI (6 * k)))] [] τ) : AW l g mLaw 60 (b + 41000) Q X 2184 [(0, .ref bs), (1, .ref x), (2, .ref b9), (3, .ref (b9 + 9)), (4, .ref (b9 + 10)), (5, .int (nI (6 * k)))] [] σ := by
  obtain ⟨ms, oa, oD, s0, hH, hst⟩ := hT
  have hwf := hH.wfc
  refine A_aload_n (i := 1) dL_law_2184 rfl rfl ?_
  refine A_aload_n (i := 0) dL_law_2185 rfl rfl ?_
  refine A_iload dL_law_2186 rfl ?_
  refine A_iconst (v := 1) dL_law_2188 (by decide) ?_
  refine A_iadd dL_law_2189 ?_
  refine A_int (w := nI ((6 * k) + 1)) (nI_add (6 * k) 1) ?_
  refine A_ialdO hs (vp_in_nI (by omega) (by omega)) (v := .int (xs (6 * k + 1))) (by rw [nI_clamp (by omega)]) dL_law_2190 ?_
  refine A_aload_n (i := 3) dL_law_2191 rfl rfl ?_
  refine A_callSH3 (b' := b + 40828) (o_fallsIn σ x b9 hb ms oa oD (xs (6 * k + 1)) hhb hH) tX0_fallsIn (by decide) q1844 dL_law_2192 (by decide) (by omega) (Nat.le_of_ble_eq_true rfl) (fun w9 τ1 h9 => ?_) (fun E9 q9 τ9 h9 => h9.elim)
  obtain ⟨e1, oa1, hH1, hv1⟩ := h9
  subst e1
  refine A_istore dL_law_2195 (Nat.le_of_ble_eq_true rfl) ?_
  refine A_aload_n (i := 2) dL_law_2197 rfl rfl ?_
  refine A_aload_n (i := 0) dL_law_2198 rfl rfl ?_
  refine A_iload dL_law_2199 rfl ?_
  refine A_iconst (v := 1) dL_law_2201 (by decide) ?_
  refine A_iadd dL_law_2202 ?_
  refine A_int (w := nI ((6 * k) + 1)) (nI_add (6 * k) 1) ?_
  refine A_ialdO hs (vp_in_nI (by omega) (by omega)) (v := .int (xs (6 * k + 1))) (by rw [nI_clamp (by omega)]) dL_law_2203 ?_
  refine A_st (σ' := mc b9 ms τ1) hH1.2.1.symm ?_
  refine A_callV1 (b' := b + 40828) (c_fallsIn b9 ms τ1 (xs (6 * k + 1)) hwf.1.1) tX2_fallsIn q2808 (mc_0 _ _ _) rfl rfl dL_law_2204 (by decide) (by omega) (Nat.le_of_ble_eq_true rfl) (fun w9 τ2 h9 => ?_) (fun E9 q9 τ9 h9 => h9.elim)
  obtain ⟨y0, e1, e2⟩ := h9
  obtain ⟨ms2, ems, em2⟩ : ∃ ms2 : MM, ms2 = (⟨mayT (m_is ms) (bi (inR (xs (6 * k + 1)) 0 99)) 1, m_is ms, m_um ms, m_bd ms, m_pc ms, m_pa ms, m_sz ms, m_cu ms, m_st ms, m_tk ms, m_to ms, m_ps ms, m_now ms, y0, m_und ms, m_sav ms, m_isv ms, m_buf ms, m_grp ms, m_pag ms⟩ : MM) ∧ τ2 = mc b9 ms2 τ1 := ⟨_, rfl, e2⟩
  subst e1
  have hH2 : HS g τ2 x b9 hb (kM ms) ms2 oa1 oD := by rw [em2]; exact hH1.mc
  have hz2 : (kM ms) = kM ms2 := ((congrArg (fun z : MM => kM z) ems).trans rfl).symm
  have hthr : m_thr ms2 = mayT (m_is ms) (bi (inR (xs (6 * k + 1)) 0 99)) 1 := (congrArg (fun z : MM => m_thr z) ems).trans rfl
  have hst2 := ((congrArg (fun z : MM => m_st z) ems).trans rfl).trans hst
  refine A_istore dL_law_2207 (Nat.le_of_ble_eq_true rfl) ?_
  refine A_aload_n (i := 2) dL_law_2209 rfl rfl ?_
  refine A_st (σ' := mc b9 ms2 τ2) hH2.2.1.symm ?_
  refine A_callV0E (b' := b + 40828) (v := some (.int (m_thr ms2))) (τ := mc b9 ms2 τ2) (c_thrown b9 ms2 τ2) tX2_thrown q2291 (mc_0 _ _ _) rfl rfl dL_law_2210 (by decide) (by omega) (Nat.le_of_ble_eq_true rfl) ?_
  refine A_st (σ' := τ2) hH2.2.1 ?_
  refine A_iload dL_law_2213 rfl ?_
  refine A_icmp_eq_t (tgt := 2220) dL_law_2215 (by decide) (hthr) ?_
  refine A_iload dL_law_2220 rfl ?_
  refine A_if_ne (tgt := 2237) dL_law_2222 (by decide) (fun c1 => ?_) (fun c1 => ?_)
  · skip
    refine A_goto (tgt := 3776) dL_law_2237 (by decide) ?_
    refine A_sub (L' := [(0, .ref bs), (1, .ref x), (2, .ref b9), (3, .ref (b9 + 9)), (4, .ref (b9 + 10)), (5, .int (nI (6 * k)))]) ⟨rfl, rfl, rfl, rfl, rfl, rfl, trivial⟩ ?_
    refine A_less (b' := b) (by omega) ?_
    exact kk τ2 ⟨ms2, oa1, oD, _, by rw [← hz2]; exact hH2, hst2⟩
  · skip
    refine A_aload_n (i := 3) dL_law_2225 rfl rfl ?_
    refine A_iconst (v := 0) dL_law_2226 (by decide) ?_
    refine A_lald hH2.2.2.1 (by unfold vp_in; decide) dL_law_2227 ?_
    refine A_iload dL_law_2228 rfl ?_
    refine A_i2l dL_law_2230 rfl ?_
    refine A_lcmp dL_law_2231 ?_
    refine A_if_eq_t (tgt := 2237) dL_law_2232 (by decide) (by rw [show oa1 (0 : Int32).toNatClampNeg = _ from hv1 c1]; rw [gd_0 (show mayT (m_is ms) (bi (inR (xs (6 * k + 1)) 0 99)) 1 = 0 from c1)]; exact lg_self _) ?_
    refine A_goto (tgt := 3776) dL_law_2237 (by decide) ?_
    refine A_sub (L' := [(0, .ref bs), (1, .ref x), (2, .ref b9), (3, .ref (b9 + 9)), (4, .ref (b9 + 10)), (5, .int (nI (6 * k)))]) ⟨rfl, rfl, rfl, rfl, rfl, rfl, trivial⟩ ?_
    refine A_less (b' := b) (by omega) ?_
    exact kk τ2 ⟨ms2, oa1, oD, _, by rw [← hz2]; exact hH2, hst2⟩
theorem t_payIf {l : Launch} {g : GC} {b : Nat} {Q : Option Value → AH → Prop} {X : String → Nat → AH → Prop} (σ : AH) (x b9 hb bs k n : Nat) (xs : Nat → Int32) (hs : o_arr g .int bs n (fun j => .int (xs j))) (hk : 6 * k + 6 ≤ n) (hn : n ≤ 144) (hhb : hb < 2 ^ 30) (hT : TI g x b9 hb σ) (kk : ∀ τ, TI g x b9 hb τ → AW l g mLaw 60 b Q X 3776 [(0, .ref bs), (1, .ref x), (2, .ref b9), (3, .ref (b9 + 9)), (4, .ref (b9 + 10)), (5, .int (nI (6 * k)))] [] τ) : AW l g mLaw 60 (b + 41000) Q X 2240 [(0, .ref bs), (1, .ref x), (2, .ref b9), (3, .ref (b9 + 9)), (4, .ref (b9 + 10)), (5, .int (nI (6 * k)))] [] σ := by
  obtain ⟨ms, oa, oD, s0, hH, hst⟩ := hT
  have hwf := hH.wfc
  refine A_aload_n (i := 1) dL_law_2240 rfl rfl ?_
  refine A_aload_n (i := 0) dL_law_2241 rfl rfl ?_
  refine A_iload dL_law_2242 rfl ?_
  refine A_iconst (v := 1) dL_law_2244 (by decide) ?_
  refine A_iadd dL_law_2245 ?_
  refine A_int (w := nI ((6 * k) + 1)) (nI_add (6 * k) 1) ?_
  refine A_ialdO hs (vp_in_nI (by omega) (by omega)) (v := .int (xs (6 * k + 1))) (by rw [nI_clamp (by omega)]) dL_law_2246 ?_
  refine A_aload_n (i := 0) dL_law_2247 rfl rfl ?_
  refine A_iload dL_law_2248 rfl ?_
  refine A_iconst (v := 2) dL_law_2250 (by decide) ?_
  refine A_iadd dL_law_2251 ?_
  refine A_int (w := nI ((6 * k) + 2)) (nI_add (6 * k) 2) ?_
  refine A_ialdO hs (vp_in_nI (by omega) (by omega)) (v := .int (xs (6 * k + 2))) (by rw [nI_clamp (by omega)]) dL_law_2252 ?_
  refine A_aload_n (i := 3) dL_law_2253 rfl rfl ?_
  refine A_callSH4 (b' := b + 40998) (o_payIf σ x b9 hb ms oa oD (xs (6 * k + 1)) (xs (6 * k + 2)) hhb hH) tX0_payIf (by decide) q1853 dL_law_2254 (by decide) (by omega) (Nat.le_of_ble_eq_true rfl) (fun w9 τ1 h9 => ?_) (fun E9 q9 τ9 h9 => h9.elim)
  obtain ⟨e1, oa1, hH1, hv1⟩ := h9
  subst e1
  refine A_istore dL_law_2257 (Nat.le_of_ble_eq_true rfl) ?_
  refine A_aload_n (i := 2) dL_law_2259 rfl rfl ?_
  refine A_aload_n (i := 0) dL_law_2260 rfl rfl ?_
  refine A_iload dL_law_2261 rfl ?_
  refine A_iconst (v := 1) dL_law_2263 (by decide) ?_
  refine A_iadd dL_law_2264 ?_
  refine A_int (w := nI ((6 * k) + 1)) (nI_add (6 * k) 1) ?_
  refine A_ialdO hs (vp_in_nI (by omega) (by omega)) (v := .int (xs (6 * k + 1))) (by rw [nI_clamp (by omega)]) dL_law_2265 ?_
  refine A_aload_n (i := 0) dL_law_2266 rfl rfl ?_
  refine A_iload dL_law_2267 rfl ?_
  refine A_iconst (v := 2) dL_law_2269 (by decide) ?_
  refine A_iadd dL_law_2270 ?_
  refine A_int (w := nI ((6 * k) + 2)) (nI_add (6 * k) 2) ?_
  refine A_ialdO hs (vp_in_nI (by omega) (by omega)) (v := .int (xs (6 * k + 2))) (by rw [nI_clamp (by omega)]) dL_law_2271 ?_
  refine A_st (σ' := mc b9 ms τ1) hH1.2.1.symm ?_
  refine A_callV2 (b' := b + 40998) (c_payIf b9 ms τ1 (xs (6 * k + 1)) (xs (6 * k + 2)) hwf.1.1) tX2_payIf q2812 (mc_0 _ _ _) rfl rfl dL_law_2272 (by decide) (by omega) (Nat.le_of_ble_eq_true rfl) (fun w9 τ2 h9 => ?_) (fun E9 q9 τ9 h9 => h9.elim)
  obtain ⟨e1, e2⟩ := h9
  obtain ⟨ms2, ems, em2⟩ : ∃ ms2 : MM, ms2 = (⟨mayT (m_is ms) (bi (okN (m_is ms) (m_now ms) (xs (6 * k + 1)))) (bi (inR (xs (6 * k + 2)) 0 99)), m_is ms, m_um ms, m_bd ms, m_pc ms, m_pa ms, m_sz ms, m_cu ms, m_st ms, m_tk ms, m_to ms, m_ps ms, m_now ms, m_asd ms, m_und ms, m_sav ms, m_isv ms, m_buf ms, m_grp ms, m_pag ms⟩ : MM) ∧ τ2 = mc b9 ms2 τ1 := ⟨_, rfl, e2⟩
  subst e1
  have hH2 : HS g τ2 x b9 hb (kM ms) ms2 oa1 oD := by rw [em2]; exact hH1.mc
  have hz2 : (kM ms) = kM ms2 := ((congrArg (fun z : MM => kM z) ems).trans rfl).symm
  have hthr : m_thr ms2 = mayT (m_is ms) (bi (okN (m_is ms) (m_now ms) (xs (6 * k + 1)))) (bi (inR (xs (6 * k + 2)) 0 99)) := (congrArg (fun z : MM => m_thr z) ems).trans rfl
  have hst2 := ((congrArg (fun z : MM => m_st z) ems).trans rfl).trans hst
  refine A_istore dL_law_2275 (Nat.le_of_ble_eq_true rfl) ?_
  refine A_aload_n (i := 2) dL_law_2277 rfl rfl ?_
  refine A_st (σ' := mc b9 ms2 τ2) hH2.2.1.symm ?_
  refine A_callV0E (b' := b + 40998) (v := some (.int (m_thr ms2))) (τ := mc b9 ms2 τ2) (c_thrown b9 ms2 τ2) tX2_thrown q2291 (mc_0 _ _ _) rfl rfl dL_law_2278 (by decide) (by omega) (Nat.le_of_ble_eq_true rfl) ?_
  refine A_st (σ' := τ2) hH2.2.1 ?_
  refine A_iload dL_law_2281 rfl ?_
  refine A_icmp_eq_t (tgt := 2288) dL_law_2283 (by decide) (hthr) ?_
  refine A_iload dL_law_2288 rfl ?_
  refine A_if_ne (tgt := 2305) dL_law_2290 (by decide) (fun c1 => ?_) (fun c1 => ?_)
  · skip
    refine A_goto (tgt := 3776) dL_law_2305 (by decide) ?_
    refine A_sub (L' := [(0, .ref bs), (1, .ref x), (2, .ref b9), (3, .ref (b9 + 9)), (4, .ref (b9 + 10)), (5, .int (nI (6 * k)))]) ⟨rfl, rfl, rfl, rfl, rfl, rfl, trivial⟩ ?_
    refine A_less (b' := b) (by omega) ?_
    exact kk τ2 ⟨ms2, oa1, oD, _, by rw [← hz2]; exact hH2, hst2⟩
  · skip
    refine A_aload_n (i := 3) dL_law_2293 rfl rfl ?_
    refine A_iconst (v := 0) dL_law_2294 (by decide) ?_
    refine A_lald hH2.2.2.1 (by unfold vp_in; decide) dL_law_2295 ?_
    refine A_iload dL_law_2296 rfl ?_
    refine A_i2l dL_law_2298 rfl ?_
    refine A_lcmp dL_law_2299 ?_
    refine A_if_eq_t (tgt := 2305) dL_law_2300 (by decide) (by rw [show oa1 (0 : Int32).toNatClampNeg = _ from hv1 c1]; rw [gd_0 (show mayT (m_is ms) (bi (okN (m_is ms) (m_now ms) (xs (6 * k + 1)))) (bi (inR (xs (6 * k + 2)) 0 99)) = 0 from c1)]; exact lg_self _) ?_
    refine A_goto (tgt := 3776) dL_law_2305 (by decide) ?_
    refine A_sub (L' := [(0, .ref bs), (1, .ref x), (2, .ref b9), (3, .ref (b9 + 9)), (4, .ref (b9 + 10)), (5, .int (nI (6 * k)))]) ⟨rfl, rfl, rfl, rfl, rfl, rfl, trivial⟩ ?_
    refine A_less (b' := b) (by omega) ?_
    exact kk τ2 ⟨ms2, oa1, oD, _, by rw [← hz2]; exact hH2, hst2⟩
theorem t_latest {l : Launch} {g : GC} {b : Nat} {Q : Option Value → AH → Prop} {X : String → Nat → AH → Prop} (σ : AH) (x b9 hb bs k n : Nat) (xs : Nat → Int32) (hs : o_arr g .int bs n (fun j => .int (xs j))) (hk : 6 * k + 6 ≤ n) (hn : n ≤ 144) (hhb : hb < 2 ^ 30) (hT : TI g x b9 hb σ) (kk : ∀ τ, TI g x b9 hb τ → AW l g mLaw 60 b Q X 3776 [(0, .ref bs), (1, .ref x), (2, .ref b9), (3, .ref (b9 + 9)), (4, .ref (b9 + 10)), (5, .int (nI (6 * k)))] [] τ) : AW l g mLaw 60 (b + 41000) Q X 2308 [(0, .ref bs), (1, .ref x), (2, .ref b9), (3, .ref (b9 + 9)), (4, .ref (b9 + 10)), (5, .int (nI (6 * k)))] [] σ := by
  obtain ⟨ms, oa, oD, s0, hH, hst⟩ := hT
  have hwf := hH.wfc
  refine A_aload_n (i := 1) dL_law_2308 rfl rfl ?_
  refine A_aload_n (i := 0) dL_law_2309 rfl rfl ?_
  refine A_iload dL_law_2310 rfl ?_
  refine A_iconst (v := 1) dL_law_2312 (by decide) ?_
  refine A_iadd dL_law_2313 ?_
  refine A_int (w := nI ((6 * k) + 1)) (nI_add (6 * k) 1) ?_
  refine A_ialdO hs (vp_in_nI (by omega) (by omega)) (v := .int (xs (6 * k + 1))) (by rw [nI_clamp (by omega)]) dL_law_2314 ?_
  refine A_aload_n (i := 3) dL_law_2315 rfl rfl ?_
  refine A_callSH3 (b' := b + 40998) (o_latest σ x b9 hb ms oa oD (xs (6 * k + 1)) hhb hH) tX0_latest (by decide) q1865 dL_law_2316 (by decide) (by omega) (Nat.le_of_ble_eq_true rfl) (fun w9 τ1 h9 => ?_) (fun E9 q9 τ9 h9 => h9.elim)
  obtain ⟨e1, oa1, hH1, hv1⟩ := h9
  subst e1
  refine A_istore dL_law_2319 (Nat.le_of_ble_eq_true rfl) ?_
  refine A_aload_n (i := 2) dL_law_2321 rfl rfl ?_
  refine A_aload_n (i := 0) dL_law_2322 rfl rfl ?_
  refine A_iload dL_law_2323 rfl ?_
  refine A_iconst (v := 1) dL_law_2325 (by decide) ?_
  refine A_iadd dL_law_2326 ?_
  refine A_int (w := nI ((6 * k) + 1)) (nI_add (6 * k) 1) ?_
  refine A_ialdO hs (vp_in_nI (by omega) (by omega)) (v := .int (xs (6 * k + 1))) (by rw [nI_clamp (by omega)]) dL_law_2327 ?_
  refine A_st (σ' := mc b9 ms τ1) hH1.2.1.symm ?_
  refine A_callV1 (b' := b + 40998) (c_latest b9 ms τ1 (xs (6 * k + 1)) hwf.1.1) tX2_latest q2824 (mc_0 _ _ _) rfl rfl dL_law_2328 (by decide) (by omega) (Nat.le_of_ble_eq_true rfl) (fun w9 τ2 h9 => ?_) (fun E9 q9 τ9 h9 => h9.elim)
  obtain ⟨e1, e2⟩ := h9
  obtain ⟨ms2, ems, em2⟩ : ∃ ms2 : MM, ms2 = (⟨mayT (m_is ms) (bi (okN (m_is ms) (m_now ms) (xs (6 * k + 1)))) 1, m_is ms, m_um ms, m_bd ms, m_pc ms, m_pa ms, m_sz ms, m_cu ms, m_st ms, m_tk ms, m_to ms, m_ps ms, m_now ms, m_asd ms, m_und ms, m_sav ms, m_isv ms, m_buf ms, m_grp ms, m_pag ms⟩ : MM) ∧ τ2 = mc b9 ms2 τ1 := ⟨_, rfl, e2⟩
  subst e1
  have hH2 : HS g τ2 x b9 hb (kM ms) ms2 oa1 oD := by rw [em2]; exact hH1.mc
  have hz2 : (kM ms) = kM ms2 := ((congrArg (fun z : MM => kM z) ems).trans rfl).symm
  have hthr : m_thr ms2 = mayT (m_is ms) (bi (okN (m_is ms) (m_now ms) (xs (6 * k + 1)))) 1 := (congrArg (fun z : MM => m_thr z) ems).trans rfl
  have hst2 := ((congrArg (fun z : MM => m_st z) ems).trans rfl).trans hst
  refine A_istore dL_law_2331 (Nat.le_of_ble_eq_true rfl) ?_
  refine A_aload_n (i := 2) dL_law_2333 rfl rfl ?_
  refine A_st (σ' := mc b9 ms2 τ2) hH2.2.1.symm ?_
  refine A_callV0E (b' := b + 40998) (v := some (.int (m_thr ms2))) (τ := mc b9 ms2 τ2) (c_thrown b9 ms2 τ2) tX2_thrown q2291 (mc_0 _ _ _) rfl rfl dL_law_2334 (by decide) (by omega) (Nat.le_of_ble_eq_true rfl) ?_
  refine A_st (σ' := τ2) hH2.2.1 ?_
  refine A_iload dL_law_2337 rfl ?_
  refine A_icmp_eq_t (tgt := 2344) dL_law_2339 (by decide) (hthr) ?_
  refine A_iload dL_law_2344 rfl ?_
  refine A_if_ne (tgt := 2361) dL_law_2346 (by decide) (fun c1 => ?_) (fun c1 => ?_)
  · skip
    refine A_goto (tgt := 3776) dL_law_2361 (by decide) ?_
    refine A_sub (L' := [(0, .ref bs), (1, .ref x), (2, .ref b9), (3, .ref (b9 + 9)), (4, .ref (b9 + 10)), (5, .int (nI (6 * k)))]) ⟨rfl, rfl, rfl, rfl, rfl, rfl, trivial⟩ ?_
    refine A_less (b' := b) (by omega) ?_
    exact kk τ2 ⟨ms2, oa1, oD, _, by rw [← hz2]; exact hH2, hst2⟩
  · skip
    refine A_aload_n (i := 3) dL_law_2349 rfl rfl ?_
    refine A_iconst (v := 0) dL_law_2350 (by decide) ?_
    refine A_lald hH2.2.2.1 (by unfold vp_in; decide) dL_law_2351 ?_
    refine A_iload dL_law_2352 rfl ?_
    refine A_i2l dL_law_2354 rfl ?_
    refine A_lcmp dL_law_2355 ?_
    refine A_if_eq_t (tgt := 2361) dL_law_2356 (by decide) (by rw [show oa1 (0 : Int32).toNatClampNeg = _ from hv1 c1]; rw [gd_0 (show mayT (m_is ms) (bi (okN (m_is ms) (m_now ms) (xs (6 * k + 1)))) 1 = 0 from c1)]; exact lg_self _) ?_
    refine A_goto (tgt := 3776) dL_law_2361 (by decide) ?_
    refine A_sub (L' := [(0, .ref bs), (1, .ref x), (2, .ref b9), (3, .ref (b9 + 9)), (4, .ref (b9 + 10)), (5, .int (nI (6 * k)))]) ⟨rfl, rfl, rfl, rfl, rfl, rfl, trivial⟩ ?_
    refine A_less (b' := b) (by omega) ?_
    exact kk τ2 ⟨ms2, oa1, oD, _, by rw [← hz2]; exact hH2, hst2⟩
theorem t_dearest {l : Launch} {g : GC} {b : Nat} {Q : Option Value → AH → Prop} {X : String → Nat → AH → Prop} (σ : AH) (x b9 hb bs k n : Nat) (xs : Nat → Int32) (hs : o_arr g .int bs n (fun j => .int (xs j))) (hk : 6 * k + 6 ≤ n) (hn : n ≤ 144) (hhb : hb < 2 ^ 30) (hT : TI g x b9 hb σ) (kk : ∀ τ, TI g x b9 hb τ → AW l g mLaw 60 b Q X 3776 [(0, .ref bs), (1, .ref x), (2, .ref b9), (3, .ref (b9 + 9)), (4, .ref (b9 + 10)), (5, .int (nI (6 * k)))] [] τ) : AW l g mLaw 60 (b + 41000) Q X 2364 [(0, .ref bs), (1, .ref x), (2, .ref b9), (3, .ref (b9 + 9)), (4, .ref (b9 + 10)), (5, .int (nI (6 * k)))] [] σ := by
  obtain ⟨ms, oa, oD, s0, hH, hst⟩ := hT
  have hwf := hH.wfc
  refine A_aload_n (i := 1) dL_law_2364 rfl rfl ?_
  refine A_aload_n (i := 3) dL_law_2365 rfl rfl ?_
  refine A_callSH2 (b' := b + 40994) (o_dearest σ x b9 hb ms oa oD hhb hH) tX0_dearest (by decide) q1872 dL_law_2366 (by decide) (by omega) (Nat.le_of_ble_eq_true rfl) (fun w9 τ1 h9 => ?_) (fun E9 q9 τ9 h9 => h9.elim)
  obtain ⟨e1, oa1, hH1, hv1⟩ := h9
  subst e1
  refine A_istore dL_law_2369 (Nat.le_of_ble_eq_true rfl) ?_
  refine A_aload_n (i := 2) dL_law_2371 rfl rfl ?_
  refine A_st (σ' := mc b9 ms τ1) hH1.2.1.symm ?_
  refine A_callV0 (b' := b + 40994) (c_dearest b9 ms τ1 hwf.1.1) tX2_dearest q2832 (mc_0 _ _ _) rfl rfl dL_law_2372 (by decide) (by omega) (Nat.le_of_ble_eq_true rfl) (fun w9 τ2 h9 => ?_) (fun E9 q9 τ9 h9 => h9.elim)
  obtain ⟨e1, e2⟩ := h9
  obtain ⟨ms2, ems, em2⟩ : ∃ ms2 : MM, ms2 = (⟨mayT (m_is ms) 1 1, m_is ms, m_um ms, m_bd ms, m_pc ms, m_pa ms, m_sz ms, m_cu ms, m_st ms, m_tk ms, m_to ms, m_ps ms, m_now ms, m_asd ms, m_und ms, m_sav ms, m_isv ms, m_buf ms, m_grp ms, m_pag ms⟩ : MM) ∧ τ2 = mc b9 ms2 τ1 := ⟨_, rfl, e2⟩
  subst e1
  have hH2 : HS g τ2 x b9 hb (kM ms) ms2 oa1 oD := by rw [em2]; exact hH1.mc
  have hz2 : (kM ms) = kM ms2 := ((congrArg (fun z : MM => kM z) ems).trans rfl).symm
  have hthr : m_thr ms2 = mayT (m_is ms) 1 1 := (congrArg (fun z : MM => m_thr z) ems).trans rfl
  have hst2 := ((congrArg (fun z : MM => m_st z) ems).trans rfl).trans hst
  refine A_istore dL_law_2375 (Nat.le_of_ble_eq_true rfl) ?_
  refine A_aload_n (i := 2) dL_law_2377 rfl rfl ?_
  refine A_st (σ' := mc b9 ms2 τ2) hH2.2.1.symm ?_
  refine A_callV0E (b' := b + 40994) (v := some (.int (m_thr ms2))) (τ := mc b9 ms2 τ2) (c_thrown b9 ms2 τ2) tX2_thrown q2291 (mc_0 _ _ _) rfl rfl dL_law_2378 (by decide) (by omega) (Nat.le_of_ble_eq_true rfl) ?_
  refine A_st (σ' := τ2) hH2.2.1 ?_
  refine A_iload dL_law_2381 rfl ?_
  refine A_icmp_eq_t (tgt := 2388) dL_law_2383 (by decide) (hthr) ?_
  refine A_iload dL_law_2388 rfl ?_
  refine A_if_ne (tgt := 2405) dL_law_2390 (by decide) (fun c1 => ?_) (fun c1 => ?_)
  · skip
    refine A_goto (tgt := 3776) dL_law_2405 (by decide) ?_
    refine A_sub (L' := [(0, .ref bs), (1, .ref x), (2, .ref b9), (3, .ref (b9 + 9)), (4, .ref (b9 + 10)), (5, .int (nI (6 * k)))]) ⟨rfl, rfl, rfl, rfl, rfl, rfl, trivial⟩ ?_
    refine A_less (b' := b) (by omega) ?_
    exact kk τ2 ⟨ms2, oa1, oD, _, by rw [← hz2]; exact hH2, hst2⟩
  · skip
    refine A_aload_n (i := 3) dL_law_2393 rfl rfl ?_
    refine A_iconst (v := 0) dL_law_2394 (by decide) ?_
    refine A_lald hH2.2.2.1 (by unfold vp_in; decide) dL_law_2395 ?_
    refine A_iload dL_law_2396 rfl ?_
    refine A_i2l dL_law_2398 rfl ?_
    refine A_lcmp dL_law_2399 ?_
    refine A_if_eq_t (tgt := 2405) dL_law_2400 (by decide) (by rw [show oa1 (0 : Int32).toNatClampNeg = _ from hv1 c1]; rw [gd_0 (show mayT (m_is ms) 1 1 = 0 from c1)]; exact lg_self _) ?_
    refine A_goto (tgt := 3776) dL_law_2405 (by decide) ?_
    refine A_sub (L' := [(0, .ref bs), (1, .ref x), (2, .ref b9), (3, .ref (b9 + 9)), (4, .ref (b9 + 10)), (5, .int (nI (6 * k)))]) ⟨rfl, rfl, rfl, rfl, rfl, rfl, trivial⟩ ?_
    refine A_less (b' := b) (by omega) ?_
    exact kk τ2 ⟨ms2, oa1, oD, _, by rw [← hz2]; exact hH2, hst2⟩
theorem t_ironsFor {l : Launch} {g : GC} {b : Nat} {Q : Option Value → AH → Prop} {X : String → Nat → AH → Prop} (σ : AH) (x b9 hb bs k n : Nat) (xs : Nat → Int32) (hs : o_arr g .int bs n (fun j => .int (xs j))) (hk : 6 * k + 6 ≤ n) (hn : n ≤ 144) (hhb : hb < 2 ^ 30) (hT : TI g x b9 hb σ) (kk : ∀ τ, TI g x b9 hb τ → AW l g mLaw 60 b Q X 3776 [(0, .ref bs), (1, .ref x), (2, .ref b9), (3, .ref (b9 + 9)), (4, .ref (b9 + 10)), (5, .int (nI (6 * k)))] [] τ) : AW l g mLaw 60 (b + 41000) Q X 2408 [(0, .ref bs), (1, .ref x), (2, .ref b9), (3, .ref (b9 + 9)), (4, .ref (b9 + 10)), (5, .int (nI (6 * k)))] [] σ := by
  obtain ⟨ms, oa, oD, s0, hH, hst⟩ := hT
  have hwf := hH.wfc
  refine A_aload_n (i := 1) dL_law_2408 rfl rfl ?_
  refine A_aload_n (i := 0) dL_law_2409 rfl rfl ?_
  refine A_iload dL_law_2410 rfl ?_
  refine A_iconst (v := 1) dL_law_2412 (by decide) ?_
  refine A_iadd dL_law_2413 ?_
  refine A_int (w := nI ((6 * k) + 1)) (nI_add (6 * k) 1) ?_
  refine A_ialdO hs (vp_in_nI (by omega) (by omega)) (v := .int (xs (6 * k + 1))) (by rw [nI_clamp (by omega)]) dL_law_2414 ?_
  refine A_aload_n (i := 0) dL_law_2415 rfl rfl ?_
  refine A_iload dL_law_2416 rfl ?_
  refine A_iconst (v := 2) dL_law_2418 (by decide) ?_
  refine A_iadd dL_law_2419 ?_
  refine A_int (w := nI ((6 * k) + 2)) (nI_add (6 * k) 2) ?_
  refine A_ialdO hs (vp_in_nI (by omega) (by omega)) (v := .int (xs (6 * k + 2))) (by rw [nI_clamp (by omega)]) dL_law_2420 ?_
  refine A_aload_n (i := 3) dL_law_2421 rfl rfl ?_
  refine A_callSH4 (b' := b + 40992) (o_ironsFor σ x b9 hb ms oa oD (xs (6 * k + 1)) (xs (6 * k + 2)) hhb hH) tX0_ironsFor (by decide) q1879 dL_law_2422 (by decide) (by omega) (Nat.le_of_ble_eq_true rfl) (fun w9 τ1 h9 => ?_) (fun E9 q9 τ9 h9 => h9.elim)
  obtain ⟨e1, oa1, hH1, hv1⟩ := h9
  subst e1
  refine A_istore dL_law_2425 (Nat.le_of_ble_eq_true rfl) ?_
  refine A_aload_n (i := 2) dL_law_2427 rfl rfl ?_
  refine A_aload_n (i := 0) dL_law_2428 rfl rfl ?_
  refine A_iload dL_law_2429 rfl ?_
  refine A_iconst (v := 1) dL_law_2431 (by decide) ?_
  refine A_iadd dL_law_2432 ?_
  refine A_int (w := nI ((6 * k) + 1)) (nI_add (6 * k) 1) ?_
  refine A_ialdO hs (vp_in_nI (by omega) (by omega)) (v := .int (xs (6 * k + 1))) (by rw [nI_clamp (by omega)]) dL_law_2433 ?_
  refine A_aload_n (i := 0) dL_law_2434 rfl rfl ?_
  refine A_iload dL_law_2435 rfl ?_
  refine A_iconst (v := 2) dL_law_2437 (by decide) ?_
  refine A_iadd dL_law_2438 ?_
  refine A_int (w := nI ((6 * k) + 2)) (nI_add (6 * k) 2) ?_
  refine A_ialdO hs (vp_in_nI (by omega) (by omega)) (v := .int (xs (6 * k + 2))) (by rw [nI_clamp (by omega)]) dL_law_2439 ?_
  refine A_st (σ' := mc b9 ms τ1) hH1.2.1.symm ?_
  refine A_callV2 (b' := b + 40992) (c_ironsFor b9 ms τ1 (xs (6 * k + 1)) (xs (6 * k + 2)) hwf.1) tX2_ironsFor q2836 (mc_0 _ _ _) rfl rfl dL_law_2440 (by decide) (by omega) (Nat.le_of_ble_eq_true rfl) (fun w9 τ2 h9 => ?_) (fun E9 q9 τ9 h9 => h9.elim)
  obtain ⟨y0, e1, e2⟩ := h9
  obtain ⟨ms2, ems, em2⟩ : ∃ ms2 : MM, ms2 = (⟨mayT (m_is ms) (bi (okF (m_is ms) (m_now ms) (xs (6 * k + 1)))) (bi (inR (xs (6 * k + 2)) 0 3)), m_is ms, m_um ms, m_bd ms, m_pc ms, m_pa ms, m_sz ms, m_cu ms, m_st ms, m_tk ms, m_to ms, m_ps ms, m_now ms, y0, m_und ms, m_sav ms, m_isv ms, m_buf ms, m_grp ms, m_pag ms⟩ : MM) ∧ τ2 = mc b9 ms2 τ1 := ⟨_, rfl, e2⟩
  subst e1
  have hH2 : HS g τ2 x b9 hb (kM ms) ms2 oa1 oD := by rw [em2]; exact hH1.mc
  have hz2 : (kM ms) = kM ms2 := ((congrArg (fun z : MM => kM z) ems).trans rfl).symm
  have hthr : m_thr ms2 = mayT (m_is ms) (bi (okF (m_is ms) (m_now ms) (xs (6 * k + 1)))) (bi (inR (xs (6 * k + 2)) 0 3)) := (congrArg (fun z : MM => m_thr z) ems).trans rfl
  have hst2 := ((congrArg (fun z : MM => m_st z) ems).trans rfl).trans hst
  refine A_istore dL_law_2443 (Nat.le_of_ble_eq_true rfl) ?_
  refine A_aload_n (i := 2) dL_law_2445 rfl rfl ?_
  refine A_st (σ' := mc b9 ms2 τ2) hH2.2.1.symm ?_
  refine A_callV0E (b' := b + 40992) (v := some (.int (m_thr ms2))) (τ := mc b9 ms2 τ2) (c_thrown b9 ms2 τ2) tX2_thrown q2291 (mc_0 _ _ _) rfl rfl dL_law_2446 (by decide) (by omega) (Nat.le_of_ble_eq_true rfl) ?_
  refine A_st (σ' := τ2) hH2.2.1 ?_
  refine A_iload dL_law_2449 rfl ?_
  refine A_icmp_eq_t (tgt := 2456) dL_law_2451 (by decide) (hthr) ?_
  refine A_iload dL_law_2456 rfl ?_
  refine A_if_ne (tgt := 2473) dL_law_2458 (by decide) (fun c1 => ?_) (fun c1 => ?_)
  · skip
    refine A_goto (tgt := 3776) dL_law_2473 (by decide) ?_
    refine A_sub (L' := [(0, .ref bs), (1, .ref x), (2, .ref b9), (3, .ref (b9 + 9)), (4, .ref (b9 + 10)), (5, .int (nI (6 * k)))]) ⟨rfl, rfl, rfl, rfl, rfl, rfl, trivial⟩ ?_
    refine A_less (b' := b) (by omega) ?_
    exact kk τ2 ⟨ms2, oa1, oD, _, by rw [← hz2]; exact hH2, hst2⟩
  · skip
    refine A_aload_n (i := 3) dL_law_2461 rfl rfl ?_
    refine A_iconst (v := 0) dL_law_2462 (by decide) ?_
    refine A_lald hH2.2.2.1 (by unfold vp_in; decide) dL_law_2463 ?_
    refine A_iload dL_law_2464 rfl ?_
    refine A_i2l dL_law_2466 rfl ?_
    refine A_lcmp dL_law_2467 ?_
    refine A_if_eq_t (tgt := 2473) dL_law_2468 (by decide) (by rw [show oa1 (0 : Int32).toNatClampNeg = _ from hv1 c1]; rw [gd_0 (show mayT (m_is ms) (bi (okF (m_is ms) (m_now ms) (xs (6 * k + 1)))) (bi (inR (xs (6 * k + 2)) 0 3)) = 0 from c1)]; exact lg_self _) ?_
    refine A_goto (tgt := 3776) dL_law_2473 (by decide) ?_
    refine A_sub (L' := [(0, .ref bs), (1, .ref x), (2, .ref b9), (3, .ref (b9 + 9)), (4, .ref (b9 + 10)), (5, .int (nI (6 * k)))]) ⟨rfl, rfl, rfl, rfl, rfl, rfl, trivial⟩ ?_
    refine A_less (b' := b) (by omega) ?_
    exact kk τ2 ⟨ms2, oa1, oD, _, by rw [← hz2]; exact hH2, hst2⟩
theorem t_readyShare {l : Launch} {g : GC} {b : Nat} {Q : Option Value → AH → Prop} {X : String → Nat → AH → Prop} (σ : AH) (x b9 hb bs k n : Nat) (xs : Nat → Int32) (hs : o_arr g .int bs n (fun j => .int (xs j))) (hk : 6 * k + 6 ≤ n) (hn : n ≤ 144) (hhb : hb < 2 ^ 30) (hT : TI g x b9 hb σ) (kk : ∀ τ, TI g x b9 hb τ → AW l g mLaw 60 b Q X 3776 [(0, .ref bs), (1, .ref x), (2, .ref b9), (3, .ref (b9 + 9)), (4, .ref (b9 + 10)), (5, .int (nI (6 * k)))] [] τ) : AW l g mLaw 60 (b + 41000) Q X 2476 [(0, .ref bs), (1, .ref x), (2, .ref b9), (3, .ref (b9 + 9)), (4, .ref (b9 + 10)), (5, .int (nI (6 * k)))] [] σ := by
  obtain ⟨ms, oa, oD, s0, hH, hst⟩ := hT
  have hwf := hH.wfc
  refine A_aload_n (i := 1) dL_law_2476 rfl rfl ?_
  refine A_aload dL_law_2477 rfl ?_
  refine A_callSH2 (b' := b + 40996) (o_readyShare σ x b9 hb ms oa oD hhb hH) tX0_readyShare (by decide) q1901 dL_law_2479 (by decide) (by omega) (Nat.le_of_ble_eq_true rfl) (fun w9 τ1 h9 => ?_) (fun E9 q9 τ9 h9 => h9.elim)
  obtain ⟨e1, oD1, hH1, hv1⟩ := h9
  subst e1
  refine A_istore dL_law_2482 (Nat.le_of_ble_eq_true rfl) ?_
  refine A_aload_n (i := 2) dL_law_2484 rfl rfl ?_
  refine A_st (σ' := mc b9 ms τ1) hH1.2.1.symm ?_
  refine A_callV0 (b' := b + 40996) (c_readyShare b9 ms τ1 hwf.1.1) tX2_readyShare q2848 (mc_0 _ _ _) rfl rfl dL_law_2485 (by decide) (by omega) (Nat.le_of_ble_eq_true rfl) (fun w9 τ2 h9 => ?_) (fun E9 q9 τ9 h9 => h9.elim)
  obtain ⟨e1, e2⟩ := h9
  obtain ⟨ms2, ems, em2⟩ : ∃ ms2 : MM, ms2 = (⟨mayT (m_is ms) 1 1, m_is ms, m_um ms, m_bd ms, m_pc ms, m_pa ms, m_sz ms, m_cu ms, m_st ms, m_tk ms, m_to ms, m_ps ms, m_now ms, m_asd ms, m_und ms, m_sav ms, m_isv ms, m_buf ms, m_grp ms, m_pag ms⟩ : MM) ∧ τ2 = mc b9 ms2 τ1 := ⟨_, rfl, e2⟩
  subst e1
  have hH2 : HS g τ2 x b9 hb (kM ms) ms2 oa oD1 := by rw [em2]; exact hH1.mc
  have hz2 : (kM ms) = kM ms2 := ((congrArg (fun z : MM => kM z) ems).trans rfl).symm
  have hthr : m_thr ms2 = (mayT (m_is ms) 1 1) := (congrArg (fun z : MM => m_thr z) ems).trans rfl
  have hst2 := ((congrArg (fun z : MM => m_st z) ems).trans rfl).trans hst
  refine A_fstore dL_law_2488 (Nat.le_of_ble_eq_true rfl) ?_
  refine A_aload_n (i := 2) dL_law_2490 rfl rfl ?_
  refine A_st (σ' := mc b9 ms2 τ2) hH2.2.1.symm ?_
  refine A_callV0E (b' := b + 40996) (v := some (.int (m_thr ms2))) (τ := mc b9 ms2 τ2) (c_thrown b9 ms2 τ2) tX2_thrown q2291 (mc_0 _ _ _) rfl rfl dL_law_2491 (by decide) (by omega) (Nat.le_of_ble_eq_true rfl) ?_
  refine A_st (σ' := τ2) hH2.2.1 ?_
  refine A_iload dL_law_2494 rfl ?_
  refine A_icmp_eq_t (tgt := 2501) dL_law_2496 (by decide) (hthr) ?_
  refine A_iload dL_law_2501 rfl ?_
  refine A_if_ne (tgt := 2539) dL_law_2503 (by decide) (fun c1 => ?_) (fun c1 => ?_)
  · skip
    refine A_goto (tgt := 3776) dL_law_2539 (by decide) ?_
    refine A_sub (L' := [(0, .ref bs), (1, .ref x), (2, .ref b9), (3, .ref (b9 + 9)), (4, .ref (b9 + 10)), (5, .int (nI (6 * k)))]) ⟨rfl, rfl, rfl, rfl, rfl, rfl, trivial⟩ ?_
    refine A_less (b' := b) (by omega) ?_
    exact kk τ2 ⟨ms2, oa, oD1, _, by rw [← hz2]; exact hH2, hst2⟩
  · skip
    refine A_aload dL_law_2506 rfl ?_
    refine A_iconst (v := 0) dL_law_2508 (by decide) ?_
    refine A_dald hH2.2.2.2.1 (by unfold vp_in; decide) dL_law_2509 ?_
    refine A_fload dL_law_2510 rfl ?_
    refine A_f2d dL_law_2512 (by rw [show (mayT (m_is ms) 1 1) = 0 from c1]; exact share64 hwf.1.1) ?_
    refine A_dcmp dL_law_2513 ?_
    refine A_if_eq_t (tgt := 2539) dL_law_2514 (by decide) (by rw [show oD1 (0 : Int32).toNatClampNeg = _ from hv1 c1]; rw [show (mayT (m_is ms) 1 1) = 0 from c1]; exact share_dc hwf.1.1) ?_
    refine A_goto (tgt := 3776) dL_law_2539 (by decide) ?_
    refine A_sub (L' := [(0, .ref bs), (1, .ref x), (2, .ref b9), (3, .ref (b9 + 9)), (4, .ref (b9 + 10)), (5, .int (nI (6 * k)))]) ⟨rfl, rfl, rfl, rfl, rfl, rfl, trivial⟩ ?_
    refine A_less (b' := b) (by omega) ?_
    exact kk τ2 ⟨ms2, oa, oD1, _, by rw [← hz2]; exact hH2, hst2⟩
theorem t_meanDirt {l : Launch} {g : GC} {b : Nat} {Q : Option Value → AH → Prop} {X : String → Nat → AH → Prop} (σ : AH) (x b9 hb bs k n : Nat) (xs : Nat → Int32) (hs : o_arr g .int bs n (fun j => .int (xs j))) (hk : 6 * k + 6 ≤ n) (hn : n ≤ 144) (hhb : hb < 2 ^ 30) (hT : TI g x b9 hb σ) (kk : ∀ τ, TI g x b9 hb τ → AW l g mLaw 60 b Q X 3776 [(0, .ref bs), (1, .ref x), (2, .ref b9), (3, .ref (b9 + 9)), (4, .ref (b9 + 10)), (5, .int (nI (6 * k)))] [] τ) : AW l g mLaw 60 (b + 41000) Q X 2542 [(0, .ref bs), (1, .ref x), (2, .ref b9), (3, .ref (b9 + 9)), (4, .ref (b9 + 10)), (5, .int (nI (6 * k)))] [] σ := by
  obtain ⟨ms, oa, oD, s0, hH, hst⟩ := hT
  have hwf := hH.wfc
  refine A_aload_n (i := 1) dL_law_2542 rfl rfl ?_
  refine A_aload dL_law_2543 rfl ?_
  refine A_callSH2 (b' := b + 40996) (o_meanDirt σ x b9 hb ms oa oD hhb hH) tX0_meanDirt (by decide) q1908 dL_law_2545 (by decide) (by omega) (Nat.le_of_ble_eq_true rfl) (fun w9 τ1 h9 => ?_) (fun E9 q9 τ9 h9 => h9.elim)
  obtain ⟨e1, oD1, hH1, hv1⟩ := h9
  subst e1
  refine A_istore dL_law_2548 (Nat.le_of_ble_eq_true rfl) ?_
  refine A_aload_n (i := 2) dL_law_2550 rfl rfl ?_
  refine A_st (σ' := mc b9 ms τ1) hH1.2.1.symm ?_
  refine A_callV0 (b' := b + 40996) (c_meanDirt b9 ms τ1 hwf.1) tX2_meanDirt q2852 (mc_0 _ _ _) rfl rfl dL_law_2551 (by decide) (by omega) (Nat.le_of_ble_eq_true rfl) (fun w9 τ2 h9 => ?_) (fun E9 q9 τ9 h9 => h9.elim)
  obtain ⟨e1, e2⟩ := h9
  obtain ⟨ms2, ems, em2⟩ : ∃ ms2 : MM, ms2 = (⟨mayT (m_is ms) 1 1, m_is ms, m_um ms, m_bd ms, m_pc ms, m_pa ms, m_sz ms, m_cu ms, m_st ms, m_tk ms, m_to ms, m_ps ms, m_now ms, m_asd ms, m_und ms, m_sav ms, m_isv ms, m_buf ms, m_grp ms, m_pag ms⟩ : MM) ∧ τ2 = mc b9 ms2 τ1 := ⟨_, rfl, e2⟩
  subst e1
  have hH2 : HS g τ2 x b9 hb (kM ms) ms2 oa oD1 := by rw [em2]; exact hH1.mc
  have hz2 : (kM ms) = kM ms2 := ((congrArg (fun z : MM => kM z) ems).trans rfl).symm
  have hthr : m_thr ms2 = (mayT (m_is ms) 1 1) := (congrArg (fun z : MM => m_thr z) ems).trans rfl
  have hst2 := ((congrArg (fun z : MM => m_st z) ems).trans rfl).trans hst
  refine A_dstore dL_law_2554 (Nat.le_of_ble_eq_true rfl) ?_
  refine A_aload_n (i := 2) dL_law_2556 rfl rfl ?_
  refine A_st (σ' := mc b9 ms2 τ2) hH2.2.1.symm ?_
  refine A_callV0E (b' := b + 40996) (v := some (.int (m_thr ms2))) (τ := mc b9 ms2 τ2) (c_thrown b9 ms2 τ2) tX2_thrown q2291 (mc_0 _ _ _) rfl rfl dL_law_2557 (by decide) (by omega) (Nat.le_of_ble_eq_true rfl) ?_
  refine A_st (σ' := τ2) hH2.2.1 ?_
  refine A_iload dL_law_2560 rfl ?_
  refine A_icmp_eq_t (tgt := 2567) dL_law_2562 (by decide) (hthr) ?_
  refine A_iload dL_law_2567 rfl ?_
  refine A_if_ne (tgt := 2604) dL_law_2569 (by decide) (fun c1 => ?_) (fun c1 => ?_)
  · skip
    refine A_goto (tgt := 3776) dL_law_2604 (by decide) ?_
    refine A_sub (L' := [(0, .ref bs), (1, .ref x), (2, .ref b9), (3, .ref (b9 + 9)), (4, .ref (b9 + 10)), (5, .int (nI (6 * k)))]) ⟨rfl, rfl, rfl, rfl, rfl, rfl, trivial⟩ ?_
    refine A_less (b' := b) (by omega) ?_
    exact kk τ2 ⟨ms2, oa, oD1, _, by rw [← hz2]; exact hH2, hst2⟩
  · skip
    refine A_aload dL_law_2572 rfl ?_
    refine A_iconst (v := 0) dL_law_2574 (by decide) ?_
    refine A_dald hH2.2.2.2.1 (by unfold vp_in; decide) dL_law_2575 ?_
    refine A_dload dL_law_2576 rfl ?_
    refine A_dcmp dL_law_2578 ?_
    refine A_if_eq_t (tgt := 2604) dL_law_2579 (by decide) (by rw [show oD1 (0 : Int32).toNatClampNeg = _ from hv1 c1]; rw [show (mayT (m_is ms) 1 1) = 0 from c1]; exact mean_dc hwf.1) ?_
    refine A_goto (tgt := 3776) dL_law_2604 (by decide) ?_
    refine A_sub (L' := [(0, .ref bs), (1, .ref x), (2, .ref b9), (3, .ref (b9 + 9)), (4, .ref (b9 + 10)), (5, .int (nI (6 * k)))]) ⟨rfl, rfl, rfl, rfl, rfl, rfl, trivial⟩ ?_
    refine A_less (b' := b) (by omega) ?_
    exact kk τ2 ⟨ms2, oa, oD1, _, by rw [← hz2]; exact hH2, hst2⟩
theorem t_writeFlag {l : Launch} {g : GC} {b : Nat} {Q : Option Value → AH → Prop} {X : String → Nat → AH → Prop} (σ : AH) (x b9 hb bs k n : Nat) (xs : Nat → Int32) (hs : o_arr g .int bs n (fun j => .int (xs j))) (hk : 6 * k + 6 ≤ n) (hn : n ≤ 144) (hhb : hb < 2 ^ 30) (hT : TI g x b9 hb σ) (kk : ∀ τ, TI g x b9 hb τ → AW l g mLaw 60 b Q X 3776 [(0, .ref bs), (1, .ref x), (2, .ref b9), (3, .ref (b9 + 9)), (4, .ref (b9 + 10)), (5, .int (nI (6 * k)))] [] τ) : AW l g mLaw 60 (b + 41000) Q X 2607 [(0, .ref bs), (1, .ref x), (2, .ref b9), (3, .ref (b9 + 9)), (4, .ref (b9 + 10)), (5, .int (nI (6 * k)))] [] σ := by
  obtain ⟨ms, oa, oD, s0, hH, hst⟩ := hT
  have hwf := hH.wfc
  refine A_aload_n (i := 1) dL_law_2607 rfl rfl ?_
  refine A_aload_n (i := 0) dL_law_2608 rfl rfl ?_
  refine A_iload dL_law_2609 rfl ?_
  refine A_iconst (v := 1) dL_law_2611 (by decide) ?_
  refine A_iadd dL_law_2612 ?_
  refine A_int (w := nI ((6 * k) + 1)) (nI_add (6 * k) 1) ?_
  refine A_ialdO hs (vp_in_nI (by omega) (by omega)) (v := .int (xs (6 * k + 1))) (by rw [nI_clamp (by omega)]) dL_law_2613 ?_
  refine A_aload_n (i := 3) dL_law_2614 rfl rfl ?_
  refine A_callSH3 (b' := b + 40694) (o_writeFlag σ x b9 hb ms oa oD (xs (6 * k + 1)) hhb hH) tX0_writeFlag (by decide) q1921 dL_law_2615 (by decide) (by omega) (Nat.le_of_ble_eq_true rfl) (fun w9 τ1 h9 => ?_) (fun E9 q9 τ9 h9 => h9.elim)
  obtain ⟨e1, oa1, hH1, hv1⟩ := h9
  subst e1
  refine A_istore dL_law_2618 (Nat.le_of_ble_eq_true rfl) ?_
  refine A_aload_n (i := 2) dL_law_2620 rfl rfl ?_
  refine A_aload_n (i := 0) dL_law_2621 rfl rfl ?_
  refine A_iload dL_law_2622 rfl ?_
  refine A_iconst (v := 1) dL_law_2624 (by decide) ?_
  refine A_iadd dL_law_2625 ?_
  refine A_int (w := nI ((6 * k) + 1)) (nI_add (6 * k) 1) ?_
  refine A_ialdO hs (vp_in_nI (by omega) (by omega)) (v := .int (xs (6 * k + 1))) (by rw [nI_clamp (by omega)]) dL_law_2626 ?_
  refine A_st (σ' := mc b9 ms τ1) hH1.2.1.symm ?_
  refine A_callV1 (b' := b + 40694) (c_writeFlag b9 ms τ1 (xs (6 * k + 1)) hwf.1.1) tX2_writeFlag q2860 (mc_0 _ _ _) rfl rfl dL_law_2627 (by decide) (by omega) (Nat.le_of_ble_eq_true rfl) (fun w9 τ2 h9 => ?_) (fun E9 q9 τ9 h9 => h9.elim)
  obtain ⟨e1, e2⟩ := h9
  obtain ⟨ms2, ems, em2⟩ : ∃ ms2 : MM, ms2 = (⟨mayT (m_is ms) (bi (okF (m_is ms) (m_now ms) (xs (6 * k + 1)))) 1, m_is ms, m_um ms, m_bd ms, m_pc ms, m_pa ms, m_sz ms, m_cu ms, m_st ms, m_tk ms, m_to ms, gq (mayT (m_is ms) (bi (okF (m_is ms) (m_now ms) (xs (6 * k + 1)))) 1) (nI (txF (m_now ms) (ix (xs (6 * k + 1))) (nC (m_now ms))).length) (m_ps ms), m_now ms, m_asd ms, m_und ms, m_sav ms, m_isv ms, m_buf ms, m_grp ms, gq (mayT (m_is ms) (bi (okF (m_is ms) (m_now ms) (xs (6 * k + 1)))) 1) (pgA (m_pag ms) (txF (m_now ms) (ix (xs (6 * k + 1))) (nC (m_now ms)))) (m_pag ms)⟩ : MM) ∧ τ2 = mc b9 ms2 τ1 := ⟨_, rfl, e2⟩
  subst e1
  have hH2 : HS g τ2 x b9 hb (zp ms (mayT (m_is ms) (bi (okF (m_is ms) (m_now ms) (xs (6 * k + 1)))) 1) (txF (m_now ms) (ix (xs (6 * k + 1))) (nC (m_now ms)))) ms2 oa1 oD := by rw [em2]; exact hH1.mc
  have hz2 : (zp ms (mayT (m_is ms) (bi (okF (m_is ms) (m_now ms) (xs (6 * k + 1)))) 1) (txF (m_now ms) (ix (xs (6 * k + 1))) (nC (m_now ms)))) = kM ms2 := ((congrArg (fun z : MM => kM z) ems).trans rfl).symm
  have hthr : m_thr ms2 = mayT (m_is ms) (bi (okF (m_is ms) (m_now ms) (xs (6 * k + 1)))) 1 := (congrArg (fun z : MM => m_thr z) ems).trans rfl
  have hst2 := ((congrArg (fun z : MM => m_st z) ems).trans rfl).trans hst
  refine A_istore dL_law_2630 (Nat.le_of_ble_eq_true rfl) ?_
  refine A_aload_n (i := 2) dL_law_2632 rfl rfl ?_
  refine A_st (σ' := mc b9 ms2 τ2) hH2.2.1.symm ?_
  refine A_callV0E (b' := b + 40694) (v := some (.int (m_thr ms2))) (τ := mc b9 ms2 τ2) (c_thrown b9 ms2 τ2) tX2_thrown q2291 (mc_0 _ _ _) rfl rfl dL_law_2633 (by decide) (by omega) (Nat.le_of_ble_eq_true rfl) ?_
  refine A_st (σ' := τ2) hH2.2.1 ?_
  refine A_iload dL_law_2636 rfl ?_
  refine A_icmp_eq_t (tgt := 2643) dL_law_2638 (by decide) (hthr) ?_
  refine A_iload dL_law_2643 rfl ?_
  refine A_if_ne (tgt := 2660) dL_law_2645 (by decide) (fun c1 => ?_) (fun c1 => ?_)
  · skip
    refine A_goto (tgt := 3776) dL_law_2660 (by decide) ?_
    refine A_sub (L' := [(0, .ref bs), (1, .ref x), (2, .ref b9), (3, .ref (b9 + 9)), (4, .ref (b9 + 10)), (5, .int (nI (6 * k)))]) ⟨rfl, rfl, rfl, rfl, rfl, rfl, trivial⟩ ?_
    refine A_less (b' := b) (by omega) ?_
    exact kk τ2 ⟨ms2, oa1, oD, _, by rw [← hz2]; exact hH2, hst2⟩
  · skip
    refine A_aload_n (i := 3) dL_law_2648 rfl rfl ?_
    refine A_iconst (v := 0) dL_law_2649 (by decide) ?_
    refine A_lald hH2.2.2.1 (by unfold vp_in; decide) dL_law_2650 ?_
    refine A_iload dL_law_2651 rfl ?_
    refine A_i2l dL_law_2653 rfl ?_
    refine A_lcmp dL_law_2654 ?_
    refine A_if_eq_t (tgt := 2660) dL_law_2655 (by decide) (by rw [show oa1 (0 : Int32).toNatClampNeg = _ from hv1 c1]; rw [gd_0 (show mayT (m_is ms) (bi (okF (m_is ms) (m_now ms) (xs (6 * k + 1)))) 1 = 0 from c1)]; exact lg_self _) ?_
    refine A_goto (tgt := 3776) dL_law_2660 (by decide) ?_
    refine A_sub (L' := [(0, .ref bs), (1, .ref x), (2, .ref b9), (3, .ref (b9 + 9)), (4, .ref (b9 + 10)), (5, .int (nI (6 * k)))]) ⟨rfl, rfl, rfl, rfl, rfl, rfl, trivial⟩ ?_
    refine A_less (b' := b) (by omega) ?_
    exact kk τ2 ⟨ms2, oa1, oD, _, by rw [← hz2]; exact hH2, hst2⟩
theorem t_writeTub {l : Launch} {g : GC} {b : Nat} {Q : Option Value → AH → Prop} {X : String → Nat → AH → Prop} (σ : AH) (x b9 hb bs k n : Nat) (xs : Nat → Int32) (hs : o_arr g .int bs n (fun j => .int (xs j))) (hk : 6 * k + 6 ≤ n) (hn : n ≤ 144) (hhb : hb < 2 ^ 30) (hT : TI g x b9 hb σ) (kk : ∀ τ, TI g x b9 hb τ → AW l g mLaw 60 b Q X 3776 [(0, .ref bs), (1, .ref x), (2, .ref b9), (3, .ref (b9 + 9)), (4, .ref (b9 + 10)), (5, .int (nI (6 * k)))] [] τ) : AW l g mLaw 60 (b + 41000) Q X 2663 [(0, .ref bs), (1, .ref x), (2, .ref b9), (3, .ref (b9 + 9)), (4, .ref (b9 + 10)), (5, .int (nI (6 * k)))] [] σ := by
  obtain ⟨ms, oa, oD, s0, hH, hst⟩ := hT
  have hwf := hH.wfc
  refine A_aload_n (i := 1) dL_law_2663 rfl rfl ?_
  refine A_aload_n (i := 0) dL_law_2664 rfl rfl ?_
  refine A_iload dL_law_2665 rfl ?_
  refine A_iconst (v := 1) dL_law_2667 (by decide) ?_
  refine A_iadd dL_law_2668 ?_
  refine A_int (w := nI ((6 * k) + 1)) (nI_add (6 * k) 1) ?_
  refine A_ialdO hs (vp_in_nI (by omega) (by omega)) (v := .int (xs (6 * k + 1))) (by rw [nI_clamp (by omega)]) dL_law_2669 ?_
  refine A_aload_n (i := 3) dL_law_2670 rfl rfl ?_
  refine A_callSH3 (b' := b + 40260) (o_writeTub σ x b9 hb ms oa oD (xs (6 * k + 1)) hhb hH (ins_of hH.nk hhb)) tX0_writeTub (by decide) q1995 dL_law_2671 (by decide) (by omega) (Nat.le_of_ble_eq_true rfl) (fun w9 τ1 h9 => ?_) (fun E9 q9 τ9 h9 => h9.elim)
  obtain ⟨e1, oa1, hH1, hv1⟩ := h9
  subst e1
  refine A_istore dL_law_2674 (Nat.le_of_ble_eq_true rfl) ?_
  refine A_aload_n (i := 2) dL_law_2676 rfl rfl ?_
  refine A_aload_n (i := 0) dL_law_2677 rfl rfl ?_
  refine A_iload dL_law_2678 rfl ?_
  refine A_iconst (v := 1) dL_law_2680 (by decide) ?_
  refine A_iadd dL_law_2681 ?_
  refine A_int (w := nI ((6 * k) + 1)) (nI_add (6 * k) 1) ?_
  refine A_ialdO hs (vp_in_nI (by omega) (by omega)) (v := .int (xs (6 * k + 1))) (by rw [nI_clamp (by omega)]) dL_law_2682 ?_
  refine A_st (σ' := mc b9 ms τ1) hH1.2.1.symm ?_
  refine A_callV1 (b' := b + 40260) (c_writeTub b9 ms τ1 (xs (6 * k + 1)) hwf.1.1) tX2_writeTub q2875 (mc_0 _ _ _) rfl rfl dL_law_2683 (by decide) (by omega) (Nat.le_of_ble_eq_true rfl) (fun w9 τ2 h9 => ?_) (fun E9 q9 τ9 h9 => h9.elim)
  obtain ⟨e1, e2⟩ := h9
  obtain ⟨ms2, ems, em2⟩ : ∃ ms2 : MM, ms2 = (⟨mayT (m_is ms) (bi (okT (m_is ms) (m_now ms) (xs (6 * k + 1)))) 1, m_is ms, m_um ms, m_bd ms, m_pc ms, m_pa ms, m_sz ms, m_cu ms, m_st ms, m_tk ms, m_to ms, gq (mayT (m_is ms) (bi (okT (m_is ms) (m_now ms) (xs (6 * k + 1)))) 1) (nI (orDash (txT (m_now ms) (xs (6 * k + 1)) (ix (manyT (m_now ms) (xs (6 * k + 1)))))).length) (m_ps ms), m_now ms, m_asd ms, m_und ms, m_sav ms, m_isv ms, m_buf ms, m_grp ms, gq (mayT (m_is ms) (bi (okT (m_is ms) (m_now ms) (xs (6 * k + 1)))) 1) (pgA (m_pag ms) (orDash (txT (m_now ms) (xs (6 * k + 1)) (ix (manyT (m_now ms) (xs (6 * k + 1))))))) (m_pag ms)⟩ : MM) ∧ τ2 = mc b9 ms2 τ1 := ⟨_, rfl, e2⟩
  subst e1
  have hH2 : HS g τ2 x b9 hb (zp ms (mayT (m_is ms) (bi (okT (m_is ms) (m_now ms) (xs (6 * k + 1)))) 1) (orDash (txT (m_now ms) (xs (6 * k + 1)) (ix (manyT (m_now ms) (xs (6 * k + 1))))))) ms2 oa1 oD := by rw [em2]; exact hH1.mc
  have hz2 : (zp ms (mayT (m_is ms) (bi (okT (m_is ms) (m_now ms) (xs (6 * k + 1)))) 1) (orDash (txT (m_now ms) (xs (6 * k + 1)) (ix (manyT (m_now ms) (xs (6 * k + 1))))))) = kM ms2 := ((congrArg (fun z : MM => kM z) ems).trans rfl).symm
  have hthr : m_thr ms2 = mayT (m_is ms) (bi (okT (m_is ms) (m_now ms) (xs (6 * k + 1)))) 1 := (congrArg (fun z : MM => m_thr z) ems).trans rfl
  have hst2 := ((congrArg (fun z : MM => m_st z) ems).trans rfl).trans hst
  refine A_istore dL_law_2686 (Nat.le_of_ble_eq_true rfl) ?_
  refine A_aload_n (i := 2) dL_law_2688 rfl rfl ?_
  refine A_st (σ' := mc b9 ms2 τ2) hH2.2.1.symm ?_
  refine A_callV0E (b' := b + 40260) (v := some (.int (m_thr ms2))) (τ := mc b9 ms2 τ2) (c_thrown b9 ms2 τ2) tX2_thrown q2291 (mc_0 _ _ _) rfl rfl dL_law_2689 (by decide) (by omega) (Nat.le_of_ble_eq_true rfl) ?_
  refine A_st (σ' := τ2) hH2.2.1 ?_
  refine A_iload dL_law_2692 rfl ?_
  refine A_icmp_eq_t (tgt := 2699) dL_law_2694 (by decide) (hthr) ?_
  refine A_iload dL_law_2699 rfl ?_
  refine A_if_ne (tgt := 2716) dL_law_2701 (by decide) (fun c1 => ?_) (fun c1 => ?_)
  · skip
    refine A_goto (tgt := 3776) dL_law_2716 (by decide) ?_
    refine A_sub (L' := [(0, .ref bs), (1, .ref x), (2, .ref b9), (3, .ref (b9 + 9)), (4, .ref (b9 + 10)), (5, .int (nI (6 * k)))]) ⟨rfl, rfl, rfl, rfl, rfl, rfl, trivial⟩ ?_
    refine A_less (b' := b) (by omega) ?_
    exact kk τ2 ⟨ms2, oa1, oD, _, by rw [← hz2]; exact hH2, hst2⟩
  · skip
    refine A_aload_n (i := 3) dL_law_2704 rfl rfl ?_
    refine A_iconst (v := 0) dL_law_2705 (by decide) ?_
    refine A_lald hH2.2.2.1 (by unfold vp_in; decide) dL_law_2706 ?_
    refine A_iload dL_law_2707 rfl ?_
    refine A_i2l dL_law_2709 rfl ?_
    refine A_lcmp dL_law_2710 ?_
    refine A_if_eq_t (tgt := 2716) dL_law_2711 (by decide) (by rw [show oa1 (0 : Int32).toNatClampNeg = _ from hv1 c1]; rw [gd_0 (show mayT (m_is ms) (bi (okT (m_is ms) (m_now ms) (xs (6 * k + 1)))) 1 = 0 from c1)]; exact lg_self _) ?_
    refine A_goto (tgt := 3776) dL_law_2716 (by decide) ?_
    refine A_sub (L' := [(0, .ref bs), (1, .ref x), (2, .ref b9), (3, .ref (b9 + 9)), (4, .ref (b9 + 10)), (5, .int (nI (6 * k)))]) ⟨rfl, rfl, rfl, rfl, rfl, rfl, trivial⟩ ?_
    refine A_less (b' := b) (by omega) ?_
    exact kk τ2 ⟨ms2, oa1, oD, _, by rw [← hz2]; exact hH2, hst2⟩
theorem t_writeNation {l : Launch} {g : GC} {b : Nat} {Q : Option Value → AH → Prop} {X : String → Nat → AH → Prop} (σ : AH) (x b9 hb bs k n : Nat) (xs : Nat → Int32) (hs : o_arr g .int bs n (fun j => .int (xs j))) (hk : 6 * k + 6 ≤ n) (hn : n ≤ 144) (hhb : hb < 2 ^ 30) (hT : TI g x b9 hb σ) (kk : ∀ τ, TI g x b9 hb τ → AW l g mLaw 60 b Q X 3776 [(0, .ref bs), (1, .ref x), (2, .ref b9), (3, .ref (b9 + 9)), (4, .ref (b9 + 10)), (5, .int (nI (6 * k)))] [] τ) : AW l g mLaw 60 (b + 41000) Q X 2719 [(0, .ref bs), (1, .ref x), (2, .ref b9), (3, .ref (b9 + 9)), (4, .ref (b9 + 10)), (5, .int (nI (6 * k)))] [] σ := by
  obtain ⟨ms, oa, oD, s0, hH, hst⟩ := hT
  have hwf := hH.wfc
  refine A_aload_n (i := 1) dL_law_2719 rfl rfl ?_
  refine A_aload_n (i := 0) dL_law_2720 rfl rfl ?_
  refine A_iload dL_law_2721 rfl ?_
  refine A_iconst (v := 1) dL_law_2723 (by decide) ?_
  refine A_iadd dL_law_2724 ?_
  refine A_int (w := nI ((6 * k) + 1)) (nI_add (6 * k) 1) ?_
  refine A_ialdO hs (vp_in_nI (by omega) (by omega)) (v := .int (xs (6 * k + 1))) (by rw [nI_clamp (by omega)]) dL_law_2725 ?_
  refine A_aload_n (i := 3) dL_law_2726 rfl rfl ?_
  refine A_callSH3 (b' := b + 40080) (o_writeNation σ x b9 hb ms oa oD (xs (6 * k + 1)) hhb hH) tX0_writeNation (by decide) q2002 dL_law_2727 (by decide) (by omega) (Nat.le_of_ble_eq_true rfl) (fun w9 τ1 h9 => ?_) (fun E9 q9 τ9 h9 => h9.elim)
  obtain ⟨e1, oa1, hH1, hv1⟩ := h9
  subst e1
  refine A_istore dL_law_2730 (Nat.le_of_ble_eq_true rfl) ?_
  refine A_aload_n (i := 2) dL_law_2732 rfl rfl ?_
  refine A_aload_n (i := 0) dL_law_2733 rfl rfl ?_
  refine A_iload dL_law_2734 rfl ?_
  refine A_iconst (v := 1) dL_law_2736 (by decide) ?_
  refine A_iadd dL_law_2737 ?_
  refine A_int (w := nI ((6 * k) + 1)) (nI_add (6 * k) 1) ?_
  refine A_ialdO hs (vp_in_nI (by omega) (by omega)) (v := .int (xs (6 * k + 1))) (by rw [nI_clamp (by omega)]) dL_law_2738 ?_
  refine A_st (σ' := mc b9 ms τ1) hH1.2.1.symm ?_
  refine A_callV1 (b' := b + 40080) (c_writeNation b9 ms τ1 (xs (6 * k + 1)) hwf.1.1) tX2_writeNation q2879 (mc_0 _ _ _) rfl rfl dL_law_2739 (by decide) (by omega) (Nat.le_of_ble_eq_true rfl) (fun w9 τ2 h9 => ?_) (fun E9 q9 τ9 h9 => h9.elim)
  obtain ⟨e1, e2⟩ := h9
  obtain ⟨ms2, ems, em2⟩ : ∃ ms2 : MM, ms2 = (⟨mayT (m_is ms) (bi (okN (m_is ms) (m_now ms) (xs (6 * k + 1)))) 1, m_is ms, m_um ms, m_bd ms, m_pc ms, m_pa ms, m_sz ms, m_cu ms, m_st ms, m_tk ms, m_to ms, gq (mayT (m_is ms) (bi (okN (m_is ms) (m_now ms) (xs (6 * k + 1)))) 1) (nI (orDash (txN (m_now ms) (xs (6 * k + 1)) (nF (m_now ms)))).length) (m_ps ms), m_now ms, m_asd ms, m_und ms, m_sav ms, m_isv ms, m_buf ms, m_grp ms, gq (mayT (m_is ms) (bi (okN (m_is ms) (m_now ms) (xs (6 * k + 1)))) 1) (pgA (m_pag ms) (orDash (txN (m_now ms) (xs (6 * k + 1)) (nF (m_now ms))))) (m_pag ms)⟩ : MM) ∧ τ2 = mc b9 ms2 τ1 := ⟨_, rfl, e2⟩
  subst e1
  have hH2 : HS g τ2 x b9 hb (zp ms (mayT (m_is ms) (bi (okN (m_is ms) (m_now ms) (xs (6 * k + 1)))) 1) (orDash (txN (m_now ms) (xs (6 * k + 1)) (nF (m_now ms))))) ms2 oa1 oD := by rw [em2]; exact hH1.mc
  have hz2 : (zp ms (mayT (m_is ms) (bi (okN (m_is ms) (m_now ms) (xs (6 * k + 1)))) 1) (orDash (txN (m_now ms) (xs (6 * k + 1)) (nF (m_now ms))))) = kM ms2 := ((congrArg (fun z : MM => kM z) ems).trans rfl).symm
  have hthr : m_thr ms2 = mayT (m_is ms) (bi (okN (m_is ms) (m_now ms) (xs (6 * k + 1)))) 1 := (congrArg (fun z : MM => m_thr z) ems).trans rfl
  have hst2 := ((congrArg (fun z : MM => m_st z) ems).trans rfl).trans hst
  refine A_istore dL_law_2742 (Nat.le_of_ble_eq_true rfl) ?_
  refine A_aload_n (i := 2) dL_law_2744 rfl rfl ?_
  refine A_st (σ' := mc b9 ms2 τ2) hH2.2.1.symm ?_
  refine A_callV0E (b' := b + 40080) (v := some (.int (m_thr ms2))) (τ := mc b9 ms2 τ2) (c_thrown b9 ms2 τ2) tX2_thrown q2291 (mc_0 _ _ _) rfl rfl dL_law_2745 (by decide) (by omega) (Nat.le_of_ble_eq_true rfl) ?_
  refine A_st (σ' := τ2) hH2.2.1 ?_
  refine A_iload dL_law_2748 rfl ?_
  refine A_icmp_eq_t (tgt := 2755) dL_law_2750 (by decide) (hthr) ?_
  refine A_iload dL_law_2755 rfl ?_
  refine A_if_ne (tgt := 2772) dL_law_2757 (by decide) (fun c1 => ?_) (fun c1 => ?_)
  · skip
    refine A_goto (tgt := 3776) dL_law_2772 (by decide) ?_
    refine A_sub (L' := [(0, .ref bs), (1, .ref x), (2, .ref b9), (3, .ref (b9 + 9)), (4, .ref (b9 + 10)), (5, .int (nI (6 * k)))]) ⟨rfl, rfl, rfl, rfl, rfl, rfl, trivial⟩ ?_
    refine A_less (b' := b) (by omega) ?_
    exact kk τ2 ⟨ms2, oa1, oD, _, by rw [← hz2]; exact hH2, hst2⟩
  · skip
    refine A_aload_n (i := 3) dL_law_2760 rfl rfl ?_
    refine A_iconst (v := 0) dL_law_2761 (by decide) ?_
    refine A_lald hH2.2.2.1 (by unfold vp_in; decide) dL_law_2762 ?_
    refine A_iload dL_law_2763 rfl ?_
    refine A_i2l dL_law_2765 rfl ?_
    refine A_lcmp dL_law_2766 ?_
    refine A_if_eq_t (tgt := 2772) dL_law_2767 (by decide) (by rw [show oa1 (0 : Int32).toNatClampNeg = _ from hv1 c1]; rw [gd_0 (show mayT (m_is ms) (bi (okN (m_is ms) (m_now ms) (xs (6 * k + 1)))) 1 = 0 from c1)]; exact lg_self _) ?_
    refine A_goto (tgt := 3776) dL_law_2772 (by decide) ?_
    refine A_sub (L' := [(0, .ref bs), (1, .ref x), (2, .ref b9), (3, .ref (b9 + 9)), (4, .ref (b9 + 10)), (5, .int (nI (6 * k)))]) ⟨rfl, rfl, rfl, rfl, rfl, rfl, trivial⟩ ?_
    refine A_less (b' := b) (by omega) ?_
    exact kk τ2 ⟨ms2, oa1, oD, _, by rw [← hz2]; exact hH2, hst2⟩
theorem t_writeLine {l : Launch} {g : GC} {b : Nat} {Q : Option Value → AH → Prop} {X : String → Nat → AH → Prop} (σ : AH) (x b9 hb bs k n : Nat) (xs : Nat → Int32) (hs : o_arr g .int bs n (fun j => .int (xs j))) (hk : 6 * k + 6 ≤ n) (hn : n ≤ 144) (hhb : hb < 2 ^ 30) (hT : TI g x b9 hb σ) (kk : ∀ τ, TI g x b9 hb τ → AW l g mLaw 60 b Q X 3776 [(0, .ref bs), (1, .ref x), (2, .ref b9), (3, .ref (b9 + 9)), (4, .ref (b9 + 10)), (5, .int (nI (6 * k)))] [] τ) : AW l g mLaw 60 (b + 41000) Q X 2775 [(0, .ref bs), (1, .ref x), (2, .ref b9), (3, .ref (b9 + 9)), (4, .ref (b9 + 10)), (5, .int (nI (6 * k)))] [] σ := by
  obtain ⟨ms, oa, oD, s0, hH, hst⟩ := hT
  have hwf := hH.wfc
  refine A_aload_n (i := 1) dL_law_2775 rfl rfl ?_
  refine A_aload_n (i := 3) dL_law_2776 rfl rfl ?_
  refine A_callSH2 (b' := b + 40694) (o_writeLine σ x b9 hb ms oa oD hhb hH) tX0_writeLine (by decide) q2009 dL_law_2777 (by decide) (by omega) (Nat.le_of_ble_eq_true rfl) (fun w9 τ1 h9 => ?_) (fun E9 q9 τ9 h9 => h9.elim)
  obtain ⟨e1, oa1, hH1, hv1⟩ := h9
  subst e1
  refine A_istore dL_law_2780 (Nat.le_of_ble_eq_true rfl) ?_
  refine A_aload_n (i := 2) dL_law_2782 rfl rfl ?_
  refine A_st (σ' := mc b9 ms τ1) hH1.2.1.symm ?_
  refine A_callV0 (b' := b + 40694) (c_writeLine b9 ms τ1 hwf.1.1) tX2_writeLine q2887 (mc_0 _ _ _) rfl rfl dL_law_2783 (by decide) (by omega) (Nat.le_of_ble_eq_true rfl) (fun w9 τ2 h9 => ?_) (fun E9 q9 τ9 h9 => h9.elim)
  obtain ⟨e1, e2⟩ := h9
  obtain ⟨ms2, ems, em2⟩ : ∃ ms2 : MM, ms2 = (⟨mayT (m_is ms) 1 1, m_is ms, m_um ms, m_bd ms, m_pc ms, m_pa ms, m_sz ms, m_cu ms, m_st ms, m_tk ms, m_to ms, gq (mayT (m_is ms) 1 1) (nI (txL (m_now ms) (nP (m_now ms))).length) (m_ps ms), m_now ms, m_asd ms, m_und ms, m_sav ms, m_isv ms, m_buf ms, m_grp ms, gq (mayT (m_is ms) 1 1) (pgA (m_pag ms) (txL (m_now ms) (nP (m_now ms)))) (m_pag ms)⟩ : MM) ∧ τ2 = mc b9 ms2 τ1 := ⟨_, rfl, e2⟩
  subst e1
  have hH2 : HS g τ2 x b9 hb (zp ms (mayT (m_is ms) 1 1) (txL (m_now ms) (nP (m_now ms)))) ms2 oa1 oD := by rw [em2]; exact hH1.mc
  have hz2 : (zp ms (mayT (m_is ms) 1 1) (txL (m_now ms) (nP (m_now ms)))) = kM ms2 := ((congrArg (fun z : MM => kM z) ems).trans rfl).symm
  have hthr : m_thr ms2 = mayT (m_is ms) 1 1 := (congrArg (fun z : MM => m_thr z) ems).trans rfl
  have hst2 := ((congrArg (fun z : MM => m_st z) ems).trans rfl).trans hst
  refine A_istore dL_law_2786 (Nat.le_of_ble_eq_true rfl) ?_
  refine A_aload_n (i := 2) dL_law_2788 rfl rfl ?_
  refine A_st (σ' := mc b9 ms2 τ2) hH2.2.1.symm ?_
  refine A_callV0E (b' := b + 40694) (v := some (.int (m_thr ms2))) (τ := mc b9 ms2 τ2) (c_thrown b9 ms2 τ2) tX2_thrown q2291 (mc_0 _ _ _) rfl rfl dL_law_2789 (by decide) (by omega) (Nat.le_of_ble_eq_true rfl) ?_
  refine A_st (σ' := τ2) hH2.2.1 ?_
  refine A_iload dL_law_2792 rfl ?_
  refine A_icmp_eq_t (tgt := 2799) dL_law_2794 (by decide) (hthr) ?_
  refine A_iload dL_law_2799 rfl ?_
  refine A_if_ne (tgt := 2816) dL_law_2801 (by decide) (fun c1 => ?_) (fun c1 => ?_)
  · skip
    refine A_goto (tgt := 3776) dL_law_2816 (by decide) ?_
    refine A_sub (L' := [(0, .ref bs), (1, .ref x), (2, .ref b9), (3, .ref (b9 + 9)), (4, .ref (b9 + 10)), (5, .int (nI (6 * k)))]) ⟨rfl, rfl, rfl, rfl, rfl, rfl, trivial⟩ ?_
    refine A_less (b' := b) (by omega) ?_
    exact kk τ2 ⟨ms2, oa1, oD, _, by rw [← hz2]; exact hH2, hst2⟩
  · skip
    refine A_aload_n (i := 3) dL_law_2804 rfl rfl ?_
    refine A_iconst (v := 0) dL_law_2805 (by decide) ?_
    refine A_lald hH2.2.2.1 (by unfold vp_in; decide) dL_law_2806 ?_
    refine A_iload dL_law_2807 rfl ?_
    refine A_i2l dL_law_2809 rfl ?_
    refine A_lcmp dL_law_2810 ?_
    refine A_if_eq_t (tgt := 2816) dL_law_2811 (by decide) (by rw [show oa1 (0 : Int32).toNatClampNeg = _ from hv1 c1]; rw [gd_0 (show mayT (m_is ms) 1 1 = 0 from c1)]; exact lg_self _) ?_
    refine A_goto (tgt := 3776) dL_law_2816 (by decide) ?_
    refine A_sub (L' := [(0, .ref bs), (1, .ref x), (2, .ref b9), (3, .ref (b9 + 9)), (4, .ref (b9 + 10)), (5, .int (nI (6 * k)))]) ⟨rfl, rfl, rfl, rfl, rfl, rfl, trivial⟩ ?_
    refine A_less (b' := b) (by omega) ?_
    exact kk τ2 ⟨ms2, oa1, oD, _, by rw [← hz2]; exact hH2, hst2⟩
theorem t_textByte {l : Launch} {g : GC} {b : Nat} {Q : Option Value → AH → Prop} {X : String → Nat → AH → Prop} (σ : AH) (x b9 hb bs k n : Nat) (xs : Nat → Int32) (hs : o_arr g .int bs n (fun j => .int (xs j))) (hk : 6 * k + 6 ≤ n) (hn : n ≤ 144) (hhb : hb < 2 ^ 30) (hT : TI g x b9 hb σ) (kk : ∀ τ, TI g x b9 hb τ → AW l g mLaw 60 b Q X 3776 [(0, .ref bs), (1, .ref x), (2, .ref b9), (3, .ref (b9 + 9)), (4, .ref (b9 + 10)), (5, .int (nI (6 * k)))] [] τ) : AW l g mLaw 60 (b + 41000) Q X 2819 [(0, .ref bs), (1, .ref x), (2, .ref b9), (3, .ref (b9 + 9)), (4, .ref (b9 + 10)), (5, .int (nI (6 * k)))] [] σ := by
  obtain ⟨ms, oa, oD, s0, hH, hst⟩ := hT
  obtain ⟨k9, hk6, hps⟩ := hH.p
  have hwf := hH.wfc
  refine A_aload_n (i := 1) dL_law_2819 rfl rfl ?_
  refine A_aload_n (i := 0) dL_law_2820 rfl rfl ?_
  refine A_iload dL_law_2821 rfl ?_
  refine A_iconst (v := 1) dL_law_2823 (by decide) ?_
  refine A_iadd dL_law_2824 ?_
  refine A_int (w := nI ((6 * k) + 1)) (nI_add (6 * k) 1) ?_
  refine A_ialdO hs (vp_in_nI (by omega) (by omega)) (v := .int (xs (6 * k + 1))) (by rw [nI_clamp (by omega)]) dL_law_2825 ?_
  refine A_aload_n (i := 3) dL_law_2826 rfl rfl ?_
  refine A_callSH3 (b' := b + 40998) (o_textByte σ x b9 hb ms oa oD (xs (6 * k + 1)) hhb hH hps hk6) tX0_textByte (by decide) q2016 dL_law_2827 (by decide) (by omega) (Nat.le_of_ble_eq_true rfl) (fun w9 τ1 h9 => ?_) (fun E9 q9 τ9 h9 => h9.elim)
  obtain ⟨e1, oa1, hH1, hv1⟩ := h9
  subst e1
  refine A_istore dL_law_2830 (Nat.le_of_ble_eq_true rfl) ?_
  refine A_aload_n (i := 2) dL_law_2832 rfl rfl ?_
  refine A_aload_n (i := 0) dL_law_2833 rfl rfl ?_
  refine A_iload dL_law_2834 rfl ?_
  refine A_iconst (v := 1) dL_law_2836 (by decide) ?_
  refine A_iadd dL_law_2837 ?_
  refine A_int (w := nI ((6 * k) + 1)) (nI_add (6 * k) 1) ?_
  refine A_ialdO hs (vp_in_nI (by omega) (by omega)) (v := .int (xs (6 * k + 1))) (by rw [nI_clamp (by omega)]) dL_law_2838 ?_
  refine A_st (σ' := mc b9 (⟨m_thr ms, m_is ms, m_um ms, m_bd ms, m_pc ms, m_pa ms, m_sz ms, m_cu ms, m_st ms, m_tk ms, m_to ms, nI k9, m_now ms, m_asd ms, m_und ms, m_sav ms, m_isv ms, m_buf ms, m_grp ms, m_pag ms⟩ : MM) τ1) (by rw [← hps]; exact hH1.2.1.symm) ?_
  refine A_callV1 (b' := b + 40998) (c_textByte b9 ms τ1 k9 (xs (6 * k + 1)) hk6) tX2_textByte q2891 (mc_0 _ _ _) rfl rfl dL_law_2839 (by decide) (by omega) (Nat.le_of_ble_eq_true rfl) (fun w9 τ2 h9 => ?_) (fun E9 q9 τ9 h9 => h9.elim)
  obtain ⟨e1, e2⟩ := h9
  obtain ⟨ms2, ems, em2⟩ : ∃ ms2 : MM, ms2 = (⟨mayT (bi (inR (xs (6 * k + 1)) 0 (nI k9 - 1))) 1 1, m_is ms, m_um ms, m_bd ms, m_pc ms, m_pa ms, m_sz ms, m_cu ms, m_st ms, m_tk ms, m_to ms, nI k9, m_now ms, m_asd ms, m_und ms, m_sav ms, m_isv ms, m_buf ms, m_grp ms, m_pag ms⟩ : MM) ∧ τ2 = mc b9 ms2 τ1 := ⟨_, rfl, e2⟩
  subst e1
  have hH2 : HS g τ2 x b9 hb (kM ms) ms2 oa1 oD := by rw [em2]; exact hH1.mc
  have hz2 : (kM ms) = kM ms2 := (by rw [ems, ← hps] <;> rfl)
  have hthr : m_thr ms2 = (mayT (bi (inR (xs (6 * k + 1)) 0 (nI k9 - 1))) 1 1) := (congrArg (fun z : MM => m_thr z) ems).trans rfl
  have hst2 := ((congrArg (fun z : MM => m_st z) ems).trans rfl).trans hst
  refine A_istore dL_law_2842 (Nat.le_of_ble_eq_true rfl) ?_
  refine A_aload_n (i := 2) dL_law_2844 rfl rfl ?_
  refine A_st (σ' := mc b9 ms2 τ2) hH2.2.1.symm ?_
  refine A_callV0E (b' := b + 40998) (v := some (.int (m_thr ms2))) (τ := mc b9 ms2 τ2) (c_thrown b9 ms2 τ2) tX2_thrown q2291 (mc_0 _ _ _) rfl rfl dL_law_2845 (by decide) (by omega) (Nat.le_of_ble_eq_true rfl) ?_
  refine A_st (σ' := τ2) hH2.2.1 ?_
  refine A_iload dL_law_2848 rfl ?_
  refine A_icmp_eq_t (tgt := 2855) dL_law_2850 (by decide) (hthr) ?_
  refine A_iload dL_law_2855 rfl ?_
  refine A_if_ne (tgt := 2872) dL_law_2857 (by decide) (fun c1 => ?_) (fun c1 => ?_)
  · skip
    refine A_goto (tgt := 3776) dL_law_2872 (by decide) ?_
    refine A_sub (L' := [(0, .ref bs), (1, .ref x), (2, .ref b9), (3, .ref (b9 + 9)), (4, .ref (b9 + 10)), (5, .int (nI (6 * k)))]) ⟨rfl, rfl, rfl, rfl, rfl, rfl, trivial⟩ ?_
    refine A_less (b' := b) (by omega) ?_
    exact kk τ2 ⟨ms2, oa1, oD, _, by rw [← hz2]; exact hH2, hst2⟩
  · skip
    refine A_aload_n (i := 3) dL_law_2860 rfl rfl ?_
    refine A_iconst (v := 0) dL_law_2861 (by decide) ?_
    refine A_lald hH2.2.2.1 (by unfold vp_in; decide) dL_law_2862 ?_
    refine A_iload dL_law_2863 rfl ?_
    refine A_i2l dL_law_2865 rfl ?_
    refine A_lcmp dL_law_2866 ?_
    refine A_if_eq_t (tgt := 2872) dL_law_2867 (by decide) (by rw [show oa1 (0 : Int32).toNatClampNeg = _ from hv1 c1]; rw [gd_0 (show (mayT (bi (inR (xs (6 * k + 1)) 0 (nI k9 - 1))) 1 1) = 0 from c1)]; exact lg_self _) ?_
    refine A_goto (tgt := 3776) dL_law_2872 (by decide) ?_
    refine A_sub (L' := [(0, .ref bs), (1, .ref x), (2, .ref b9), (3, .ref (b9 + 9)), (4, .ref (b9 + 10)), (5, .int (nI (6 * k)))]) ⟨rfl, rfl, rfl, rfl, rfl, rfl, trivial⟩ ?_
    refine A_less (b' := b) (by omega) ?_
    exact kk τ2 ⟨ms2, oa1, oD, _, by rw [← hz2]; exact hH2, hst2⟩
theorem t_put {l : Launch} {g : GC} {b : Nat} {Q : Option Value → AH → Prop} {X : String → Nat → AH → Prop} (σ : AH) (x b9 hb bs k n : Nat) (xs : Nat → Int32) (hs : o_arr g .int bs n (fun j => .int (xs j))) (hk : 6 * k + 6 ≤ n) (hn : n ≤ 144) (hhb : hb < 2 ^ 30) (hT : TI g x b9 hb σ) (kk : ∀ τ, TI g x b9 (hb + 13000) τ → AW l g mLaw 60 b Q X 3776 [(0, .ref bs), (1, .ref x), (2, .ref b9), (3, .ref (b9 + 9)), (4, .ref (b9 + 10)), (5, .int (nI (6 * k)))] [] τ) : AW l g mLaw 60 (b + 41000) Q X 2875 [(0, .ref bs), (1, .ref x), (2, .ref b9), (3, .ref (b9 + 9)), (4, .ref (b9 + 10)), (5, .int (nI (6 * k)))] [] σ := by
  obtain ⟨ms, oa, oD, s0, hH, hst⟩ := hT
  obtain ⟨u, hu8, hum⟩ := hH.u
  have hwf := hH.wfc
  refine A_aload_n (i := 1) dL_law_2875 rfl rfl ?_
  refine A_aload_n (i := 0) dL_law_2876 rfl rfl ?_
  refine A_iload dL_law_2877 rfl ?_
  refine A_iconst (v := 1) dL_law_2879 (by decide) ?_
  refine A_iadd dL_law_2880 ?_
  refine A_int (w := nI ((6 * k) + 1)) (nI_add (6 * k) 1) ?_
  refine A_ialdO hs (vp_in_nI (by omega) (by omega)) (v := .int (xs (6 * k + 1))) (by rw [nI_clamp (by omega)]) dL_law_2881 ?_
  refine A_aload_n (i := 0) dL_law_2882 rfl rfl ?_
  refine A_iload dL_law_2883 rfl ?_
  refine A_iconst (v := 2) dL_law_2885 (by decide) ?_
  refine A_iadd dL_law_2886 ?_
  refine A_int (w := nI ((6 * k) + 2)) (nI_add (6 * k) 2) ?_
  refine A_ialdO hs (vp_in_nI (by omega) (by omega)) (v := .int (xs (6 * k + 2))) (by rw [nI_clamp (by omega)]) dL_law_2887 ?_
  refine A_aload_n (i := 3) dL_law_2888 rfl rfl ?_
  refine A_callSH4 (b' := b + 40923) (o_put σ x b9 hb ms oa oD (xs (6 * k + 1)) (xs (6 * k + 2)) hhb hH hum hu8) tX0_put (by decide) q2033 dL_law_2889 (by decide) (by omega) (Nat.le_of_ble_eq_true rfl) (fun w9 τ1 h9 => ?_) (fun E9 q9 τ9 h9 => h9.elim)
  obtain ⟨e1, oa1, hH1, hv1⟩ := h9
  subst e1
  refine A_istore dL_law_2892 (Nat.le_of_ble_eq_true rfl) ?_
  refine A_aload_n (i := 2) dL_law_2894 rfl rfl ?_
  refine A_aload_n (i := 0) dL_law_2895 rfl rfl ?_
  refine A_iload dL_law_2896 rfl ?_
  refine A_iconst (v := 1) dL_law_2898 (by decide) ?_
  refine A_iadd dL_law_2899 ?_
  refine A_int (w := nI ((6 * k) + 1)) (nI_add (6 * k) 1) ?_
  refine A_ialdO hs (vp_in_nI (by omega) (by omega)) (v := .int (xs (6 * k + 1))) (by rw [nI_clamp (by omega)]) dL_law_2900 ?_
  refine A_aload_n (i := 0) dL_law_2901 rfl rfl ?_
  refine A_iload dL_law_2902 rfl ?_
  refine A_iconst (v := 2) dL_law_2904 (by decide) ?_
  refine A_iadd dL_law_2905 ?_
  refine A_int (w := nI ((6 * k) + 2)) (nI_add (6 * k) 2) ?_
  refine A_ialdO hs (vp_in_nI (by omega) (by omega)) (v := .int (xs (6 * k + 2))) (by rw [nI_clamp (by omega)]) dL_law_2906 ?_
  refine A_st (σ' := mc b9 (⟨m_thr ms, m_is ms, nI u, m_bd ms, m_pc ms, m_pa ms, m_sz ms, m_cu ms, m_st ms, m_tk ms, m_to ms, m_ps ms, m_now ms, m_asd ms, m_und ms, m_sav ms, m_isv ms, m_buf ms, m_grp ms, m_pag ms⟩ : MM) τ1) (by rw [← hum]; exact hH1.2.1.symm) ?_
  refine A_callV2 (b' := b + 40923) (c_put b9 ms τ1 u (xs (6 * k + 1)) (xs (6 * k + 2)) hwf.1.1 hu8) tX2_put q2895 (mc_0 _ _ _) rfl rfl dL_law_2907 (by decide) (by omega) (Nat.le_of_ble_eq_true rfl) (fun w9 τ2 h9 => ?_) (fun E9 q9 τ9 h9 => h9.elim)
  obtain ⟨e1, e2⟩ := h9
  obtain ⟨ms2, ems, em2⟩ : ∃ ms2 : MM, ms2 = (⟨mayT (m_is ms) (bi (okB (m_is ms) (m_now ms) (xs (6 * k + 1)) (xs (6 * k + 2)))) (bi (okB (m_is ms) (m_now ms) (xs (6 * k + 1)) (xs (6 * k + 2)) ∧ whyPutN (m_now ms) (ix (xs (6 * k + 1))) (ix (xs (6 * k + 2))) = 0)), m_is ms, nI (gq (mayT (m_is ms) (bi (okB (m_is ms) (m_now ms) (xs (6 * k + 1)) (xs (6 * k + 2)))) (bi (okB (m_is ms) (m_now ms) (xs (6 * k + 1)) (xs (6 * k + 2)) ∧ whyPutN (m_now ms) (ix (xs (6 * k + 1))) (ix (xs (6 * k + 2))) = 0))) (remC u) u), m_bd ms, m_pc ms, m_pa ms, m_sz ms, m_cu ms, m_st ms, m_tk ms, m_to ms, m_ps ms, gq (mayT (m_is ms) (bi (okB (m_is ms) (m_now ms) (xs (6 * k + 1)) (xs (6 * k + 2)))) (bi (okB (m_is ms) (m_now ms) (xs (6 * k + 1)) (xs (6 * k + 2)) ∧ whyPutN (m_now ms) (ix (xs (6 * k + 1))) (ix (xs (6 * k + 2))) = 0))) (putIn (m_now ms) (ix (xs (6 * k + 1))) (xs (6 * k + 2))) (m_now ms), m_asd ms, gq (mayT (m_is ms) (bi (okB (m_is ms) (m_now ms) (xs (6 * k + 1)) (xs (6 * k + 2)))) (bi (okB (m_is ms) (m_now ms) (xs (6 * k + 1)) (xs (6 * k + 2)) ∧ whyPutN (m_now ms) (ix (xs (6 * k + 1))) (ix (xs (6 * k + 2))) = 0))) (remU (m_und ms) (m_now ms) u) (m_und ms), m_sav ms, m_isv ms, m_buf ms, m_grp ms, m_pag ms⟩ : MM) ∧ τ2 = mc b9 ms2 τ1 := ⟨_, rfl, e2⟩
  subst e1
  have hH2 : HS g τ2 x b9 (hb + 13000) (zq ms u (mayT (m_is ms) (bi (okF (m_is ms) (m_now ms) (xs (6 * k + 1)) ∧ okT (m_is ms) (m_now ms) (xs (6 * k + 2)))) (bi (okB (m_is ms) (m_now ms) (xs (6 * k + 1)) (xs (6 * k + 2)) ∧ whyPutN (m_now ms) (ix (xs (6 * k + 1))) (ix (xs (6 * k + 2))) = 0))) (putIn (m_now ms) (ix (xs (6 * k + 1))) (xs (6 * k + 2)))) ms2 oa1 oD := by rw [em2]; exact hH1.mc
  have hz2 : (zq ms u (mayT (m_is ms) (bi (okF (m_is ms) (m_now ms) (xs (6 * k + 1)) ∧ okT (m_is ms) (m_now ms) (xs (6 * k + 2)))) (bi (okB (m_is ms) (m_now ms) (xs (6 * k + 1)) (xs (6 * k + 2)) ∧ whyPutN (m_now ms) (ix (xs (6 * k + 1))) (ix (xs (6 * k + 2))) = 0))) (putIn (m_now ms) (ix (xs (6 * k + 1))) (xs (6 * k + 2)))) = kM ms2 := ((congrArg (fun z : MM => kM z) ems).trans rfl).symm
  have hthr : m_thr ms2 = mayT (m_is ms) (bi (okF (m_is ms) (m_now ms) (xs (6 * k + 1)) ∧ okT (m_is ms) (m_now ms) (xs (6 * k + 2)))) (bi (okB (m_is ms) (m_now ms) (xs (6 * k + 1)) (xs (6 * k + 2)) ∧ whyPutN (m_now ms) (ix (xs (6 * k + 1))) (ix (xs (6 * k + 2))) = 0)) := (congrArg (fun z : MM => m_thr z) ems).trans rfl
  have hst2 := ((congrArg (fun z : MM => m_st z) ems).trans rfl).trans hst
  refine A_istore dL_law_2910 (Nat.le_of_ble_eq_true rfl) ?_
  refine A_aload_n (i := 2) dL_law_2912 rfl rfl ?_
  refine A_st (σ' := mc b9 ms2 τ2) hH2.2.1.symm ?_
  refine A_callV0E (b' := b + 40923) (v := some (.int (m_thr ms2))) (τ := mc b9 ms2 τ2) (c_thrown b9 ms2 τ2) tX2_thrown q2291 (mc_0 _ _ _) rfl rfl dL_law_2913 (by decide) (by omega) (Nat.le_of_ble_eq_true rfl) ?_
  refine A_st (σ' := τ2) hH2.2.1 ?_
  refine A_iload dL_law_2916 rfl ?_
  refine A_icmp_eq_t (tgt := 2923) dL_law_2918 (by decide) (hthr) ?_
  refine A_iload dL_law_2923 rfl ?_
  refine A_if_ne (tgt := 2940) dL_law_2925 (by decide) (fun c1 => ?_) (fun c1 => ?_)
  · skip
    refine A_goto (tgt := 3776) dL_law_2940 (by decide) ?_
    refine A_sub (L' := [(0, .ref bs), (1, .ref x), (2, .ref b9), (3, .ref (b9 + 9)), (4, .ref (b9 + 10)), (5, .int (nI (6 * k)))]) ⟨rfl, rfl, rfl, rfl, rfl, rfl, trivial⟩ ?_
    refine A_less (b' := b) (by omega) ?_
    exact kk τ2 ⟨ms2, oa1, oD, _, by rw [← hz2]; exact hH2, hst2⟩
  · skip
    refine A_aload_n (i := 3) dL_law_2928 rfl rfl ?_
    refine A_iconst (v := 0) dL_law_2929 (by decide) ?_
    refine A_lald hH2.2.2.1 (by unfold vp_in; decide) dL_law_2930 ?_
    refine A_iload dL_law_2931 rfl ?_
    refine A_i2l dL_law_2933 rfl ?_
    refine A_lcmp dL_law_2934 ?_
    refine A_if_eq_t (tgt := 2940) dL_law_2935 (by decide) (by rw [show oa1 (0 : Int32).toNatClampNeg = _ from hv1 c1]; rw [gd_0 (show mayT (m_is ms) (bi (okF (m_is ms) (m_now ms) (xs (6 * k + 1)) ∧ okT (m_is ms) (m_now ms) (xs (6 * k + 2)))) (bi (okB (m_is ms) (m_now ms) (xs (6 * k + 1)) (xs (6 * k + 2)) ∧ whyPutN (m_now ms) (ix (xs (6 * k + 1))) (ix (xs (6 * k + 2))) = 0)) = 0 from c1)]; exact lg_self _) ?_
    refine A_goto (tgt := 3776) dL_law_2940 (by decide) ?_
    refine A_sub (L' := [(0, .ref bs), (1, .ref x), (2, .ref b9), (3, .ref (b9 + 9)), (4, .ref (b9 + 10)), (5, .int (nI (6 * k)))]) ⟨rfl, rfl, rfl, rfl, rfl, rfl, trivial⟩ ?_
    refine A_less (b' := b) (by omega) ?_
    exact kk τ2 ⟨ms2, oa1, oD, _, by rw [← hz2]; exact hH2, hst2⟩
theorem t_wash {l : Launch} {g : GC} {b : Nat} {Q : Option Value → AH → Prop} {X : String → Nat → AH → Prop} (σ : AH) (x b9 hb bs k n : Nat) (xs : Nat → Int32) (hs : o_arr g .int bs n (fun j => .int (xs j))) (hk : 6 * k + 6 ≤ n) (hn : n ≤ 144) (hhb : hb < 2 ^ 30) (hT : TI g x b9 hb σ) (kk : ∀ τ, TI g x b9 (hb + 13000) τ → AW l g mLaw 60 b Q X 3776 [(0, .ref bs), (1, .ref x), (2, .ref b9), (3, .ref (b9 + 9)), (4, .ref (b9 + 10)), (5, .int (nI (6 * k)))] [] τ) : AW l g mLaw 60 (b + 41000) Q X 2943 [(0, .ref bs), (1, .ref x), (2, .ref b9), (3, .ref (b9 + 9)), (4, .ref (b9 + 10)), (5, .int (nI (6 * k)))] [] σ := by
  obtain ⟨ms, oa, oD, s0, hH, hst⟩ := hT
  obtain ⟨u, hu8, hum⟩ := hH.u
  have hwf := hH.wfc
  refine A_aload_n (i := 1) dL_law_2943 rfl rfl ?_
  refine A_aload_n (i := 0) dL_law_2944 rfl rfl ?_
  refine A_iload dL_law_2945 rfl ?_
  refine A_iconst (v := 1) dL_law_2947 (by decide) ?_
  refine A_iadd dL_law_2948 ?_
  refine A_int (w := nI ((6 * k) + 1)) (nI_add (6 * k) 1) ?_
  refine A_ialdO hs (vp_in_nI (by omega) (by omega)) (v := .int (xs (6 * k + 1))) (by rw [nI_clamp (by omega)]) dL_law_2949 ?_
  refine A_aload_n (i := 0) dL_law_2950 rfl rfl ?_
  refine A_iload dL_law_2951 rfl ?_
  refine A_iconst (v := 2) dL_law_2953 (by decide) ?_
  refine A_iadd dL_law_2954 ?_
  refine A_int (w := nI ((6 * k) + 2)) (nI_add (6 * k) 2) ?_
  refine A_ialdO hs (vp_in_nI (by omega) (by omega)) (v := .int (xs (6 * k + 2))) (by rw [nI_clamp (by omega)]) dL_law_2955 ?_
  refine A_aload_n (i := 3) dL_law_2956 rfl rfl ?_
  refine A_callSH4 (b' := b + 40917) (o_wash σ x b9 hb ms oa oD (xs (6 * k + 1)) (xs (6 * k + 2)) hhb hH hum hu8) tX0_wash (by decide) q2081 dL_law_2957 (by decide) (by omega) (Nat.le_of_ble_eq_true rfl) (fun w9 τ1 h9 => ?_) (fun E9 q9 τ9 h9 => h9.elim)
  obtain ⟨e1, oa1, hH1, hv1⟩ := h9
  subst e1
  refine A_istore dL_law_2960 (Nat.le_of_ble_eq_true rfl) ?_
  refine A_aload_n (i := 2) dL_law_2962 rfl rfl ?_
  refine A_aload_n (i := 0) dL_law_2963 rfl rfl ?_
  refine A_iload dL_law_2964 rfl ?_
  refine A_iconst (v := 1) dL_law_2966 (by decide) ?_
  refine A_iadd dL_law_2967 ?_
  refine A_int (w := nI ((6 * k) + 1)) (nI_add (6 * k) 1) ?_
  refine A_ialdO hs (vp_in_nI (by omega) (by omega)) (v := .int (xs (6 * k + 1))) (by rw [nI_clamp (by omega)]) dL_law_2968 ?_
  refine A_aload_n (i := 0) dL_law_2969 rfl rfl ?_
  refine A_iload dL_law_2970 rfl ?_
  refine A_iconst (v := 2) dL_law_2972 (by decide) ?_
  refine A_iadd dL_law_2973 ?_
  refine A_int (w := nI ((6 * k) + 2)) (nI_add (6 * k) 2) ?_
  refine A_ialdO hs (vp_in_nI (by omega) (by omega)) (v := .int (xs (6 * k + 2))) (by rw [nI_clamp (by omega)]) dL_law_2974 ?_
  refine A_st (σ' := mc b9 (⟨m_thr ms, m_is ms, nI u, m_bd ms, m_pc ms, m_pa ms, m_sz ms, m_cu ms, m_st ms, m_tk ms, m_to ms, m_ps ms, m_now ms, m_asd ms, m_und ms, m_sav ms, m_isv ms, m_buf ms, m_grp ms, m_pag ms⟩ : MM) τ1) (by rw [← hum]; exact hH1.2.1.symm) ?_
  refine A_callV2 (b' := b + 40917) (c_wash b9 ms τ1 u (xs (6 * k + 1)) (xs (6 * k + 2)) hwf.1.1 hu8) tX2_wash q2903 (mc_0 _ _ _) rfl rfl dL_law_2975 (by decide) (by omega) (Nat.le_of_ble_eq_true rfl) (fun w9 τ2 h9 => ?_) (fun E9 q9 τ9 h9 => h9.elim)
  obtain ⟨e1, e2⟩ := h9
  obtain ⟨ms2, ems, em2⟩ : ∃ ms2 : MM, ms2 = (⟨mayT (m_is ms) (bi (okT (m_is ms) (m_now ms) (xs (6 * k + 1)))) (bi (okT (m_is ms) (m_now ms) (xs (6 * k + 1)) ∧ inR (xs (6 * k + 2)) 0 3 ∧ whyWashN (m_now ms) (xs (6 * k + 1)) (xs (6 * k + 2)) = 0)), m_is ms, nI (gq (mayT (m_is ms) (bi (okT (m_is ms) (m_now ms) (xs (6 * k + 1)))) (bi (okT (m_is ms) (m_now ms) (xs (6 * k + 1)) ∧ inR (xs (6 * k + 2)) 0 3 ∧ whyWashN (m_now ms) (xs (6 * k + 1)) (xs (6 * k + 2)) = 0))) (remC u) u), m_bd ms, m_pc ms, m_pa ms, m_sz ms, m_cu ms, m_st ms, m_tk ms, m_to ms, m_ps ms, gq (mayT (m_is ms) (bi (okT (m_is ms) (m_now ms) (xs (6 * k + 1)))) (bi (okT (m_is ms) (m_now ms) (xs (6 * k + 1)) ∧ inR (xs (6 * k + 2)) 0 3 ∧ whyWashN (m_now ms) (xs (6 * k + 1)) (xs (6 * k + 2)) = 0))) (washN (m_now ms) (xs (6 * k + 1)) (xs (6 * k + 2))) (m_now ms), m_asd ms, gq (mayT (m_is ms) (bi (okT (m_is ms) (m_now ms) (xs (6 * k + 1)))) (bi (okT (m_is ms) (m_now ms) (xs (6 * k + 1)) ∧ inR (xs (6 * k + 2)) 0 3 ∧ whyWashN (m_now ms) (xs (6 * k + 1)) (xs (6 * k + 2)) = 0))) (remU (m_und ms) (m_now ms) u) (m_und ms), m_sav ms, m_isv ms, m_buf ms, m_grp ms, m_pag ms⟩ : MM) ∧ τ2 = mc b9 ms2 τ1 := ⟨_, rfl, e2⟩
  subst e1
  have hH2 : HS g τ2 x b9 (hb + 13000) (zq ms u (mayT (m_is ms) (bi (okT (m_is ms) (m_now ms) (xs (6 * k + 1)))) (bi (okT (m_is ms) (m_now ms) (xs (6 * k + 1)) ∧ inR (xs (6 * k + 2)) 0 3 ∧ whyWashN (m_now ms) (xs (6 * k + 1)) (xs (6 * k + 2)) = 0))) (washN (m_now ms) (xs (6 * k + 1)) (xs (6 * k + 2)))) ms2 oa1 oD := by rw [em2]; exact hH1.mc
  have hz2 : (zq ms u (mayT (m_is ms) (bi (okT (m_is ms) (m_now ms) (xs (6 * k + 1)))) (bi (okT (m_is ms) (m_now ms) (xs (6 * k + 1)) ∧ inR (xs (6 * k + 2)) 0 3 ∧ whyWashN (m_now ms) (xs (6 * k + 1)) (xs (6 * k + 2)) = 0))) (washN (m_now ms) (xs (6 * k + 1)) (xs (6 * k + 2)))) = kM ms2 := ((congrArg (fun z : MM => kM z) ems).trans rfl).symm
  have hthr : m_thr ms2 = mayT (m_is ms) (bi (okT (m_is ms) (m_now ms) (xs (6 * k + 1)))) (bi (okT (m_is ms) (m_now ms) (xs (6 * k + 1)) ∧ inR (xs (6 * k + 2)) 0 3 ∧ whyWashN (m_now ms) (xs (6 * k + 1)) (xs (6 * k + 2)) = 0)) := (congrArg (fun z : MM => m_thr z) ems).trans rfl
  have hst2 := ((congrArg (fun z : MM => m_st z) ems).trans rfl).trans hst
  refine A_istore dL_law_2978 (Nat.le_of_ble_eq_true rfl) ?_
  refine A_aload_n (i := 2) dL_law_2980 rfl rfl ?_
  refine A_st (σ' := mc b9 ms2 τ2) hH2.2.1.symm ?_
  refine A_callV0E (b' := b + 40917) (v := some (.int (m_thr ms2))) (τ := mc b9 ms2 τ2) (c_thrown b9 ms2 τ2) tX2_thrown q2291 (mc_0 _ _ _) rfl rfl dL_law_2981 (by decide) (by omega) (Nat.le_of_ble_eq_true rfl) ?_
  refine A_st (σ' := τ2) hH2.2.1 ?_
  refine A_iload dL_law_2984 rfl ?_
  refine A_icmp_eq_t (tgt := 2991) dL_law_2986 (by decide) (hthr) ?_
  refine A_iload dL_law_2991 rfl ?_
  refine A_if_ne (tgt := 3008) dL_law_2993 (by decide) (fun c1 => ?_) (fun c1 => ?_)
  · skip
    refine A_goto (tgt := 3776) dL_law_3008 (by decide) ?_
    refine A_sub (L' := [(0, .ref bs), (1, .ref x), (2, .ref b9), (3, .ref (b9 + 9)), (4, .ref (b9 + 10)), (5, .int (nI (6 * k)))]) ⟨rfl, rfl, rfl, rfl, rfl, rfl, trivial⟩ ?_
    refine A_less (b' := b) (by omega) ?_
    exact kk τ2 ⟨ms2, oa1, oD, _, by rw [← hz2]; exact hH2, hst2⟩
  · skip
    refine A_aload_n (i := 3) dL_law_2996 rfl rfl ?_
    refine A_iconst (v := 0) dL_law_2997 (by decide) ?_
    refine A_lald hH2.2.2.1 (by unfold vp_in; decide) dL_law_2998 ?_
    refine A_iload dL_law_2999 rfl ?_
    refine A_i2l dL_law_3001 rfl ?_
    refine A_lcmp dL_law_3002 ?_
    refine A_if_eq_t (tgt := 3008) dL_law_3003 (by decide) (by rw [show oa1 (0 : Int32).toNatClampNeg = _ from hv1 c1]; rw [gd_0 (show mayT (m_is ms) (bi (okT (m_is ms) (m_now ms) (xs (6 * k + 1)))) (bi (okT (m_is ms) (m_now ms) (xs (6 * k + 1)) ∧ inR (xs (6 * k + 2)) 0 3 ∧ whyWashN (m_now ms) (xs (6 * k + 1)) (xs (6 * k + 2)) = 0)) = 0 from c1)]; exact lg_self _) ?_
    refine A_goto (tgt := 3776) dL_law_3008 (by decide) ?_
    refine A_sub (L' := [(0, .ref bs), (1, .ref x), (2, .ref b9), (3, .ref (b9 + 9)), (4, .ref (b9 + 10)), (5, .int (nI (6 * k)))]) ⟨rfl, rfl, rfl, rfl, rfl, rfl, trivial⟩ ?_
    refine A_less (b' := b) (by omega) ?_
    exact kk τ2 ⟨ms2, oa1, oD, _, by rw [← hz2]; exact hH2, hst2⟩
theorem t_hang {l : Launch} {g : GC} {b : Nat} {Q : Option Value → AH → Prop} {X : String → Nat → AH → Prop} (σ : AH) (x b9 hb bs k n : Nat) (xs : Nat → Int32) (hs : o_arr g .int bs n (fun j => .int (xs j))) (hk : 6 * k + 6 ≤ n) (hn : n ≤ 144) (hhb : hb < 2 ^ 30) (hT : TI g x b9 hb σ) (kk : ∀ τ, TI g x b9 (hb + 13000) τ → AW l g mLaw 60 b Q X 3776 [(0, .ref bs), (1, .ref x), (2, .ref b9), (3, .ref (b9 + 9)), (4, .ref (b9 + 10)), (5, .int (nI (6 * k)))] [] τ) : AW l g mLaw 60 (b + 41000) Q X 3011 [(0, .ref bs), (1, .ref x), (2, .ref b9), (3, .ref (b9 + 9)), (4, .ref (b9 + 10)), (5, .int (nI (6 * k)))] [] σ := by
  obtain ⟨ms, oa, oD, s0, hH, hst⟩ := hT
  obtain ⟨u, hu8, hum⟩ := hH.u
  have hwf := hH.wfc
  refine A_aload_n (i := 1) dL_law_3011 rfl rfl ?_
  refine A_aload_n (i := 0) dL_law_3012 rfl rfl ?_
  refine A_iload dL_law_3013 rfl ?_
  refine A_iconst (v := 1) dL_law_3015 (by decide) ?_
  refine A_iadd dL_law_3016 ?_
  refine A_int (w := nI ((6 * k) + 1)) (nI_add (6 * k) 1) ?_
  refine A_ialdO hs (vp_in_nI (by omega) (by omega)) (v := .int (xs (6 * k + 1))) (by rw [nI_clamp (by omega)]) dL_law_3017 ?_
  refine A_aload_n (i := 3) dL_law_3018 rfl rfl ?_
  refine A_callSH3 (b' := b + 40927) (o_hang σ x b9 hb ms oa oD (xs (6 * k + 1)) hhb hH hum hu8) tX0_hang (by decide) q2089 dL_law_3019 (by decide) (by omega) (Nat.le_of_ble_eq_true rfl) (fun w9 τ1 h9 => ?_) (fun E9 q9 τ9 h9 => h9.elim)
  obtain ⟨e1, oa1, hH1, hv1⟩ := h9
  subst e1
  refine A_istore dL_law_3022 (Nat.le_of_ble_eq_true rfl) ?_
  refine A_aload_n (i := 2) dL_law_3024 rfl rfl ?_
  refine A_aload_n (i := 0) dL_law_3025 rfl rfl ?_
  refine A_iload dL_law_3026 rfl ?_
  refine A_iconst (v := 1) dL_law_3028 (by decide) ?_
  refine A_iadd dL_law_3029 ?_
  refine A_int (w := nI ((6 * k) + 1)) (nI_add (6 * k) 1) ?_
  refine A_ialdO hs (vp_in_nI (by omega) (by omega)) (v := .int (xs (6 * k + 1))) (by rw [nI_clamp (by omega)]) dL_law_3030 ?_
  refine A_st (σ' := mc b9 (⟨m_thr ms, m_is ms, nI u, m_bd ms, m_pc ms, m_pa ms, m_sz ms, m_cu ms, m_st ms, m_tk ms, m_to ms, m_ps ms, m_now ms, m_asd ms, m_und ms, m_sav ms, m_isv ms, m_buf ms, m_grp ms, m_pag ms⟩ : MM) τ1) (by rw [← hum]; exact hH1.2.1.symm) ?_
  refine A_callV1 (b' := b + 40927) (c_hang b9 ms τ1 u (xs (6 * k + 1)) hwf.1.1 hu8) tX2_hang q2907 (mc_0 _ _ _) rfl rfl dL_law_3031 (by decide) (by omega) (Nat.le_of_ble_eq_true rfl) (fun w9 τ2 h9 => ?_) (fun E9 q9 τ9 h9 => h9.elim)
  obtain ⟨e1, e2⟩ := h9
  obtain ⟨ms2, ems, em2⟩ : ∃ ms2 : MM, ms2 = (⟨mayT (m_is ms) (bi (okF (m_is ms) (m_now ms) (xs (6 * k + 1)))) (bi (okF (m_is ms) (m_now ms) (xs (6 * k + 1)) ∧ canHangN (m_now ms) (ix (xs (6 * k + 1))))), m_is ms, nI (gq (mayT (m_is ms) (bi (okF (m_is ms) (m_now ms) (xs (6 * k + 1)))) (bi (okF (m_is ms) (m_now ms) (xs (6 * k + 1)) ∧ canHangN (m_now ms) (ix (xs (6 * k + 1)))))) (remC u) u), m_bd ms, m_pc ms, m_pa ms, m_sz ms, m_cu ms, m_st ms, m_tk ms, m_to ms, m_ps ms, gq (mayT (m_is ms) (bi (okF (m_is ms) (m_now ms) (xs (6 * k + 1)))) (bi (okF (m_is ms) (m_now ms) (xs (6 * k + 1)) ∧ canHangN (m_now ms) (ix (xs (6 * k + 1)))))) (goTo (m_now ms) (ix (xs (6 * k + 1))) 2 (freeN (m_now ms))) (m_now ms), m_asd ms, gq (mayT (m_is ms) (bi (okF (m_is ms) (m_now ms) (xs (6 * k + 1)))) (bi (okF (m_is ms) (m_now ms) (xs (6 * k + 1)) ∧ canHangN (m_now ms) (ix (xs (6 * k + 1)))))) (remU (m_und ms) (m_now ms) u) (m_und ms), m_sav ms, m_isv ms, m_buf ms, m_grp ms, m_pag ms⟩ : MM) ∧ τ2 = mc b9 ms2 τ1 := ⟨_, rfl, e2⟩
  subst e1
  have hH2 : HS g τ2 x b9 (hb + 13000) (zq ms u (mayT (m_is ms) (bi (okF (m_is ms) (m_now ms) (xs (6 * k + 1)))) (bi (okF (m_is ms) (m_now ms) (xs (6 * k + 1)) ∧ canHangN (m_now ms) (ix (xs (6 * k + 1)))))) (goTo (m_now ms) (ix (xs (6 * k + 1))) 2 (freeN (m_now ms)))) ms2 oa1 oD := by rw [em2]; exact hH1.mc
  have hz2 : (zq ms u (mayT (m_is ms) (bi (okF (m_is ms) (m_now ms) (xs (6 * k + 1)))) (bi (okF (m_is ms) (m_now ms) (xs (6 * k + 1)) ∧ canHangN (m_now ms) (ix (xs (6 * k + 1)))))) (goTo (m_now ms) (ix (xs (6 * k + 1))) 2 (freeN (m_now ms)))) = kM ms2 := ((congrArg (fun z : MM => kM z) ems).trans rfl).symm
  have hthr : m_thr ms2 = mayT (m_is ms) (bi (okF (m_is ms) (m_now ms) (xs (6 * k + 1)))) (bi (okF (m_is ms) (m_now ms) (xs (6 * k + 1)) ∧ canHangN (m_now ms) (ix (xs (6 * k + 1))))) := (congrArg (fun z : MM => m_thr z) ems).trans rfl
  have hst2 := ((congrArg (fun z : MM => m_st z) ems).trans rfl).trans hst
  refine A_istore dL_law_3034 (Nat.le_of_ble_eq_true rfl) ?_
  refine A_aload_n (i := 2) dL_law_3036 rfl rfl ?_
  refine A_st (σ' := mc b9 ms2 τ2) hH2.2.1.symm ?_
  refine A_callV0E (b' := b + 40927) (v := some (.int (m_thr ms2))) (τ := mc b9 ms2 τ2) (c_thrown b9 ms2 τ2) tX2_thrown q2291 (mc_0 _ _ _) rfl rfl dL_law_3037 (by decide) (by omega) (Nat.le_of_ble_eq_true rfl) ?_
  refine A_st (σ' := τ2) hH2.2.1 ?_
  refine A_iload dL_law_3040 rfl ?_
  refine A_icmp_eq_t (tgt := 3047) dL_law_3042 (by decide) (hthr) ?_
  refine A_iload dL_law_3047 rfl ?_
  refine A_if_ne (tgt := 3064) dL_law_3049 (by decide) (fun c1 => ?_) (fun c1 => ?_)
  · skip
    refine A_goto (tgt := 3776) dL_law_3064 (by decide) ?_
    refine A_sub (L' := [(0, .ref bs), (1, .ref x), (2, .ref b9), (3, .ref (b9 + 9)), (4, .ref (b9 + 10)), (5, .int (nI (6 * k)))]) ⟨rfl, rfl, rfl, rfl, rfl, rfl, trivial⟩ ?_
    refine A_less (b' := b) (by omega) ?_
    exact kk τ2 ⟨ms2, oa1, oD, _, by rw [← hz2]; exact hH2, hst2⟩
  · skip
    refine A_aload_n (i := 3) dL_law_3052 rfl rfl ?_
    refine A_iconst (v := 0) dL_law_3053 (by decide) ?_
    refine A_lald hH2.2.2.1 (by unfold vp_in; decide) dL_law_3054 ?_
    refine A_iload dL_law_3055 rfl ?_
    refine A_i2l dL_law_3057 rfl ?_
    refine A_lcmp dL_law_3058 ?_
    refine A_if_eq_t (tgt := 3064) dL_law_3059 (by decide) (by rw [show oa1 (0 : Int32).toNatClampNeg = _ from hv1 c1]; rw [gd_0 (show mayT (m_is ms) (bi (okF (m_is ms) (m_now ms) (xs (6 * k + 1)))) (bi (okF (m_is ms) (m_now ms) (xs (6 * k + 1)) ∧ canHangN (m_now ms) (ix (xs (6 * k + 1))))) = 0 from c1)]; exact lg_self _) ?_
    refine A_goto (tgt := 3776) dL_law_3064 (by decide) ?_
    refine A_sub (L' := [(0, .ref bs), (1, .ref x), (2, .ref b9), (3, .ref (b9 + 9)), (4, .ref (b9 + 10)), (5, .int (nI (6 * k)))]) ⟨rfl, rfl, rfl, rfl, rfl, rfl, trivial⟩ ?_
    refine A_less (b' := b) (by omega) ?_
    exact kk τ2 ⟨ms2, oa1, oD, _, by rw [← hz2]; exact hH2, hst2⟩
theorem t_hangAll {l : Launch} {g : GC} {b : Nat} {Q : Option Value → AH → Prop} {X : String → Nat → AH → Prop} (σ : AH) (x b9 hb bs k n : Nat) (xs : Nat → Int32) (hs : o_arr g .int bs n (fun j => .int (xs j))) (hk : 6 * k + 6 ≤ n) (hn : n ≤ 144) (hhb : hb < 2 ^ 30) (hT : TI g x b9 hb σ) (kk : ∀ τ, TI g x b9 (hb + 13000) τ → AW l g mLaw 60 b Q X 3776 [(0, .ref bs), (1, .ref x), (2, .ref b9), (3, .ref (b9 + 9)), (4, .ref (b9 + 10)), (5, .int (nI (6 * k)))] [] τ) : AW l g mLaw 60 (b + 41000) Q X 3067 [(0, .ref bs), (1, .ref x), (2, .ref b9), (3, .ref (b9 + 9)), (4, .ref (b9 + 10)), (5, .int (nI (6 * k)))] [] σ := by
  obtain ⟨ms, oa, oD, s0, hH, hst⟩ := hT
  obtain ⟨u, hu8, hum⟩ := hH.u
  have hwf := hH.wfc
  refine A_aload_n (i := 1) dL_law_3067 rfl rfl ?_
  refine A_aload_n (i := 3) dL_law_3068 rfl rfl ?_
  refine A_callSH2 (b' := b + 40917) (o_hangAll σ x b9 hb ms oa oD hhb hH hum hu8) tX0_hangAll (by decide) q2098 dL_law_3069 (by decide) (by omega) (Nat.le_of_ble_eq_true rfl) (fun w9 τ1 h9 => ?_) (fun E9 q9 τ9 h9 => h9.elim)
  obtain ⟨e1, oa1, hH1, hv1⟩ := h9
  subst e1
  refine A_istore dL_law_3072 (Nat.le_of_ble_eq_true rfl) ?_
  refine A_aload_n (i := 2) dL_law_3074 rfl rfl ?_
  refine A_st (σ' := mc b9 (⟨m_thr ms, m_is ms, nI u, m_bd ms, m_pc ms, m_pa ms, m_sz ms, m_cu ms, m_st ms, m_tk ms, m_to ms, m_ps ms, m_now ms, m_asd ms, m_und ms, m_sav ms, m_isv ms, m_buf ms, m_grp ms, m_pag ms⟩ : MM) τ1) (by rw [← hum]; exact hH1.2.1.symm) ?_
  refine A_callV0 (b' := b + 40917) (c_hangAll b9 ms τ1 u hwf.1.1 hu8) tX2_hangAll q2911 (mc_0 _ _ _) rfl rfl dL_law_3075 (by decide) (by omega) (Nat.le_of_ble_eq_true rfl) (fun w9 τ2 h9 => ?_) (fun E9 q9 τ9 h9 => h9.elim)
  obtain ⟨e1, e2⟩ := h9
  obtain ⟨ms2, ems, em2⟩ : ∃ ms2 : MM, ms2 = (⟨mayT (m_is ms) 1 1, m_is ms, nI (gq (mayT (m_is ms) 1 1) (remC u) u), m_bd ms, m_pc ms, m_pa ms, m_sz ms, m_cu ms, m_st ms, m_tk ms, m_to ms, m_ps ms, gq (mayT (m_is ms) 1 1) (haU (m_now ms) (nF (m_now ms))) (m_now ms), m_asd ms, gq (mayT (m_is ms) 1 1) (remU (m_und ms) (m_now ms) u) (m_und ms), m_sav ms, m_isv ms, m_buf ms, m_grp ms, m_pag ms⟩ : MM) ∧ τ2 = mc b9 ms2 τ1 := ⟨_, rfl, e2⟩
  subst e1
  have hH2 : HS g τ2 x b9 (hb + 13000) (zq ms u (mayT (m_is ms) 1 1) (haU (m_now ms) (nF (m_now ms)))) ms2 oa1 oD := by rw [em2]; exact hH1.mc
  have hz2 : (zq ms u (mayT (m_is ms) 1 1) (haU (m_now ms) (nF (m_now ms)))) = kM ms2 := ((congrArg (fun z : MM => kM z) ems).trans rfl).symm
  have hthr : m_thr ms2 = mayT (m_is ms) 1 1 := (congrArg (fun z : MM => m_thr z) ems).trans rfl
  have hst2 := ((congrArg (fun z : MM => m_st z) ems).trans rfl).trans hst
  refine A_istore dL_law_3078 (Nat.le_of_ble_eq_true rfl) ?_
  refine A_aload_n (i := 2) dL_law_3080 rfl rfl ?_
  refine A_st (σ' := mc b9 ms2 τ2) hH2.2.1.symm ?_
  refine A_callV0E (b' := b + 40917) (v := some (.int (m_thr ms2))) (τ := mc b9 ms2 τ2) (c_thrown b9 ms2 τ2) tX2_thrown q2291 (mc_0 _ _ _) rfl rfl dL_law_3081 (by decide) (by omega) (Nat.le_of_ble_eq_true rfl) ?_
  refine A_st (σ' := τ2) hH2.2.1 ?_
  refine A_iload dL_law_3084 rfl ?_
  refine A_icmp_eq_t (tgt := 3091) dL_law_3086 (by decide) (hthr) ?_
  refine A_iload dL_law_3091 rfl ?_
  refine A_if_ne (tgt := 3108) dL_law_3093 (by decide) (fun c1 => ?_) (fun c1 => ?_)
  · skip
    refine A_goto (tgt := 3776) dL_law_3108 (by decide) ?_
    refine A_sub (L' := [(0, .ref bs), (1, .ref x), (2, .ref b9), (3, .ref (b9 + 9)), (4, .ref (b9 + 10)), (5, .int (nI (6 * k)))]) ⟨rfl, rfl, rfl, rfl, rfl, rfl, trivial⟩ ?_
    refine A_less (b' := b) (by omega) ?_
    exact kk τ2 ⟨ms2, oa1, oD, _, by rw [← hz2]; exact hH2, hst2⟩
  · skip
    refine A_aload_n (i := 3) dL_law_3096 rfl rfl ?_
    refine A_iconst (v := 0) dL_law_3097 (by decide) ?_
    refine A_lald hH2.2.2.1 (by unfold vp_in; decide) dL_law_3098 ?_
    refine A_iload dL_law_3099 rfl ?_
    refine A_i2l dL_law_3101 rfl ?_
    refine A_lcmp dL_law_3102 ?_
    refine A_if_eq_t (tgt := 3108) dL_law_3103 (by decide) (by rw [show oa1 (0 : Int32).toNatClampNeg = _ from hv1 c1]; rw [gd_0 (show mayT (m_is ms) 1 1 = 0 from c1)]; exact lg_self _) ?_
    refine A_goto (tgt := 3776) dL_law_3108 (by decide) ?_
    refine A_sub (L' := [(0, .ref bs), (1, .ref x), (2, .ref b9), (3, .ref (b9 + 9)), (4, .ref (b9 + 10)), (5, .int (nI (6 * k)))]) ⟨rfl, rfl, rfl, rfl, rfl, rfl, trivial⟩ ?_
    refine A_less (b' := b) (by omega) ?_
    exact kk τ2 ⟨ms2, oa1, oD, _, by rw [← hz2]; exact hH2, hst2⟩
theorem t_takeDown {l : Launch} {g : GC} {b : Nat} {Q : Option Value → AH → Prop} {X : String → Nat → AH → Prop} (σ : AH) (x b9 hb bs k n : Nat) (xs : Nat → Int32) (hs : o_arr g .int bs n (fun j => .int (xs j))) (hk : 6 * k + 6 ≤ n) (hn : n ≤ 144) (hhb : hb < 2 ^ 30) (hT : TI g x b9 hb σ) (kk : ∀ τ, TI g x b9 (hb + 13000) τ → AW l g mLaw 60 b Q X 3776 [(0, .ref bs), (1, .ref x), (2, .ref b9), (3, .ref (b9 + 9)), (4, .ref (b9 + 10)), (5, .int (nI (6 * k)))] [] τ) : AW l g mLaw 60 (b + 41000) Q X 3111 [(0, .ref bs), (1, .ref x), (2, .ref b9), (3, .ref (b9 + 9)), (4, .ref (b9 + 10)), (5, .int (nI (6 * k)))] [] σ := by
  obtain ⟨ms, oa, oD, s0, hH, hst⟩ := hT
  obtain ⟨u, hu8, hum⟩ := hH.u
  have hwf := hH.wfc
  refine A_aload_n (i := 1) dL_law_3111 rfl rfl ?_
  refine A_aload_n (i := 0) dL_law_3112 rfl rfl ?_
  refine A_iload dL_law_3113 rfl ?_
  refine A_iconst (v := 1) dL_law_3115 (by decide) ?_
  refine A_iadd dL_law_3116 ?_
  refine A_int (w := nI ((6 * k) + 1)) (nI_add (6 * k) 1) ?_
  refine A_ialdO hs (vp_in_nI (by omega) (by omega)) (v := .int (xs (6 * k + 1))) (by rw [nI_clamp (by omega)]) dL_law_3117 ?_
  refine A_aload_n (i := 3) dL_law_3118 rfl rfl ?_
  refine A_callSH3 (b' := b + 40929) (o_takeDown σ x b9 hb ms oa oD (xs (6 * k + 1)) hhb hH hum hu8) tX0_takeDown (by decide) q2105 dL_law_3119 (by decide) (by omega) (Nat.le_of_ble_eq_true rfl) (fun w9 τ1 h9 => ?_) (fun E9 q9 τ9 h9 => h9.elim)
  obtain ⟨e1, oa1, hH1, hv1⟩ := h9
  subst e1
  refine A_istore dL_law_3122 (Nat.le_of_ble_eq_true rfl) ?_
  refine A_aload_n (i := 2) dL_law_3124 rfl rfl ?_
  refine A_aload_n (i := 0) dL_law_3125 rfl rfl ?_
  refine A_iload dL_law_3126 rfl ?_
  refine A_iconst (v := 1) dL_law_3128 (by decide) ?_
  refine A_iadd dL_law_3129 ?_
  refine A_int (w := nI ((6 * k) + 1)) (nI_add (6 * k) 1) ?_
  refine A_ialdO hs (vp_in_nI (by omega) (by omega)) (v := .int (xs (6 * k + 1))) (by rw [nI_clamp (by omega)]) dL_law_3130 ?_
  refine A_st (σ' := mc b9 (⟨m_thr ms, m_is ms, nI u, m_bd ms, m_pc ms, m_pa ms, m_sz ms, m_cu ms, m_st ms, m_tk ms, m_to ms, m_ps ms, m_now ms, m_asd ms, m_und ms, m_sav ms, m_isv ms, m_buf ms, m_grp ms, m_pag ms⟩ : MM) τ1) (by rw [← hum]; exact hH1.2.1.symm) ?_
  refine A_callV1 (b' := b + 40929) (c_takeDown b9 ms τ1 u (xs (6 * k + 1)) hwf.1.1 hu8) tX2_takeDown q2919 (mc_0 _ _ _) rfl rfl dL_law_3131 (by decide) (by omega) (Nat.le_of_ble_eq_true rfl) (fun w9 τ2 h9 => ?_) (fun E9 q9 τ9 h9 => h9.elim)
  obtain ⟨e1, e2⟩ := h9
  obtain ⟨ms2, ems, em2⟩ : ∃ ms2 : MM, ms2 = (⟨mayT (m_is ms) (bi (okF (m_is ms) (m_now ms) (xs (6 * k + 1)))) (bi (okF (m_is ms) (m_now ms) (xs (6 * k + 1)) ∧ (fl (m_now ms) (ix (xs (6 * k + 1))) 8 = 1 ∨ fl (m_now ms) (ix (xs (6 * k + 1))) 8 = 2))), m_is ms, nI (gq (mayT (m_is ms) (bi (okF (m_is ms) (m_now ms) (xs (6 * k + 1)))) (bi (okF (m_is ms) (m_now ms) (xs (6 * k + 1)) ∧ (fl (m_now ms) (ix (xs (6 * k + 1))) 8 = 1 ∨ fl (m_now ms) (ix (xs (6 * k + 1))) 8 = 2)))) (remC u) u), m_bd ms, m_pc ms, m_pa ms, m_sz ms, m_cu ms, m_st ms, m_tk ms, m_to ms, m_ps ms, gq (mayT (m_is ms) (bi (okF (m_is ms) (m_now ms) (xs (6 * k + 1)))) (bi (okF (m_is ms) (m_now ms) (xs (6 * k + 1)) ∧ (fl (m_now ms) (ix (xs (6 * k + 1))) 8 = 1 ∨ fl (m_now ms) (ix (xs (6 * k + 1))) 8 = 2)))) (goTo (m_now ms) (ix (xs (6 * k + 1))) 0 (-1)) (m_now ms), m_asd ms, gq (mayT (m_is ms) (bi (okF (m_is ms) (m_now ms) (xs (6 * k + 1)))) (bi (okF (m_is ms) (m_now ms) (xs (6 * k + 1)) ∧ (fl (m_now ms) (ix (xs (6 * k + 1))) 8 = 1 ∨ fl (m_now ms) (ix (xs (6 * k + 1))) 8 = 2)))) (remU (m_und ms) (m_now ms) u) (m_und ms), m_sav ms, m_isv ms, m_buf ms, m_grp ms, m_pag ms⟩ : MM) ∧ τ2 = mc b9 ms2 τ1 := ⟨_, rfl, e2⟩
  subst e1
  have hH2 : HS g τ2 x b9 (hb + 13000) (zq ms u (mayT (m_is ms) (bi (okF (m_is ms) (m_now ms) (xs (6 * k + 1)))) (bi (okF (m_is ms) (m_now ms) (xs (6 * k + 1)) ∧ (fl (m_now ms) (ix (xs (6 * k + 1))) 8 = 1 ∨ fl (m_now ms) (ix (xs (6 * k + 1))) 8 = 2)))) (goTo (m_now ms) (ix (xs (6 * k + 1))) 0 (-1))) ms2 oa1 oD := by rw [em2]; exact hH1.mc
  have hz2 : (zq ms u (mayT (m_is ms) (bi (okF (m_is ms) (m_now ms) (xs (6 * k + 1)))) (bi (okF (m_is ms) (m_now ms) (xs (6 * k + 1)) ∧ (fl (m_now ms) (ix (xs (6 * k + 1))) 8 = 1 ∨ fl (m_now ms) (ix (xs (6 * k + 1))) 8 = 2)))) (goTo (m_now ms) (ix (xs (6 * k + 1))) 0 (-1))) = kM ms2 := ((congrArg (fun z : MM => kM z) ems).trans rfl).symm
  have hthr : m_thr ms2 = mayT (m_is ms) (bi (okF (m_is ms) (m_now ms) (xs (6 * k + 1)))) (bi (okF (m_is ms) (m_now ms) (xs (6 * k + 1)) ∧ (fl (m_now ms) (ix (xs (6 * k + 1))) 8 = 1 ∨ fl (m_now ms) (ix (xs (6 * k + 1))) 8 = 2))) := (congrArg (fun z : MM => m_thr z) ems).trans rfl
  have hst2 := ((congrArg (fun z : MM => m_st z) ems).trans rfl).trans hst
  refine A_istore dL_law_3134 (Nat.le_of_ble_eq_true rfl) ?_
  refine A_aload_n (i := 2) dL_law_3136 rfl rfl ?_
  refine A_st (σ' := mc b9 ms2 τ2) hH2.2.1.symm ?_
  refine A_callV0E (b' := b + 40929) (v := some (.int (m_thr ms2))) (τ := mc b9 ms2 τ2) (c_thrown b9 ms2 τ2) tX2_thrown q2291 (mc_0 _ _ _) rfl rfl dL_law_3137 (by decide) (by omega) (Nat.le_of_ble_eq_true rfl) ?_
  refine A_st (σ' := τ2) hH2.2.1 ?_
  refine A_iload dL_law_3140 rfl ?_
  refine A_icmp_eq_t (tgt := 3147) dL_law_3142 (by decide) (hthr) ?_
  refine A_iload dL_law_3147 rfl ?_
  refine A_if_ne (tgt := 3164) dL_law_3149 (by decide) (fun c1 => ?_) (fun c1 => ?_)
  · skip
    refine A_goto (tgt := 3776) dL_law_3164 (by decide) ?_
    refine A_sub (L' := [(0, .ref bs), (1, .ref x), (2, .ref b9), (3, .ref (b9 + 9)), (4, .ref (b9 + 10)), (5, .int (nI (6 * k)))]) ⟨rfl, rfl, rfl, rfl, rfl, rfl, trivial⟩ ?_
    refine A_less (b' := b) (by omega) ?_
    exact kk τ2 ⟨ms2, oa1, oD, _, by rw [← hz2]; exact hH2, hst2⟩
  · skip
    refine A_aload_n (i := 3) dL_law_3152 rfl rfl ?_
    refine A_iconst (v := 0) dL_law_3153 (by decide) ?_
    refine A_lald hH2.2.2.1 (by unfold vp_in; decide) dL_law_3154 ?_
    refine A_iload dL_law_3155 rfl ?_
    refine A_i2l dL_law_3157 rfl ?_
    refine A_lcmp dL_law_3158 ?_
    refine A_if_eq_t (tgt := 3164) dL_law_3159 (by decide) (by rw [show oa1 (0 : Int32).toNatClampNeg = _ from hv1 c1]; rw [gd_0 (show mayT (m_is ms) (bi (okF (m_is ms) (m_now ms) (xs (6 * k + 1)))) (bi (okF (m_is ms) (m_now ms) (xs (6 * k + 1)) ∧ (fl (m_now ms) (ix (xs (6 * k + 1))) 8 = 1 ∨ fl (m_now ms) (ix (xs (6 * k + 1))) 8 = 2))) = 0 from c1)]; exact lg_self _) ?_
    refine A_goto (tgt := 3776) dL_law_3164 (by decide) ?_
    refine A_sub (L' := [(0, .ref bs), (1, .ref x), (2, .ref b9), (3, .ref (b9 + 9)), (4, .ref (b9 + 10)), (5, .int (nI (6 * k)))]) ⟨rfl, rfl, rfl, rfl, rfl, rfl, trivial⟩ ?_
    refine A_less (b' := b) (by omega) ?_
    exact kk τ2 ⟨ms2, oa1, oD, _, by rw [← hz2]; exact hH2, hst2⟩
theorem t_clearTub {l : Launch} {g : GC} {b : Nat} {Q : Option Value → AH → Prop} {X : String → Nat → AH → Prop} (σ : AH) (x b9 hb bs k n : Nat) (xs : Nat → Int32) (hs : o_arr g .int bs n (fun j => .int (xs j))) (hk : 6 * k + 6 ≤ n) (hn : n ≤ 144) (hhb : hb < 2 ^ 30) (hT : TI g x b9 hb σ) (kk : ∀ τ, TI g x b9 (hb + 13000) τ → AW l g mLaw 60 b Q X 3776 [(0, .ref bs), (1, .ref x), (2, .ref b9), (3, .ref (b9 + 9)), (4, .ref (b9 + 10)), (5, .int (nI (6 * k)))] [] τ) : AW l g mLaw 60 (b + 41000) Q X 3167 [(0, .ref bs), (1, .ref x), (2, .ref b9), (3, .ref (b9 + 9)), (4, .ref (b9 + 10)), (5, .int (nI (6 * k)))] [] σ := by
  obtain ⟨ms, oa, oD, s0, hH, hst⟩ := hT
  obtain ⟨u, hu8, hum⟩ := hH.u
  have hwf := hH.wfc
  refine A_aload_n (i := 1) dL_law_3167 rfl rfl ?_
  refine A_aload_n (i := 0) dL_law_3168 rfl rfl ?_
  refine A_iload dL_law_3169 rfl ?_
  refine A_iconst (v := 1) dL_law_3171 (by decide) ?_
  refine A_iadd dL_law_3172 ?_
  refine A_int (w := nI ((6 * k) + 1)) (nI_add (6 * k) 1) ?_
  refine A_ialdO hs (vp_in_nI (by omega) (by omega)) (v := .int (xs (6 * k + 1))) (by rw [nI_clamp (by omega)]) dL_law_3173 ?_
  refine A_aload_n (i := 3) dL_law_3174 rfl rfl ?_
  refine A_callSH3 (b' := b + 40916) (o_clearTub σ x b9 hb ms oa oD (xs (6 * k + 1)) hhb hH hum hu8) tX0_clearTub (by decide) q2113 dL_law_3175 (by decide) (by omega) (Nat.le_of_ble_eq_true rfl) (fun w9 τ1 h9 => ?_) (fun E9 q9 τ9 h9 => h9.elim)
  obtain ⟨e1, oa1, hH1, hv1⟩ := h9
  subst e1
  refine A_istore dL_law_3178 (Nat.le_of_ble_eq_true rfl) ?_
  refine A_aload_n (i := 2) dL_law_3180 rfl rfl ?_
  refine A_aload_n (i := 0) dL_law_3181 rfl rfl ?_
  refine A_iload dL_law_3182 rfl ?_
  refine A_iconst (v := 1) dL_law_3184 (by decide) ?_
  refine A_iadd dL_law_3185 ?_
  refine A_int (w := nI ((6 * k) + 1)) (nI_add (6 * k) 1) ?_
  refine A_ialdO hs (vp_in_nI (by omega) (by omega)) (v := .int (xs (6 * k + 1))) (by rw [nI_clamp (by omega)]) dL_law_3186 ?_
  refine A_st (σ' := mc b9 (⟨m_thr ms, m_is ms, nI u, m_bd ms, m_pc ms, m_pa ms, m_sz ms, m_cu ms, m_st ms, m_tk ms, m_to ms, m_ps ms, m_now ms, m_asd ms, m_und ms, m_sav ms, m_isv ms, m_buf ms, m_grp ms, m_pag ms⟩ : MM) τ1) (by rw [← hum]; exact hH1.2.1.symm) ?_
  refine A_callV1 (b' := b + 40916) (c_clearTub b9 ms τ1 u (xs (6 * k + 1)) hwf.1.1 hu8) tX2_clearTub q2915 (mc_0 _ _ _) rfl rfl dL_law_3187 (by decide) (by omega) (Nat.le_of_ble_eq_true rfl) (fun w9 τ2 h9 => ?_) (fun E9 q9 τ9 h9 => h9.elim)
  obtain ⟨e1, e2⟩ := h9
  obtain ⟨ms2, ems, em2⟩ : ∃ ms2 : MM, ms2 = (⟨mayT (m_is ms) (bi (okT (m_is ms) (m_now ms) (xs (6 * k + 1)))) 1, m_is ms, nI (gq (mayT (m_is ms) (bi (okT (m_is ms) (m_now ms) (xs (6 * k + 1)))) 1) (remC u) u), m_bd ms, m_pc ms, m_pa ms, m_sz ms, m_cu ms, m_st ms, m_tk ms, m_to ms, m_ps ms, gq (mayT (m_is ms) (bi (okT (m_is ms) (m_now ms) (xs (6 * k + 1)))) 1) (clU (m_now ms) (xs (6 * k + 1)) (nF (m_now ms))) (m_now ms), m_asd ms, gq (mayT (m_is ms) (bi (okT (m_is ms) (m_now ms) (xs (6 * k + 1)))) 1) (remU (m_und ms) (m_now ms) u) (m_und ms), m_sav ms, m_isv ms, m_buf ms, m_grp ms, m_pag ms⟩ : MM) ∧ τ2 = mc b9 ms2 τ1 := ⟨_, rfl, e2⟩
  subst e1
  have hH2 : HS g τ2 x b9 (hb + 13000) (zq ms u (mayT (m_is ms) (bi (okT (m_is ms) (m_now ms) (xs (6 * k + 1)))) 1) (clU (m_now ms) (xs (6 * k + 1)) (nF (m_now ms)))) ms2 oa1 oD := by rw [em2]; exact hH1.mc
  have hz2 : (zq ms u (mayT (m_is ms) (bi (okT (m_is ms) (m_now ms) (xs (6 * k + 1)))) 1) (clU (m_now ms) (xs (6 * k + 1)) (nF (m_now ms)))) = kM ms2 := ((congrArg (fun z : MM => kM z) ems).trans rfl).symm
  have hthr : m_thr ms2 = mayT (m_is ms) (bi (okT (m_is ms) (m_now ms) (xs (6 * k + 1)))) 1 := (congrArg (fun z : MM => m_thr z) ems).trans rfl
  have hst2 := ((congrArg (fun z : MM => m_st z) ems).trans rfl).trans hst
  refine A_istore dL_law_3190 (Nat.le_of_ble_eq_true rfl) ?_
  refine A_aload_n (i := 2) dL_law_3192 rfl rfl ?_
  refine A_st (σ' := mc b9 ms2 τ2) hH2.2.1.symm ?_
  refine A_callV0E (b' := b + 40916) (v := some (.int (m_thr ms2))) (τ := mc b9 ms2 τ2) (c_thrown b9 ms2 τ2) tX2_thrown q2291 (mc_0 _ _ _) rfl rfl dL_law_3193 (by decide) (by omega) (Nat.le_of_ble_eq_true rfl) ?_
  refine A_st (σ' := τ2) hH2.2.1 ?_
  refine A_iload dL_law_3196 rfl ?_
  refine A_icmp_eq_t (tgt := 3203) dL_law_3198 (by decide) (hthr) ?_
  refine A_iload dL_law_3203 rfl ?_
  refine A_if_ne (tgt := 3220) dL_law_3205 (by decide) (fun c1 => ?_) (fun c1 => ?_)
  · skip
    refine A_goto (tgt := 3776) dL_law_3220 (by decide) ?_
    refine A_sub (L' := [(0, .ref bs), (1, .ref x), (2, .ref b9), (3, .ref (b9 + 9)), (4, .ref (b9 + 10)), (5, .int (nI (6 * k)))]) ⟨rfl, rfl, rfl, rfl, rfl, rfl, trivial⟩ ?_
    refine A_less (b' := b) (by omega) ?_
    exact kk τ2 ⟨ms2, oa1, oD, _, by rw [← hz2]; exact hH2, hst2⟩
  · skip
    refine A_aload_n (i := 3) dL_law_3208 rfl rfl ?_
    refine A_iconst (v := 0) dL_law_3209 (by decide) ?_
    refine A_lald hH2.2.2.1 (by unfold vp_in; decide) dL_law_3210 ?_
    refine A_iload dL_law_3211 rfl ?_
    refine A_i2l dL_law_3213 rfl ?_
    refine A_lcmp dL_law_3214 ?_
    refine A_if_eq_t (tgt := 3220) dL_law_3215 (by decide) (by rw [show oa1 (0 : Int32).toNatClampNeg = _ from hv1 c1]; rw [gd_0 (show mayT (m_is ms) (bi (okT (m_is ms) (m_now ms) (xs (6 * k + 1)))) 1 = 0 from c1)]; exact lg_self _) ?_
    refine A_goto (tgt := 3776) dL_law_3220 (by decide) ?_
    refine A_sub (L' := [(0, .ref bs), (1, .ref x), (2, .ref b9), (3, .ref (b9 + 9)), (4, .ref (b9 + 10)), (5, .int (nI (6 * k)))]) ⟨rfl, rfl, rfl, rfl, rfl, rfl, trivial⟩ ?_
    refine A_less (b' := b) (by omega) ?_
    exact kk τ2 ⟨ms2, oa1, oD, _, by rw [← hz2]; exact hH2, hst2⟩
theorem t_iron {l : Launch} {g : GC} {b : Nat} {Q : Option Value → AH → Prop} {X : String → Nat → AH → Prop} (σ : AH) (x b9 hb bs k n : Nat) (xs : Nat → Int32) (hs : o_arr g .int bs n (fun j => .int (xs j))) (hk : 6 * k + 6 ≤ n) (hn : n ≤ 144) (hhb : hb < 2 ^ 30) (hT : TI g x b9 hb σ) (kk : ∀ τ, TI g x b9 (hb + 13000) τ → AW l g mLaw 60 b Q X 3776 [(0, .ref bs), (1, .ref x), (2, .ref b9), (3, .ref (b9 + 9)), (4, .ref (b9 + 10)), (5, .int (nI (6 * k)))] [] τ) : AW l g mLaw 60 (b + 41000) Q X 3223 [(0, .ref bs), (1, .ref x), (2, .ref b9), (3, .ref (b9 + 9)), (4, .ref (b9 + 10)), (5, .int (nI (6 * k)))] [] σ := by
  obtain ⟨ms, oa, oD, s0, hH, hst⟩ := hT
  obtain ⟨u, hu8, hum⟩ := hH.u
  have hwf := hH.wfc
  refine A_aload_n (i := 1) dL_law_3223 rfl rfl ?_
  refine A_aload_n (i := 0) dL_law_3224 rfl rfl ?_
  refine A_iload dL_law_3225 rfl ?_
  refine A_iconst (v := 1) dL_law_3227 (by decide) ?_
  refine A_iadd dL_law_3228 ?_
  refine A_int (w := nI ((6 * k) + 1)) (nI_add (6 * k) 1) ?_
  refine A_ialdO hs (vp_in_nI (by omega) (by omega)) (v := .int (xs (6 * k + 1))) (by rw [nI_clamp (by omega)]) dL_law_3229 ?_
  refine A_aload_n (i := 0) dL_law_3230 rfl rfl ?_
  refine A_iload dL_law_3231 rfl ?_
  refine A_iconst (v := 2) dL_law_3233 (by decide) ?_
  refine A_iadd dL_law_3234 ?_
  refine A_int (w := nI ((6 * k) + 2)) (nI_add (6 * k) 2) ?_
  refine A_ialdO hs (vp_in_nI (by omega) (by omega)) (v := .int (xs (6 * k + 2))) (by rw [nI_clamp (by omega)]) dL_law_3235 ?_
  refine A_aload_n (i := 3) dL_law_3236 rfl rfl ?_
  refine A_callSH4 (b' := b + 40929) (o_iron σ x b9 hb ms oa oD (xs (6 * k + 1)) (xs (6 * k + 2)) hhb hH hum hu8) tX0_iron (by decide) q2121 dL_law_3237 (by decide) (by omega) (Nat.le_of_ble_eq_true rfl) (fun w9 τ1 h9 => ?_) (fun E9 q9 τ9 h9 => h9.elim)
  obtain ⟨e1, oa1, hH1, hv1⟩ := h9
  subst e1
  refine A_istore dL_law_3240 (Nat.le_of_ble_eq_true rfl) ?_
  refine A_aload_n (i := 2) dL_law_3242 rfl rfl ?_
  refine A_aload_n (i := 0) dL_law_3243 rfl rfl ?_
  refine A_iload dL_law_3244 rfl ?_
  refine A_iconst (v := 1) dL_law_3246 (by decide) ?_
  refine A_iadd dL_law_3247 ?_
  refine A_int (w := nI ((6 * k) + 1)) (nI_add (6 * k) 1) ?_
  refine A_ialdO hs (vp_in_nI (by omega) (by omega)) (v := .int (xs (6 * k + 1))) (by rw [nI_clamp (by omega)]) dL_law_3248 ?_
  refine A_aload_n (i := 0) dL_law_3249 rfl rfl ?_
  refine A_iload dL_law_3250 rfl ?_
  refine A_iconst (v := 2) dL_law_3252 (by decide) ?_
  refine A_iadd dL_law_3253 ?_
  refine A_int (w := nI ((6 * k) + 2)) (nI_add (6 * k) 2) ?_
  refine A_ialdO hs (vp_in_nI (by omega) (by omega)) (v := .int (xs (6 * k + 2))) (by rw [nI_clamp (by omega)]) dL_law_3254 ?_
  refine A_st (σ' := mc b9 (⟨m_thr ms, m_is ms, nI u, m_bd ms, m_pc ms, m_pa ms, m_sz ms, m_cu ms, m_st ms, m_tk ms, m_to ms, m_ps ms, m_now ms, m_asd ms, m_und ms, m_sav ms, m_isv ms, m_buf ms, m_grp ms, m_pag ms⟩ : MM) τ1) (by rw [← hum]; exact hH1.2.1.symm) ?_
  refine A_callV2 (b' := b + 40929) (c_iron b9 ms τ1 u (xs (6 * k + 1)) (xs (6 * k + 2)) hwf.1.1 hu8) tX2_iron q2923 (mc_0 _ _ _) rfl rfl dL_law_3255 (by decide) (by omega) (Nat.le_of_ble_eq_true rfl) (fun w9 τ2 h9 => ?_) (fun E9 q9 τ9 h9 => h9.elim)
  obtain ⟨e1, e2⟩ := h9
  obtain ⟨ms2, ems, em2⟩ : ∃ ms2 : MM, ms2 = (⟨mayT (m_is ms) (bi (okF (m_is ms) (m_now ms) (xs (6 * k + 1)))) (bi (okF (m_is ms) (m_now ms) (xs (6 * k + 1)) ∧ inR (xs (6 * k + 2)) 0 3 ∧ whyIronN (m_now ms) (ix (xs (6 * k + 1))) (xs (6 * k + 2)) = 0)), m_is ms, nI (gq (mayT (m_is ms) (bi (okF (m_is ms) (m_now ms) (xs (6 * k + 1)))) (bi (okF (m_is ms) (m_now ms) (xs (6 * k + 1)) ∧ inR (xs (6 * k + 2)) 0 3 ∧ whyIronN (m_now ms) (ix (xs (6 * k + 1))) (xs (6 * k + 2)) = 0))) (remC u) u), m_bd ms, m_pc ms, m_pa ms, m_sz ms, m_cu ms, m_st ms, m_tk ms, m_to ms, m_ps ms, gq (mayT (m_is ms) (bi (okF (m_is ms) (m_now ms) (xs (6 * k + 1)))) (bi (okF (m_is ms) (m_now ms) (xs (6 * k + 1)) ∧ inR (xs (6 * k + 2)) 0 3 ∧ whyIronN (m_now ms) (ix (xs (6 * k + 1))) (xs (6 * k + 2)) = 0))) (ironN (m_now ms) (ix (xs (6 * k + 1))) (xs (6 * k + 2))) (m_now ms), m_asd ms, gq (mayT (m_is ms) (bi (okF (m_is ms) (m_now ms) (xs (6 * k + 1)))) (bi (okF (m_is ms) (m_now ms) (xs (6 * k + 1)) ∧ inR (xs (6 * k + 2)) 0 3 ∧ whyIronN (m_now ms) (ix (xs (6 * k + 1))) (xs (6 * k + 2)) = 0))) (remU (m_und ms) (m_now ms) u) (m_und ms), m_sav ms, m_isv ms, m_buf ms, m_grp ms, m_pag ms⟩ : MM) ∧ τ2 = mc b9 ms2 τ1 := ⟨_, rfl, e2⟩
  subst e1
  have hH2 : HS g τ2 x b9 (hb + 13000) (zq ms u (mayT (m_is ms) (bi (okF (m_is ms) (m_now ms) (xs (6 * k + 1)))) (bi (okF (m_is ms) (m_now ms) (xs (6 * k + 1)) ∧ inR (xs (6 * k + 2)) 0 3 ∧ whyIronN (m_now ms) (ix (xs (6 * k + 1))) (xs (6 * k + 2)) = 0))) (ironN (m_now ms) (ix (xs (6 * k + 1))) (xs (6 * k + 2)))) ms2 oa1 oD := by rw [em2]; exact hH1.mc
  have hz2 : (zq ms u (mayT (m_is ms) (bi (okF (m_is ms) (m_now ms) (xs (6 * k + 1)))) (bi (okF (m_is ms) (m_now ms) (xs (6 * k + 1)) ∧ inR (xs (6 * k + 2)) 0 3 ∧ whyIronN (m_now ms) (ix (xs (6 * k + 1))) (xs (6 * k + 2)) = 0))) (ironN (m_now ms) (ix (xs (6 * k + 1))) (xs (6 * k + 2)))) = kM ms2 := ((congrArg (fun z : MM => kM z) ems).trans rfl).symm
  have hthr : m_thr ms2 = mayT (m_is ms) (bi (okF (m_is ms) (m_now ms) (xs (6 * k + 1)))) (bi (okF (m_is ms) (m_now ms) (xs (6 * k + 1)) ∧ inR (xs (6 * k + 2)) 0 3 ∧ whyIronN (m_now ms) (ix (xs (6 * k + 1))) (xs (6 * k + 2)) = 0)) := (congrArg (fun z : MM => m_thr z) ems).trans rfl
  have hst2 := ((congrArg (fun z : MM => m_st z) ems).trans rfl).trans hst
  refine A_istore dL_law_3258 (Nat.le_of_ble_eq_true rfl) ?_
  refine A_aload_n (i := 2) dL_law_3260 rfl rfl ?_
  refine A_st (σ' := mc b9 ms2 τ2) hH2.2.1.symm ?_
  refine A_callV0E (b' := b + 40929) (v := some (.int (m_thr ms2))) (τ := mc b9 ms2 τ2) (c_thrown b9 ms2 τ2) tX2_thrown q2291 (mc_0 _ _ _) rfl rfl dL_law_3261 (by decide) (by omega) (Nat.le_of_ble_eq_true rfl) ?_
  refine A_st (σ' := τ2) hH2.2.1 ?_
  refine A_iload dL_law_3264 rfl ?_
  refine A_icmp_eq_t (tgt := 3271) dL_law_3266 (by decide) (hthr) ?_
  refine A_iload dL_law_3271 rfl ?_
  refine A_if_ne (tgt := 3288) dL_law_3273 (by decide) (fun c1 => ?_) (fun c1 => ?_)
  · skip
    refine A_goto (tgt := 3776) dL_law_3288 (by decide) ?_
    refine A_sub (L' := [(0, .ref bs), (1, .ref x), (2, .ref b9), (3, .ref (b9 + 9)), (4, .ref (b9 + 10)), (5, .int (nI (6 * k)))]) ⟨rfl, rfl, rfl, rfl, rfl, rfl, trivial⟩ ?_
    refine A_less (b' := b) (by omega) ?_
    exact kk τ2 ⟨ms2, oa1, oD, _, by rw [← hz2]; exact hH2, hst2⟩
  · skip
    refine A_aload_n (i := 3) dL_law_3276 rfl rfl ?_
    refine A_iconst (v := 0) dL_law_3277 (by decide) ?_
    refine A_lald hH2.2.2.1 (by unfold vp_in; decide) dL_law_3278 ?_
    refine A_iload dL_law_3279 rfl ?_
    refine A_i2l dL_law_3281 rfl ?_
    refine A_lcmp dL_law_3282 ?_
    refine A_if_eq_t (tgt := 3288) dL_law_3283 (by decide) (by rw [show oa1 (0 : Int32).toNatClampNeg = _ from hv1 c1]; rw [gd_0 (show mayT (m_is ms) (bi (okF (m_is ms) (m_now ms) (xs (6 * k + 1)))) (bi (okF (m_is ms) (m_now ms) (xs (6 * k + 1)) ∧ inR (xs (6 * k + 2)) 0 3 ∧ whyIronN (m_now ms) (ix (xs (6 * k + 1))) (xs (6 * k + 2)) = 0)) = 0 from c1)]; exact lg_self _) ?_
    refine A_goto (tgt := 3776) dL_law_3288 (by decide) ?_
    refine A_sub (L' := [(0, .ref bs), (1, .ref x), (2, .ref b9), (3, .ref (b9 + 9)), (4, .ref (b9 + 10)), (5, .int (nI (6 * k)))]) ⟨rfl, rfl, rfl, rfl, rfl, rfl, trivial⟩ ?_
    refine A_less (b' := b) (by omega) ?_
    exact kk τ2 ⟨ms2, oa1, oD, _, by rw [← hz2]; exact hH2, hst2⟩
theorem t_bleach {l : Launch} {g : GC} {b : Nat} {Q : Option Value → AH → Prop} {X : String → Nat → AH → Prop} (σ : AH) (x b9 hb bs k n : Nat) (xs : Nat → Int32) (hs : o_arr g .int bs n (fun j => .int (xs j))) (hk : 6 * k + 6 ≤ n) (hn : n ≤ 144) (hhb : hb < 2 ^ 30) (hT : TI g x b9 hb σ) (kk : ∀ τ, TI g x b9 (hb + 13000) τ → AW l g mLaw 60 b Q X 3776 [(0, .ref bs), (1, .ref x), (2, .ref b9), (3, .ref (b9 + 9)), (4, .ref (b9 + 10)), (5, .int (nI (6 * k)))] [] τ) : AW l g mLaw 60 (b + 41000) Q X 3291 [(0, .ref bs), (1, .ref x), (2, .ref b9), (3, .ref (b9 + 9)), (4, .ref (b9 + 10)), (5, .int (nI (6 * k)))] [] σ := by
  obtain ⟨ms, oa, oD, s0, hH, hst⟩ := hT
  obtain ⟨u, hu8, hum⟩ := hH.u
  have hwf := hH.wfc
  refine A_aload_n (i := 1) dL_law_3291 rfl rfl ?_
  refine A_aload_n (i := 0) dL_law_3292 rfl rfl ?_
  refine A_iload dL_law_3293 rfl ?_
  refine A_iconst (v := 1) dL_law_3295 (by decide) ?_
  refine A_iadd dL_law_3296 ?_
  refine A_int (w := nI ((6 * k) + 1)) (nI_add (6 * k) 1) ?_
  refine A_ialdO hs (vp_in_nI (by omega) (by omega)) (v := .int (xs (6 * k + 1))) (by rw [nI_clamp (by omega)]) dL_law_3297 ?_
  refine A_aload_n (i := 3) dL_law_3298 rfl rfl ?_
  refine A_callSH3 (b' := b + 40928) (o_bleach σ x b9 hb ms oa oD (xs (6 * k + 1)) hhb hH hum hu8) tX0_bleach (by decide) q2128 dL_law_3299 (by decide) (by omega) (Nat.le_of_ble_eq_true rfl) (fun w9 τ1 h9 => ?_) (fun E9 q9 τ9 h9 => h9.elim)
  obtain ⟨e1, oa1, hH1, hv1⟩ := h9
  subst e1
  refine A_istore dL_law_3302 (Nat.le_of_ble_eq_true rfl) ?_
  refine A_aload_n (i := 2) dL_law_3304 rfl rfl ?_
  refine A_aload_n (i := 0) dL_law_3305 rfl rfl ?_
  refine A_iload dL_law_3306 rfl ?_
  refine A_iconst (v := 1) dL_law_3308 (by decide) ?_
  refine A_iadd dL_law_3309 ?_
  refine A_int (w := nI ((6 * k) + 1)) (nI_add (6 * k) 1) ?_
  refine A_ialdO hs (vp_in_nI (by omega) (by omega)) (v := .int (xs (6 * k + 1))) (by rw [nI_clamp (by omega)]) dL_law_3310 ?_
  refine A_st (σ' := mc b9 (⟨m_thr ms, m_is ms, nI u, m_bd ms, m_pc ms, m_pa ms, m_sz ms, m_cu ms, m_st ms, m_tk ms, m_to ms, m_ps ms, m_now ms, m_asd ms, m_und ms, m_sav ms, m_isv ms, m_buf ms, m_grp ms, m_pag ms⟩ : MM) τ1) (by rw [← hum]; exact hH1.2.1.symm) ?_
  refine A_callV1 (b' := b + 40928) (c_bleach b9 ms τ1 u (xs (6 * k + 1)) hwf.1.1 hu8) tX2_bleach q2927 (mc_0 _ _ _) rfl rfl dL_law_3311 (by decide) (by omega) (Nat.le_of_ble_eq_true rfl) (fun w9 τ2 h9 => ?_) (fun E9 q9 τ9 h9 => h9.elim)
  obtain ⟨e1, e2⟩ := h9
  obtain ⟨ms2, ems, em2⟩ : ∃ ms2 : MM, ms2 = (⟨mayT (m_is ms) (bi (okF (m_is ms) (m_now ms) (xs (6 * k + 1)))) (bi (okF (m_is ms) (m_now ms) (xs (6 * k + 1)) ∧ whyBlN (m_now ms) (ix (xs (6 * k + 1))) = 0)), m_is ms, nI (gq (mayT (m_is ms) (bi (okF (m_is ms) (m_now ms) (xs (6 * k + 1)))) (bi (okF (m_is ms) (m_now ms) (xs (6 * k + 1)) ∧ whyBlN (m_now ms) (ix (xs (6 * k + 1))) = 0))) (remC u) u), m_bd ms, m_pc ms, m_pa ms, m_sz ms, m_cu ms, m_st ms, m_tk ms, m_to ms, m_ps ms, gq (mayT (m_is ms) (bi (okF (m_is ms) (m_now ms) (xs (6 * k + 1)))) (bi (okF (m_is ms) (m_now ms) (xs (6 * k + 1)) ∧ whyBlN (m_now ms) (ix (xs (6 * k + 1))) = 0))) (blN (m_now ms) (ix (xs (6 * k + 1)))) (m_now ms), m_asd ms, gq (mayT (m_is ms) (bi (okF (m_is ms) (m_now ms) (xs (6 * k + 1)))) (bi (okF (m_is ms) (m_now ms) (xs (6 * k + 1)) ∧ whyBlN (m_now ms) (ix (xs (6 * k + 1))) = 0))) (remU (m_und ms) (m_now ms) u) (m_und ms), m_sav ms, m_isv ms, m_buf ms, m_grp ms, m_pag ms⟩ : MM) ∧ τ2 = mc b9 ms2 τ1 := ⟨_, rfl, e2⟩
  subst e1
  have hH2 : HS g τ2 x b9 (hb + 13000) (zq ms u (mayT (m_is ms) (bi (okF (m_is ms) (m_now ms) (xs (6 * k + 1)))) (bi (okF (m_is ms) (m_now ms) (xs (6 * k + 1)) ∧ whyBlN (m_now ms) (ix (xs (6 * k + 1))) = 0))) (blN (m_now ms) (ix (xs (6 * k + 1))))) ms2 oa1 oD := by rw [em2]; exact hH1.mc
  have hz2 : (zq ms u (mayT (m_is ms) (bi (okF (m_is ms) (m_now ms) (xs (6 * k + 1)))) (bi (okF (m_is ms) (m_now ms) (xs (6 * k + 1)) ∧ whyBlN (m_now ms) (ix (xs (6 * k + 1))) = 0))) (blN (m_now ms) (ix (xs (6 * k + 1))))) = kM ms2 := ((congrArg (fun z : MM => kM z) ems).trans rfl).symm
  have hthr : m_thr ms2 = mayT (m_is ms) (bi (okF (m_is ms) (m_now ms) (xs (6 * k + 1)))) (bi (okF (m_is ms) (m_now ms) (xs (6 * k + 1)) ∧ whyBlN (m_now ms) (ix (xs (6 * k + 1))) = 0)) := (congrArg (fun z : MM => m_thr z) ems).trans rfl
  have hst2 := ((congrArg (fun z : MM => m_st z) ems).trans rfl).trans hst
  refine A_istore dL_law_3314 (Nat.le_of_ble_eq_true rfl) ?_
  refine A_aload_n (i := 2) dL_law_3316 rfl rfl ?_
  refine A_st (σ' := mc b9 ms2 τ2) hH2.2.1.symm ?_
  refine A_callV0E (b' := b + 40928) (v := some (.int (m_thr ms2))) (τ := mc b9 ms2 τ2) (c_thrown b9 ms2 τ2) tX2_thrown q2291 (mc_0 _ _ _) rfl rfl dL_law_3317 (by decide) (by omega) (Nat.le_of_ble_eq_true rfl) ?_
  refine A_st (σ' := τ2) hH2.2.1 ?_
  refine A_iload dL_law_3320 rfl ?_
  refine A_icmp_eq_t (tgt := 3327) dL_law_3322 (by decide) (hthr) ?_
  refine A_iload dL_law_3327 rfl ?_
  refine A_if_ne (tgt := 3344) dL_law_3329 (by decide) (fun c1 => ?_) (fun c1 => ?_)
  · skip
    refine A_goto (tgt := 3776) dL_law_3344 (by decide) ?_
    refine A_sub (L' := [(0, .ref bs), (1, .ref x), (2, .ref b9), (3, .ref (b9 + 9)), (4, .ref (b9 + 10)), (5, .int (nI (6 * k)))]) ⟨rfl, rfl, rfl, rfl, rfl, rfl, trivial⟩ ?_
    refine A_less (b' := b) (by omega) ?_
    exact kk τ2 ⟨ms2, oa1, oD, _, by rw [← hz2]; exact hH2, hst2⟩
  · skip
    refine A_aload_n (i := 3) dL_law_3332 rfl rfl ?_
    refine A_iconst (v := 0) dL_law_3333 (by decide) ?_
    refine A_lald hH2.2.2.1 (by unfold vp_in; decide) dL_law_3334 ?_
    refine A_iload dL_law_3335 rfl ?_
    refine A_i2l dL_law_3337 rfl ?_
    refine A_lcmp dL_law_3338 ?_
    refine A_if_eq_t (tgt := 3344) dL_law_3339 (by decide) (by rw [show oa1 (0 : Int32).toNatClampNeg = _ from hv1 c1]; rw [gd_0 (show mayT (m_is ms) (bi (okF (m_is ms) (m_now ms) (xs (6 * k + 1)))) (bi (okF (m_is ms) (m_now ms) (xs (6 * k + 1)) ∧ whyBlN (m_now ms) (ix (xs (6 * k + 1))) = 0)) = 0 from c1)]; exact lg_self _) ?_
    refine A_goto (tgt := 3776) dL_law_3344 (by decide) ?_
    refine A_sub (L' := [(0, .ref bs), (1, .ref x), (2, .ref b9), (3, .ref (b9 + 9)), (4, .ref (b9 + 10)), (5, .int (nI (6 * k)))]) ⟨rfl, rfl, rfl, rfl, rfl, rfl, trivial⟩ ?_
    refine A_less (b' := b) (by omega) ?_
    exact kk τ2 ⟨ms2, oa1, oD, _, by rw [← hz2]; exact hH2, hst2⟩
theorem t_handOver {l : Launch} {g : GC} {b : Nat} {Q : Option Value → AH → Prop} {X : String → Nat → AH → Prop} (σ : AH) (x b9 hb bs k n : Nat) (xs : Nat → Int32) (hs : o_arr g .int bs n (fun j => .int (xs j))) (hk : 6 * k + 6 ≤ n) (hn : n ≤ 144) (hhb : hb < 2 ^ 30) (hT : TI g x b9 hb σ) (kk : ∀ τ, TI g x b9 (hb + 13000) τ → AW l g mLaw 60 b Q X 3776 [(0, .ref bs), (1, .ref x), (2, .ref b9), (3, .ref (b9 + 9)), (4, .ref (b9 + 10)), (5, .int (nI (6 * k)))] [] τ) : AW l g mLaw 60 (b + 41000) Q X 3347 [(0, .ref bs), (1, .ref x), (2, .ref b9), (3, .ref (b9 + 9)), (4, .ref (b9 + 10)), (5, .int (nI (6 * k)))] [] σ := by
  obtain ⟨ms, oa, oD, s0, hH, hst⟩ := hT
  obtain ⟨u, hu8, hum⟩ := hH.u
  have hwf := hH.wfc
  refine A_aload_n (i := 1) dL_law_3347 rfl rfl ?_
  refine A_aload_n (i := 0) dL_law_3348 rfl rfl ?_
  refine A_iload dL_law_3349 rfl ?_
  refine A_iconst (v := 1) dL_law_3351 (by decide) ?_
  refine A_iadd dL_law_3352 ?_
  refine A_int (w := nI ((6 * k) + 1)) (nI_add (6 * k) 1) ?_
  refine A_ialdO hs (vp_in_nI (by omega) (by omega)) (v := .int (xs (6 * k + 1))) (by rw [nI_clamp (by omega)]) dL_law_3353 ?_
  refine A_aload_n (i := 3) dL_law_3354 rfl rfl ?_
  refine A_callSH3 (b' := b + 40914) (o_handOver σ x b9 hb ms oa oD (xs (6 * k + 1)) hhb hH hum hu8) tX0_handOver (by decide) q2144 dL_law_3355 (by decide) (by omega) (Nat.le_of_ble_eq_true rfl) (fun w9 τ1 h9 => ?_) (fun E9 q9 τ9 h9 => h9.elim)
  obtain ⟨e1, oa1, hH1, hv1⟩ := h9
  subst e1
  refine A_istore dL_law_3358 (Nat.le_of_ble_eq_true rfl) ?_
  refine A_aload_n (i := 2) dL_law_3360 rfl rfl ?_
  refine A_aload_n (i := 0) dL_law_3361 rfl rfl ?_
  refine A_iload dL_law_3362 rfl ?_
  refine A_iconst (v := 1) dL_law_3364 (by decide) ?_
  refine A_iadd dL_law_3365 ?_
  refine A_int (w := nI ((6 * k) + 1)) (nI_add (6 * k) 1) ?_
  refine A_ialdO hs (vp_in_nI (by omega) (by omega)) (v := .int (xs (6 * k + 1))) (by rw [nI_clamp (by omega)]) dL_law_3366 ?_
  refine A_st (σ' := mc b9 (⟨m_thr ms, m_is ms, nI u, m_bd ms, m_pc ms, m_pa ms, m_sz ms, m_cu ms, m_st ms, m_tk ms, m_to ms, m_ps ms, m_now ms, m_asd ms, m_und ms, m_sav ms, m_isv ms, m_buf ms, m_grp ms, m_pag ms⟩ : MM) τ1) (by rw [← hum]; exact hH1.2.1.symm) ?_
  refine A_callV1 (b' := b + 40914) (c_handOver b9 ms τ1 u (xs (6 * k + 1)) hwf.1.1 hu8) tX2_handOver q2935 (mc_0 _ _ _) rfl rfl dL_law_3367 (by decide) (by omega) (Nat.le_of_ble_eq_true rfl) (fun w9 τ2 h9 => ?_) (fun E9 q9 τ9 h9 => h9.elim)
  obtain ⟨e1, e2⟩ := h9
  obtain ⟨ms2, ems, em2⟩ : ∃ ms2 : MM, ms2 = (⟨mayT (m_is ms) (bi (okN (m_is ms) (m_now ms) (xs (6 * k + 1)))) (bi (okN (m_is ms) (m_now ms) (xs (6 * k + 1)) ∧ ¬ flagsN (m_now ms) (xs (6 * k + 1)) ≤ 0 ∧ ¬ na (m_now ms) (ix (xs (6 * k + 1))) 3 = 1 ∧ culpN (m_now ms) (xs (6 * k + 1)) = -1)), m_is ms, nI (gq (mayT (m_is ms) (bi (okN (m_is ms) (m_now ms) (xs (6 * k + 1)))) (bi (okN (m_is ms) (m_now ms) (xs (6 * k + 1)) ∧ ¬ flagsN (m_now ms) (xs (6 * k + 1)) ≤ 0 ∧ ¬ na (m_now ms) (ix (xs (6 * k + 1))) 3 = 1 ∧ culpN (m_now ms) (xs (6 * k + 1)) = -1))) (remC u) u), m_bd ms, m_pc ms, m_pa ms, m_sz ms, m_cu ms, m_st ms, m_tk ms, m_to ms, m_ps ms, gq (mayT (m_is ms) (bi (okN (m_is ms) (m_now ms) (xs (6 * k + 1)))) (bi (okN (m_is ms) (m_now ms) (xs (6 * k + 1)) ∧ ¬ flagsN (m_now ms) (xs (6 * k + 1)) ≤ 0 ∧ ¬ na (m_now ms) (ix (xs (6 * k + 1))) 3 = 1 ∧ culpN (m_now ms) (xs (6 * k + 1)) = -1))) (hoN (m_now ms) (ix (xs (6 * k + 1)))) (m_now ms), m_asd ms, gq (mayT (m_is ms) (bi (okN (m_is ms) (m_now ms) (xs (6 * k + 1)))) (bi (okN (m_is ms) (m_now ms) (xs (6 * k + 1)) ∧ ¬ flagsN (m_now ms) (xs (6 * k + 1)) ≤ 0 ∧ ¬ na (m_now ms) (ix (xs (6 * k + 1))) 3 = 1 ∧ culpN (m_now ms) (xs (6 * k + 1)) = -1))) (remU (m_und ms) (m_now ms) u) (m_und ms), m_sav ms, m_isv ms, m_buf ms, m_grp ms, m_pag ms⟩ : MM) ∧ τ2 = mc b9 ms2 τ1 := ⟨_, rfl, e2⟩
  subst e1
  have hH2 : HS g τ2 x b9 (hb + 13000) (zq ms u (mayT (m_is ms) (bi (okN (m_is ms) (m_now ms) (xs (6 * k + 1)))) (bi (okN (m_is ms) (m_now ms) (xs (6 * k + 1)) ∧ ¬ flagsN (m_now ms) (xs (6 * k + 1)) ≤ 0 ∧ ¬ na (m_now ms) (ix (xs (6 * k + 1))) 3 = 1 ∧ culpN (m_now ms) (xs (6 * k + 1)) = -1))) (hoN (m_now ms) (ix (xs (6 * k + 1))))) ms2 oa1 oD := by rw [em2]; exact hH1.mc
  have hz2 : (zq ms u (mayT (m_is ms) (bi (okN (m_is ms) (m_now ms) (xs (6 * k + 1)))) (bi (okN (m_is ms) (m_now ms) (xs (6 * k + 1)) ∧ ¬ flagsN (m_now ms) (xs (6 * k + 1)) ≤ 0 ∧ ¬ na (m_now ms) (ix (xs (6 * k + 1))) 3 = 1 ∧ culpN (m_now ms) (xs (6 * k + 1)) = -1))) (hoN (m_now ms) (ix (xs (6 * k + 1))))) = kM ms2 := ((congrArg (fun z : MM => kM z) ems).trans rfl).symm
  have hthr : m_thr ms2 = mayT (m_is ms) (bi (okN (m_is ms) (m_now ms) (xs (6 * k + 1)))) (bi (okN (m_is ms) (m_now ms) (xs (6 * k + 1)) ∧ ¬ flagsN (m_now ms) (xs (6 * k + 1)) ≤ 0 ∧ ¬ na (m_now ms) (ix (xs (6 * k + 1))) 3 = 1 ∧ culpN (m_now ms) (xs (6 * k + 1)) = -1)) := (congrArg (fun z : MM => m_thr z) ems).trans rfl
  have hst2 := ((congrArg (fun z : MM => m_st z) ems).trans rfl).trans hst
  refine A_istore dL_law_3370 (Nat.le_of_ble_eq_true rfl) ?_
  refine A_aload_n (i := 2) dL_law_3372 rfl rfl ?_
  refine A_st (σ' := mc b9 ms2 τ2) hH2.2.1.symm ?_
  refine A_callV0E (b' := b + 40914) (v := some (.int (m_thr ms2))) (τ := mc b9 ms2 τ2) (c_thrown b9 ms2 τ2) tX2_thrown q2291 (mc_0 _ _ _) rfl rfl dL_law_3373 (by decide) (by omega) (Nat.le_of_ble_eq_true rfl) ?_
  refine A_st (σ' := τ2) hH2.2.1 ?_
  refine A_iload dL_law_3376 rfl ?_
  refine A_icmp_eq_t (tgt := 3383) dL_law_3378 (by decide) (hthr) ?_
  refine A_iload dL_law_3383 rfl ?_
  refine A_if_ne (tgt := 3400) dL_law_3385 (by decide) (fun c1 => ?_) (fun c1 => ?_)
  · skip
    refine A_goto (tgt := 3776) dL_law_3400 (by decide) ?_
    refine A_sub (L' := [(0, .ref bs), (1, .ref x), (2, .ref b9), (3, .ref (b9 + 9)), (4, .ref (b9 + 10)), (5, .int (nI (6 * k)))]) ⟨rfl, rfl, rfl, rfl, rfl, rfl, trivial⟩ ?_
    refine A_less (b' := b) (by omega) ?_
    exact kk τ2 ⟨ms2, oa1, oD, _, by rw [← hz2]; exact hH2, hst2⟩
  · skip
    refine A_aload_n (i := 3) dL_law_3388 rfl rfl ?_
    refine A_iconst (v := 0) dL_law_3389 (by decide) ?_
    refine A_lald hH2.2.2.1 (by unfold vp_in; decide) dL_law_3390 ?_
    refine A_iload dL_law_3391 rfl ?_
    refine A_i2l dL_law_3393 rfl ?_
    refine A_lcmp dL_law_3394 ?_
    refine A_if_eq_t (tgt := 3400) dL_law_3395 (by decide) (by rw [show oa1 (0 : Int32).toNatClampNeg = _ from hv1 c1]; rw [gd_0 (show mayT (m_is ms) (bi (okN (m_is ms) (m_now ms) (xs (6 * k + 1)))) (bi (okN (m_is ms) (m_now ms) (xs (6 * k + 1)) ∧ ¬ flagsN (m_now ms) (xs (6 * k + 1)) ≤ 0 ∧ ¬ na (m_now ms) (ix (xs (6 * k + 1))) 3 = 1 ∧ culpN (m_now ms) (xs (6 * k + 1)) = -1)) = 0 from c1)]; exact lg_self _) ?_
    refine A_goto (tgt := 3776) dL_law_3400 (by decide) ?_
    refine A_sub (L' := [(0, .ref bs), (1, .ref x), (2, .ref b9), (3, .ref (b9 + 9)), (4, .ref (b9 + 10)), (5, .int (nI (6 * k)))]) ⟨rfl, rfl, rfl, rfl, rfl, rfl, trivial⟩ ?_
    refine A_less (b' := b) (by omega) ?_
    exact kk τ2 ⟨ms2, oa1, oD, _, by rw [← hz2]; exact hH2, hst2⟩
theorem t_pass {l : Launch} {g : GC} {b : Nat} {Q : Option Value → AH → Prop} {X : String → Nat → AH → Prop} (σ : AH) (x b9 hb bs k n : Nat) (xs : Nat → Int32) (hs : o_arr g .int bs n (fun j => .int (xs j))) (hk : 6 * k + 6 ≤ n) (hn : n ≤ 144) (hhb : hb < 2 ^ 30) (hT : TI g x b9 hb σ) (kk : ∀ τ, TI g x b9 (hb + 13000) τ → AW l g mLaw 60 b Q X 3776 [(0, .ref bs), (1, .ref x), (2, .ref b9), (3, .ref (b9 + 9)), (4, .ref (b9 + 10)), (5, .int (nI (6 * k)))] [] τ) : AW l g mLaw 60 (b + 41000) Q X 3403 [(0, .ref bs), (1, .ref x), (2, .ref b9), (3, .ref (b9 + 9)), (4, .ref (b9 + 10)), (5, .int (nI (6 * k)))] [] σ := by
  obtain ⟨ms, oa, oD, s0, hH, hst⟩ := hT
  obtain ⟨u, hu8, hum⟩ := hH.u
  have hwf := hH.wfc
  refine A_aload_n (i := 1) dL_law_3403 rfl rfl ?_
  refine A_aload_n (i := 0) dL_law_3404 rfl rfl ?_
  refine A_iload dL_law_3405 rfl ?_
  refine A_iconst (v := 1) dL_law_3407 (by decide) ?_
  refine A_iadd dL_law_3408 ?_
  refine A_int (w := nI ((6 * k) + 1)) (nI_add (6 * k) 1) ?_
  refine A_ialdO hs (vp_in_nI (by omega) (by omega)) (v := .int (xs (6 * k + 1))) (by rw [nI_clamp (by omega)]) dL_law_3409 ?_
  refine A_aload_n (i := 3) dL_law_3410 rfl rfl ?_
  refine A_callSH3 (b' := b + 40829) (o_pass σ x b9 hb ms oa oD (xs (6 * k + 1)) hhb hH hum hu8) tX0_pass (by decide) q2163 dL_law_3411 (by decide) (by omega) (Nat.le_of_ble_eq_true rfl) (fun w9 τ1 h9 => ?_) (fun E9 q9 τ9 h9 => h9.elim)
  obtain ⟨e1, oa1, hH1, hv1⟩ := h9
  subst e1
  refine A_istore dL_law_3414 (Nat.le_of_ble_eq_true rfl) ?_
  refine A_aload_n (i := 2) dL_law_3416 rfl rfl ?_
  refine A_aload_n (i := 0) dL_law_3417 rfl rfl ?_
  refine A_iload dL_law_3418 rfl ?_
  refine A_iconst (v := 1) dL_law_3420 (by decide) ?_
  refine A_iadd dL_law_3421 ?_
  refine A_int (w := nI ((6 * k) + 1)) (nI_add (6 * k) 1) ?_
  refine A_ialdO hs (vp_in_nI (by omega) (by omega)) (v := .int (xs (6 * k + 1))) (by rw [nI_clamp (by omega)]) dL_law_3422 ?_
  refine A_st (σ' := mc b9 (⟨m_thr ms, m_is ms, nI u, m_bd ms, m_pc ms, m_pa ms, m_sz ms, m_cu ms, m_st ms, m_tk ms, m_to ms, m_ps ms, m_now ms, m_asd ms, m_und ms, m_sav ms, m_isv ms, m_buf ms, m_grp ms, m_pag ms⟩ : MM) τ1) (by rw [← hum]; exact hH1.2.1.symm) ?_
  refine A_callV1 (b' := b + 40829) (c_pass b9 ms τ1 u (xs (6 * k + 1)) hwf.1.1 hu8) tX2_pass q2943 (mc_0 _ _ _) rfl rfl dL_law_3423 (by decide) (by omega) (Nat.le_of_ble_eq_true rfl) (fun w9 τ2 h9 => ?_) (fun E9 q9 τ9 h9 => h9.elim)
  obtain ⟨e1, e2⟩ := h9
  obtain ⟨ms2, ems, em2⟩ : ∃ ms2 : MM, ms2 = (⟨mayT (m_is ms) (bi (inR (xs (6 * k + 1)) 1 50)) 1, m_is ms, nI (gq (mayT (m_is ms) (bi (inR (xs (6 * k + 1)) 1 50)) 1) (remC u) u), m_bd ms, m_pc ms, m_pa ms, m_sz ms, m_cu ms, m_st ms, m_tk ms, m_to ms, m_ps ms, gq (mayT (m_is ms) (bi (inR (xs (6 * k + 1)) 1 50)) 1) (itr passN (m_now ms) (ix (xs (6 * k + 1)))) (m_now ms), m_asd ms, gq (mayT (m_is ms) (bi (inR (xs (6 * k + 1)) 1 50)) 1) (remU (m_und ms) (m_now ms) u) (m_und ms), m_sav ms, m_isv ms, m_buf ms, m_grp ms, m_pag ms⟩ : MM) ∧ τ2 = mc b9 ms2 τ1 := ⟨_, rfl, e2⟩
  subst e1
  have hH2 : HS g τ2 x b9 (hb + 13000) (zq ms u (mayT (m_is ms) (bi (inR (xs (6 * k + 1)) 1 50)) 1) (itr passN (m_now ms) (ix (xs (6 * k + 1))))) ms2 oa1 oD := by rw [em2]; exact hH1.mc
  have hz2 : (zq ms u (mayT (m_is ms) (bi (inR (xs (6 * k + 1)) 1 50)) 1) (itr passN (m_now ms) (ix (xs (6 * k + 1))))) = kM ms2 := ((congrArg (fun z : MM => kM z) ems).trans rfl).symm
  have hthr : m_thr ms2 = mayT (m_is ms) (bi (inR (xs (6 * k + 1)) 1 50)) 1 := (congrArg (fun z : MM => m_thr z) ems).trans rfl
  have hst2 := ((congrArg (fun z : MM => m_st z) ems).trans rfl).trans hst
  refine A_istore dL_law_3426 (Nat.le_of_ble_eq_true rfl) ?_
  refine A_aload_n (i := 2) dL_law_3428 rfl rfl ?_
  refine A_st (σ' := mc b9 ms2 τ2) hH2.2.1.symm ?_
  refine A_callV0E (b' := b + 40829) (v := some (.int (m_thr ms2))) (τ := mc b9 ms2 τ2) (c_thrown b9 ms2 τ2) tX2_thrown q2291 (mc_0 _ _ _) rfl rfl dL_law_3429 (by decide) (by omega) (Nat.le_of_ble_eq_true rfl) ?_
  refine A_st (σ' := τ2) hH2.2.1 ?_
  refine A_iload dL_law_3432 rfl ?_
  refine A_icmp_eq_t (tgt := 3439) dL_law_3434 (by decide) (hthr) ?_
  refine A_iload dL_law_3439 rfl ?_
  refine A_if_ne (tgt := 3456) dL_law_3441 (by decide) (fun c1 => ?_) (fun c1 => ?_)
  · skip
    refine A_goto (tgt := 3776) dL_law_3456 (by decide) ?_
    refine A_sub (L' := [(0, .ref bs), (1, .ref x), (2, .ref b9), (3, .ref (b9 + 9)), (4, .ref (b9 + 10)), (5, .int (nI (6 * k)))]) ⟨rfl, rfl, rfl, rfl, rfl, rfl, trivial⟩ ?_
    refine A_less (b' := b) (by omega) ?_
    exact kk τ2 ⟨ms2, oa1, oD, _, by rw [← hz2]; exact hH2, hst2⟩
  · skip
    refine A_aload_n (i := 3) dL_law_3444 rfl rfl ?_
    refine A_iconst (v := 0) dL_law_3445 (by decide) ?_
    refine A_lald hH2.2.2.1 (by unfold vp_in; decide) dL_law_3446 ?_
    refine A_iload dL_law_3447 rfl ?_
    refine A_i2l dL_law_3449 rfl ?_
    refine A_lcmp dL_law_3450 ?_
    refine A_if_eq_t (tgt := 3456) dL_law_3451 (by decide) (by rw [show oa1 (0 : Int32).toNatClampNeg = _ from hv1 c1]; rw [gd_0 (show mayT (m_is ms) (bi (inR (xs (6 * k + 1)) 1 50)) 1 = 0 from c1)]; exact lg_self _) ?_
    refine A_goto (tgt := 3776) dL_law_3456 (by decide) ?_
    refine A_sub (L' := [(0, .ref bs), (1, .ref x), (2, .ref b9), (3, .ref (b9 + 9)), (4, .ref (b9 + 10)), (5, .int (nI (6 * k)))]) ⟨rfl, rfl, rfl, rfl, rfl, rfl, trivial⟩ ?_
    refine A_less (b' := b) (by omega) ?_
    exact kk τ2 ⟨ms2, oa1, oD, _, by rw [← hz2]; exact hH2, hst2⟩
theorem t_setWind {l : Launch} {g : GC} {b : Nat} {Q : Option Value → AH → Prop} {X : String → Nat → AH → Prop} (σ : AH) (x b9 hb bs k n : Nat) (xs : Nat → Int32) (hs : o_arr g .int bs n (fun j => .int (xs j))) (hk : 6 * k + 6 ≤ n) (hn : n ≤ 144) (hhb : hb < 2 ^ 30) (hT : TI g x b9 hb σ) (kk : ∀ τ, TI g x b9 (hb + 13000) τ → AW l g mLaw 60 b Q X 3776 [(0, .ref bs), (1, .ref x), (2, .ref b9), (3, .ref (b9 + 9)), (4, .ref (b9 + 10)), (5, .int (nI (6 * k)))] [] τ) : AW l g mLaw 60 (b + 41000) Q X 3459 [(0, .ref bs), (1, .ref x), (2, .ref b9), (3, .ref (b9 + 9)), (4, .ref (b9 + 10)), (5, .int (nI (6 * k)))] [] σ := by
  obtain ⟨ms, oa, oD, s0, hH, hst⟩ := hT
  obtain ⟨u, hu8, hum⟩ := hH.u
  have hwf := hH.wfc
  refine A_aload_n (i := 1) dL_law_3459 rfl rfl ?_
  refine A_aload_n (i := 0) dL_law_3460 rfl rfl ?_
  refine A_iload dL_law_3461 rfl ?_
  refine A_iconst (v := 1) dL_law_3463 (by decide) ?_
  refine A_iadd dL_law_3464 ?_
  refine A_int (w := nI ((6 * k) + 1)) (nI_add (6 * k) 1) ?_
  refine A_ialdO hs (vp_in_nI (by omega) (by omega)) (v := .int (xs (6 * k + 1))) (by rw [nI_clamp (by omega)]) dL_law_3465 ?_
  refine A_aload_n (i := 3) dL_law_3466 rfl rfl ?_
  refine A_callSH3 (b' := b + 40929) (o_setWind σ x b9 hb ms oa oD (xs (6 * k + 1)) hhb hH hum hu8) tX0_setWind (by decide) q2171 dL_law_3467 (by decide) (by omega) (Nat.le_of_ble_eq_true rfl) (fun w9 τ1 h9 => ?_) (fun E9 q9 τ9 h9 => h9.elim)
  obtain ⟨e1, oa1, hH1, hv1⟩ := h9
  subst e1
  refine A_istore dL_law_3470 (Nat.le_of_ble_eq_true rfl) ?_
  refine A_aload_n (i := 2) dL_law_3472 rfl rfl ?_
  refine A_aload_n (i := 0) dL_law_3473 rfl rfl ?_
  refine A_iload dL_law_3474 rfl ?_
  refine A_iconst (v := 1) dL_law_3476 (by decide) ?_
  refine A_iadd dL_law_3477 ?_
  refine A_int (w := nI ((6 * k) + 1)) (nI_add (6 * k) 1) ?_
  refine A_ialdO hs (vp_in_nI (by omega) (by omega)) (v := .int (xs (6 * k + 1))) (by rw [nI_clamp (by omega)]) dL_law_3478 ?_
  refine A_st (σ' := mc b9 (⟨m_thr ms, m_is ms, nI u, m_bd ms, m_pc ms, m_pa ms, m_sz ms, m_cu ms, m_st ms, m_tk ms, m_to ms, m_ps ms, m_now ms, m_asd ms, m_und ms, m_sav ms, m_isv ms, m_buf ms, m_grp ms, m_pag ms⟩ : MM) τ1) (by rw [← hum]; exact hH1.2.1.symm) ?_
  refine A_callV1 (b' := b + 40929) (c_setWind b9 ms τ1 u (xs (6 * k + 1)) hu8) tX2_setWind q2947 (mc_0 _ _ _) rfl rfl dL_law_3479 (by decide) (by omega) (Nat.le_of_ble_eq_true rfl) (fun w9 τ2 h9 => ?_) (fun E9 q9 τ9 h9 => h9.elim)
  obtain ⟨e1, e2⟩ := h9
  obtain ⟨ms2, ems, em2⟩ : ∃ ms2 : MM, ms2 = (⟨mayT (m_is ms) (bi (inR (xs (6 * k + 1)) 0 9)) 1, m_is ms, nI (gq (mayT (m_is ms) (bi (inR (xs (6 * k + 1)) 0 9)) 1) (remC u) u), m_bd ms, m_pc ms, m_pa ms, m_sz ms, m_cu ms, m_st ms, m_tk ms, m_to ms, m_ps ms, gq (mayT (m_is ms) (bi (inR (xs (6 * k + 1)) 0 9)) 1) (va_up (m_now ms) 1 (xs (6 * k + 1))) (m_now ms), m_asd ms, gq (mayT (m_is ms) (bi (inR (xs (6 * k + 1)) 0 9)) 1) (remU (m_und ms) (m_now ms) u) (m_und ms), m_sav ms, m_isv ms, m_buf ms, m_grp ms, m_pag ms⟩ : MM) ∧ τ2 = mc b9 ms2 τ1 := ⟨_, rfl, e2⟩
  subst e1
  have hH2 : HS g τ2 x b9 (hb + 13000) (zq ms u (mayT (m_is ms) (bi (inR (xs (6 * k + 1)) 0 9)) 1) (va_up (m_now ms) 1 (xs (6 * k + 1)))) ms2 oa1 oD := by rw [em2]; exact hH1.mc
  have hz2 : (zq ms u (mayT (m_is ms) (bi (inR (xs (6 * k + 1)) 0 9)) 1) (va_up (m_now ms) 1 (xs (6 * k + 1)))) = kM ms2 := ((congrArg (fun z : MM => kM z) ems).trans rfl).symm
  have hthr : m_thr ms2 = mayT (m_is ms) (bi (inR (xs (6 * k + 1)) 0 9)) 1 := (congrArg (fun z : MM => m_thr z) ems).trans rfl
  have hst2 := ((congrArg (fun z : MM => m_st z) ems).trans rfl).trans hst
  refine A_istore dL_law_3482 (Nat.le_of_ble_eq_true rfl) ?_
  refine A_aload_n (i := 2) dL_law_3484 rfl rfl ?_
  refine A_st (σ' := mc b9 ms2 τ2) hH2.2.1.symm ?_
  refine A_callV0E (b' := b + 40929) (v := some (.int (m_thr ms2))) (τ := mc b9 ms2 τ2) (c_thrown b9 ms2 τ2) tX2_thrown q2291 (mc_0 _ _ _) rfl rfl dL_law_3485 (by decide) (by omega) (Nat.le_of_ble_eq_true rfl) ?_
  refine A_st (σ' := τ2) hH2.2.1 ?_
  refine A_iload dL_law_3488 rfl ?_
  refine A_icmp_eq_t (tgt := 3495) dL_law_3490 (by decide) (hthr) ?_
  refine A_iload dL_law_3495 rfl ?_
  refine A_if_ne (tgt := 3512) dL_law_3497 (by decide) (fun c1 => ?_) (fun c1 => ?_)
  · skip
    refine A_goto (tgt := 3776) dL_law_3512 (by decide) ?_
    refine A_sub (L' := [(0, .ref bs), (1, .ref x), (2, .ref b9), (3, .ref (b9 + 9)), (4, .ref (b9 + 10)), (5, .int (nI (6 * k)))]) ⟨rfl, rfl, rfl, rfl, rfl, rfl, trivial⟩ ?_
    refine A_less (b' := b) (by omega) ?_
    exact kk τ2 ⟨ms2, oa1, oD, _, by rw [← hz2]; exact hH2, hst2⟩
  · skip
    refine A_aload_n (i := 3) dL_law_3500 rfl rfl ?_
    refine A_iconst (v := 0) dL_law_3501 (by decide) ?_
    refine A_lald hH2.2.2.1 (by unfold vp_in; decide) dL_law_3502 ?_
    refine A_iload dL_law_3503 rfl ?_
    refine A_i2l dL_law_3505 rfl ?_
    refine A_lcmp dL_law_3506 ?_
    refine A_if_eq_t (tgt := 3512) dL_law_3507 (by decide) (by rw [show oa1 (0 : Int32).toNatClampNeg = _ from hv1 c1]; rw [gd_0 (show mayT (m_is ms) (bi (inR (xs (6 * k + 1)) 0 9)) 1 = 0 from c1)]; exact lg_self _) ?_
    refine A_goto (tgt := 3776) dL_law_3512 (by decide) ?_
    refine A_sub (L' := [(0, .ref bs), (1, .ref x), (2, .ref b9), (3, .ref (b9 + 9)), (4, .ref (b9 + 10)), (5, .int (nI (6 * k)))]) ⟨rfl, rfl, rfl, rfl, rfl, rfl, trivial⟩ ?_
    refine A_less (b' := b) (by omega) ?_
    exact kk τ2 ⟨ms2, oa1, oD, _, by rw [← hz2]; exact hH2, hst2⟩
theorem t_addFlag {l : Launch} {g : GC} {b : Nat} {Q : Option Value → AH → Prop} {X : String → Nat → AH → Prop} (σ : AH) (x b9 hb bs k n : Nat) (xs : Nat → Int32) (hs : o_arr g .int bs n (fun j => .int (xs j))) (hk : 6 * k + 6 ≤ n) (hn : n ≤ 144) (hhb : hb < 2 ^ 30) (hT : TI g x b9 hb σ) (kk : ∀ τ, TI g x b9 (hb + 13000) τ → AW l g mLaw 60 b Q X 3776 [(0, .ref bs), (1, .ref x), (2, .ref b9), (3, .ref (b9 + 9)), (4, .ref (b9 + 10)), (5, .int (nI (6 * k)))] [] τ) : AW l g mLaw 60 (b + 41000) Q X 3515 [(0, .ref bs), (1, .ref x), (2, .ref b9), (3, .ref (b9 + 9)), (4, .ref (b9 + 10)), (5, .int (nI (6 * k)))] [] σ := by
  obtain ⟨ms, oa, oD, s0, hH, hst⟩ := hT
  obtain ⟨u, hu8, hum⟩ := hH.u
  have hwf := hH.wfc
  refine A_aload_n (i := 1) dL_law_3515 rfl rfl ?_
  refine A_aload_n (i := 0) dL_law_3516 rfl rfl ?_
  refine A_iload dL_law_3517 rfl ?_
  refine A_iconst (v := 1) dL_law_3519 (by decide) ?_
  refine A_iadd dL_law_3520 ?_
  refine A_int (w := nI ((6 * k) + 1)) (nI_add (6 * k) 1) ?_
  refine A_ialdO hs (vp_in_nI (by omega) (by omega)) (v := .int (xs (6 * k + 1))) (by rw [nI_clamp (by omega)]) dL_law_3521 ?_
  refine A_aload_n (i := 0) dL_law_3522 rfl rfl ?_
  refine A_iload dL_law_3523 rfl ?_
  refine A_iconst (v := 2) dL_law_3525 (by decide) ?_
  refine A_iadd dL_law_3526 ?_
  refine A_int (w := nI ((6 * k) + 2)) (nI_add (6 * k) 2) ?_
  refine A_ialdO hs (vp_in_nI (by omega) (by omega)) (v := .int (xs (6 * k + 2))) (by rw [nI_clamp (by omega)]) dL_law_3527 ?_
  refine A_aload_n (i := 0) dL_law_3528 rfl rfl ?_
  refine A_iload dL_law_3529 rfl ?_
  refine A_iconst (v := 3) dL_law_3531 (by decide) ?_
  refine A_iadd dL_law_3532 ?_
  refine A_int (w := nI ((6 * k) + 3)) (nI_add (6 * k) 3) ?_
  refine A_ialdO hs (vp_in_nI (by omega) (by omega)) (v := .int (xs (6 * k + 3))) (by rw [nI_clamp (by omega)]) dL_law_3533 ?_
  refine A_aload_n (i := 0) dL_law_3534 rfl rfl ?_
  refine A_iload dL_law_3535 rfl ?_
  refine A_iconst (v := 4) dL_law_3537 (by decide) ?_
  refine A_iadd dL_law_3538 ?_
  refine A_int (w := nI ((6 * k) + 4)) (nI_add (6 * k) 4) ?_
  refine A_ialdO hs (vp_in_nI (by omega) (by omega)) (v := .int (xs (6 * k + 4))) (by rw [nI_clamp (by omega)]) dL_law_3539 ?_
  refine A_aload_n (i := 3) dL_law_3540 rfl rfl ?_
  refine A_callSH6 (b' := b + 40924) (o_addFlag σ x b9 hb ms oa oD (xs (6 * k + 1)) (xs (6 * k + 2)) (xs (6 * k + 3)) (xs (6 * k + 4)) hhb hH hum hu8) tX0_addFlag (by decide) q2178 dL_law_3541 (by decide) (by omega) (Nat.le_of_ble_eq_true rfl) (fun w9 τ1 h9 => ?_) (fun E9 q9 τ9 h9 => h9.elim)
  obtain ⟨e1, oa1, hH1, hv1⟩ := h9
  subst e1
  refine A_istore dL_law_3544 (Nat.le_of_ble_eq_true rfl) ?_
  refine A_aload_n (i := 2) dL_law_3546 rfl rfl ?_
  refine A_aload_n (i := 0) dL_law_3547 rfl rfl ?_
  refine A_iload dL_law_3548 rfl ?_
  refine A_iconst (v := 1) dL_law_3550 (by decide) ?_
  refine A_iadd dL_law_3551 ?_
  refine A_int (w := nI ((6 * k) + 1)) (nI_add (6 * k) 1) ?_
  refine A_ialdO hs (vp_in_nI (by omega) (by omega)) (v := .int (xs (6 * k + 1))) (by rw [nI_clamp (by omega)]) dL_law_3552 ?_
  refine A_aload_n (i := 0) dL_law_3553 rfl rfl ?_
  refine A_iload dL_law_3554 rfl ?_
  refine A_iconst (v := 2) dL_law_3556 (by decide) ?_
  refine A_iadd dL_law_3557 ?_
  refine A_int (w := nI ((6 * k) + 2)) (nI_add (6 * k) 2) ?_
  refine A_ialdO hs (vp_in_nI (by omega) (by omega)) (v := .int (xs (6 * k + 2))) (by rw [nI_clamp (by omega)]) dL_law_3558 ?_
  refine A_aload_n (i := 0) dL_law_3559 rfl rfl ?_
  refine A_iload dL_law_3560 rfl ?_
  refine A_iconst (v := 3) dL_law_3562 (by decide) ?_
  refine A_iadd dL_law_3563 ?_
  refine A_int (w := nI ((6 * k) + 3)) (nI_add (6 * k) 3) ?_
  refine A_ialdO hs (vp_in_nI (by omega) (by omega)) (v := .int (xs (6 * k + 3))) (by rw [nI_clamp (by omega)]) dL_law_3564 ?_
  refine A_aload_n (i := 0) dL_law_3565 rfl rfl ?_
  refine A_iload dL_law_3566 rfl ?_
  refine A_iconst (v := 4) dL_law_3568 (by decide) ?_
  refine A_iadd dL_law_3569 ?_
  refine A_int (w := nI ((6 * k) + 4)) (nI_add (6 * k) 4) ?_
  refine A_ialdO hs (vp_in_nI (by omega) (by omega)) (v := .int (xs (6 * k + 4))) (by rw [nI_clamp (by omega)]) dL_law_3570 ?_
  refine A_st (σ' := mc b9 (⟨m_thr ms, m_is ms, nI u, m_bd ms, m_pc ms, m_pa ms, m_sz ms, m_cu ms, m_st ms, m_tk ms, m_to ms, m_ps ms, m_now ms, m_asd ms, m_und ms, m_sav ms, m_isv ms, m_buf ms, m_grp ms, m_pag ms⟩ : MM) τ1) (by rw [← hum]; exact hH1.2.1.symm) ?_
  refine A_callV4 (b' := b + 40924) (c_addFlag b9 ms τ1 u (xs (6 * k + 1)) (xs (6 * k + 2)) (xs (6 * k + 3)) (xs (6 * k + 4)) hwf.1.1 hu8) tX2_addFlag q2951 (mc_0 _ _ _) rfl rfl dL_law_3571 (by decide) (by omega) (Nat.le_of_ble_eq_true rfl) (fun w9 τ2 h9 => ?_) (fun E9 q9 τ9 h9 => h9.elim)
  obtain ⟨e1, e2⟩ := h9
  obtain ⟨ms2, ems, em2⟩ : ∃ ms2 : MM, ms2 = (⟨mayT (m_is ms) (bi (okN (m_is ms) (m_now ms) (xs (6 * k + 1)))) (bi (okN (m_is ms) (m_now ms) (xs (6 * k + 1)) ∧ inR (xs (6 * k + 2)) 1 ((1 <<< ((m_now ms) 6 &&& 31)) - 1) ∧ inR (xs (6 * k + 3)) 0 3 ∧ inR (xs (6 * k + 4)) 0 9 ∧ ¬ na (m_now ms) (ix (xs (6 * k + 1))) 3 = 1 ∧ ¬ 12 ≤ (m_now ms) 10)), m_is ms, nI (gq (mayT (m_is ms) (bi (okN (m_is ms) (m_now ms) (xs (6 * k + 1)))) (bi (okN (m_is ms) (m_now ms) (xs (6 * k + 1)) ∧ inR (xs (6 * k + 2)) 1 ((1 <<< ((m_now ms) 6 &&& 31)) - 1) ∧ inR (xs (6 * k + 3)) 0 3 ∧ inR (xs (6 * k + 4)) 0 9 ∧ ¬ na (m_now ms) (ix (xs (6 * k + 1))) 3 = 1 ∧ ¬ 12 ≤ (m_now ms) 10))) (remC u) u), m_bd ms, m_pc ms, m_pa ms, m_sz ms, m_cu ms, m_st ms, m_tk ms, m_to ms, m_ps ms, gq (mayT (m_is ms) (bi (okN (m_is ms) (m_now ms) (xs (6 * k + 1)))) (bi (okN (m_is ms) (m_now ms) (xs (6 * k + 1)) ∧ inR (xs (6 * k + 2)) 1 ((1 <<< ((m_now ms) 6 &&& 31)) - 1) ∧ inR (xs (6 * k + 3)) 0 3 ∧ inR (xs (6 * k + 4)) 0 9 ∧ ¬ na (m_now ms) (ix (xs (6 * k + 1))) 3 = 1 ∧ ¬ 12 ≤ (m_now ms) 10))) (addN (m_now ms) (xs (6 * k + 1)) (xs (6 * k + 2)) (xs (6 * k + 3)) (xs (6 * k + 4))) (m_now ms), m_asd ms, gq (mayT (m_is ms) (bi (okN (m_is ms) (m_now ms) (xs (6 * k + 1)))) (bi (okN (m_is ms) (m_now ms) (xs (6 * k + 1)) ∧ inR (xs (6 * k + 2)) 1 ((1 <<< ((m_now ms) 6 &&& 31)) - 1) ∧ inR (xs (6 * k + 3)) 0 3 ∧ inR (xs (6 * k + 4)) 0 9 ∧ ¬ na (m_now ms) (ix (xs (6 * k + 1))) 3 = 1 ∧ ¬ 12 ≤ (m_now ms) 10))) (remU (m_und ms) (m_now ms) u) (m_und ms), m_sav ms, m_isv ms, m_buf ms, m_grp ms, m_pag ms⟩ : MM) ∧ τ2 = mc b9 ms2 τ1 := ⟨_, rfl, e2⟩
  subst e1
  have hH2 : HS g τ2 x b9 (hb + 13000) (zq ms u (mayT (m_is ms) (bi (okN (m_is ms) (m_now ms) (xs (6 * k + 1)))) (bi (okN (m_is ms) (m_now ms) (xs (6 * k + 1)) ∧ inR (xs (6 * k + 2)) 1 ((1 <<< ((m_now ms) 6 &&& 31)) - 1) ∧ inR (xs (6 * k + 3)) 0 3 ∧ inR (xs (6 * k + 4)) 0 9 ∧ ¬ na (m_now ms) (ix (xs (6 * k + 1))) 3 = 1 ∧ ¬ 12 ≤ (m_now ms) 10))) (addN (m_now ms) (xs (6 * k + 1)) (xs (6 * k + 2)) (xs (6 * k + 3)) (xs (6 * k + 4)))) ms2 oa1 oD := by rw [em2]; exact hH1.mc
  have hz2 : (zq ms u (mayT (m_is ms) (bi (okN (m_is ms) (m_now ms) (xs (6 * k + 1)))) (bi (okN (m_is ms) (m_now ms) (xs (6 * k + 1)) ∧ inR (xs (6 * k + 2)) 1 ((1 <<< ((m_now ms) 6 &&& 31)) - 1) ∧ inR (xs (6 * k + 3)) 0 3 ∧ inR (xs (6 * k + 4)) 0 9 ∧ ¬ na (m_now ms) (ix (xs (6 * k + 1))) 3 = 1 ∧ ¬ 12 ≤ (m_now ms) 10))) (addN (m_now ms) (xs (6 * k + 1)) (xs (6 * k + 2)) (xs (6 * k + 3)) (xs (6 * k + 4)))) = kM ms2 := ((congrArg (fun z : MM => kM z) ems).trans rfl).symm
  have hthr : m_thr ms2 = mayT (m_is ms) (bi (okN (m_is ms) (m_now ms) (xs (6 * k + 1)))) (bi (okN (m_is ms) (m_now ms) (xs (6 * k + 1)) ∧ inR (xs (6 * k + 2)) 1 ((1 <<< ((m_now ms) 6 &&& 31)) - 1) ∧ inR (xs (6 * k + 3)) 0 3 ∧ inR (xs (6 * k + 4)) 0 9 ∧ ¬ na (m_now ms) (ix (xs (6 * k + 1))) 3 = 1 ∧ ¬ 12 ≤ (m_now ms) 10)) := (congrArg (fun z : MM => m_thr z) ems).trans rfl
  have hst2 := ((congrArg (fun z : MM => m_st z) ems).trans rfl).trans hst
  refine A_istore dL_law_3574 (Nat.le_of_ble_eq_true rfl) ?_
  refine A_aload_n (i := 2) dL_law_3576 rfl rfl ?_
  refine A_st (σ' := mc b9 ms2 τ2) hH2.2.1.symm ?_
  refine A_callV0E (b' := b + 40924) (v := some (.int (m_thr ms2))) (τ := mc b9 ms2 τ2) (c_thrown b9 ms2 τ2) tX2_thrown q2291 (mc_0 _ _ _) rfl rfl dL_law_3577 (by decide) (by omega) (Nat.le_of_ble_eq_true rfl) ?_
  refine A_st (σ' := τ2) hH2.2.1 ?_
  refine A_iload dL_law_3580 rfl ?_
  refine A_icmp_eq_t (tgt := 3587) dL_law_3582 (by decide) (hthr) ?_
  refine A_iload dL_law_3587 rfl ?_
  refine A_if_ne (tgt := 3604) dL_law_3589 (by decide) (fun c1 => ?_) (fun c1 => ?_)
  · skip
    refine A_goto (tgt := 3776) dL_law_3604 (by decide) ?_
    refine A_sub (L' := [(0, .ref bs), (1, .ref x), (2, .ref b9), (3, .ref (b9 + 9)), (4, .ref (b9 + 10)), (5, .int (nI (6 * k)))]) ⟨rfl, rfl, rfl, rfl, rfl, rfl, trivial⟩ ?_
    refine A_less (b' := b) (by omega) ?_
    exact kk τ2 ⟨ms2, oa1, oD, _, by rw [← hz2]; exact hH2, hst2⟩
  · skip
    refine A_aload_n (i := 3) dL_law_3592 rfl rfl ?_
    refine A_iconst (v := 0) dL_law_3593 (by decide) ?_
    refine A_lald hH2.2.2.1 (by unfold vp_in; decide) dL_law_3594 ?_
    refine A_iload dL_law_3595 rfl ?_
    refine A_i2l dL_law_3597 rfl ?_
    refine A_lcmp dL_law_3598 ?_
    refine A_if_eq_t (tgt := 3604) dL_law_3599 (by decide) (by rw [show oa1 (0 : Int32).toNatClampNeg = _ from hv1 c1]; rw [gd_0 (show mayT (m_is ms) (bi (okN (m_is ms) (m_now ms) (xs (6 * k + 1)))) (bi (okN (m_is ms) (m_now ms) (xs (6 * k + 1)) ∧ inR (xs (6 * k + 2)) 1 ((1 <<< ((m_now ms) 6 &&& 31)) - 1) ∧ inR (xs (6 * k + 3)) 0 3 ∧ inR (xs (6 * k + 4)) 0 9 ∧ ¬ na (m_now ms) (ix (xs (6 * k + 1))) 3 = 1 ∧ ¬ 12 ≤ (m_now ms) 10)) = 0 from c1)]; exact lg_self _) ?_
    refine A_goto (tgt := 3776) dL_law_3604 (by decide) ?_
    refine A_sub (L' := [(0, .ref bs), (1, .ref x), (2, .ref b9), (3, .ref (b9 + 9)), (4, .ref (b9 + 10)), (5, .int (nI (6 * k)))]) ⟨rfl, rfl, rfl, rfl, rfl, rfl, trivial⟩ ?_
    refine A_less (b' := b) (by omega) ?_
    exact kk τ2 ⟨ms2, oa1, oD, _, by rw [← hz2]; exact hH2, hst2⟩
theorem t_undo {l : Launch} {g : GC} {b : Nat} {Q : Option Value → AH → Prop} {X : String → Nat → AH → Prop} (σ : AH) (x b9 hb bs k n : Nat) (xs : Nat → Int32) (hs : o_arr g .int bs n (fun j => .int (xs j))) (hk : 6 * k + 6 ≤ n) (hn : n ≤ 144) (hhb : hb < 2 ^ 30) (hT : TI g x b9 hb σ) (kk : ∀ τ, TI g x b9 hb τ → AW l g mLaw 60 b Q X 3776 [(0, .ref bs), (1, .ref x), (2, .ref b9), (3, .ref (b9 + 9)), (4, .ref (b9 + 10)), (5, .int (nI (6 * k)))] [] τ) : AW l g mLaw 60 (b + 41000) Q X 3607 [(0, .ref bs), (1, .ref x), (2, .ref b9), (3, .ref (b9 + 9)), (4, .ref (b9 + 10)), (5, .int (nI (6 * k)))] [] σ := by
  obtain ⟨ms, oa, oD, s0, hH, hst⟩ := hT
  obtain ⟨u, hu8, hum⟩ := hH.u
  have hwf := hH.wfc
  refine A_aload_n (i := 1) dL_law_3607 rfl rfl ?_
  refine A_aload_n (i := 3) dL_law_3608 rfl rfl ?_
  refine A_callSH2 (b' := b + 40998) (o_undo σ x b9 hb ms oa oD hhb hH hum hu8) tX0_undo (by decide) q2187 dL_law_3609 (by decide) (by omega) (Nat.le_of_ble_eq_true rfl) (fun w9 τ1 h9 => ?_) (fun E9 q9 τ9 h9 => h9.elim)
  obtain ⟨e1, oa1, hH1, hv1⟩ := h9
  subst e1
  refine A_istore dL_law_3612 (Nat.le_of_ble_eq_true rfl) ?_
  refine A_aload_n (i := 2) dL_law_3614 rfl rfl ?_
  refine A_st (σ' := mc b9 (⟨m_thr ms, m_is ms, nI u, m_bd ms, m_pc ms, m_pa ms, m_sz ms, m_cu ms, m_st ms, m_tk ms, m_to ms, m_ps ms, m_now ms, m_asd ms, m_und ms, m_sav ms, m_isv ms, m_buf ms, m_grp ms, m_pag ms⟩ : MM) τ1) (by rw [← hum]; exact hH1.2.1.symm) ?_
  refine A_callV0 (b' := b + 40998) (c_undo b9 ms τ1 u hu8) tX2_undo q2955 (mc_0 _ _ _) rfl rfl dL_law_3615 (by decide) (by omega) (Nat.le_of_ble_eq_true rfl) (fun w9 τ2 h9 => ?_) (fun E9 q9 τ9 h9 => h9.elim)
  obtain ⟨e1, e2⟩ := h9
  obtain ⟨ms2, ems, em2⟩ : ∃ ms2 : MM, ms2 = (⟨mayT (bi (0 < nI u)) 1 1, m_is ms, gq (mayT (bi (0 < nI u)) 1 1) (nI (u - 1)) (nI u), m_bd ms, m_pc ms, m_pa ms, m_sz ms, m_cu ms, m_st ms, m_tk ms, m_to ms, m_ps ms, gq (mayT (bi (0 < nI u)) 1 1) (wld (m_und ms) (u - 1)) (m_now ms), m_asd ms, m_und ms, m_sav ms, m_isv ms, m_buf ms, m_grp ms, m_pag ms⟩ : MM) ∧ τ2 = mc b9 ms2 τ1 := ⟨_, rfl, e2⟩
  subst e1
  have hH2 : HS g τ2 x b9 hb (zu ms u (mayT (bi (0 < nI u)) 1 1)) ms2 oa1 oD := by rw [em2]; exact hH1.mc
  have hz2 : (zu ms u (mayT (bi (0 < nI u)) 1 1)) = kM ms2 := ((congrArg (fun z : MM => kM z) ems).trans rfl).symm
  have hthr : m_thr ms2 = (mayT (bi (0 < nI u)) 1 1) := (congrArg (fun z : MM => m_thr z) ems).trans rfl
  have hst2 := ((congrArg (fun z : MM => m_st z) ems).trans rfl).trans hst
  refine A_istore dL_law_3618 (Nat.le_of_ble_eq_true rfl) ?_
  refine A_aload_n (i := 2) dL_law_3620 rfl rfl ?_
  refine A_st (σ' := mc b9 ms2 τ2) hH2.2.1.symm ?_
  refine A_callV0E (b' := b + 40998) (v := some (.int (m_thr ms2))) (τ := mc b9 ms2 τ2) (c_thrown b9 ms2 τ2) tX2_thrown q2291 (mc_0 _ _ _) rfl rfl dL_law_3621 (by decide) (by omega) (Nat.le_of_ble_eq_true rfl) ?_
  refine A_st (σ' := τ2) hH2.2.1 ?_
  refine A_iload dL_law_3624 rfl ?_
  refine A_icmp_eq_t (tgt := 3631) dL_law_3626 (by decide) (hthr) ?_
  refine A_iload dL_law_3631 rfl ?_
  refine A_if_ne (tgt := 3648) dL_law_3633 (by decide) (fun c1 => ?_) (fun c1 => ?_)
  · skip
    refine A_goto (tgt := 3776) dL_law_3648 (by decide) ?_
    refine A_sub (L' := [(0, .ref bs), (1, .ref x), (2, .ref b9), (3, .ref (b9 + 9)), (4, .ref (b9 + 10)), (5, .int (nI (6 * k)))]) ⟨rfl, rfl, rfl, rfl, rfl, rfl, trivial⟩ ?_
    refine A_less (b' := b) (by omega) ?_
    exact kk τ2 ⟨ms2, oa1, oD, _, by rw [← hz2]; exact hH2, hst2⟩
  · skip
    refine A_aload_n (i := 3) dL_law_3636 rfl rfl ?_
    refine A_iconst (v := 0) dL_law_3637 (by decide) ?_
    refine A_lald hH2.2.2.1 (by unfold vp_in; decide) dL_law_3638 ?_
    refine A_iload dL_law_3639 rfl ?_
    refine A_i2l dL_law_3641 rfl ?_
    refine A_lcmp dL_law_3642 ?_
    refine A_if_eq_t (tgt := 3648) dL_law_3643 (by decide) (by rw [show oa1 (0 : Int32).toNatClampNeg = _ from hv1 c1]; rw [gd_0 (show (mayT (bi (0 < nI u)) 1 1) = 0 from c1)]; exact lg_self _) ?_
    refine A_goto (tgt := 3776) dL_law_3648 (by decide) ?_
    refine A_sub (L' := [(0, .ref bs), (1, .ref x), (2, .ref b9), (3, .ref (b9 + 9)), (4, .ref (b9 + 10)), (5, .int (nI (6 * k)))]) ⟨rfl, rfl, rfl, rfl, rfl, rfl, trivial⟩ ?_
    refine A_less (b' := b) (by omega) ?_
    exact kk τ2 ⟨ms2, oa1, oD, _, by rw [← hz2]; exact hH2, hst2⟩
theorem t_save {l : Launch} {g : GC} {b : Nat} {Q : Option Value → AH → Prop} {X : String → Nat → AH → Prop} (σ : AH) (x b9 hb bs k n : Nat) (xs : Nat → Int32) (hs : o_arr g .int bs n (fun j => .int (xs j))) (hk : 6 * k + 6 ≤ n) (hn : n ≤ 144) (hhb : hb < 2 ^ 30) (hT : TI g x b9 hb σ) (kk : ∀ τ, TI g x b9 hb τ → AW l g mLaw 60 b Q X 3776 [(0, .ref bs), (1, .ref x), (2, .ref b9), (3, .ref (b9 + 9)), (4, .ref (b9 + 10)), (5, .int (nI (6 * k)))] [] τ) : AW l g mLaw 60 (b + 41000) Q X 3664 [(0, .ref bs), (1, .ref x), (2, .ref b9), (3, .ref (b9 + 9)), (4, .ref (b9 + 10)), (5, .int (nI (6 * k)))] [] σ := by
  obtain ⟨ms, oa, oD, s0, hH, hst⟩ := hT
  have hwf := hH.wfc
  refine A_aload_n (i := 1) dL_law_3664 rfl rfl ?_
  refine A_aload_n (i := 0) dL_law_3665 rfl rfl ?_
  refine A_iload dL_law_3666 rfl ?_
  refine A_iconst (v := 1) dL_law_3668 (by decide) ?_
  refine A_iadd dL_law_3669 ?_
  refine A_int (w := nI ((6 * k) + 1)) (nI_add (6 * k) 1) ?_
  refine A_ialdO hs (vp_in_nI (by omega) (by omega)) (v := .int (xs (6 * k + 1))) (by rw [nI_clamp (by omega)]) dL_law_3670 ?_
  refine A_aload_n (i := 3) dL_law_3671 rfl rfl ?_
  refine A_callSH3 (b' := b + 40998) (o_save σ x b9 hb ms oa oD (xs (6 * k + 1)) hhb hH) tX0_save (by decide) q2209 dL_law_3672 (by decide) (by omega) (Nat.le_of_ble_eq_true rfl) (fun w9 τ1 h9 => ?_) (fun E9 q9 τ9 h9 => h9.elim)
  obtain ⟨e1, oa1, hH1, hv1⟩ := h9
  subst e1
  refine A_istore dL_law_3675 (Nat.le_of_ble_eq_true rfl) ?_
  refine A_aload_n (i := 2) dL_law_3677 rfl rfl ?_
  refine A_aload_n (i := 0) dL_law_3678 rfl rfl ?_
  refine A_iload dL_law_3679 rfl ?_
  refine A_iconst (v := 1) dL_law_3681 (by decide) ?_
  refine A_iadd dL_law_3682 ?_
  refine A_int (w := nI ((6 * k) + 1)) (nI_add (6 * k) 1) ?_
  refine A_ialdO hs (vp_in_nI (by omega) (by omega)) (v := .int (xs (6 * k + 1))) (by rw [nI_clamp (by omega)]) dL_law_3683 ?_
  refine A_st (σ' := mc b9 ms τ1) hH1.2.1.symm ?_
  refine A_callV1 (b' := b + 40998) (c_save b9 ms τ1 (xs (6 * k + 1))) tX2_save q2963 (mc_0 _ _ _) rfl rfl dL_law_3684 (by decide) (by omega) (Nat.le_of_ble_eq_true rfl) (fun w9 τ2 h9 => ?_) (fun E9 q9 τ9 h9 => h9.elim)
  obtain ⟨e1, e2⟩ := h9
  obtain ⟨ms2, ems, em2⟩ : ∃ ms2 : MM, ms2 = (⟨mayT (m_is ms) (bi (inR (xs (6 * k + 1)) 0 1)) 1, m_is ms, m_um ms, m_bd ms, m_pc ms, m_pa ms, m_sz ms, m_cu ms, m_st ms, m_tk ms, m_to ms, m_ps ms, m_now ms, m_asd ms, m_und ms, gq (mayT (m_is ms) (bi (inR (xs (6 * k + 1)) 0 1)) 1) (setWld (m_sav ms) (m_now ms) (ix (xs (6 * k + 1)))) (m_sav ms), gq (mayT (m_is ms) (bi (inR (xs (6 * k + 1)) 0 1)) 1) (va_up (m_isv ms) (ix (xs (6 * k + 1))) 1) (m_isv ms), m_buf ms, m_grp ms, m_pag ms⟩ : MM) ∧ τ2 = mc b9 ms2 τ1 := ⟨_, rfl, e2⟩
  subst e1
  have hH2 : HS g τ2 x b9 hb (zs ms (ix (xs (6 * k + 1))) (mayT (m_is ms) (bi (inR (xs (6 * k + 1)) 0 1)) 1)) ms2 oa1 oD := by rw [em2]; exact hH1.mc
  have hz2 : (zs ms (ix (xs (6 * k + 1))) (mayT (m_is ms) (bi (inR (xs (6 * k + 1)) 0 1)) 1)) = kM ms2 := ((congrArg (fun z : MM => kM z) ems).trans rfl).symm
  have hthr : m_thr ms2 = (mayT (m_is ms) (bi (inR (xs (6 * k + 1)) 0 1)) 1) := (congrArg (fun z : MM => m_thr z) ems).trans rfl
  have hst2 := ((congrArg (fun z : MM => m_st z) ems).trans rfl).trans hst
  refine A_istore dL_law_3687 (Nat.le_of_ble_eq_true rfl) ?_
  refine A_aload_n (i := 2) dL_law_3689 rfl rfl ?_
  refine A_st (σ' := mc b9 ms2 τ2) hH2.2.1.symm ?_
  refine A_callV0E (b' := b + 40998) (v := some (.int (m_thr ms2))) (τ := mc b9 ms2 τ2) (c_thrown b9 ms2 τ2) tX2_thrown q2291 (mc_0 _ _ _) rfl rfl dL_law_3690 (by decide) (by omega) (Nat.le_of_ble_eq_true rfl) ?_
  refine A_st (σ' := τ2) hH2.2.1 ?_
  refine A_iload dL_law_3693 rfl ?_
  refine A_icmp_eq_t (tgt := 3700) dL_law_3695 (by decide) (hthr) ?_
  refine A_iload dL_law_3700 rfl ?_
  refine A_if_ne (tgt := 3717) dL_law_3702 (by decide) (fun c1 => ?_) (fun c1 => ?_)
  · skip
    refine A_goto (tgt := 3776) dL_law_3717 (by decide) ?_
    refine A_sub (L' := [(0, .ref bs), (1, .ref x), (2, .ref b9), (3, .ref (b9 + 9)), (4, .ref (b9 + 10)), (5, .int (nI (6 * k)))]) ⟨rfl, rfl, rfl, rfl, rfl, rfl, trivial⟩ ?_
    refine A_less (b' := b) (by omega) ?_
    exact kk τ2 ⟨ms2, oa1, oD, _, by rw [← hz2]; exact hH2, hst2⟩
  · skip
    refine A_aload_n (i := 3) dL_law_3705 rfl rfl ?_
    refine A_iconst (v := 0) dL_law_3706 (by decide) ?_
    refine A_lald hH2.2.2.1 (by unfold vp_in; decide) dL_law_3707 ?_
    refine A_iload dL_law_3708 rfl ?_
    refine A_i2l dL_law_3710 rfl ?_
    refine A_lcmp dL_law_3711 ?_
    refine A_if_eq_t (tgt := 3717) dL_law_3712 (by decide) (by rw [show oa1 (0 : Int32).toNatClampNeg = _ from hv1 c1]; rw [gd_0 (show (mayT (m_is ms) (bi (inR (xs (6 * k + 1)) 0 1)) 1) = 0 from c1)]; exact lg_self _) ?_
    refine A_goto (tgt := 3776) dL_law_3717 (by decide) ?_
    refine A_sub (L' := [(0, .ref bs), (1, .ref x), (2, .ref b9), (3, .ref (b9 + 9)), (4, .ref (b9 + 10)), (5, .int (nI (6 * k)))]) ⟨rfl, rfl, rfl, rfl, rfl, rfl, trivial⟩ ?_
    refine A_less (b' := b) (by omega) ?_
    exact kk τ2 ⟨ms2, oa1, oD, _, by rw [← hz2]; exact hH2, hst2⟩
theorem t_restore {l : Launch} {g : GC} {b : Nat} {Q : Option Value → AH → Prop} {X : String → Nat → AH → Prop} (σ : AH) (x b9 hb bs k n : Nat) (xs : Nat → Int32) (hs : o_arr g .int bs n (fun j => .int (xs j))) (hk : 6 * k + 6 ≤ n) (hn : n ≤ 144) (hhb : hb < 2 ^ 30) (hT : TI g x b9 hb σ) (kk : ∀ τ, TI g x b9 hb τ → AW l g mLaw 60 b Q X 3776 [(0, .ref bs), (1, .ref x), (2, .ref b9), (3, .ref (b9 + 9)), (4, .ref (b9 + 10)), (5, .int (nI (6 * k)))] [] τ) : AW l g mLaw 60 (b + 41000) Q X 3720 [(0, .ref bs), (1, .ref x), (2, .ref b9), (3, .ref (b9 + 9)), (4, .ref (b9 + 10)), (5, .int (nI (6 * k)))] [] σ := by
  obtain ⟨ms, oa, oD, s0, hH, hst⟩ := hT
  have hwf := hH.wfc
  refine A_aload_n (i := 1) dL_law_3720 rfl rfl ?_
  refine A_aload_n (i := 0) dL_law_3721 rfl rfl ?_
  refine A_iload dL_law_3722 rfl ?_
  refine A_iconst (v := 1) dL_law_3724 (by decide) ?_
  refine A_iadd dL_law_3725 ?_
  refine A_int (w := nI ((6 * k) + 1)) (nI_add (6 * k) 1) ?_
  refine A_ialdO hs (vp_in_nI (by omega) (by omega)) (v := .int (xs (6 * k + 1))) (by rw [nI_clamp (by omega)]) dL_law_3726 ?_
  refine A_aload_n (i := 3) dL_law_3727 rfl rfl ?_
  refine A_callSH3 (b' := b + 40998) (o_restore σ x b9 hb ms oa oD (xs (6 * k + 1)) hhb hH) tX0_restore (by decide) q2216 dL_law_3728 (by decide) (by omega) (Nat.le_of_ble_eq_true rfl) (fun w9 τ1 h9 => ?_) (fun E9 q9 τ9 h9 => h9.elim)
  obtain ⟨e1, oa1, hH1, hv1⟩ := h9
  subst e1
  refine A_istore dL_law_3731 (Nat.le_of_ble_eq_true rfl) ?_
  refine A_aload_n (i := 2) dL_law_3733 rfl rfl ?_
  refine A_aload_n (i := 0) dL_law_3734 rfl rfl ?_
  refine A_iload dL_law_3735 rfl ?_
  refine A_iconst (v := 1) dL_law_3737 (by decide) ?_
  refine A_iadd dL_law_3738 ?_
  refine A_int (w := nI ((6 * k) + 1)) (nI_add (6 * k) 1) ?_
  refine A_ialdO hs (vp_in_nI (by omega) (by omega)) (v := .int (xs (6 * k + 1))) (by rw [nI_clamp (by omega)]) dL_law_3739 ?_
  refine A_st (σ' := mc b9 ms τ1) hH1.2.1.symm ?_
  refine A_callV1 (b' := b + 40998) (c_restore b9 ms τ1 (xs (6 * k + 1))) tX2_restore q2970 (mc_0 _ _ _) rfl rfl dL_law_3740 (by decide) (by omega) (Nat.le_of_ble_eq_true rfl) (fun w9 τ2 h9 => ?_) (fun E9 q9 τ9 h9 => h9.elim)
  obtain ⟨e1, e2⟩ := h9
  obtain ⟨ms2, ems, em2⟩ : ∃ ms2 : MM, ms2 = (⟨mayT (bi (inR (xs (6 * k + 1)) 0 1)) (bi (inR (xs (6 * k + 1)) 0 1 ∧ ¬ (m_isv ms) (ix (xs (6 * k + 1))) = 0)) 1, m_is ms, gq (mayT (bi (inR (xs (6 * k + 1)) 0 1)) (bi (inR (xs (6 * k + 1)) 0 1 ∧ ¬ (m_isv ms) (ix (xs (6 * k + 1))) = 0)) 1) 0 (m_um ms), m_bd ms, m_pc ms, m_pa ms, m_sz ms, m_cu ms, m_st ms, m_tk ms, m_to ms, m_ps ms, gq (mayT (bi (inR (xs (6 * k + 1)) 0 1)) (bi (inR (xs (6 * k + 1)) 0 1 ∧ ¬ (m_isv ms) (ix (xs (6 * k + 1))) = 0)) 1) (wld (m_sav ms) (ix (xs (6 * k + 1)))) (m_now ms), m_asd ms, m_und ms, m_sav ms, m_isv ms, m_buf ms, m_grp ms, m_pag ms⟩ : MM) ∧ τ2 = mc b9 ms2 τ1 := ⟨_, rfl, e2⟩
  subst e1
  have hH2 : HS g τ2 x b9 hb (zr ms (ix (xs (6 * k + 1))) (mayT (bi (inR (xs (6 * k + 1)) 0 1)) (bi (inR (xs (6 * k + 1)) 0 1 ∧ ¬ m_isv ms (ix (xs (6 * k + 1))) = 0)) 1)) ms2 oa1 oD := by rw [em2]; exact hH1.mc
  have hz2 : (zr ms (ix (xs (6 * k + 1))) (mayT (bi (inR (xs (6 * k + 1)) 0 1)) (bi (inR (xs (6 * k + 1)) 0 1 ∧ ¬ m_isv ms (ix (xs (6 * k + 1))) = 0)) 1)) = kM ms2 := ((congrArg (fun z : MM => kM z) ems).trans rfl).symm
  have hthr : m_thr ms2 = (mayT (bi (inR (xs (6 * k + 1)) 0 1)) (bi (inR (xs (6 * k + 1)) 0 1 ∧ ¬ m_isv ms (ix (xs (6 * k + 1))) = 0)) 1) := (congrArg (fun z : MM => m_thr z) ems).trans rfl
  have hst2 := ((congrArg (fun z : MM => m_st z) ems).trans rfl).trans hst
  refine A_istore dL_law_3743 (Nat.le_of_ble_eq_true rfl) ?_
  refine A_aload_n (i := 2) dL_law_3745 rfl rfl ?_
  refine A_st (σ' := mc b9 ms2 τ2) hH2.2.1.symm ?_
  refine A_callV0E (b' := b + 40998) (v := some (.int (m_thr ms2))) (τ := mc b9 ms2 τ2) (c_thrown b9 ms2 τ2) tX2_thrown q2291 (mc_0 _ _ _) rfl rfl dL_law_3746 (by decide) (by omega) (Nat.le_of_ble_eq_true rfl) ?_
  refine A_st (σ' := τ2) hH2.2.1 ?_
  refine A_iload dL_law_3749 rfl ?_
  refine A_icmp_eq_t (tgt := 3756) dL_law_3751 (by decide) (hthr) ?_
  refine A_iload dL_law_3756 rfl ?_
  refine A_if_ne (tgt := 3773) dL_law_3758 (by decide) (fun c1 => ?_) (fun c1 => ?_)
  · skip
    refine A_goto (tgt := 3776) dL_law_3773 (by decide) ?_
    refine A_sub (L' := [(0, .ref bs), (1, .ref x), (2, .ref b9), (3, .ref (b9 + 9)), (4, .ref (b9 + 10)), (5, .int (nI (6 * k)))]) ⟨rfl, rfl, rfl, rfl, rfl, rfl, trivial⟩ ?_
    refine A_less (b' := b) (by omega) ?_
    exact kk τ2 ⟨ms2, oa1, oD, _, by rw [← hz2]; exact hH2, hst2⟩
  · skip
    refine A_aload_n (i := 3) dL_law_3761 rfl rfl ?_
    refine A_iconst (v := 0) dL_law_3762 (by decide) ?_
    refine A_lald hH2.2.2.1 (by unfold vp_in; decide) dL_law_3763 ?_
    refine A_iload dL_law_3764 rfl ?_
    refine A_i2l dL_law_3766 rfl ?_
    refine A_lcmp dL_law_3767 ?_
    refine A_if_eq_t (tgt := 3773) dL_law_3768 (by decide) (by rw [show oa1 (0 : Int32).toNatClampNeg = _ from hv1 c1]; rw [gd_0 (show (mayT (bi (inR (xs (6 * k + 1)) 0 1)) (bi (inR (xs (6 * k + 1)) 0 1 ∧ ¬ m_isv ms (ix (xs (6 * k + 1))) = 0)) 1) = 0 from c1)]; exact lg_self _) ?_
    refine A_goto (tgt := 3776) dL_law_3773 (by decide) ?_
    refine A_sub (L' := [(0, .ref bs), (1, .ref x), (2, .ref b9), (3, .ref (b9 + 9)), (4, .ref (b9 + 10)), (5, .int (nI (6 * k)))]) ⟨rfl, rfl, rfl, rfl, rfl, rfl, trivial⟩ ?_
    refine A_less (b' := b) (by omega) ?_
    exact kk τ2 ⟨ms2, oa1, oD, _, by rw [← hz2]; exact hH2, hst2⟩
theorem b8_ex (x : Int32) : ∃ i, i < 256 ∧ b8 x = b8 (nI i) := by
  refine ⟨x.toInt8.toBitVec.toNat, x.toInt8.toBitVec.isLt, ?_⟩
  have e : (nI x.toInt8.toBitVec.toNat).toInt8 = x.toInt8 := by
    apply Int8.toBitVec_inj.mp
    generalize x.toInt8.toBitVec = b
    show BitVec.signExtend 8 (BitVec.ofNat 32 b.toNat) = b
    rw [BitVec.signExtend_eq_setWidth_of_le _ (by decide)]
    apply BitVec.eq_of_toNat_eq
    have h := b.isLt
    simp
  unfold b8
  rw [e]
theorem byt_up {B : AF} (h : byt B) (k : Nat) (v : Int32) : byt (va_up B k (b8 v)) := fun j => by
  by_cases c : j = k
  · obtain ⟨i, hi, e⟩ := b8_ex v
    exact ⟨i, hi, by rw [c]; exact (if_pos rfl).trans e⟩
  · obtain ⟨i, hi, e⟩ := h j
    exact ⟨i, hi, (va_up_ne _ _ c).trans e⟩
theorem byt_fo {B : AF} (h : byt B) (k : Nat) (v : Int32) : byt (fo4 B k v) := by
  unfold fo4 fo3 fo2 fo1
  exact byt_up (byt_up (byt_up (byt_up h _ _) _ _) _ _) _ _
theorem byt_app {B : AF} (h : byt B) (k : Nat) (a b c d e : Int32) : byt (app5 B k a b c d e) := by
  unfold app5
  exact byt_fo (byt_fo (byt_fo (byt_fo (byt_fo h _ _) _ _) _ _) _ _) _ _
theorem t_append {l : Launch} {g : GC} {b : Nat} {Q : Option Value → AH → Prop} {X : String → Nat → AH → Prop} (σ : AH) (x b9 hb bs k n : Nat) (xs : Nat → Int32) (hs : o_arr g .int bs n (fun j => .int (xs j))) (hk : 6 * k + 6 ≤ n) (hn : n ≤ 144) (hhb : hb < 2 ^ 30) (hT : TI g x b9 hb σ) (kk : ∀ τ, TI g x b9 hb τ → AW l g mLaw 60 b Q X 3776 [(0, .ref bs), (1, .ref x), (2, .ref b9), (3, .ref (b9 + 9)), (4, .ref (b9 + 10)), (5, .int (nI (6 * k)))] [] τ) : AW l g mLaw 60 (b + 41000) Q X 304 [(0, .ref bs), (1, .ref x), (2, .ref b9), (3, .ref (b9 + 9)), (4, .ref (b9 + 10)), (5, .int (nI (6 * k)))] [] σ := by
  obtain ⟨ms, oa, oD, s0, hH, hst⟩ := hT
  refine A_wfh (fun wσ _ => ?_)
  obtain ⟨k9, hk5, hbd⟩ := hH.k
  obtain ⟨⟨k0, bf, dq, da, sv, ou, hq, u, sa, cap, ml, e, fs, nv, W, Ws, Vs, f5, lp, hC⟩, hL⟩ := id hH
  have hk0 := (hC.k hbd hk5).symm
  subst hk0
  have hX := hC.2.1
  rw [show (kM ms).1 = nI k9 from hbd] at hX
  by_cases hkk : k9 ≤ 480
  · skip
    refine A_aload_n (i := 1) dL_law_304 rfl rfl ?_
    refine A_aload_n (i := 0) dL_law_305 rfl rfl ?_
    refine A_iload dL_law_306 rfl ?_
    refine A_iconst (v := 1) dL_law_308 (by decide) ?_
    refine A_iadd dL_law_309 ?_
    refine A_int (w := nI ((6 * k) + 1)) (nI_add (6 * k) 1) ?_
    refine A_ialdO hs (vp_in_nI (by omega) (by omega)) (v := .int (xs (6 * k + 1))) (by rw [nI_clamp (by omega)]) dL_law_310 ?_
    refine A_aload_n (i := 0) dL_law_311 rfl rfl ?_
    refine A_iload dL_law_312 rfl ?_
    refine A_iconst (v := 2) dL_law_314 (by decide) ?_
    refine A_iadd dL_law_315 ?_
    refine A_int (w := nI ((6 * k) + 2)) (nI_add (6 * k) 2) ?_
    refine A_ialdO hs (vp_in_nI (by omega) (by omega)) (v := .int (xs (6 * k + 2))) (by rw [nI_clamp (by omega)]) dL_law_316 ?_
    refine A_aload_n (i := 0) dL_law_317 rfl rfl ?_
    refine A_iload dL_law_318 rfl ?_
    refine A_iconst (v := 3) dL_law_320 (by decide) ?_
    refine A_iadd dL_law_321 ?_
    refine A_int (w := nI ((6 * k) + 3)) (nI_add (6 * k) 3) ?_
    refine A_ialdO hs (vp_in_nI (by omega) (by omega)) (v := .int (xs (6 * k + 3))) (by rw [nI_clamp (by omega)]) dL_law_322 ?_
    refine A_aload_n (i := 0) dL_law_323 rfl rfl ?_
    refine A_iload dL_law_324 rfl ?_
    refine A_iconst (v := 4) dL_law_326 (by decide) ?_
    refine A_iadd dL_law_327 ?_
    refine A_int (w := nI ((6 * k) + 4)) (nI_add (6 * k) 4) ?_
    refine A_ialdO hs (vp_in_nI (by omega) (by omega)) (v := .int (xs (6 * k + 4))) (by rw [nI_clamp (by omega)]) dL_law_328 ?_
    refine A_aload_n (i := 0) dL_law_329 rfl rfl ?_
    refine A_iload dL_law_330 rfl ?_
    refine A_iconst (v := 5) dL_law_332 (by decide) ?_
    refine A_iadd dL_law_333 ?_
    refine A_int (w := nI ((6 * k) + 5)) (nI_add (6 * k) 5) ?_
    refine A_ialdO hs (vp_in_nI (by omega) (by omega)) (v := .int (xs (6 * k + 5))) (by rw [nI_clamp (by omega)]) dL_law_334 ?_
    refine A_callV5 (b' := b + 40998) (q_append1 σ x bf dq sv ou k9 _ _ nv _ (xs (6 * k + 1)) (xs (6 * k + 2)) (xs (6 * k + 3)) (xs (6 * k + 4)) (xs (6 * k + 5)) hX hC.2.2.2.1 hkk) tX1_append q263 hX rfl rfl dL_law_335 (by decide) (by omega) (Nat.le_of_ble_eq_true rfl) (fun w9 τ1 h9 => ?_) (fun E9 q9 τ9 h9 => h9.elim)
    obtain ⟨e1, f1, f2, f3, f4⟩ := h9
    subst e1
    refine A_wfh (fun wτ1 _ => ?_)
    have hH1 := HS.app hC hL wσ f1 f2 (by omega) (byt_app hC.2.2.2.2.1 k9 (xs (6 * k + 1)) (xs (6 * k + 2)) (xs (6 * k + 3)) (xs (6 * k + 4)) (xs (6 * k + 5))) f3 f4
    refine A_aload_n (i := 2) dL_law_338 rfl rfl ?_
    refine A_aload_n (i := 0) dL_law_339 rfl rfl ?_
    refine A_iload dL_law_340 rfl ?_
    refine A_iconst (v := 1) dL_law_342 (by decide) ?_
    refine A_iadd dL_law_343 ?_
    refine A_int (w := nI ((6 * k) + 1)) (nI_add (6 * k) 1) ?_
    refine A_ialdO hs (vp_in_nI (by omega) (by omega)) (v := .int (xs (6 * k + 1))) (by rw [nI_clamp (by omega)]) dL_law_344 ?_
    refine A_aload_n (i := 0) dL_law_345 rfl rfl ?_
    refine A_iload dL_law_346 rfl ?_
    refine A_iconst (v := 2) dL_law_348 (by decide) ?_
    refine A_iadd dL_law_349 ?_
    refine A_int (w := nI ((6 * k) + 2)) (nI_add (6 * k) 2) ?_
    refine A_ialdO hs (vp_in_nI (by omega) (by omega)) (v := .int (xs (6 * k + 2))) (by rw [nI_clamp (by omega)]) dL_law_350 ?_
    refine A_aload_n (i := 0) dL_law_351 rfl rfl ?_
    refine A_iload dL_law_352 rfl ?_
    refine A_iconst (v := 3) dL_law_354 (by decide) ?_
    refine A_iadd dL_law_355 ?_
    refine A_int (w := nI ((6 * k) + 3)) (nI_add (6 * k) 3) ?_
    refine A_ialdO hs (vp_in_nI (by omega) (by omega)) (v := .int (xs (6 * k + 3))) (by rw [nI_clamp (by omega)]) dL_law_356 ?_
    refine A_aload_n (i := 0) dL_law_357 rfl rfl ?_
    refine A_iload dL_law_358 rfl ?_
    refine A_iconst (v := 4) dL_law_360 (by decide) ?_
    refine A_iadd dL_law_361 ?_
    refine A_int (w := nI ((6 * k) + 4)) (nI_add (6 * k) 4) ?_
    refine A_ialdO hs (vp_in_nI (by omega) (by omega)) (v := .int (xs (6 * k + 4))) (by rw [nI_clamp (by omega)]) dL_law_362 ?_
    refine A_aload_n (i := 0) dL_law_363 rfl rfl ?_
    refine A_iload dL_law_364 rfl ?_
    refine A_iconst (v := 5) dL_law_366 (by decide) ?_
    refine A_iadd dL_law_367 ?_
    refine A_int (w := nI ((6 * k) + 5)) (nI_add (6 * k) 5) ?_
    refine A_ialdO hs (vp_in_nI (by omega) (by omega)) (v := .int (xs (6 * k + 5))) (by rw [nI_clamp (by omega)]) dL_law_368 ?_
    refine A_st (σ' := mc b9 (⟨m_thr ms, m_is ms, m_um ms, nI k9, m_pc ms, m_pa ms, m_sz ms, m_cu ms, m_st ms, m_tk ms, m_to ms, m_ps ms, m_now ms, m_asd ms, m_und ms, m_sav ms, m_isv ms, m_buf ms, m_grp ms, m_pag ms⟩ : MM) τ1) (by rw [← hbd]; exact hH1.2.1.symm) ?_
    refine A_callV5 (b' := b + 40998) (c_append b9 ms τ1 k9 (xs (6 * k + 1)) (xs (6 * k + 2)) (xs (6 * k + 3)) (xs (6 * k + 4)) (xs (6 * k + 5)) hk5) tX2_append q2295 (mc_0 _ _ _) rfl rfl dL_law_369 (by decide) (by omega) (Nat.le_of_ble_eq_true rfl) (fun w9 τ2 h9 => ?_) (fun E9 q9 τ9 h9 => h9.elim)
    obtain ⟨e1, e2⟩ := h9
    obtain ⟨ms2, ems, em2⟩ : ∃ ms2 : MM, ms2 = (⟨0, m_is ms, m_um ms, nI (if k9 ≤ 480 then k9 + 20 else k9), m_pc ms, m_pa ms, m_sz ms, m_cu ms, m_st ms, m_tk ms, m_to ms, m_ps ms, m_now ms, m_asd ms, m_und ms, m_sav ms, m_isv ms, if k9 ≤ 480 then app5 (m_buf ms) k9 (xs (6 * k + 1)) (xs (6 * k + 2)) (xs (6 * k + 3)) (xs (6 * k + 4)) (xs (6 * k + 5)) else (m_buf ms), m_grp ms, m_pag ms⟩ : MM) ∧ τ2 = mc b9 ms2 τ1 := ⟨_, rfl, e2⟩
    subst e1
    have hH2 : HS g τ2 x b9 hb (nI (k9 + 20), (kM ms).2.1, (kM ms).2.2.1, (kM ms).2.2.2.1, (kM ms).2.2.2.2.1, (kM ms).2.2.2.2.2.1, (kM ms).2.2.2.2.2.2.1, (kM ms).2.2.2.2.2.2.2.1, (kM ms).2.2.2.2.2.2.2.2.1, app5 (m_buf ms) k9 (xs (6 * k + 1)) (xs (6 * k + 2)) (xs (6 * k + 3)) (xs (6 * k + 4)) (xs (6 * k + 5)), (kM ms).2.2.2.2.2.2.2.2.2.2.1, (kM ms).2.2.2.2.2.2.2.2.2.2.2) ms2 oa oD := by rw [em2]; exact hH1.mc
    have hz2 : (nI (k9 + 20), (kM ms).2.1, (kM ms).2.2.1, (kM ms).2.2.2.1, (kM ms).2.2.2.2.1, (kM ms).2.2.2.2.2.1, (kM ms).2.2.2.2.2.2.1, (kM ms).2.2.2.2.2.2.2.1, (kM ms).2.2.2.2.2.2.2.2.1, app5 (m_buf ms) k9 (xs (6 * k + 1)) (xs (6 * k + 2)) (xs (6 * k + 3)) (xs (6 * k + 4)) (xs (6 * k + 5)), (kM ms).2.2.2.2.2.2.2.2.2.2.1, (kM ms).2.2.2.2.2.2.2.2.2.2.2) = kM ms2 := (by rw [ems, if_pos hkk, if_pos hkk] <;> rfl)
    have hst2 := ((congrArg (fun z : MM => m_st z) ems).trans rfl).trans hst
    refine A_icmp_eq_t (tgt := 3776) dL_law_372 (by decide) (by rw [if_pos hkk]) ?_
    refine A_sub (L' := [(0, .ref bs), (1, .ref x), (2, .ref b9), (3, .ref (b9 + 9)), (4, .ref (b9 + 10)), (5, .int (nI (6 * k)))]) ⟨rfl, rfl, rfl, rfl, rfl, rfl, trivial⟩ ?_
    refine A_less (b' := b) (by omega) ?_
    exact kk τ2 ⟨ms2, oa, oD, _, by rw [← hz2]; exact hH2, hst2⟩
  · skip
    refine A_aload_n (i := 1) dL_law_304 rfl rfl ?_
    refine A_aload_n (i := 0) dL_law_305 rfl rfl ?_
    refine A_iload dL_law_306 rfl ?_
    refine A_iconst (v := 1) dL_law_308 (by decide) ?_
    refine A_iadd dL_law_309 ?_
    refine A_int (w := nI ((6 * k) + 1)) (nI_add (6 * k) 1) ?_
    refine A_ialdO hs (vp_in_nI (by omega) (by omega)) (v := .int (xs (6 * k + 1))) (by rw [nI_clamp (by omega)]) dL_law_310 ?_
    refine A_aload_n (i := 0) dL_law_311 rfl rfl ?_
    refine A_iload dL_law_312 rfl ?_
    refine A_iconst (v := 2) dL_law_314 (by decide) ?_
    refine A_iadd dL_law_315 ?_
    refine A_int (w := nI ((6 * k) + 2)) (nI_add (6 * k) 2) ?_
    refine A_ialdO hs (vp_in_nI (by omega) (by omega)) (v := .int (xs (6 * k + 2))) (by rw [nI_clamp (by omega)]) dL_law_316 ?_
    refine A_aload_n (i := 0) dL_law_317 rfl rfl ?_
    refine A_iload dL_law_318 rfl ?_
    refine A_iconst (v := 3) dL_law_320 (by decide) ?_
    refine A_iadd dL_law_321 ?_
    refine A_int (w := nI ((6 * k) + 3)) (nI_add (6 * k) 3) ?_
    refine A_ialdO hs (vp_in_nI (by omega) (by omega)) (v := .int (xs (6 * k + 3))) (by rw [nI_clamp (by omega)]) dL_law_322 ?_
    refine A_aload_n (i := 0) dL_law_323 rfl rfl ?_
    refine A_iload dL_law_324 rfl ?_
    refine A_iconst (v := 4) dL_law_326 (by decide) ?_
    refine A_iadd dL_law_327 ?_
    refine A_int (w := nI ((6 * k) + 4)) (nI_add (6 * k) 4) ?_
    refine A_ialdO hs (vp_in_nI (by omega) (by omega)) (v := .int (xs (6 * k + 4))) (by rw [nI_clamp (by omega)]) dL_law_328 ?_
    refine A_aload_n (i := 0) dL_law_329 rfl rfl ?_
    refine A_iload dL_law_330 rfl ?_
    refine A_iconst (v := 5) dL_law_332 (by decide) ?_
    refine A_iadd dL_law_333 ?_
    refine A_int (w := nI ((6 * k) + 5)) (nI_add (6 * k) 5) ?_
    refine A_ialdO hs (vp_in_nI (by omega) (by omega)) (v := .int (xs (6 * k + 5))) (by rw [nI_clamp (by omega)]) dL_law_334 ?_
    refine A_callV5E (b' := b + 41000) (v := some (.int (-1))) (τ := σ) (q_append0 σ x bf dq sv ou k9 _ _ nv _ (xs (6 * k + 1)) (xs (6 * k + 2)) (xs (6 * k + 3)) (xs (6 * k + 4)) (xs (6 * k + 5)) hX hC.2.2.2.1 hkk hk5) tX1_append q263 hX rfl rfl dL_law_335 (by decide) (by omega) (Nat.le_of_ble_eq_true rfl) ?_
    have hH1 := hH
    refine A_aload_n (i := 2) dL_law_338 rfl rfl ?_
    refine A_aload_n (i := 0) dL_law_339 rfl rfl ?_
    refine A_iload dL_law_340 rfl ?_
    refine A_iconst (v := 1) dL_law_342 (by decide) ?_
    refine A_iadd dL_law_343 ?_
    refine A_int (w := nI ((6 * k) + 1)) (nI_add (6 * k) 1) ?_
    refine A_ialdO hs (vp_in_nI (by omega) (by omega)) (v := .int (xs (6 * k + 1))) (by rw [nI_clamp (by omega)]) dL_law_344 ?_
    refine A_aload_n (i := 0) dL_law_345 rfl rfl ?_
    refine A_iload dL_law_346 rfl ?_
    refine A_iconst (v := 2) dL_law_348 (by decide) ?_
    refine A_iadd dL_law_349 ?_
    refine A_int (w := nI ((6 * k) + 2)) (nI_add (6 * k) 2) ?_
    refine A_ialdO hs (vp_in_nI (by omega) (by omega)) (v := .int (xs (6 * k + 2))) (by rw [nI_clamp (by omega)]) dL_law_350 ?_
    refine A_aload_n (i := 0) dL_law_351 rfl rfl ?_
    refine A_iload dL_law_352 rfl ?_
    refine A_iconst (v := 3) dL_law_354 (by decide) ?_
    refine A_iadd dL_law_355 ?_
    refine A_int (w := nI ((6 * k) + 3)) (nI_add (6 * k) 3) ?_
    refine A_ialdO hs (vp_in_nI (by omega) (by omega)) (v := .int (xs (6 * k + 3))) (by rw [nI_clamp (by omega)]) dL_law_356 ?_
    refine A_aload_n (i := 0) dL_law_357 rfl rfl ?_
    refine A_iload dL_law_358 rfl ?_
    refine A_iconst (v := 4) dL_law_360 (by decide) ?_
    refine A_iadd dL_law_361 ?_
    refine A_int (w := nI ((6 * k) + 4)) (nI_add (6 * k) 4) ?_
    refine A_ialdO hs (vp_in_nI (by omega) (by omega)) (v := .int (xs (6 * k + 4))) (by rw [nI_clamp (by omega)]) dL_law_362 ?_
    refine A_aload_n (i := 0) dL_law_363 rfl rfl ?_
    refine A_iload dL_law_364 rfl ?_
    refine A_iconst (v := 5) dL_law_366 (by decide) ?_
    refine A_iadd dL_law_367 ?_
    refine A_int (w := nI ((6 * k) + 5)) (nI_add (6 * k) 5) ?_
    refine A_ialdO hs (vp_in_nI (by omega) (by omega)) (v := .int (xs (6 * k + 5))) (by rw [nI_clamp (by omega)]) dL_law_368 ?_
    refine A_st (σ' := mc b9 (⟨m_thr ms, m_is ms, m_um ms, nI k9, m_pc ms, m_pa ms, m_sz ms, m_cu ms, m_st ms, m_tk ms, m_to ms, m_ps ms, m_now ms, m_asd ms, m_und ms, m_sav ms, m_isv ms, m_buf ms, m_grp ms, m_pag ms⟩ : MM) σ) (by rw [← hbd]; exact hH1.2.1.symm) ?_
    refine A_callV5 (b' := b + 41000) (c_append b9 ms σ k9 (xs (6 * k + 1)) (xs (6 * k + 2)) (xs (6 * k + 3)) (xs (6 * k + 4)) (xs (6 * k + 5)) hk5) tX2_append q2295 (mc_0 _ _ _) rfl rfl dL_law_369 (by decide) (by omega) (Nat.le_of_ble_eq_true rfl) (fun w9 τ2 h9 => ?_) (fun E9 q9 τ9 h9 => h9.elim)
    obtain ⟨e1, e2⟩ := h9
    obtain ⟨ms2, ems, em2⟩ : ∃ ms2 : MM, ms2 = (⟨0, m_is ms, m_um ms, nI (if k9 ≤ 480 then k9 + 20 else k9), m_pc ms, m_pa ms, m_sz ms, m_cu ms, m_st ms, m_tk ms, m_to ms, m_ps ms, m_now ms, m_asd ms, m_und ms, m_sav ms, m_isv ms, if k9 ≤ 480 then app5 (m_buf ms) k9 (xs (6 * k + 1)) (xs (6 * k + 2)) (xs (6 * k + 3)) (xs (6 * k + 4)) (xs (6 * k + 5)) else (m_buf ms), m_grp ms, m_pag ms⟩ : MM) ∧ τ2 = mc b9 ms2 σ := ⟨_, rfl, e2⟩
    subst e1
    have hH2 : HS g τ2 x b9 hb (kM ms) ms2 oa oD := by rw [em2]; exact hH1.mc
    have hz2 : (kM ms) = kM ms2 := (by rw [ems, if_neg hkk, if_neg hkk, ← hbd] <;> rfl)
    have hst2 := ((congrArg (fun z : MM => m_st z) ems).trans rfl).trans hst
    refine A_icmp_eq_t (tgt := 3776) dL_law_372 (by decide) (by rw [if_neg hkk]) ?_
    refine A_sub (L' := [(0, .ref bs), (1, .ref x), (2, .ref b9), (3, .ref (b9 + 9)), (4, .ref (b9 + 10)), (5, .int (nI (6 * k)))]) ⟨rfl, rfl, rfl, rfl, rfl, rfl, trivial⟩ ?_
    refine A_less (b' := b) (by omega) ?_
    exact kk τ2 ⟨ms2, oa, oD, _, by rw [← hz2]; exact hH2, hst2⟩
theorem t_parseError {l : Launch} {g : GC} {b : Nat} {Q : Option Value → AH → Prop} {X : String → Nat → AH → Prop} (σ : AH) (x b9 hb bs k n : Nat) (xs : Nat → Int32) (hs : o_arr g .int bs n (fun j => .int (xs j))) (hk : 6 * k + 6 ≤ n) (hn : n ≤ 144) (hhb : hb < 2 ^ 30) (hT : TI g x b9 hb σ) (kk : ∀ τ, TI g x b9 hb τ → AW l g mLaw 60 b Q X 3776 [(0, .ref bs), (1, .ref x), (2, .ref b9), (3, .ref (b9 + 9)), (4, .ref (b9 + 10)), (5, .int (nI (6 * k)))] [] τ) : AW l g mLaw 60 (b + 41000) Q X 433 [(0, .ref bs), (1, .ref x), (2, .ref b9), (3, .ref (b9 + 9)), (4, .ref (b9 + 10)), (5, .int (nI (6 * k)))] [] σ := by
  obtain ⟨ms, oa, oD, s0, hH, hst⟩ := hT
  refine A_wfh (fun wσ _ => ?_)
  obtain ⟨⟨k9, bf, dq, da, sv, ou, hq, u, sa, cap, ml, e, fs, nv, W, Ws, Vs, f5, lp, hC⟩, hL⟩ := id hH
  refine A_aload_n (i := 1) dL_law_433 rfl rfl ?_
  refine A_callV0E (b' := b + 41000) (v := some (.int (m_pc ms))) (τ := σ) (q_parseError σ x bf dq sv ou _ _ _ nv hC.2.1) tX1_parseError q268 hC.2.1 rfl rfl dL_law_434 (by decide) (by omega) (Nat.le_of_ble_eq_true rfl) ?_
  have hH1 := hH
  refine A_aload_n (i := 2) dL_law_437 rfl rfl ?_
  refine A_st (σ' := mc b9 ms σ) hH1.2.1.symm ?_
  refine A_callV0 (b' := b + 41000) (c_parseError b9 ms σ) tX2_parseError q2303 (mc_0 _ _ _) rfl rfl dL_law_438 (by decide) (by omega) (Nat.le_of_ble_eq_true rfl) (fun w9 τ2 h9 => ?_) (fun E9 q9 τ9 h9 => h9.elim)
  obtain ⟨e1, e2⟩ := h9
  obtain ⟨ms2, ems, em2⟩ : ∃ ms2 : MM, ms2 = (⟨0, m_is ms, m_um ms, m_bd ms, m_pc ms, m_pa ms, m_sz ms, m_cu ms, m_st ms, m_tk ms, m_to ms, m_ps ms, m_now ms, m_asd ms, m_und ms, m_sav ms, m_isv ms, m_buf ms, m_grp ms, m_pag ms⟩ : MM) ∧ τ2 = mc b9 ms2 σ := ⟨_, rfl, e2⟩
  subst e1
  have hH2 : HS g τ2 x b9 hb (kM ms) ms2 oa oD := by rw [em2]; exact hH1.mc
  have hz2 : (kM ms) = kM ms2 := ((congrArg (fun z : MM => kM z) ems).trans rfl).symm
  have hst2 := ((congrArg (fun z : MM => m_st z) ems).trans rfl).trans hst
  refine A_icmp_eq_t (tgt := 3776) dL_law_441 (by decide) (rfl) ?_
  refine A_sub (L' := [(0, .ref bs), (1, .ref x), (2, .ref b9), (3, .ref (b9 + 9)), (4, .ref (b9 + 10)), (5, .int (nI (6 * k)))]) ⟨rfl, rfl, rfl, rfl, rfl, rfl, trivial⟩ ?_
  refine A_less (b' := b) (by omega) ?_
  exact kk τ2 ⟨ms2, oa, oD, _, by rw [← hz2]; exact hH2, hst2⟩
theorem t_errorPosition {l : Launch} {g : GC} {b : Nat} {Q : Option Value → AH → Prop} {X : String → Nat → AH → Prop} (σ : AH) (x b9 hb bs k n : Nat) (xs : Nat → Int32) (hs : o_arr g .int bs n (fun j => .int (xs j))) (hk : 6 * k + 6 ≤ n) (hn : n ≤ 144) (hhb : hb < 2 ^ 30) (hT : TI g x b9 hb σ) (kk : ∀ τ, TI g x b9 hb τ → AW l g mLaw 60 b Q X 3776 [(0, .ref bs), (1, .ref x), (2, .ref b9), (3, .ref (b9 + 9)), (4, .ref (b9 + 10)), (5, .int (nI (6 * k)))] [] τ) : AW l g mLaw 60 (b + 41000) Q X 446 [(0, .ref bs), (1, .ref x), (2, .ref b9), (3, .ref (b9 + 9)), (4, .ref (b9 + 10)), (5, .int (nI (6 * k)))] [] σ := by
  obtain ⟨ms, oa, oD, s0, hH, hst⟩ := hT
  refine A_wfh (fun wσ _ => ?_)
  obtain ⟨⟨k9, bf, dq, da, sv, ou, hq, u, sa, cap, ml, e, fs, nv, W, Ws, Vs, f5, lp, hC⟩, hL⟩ := id hH
  refine A_aload_n (i := 1) dL_law_446 rfl rfl ?_
  refine A_callV0E (b' := b + 41000) (v := some (.int (m_pa ms))) (τ := σ) (q_errorPosition σ x bf dq sv ou _ _ _ nv hC.2.1) tX1_errorPosition q272 hC.2.1 rfl rfl dL_law_447 (by decide) (by omega) (Nat.le_of_ble_eq_true rfl) ?_
  have hH1 := hH
  refine A_aload_n (i := 2) dL_law_450 rfl rfl ?_
  refine A_st (σ' := mc b9 ms σ) hH1.2.1.symm ?_
  refine A_callV0 (b' := b + 41000) (c_errorPosition b9 ms σ) tX2_errorPosition q2307 (mc_0 _ _ _) rfl rfl dL_law_451 (by decide) (by omega) (Nat.le_of_ble_eq_true rfl) (fun w9 τ2 h9 => ?_) (fun E9 q9 τ9 h9 => h9.elim)
  obtain ⟨e1, e2⟩ := h9
  obtain ⟨ms2, ems, em2⟩ : ∃ ms2 : MM, ms2 = (⟨0, m_is ms, m_um ms, m_bd ms, m_pc ms, m_pa ms, m_sz ms, m_cu ms, m_st ms, m_tk ms, m_to ms, m_ps ms, m_now ms, m_asd ms, m_und ms, m_sav ms, m_isv ms, m_buf ms, m_grp ms, m_pag ms⟩ : MM) ∧ τ2 = mc b9 ms2 σ := ⟨_, rfl, e2⟩
  subst e1
  have hH2 : HS g τ2 x b9 hb (kM ms) ms2 oa oD := by rw [em2]; exact hH1.mc
  have hz2 : (kM ms) = kM ms2 := ((congrArg (fun z : MM => kM z) ems).trans rfl).symm
  have hst2 := ((congrArg (fun z : MM => m_st z) ems).trans rfl).trans hst
  refine A_icmp_eq_t (tgt := 3776) dL_law_454 (by decide) (rfl) ?_
  refine A_sub (L' := [(0, .ref bs), (1, .ref x), (2, .ref b9), (3, .ref (b9 + 9)), (4, .ref (b9 + 10)), (5, .int (nI (6 * k)))]) ⟨rfl, rfl, rfl, rfl, rfl, rfl, trivial⟩ ?_
  refine A_less (b' := b) (by omega) ?_
  exact kk τ2 ⟨ms2, oa, oD, _, by rw [← hz2]; exact hH2, hst2⟩
theorem t_buffered {l : Launch} {g : GC} {b : Nat} {Q : Option Value → AH → Prop} {X : String → Nat → AH → Prop} (σ : AH) (x b9 hb bs k n : Nat) (xs : Nat → Int32) (hs : o_arr g .int bs n (fun j => .int (xs j))) (hk : 6 * k + 6 ≤ n) (hn : n ≤ 144) (hhb : hb < 2 ^ 30) (hT : TI g x b9 hb σ) (kk : ∀ τ, TI g x b9 hb τ → AW l g mLaw 60 b Q X 3776 [(0, .ref bs), (1, .ref x), (2, .ref b9), (3, .ref (b9 + 9)), (4, .ref (b9 + 10)), (5, .int (nI (6 * k)))] [] τ) : AW l g mLaw 60 (b + 41000) Q X 459 [(0, .ref bs), (1, .ref x), (2, .ref b9), (3, .ref (b9 + 9)), (4, .ref (b9 + 10)), (5, .int (nI (6 * k)))] [] σ := by
  obtain ⟨ms, oa, oD, s0, hH, hst⟩ := hT
  refine A_wfh (fun wσ _ => ?_)
  obtain ⟨⟨k9, bf, dq, da, sv, ou, hq, u, sa, cap, ml, e, fs, nv, W, Ws, Vs, f5, lp, hC⟩, hL⟩ := id hH
  refine A_aload_n (i := 1) dL_law_459 rfl rfl ?_
  refine A_callV0E (b' := b + 41000) (v := some (.int (m_bd ms))) (τ := σ) (q_buffered σ x bf dq sv ou _ _ _ nv hC.2.1) tX1_buffered q276 hC.2.1 rfl rfl dL_law_460 (by decide) (by omega) (Nat.le_of_ble_eq_true rfl) ?_
  have hH1 := hH
  refine A_aload_n (i := 2) dL_law_463 rfl rfl ?_
  refine A_st (σ' := mc b9 ms σ) hH1.2.1.symm ?_
  refine A_callV0 (b' := b + 41000) (c_buffered b9 ms σ) tX2_buffered q2311 (mc_0 _ _ _) rfl rfl dL_law_464 (by decide) (by omega) (Nat.le_of_ble_eq_true rfl) (fun w9 τ2 h9 => ?_) (fun E9 q9 τ9 h9 => h9.elim)
  obtain ⟨e1, e2⟩ := h9
  obtain ⟨ms2, ems, em2⟩ : ∃ ms2 : MM, ms2 = (⟨0, m_is ms, m_um ms, m_bd ms, m_pc ms, m_pa ms, m_sz ms, m_cu ms, m_st ms, m_tk ms, m_to ms, m_ps ms, m_now ms, m_asd ms, m_und ms, m_sav ms, m_isv ms, m_buf ms, m_grp ms, m_pag ms⟩ : MM) ∧ τ2 = mc b9 ms2 σ := ⟨_, rfl, e2⟩
  subst e1
  have hH2 : HS g τ2 x b9 hb (kM ms) ms2 oa oD := by rw [em2]; exact hH1.mc
  have hz2 : (kM ms) = kM ms2 := ((congrArg (fun z : MM => kM z) ems).trans rfl).symm
  have hst2 := ((congrArg (fun z : MM => m_st z) ems).trans rfl).trans hst
  refine A_icmp_eq_t (tgt := 3776) dL_law_467 (by decide) (rfl) ?_
  refine A_sub (L' := [(0, .ref bs), (1, .ref x), (2, .ref b9), (3, .ref (b9 + 9)), (4, .ref (b9 + 10)), (5, .int (nI (6 * k)))]) ⟨rfl, rfl, rfl, rfl, rfl, rfl, trivial⟩ ?_
  refine A_less (b' := b) (by omega) ?_
  exact kk τ2 ⟨ms2, oa, oD, _, by rw [← hz2]; exact hH2, hst2⟩
theorem t_undoable {l : Launch} {g : GC} {b : Nat} {Q : Option Value → AH → Prop} {X : String → Nat → AH → Prop} (σ : AH) (x b9 hb bs k n : Nat) (xs : Nat → Int32) (hs : o_arr g .int bs n (fun j => .int (xs j))) (hk : 6 * k + 6 ≤ n) (hn : n ≤ 144) (hhb : hb < 2 ^ 30) (hT : TI g x b9 hb σ) (kk : ∀ τ, TI g x b9 hb τ → AW l g mLaw 60 b Q X 3776 [(0, .ref bs), (1, .ref x), (2, .ref b9), (3, .ref (b9 + 9)), (4, .ref (b9 + 10)), (5, .int (nI (6 * k)))] [] τ) : AW l g mLaw 60 (b + 41000) Q X 3651 [(0, .ref bs), (1, .ref x), (2, .ref b9), (3, .ref (b9 + 9)), (4, .ref (b9 + 10)), (5, .int (nI (6 * k)))] [] σ := by
  obtain ⟨ms, oa, oD, s0, hH, hst⟩ := hT
  refine A_wfh (fun wσ _ => ?_)
  obtain ⟨u, hu8, hum⟩ := hH.u
  obtain ⟨⟨k9, bf, dq, da, sv, ou, hq, u0, sa, cap, ml, e, fs, nv, W, Ws, Vs, f5, lp, hC⟩, hL⟩ := id hH
  have hu0 := (hC.u hum hu8).symm
  subst hu0
  refine A_aload_n (i := 1) dL_law_3651 rfl rfl ?_
  refine A_callV0E (b' := b + 41000) (v := some (.int (nI u))) (τ := σ) (q_undoable σ x bf dq sv ou _ _ _ nv da hq u e hC.2.1 hC.2.2.2.2.2.2.2.1.2.2.1) tX1_undoable q280 hC.2.1 rfl rfl dL_law_3652 (by decide) (by omega) (Nat.le_of_ble_eq_true rfl) ?_
  have hH1 := hH
  refine A_aload_n (i := 2) dL_law_3655 rfl rfl ?_
  refine A_st (σ' := mc b9 ms σ) hH1.2.1.symm ?_
  refine A_callV0 (b' := b + 41000) (c_undoable b9 ms σ) tX2_undoable q2959 (mc_0 _ _ _) rfl rfl dL_law_3656 (by decide) (by omega) (Nat.le_of_ble_eq_true rfl) (fun w9 τ2 h9 => ?_) (fun E9 q9 τ9 h9 => h9.elim)
  obtain ⟨e1, e2⟩ := h9
  obtain ⟨ms2, ems, em2⟩ : ∃ ms2 : MM, ms2 = (⟨0, m_is ms, m_um ms, m_bd ms, m_pc ms, m_pa ms, m_sz ms, m_cu ms, m_st ms, m_tk ms, m_to ms, m_ps ms, m_now ms, m_asd ms, m_und ms, m_sav ms, m_isv ms, m_buf ms, m_grp ms, m_pag ms⟩ : MM) ∧ τ2 = mc b9 ms2 σ := ⟨_, rfl, e2⟩
  subst e1
  have hH2 : HS g τ2 x b9 hb (kM ms) ms2 oa oD := by rw [em2]; exact hH1.mc
  have hz2 : (kM ms) = kM ms2 := ((congrArg (fun z : MM => kM z) ems).trans rfl).symm
  have hst2 := ((congrArg (fun z : MM => m_st z) ems).trans rfl).trans hst
  refine A_icmp_eq_t (tgt := 3776) dL_law_3659 (by decide) (hum.symm) ?_
  refine A_sub (L' := [(0, .ref bs), (1, .ref x), (2, .ref b9), (3, .ref (b9 + 9)), (4, .ref (b9 + 10)), (5, .int (nI (6 * k)))]) ⟨rfl, rfl, rfl, rfl, rfl, rfl, trivial⟩ ?_
  refine A_less (b' := b) (by omega) ?_
  exact kk τ2 ⟨ms2, oa, oD, _, by rw [← hz2]; exact hH2, hst2⟩
