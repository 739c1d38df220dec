/-! FLAGLAUNDRY 5: what is asked by loops -/
theorem cT26 {l : Launch} {g : GC} {σ : AH} {e a n D : Nat} {fa : Nat → Nat} {p : Nat → Prop} [DecidablePred p] {a1 : Nat} {a2 : Nat} {x3 : Int32} (hDD : D + 2 ≤ e) (hO : lamO g σ 25 [.ref a1, .ref a2, .int x3] a) (hM : ∀ f, f < n → AMet l g mX1_lambda_purest_11 D 0 [.ref a1, .ref a2, .int x3, .ref (fa f)] σ (A_eq (some (.int (bi (p f)))) σ) A_no) : callsT l g σ e a fa n p :=
  fun f hf _ _ _ _ _ _ _ _ _ _ hq hd hdp hw kk => A_lam26 (hM f hf) hO (fun v τ h => ⟨_, h.1, nar_bi _⟩) hq hd (by omega) (Nat.le_of_eq (Nat.zero_add _)) hw (fun v τ h => by obtain ⟨e1, e2⟩ := h; subst e1; subst e2; exact kk)
/-- the reasons, as the laundry collects them -/
def rsU (N : AF) (f : Nat) : Nat → Int32
  | 0 => 0
  | k + 1 => if whyP (fl N f) k then rsU N f k ||| ((2 : Int32) <<< (nI k &&& 31)) else rsU N f k
theorem rsU_s (N : AF) (f k : Nat) : rsU N f (k + 1) = if whyP (fl N f) k then rsU N f k ||| ((2 : Int32) <<< (nI k &&& 31)) else rsU N f k := rfl
theorem rs_step (a : Int32) {p : Prop} [Decidable p] {s t : Int32} (h : ((1 : Int32) <<< s) = t) (h0 : ((0 : Int32) <<< s) = 0) : (if p then a ||| t else a) = a ||| (bi p <<< s) := by
  by_cases c : p
  · rw [if_pos c, bi_t c, h]
  · rw [if_neg c, bi_f c, h0, Int32.or_zero]
theorem rs_eq (N : AF) (f : Nat) : rsU N f 7 = reasN N f := by
  unfold reasN
  rw [rsU_s, rsU_s, rsU_s, rsU_s, rsU_s, rsU_s, rsU_s]
  have e0 : ∀ k : Nat, (whyP (fl N f) k ↔ whyP (fl N f) k) := fun _ => Iff.rfl
  rw [rs_step (s := (7 : Int32) &&& 31) (p := whyP (fl N f) 6) _ (by decide) (by decide), rs_step (s := (6 : Int32) &&& 31) (p := whyP (fl N f) 5) _ (by decide) (by decide), rs_step (s := (5 : Int32) &&& 31) (p := whyP (fl N f) 4) _ (by decide) (by decide), rs_step (s := (4 : Int32) &&& 31) (p := whyP (fl N f) 3) _ (by decide) (by decide), rs_step (s := (3 : Int32) &&& 31) (p := whyP (fl N f) 2) _ (by decide) (by decide), rs_step (s := (2 : Int32) &&& 31) (p := whyP (fl N f) 1) _ (by decide) (by decide), rs_step (s := (1 : Int32) &&& 31) (p := whyP (fl N f) 0) _ (by decide) (by decide)]
  rw [show apI N f 1 = bi (whyP (fl N f) 0) from bi_congr (by simp [whyP]), show apI N f 2 = bi (whyP (fl N f) 1) from bi_congr (by simp [whyP]), show apI N f 3 = bi (whyP (fl N f) 2) from bi_congr (by simp [whyP]), show apI N f 4 = bi (whyP (fl N f) 3) from bi_congr (by simp [whyP, -Int32.not_le, -Int32.not_lt]), show apI N f 5 = bi (whyP (fl N f) 4) from bi_congr (by simp [whyP]), show apI N f 6 = bi (whyP (fl N f) 5) from bi_congr (by simp [whyP, -Int32.not_le, -Int32.not_lt]), show apI N f 7 = bi (whyP (fl N f) 6) from bi_congr (by simp [whyP, -Int32.not_le, -Int32.not_lt])]
  rfl
/-- a nation's loss by an hour more -/
theorem loss_0 {N : AF} {n : Nat} (h : na N n 3 = 0) : flagsN N (nI n) * (mx 0 (na N n 1 - (na N n 2 * mx 0 (N 0 - na N n 0))) - mx 0 (na N n 1 - (na N n 2 * mx 0 ((N 0 + 1) - na N n 0)))) = payInN N n 0 - payInN N n 1 := by
  unfold payInN
  rw [h, if_neg (by decide), if_neg (by decide), Int32.mul_sub, Int32.add_zero]
  rfl
theorem loss_1 {N : AF} {n : Nat} (h : na N n 3 = 1) : (0 : Int32) = payInN N n 0 - payInN N n 1 := by
  unfold payInN
  rw [if_pos h, if_pos h]
  rfl
/-- the best heat, as the laundry seeks it -/
def bhV (N : AF) (t : Int32) (h : Nat) : Int32 := 999 * stainBy N t (nI h) + dirtBy N t (nI h)
def bhU (N : AF) (t : Int32) : Nat → Int32 × Int32
  | 0 => (-1, 0)
  | k + 1 => if ¬ whyWashN N t (nI k) = 0 then bhU N t k else if ¬ (bhU N t k).1 = -1 ∧ (bhU N t k).2 ≤ bhV N t k then bhU N t k else (nI k, bhV N t k)
theorem bhU_s (N : AF) (t : Int32) (k : Nat) : bhU N t (k + 1) = if ¬ whyWashN N t (nI k) = 0 then bhU N t k else if ¬ (bhU N t k).1 = -1 ∧ (bhU N t k).2 ≤ bhV N t k then bhU N t k else (nI k, bhV N t k) := rfl
/-- the least stained by its group, as the laundry seeks it -/
def puL (N : AF) (h : Int32) (n : Nat) : Int32 := if purU N h n = -1 then 0 else mixW N (ix (purU N h n)) h
theorem nI_m1 {n : Nat} (h : n < 2 ^ 31) : ¬ nI n = -1 := fun e => by
  have k := congrArg Int32.toNatClampNeg e
  rw [nI_clamp h] at k
  have k : n = 0 := k
  subst k
  exact absurd e (by decide)
theorem pu_take {N : AF} {h : Int32} {n : Nat} (hn : n < 2000) (a : inBasket N n) (b : purU N h n = -1 ∨ ¬ puL N h n ≤ mixW N n h) : purU N h (n + 1) = nI n ∧ puL N h (n + 1) = mixW N n h := by
  have e : purU N h (n + 1) = nI n := by
    rw [purU_s]
    refine if_pos ⟨a, ?_⟩
    by_cases z : purU N h n = -1
    · exact Or.inl z
    · have c := b.resolve_left z
      unfold puL at c
      rw [if_neg z] at c
      exact Or.inr c
  refine ⟨e, ?_⟩
  unfold puL
  rw [e, if_neg (nI_m1 (by omega)), ixn hn]
theorem pu_skip {N : AF} {h : Int32} {n : Nat} (b : ¬ inBasket N n ∨ (¬ purU N h n = -1 ∧ puL N h n ≤ mixW N n h)) : purU N h (n + 1) = purU N h n ∧ puL N h (n + 1) = puL N h n := by
  have e : purU N h (n + 1) = purU N h n := by
    rw [purU_s]
    refine if_neg fun q => ?_
    rcases b with b | ⟨b1, b2⟩
    · exact b q.1
    · unfold puL at b2
      rw [if_neg b1] at b2
      rcases q.2 with q | q
      · exact b1 q
      · exact q b2
  exact ⟨e, by unfold puL; rw [e]⟩
theorem mix_ne (N : AF) (f k : Nat) (h : Int32) : (¬ k = f ∧ inBasket N k ∧ ¬ (bi (¬ newS N k (runFrom N f h) = 0) + (2 * bi (¬ newS N f (runFrom N k h) = 0))) = 0) ↔ (inBasket N k ∧ ¬ mixN N f k h = 0) := by
  unfold mixN
  by_cases c : f = k
  · rw [if_pos c]
    exact ⟨fun q => absurd c.symm q.1, fun q => absurd rfl q.2⟩
  · rw [if_neg c]
    exact ⟨fun q => q.2, fun q => ⟨fun z => c z.symm, q⟩⟩
theorem q_reasons {l : Launch} {g : GC} (σ : AH) (x bf dq sv ou : Nat) (bd pe ep : Int32) (is : Int32) (nv : Value) (W : WA) (N : AF) (f : Int32) (hL : LD g σ is nv W N) (hX : σ.1 x = some (lauC bf bd pe ep nv dq sv ou)) : AMet l g mX1_reasons 13 2 [.ref x, .int f] σ (A_val (mayT is (bi (okF is N f)) 1) (.int (reasN N (ix f))) σ) (A_thr ["java/lang/IllegalStateException", "java/lang/IndexOutOfBoundsException"] (mayT is (bi (okF is N f)) 1) σ) := by
  rcases hL with ⟨h0, hn⟩ | ⟨hs, hn, hR, hD, hw, hh⟩
  · subst hn
    refine A_of rfl (by decide) (Nat.le_of_ble_eq_true rfl) (L0 := [(0, .ref x), (1, .int f)]) rfl ?_
    refine A_wfh (fun wσ hgσ => ?_)
    have yσ : ext σ σ := ext.rf
    refine A_aload_n (i := 0) dX1_reasons_0 rfl rfl ?_
    refine A_iload_n (i := 1) dX1_reasons_1 rfl rfl ?_
    refine A_callV1 (b' := 0) (u_checkFlag σ x bf dq sv ou bd pe ep f hX) tX1_checkFlag q1490 hX rfl rfl dX1_reasons_2 (by decide) (Nat.le_of_ble_eq_true rfl) (Nat.le_of_ble_eq_true rfl) (fun w9 τ9 h9 => h9.elim) (fun E9 q9 τ9 h9 => A_out rfl (⟨yσ.tr h9.2, 0, by rw [h9.1]; rfl, by rw [(mayQ_1 h0)]; rfl⟩))
  · subst hn
    have hW := hD.1
    have hR9 := hR
    obtain ⟨h1, ⟨fr, h2, h2p⟩, ⟨fm, h3, h3p⟩, ⟨mcn, fnA, h4, h4p, h4q⟩, ⟨mcf, ffA, h5, h5p, h5q⟩, ⟨fu, h6, h6p⟩, h7, h8, h9, h10, h11⟩ := hR
    have hF12 : nF N ≤ 12 := hW.2.2.2.2.2
    have hN4 : nN N ≤ 4 := hW.2.1.2
    have hC6 : nC N ≤ 6 := hW.1.2
    have hT3 : nT N ≤ 3 := hW.2.2.1.2
    have hP8 : nP N ≤ 8 := hW.2.2.2.1.2
    by_cases ck1 : inR f 0 (N 10 - 1)
    · skip
      obtain ⟨jf, hjf, rfl⟩ := in_ex hW.2.2.2.2.1 (Nat.le_trans hF12 (by decide)) ck1
      have bjf : jf < 2000 := Nat.lt_of_lt_of_le hjf (Nat.le_trans hF12 (by decide))
      refine A_of rfl (by decide) (Nat.le_of_ble_eq_true rfl) (L0 := [(0, .ref x), (1, .int (nI jf))]) rfl ?_
      refine A_wfh (fun wσ hgσ => ?_)
      have yσ : ext σ σ := ext.rf
      refine A_aload_n (i := 0) dX1_reasons_0 rfl rfl ?_
      refine A_iload_n (i := 1) dX1_reasons_1 rfl rfl ?_
      refine A_callV1E (b' := 2) (v := some (.ref (wF W jf))) (τ := σ) (c_checkFlag σ x bf dq sv ou bd pe ep W N jf hX hR9 hD hjf) tX1_checkFlag q1490 hX rfl rfl dX1_reasons_2 (by decide) (Nat.le_of_ble_eq_true rfl) (Nat.le_of_ble_eq_true rfl) ?_
      refine A_astore_n (i := 2) dX1_reasons_5 rfl (Nat.le_of_ble_eq_true rfl) ?_
      refine A_iconst (v := 0) dX1_reasons_6 (by decide) ?_
      refine A_istore_n (i := 3) dX1_reasons_7 rfl (Nat.le_of_ble_eq_true rfl) ?_
      refine A_iconst (v := 0) dX1_reasons_8 (by decide) ?_
      refine A_istore dX1_reasons_9 (Nat.le_of_ble_eq_true rfl) ?_
      refine A_less (b' := 0) (Nat.zero_le _) ?_
      refine A_sub (L' := [(0, .ref x), (1, .int (nI jf)), (2, .ref (wF W jf)), (3, .int (rsU N jf 0)), (4, .int (nI 0))]) ⟨rfl, rfl, rfl, rfl, rfl, trivial⟩ ?_
      refine A_for 7 (fun i11 => 0) (fun i11 => [(0, .ref x), (1, .int (nI jf)), (2, .ref (wF W jf)), (3, .int (rsU N jf i11)), (4, .int (nI i11))]) (fun i11 => σ) (fun i11 => True) trivial (fun i11 hi11 hI11 ih11 => ?_) (fun hI11 => ?_)
      · skip
        refine A_iload dX1_reasons_11 rfl ?_
        refine A_aload_n (i := 0) dX1_reasons_13 rfl rfl ?_
        refine A_getf cb_X1 hX 4 (Nat.le_of_ble_eq_true rfl) q242 rfl (v := .ref (wW W)) rfl dX1_reasons_14 ?_
        refine A_getfN cb_X5 h1 5 (Nat.le_of_ble_eq_true rfl) q836 rfl (v := .ref (wUN W)) rfl dX1_reasons_17 ?_
        refine A_alen h6 (by decide) (v := nI 7) (rfl) dX1_reasons_20 ?_
        refine A_icmp_ge_f (tgt := 56) dX1_reasons_21 (by decide) (br_lt rfl hi11 (by decide)) ?_
        refine A_aload_n (i := 0) dX1_reasons_24 rfl rfl ?_
        refine A_getf cb_X1 hX 4 (Nat.le_of_ble_eq_true rfl) q242 rfl (v := .ref (wW W)) rfl dX1_reasons_25 ?_
        refine A_getfN cb_X5 h1 5 (Nat.le_of_ble_eq_true rfl) q836 rfl (v := .ref (wUN W)) rfl dX1_reasons_28 ?_
        refine A_iload dX1_reasons_31 rfl ?_
        obtain ⟨al11, ha11, hl11⟩ := h6p i11 hi11
        refine A_aald h6 (by decide) (vp_in_nI hi11 (by decide)) (v := .ref al11) (by rw [nI_clamp (Nat.lt_trans hi11 (by decide)), ha11]; rfl) dX1_reasons_33 ?_
        refine A_aload_n (i := 2) dX1_reasons_34 rfl rfl ?_
        refine (why_T hR9 hD hjf hi11 hl11) 0 Nat.zero_lt_one q1212 dX1_reasons_35 (by decide) (Nat.le_of_ble_eq_true rfl) ?_
        refine A_if_eq (tgt := 50) dX1_reasons_40 (by decide) (fun c1 => ?_) (fun c1 => ?_)
        · skip
          have c1 := bi_eq0.mp c1
          refine A_iinc (v := nI (i11 + 1)) dX1_reasons_50 rfl (nI_inc _ _) (Nat.le_of_ble_eq_true rfl) ?_
          refine A_goto (tgt := 11) dX1_reasons_53 (by decide) ?_
          refine A_sub (L' := [(0, .ref x), (1, .int (nI jf)), (2, .ref (wF W jf)), (3, .int (rsU N jf (i11 + 1))), (4, .int (nI (i11 + 1)))]) ⟨rfl, rfl, rfl, (by rw [rsU_s, if_neg c1]; rfl), rfl, trivial⟩ ?_
          exact ih11 trivial
        · skip
          have c1 := bi_ne0.mp c1
          refine A_iload_n (i := 3) dX1_reasons_43 rfl rfl ?_
          refine A_iconst (v := 2) dX1_reasons_44 (by decide) ?_
          refine A_iload dX1_reasons_45 rfl ?_
          refine A_ishl dX1_reasons_47 ?_
          refine A_ior dX1_reasons_48 ?_
          refine A_istore_n (i := 3) dX1_reasons_49 rfl (Nat.le_of_ble_eq_true rfl) ?_
          refine A_iinc (v := nI (i11 + 1)) dX1_reasons_50 rfl (nI_inc _ _) (Nat.le_of_ble_eq_true rfl) ?_
          refine A_goto (tgt := 11) dX1_reasons_53 (by decide) ?_
          refine A_sub (L' := [(0, .ref x), (1, .int (nI jf)), (2, .ref (wF W jf)), (3, .int (rsU N jf (i11 + 1))), (4, .int (nI (i11 + 1)))]) ⟨rfl, rfl, rfl, (by rw [rsU_s, if_pos c1]; rfl), rfl, trivial⟩ ?_
          exact ih11 trivial
      · skip
        refine A_iload dX1_reasons_11 rfl ?_
        refine A_aload_n (i := 0) dX1_reasons_13 rfl rfl ?_
        refine A_getf cb_X1 hX 4 (Nat.le_of_ble_eq_true rfl) q242 rfl (v := .ref (wW W)) rfl dX1_reasons_14 ?_
        refine A_getfN cb_X5 h1 5 (Nat.le_of_ble_eq_true rfl) q836 rfl (v := .ref (wUN W)) rfl dX1_reasons_17 ?_
        refine A_alen h6 (by decide) (v := nI 7) (rfl) dX1_reasons_20 ?_
        refine A_icmp_ge_t (tgt := 56) dX1_reasons_21 (by decide) (br_ge rfl) ?_
        refine A_iload_n (i := 3) dX1_reasons_56 rfl rfl ?_
        exact A_iret dX1_reasons_57 rfl (⟨(mayQ_0 hs (bi_n ⟨hs, ck1⟩) (by decide)), by rw [ixn bjf, rs_eq], yσ⟩)
    · skip
      refine A_of rfl (by decide) (Nat.le_of_ble_eq_true rfl) (L0 := [(0, .ref x), (1, .int f)]) rfl ?_
      refine A_wfh (fun wσ hgσ => ?_)
      have yσ : ext σ σ := ext.rf
      refine A_aload_n (i := 0) dX1_reasons_0 rfl rfl ?_
      refine A_iload_n (i := 1) dX1_reasons_1 rfl rfl ?_
      refine A_callV1 (b' := 0) (c_checkFlag_no σ x bf dq sv ou bd pe ep W N f hX hR9 hD ck1) tX1_checkFlag q1490 hX rfl rfl dX1_reasons_2 (by decide) (Nat.le_of_ble_eq_true rfl) (Nat.le_of_ble_eq_true rfl) (fun w9 τ9 h9 => h9.elim) (fun E9 q9 τ9 h9 => A_out rfl (⟨yσ.tr h9.2, 1, by rw [h9.1]; rfl, by rw [(mayQ_2 hs (bi_f (fun h => ck1 h.2)))]; rfl⟩))
theorem q_wettest {l : Launch} {g : GC} (σ : AH) (x bf dq sv ou : Nat) (bd pe ep : Int32) (is : Int32) (nv : Value) (W : WA) (N : AF) (hL : LD g σ is nv W N) (hX : σ.1 x = some (lauC bf bd pe ep nv dq sv ou)) : AMet l g mX1_wettest 9 2 [.ref x] σ (A_val (mayT is 1 1) (.int (wetU N (nF N))) σ) (A_thr ["java/lang/IllegalStateException"] (mayT is 1 1) σ) := by
  rcases hL with ⟨h0, hn⟩ | ⟨hs, hn, hR, hD, hw, hh⟩
  · subst hn
    refine A_of rfl (by decide) (Nat.le_of_ble_eq_true rfl) (L0 := [(0, .ref x)]) rfl ?_
    refine A_wfh (fun wσ hgσ => ?_)
    have yσ : ext σ σ := ext.rf
    refine A_aload_n (i := 0) dX1_wettest_0 rfl rfl ?_
    refine A_callV0 (b' := 0) (u_loaded σ x bf dq sv ou bd pe ep  hX) tX1_loaded q1383 hX rfl rfl dX1_wettest_1 (by decide) (Nat.le_of_ble_eq_true rfl) (Nat.le_of_ble_eq_true rfl) (fun w9 τ9 h9 => h9.elim) (fun E9 q9 τ9 h9 => A_out rfl (⟨yσ.tr h9.2, 0, by rw [h9.1]; rfl, by rw [(mayQ_1 h0)]; rfl⟩))
  · subst hn
    have hW := hD.1
    have hR9 := hR
    obtain ⟨h1, ⟨fr, h2, h2p⟩, ⟨fm, h3, h3p⟩, ⟨mcn, fnA, h4, h4p, h4q⟩, ⟨mcf, ffA, h5, h5p, h5q⟩, ⟨fu, h6, h6p⟩, h7, h8, h9, h10, h11⟩ := hR
    have hF12 : nF N ≤ 12 := hW.2.2.2.2.2
    have hN4 : nN N ≤ 4 := hW.2.1.2
    have hC6 : nC N ≤ 6 := hW.1.2
    have hT3 : nT N ≤ 3 := hW.2.2.1.2
    have hP8 : nP N ≤ 8 := hW.2.2.2.1.2
    refine A_of rfl (by decide) (Nat.le_of_ble_eq_true rfl) (L0 := [(0, .ref x)]) rfl ?_
    refine A_wfh (fun wσ hgσ => ?_)
    have yσ : ext σ σ := ext.rf
    refine A_aload_n (i := 0) dX1_wettest_0 rfl rfl ?_
    refine A_callV0E (b' := 2) (v := some (.ref (wW W))) (τ := σ) (c_loaded σ x bf dq sv ou bd pe ep W N hX hR9 hD) tX1_loaded q1383 hX rfl rfl dX1_wettest_1 (by decide) (Nat.le_of_ble_eq_true rfl) (Nat.le_of_ble_eq_true rfl) ?_
    refine A_astore_n (i := 1) dX1_wettest_4 rfl (Nat.le_of_ble_eq_true rfl) ?_
    refine A_iconst (v := (-1)) dX1_wettest_5 (by decide) ?_
    refine A_istore_n (i := 2) dX1_wettest_6 rfl (Nat.le_of_ble_eq_true rfl) ?_
    refine A_iconst (v := 0) dX1_wettest_7 (by decide) ?_
    refine A_istore_n (i := 3) dX1_wettest_8 rfl (Nat.le_of_ble_eq_true rfl) ?_
    refine A_less (b' := 0) (Nat.zero_le _) ?_
    refine A_sub (L' := [(0, .ref x), (1, .ref (wW W)), (2, .int (wetU N 0)), (3, .int (nI 0))]) ⟨rfl, rfl, rfl, rfl, trivial⟩ ?_
    refine A_for (nF N) (fun i9 => 0) (fun i9 => [(0, .ref x), (1, .ref (wW W)), (2, .int (wetU N i9)), (3, .int (nI i9))]) (fun i9 => σ) (fun i9 => True) trivial (fun i9 hi9 hI9 ih9 => ?_) (fun hI9 => ?_)
    · skip
      refine A_iload_n (i := 3) dX1_wettest_9 rfl rfl ?_
      refine A_aload_n (i := 1) dX1_wettest_10 rfl rfl ?_
      refine A_callV0E (b' := 0) (v := some (.int (nI (nF N)))) (τ := σ) (c_many σ W N hR9 hW) tX5_many q1369 h1 rfl rfl dX1_wettest_11 (by decide) (Nat.le_of_ble_eq_true rfl) (Nat.le_of_ble_eq_true rfl) ?_
      refine A_icmp_ge_f (tgt := 64) dX1_wettest_14 (by decide) (br_lt rfl hi9 (by omega)) ?_
      refine A_aload_n (i := 1) dX1_wettest_17 rfl rfl ?_
      refine A_iload_n (i := 3) dX1_wettest_18 rfl rfl ?_
      refine A_callV1E (b' := 0) (v := some (.ref (wF W i9))) (τ := σ) (c_flagOf σ W N i9 hR9 hW hi9) tX5_flagOf q1153 h1 rfl rfl dX1_wettest_19 (by decide) (Nat.le_of_ble_eq_true rfl) (Nat.le_of_ble_eq_true rfl) ?_
      refine A_astore dX1_wettest_22 (Nat.le_of_ble_eq_true rfl) ?_
      refine A_aload dX1_wettest_24 rfl ?_
      refine A_getfN cb_X7 (hR9.2.2.2.2.2.2.1 i9 hi9) 8 (Nat.le_of_ble_eq_true rfl) q1122 rfl (v := .ref (wP W i9)) rfl dX1_wettest_26 ?_
      rcases (flok_k hD hi9) with h8_1 | h8_1 | h8_1 | h8_1
      · skip
        have hP_1 : σ.1 (wP W i9) = some (.inr (.inl (7, []))) := by have h9 := (hR9.2.2.2.2.2.2.2.1 i9 hi9); rw [h8_1] at h9; exact h9
        refine A_instNo hP_1 rfl nc_X8_X11 q1422 dX1_wettest_29 ?_
        refine A_if_eq_t (tgt := 58) dX1_wettest_32 (by decide) (by decide) ?_
        refine A_iinc (v := nI (i9 + 1)) dX1_wettest_58 rfl (nI_inc _ _) (Nat.le_of_ble_eq_true rfl) ?_
        refine A_goto (tgt := 9) dX1_wettest_61 (by decide) ?_
        refine A_sub (L' := [(0, .ref x), (1, .ref (wW W)), (2, .int (wetU N (i9 + 1))), (3, .int (nI (i9 + 1)))]) ⟨rfl, rfl, (by rw [wetU_s, if_neg (fun q => by rw [h8_1] at q; exact absurd q.1 (by decide))]; rfl), rfl, trivial⟩ ?_
        exact ih9 trivial
      · skip
        have hP_1 : σ.1 (wP W i9) = some (.inr (.inl (8, [.int ((fl N i9) 9), .int ((fl N i9) 10)]))) := by have h9 := (hR9.2.2.2.2.2.2.2.1 i9 hi9); rw [h8_1] at h9; exact h9
        refine A_instNo hP_1 rfl nc_X9_X11 q1422 dX1_wettest_29 ?_
        refine A_if_eq_t (tgt := 58) dX1_wettest_32 (by decide) (by decide) ?_
        refine A_iinc (v := nI (i9 + 1)) dX1_wettest_58 rfl (nI_inc _ _) (Nat.le_of_ble_eq_true rfl) ?_
        refine A_goto (tgt := 9) dX1_wettest_61 (by decide) ?_
        refine A_sub (L' := [(0, .ref x), (1, .ref (wW W)), (2, .int (wetU N (i9 + 1))), (3, .int (nI (i9 + 1)))]) ⟨rfl, rfl, (by rw [wetU_s, if_neg (fun q => by rw [h8_1] at q; exact absurd q.1 (by decide))]; rfl), rfl, trivial⟩ ?_
        exact ih9 trivial
      · skip
        have hP_1 : σ.1 (wP W i9) = some (.inr (.inl (9, [.int ((fl N i9) 9)]))) := by have h9 := (hR9.2.2.2.2.2.2.2.1 i9 hi9); rw [h8_1] at h9; exact h9
        refine A_instE hP_1 rfl q1422 dX1_wettest_29 ?_
        refine A_if_eq_f (tgt := 58) dX1_wettest_32 (by decide) (by decide) ?_
        refine A_iload_n (i := 2) dX1_wettest_35 rfl rfl ?_
        refine A_iconst (v := (-1)) dX1_wettest_36 (by decide) ?_
        refine A_icmp_eq (tgt := 56) dX1_wettest_37 (by decide) (fun c2 => ?_) (fun c2 => ?_)
        · skip
          refine A_iload_n (i := 3) dX1_wettest_56 rfl rfl ?_
          refine A_istore_n (i := 2) dX1_wettest_57 rfl (Nat.le_of_ble_eq_true rfl) ?_
          refine A_iinc (v := nI (i9 + 1)) dX1_wettest_58 rfl (nI_inc _ _) (Nat.le_of_ble_eq_true rfl) ?_
          refine A_goto (tgt := 9) dX1_wettest_61 (by decide) ?_
          refine A_sub (L' := [(0, .ref x), (1, .ref (wW W)), (2, .int (wetU N (i9 + 1))), (3, .int (nI (i9 + 1)))]) ⟨rfl, rfl, (by rw [wetU_s, if_pos ⟨h8_1, Or.inl c2⟩]; rfl), rfl, trivial⟩ ?_
          exact ih9 trivial
        · skip
          refine A_aload dX1_wettest_40 rfl ?_
          refine A_getfN cb_X7 (hR9.2.2.2.2.2.2.1 i9 hi9) 4 (Nat.le_of_ble_eq_true rfl) q1110 rfl (v := .int (fl N i9 4)) rfl dX1_wettest_42 ?_
          refine A_aload_n (i := 1) dX1_wettest_45 rfl rfl ?_
          refine A_iload_n (i := 2) dX1_wettest_46 rfl rfl ?_
          obtain ⟨jb, hb9, eb⟩ := (wetU_in N i9).resolve_left c2
          have hjb : jb < nF N := Nat.lt_trans hb9 hi9
          refine A_int (w := nI jb) (eb) ?_
          refine A_callV1E (b' := 0) (v := some (.ref (wF W jb))) (τ := σ) (c_flagOf σ W N jb hR9 hW hjb) tX5_flagOf q1153 h1 rfl rfl dX1_wettest_47 (by decide) (Nat.le_of_ble_eq_true rfl) (Nat.le_of_ble_eq_true rfl) ?_
          refine A_getfN cb_X7 (hR9.2.2.2.2.2.2.1 jb hjb) 4 (Nat.le_of_ble_eq_true rfl) q1110 rfl (v := .int (fl N jb 4)) rfl dX1_wettest_50 ?_
          refine A_icmp_le (tgt := 58) dX1_wettest_53 (by decide) (fun c3 => ?_) (fun c3 => ?_)
          · skip
            refine A_iinc (v := nI (i9 + 1)) dX1_wettest_58 rfl (nI_inc _ _) (Nat.le_of_ble_eq_true rfl) ?_
            refine A_goto (tgt := 9) dX1_wettest_61 (by decide) ?_
            refine A_sub (L' := [(0, .ref x), (1, .ref (wW W)), (2, .int (wetU N (i9 + 1))), (3, .int (nI (i9 + 1)))]) ⟨rfl, rfl, (by rw [wetU_s, if_neg (fun q => (q.2.elim c2 (fun z => z (by rw [eb, ixn (by omega)]; exact c3))))]; rfl), rfl, trivial⟩ ?_
            exact ih9 trivial
          · skip
            refine A_iload_n (i := 3) dX1_wettest_56 rfl rfl ?_
            refine A_istore_n (i := 2) dX1_wettest_57 rfl (Nat.le_of_ble_eq_true rfl) ?_
            refine A_iinc (v := nI (i9 + 1)) dX1_wettest_58 rfl (nI_inc _ _) (Nat.le_of_ble_eq_true rfl) ?_
            refine A_goto (tgt := 9) dX1_wettest_61 (by decide) ?_
            refine A_sub (L' := [(0, .ref x), (1, .ref (wW W)), (2, .int (wetU N (i9 + 1))), (3, .int (nI (i9 + 1)))]) ⟨rfl, rfl, (by rw [wetU_s, if_pos ⟨h8_1, Or.inr (by rw [eb, ixn (by omega)]; exact c3)⟩]; rfl), rfl, trivial⟩ ?_
            exact ih9 trivial
      · skip
        have hP_1 : σ.1 (wP W i9) = some (.inr (.inl (10, []))) := by have h9 := (hR9.2.2.2.2.2.2.2.1 i9 hi9); rw [h8_1] at h9; exact h9
        refine A_instNo hP_1 rfl nc_X12_X11 q1422 dX1_wettest_29 ?_
        refine A_if_eq_t (tgt := 58) dX1_wettest_32 (by decide) (by decide) ?_
        refine A_iinc (v := nI (i9 + 1)) dX1_wettest_58 rfl (nI_inc _ _) (Nat.le_of_ble_eq_true rfl) ?_
        refine A_goto (tgt := 9) dX1_wettest_61 (by decide) ?_
        refine A_sub (L' := [(0, .ref x), (1, .ref (wW W)), (2, .int (wetU N (i9 + 1))), (3, .int (nI (i9 + 1)))]) ⟨rfl, rfl, (by rw [wetU_s, if_neg (fun q => by rw [h8_1] at q; exact absurd q.1 (by decide))]; rfl), rfl, trivial⟩ ?_
        exact ih9 trivial
    · skip
      refine A_iload_n (i := 3) dX1_wettest_9 rfl rfl ?_
      refine A_aload_n (i := 1) dX1_wettest_10 rfl rfl ?_
      refine A_callV0E (b' := 0) (v := some (.int (nI (nF N)))) (τ := σ) (c_many σ W N hR9 hW) tX5_many q1369 h1 rfl rfl dX1_wettest_11 (by decide) (Nat.le_of_ble_eq_true rfl) (Nat.le_of_ble_eq_true rfl) ?_
      refine A_icmp_ge_t (tgt := 64) dX1_wettest_14 (by decide) (br_ge rfl) ?_
      refine A_iload_n (i := 2) dX1_wettest_64 rfl rfl ?_
      exact A_iret dX1_wettest_65 rfl (⟨(mayQ_0 hs (by decide) (by decide)), rfl, yσ⟩)
theorem q_dearest {l : Launch} {g : GC} (σ : AH) (x bf dq sv ou : Nat) (bd pe ep : Int32) (is : Int32) (nv : Value) (W : WA) (N : AF) (hL : LD g σ is nv W N) (hX : σ.1 x = some (lauC bf bd pe ep nv dq sv ou)) : AMet l g mX1_dearest 34 6 [.ref x] σ (A_val (mayT is 1 1) (.int ((deU N (nN N)).1)) σ) (A_thr ["java/lang/IllegalStateException"] (mayT is 1 1) σ) := by
  rcases hL with ⟨h0, hn⟩ | ⟨hs, hn, hR, hD, hw, hh⟩
  · subst hn
    refine A_of rfl (by decide) (Nat.le_of_ble_eq_true rfl) (L0 := [(0, .ref x)]) rfl ?_
    refine A_wfh (fun wσ hgσ => ?_)
    have yσ : ext σ σ := ext.rf
    refine A_aload_n (i := 0) dX1_dearest_0 rfl rfl ?_
    refine A_callV0 (b' := 0) (u_loaded σ x bf dq sv ou bd pe ep  hX) tX1_loaded q1383 hX rfl rfl dX1_dearest_1 (by decide) (Nat.le_of_ble_eq_true rfl) (Nat.le_of_ble_eq_true rfl) (fun w9 τ9 h9 => h9.elim) (fun E9 q9 τ9 h9 => A_out rfl (⟨yσ.tr h9.2, 0, by rw [h9.1]; rfl, by rw [(mayQ_1 h0)]; rfl⟩))
  · subst hn
    have hW := hD.1
    have hR9 := hR
    obtain ⟨h1, ⟨fr, h2, h2p⟩, ⟨fm, h3, h3p⟩, ⟨mcn, fnA, h4, h4p, h4q⟩, ⟨mcf, ffA, h5, h5p, h5q⟩, ⟨fu, h6, h6p⟩, h7, h8, h9, h10, h11⟩ := hR
    have hF12 : nF N ≤ 12 := hW.2.2.2.2.2
    have hN4 : nN N ≤ 4 := hW.2.1.2
    have hC6 : nC N ≤ 6 := hW.1.2
    have hT3 : nT N ≤ 3 := hW.2.2.1.2
    have hP8 : nP N ≤ 8 := hW.2.2.2.1.2
    refine A_of rfl (by decide) (Nat.le_of_ble_eq_true rfl) (L0 := [(0, .ref x)]) rfl ?_
    refine A_wfh (fun wσ hgσ => ?_)
    have yσ : ext σ σ := ext.rf
    refine A_aload_n (i := 0) dX1_dearest_0 rfl rfl ?_
    refine A_callV0E (b' := 6) (v := some (.ref (wW W))) (τ := σ) (c_loaded σ x bf dq sv ou bd pe ep W N hX hR9 hD) tX1_loaded q1383 hX rfl rfl dX1_dearest_1 (by decide) (Nat.le_of_ble_eq_true rfl) (Nat.le_of_ble_eq_true rfl) ?_
    refine A_astore_n (i := 1) dX1_dearest_4 rfl (Nat.le_of_ble_eq_true rfl) ?_
    refine A_iconst (v := (-1)) dX1_dearest_5 (by decide) ?_
    refine A_istore_n (i := 2) dX1_dearest_6 rfl (Nat.le_of_ble_eq_true rfl) ?_
    refine A_iconst (v := 0) dX1_dearest_7 (by decide) ?_
    refine A_istore_n (i := 3) dX1_dearest_8 rfl (Nat.le_of_ble_eq_true rfl) ?_
    refine A_iconst (v := 0) dX1_dearest_9 (by decide) ?_
    refine A_istore dX1_dearest_10 (Nat.le_of_ble_eq_true rfl) ?_
    refine A_less (b' := ((nN N) - 0) * 1 + 0) (by omega) ?_
    refine A_sub (L' := [(0, .ref x), (1, .ref (wW W)), (2, .int ((deU N 0).1)), (3, .int ((deU N 0).2)), (4, .int (nI 0))]) ⟨rfl, rfl, rfl, rfl, rfl, trivial⟩ ?_
    refine A_forP (α := AH) (nN N) (fun i12 _ => ((nN N) - i12) * 1 + 0) (fun i12 _ => [(0, .ref x), (1, .ref (wW W)), (2, .int ((deU N i12).1)), (3, .int ((deU N i12).2)), (4, .int (nI i12))]) (fun _ τ12 => τ12) (fun i12 τ12 => ext σ τ12) σ ext.rf (fun i12 τ12 hi12 hI12 ih12 => ?_) (fun τ12 hI12 => ?_)
    · skip
      refine A_less (b' := ((nN N) - (i12 + 1)) * 1 + 0 + 1) (by omega) ?_
      have xτ12 := hI12
      refine A_wfh (fun wτ12 hgτ12 => ?_)
      have yτ12 : ext σ τ12 := yσ.tr (xτ12)
      have fτ12_0 : τ12.1 (wW W) = some (.inr (.inl (4, [.int (N 9), .ref (wR W), .ref (wM W), .ref (wNL W), .ref (wFL W), .ref (wUN W), .int (N 6), .int (N 8), .int (N 0), .int (N 1), .int (N 2), .int (N 3), .int (N 4), .int (N 5), .int (N 11)]))) := xτ12.at wσ h1
      have fτ12_1 : τ12.1 (wFL W) = some (.inr (.inl (14, [.int mcf, .ref (wFA W), .int (nI (nF N))]))) := xτ12.at wσ h5
      have fτ12_2 : τ12.1 (wFA W) = some (.inl (.object "java/lang/Object", 12, .inr (.inr (.inr (.inr ffA))))) := xτ12.at wσ h5p
      have fτ12_3 : τ12.1 (wNL W) = some (.inr (.inl (14, [.int mcn, .ref (wNA W), .int (nI (nN N))]))) := xτ12.at wσ h4
      have fτ12_4 : τ12.1 (wNA W) = some (.inl (.object "java/lang/Object", 4, .inr (.inr (.inr (.inr fnA))))) := xτ12.at wσ h4p
      have fτ12_5 : τ12.1 (wR W) = some (.inl (.int, 6, .inl fr)) := xτ12.at wσ h2
      have fτ12_6 : τ12.1 (wM W) = some (.inl (.int, 3, .inl fm)) := xτ12.at wσ h3
      have fτ12_7 : τ12.1 (wUN W) = some (.inl (.object "FlagLaundry$Test", 7, .inr (.inr (.inr (.inr fu))))) := xτ12.at wσ h6
      have fτ12_8 : τ12.1 x = some (.inr (.inl (0, [.ref bf, .int bd, .int pe, .int ep, .ref (wW W), .ref dq, .ref sv, .ref ou]))) := xτ12.at wσ hX
      have hRτ12 : RW g τ12 W N := hR9.ext wσ xτ12
      refine A_iload dX1_dearest_12 rfl ?_
      refine A_aload_n (i := 1) dX1_dearest_14 rfl rfl ?_
      refine A_getfN cb_X5 fτ12_0 3 (Nat.le_of_ble_eq_true rfl) q832 rfl (v := .ref (wNL W)) rfl dX1_dearest_15 ?_
      refine A_callF0E (b' := ((nN N) - (i12 + 1)) * 1 + 0 + 1) (v := some (.int (nI (nN N)))) (τ := τ12) (c_lSize τ12 (wNL W) (wNA W) (nN N) mcn fτ12_3) tF_size q1410 fτ12_3 rfl dX1_dearest_18 (by decide) (by omega) (Nat.le_of_ble_eq_true rfl) ?_
      refine A_icmp_ge_f (tgt := 98) dX1_dearest_23 (by decide) (br_lt rfl hi12 (by omega)) ?_
      obtain ⟨hh9, hn9, hd9⟩ := h9 i12 hi12
      refine A_aload_n (i := 1) dX1_dearest_26 rfl rfl ?_
      refine A_iload dX1_dearest_27 rfl ?_
      refine A_callV1E (b' := ((nN N) - (i12 + 1)) * 1 + 0 + 1) (v := some (.ref (wN W i12))) (τ := τ12) (c_nation5 τ12 W N i12 hRτ12 hD hi12) tX5_nation q1459 fτ12_0 rfl rfl dX1_dearest_29 (by decide) (by omega) (Nat.le_of_ble_eq_true rfl) ?_
      refine A_astore dX1_dearest_32 (Nat.le_of_ble_eq_true rfl) ?_
      refine A_aload dX1_dearest_34 rfl ?_
      refine A_getfN cb_X6 (xτ12.at wσ hn9) 3 (Nat.le_of_ble_eq_true rfl) q991 rfl (v := .int hh9) rfl dX1_dearest_36 ?_
      refine A_iconst (v := (-1)) dX1_dearest_39 (by decide) ?_
      refine A_icmp_ne (tgt := 74) dX1_dearest_40 (by decide) (fun c1 => ?_) (fun c1 => ?_)
      · skip
        refine A_iconst (v := 0) dX1_dearest_74 (by decide) ?_
        refine A_istore dX1_dearest_75 (Nat.le_of_ble_eq_true rfl) ?_
        refine A_iload dX1_dearest_77 rfl ?_
        refine A_iload_n (i := 3) dX1_dearest_79 rfl rfl ?_
        refine A_icmp_gt (tgt := 86) dX1_dearest_80 (by decide) (fun c2 => ?_) (fun c2 => ?_)
        · skip
          refine A_iload dX1_dearest_86 rfl ?_
          refine A_istore_n (i := 2) dX1_dearest_88 rfl (Nat.le_of_ble_eq_true rfl) ?_
          refine A_iload dX1_dearest_89 rfl ?_
          refine A_istore_n (i := 3) dX1_dearest_91 rfl (Nat.le_of_ble_eq_true rfl) ?_
          refine A_iinc (v := nI (i12 + 1)) dX1_dearest_92 rfl (nI_inc _ _) (Nat.le_of_ble_eq_true rfl) ?_
          refine A_goto (tgt := 12) dX1_dearest_95 (by decide) ?_
          refine A_less (b' := ((nN N) - (i12 + 1)) * 1 + 0) (by omega) ?_
          refine A_sub (L' := [(0, .ref x), (1, .ref (wW W)), (2, .int ((deU N (i12 + 1)).1)), (3, .int ((deU N (i12 + 1)).2)), (4, .int (nI (i12 + 1)))]) ⟨rfl, rfl, (by rw [deU_s, if_pos (by rw [← (loss_1 (HD_1 hd9 c1).1)]; exact c2)] <;> rfl), (by rw [deU_s, if_pos (by rw [← (loss_1 (HD_1 hd9 c1).1)]; exact c2)]; exact congrArg (fun z => some (Value.int z)) (loss_1 (HD_1 hd9 c1).1)), rfl, trivial⟩ ?_
          exact ih12 τ12 xτ12
        · skip
          refine A_goto (tgt := 92) dX1_dearest_83 (by decide) ?_
          refine A_iinc (v := nI (i12 + 1)) dX1_dearest_92 rfl (nI_inc _ _) (Nat.le_of_ble_eq_true rfl) ?_
          refine A_goto (tgt := 12) dX1_dearest_95 (by decide) ?_
          refine A_less (b' := ((nN N) - (i12 + 1)) * 1 + 0) (by omega) ?_
          refine A_sub (L' := [(0, .ref x), (1, .ref (wW W)), (2, .int ((deU N (i12 + 1)).1)), (3, .int ((deU N (i12 + 1)).2)), (4, .int (nI (i12 + 1)))]) ⟨rfl, rfl, (by rw [deU_s, if_neg (by rw [← (loss_1 (HD_1 hd9 c1).1)]; exact c2)] <;> rfl), (by rw [deU_s, if_neg (by rw [← (loss_1 (HD_1 hd9 c1).1)]; exact c2)] <;> rfl), rfl, trivial⟩ ?_
          exact ih12 τ12 xτ12
      · skip
        refine A_aload_n (i := 1) dX1_dearest_43 rfl rfl ?_
        refine A_iload dX1_dearest_44 rfl ?_
        refine A_callV1 (b' := ((nN N) - (i12 + 1)) * 1 + 0 + 0) (c_flagsOf5 τ12 W N (nI i12) hRτ12 hD) tX5_flagsOf q1464 fτ12_0 rfl rfl dX1_dearest_46 (by decide) (by omega) (Nat.le_of_ble_eq_true rfl) (fun w9 σ1 h9 => ?_) (fun E9 q9 τ9 h9 => h9.elim)
        obtain ⟨e9, xσ1⟩ := h9
        subst e9
        refine A_wfh (fun wσ1 hgσ1 => ?_)
        have yσ1 : ext σ σ1 := yτ12.tr (xσ1)
        have fσ1_0 : σ1.1 (wW W) = some (.inr (.inl (4, [.int (N 9), .ref (wR W), .ref (wM W), .ref (wNL W), .ref (wFL W), .ref (wUN W), .int (N 6), .int (N 8), .int (N 0), .int (N 1), .int (N 2), .int (N 3), .int (N 4), .int (N 5), .int (N 11)]))) := xσ1.at wτ12 fτ12_0
        have fσ1_1 : σ1.1 (wFL W) = some (.inr (.inl (14, [.int mcf, .ref (wFA W), .int (nI (nF N))]))) := xσ1.at wτ12 fτ12_1
        have fσ1_2 : σ1.1 (wFA W) = some (.inl (.object "java/lang/Object", 12, .inr (.inr (.inr (.inr ffA))))) := xσ1.at wτ12 fτ12_2
        have fσ1_3 : σ1.1 (wNL W) = some (.inr (.inl (14, [.int mcn, .ref (wNA W), .int (nI (nN N))]))) := xσ1.at wτ12 fτ12_3
        have fσ1_4 : σ1.1 (wNA W) = some (.inl (.object "java/lang/Object", 4, .inr (.inr (.inr (.inr fnA))))) := xσ1.at wτ12 fτ12_4
        have fσ1_5 : σ1.1 (wR W) = some (.inl (.int, 6, .inl fr)) := xσ1.at wτ12 fτ12_5
        have fσ1_6 : σ1.1 (wM W) = some (.inl (.int, 3, .inl fm)) := xσ1.at wτ12 fτ12_6
        have fσ1_7 : σ1.1 (wUN W) = some (.inl (.object "FlagLaundry$Test", 7, .inr (.inr (.inr (.inr fu))))) := xσ1.at wτ12 fτ12_7
        have fσ1_8 : σ1.1 x = some (.inr (.inl (0, [.ref bf, .int bd, .int pe, .int ep, .ref (wW W), .ref dq, .ref sv, .ref ou]))) := xσ1.at wτ12 fτ12_8
        have fσ1_9 : σ1.1 (wN W i12) = some (.inr (.inl (5, [.int (na N i12 0), .int (na N i12 1), .int (na N i12 2), .int hh9]))) := xσ1.at wτ12 (xτ12.at wσ hn9)
        have hRσ1 : RW g σ1 W N := hRτ12.ext wτ12 xσ1
        refine A_aload dX1_dearest_49 rfl ?_
        refine A_aload_n (i := 1) dX1_dearest_51 rfl rfl ?_
        refine A_getfN cb_X5 fσ1_0 8 (Nat.le_of_ble_eq_true rfl) q844 rfl (v := .int (N 0)) rfl dX1_dearest_52 ?_
        refine A_callV1E (b' := ((nN N) - (i12 + 1)) * 1 + 0 + 0) (v := some (.int (mx 0 ((na N i12 1) - ((na N i12 2) * mx 0 ((N 0) - (na N i12 0))))))) (τ := σ1) (c_nPays σ1 (wN W i12) (na N i12 0) (na N i12 1) (na N i12 2) hh9 (N 0) fσ1_9) tX6_pays q1860 fσ1_9 rfl rfl dX1_dearest_55 (by decide) (by omega) (Nat.le_of_ble_eq_true rfl) ?_
        refine A_aload dX1_dearest_58 rfl ?_
        refine A_aload_n (i := 1) dX1_dearest_60 rfl rfl ?_
        refine A_getfN cb_X5 fσ1_0 8 (Nat.le_of_ble_eq_true rfl) q844 rfl (v := .int (N 0)) rfl dX1_dearest_61 ?_
        refine A_iconst (v := 1) dX1_dearest_64 (by decide) ?_
        refine A_iadd dX1_dearest_65 ?_
        refine A_callV1E (b' := ((nN N) - (i12 + 1)) * 1 + 0 + 0) (v := some (.int (mx 0 ((na N i12 1) - ((na N i12 2) * mx 0 (((N 0) + 1) - (na N i12 0))))))) (τ := σ1) (c_nPays σ1 (wN W i12) (na N i12 0) (na N i12 1) (na N i12 2) hh9 ((N 0) + 1) fσ1_9) tX6_pays q1860 fσ1_9 rfl rfl dX1_dearest_66 (by decide) (by omega) (Nat.le_of_ble_eq_true rfl) ?_
        refine A_isub dX1_dearest_69 ?_
        refine A_imul dX1_dearest_70 ?_
        refine A_goto (tgt := 75) dX1_dearest_71 (by decide) ?_
        refine A_istore dX1_dearest_75 (Nat.le_of_ble_eq_true rfl) ?_
        refine A_iload dX1_dearest_77 rfl ?_
        refine A_iload_n (i := 3) dX1_dearest_79 rfl rfl ?_
        refine A_icmp_gt (tgt := 86) dX1_dearest_80 (by decide) (fun c3 => ?_) (fun c3 => ?_)
        · skip
          refine A_iload dX1_dearest_86 rfl ?_
          refine A_istore_n (i := 2) dX1_dearest_88 rfl (Nat.le_of_ble_eq_true rfl) ?_
          refine A_iload dX1_dearest_89 rfl ?_
          refine A_istore_n (i := 3) dX1_dearest_91 rfl (Nat.le_of_ble_eq_true rfl) ?_
          refine A_iinc (v := nI (i12 + 1)) dX1_dearest_92 rfl (nI_inc _ _) (Nat.le_of_ble_eq_true rfl) ?_
          refine A_goto (tgt := 12) dX1_dearest_95 (by decide) ?_
          refine A_less (b' := ((nN N) - (i12 + 1)) * 1 + 0) (by omega) ?_
          refine A_sub (L' := [(0, .ref x), (1, .ref (wW W)), (2, .int ((deU N (i12 + 1)).1)), (3, .int ((deU N (i12 + 1)).2)), (4, .int (nI (i12 + 1)))]) ⟨rfl, rfl, (by rw [deU_s, if_pos (by rw [← (loss_0 (HD_0 hd9 c1))]; exact c3)] <;> rfl), (by rw [deU_s, if_pos (by rw [← (loss_0 (HD_0 hd9 c1))]; exact c3)]; exact congrArg (fun z => some (Value.int z)) (loss_0 (HD_0 hd9 c1))), rfl, trivial⟩ ?_
          exact ih12 σ1 (xτ12.tr xσ1)
        · skip
          refine A_goto (tgt := 92) dX1_dearest_83 (by decide) ?_
          refine A_iinc (v := nI (i12 + 1)) dX1_dearest_92 rfl (nI_inc _ _) (Nat.le_of_ble_eq_true rfl) ?_
          refine A_goto (tgt := 12) dX1_dearest_95 (by decide) ?_
          refine A_less (b' := ((nN N) - (i12 + 1)) * 1 + 0) (by omega) ?_
          refine A_sub (L' := [(0, .ref x), (1, .ref (wW W)), (2, .int ((deU N (i12 + 1)).1)), (3, .int ((deU N (i12 + 1)).2)), (4, .int (nI (i12 + 1)))]) ⟨rfl, rfl, (by rw [deU_s, if_neg (by rw [← (loss_0 (HD_0 hd9 c1))]; exact c3)] <;> rfl), (by rw [deU_s, if_neg (by rw [← (loss_0 (HD_0 hd9 c1))]; exact c3)] <;> rfl), rfl, trivial⟩ ?_
          exact ih12 σ1 (xτ12.tr xσ1)
    · skip
      refine A_less (b' := 0) (by omega) ?_
      have xτ12 := hI12
      refine A_wfh (fun wτ12 hgτ12 => ?_)
      have yτ12 : ext σ τ12 := yσ.tr (xτ12)
      have fτ12_0 : τ12.1 (wW W) = some (.inr (.inl (4, [.int (N 9), .ref (wR W), .ref (wM W), .ref (wNL W), .ref (wFL W), .ref (wUN W), .int (N 6), .int (N 8), .int (N 0), .int (N 1), .int (N 2), .int (N 3), .int (N 4), .int (N 5), .int (N 11)]))) := xτ12.at wσ h1
      have fτ12_1 : τ12.1 (wFL W) = some (.inr (.inl (14, [.int mcf, .ref (wFA W), .int (nI (nF N))]))) := xτ12.at wσ h5
      have fτ12_2 : τ12.1 (wFA W) = some (.inl (.object "java/lang/Object", 12, .inr (.inr (.inr (.inr ffA))))) := xτ12.at wσ h5p
      have fτ12_3 : τ12.1 (wNL W) = some (.inr (.inl (14, [.int mcn, .ref (wNA W), .int (nI (nN N))]))) := xτ12.at wσ h4
      have fτ12_4 : τ12.1 (wNA W) = some (.inl (.object "java/lang/Object", 4, .inr (.inr (.inr (.inr fnA))))) := xτ12.at wσ h4p
      have fτ12_5 : τ12.1 (wR W) = some (.inl (.int, 6, .inl fr)) := xτ12.at wσ h2
      have fτ12_6 : τ12.1 (wM W) = some (.inl (.int, 3, .inl fm)) := xτ12.at wσ h3
      have fτ12_7 : τ12.1 (wUN W) = some (.inl (.object "FlagLaundry$Test", 7, .inr (.inr (.inr (.inr fu))))) := xτ12.at wσ h6
      have fτ12_8 : τ12.1 x = some (.inr (.inl (0, [.ref bf, .int bd, .int pe, .int ep, .ref (wW W), .ref dq, .ref sv, .ref ou]))) := xτ12.at wσ hX
      have hRτ12 : RW g τ12 W N := hR9.ext wσ xτ12
      refine A_iload dX1_dearest_12 rfl ?_
      refine A_aload_n (i := 1) dX1_dearest_14 rfl rfl ?_
      refine A_getfN cb_X5 fτ12_0 3 (Nat.le_of_ble_eq_true rfl) q832 rfl (v := .ref (wNL W)) rfl dX1_dearest_15 ?_
      refine A_callF0E (b' := 0) (v := some (.int (nI (nN N)))) (τ := τ12) (c_lSize τ12 (wNL W) (wNA W) (nN N) mcn fτ12_3) tF_size q1410 fτ12_3 rfl dX1_dearest_18 (by decide) (Nat.le_of_ble_eq_true rfl) (Nat.le_of_ble_eq_true rfl) ?_
      refine A_icmp_ge_t (tgt := 98) dX1_dearest_23 (by decide) (br_ge rfl) ?_
      refine A_iload_n (i := 2) dX1_dearest_98 rfl rfl ?_
      exact A_iret dX1_dearest_99 rfl (⟨(mayQ_0 hs (by decide) (by decide)), rfl, yτ12⟩)
theorem c_lpur {l : Launch} {g : GC} (σ : AH) (W : WA) (N : AF) (f k : Nat) (h : Int32) (hR : RW g σ W N) (hD : WFd N) (hf : f < nF N) (hk : k < nF N) : AMet l g mX1_lambda_purest_11 8 0 [.ref (wF W f), .ref (wW W), .int h, .ref (wF W k)] σ (A_eq (some (.int (bi (¬ k = f ∧ inBasket N k ∧ ¬ (bi (¬ newS N k (runFrom N f h) = 0) + (2 * bi (¬ newS N f (runFrom N k h) = 0))) = 0)))) σ) (A_no) := by
  refine A_of rfl (by decide) (Nat.le_of_ble_eq_true rfl) (L0 := [(0, .ref (wF W f)), (1, .ref (wW W)), (2, .int h), (3, .ref (wF W k))]) rfl ?_
  have hW := hD.1
  have hR9 := hR
  obtain ⟨h1, ⟨fr, h2, h2p⟩, ⟨fm, h3, h3p⟩, ⟨mcn, fnA, h4, h4p, h4q⟩, ⟨mcf, ffA, h5, h5p, h5q⟩, ⟨fu, h6, h6p⟩, h7, h8, h9, h10, h11⟩ := hR
  have hF12 : nF N ≤ 12 := hW.2.2.2.2.2
  have hN4 : nN N ≤ 4 := hW.2.1.2
  have hC6 : nC N ≤ 6 := hW.1.2
  have hT3 : nT N ≤ 3 := hW.2.2.1.2
  have hP8 : nP N ≤ 8 := hW.2.2.2.1.2
  refine A_aload_n (i := 3) dX1_lambda_purest_11_0 rfl rfl ?_
  refine A_aload_n (i := 0) dX1_lambda_purest_11_1 rfl rfl ?_
  refine A_acmp_eq (x := (some (wF W k))) (y := (some (wF W f))) (tgt := 26) dX1_lambda_purest_11_2 (by decide) (fun c1 => ?_) (fun c1 => ?_)
  · skip
    refine A_iconst (v := 0) dX1_lambda_purest_11_26 (by decide) ?_
    exact A_zret dX1_lambda_purest_11_27 rfl (rfl) (⟨by rw [bi_f (fun q => q.1 (h10 k f hk hf (Option.some.inj c1)))], rfl⟩)
  · skip
    refine A_aload_n (i := 3) dX1_lambda_purest_11_5 rfl rfl ?_
    refine A_callV0E (b' := 0) (v := some (.int (bi (inBasket N k)))) (τ := σ) (c_fHere σ (wF W k) (wP W k) (fl N k) (hR9.2.2.2.2.2.2.1 k hk) (hR9.2.2.2.2.2.2.2.1 k hk) (flok_k hD hk)) tX7_isHere q1178 (h7 k hk) rfl rfl dX1_lambda_purest_11_6 (by decide) (Nat.le_of_ble_eq_true rfl) (Nat.le_of_ble_eq_true rfl) ?_
    refine A_if_eq (tgt := 26) dX1_lambda_purest_11_9 (by decide) (fun c2 => ?_) (fun c2 => ?_)
    · skip
      have c2 := bi_eq0.mp c2
      refine A_iconst (v := 0) dX1_lambda_purest_11_26 (by decide) ?_
      exact A_zret dX1_lambda_purest_11_27 rfl (rfl) (⟨by rw [bi_f (fun q => c2 q.2.1)], rfl⟩)
    · skip
      have c2 := bi_ne0.mp c2
      refine A_aload_n (i := 1) dX1_lambda_purest_11_12 rfl rfl ?_
      refine A_aload_n (i := 0) dX1_lambda_purest_11_13 rfl rfl ?_
      refine A_aload_n (i := 3) dX1_lambda_purest_11_14 rfl rfl ?_
      refine A_iload_n (i := 2) dX1_lambda_purest_11_15 rfl rfl ?_
      refine A_callV3E (b' := 0) (v := some (.int (bi (¬ newS N k (runFrom N f h) = 0) + (2 * bi (¬ newS N f (runFrom N k h) = 0))))) (τ := σ) (c_mixes5 σ W N f k h hR9 hD hf hk) tX5_mixes q1771 h1 rfl rfl dX1_lambda_purest_11_16 (by decide) (Nat.le_of_ble_eq_true rfl) (Nat.le_of_ble_eq_true rfl) ?_
      refine A_if_eq (tgt := 26) dX1_lambda_purest_11_19 (by decide) (fun c3 => ?_) (fun c3 => ?_)
      · skip
        refine A_iconst (v := 0) dX1_lambda_purest_11_26 (by decide) ?_
        exact A_zret dX1_lambda_purest_11_27 rfl (rfl) (⟨by rw [bi_f (fun q => q.2.2 c3)], rfl⟩)
      · skip
        refine A_iconst (v := 1) dX1_lambda_purest_11_22 (by decide) ?_
        refine A_goto (tgt := 27) dX1_lambda_purest_11_23 (by decide) ?_
        exact A_zret dX1_lambda_purest_11_27 rfl (rfl) (⟨by rw [bi_t ⟨fun e => c1 (by rw [e]), c2, c3⟩], rfl⟩)
theorem q_purest {l : Launch} {g : GC} (σ : AH) (x bf dq sv ou : Nat) (bd pe ep : Int32) (is : Int32) (nv : Value) (W : WA) (N : AF) (h : Int32) (hL : LD g σ is nv W N) (hX : σ.1 x = some (lauC bf bd pe ep nv dq sv ou)) : AMet l g mX1_purest 31 14 [.ref x, .int h] σ (A_val (mayT is (bi (inR h 0 3)) 1) (.int (purU N h (nF N))) σ) (A_thr ["java/lang/IllegalStateException", "java/lang/IllegalArgumentException"] (mayT is (bi (inR h 0 3)) 1) σ) := by
  rcases hL with ⟨h0, hn⟩ | ⟨hs, hn, hR, hD, hw, hh⟩
  · subst hn
    refine A_of rfl (by decide) (Nat.le_of_ble_eq_true rfl) (L0 := [(0, .ref x), (1, .int h)]) rfl ?_
    refine A_wfh (fun wσ hgσ => ?_)
    have yσ : ext σ σ := ext.rf
    refine A_aload_n (i := 0) dX1_purest_0 rfl rfl ?_
    refine A_callV0 (b' := 0) (u_loaded σ x bf dq sv ou bd pe ep  hX) tX1_loaded q1383 hX rfl rfl dX1_purest_1 (by decide) (Nat.le_of_ble_eq_true rfl) (Nat.le_of_ble_eq_true rfl) (fun w9 τ9 h9 => h9.elim) (fun E9 q9 τ9 h9 => A_out rfl (⟨yσ.tr h9.2, 0, by rw [h9.1]; rfl, by rw [(mayQ_1 h0)]; rfl⟩))
  · subst hn
    have hW := hD.1
    have hR9 := hR
    obtain ⟨h1, ⟨fr, h2, h2p⟩, ⟨fm, h3, h3p⟩, ⟨mcn, fnA, h4, h4p, h4q⟩, ⟨mcf, ffA, h5, h5p, h5q⟩, ⟨fu, h6, h6p⟩, h7, h8, h9, h10, h11⟩ := hR
    have hF12 : nF N ≤ 12 := hW.2.2.2.2.2
    have hN4 : nN N ≤ 4 := hW.2.1.2
    have hC6 : nC N ≤ 6 := hW.1.2
    have hT3 : nT N ≤ 3 := hW.2.2.1.2
    have hP8 : nP N ≤ 8 := hW.2.2.2.1.2
    by_cases ck1 : inR h 0 3
    · skip
      obtain ⟨jh, hjh, rfl⟩ := hk_ex ck1
      have bjh : jh < 2000 := Nat.lt_of_le_of_lt hjh (by decide)
      refine A_of rfl (by decide) (Nat.le_of_ble_eq_true rfl) (L0 := [(0, .ref x), (1, .int (nI jh))]) rfl ?_
      refine A_wfh (fun wσ hgσ => ?_)
      have yσ : ext σ σ := ext.rf
      refine A_aload_n (i := 0) dX1_purest_0 rfl rfl ?_
      refine A_callV0E (b' := 14) (v := some (.ref (wW W))) (τ := σ) (c_loaded σ x bf dq sv ou bd pe ep W N hX hR9 hD) tX1_loaded q1383 hX rfl rfl dX1_purest_1 (by decide) (Nat.le_of_ble_eq_true rfl) (Nat.le_of_ble_eq_true rfl) ?_
      refine A_astore_n (i := 2) dX1_purest_4 rfl (Nat.le_of_ble_eq_true rfl) ?_
      refine A_iload_n (i := 1) dX1_purest_5 rfl rfl ?_
      refine A_callS1E (b' := 14) (v := none) (τ := σ) (c_checkHeat σ jh hjh) tX1_checkHeat q1672 dX1_purest_6 (by decide) (Nat.le_of_ble_eq_true rfl) (Nat.le_of_ble_eq_true rfl) ?_
      refine A_iconst (v := (-1)) dX1_purest_9 (by decide) ?_
      refine A_istore_n (i := 3) dX1_purest_10 rfl (Nat.le_of_ble_eq_true rfl) ?_
      refine A_iconst (v := 0) dX1_purest_11 (by decide) ?_
      refine A_istore dX1_purest_12 (Nat.le_of_ble_eq_true rfl) ?_
      refine A_iconst (v := 0) dX1_purest_14 (by decide) ?_
      refine A_istore dX1_purest_15 (Nat.le_of_ble_eq_true rfl) ?_
      refine A_less (b' := ((nF N) - 0) * 1 + 0) (by omega) ?_
      refine A_sub (L' := [(0, .ref x), (1, .int (nI jh)), (2, .ref (wW W)), (3, .int (purU N (nI jh) 0)), (4, .int (puL N (nI jh) 0)), (5, .int (nI 0))]) ⟨rfl, rfl, rfl, rfl, rfl, rfl, trivial⟩ ?_
      refine A_forP (α := AH) (nF N) (fun i17 _ => ((nF N) - i17) * 1 + 0) (fun i17 _ => [(0, .ref x), (1, .int (nI jh)), (2, .ref (wW W)), (3, .int (purU N (nI jh) i17)), (4, .int (puL N (nI jh) i17)), (5, .int (nI i17))]) (fun _ τ17 => τ17) (fun i17 τ17 => ext σ τ17) σ ext.rf (fun i17 τ17 hi17 hI17 ih17 => ?_) (fun τ17 hI17 => ?_)
      · skip
        refine A_less (b' := ((nF N) - (i17 + 1)) * 1 + 0 + 1) (by omega) ?_
        have xτ17 := hI17
        refine A_wfh (fun wτ17 hgτ17 => ?_)
        have yτ17 : ext σ τ17 := yσ.tr (xτ17)
        have fτ17_0 : τ17.1 (wW W) = some (.inr (.inl (4, [.int (N 9), .ref (wR W), .ref (wM W), .ref (wNL W), .ref (wFL W), .ref (wUN W), .int (N 6), .int (N 8), .int (N 0), .int (N 1), .int (N 2), .int (N 3), .int (N 4), .int (N 5), .int (N 11)]))) := xτ17.at wσ h1
        have fτ17_1 : τ17.1 (wFL W) = some (.inr (.inl (14, [.int mcf, .ref (wFA W), .int (nI (nF N))]))) := xτ17.at wσ h5
        have fτ17_2 : τ17.1 (wFA W) = some (.inl (.object "java/lang/Object", 12, .inr (.inr (.inr (.inr ffA))))) := xτ17.at wσ h5p
        have fτ17_3 : τ17.1 (wNL W) = some (.inr (.inl (14, [.int mcn, .ref (wNA W), .int (nI (nN N))]))) := xτ17.at wσ h4
        have fτ17_4 : τ17.1 (wNA W) = some (.inl (.object "java/lang/Object", 4, .inr (.inr (.inr (.inr fnA))))) := xτ17.at wσ h4p
        have fτ17_5 : τ17.1 (wR W) = some (.inl (.int, 6, .inl fr)) := xτ17.at wσ h2
        have fτ17_6 : τ17.1 (wM W) = some (.inl (.int, 3, .inl fm)) := xτ17.at wσ h3
        have fτ17_7 : τ17.1 (wUN W) = some (.inl (.object "FlagLaundry$Test", 7, .inr (.inr (.inr (.inr fu))))) := xτ17.at wσ h6
        have fτ17_8 : τ17.1 x = some (.inr (.inl (0, [.ref bf, .int bd, .int pe, .int ep, .ref (wW W), .ref dq, .ref sv, .ref ou]))) := xτ17.at wσ hX
        have hRτ17 : RW g τ17 W N := hR9.ext wσ xτ17
        refine A_iload dX1_purest_17 rfl ?_
        refine A_aload_n (i := 2) dX1_purest_19 rfl rfl ?_
        refine A_callV0E (b' := ((nF N) - (i17 + 1)) * 1 + 0 + 1) (v := some (.int (nI (nF N)))) (τ := τ17) (c_many τ17 W N hRτ17 hW) tX5_many q1369 fτ17_0 rfl rfl dX1_purest_20 (by decide) (by omega) (Nat.le_of_ble_eq_true rfl) ?_
        refine A_icmp_ge_f (tgt := 85) dX1_purest_23 (by decide) (br_lt rfl hi17 (by omega)) ?_
        refine A_aload_n (i := 2) dX1_purest_26 rfl rfl ?_
        refine A_iload dX1_purest_27 rfl ?_
        refine A_callV1E (b' := ((nF N) - (i17 + 1)) * 1 + 0 + 1) (v := some (.ref (wF W i17))) (τ := τ17) (c_flagOf τ17 W N i17 hRτ17 hW hi17) tX5_flagOf q1153 fτ17_0 rfl rfl dX1_purest_29 (by decide) (by omega) (Nat.le_of_ble_eq_true rfl) ?_
        refine A_astore dX1_purest_32 (Nat.le_of_ble_eq_true rfl) ?_
        refine A_aload_n (i := 2) dX1_purest_34 rfl rfl ?_
        refine A_aload dX1_purest_35 rfl ?_
        refine A_aload_n (i := 2) dX1_purest_37 rfl rfl ?_
        refine A_iload_n (i := 1) dX1_purest_38 rfl rfl ?_
        refine A_mk26 (b' := ((nF N) - (i17 + 1)) * 1 + 0 + 0) (Nat.le_of_ble_eq_true rfl) (by omega) ?_
        obtain ⟨σ1, eσ1⟩ : ∃ τ, τ = h_new τ17 (.inr (.inr (25, [.ref (wF W i17), .ref (wW W), .int (nI jh)]))) := ⟨_, rfl⟩
        refine A_st (σ' := σ1) eσ1.symm ?_
        have wσ1 : wfh σ1 := by rw [eσ1]; exact wτ17.new
        have fσ1_0 : σ1.1 (wW W) = some (.inr (.inl (4, [.int (N 9), .ref (wR W), .ref (wM W), .ref (wNL W), .ref (wFL W), .ref (wUN W), .int (N 6), .int (N 8), .int (N 0), .int (N 1), .int (N 2), .int (N 3), .int (N 4), .int (N 5), .int (N 11)]))) := by rw [eσ1]; exact (hn_ne (Nat.ne_of_lt (wτ17 _ _ fτ17_0))).trans fτ17_0
        have fσ1_1 : σ1.1 (wFL W) = some (.inr (.inl (14, [.int mcf, .ref (wFA W), .int (nI (nF N))]))) := by rw [eσ1]; exact (hn_ne (Nat.ne_of_lt (wτ17 _ _ fτ17_1))).trans fτ17_1
        have fσ1_2 : σ1.1 (wFA W) = some (.inl (.object "java/lang/Object", 12, .inr (.inr (.inr (.inr ffA))))) := by rw [eσ1]; exact (hn_ne (Nat.ne_of_lt (wτ17 _ _ fτ17_2))).trans fτ17_2
        have fσ1_3 : σ1.1 (wNL W) = some (.inr (.inl (14, [.int mcn, .ref (wNA W), .int (nI (nN N))]))) := by rw [eσ1]; exact (hn_ne (Nat.ne_of_lt (wτ17 _ _ fτ17_3))).trans fτ17_3
        have fσ1_4 : σ1.1 (wNA W) = some (.inl (.object "java/lang/Object", 4, .inr (.inr (.inr (.inr fnA))))) := by rw [eσ1]; exact (hn_ne (Nat.ne_of_lt (wτ17 _ _ fτ17_4))).trans fτ17_4
        have fσ1_5 : σ1.1 (wR W) = some (.inl (.int, 6, .inl fr)) := by rw [eσ1]; exact (hn_ne (Nat.ne_of_lt (wτ17 _ _ fτ17_5))).trans fτ17_5
        have fσ1_6 : σ1.1 (wM W) = some (.inl (.int, 3, .inl fm)) := by rw [eσ1]; exact (hn_ne (Nat.ne_of_lt (wτ17 _ _ fτ17_6))).trans fτ17_6
        have fσ1_7 : σ1.1 (wUN W) = some (.inl (.object "FlagLaundry$Test", 7, .inr (.inr (.inr (.inr fu))))) := by rw [eσ1]; exact (hn_ne (Nat.ne_of_lt (wτ17 _ _ fτ17_7))).trans fτ17_7
        have fσ1_8 : σ1.1 x = some (.inr (.inl (0, [.ref bf, .int bd, .int pe, .int ep, .ref (wW W), .ref dq, .ref sv, .ref ou]))) := by rw [eσ1]; exact (hn_ne (Nat.ne_of_lt (wτ17 _ _ fτ17_8))).trans fτ17_8
        have fσ1_9 : σ1.1 (wF W i17) = some (.inr (.inl (6, [.int (fl N i17 0), .int (fl N i17 1), .int (fl N i17 2), .int (fl N i17 3), .int (fl N i17 4), .int (fl N i17 5), .int (fl N i17 6), .int (fl N i17 7), .ref (wP W i17)]))) := by rw [eσ1]; exact (hn_ne (Nat.ne_of_lt (wτ17 _ _ (hRτ17.2.2.2.2.2.2.1 i17 hi17)))).trans (hRτ17.2.2.2.2.2.2.1 i17 hi17)
        have fσ1_10 : σ1.1 τ17.2 = some (.inr (.inr (25, [.ref (wF W i17), .ref (wW W), .int (nI jh)]))) := by rw [eσ1]; exact if_pos rfl
        have xσ1 : ext τ17 σ1 := by rw [eσ1]; exact ext_new _ _
        have yσ1 : ext σ σ1 := yτ17.tr (xσ1)
        have hRσ1 : RW g σ1 W N := hRτ17.ext wτ17 xσ1
        refine A_callV1E (b' := ((nF N) - (i17 + 1)) * 1 + 0 + 0) (v := some (.int (mixW N i17 (nI jh)))) (τ := σ1) (c_cnt σ1 W N τ17.2 (fun k => inBasket N k ∧ ¬ mixN N i17 k (nI jh) = 0) hRσ1 hW (cT26 (D := 8) (by decide) (Or.inl fσ1_10) (fun k hk => by rw [← bi_congr (mix_ne N i17 k (nI jh))]; exact c_lpur σ1 W N i17 k (nI jh) hRσ1 hD hi17 hk))) tX5_count q1445 fσ1_0 rfl rfl dX1_purest_44 (by decide) (by omega) (Nat.le_of_ble_eq_true rfl) ?_
        refine A_istore dX1_purest_47 (Nat.le_of_ble_eq_true rfl) ?_
        refine A_aload dX1_purest_49 rfl ?_
        refine A_callV0E (b' := ((nF N) - (i17 + 1)) * 1 + 0 + 0) (v := some (.int (bi (inBasket N i17)))) (τ := σ1) (c_fHere σ1 (wF W i17) (wP W i17) (fl N i17) (hRσ1.2.2.2.2.2.2.1 i17 hi17) (hRσ1.2.2.2.2.2.2.2.1 i17 hi17) (flok_k hD hi17)) tX7_isHere q1178 fσ1_9 rfl rfl dX1_purest_51 (by decide) (by omega) (Nat.le_of_ble_eq_true rfl) ?_
        refine A_if_eq (tgt := 79) dX1_purest_54 (by decide) (fun c1 => ?_) (fun c1 => ?_)
        · skip
          have c1 := bi_eq0.mp c1
          refine A_iinc (v := nI (i17 + 1)) dX1_purest_79 rfl (nI_inc _ _) (Nat.le_of_ble_eq_true rfl) ?_
          refine A_goto (tgt := 17) dX1_purest_82 (by decide) ?_
          refine A_less (b' := ((nF N) - (i17 + 1)) * 1 + 0) (by omega) ?_
          refine A_sub (L' := [(0, .ref x), (1, .int (nI jh)), (2, .ref (wW W)), (3, .int (purU N (nI jh) (i17 + 1))), (4, .int (puL N (nI jh) (i17 + 1))), (5, .int (nI (i17 + 1)))]) ⟨rfl, (by rfl), rfl, (by rw [(pu_skip (Or.inl c1)).1]; rfl), (by rw [(pu_skip (Or.inl c1)).2]; rfl), rfl, trivial⟩ ?_
          exact ih17 σ1 (xτ17.tr xσ1)
        · skip
          have c1 := bi_ne0.mp c1
          refine A_iload_n (i := 3) dX1_purest_57 rfl rfl ?_
          refine A_iconst (v := (-1)) dX1_purest_58 (by decide) ?_
          refine A_icmp_eq (tgt := 72) dX1_purest_59 (by decide) (fun c2 => ?_) (fun c2 => ?_)
          · skip
            refine A_iload dX1_purest_72 rfl ?_
            refine A_istore_n (i := 3) dX1_purest_74 rfl (Nat.le_of_ble_eq_true rfl) ?_
            refine A_iload dX1_purest_75 rfl ?_
            refine A_istore dX1_purest_77 (Nat.le_of_ble_eq_true rfl) ?_
            refine A_iinc (v := nI (i17 + 1)) dX1_purest_79 rfl (nI_inc _ _) (Nat.le_of_ble_eq_true rfl) ?_
            refine A_goto (tgt := 17) dX1_purest_82 (by decide) ?_
            refine A_less (b' := ((nF N) - (i17 + 1)) * 1 + 0) (by omega) ?_
            refine A_sub (L' := [(0, .ref x), (1, .int (nI jh)), (2, .ref (wW W)), (3, .int (purU N (nI jh) (i17 + 1))), (4, .int (puL N (nI jh) (i17 + 1))), (5, .int (nI (i17 + 1)))]) ⟨rfl, (by rfl), rfl, (by rw [(pu_take (Nat.lt_of_lt_of_le hi17 (Nat.le_trans hF12 (by decide))) c1 (Or.inl c2)).1]; rfl), (by rw [(pu_take (Nat.lt_of_lt_of_le hi17 (Nat.le_trans hF12 (by decide))) c1 (Or.inl c2)).2]; rfl), rfl, trivial⟩ ?_
            exact ih17 σ1 (xτ17.tr xσ1)
          · skip
            refine A_iload dX1_purest_62 rfl ?_
            refine A_iload dX1_purest_64 rfl ?_
            refine A_icmp_lt (tgt := 72) dX1_purest_66 (by decide) (fun c3 => ?_) (fun c3 => ?_)
            · skip
              refine A_iload dX1_purest_72 rfl ?_
              refine A_istore_n (i := 3) dX1_purest_74 rfl (Nat.le_of_ble_eq_true rfl) ?_
              refine A_iload dX1_purest_75 rfl ?_
              refine A_istore dX1_purest_77 (Nat.le_of_ble_eq_true rfl) ?_
              refine A_iinc (v := nI (i17 + 1)) dX1_purest_79 rfl (nI_inc _ _) (Nat.le_of_ble_eq_true rfl) ?_
              refine A_goto (tgt := 17) dX1_purest_82 (by decide) ?_
              refine A_less (b' := ((nF N) - (i17 + 1)) * 1 + 0) (by omega) ?_
              refine A_sub (L' := [(0, .ref x), (1, .int (nI jh)), (2, .ref (wW W)), (3, .int (purU N (nI jh) (i17 + 1))), (4, .int (puL N (nI jh) (i17 + 1))), (5, .int (nI (i17 + 1)))]) ⟨rfl, (by rfl), rfl, (by rw [(pu_take (Nat.lt_of_lt_of_le hi17 (Nat.le_trans hF12 (by decide))) c1 (Or.inr (Int32.not_le.mpr c3))).1]; rfl), (by rw [(pu_take (Nat.lt_of_lt_of_le hi17 (Nat.le_trans hF12 (by decide))) c1 (Or.inr (Int32.not_le.mpr c3))).2]; rfl), rfl, trivial⟩ ?_
              exact ih17 σ1 (xτ17.tr xσ1)
            · skip
              refine A_goto (tgt := 79) dX1_purest_69 (by decide) ?_
              refine A_iinc (v := nI (i17 + 1)) dX1_purest_79 rfl (nI_inc _ _) (Nat.le_of_ble_eq_true rfl) ?_
              refine A_goto (tgt := 17) dX1_purest_82 (by decide) ?_
              refine A_less (b' := ((nF N) - (i17 + 1)) * 1 + 0) (by omega) ?_
              refine A_sub (L' := [(0, .ref x), (1, .int (nI jh)), (2, .ref (wW W)), (3, .int (purU N (nI jh) (i17 + 1))), (4, .int (puL N (nI jh) (i17 + 1))), (5, .int (nI (i17 + 1)))]) ⟨rfl, (by rfl), rfl, (by rw [(pu_skip (Or.inr ⟨c2, Int32.not_lt.mp c3⟩)).1]; rfl), (by rw [(pu_skip (Or.inr ⟨c2, Int32.not_lt.mp c3⟩)).2]; rfl), rfl, trivial⟩ ?_
              exact ih17 σ1 (xτ17.tr xσ1)
      · skip
        refine A_less (b' := 0) (by omega) ?_
        have xτ17 := hI17
        refine A_wfh (fun wτ17 hgτ17 => ?_)
        have yτ17 : ext σ τ17 := yσ.tr (xτ17)
        have fτ17_0 : τ17.1 (wW W) = some (.inr (.inl (4, [.int (N 9), .ref (wR W), .ref (wM W), .ref (wNL W), .ref (wFL W), .ref (wUN W), .int (N 6), .int (N 8), .int (N 0), .int (N 1), .int (N 2), .int (N 3), .int (N 4), .int (N 5), .int (N 11)]))) := xτ17.at wσ h1
        have fτ17_1 : τ17.1 (wFL W) = some (.inr (.inl (14, [.int mcf, .ref (wFA W), .int (nI (nF N))]))) := xτ17.at wσ h5
        have fτ17_2 : τ17.1 (wFA W) = some (.inl (.object "java/lang/Object", 12, .inr (.inr (.inr (.inr ffA))))) := xτ17.at wσ h5p
        have fτ17_3 : τ17.1 (wNL W) = some (.inr (.inl (14, [.int mcn, .ref (wNA W), .int (nI (nN N))]))) := xτ17.at wσ h4
        have fτ17_4 : τ17.1 (wNA W) = some (.inl (.object "java/lang/Object", 4, .inr (.inr (.inr (.inr fnA))))) := xτ17.at wσ h4p
        have fτ17_5 : τ17.1 (wR W) = some (.inl (.int, 6, .inl fr)) := xτ17.at wσ h2
        have fτ17_6 : τ17.1 (wM W) = some (.inl (.int, 3, .inl fm)) := xτ17.at wσ h3
        have fτ17_7 : τ17.1 (wUN W) = some (.inl (.object "FlagLaundry$Test", 7, .inr (.inr (.inr (.inr fu))))) := xτ17.at wσ h6
        have fτ17_8 : τ17.1 x = some (.inr (.inl (0, [.ref bf, .int bd, .int pe, .int ep, .ref (wW W), .ref dq, .ref sv, .ref ou]))) := xτ17.at wσ hX
        have hRτ17 : RW g τ17 W N := hR9.ext wσ xτ17
        refine A_iload dX1_purest_17 rfl ?_
        refine A_aload_n (i := 2) dX1_purest_19 rfl rfl ?_
        refine A_callV0E (b' := 0) (v := some (.int (nI (nF N)))) (τ := τ17) (c_many τ17 W N hRτ17 hW) tX5_many q1369 fτ17_0 rfl rfl dX1_purest_20 (by decide) (Nat.le_of_ble_eq_true rfl) (Nat.le_of_ble_eq_true rfl) ?_
        refine A_icmp_ge_t (tgt := 85) dX1_purest_23 (by decide) (br_ge rfl) ?_
        refine A_iload_n (i := 3) dX1_purest_85 rfl rfl ?_
        exact A_iret dX1_purest_86 rfl (⟨(mayQ_0 hs (bi_n ck1) (by decide)), rfl, yτ17⟩)
    · skip
      refine A_of rfl (by decide) (Nat.le_of_ble_eq_true rfl) (L0 := [(0, .ref x), (1, .int h)]) rfl ?_
      refine A_wfh (fun wσ hgσ => ?_)
      have yσ : ext σ σ := ext.rf
      refine A_aload_n (i := 0) dX1_purest_0 rfl rfl ?_
      refine A_callV0E (b' := 14) (v := some (.ref (wW W))) (τ := σ) (c_loaded σ x bf dq sv ou bd pe ep W N hX hR9 hD) tX1_loaded q1383 hX rfl rfl dX1_purest_1 (by decide) (Nat.le_of_ble_eq_true rfl) (Nat.le_of_ble_eq_true rfl) ?_
      refine A_astore_n (i := 2) dX1_purest_4 rfl (Nat.le_of_ble_eq_true rfl) ?_
      refine A_iload_n (i := 1) dX1_purest_5 rfl rfl ?_
      refine A_callS1 (b' := 0) (c_checkHeat_no σ h ck1) tX1_checkHeat q1672 dX1_purest_6 (by decide) (Nat.le_of_ble_eq_true rfl) (Nat.le_of_ble_eq_true rfl) (fun w9 τ9 h9 => h9.elim) (fun E9 q9 τ9 h9 => A_out rfl (⟨yσ.tr h9.2, 1, by rw [h9.1]; rfl, by rw [(mayQ_2 hs (bi_f (fun h => ck1 h)))]; rfl⟩))
theorem gt3_f {i : Nat} (h : i < 4) : ¬ (3 : Int32) < nI i := by
  have := (by omega : i = 0 ∨ i = 1 ∨ i = 2 ∨ i = 3)
  rcases this with rfl | rfl | rfl | rfl <;> decide
theorem q_bestHeat {l : Launch} {g : GC} (σ : AH) (x bf dq sv ou : Nat) (bd pe ep : Int32) (is : Int32) (nv : Value) (W : WA) (N : AF) (t : Int32) (hL : LD g σ is nv W N) (hX : σ.1 x = some (lauC bf bd pe ep nv dq sv ou)) : AMet l g mX1_bestHeat 36 14 [.ref x, .int t] σ (A_val (mayT is (bi (okT is N t)) 1) (.int ((bhU N t 4).1)) σ) (A_thr ["java/lang/IllegalStateException", "java/lang/IndexOutOfBoundsException"] (mayT is (bi (okT is N t)) 1) σ) := by
  rcases hL with ⟨h0, hn⟩ | ⟨hs, hn, hR, hD, hw, hh⟩
  · subst hn
    refine A_of rfl (by decide) (Nat.le_of_ble_eq_true rfl) (L0 := [(0, .ref x), (1, .int t)]) rfl ?_
    refine A_wfh (fun wσ hgσ => ?_)
    have yσ : ext σ σ := ext.rf
    refine A_aload_n (i := 0) dX1_bestHeat_0 rfl rfl ?_
    refine A_iload_n (i := 1) dX1_bestHeat_1 rfl rfl ?_
    refine A_callV1 (b' := 0) (u_checkTub σ x bf dq sv ou bd pe ep t hX) tX1_checkTub q1505 hX rfl rfl dX1_bestHeat_2 (by decide) (Nat.le_of_ble_eq_true rfl) (Nat.le_of_ble_eq_true rfl) (fun w9 τ9 h9 => h9.elim) (fun E9 q9 τ9 h9 => A_out rfl (⟨yσ.tr h9.2, 0, by rw [h9.1]; rfl, by rw [(mayQ_1 h0)]; rfl⟩))
  · subst hn
    have hW := hD.1
    have hR9 := hR
    obtain ⟨h1, ⟨fr, h2, h2p⟩, ⟨fm, h3, h3p⟩, ⟨mcn, fnA, h4, h4p, h4q⟩, ⟨mcf, ffA, h5, h5p, h5q⟩, ⟨fu, h6, h6p⟩, h7, h8, h9, h10, h11⟩ := hR
    have hF12 : nF N ≤ 12 := hW.2.2.2.2.2
    have hN4 : nN N ≤ 4 := hW.2.1.2
    have hC6 : nC N ≤ 6 := hW.1.2
    have hT3 : nT N ≤ 3 := hW.2.2.1.2
    have hP8 : nP N ≤ 8 := hW.2.2.2.1.2
    by_cases ck1 : inR t 0 (N 8 - 1)
    · skip
      obtain ⟨jt, hjt, rfl⟩ := in_ex hW.2.2.1.1 (Nat.le_trans hT3 (by decide)) ck1
      have bjt : jt < 2000 := Nat.lt_of_lt_of_le hjt (Nat.le_trans hT3 (by decide))
      refine A_of rfl (by decide) (Nat.le_of_ble_eq_true rfl) (L0 := [(0, .ref x), (1, .int (nI jt))]) rfl ?_
      refine A_wfh (fun wσ hgσ => ?_)
      have yσ : ext σ σ := ext.rf
      refine A_aload_n (i := 0) dX1_bestHeat_0 rfl rfl ?_
      refine A_iload_n (i := 1) dX1_bestHeat_1 rfl rfl ?_
      refine A_callV1E (b' := 14) (v := some (.ref (wW W))) (τ := σ) (c_checkTub σ x bf dq sv ou bd pe ep W N jt hX hR9 hD hjt) tX1_checkTub q1505 hX rfl rfl dX1_bestHeat_2 (by decide) (Nat.le_of_ble_eq_true rfl) (Nat.le_of_ble_eq_true rfl) ?_
      refine A_astore_n (i := 2) dX1_bestHeat_5 rfl (Nat.le_of_ble_eq_true rfl) ?_
      refine A_iconst (v := (-1)) dX1_bestHeat_6 (by decide) ?_
      refine A_istore_n (i := 3) dX1_bestHeat_7 rfl (Nat.le_of_ble_eq_true rfl) ?_
      refine A_iconst (v := 0) dX1_bestHeat_8 (by decide) ?_
      refine A_istore dX1_bestHeat_9 (Nat.le_of_ble_eq_true rfl) ?_
      refine A_iconst (v := 0) dX1_bestHeat_11 (by decide) ?_
      refine A_istore dX1_bestHeat_12 (Nat.le_of_ble_eq_true rfl) ?_
      refine A_less (b' := (4 - 0) * 2 + 0) (by omega) ?_
      refine A_sub (L' := [(0, .ref x), (1, .int (nI jt)), (2, .ref (wW W)), (3, .int ((bhU N (nI jt) 0).1)), (4, .int ((bhU N (nI jt) 0).2)), (5, .int (nI 0))]) ⟨rfl, rfl, rfl, rfl, rfl, rfl, trivial⟩ ?_
      refine A_forP (α := AH) 4 (fun i14 _ => (4 - i14) * 2 + 0) (fun i14 _ => [(0, .ref x), (1, .int (nI jt)), (2, .ref (wW W)), (3, .int ((bhU N (nI jt) i14).1)), (4, .int ((bhU N (nI jt) i14).2)), (5, .int (nI i14))]) (fun _ τ14 => τ14) (fun i14 τ14 => ext σ τ14) σ ext.rf (fun i14 τ14 hi14 hI14 ih14 => ?_) (fun τ14 hI14 => ?_)
      · skip
        refine A_less (b' := (4 - (i14 + 1)) * 2 + 0 + 2) (by omega) ?_
        have xτ14 := hI14
        refine A_wfh (fun wτ14 hgτ14 => ?_)
        have yτ14 : ext σ τ14 := yσ.tr (xτ14)
        have fτ14_0 : τ14.1 (wW W) = some (.inr (.inl (4, [.int (N 9), .ref (wR W), .ref (wM W), .ref (wNL W), .ref (wFL W), .ref (wUN W), .int (N 6), .int (N 8), .int (N 0), .int (N 1), .int (N 2), .int (N 3), .int (N 4), .int (N 5), .int (N 11)]))) := xτ14.at wσ h1
        have fτ14_1 : τ14.1 (wFL W) = some (.inr (.inl (14, [.int mcf, .ref (wFA W), .int (nI (nF N))]))) := xτ14.at wσ h5
        have fτ14_2 : τ14.1 (wFA W) = some (.inl (.object "java/lang/Object", 12, .inr (.inr (.inr (.inr ffA))))) := xτ14.at wσ h5p
        have fτ14_3 : τ14.1 (wNL W) = some (.inr (.inl (14, [.int mcn, .ref (wNA W), .int (nI (nN N))]))) := xτ14.at wσ h4
        have fτ14_4 : τ14.1 (wNA W) = some (.inl (.object "java/lang/Object", 4, .inr (.inr (.inr (.inr fnA))))) := xτ14.at wσ h4p
        have fτ14_5 : τ14.1 (wR W) = some (.inl (.int, 6, .inl fr)) := xτ14.at wσ h2
        have fτ14_6 : τ14.1 (wM W) = some (.inl (.int, 3, .inl fm)) := xτ14.at wσ h3
        have fτ14_7 : τ14.1 (wUN W) = some (.inl (.object "FlagLaundry$Test", 7, .inr (.inr (.inr (.inr fu))))) := xτ14.at wσ h6
        have fτ14_8 : τ14.1 x = some (.inr (.inl (0, [.ref bf, .int bd, .int pe, .int ep, .ref (wW W), .ref dq, .ref sv, .ref ou]))) := xτ14.at wσ hX
        have hRτ14 : RW g τ14 W N := hR9.ext wσ xτ14
        refine A_iload dX1_bestHeat_14 rfl ?_
        refine A_iconst (v := 3) dX1_bestHeat_16 (by decide) ?_
        refine A_icmp_gt_f (tgt := 82) dX1_bestHeat_17 (by decide) (gt3_f hi14) ?_
        refine A_aload_n (i := 2) dX1_bestHeat_20 rfl rfl ?_
        refine A_iload_n (i := 1) dX1_bestHeat_21 rfl rfl ?_
        refine A_iload dX1_bestHeat_22 rfl ?_
        refine A_callS3 (b' := (4 - (i14 + 1)) * 2 + 0 + 1) (c_washBar τ14 W N (nI jt) (nI i14) hRτ14 hD) tX1_washBar q1676 dX1_bestHeat_24 (by decide) (by omega) (Nat.le_of_ble_eq_true rfl) (fun w9 σ1 h9 => ?_) (fun E9 q9 τ9 h9 => h9.elim)
        obtain ⟨e9, xσ1⟩ := h9
        subst e9
        refine A_wfh (fun wσ1 hgσ1 => ?_)
        have yσ1 : ext σ σ1 := yτ14.tr (xσ1)
        have fσ1_0 : σ1.1 (wW W) = some (.inr (.inl (4, [.int (N 9), .ref (wR W), .ref (wM W), .ref (wNL W), .ref (wFL W), .ref (wUN W), .int (N 6), .int (N 8), .int (N 0), .int (N 1), .int (N 2), .int (N 3), .int (N 4), .int (N 5), .int (N 11)]))) := xσ1.at wτ14 fτ14_0
        have fσ1_1 : σ1.1 (wFL W) = some (.inr (.inl (14, [.int mcf, .ref (wFA W), .int (nI (nF N))]))) := xσ1.at wτ14 fτ14_1
        have fσ1_2 : σ1.1 (wFA W) = some (.inl (.object "java/lang/Object", 12, .inr (.inr (.inr (.inr ffA))))) := xσ1.at wτ14 fτ14_2
        have fσ1_3 : σ1.1 (wNL W) = some (.inr (.inl (14, [.int mcn, .ref (wNA W), .int (nI (nN N))]))) := xσ1.at wτ14 fτ14_3
        have fσ1_4 : σ1.1 (wNA W) = some (.inl (.object "java/lang/Object", 4, .inr (.inr (.inr (.inr fnA))))) := xσ1.at wτ14 fτ14_4
        have fσ1_5 : σ1.1 (wR W) = some (.inl (.int, 6, .inl fr)) := xσ1.at wτ14 fτ14_5
        have fσ1_6 : σ1.1 (wM W) = some (.inl (.int, 3, .inl fm)) := xσ1.at wτ14 fτ14_6
        have fσ1_7 : σ1.1 (wUN W) = some (.inl (.object "FlagLaundry$Test", 7, .inr (.inr (.inr (.inr fu))))) := xσ1.at wτ14 fτ14_7
        have fσ1_8 : σ1.1 x = some (.inr (.inl (0, [.ref bf, .int bd, .int pe, .int ep, .ref (wW W), .ref dq, .ref sv, .ref ou]))) := xσ1.at wτ14 fτ14_8
        have hRσ1 : RW g σ1 W N := hRτ14.ext wτ14 xσ1
        refine A_if_eq (tgt := 33) dX1_bestHeat_27 (by decide) (fun c1 => ?_) (fun c1 => ?_)
        · skip
          refine A_sipush (v := 999) dX1_bestHeat_33 (by decide) ?_
          refine A_aload_n (i := 2) dX1_bestHeat_36 rfl rfl ?_
          refine A_iload_n (i := 1) dX1_bestHeat_37 rfl rfl ?_
          refine A_iload dX1_bestHeat_38 rfl ?_
          refine A_callV2 (b' := (4 - (i14 + 1)) * 2 + 0 + 0) (c_stainedIf5 σ1 W N (nI jt) (nI i14) hRσ1 hD) tX5_stainedIf q1730 fσ1_0 rfl rfl dX1_bestHeat_40 (by decide) (by omega) (Nat.le_of_ble_eq_true rfl) (fun w9 σ2 h9 => ?_) (fun E9 q9 τ9 h9 => h9.elim)
          obtain ⟨e9, xσ2⟩ := h9
          subst e9
          refine A_wfh (fun wσ2 hgσ2 => ?_)
          have yσ2 : ext σ σ2 := yσ1.tr (xσ2)
          have fσ2_0 : σ2.1 (wW W) = some (.inr (.inl (4, [.int (N 9), .ref (wR W), .ref (wM W), .ref (wNL W), .ref (wFL W), .ref (wUN W), .int (N 6), .int (N 8), .int (N 0), .int (N 1), .int (N 2), .int (N 3), .int (N 4), .int (N 5), .int (N 11)]))) := xσ2.at wσ1 fσ1_0
          have fσ2_1 : σ2.1 (wFL W) = some (.inr (.inl (14, [.int mcf, .ref (wFA W), .int (nI (nF N))]))) := xσ2.at wσ1 fσ1_1
          have fσ2_2 : σ2.1 (wFA W) = some (.inl (.object "java/lang/Object", 12, .inr (.inr (.inr (.inr ffA))))) := xσ2.at wσ1 fσ1_2
          have fσ2_3 : σ2.1 (wNL W) = some (.inr (.inl (14, [.int mcn, .ref (wNA W), .int (nI (nN N))]))) := xσ2.at wσ1 fσ1_3
          have fσ2_4 : σ2.1 (wNA W) = some (.inl (.object "java/lang/Object", 4, .inr (.inr (.inr (.inr fnA))))) := xσ2.at wσ1 fσ1_4
          have fσ2_5 : σ2.1 (wR W) = some (.inl (.int, 6, .inl fr)) := xσ2.at wσ1 fσ1_5
          have fσ2_6 : σ2.1 (wM W) = some (.inl (.int, 3, .inl fm)) := xσ2.at wσ1 fσ1_6
          have fσ2_7 : σ2.1 (wUN W) = some (.inl (.object "FlagLaundry$Test", 7, .inr (.inr (.inr (.inr fu))))) := xσ2.at wσ1 fσ1_7
          have fσ2_8 : σ2.1 x = some (.inr (.inl (0, [.ref bf, .int bd, .int pe, .int ep, .ref (wW W), .ref dq, .ref sv, .ref ou]))) := xσ2.at wσ1 fσ1_8
          have hRσ2 : RW g σ2 W N := hRσ1.ext wσ1 xσ2
          refine A_imul dX1_bestHeat_43 ?_
          refine A_aload_n (i := 2) dX1_bestHeat_44 rfl rfl ?_
          refine A_iload_n (i := 1) dX1_bestHeat_45 rfl rfl ?_
          refine A_iload dX1_bestHeat_46 rfl ?_
          refine A_callV2E (b' := (4 - (i14 + 1)) * 2 + 0 + 0) (v := some (.int (dirtBy N (nI jt) (nI i14)))) (τ := σ2) (c_dirtIf5 σ2 W N (nI jt) i14 hRσ2 hD (Nat.le_of_lt_succ hi14)) tX5_dirtIf q1744 fσ2_0 rfl rfl dX1_bestHeat_48 (by decide) (by omega) (Nat.le_of_ble_eq_true rfl) ?_
          refine A_iadd dX1_bestHeat_51 ?_
          refine A_int (w := bhV N (nI jt) i14) (rfl) ?_
          refine A_istore dX1_bestHeat_52 (Nat.le_of_ble_eq_true rfl) ?_
          refine A_iload_n (i := 3) dX1_bestHeat_54 rfl rfl ?_
          refine A_iconst (v := (-1)) dX1_bestHeat_55 (by decide) ?_
          refine A_icmp_eq (tgt := 69) dX1_bestHeat_56 (by decide) (fun c2 => ?_) (fun c2 => ?_)
          · skip
            refine A_iload dX1_bestHeat_69 rfl ?_
            refine A_istore_n (i := 3) dX1_bestHeat_71 rfl (Nat.le_of_ble_eq_true rfl) ?_
            refine A_iload dX1_bestHeat_72 rfl ?_
            refine A_istore dX1_bestHeat_74 (Nat.le_of_ble_eq_true rfl) ?_
            refine A_iinc (v := nI (i14 + 1)) dX1_bestHeat_76 rfl (nI_inc _ _) (Nat.le_of_ble_eq_true rfl) ?_
            refine A_goto (tgt := 14) dX1_bestHeat_79 (by decide) ?_
            refine A_less (b' := (4 - (i14 + 1)) * 2 + 0) (by omega) ?_
            refine A_sub (L' := [(0, .ref x), (1, .int (nI jt)), (2, .ref (wW W)), (3, .int ((bhU N (nI jt) (i14 + 1)).1)), (4, .int ((bhU N (nI jt) (i14 + 1)).2)), (5, .int (nI (i14 + 1)))]) ⟨rfl, rfl, rfl, (by rw [bhU_s, if_neg (not_not_intro c1), if_neg (fun q => q.1 c2)]; rfl), (by rw [bhU_s, if_neg (not_not_intro c1), if_neg (fun q => q.1 c2)]; rfl), rfl, trivial⟩ ?_
            exact ih14 σ2 (xτ14.tr (xσ1.tr xσ2))
          · skip
            refine A_iload dX1_bestHeat_59 rfl ?_
            refine A_iload dX1_bestHeat_61 rfl ?_
            refine A_icmp_lt (tgt := 69) dX1_bestHeat_63 (by decide) (fun c3 => ?_) (fun c3 => ?_)
            · skip
              refine A_iload dX1_bestHeat_69 rfl ?_
              refine A_istore_n (i := 3) dX1_bestHeat_71 rfl (Nat.le_of_ble_eq_true rfl) ?_
              refine A_iload dX1_bestHeat_72 rfl ?_
              refine A_istore dX1_bestHeat_74 (Nat.le_of_ble_eq_true rfl) ?_
              refine A_iinc (v := nI (i14 + 1)) dX1_bestHeat_76 rfl (nI_inc _ _) (Nat.le_of_ble_eq_true rfl) ?_
              refine A_goto (tgt := 14) dX1_bestHeat_79 (by decide) ?_
              refine A_less (b' := (4 - (i14 + 1)) * 2 + 0) (by omega) ?_
              refine A_sub (L' := [(0, .ref x), (1, .int (nI jt)), (2, .ref (wW W)), (3, .int ((bhU N (nI jt) (i14 + 1)).1)), (4, .int ((bhU N (nI jt) (i14 + 1)).2)), (5, .int (nI (i14 + 1)))]) ⟨rfl, rfl, rfl, (by rw [bhU_s, if_neg (not_not_intro c1), if_neg (fun q => absurd c3 (Int32.not_lt.mpr q.2))]; rfl), (by rw [bhU_s, if_neg (not_not_intro c1), if_neg (fun q => absurd c3 (Int32.not_lt.mpr q.2))]; rfl), rfl, trivial⟩ ?_
              exact ih14 σ2 (xτ14.tr (xσ1.tr xσ2))
            · skip
              refine A_goto (tgt := 76) dX1_bestHeat_66 (by decide) ?_
              refine A_iinc (v := nI (i14 + 1)) dX1_bestHeat_76 rfl (nI_inc _ _) (Nat.le_of_ble_eq_true rfl) ?_
              refine A_goto (tgt := 14) dX1_bestHeat_79 (by decide) ?_
              refine A_less (b' := (4 - (i14 + 1)) * 2 + 0) (by omega) ?_
              refine A_sub (L' := [(0, .ref x), (1, .int (nI jt)), (2, .ref (wW W)), (3, .int ((bhU N (nI jt) (i14 + 1)).1)), (4, .int ((bhU N (nI jt) (i14 + 1)).2)), (5, .int (nI (i14 + 1)))]) ⟨rfl, rfl, rfl, (by rw [bhU_s, if_neg (not_not_intro c1), if_pos ⟨c2, Int32.not_lt.mp c3⟩]; rfl), (by rw [bhU_s, if_neg (not_not_intro c1), if_pos ⟨c2, Int32.not_lt.mp c3⟩]; rfl), rfl, trivial⟩ ?_
              exact ih14 σ2 (xτ14.tr (xσ1.tr xσ2))
        · skip
          refine A_goto (tgt := 76) dX1_bestHeat_30 (by decide) ?_
          refine A_iinc (v := nI (i14 + 1)) dX1_bestHeat_76 rfl (nI_inc _ _) (Nat.le_of_ble_eq_true rfl) ?_
          refine A_goto (tgt := 14) dX1_bestHeat_79 (by decide) ?_
          refine A_less (b' := (4 - (i14 + 1)) * 2 + 0) (by omega) ?_
          refine A_sub (L' := [(0, .ref x), (1, .int (nI jt)), (2, .ref (wW W)), (3, .int ((bhU N (nI jt) (i14 + 1)).1)), (4, .int ((bhU N (nI jt) (i14 + 1)).2)), (5, .int (nI (i14 + 1)))]) ⟨rfl, rfl, rfl, (by rw [bhU_s, if_pos c1]; rfl), (by rw [bhU_s, if_pos c1]; rfl), rfl, trivial⟩ ?_
          exact ih14 σ1 (xτ14.tr xσ1)
      · skip
        refine A_less (b' := 0) (by omega) ?_
        have xτ14 := hI14
        refine A_wfh (fun wτ14 hgτ14 => ?_)
        have yτ14 : ext σ τ14 := yσ.tr (xτ14)
        have fτ14_0 : τ14.1 (wW W) = some (.inr (.inl (4, [.int (N 9), .ref (wR W), .ref (wM W), .ref (wNL W), .ref (wFL W), .ref (wUN W), .int (N 6), .int (N 8), .int (N 0), .int (N 1), .int (N 2), .int (N 3), .int (N 4), .int (N 5), .int (N 11)]))) := xτ14.at wσ h1
        have fτ14_1 : τ14.1 (wFL W) = some (.inr (.inl (14, [.int mcf, .ref (wFA W), .int (nI (nF N))]))) := xτ14.at wσ h5
        have fτ14_2 : τ14.1 (wFA W) = some (.inl (.object "java/lang/Object", 12, .inr (.inr (.inr (.inr ffA))))) := xτ14.at wσ h5p
        have fτ14_3 : τ14.1 (wNL W) = some (.inr (.inl (14, [.int mcn, .ref (wNA W), .int (nI (nN N))]))) := xτ14.at wσ h4
        have fτ14_4 : τ14.1 (wNA W) = some (.inl (.object "java/lang/Object", 4, .inr (.inr (.inr (.inr fnA))))) := xτ14.at wσ h4p
        have fτ14_5 : τ14.1 (wR W) = some (.inl (.int, 6, .inl fr)) := xτ14.at wσ h2
        have fτ14_6 : τ14.1 (wM W) = some (.inl (.int, 3, .inl fm)) := xτ14.at wσ h3
        have fτ14_7 : τ14.1 (wUN W) = some (.inl (.object "FlagLaundry$Test", 7, .inr (.inr (.inr (.inr fu))))) := xτ14.at wσ h6
        have fτ14_8 : τ14.1 x = some (.inr (.inl (0, [.ref bf, .int bd, .int pe, .int ep, .ref (wW W), .ref dq, .ref sv, .ref ou]))) := xτ14.at wσ hX
        have hRτ14 : RW g τ14 W N := hR9.ext wσ xτ14
        refine A_iload dX1_bestHeat_14 rfl ?_
        refine A_iconst (v := 3) dX1_bestHeat_16 (by decide) ?_
        refine A_icmp_gt_t (tgt := 82) dX1_bestHeat_17 (by decide) (by decide) ?_
        refine A_iload_n (i := 3) dX1_bestHeat_82 rfl rfl ?_
        exact A_iret dX1_bestHeat_83 rfl (⟨(mayQ_0 hs (bi_n ⟨hs, ck1⟩) (by decide)), rfl, yτ14⟩)
    · skip
      refine A_of rfl (by decide) (Nat.le_of_ble_eq_true rfl) (L0 := [(0, .ref x), (1, .int t)]) rfl ?_
      refine A_wfh (fun wσ hgσ => ?_)
      have yσ : ext σ σ := ext.rf
      refine A_aload_n (i := 0) dX1_bestHeat_0 rfl rfl ?_
      refine A_iload_n (i := 1) dX1_bestHeat_1 rfl rfl ?_
      refine A_callV1 (b' := 0) (c_checkTub_no σ x bf dq sv ou bd pe ep W N t hX hR9 hD ck1) tX1_checkTub q1505 hX rfl rfl dX1_bestHeat_2 (by decide) (Nat.le_of_ble_eq_true rfl) (Nat.le_of_ble_eq_true rfl) (fun w9 τ9 h9 => h9.elim) (fun E9 q9 τ9 h9 => A_out rfl (⟨yσ.tr h9.2, 1, by rw [h9.1]; rfl, by rw [(mayQ_2 hs (bi_f (fun h => ck1 h.2)))]; rfl⟩))
theorem nz_le {n : Nat} (hn : n < 2 ^ 31) (h : ¬ nI n = 0) : ¬ nI n ≤ 0 := fun e => h (by
  have k := (nI_lei hn (by decide : 0 < 2 ^ 31)).mp e
  have k : n = 0 := Nat.le_zero.mp k
  rw [k]
  rfl)
theorem q_readyShare {l : Launch} {g : GC} (σ : AH) (x bf dq sv ou : Nat) (bd pe ep : Int32) (is : Int32) (nv : Value) (W : WA) (N : AF) (hL : LD g σ is nv W N) (hX : σ.1 x = some (lauC bf bd pe ep nv dq sv ou)) : AMet l g mX1_readyShare 34 4 [.ref x] σ (A_val (mayT is 1 1) (.float (shareN 0 N)) σ) (A_thr ["java/lang/IllegalStateException"] (mayT is 1 1) σ) := by
  rcases hL with ⟨h0, hn⟩ | ⟨hs, hn, hR, hD, hw, hh⟩
  · subst hn
    refine A_of rfl (by decide) (Nat.le_of_ble_eq_true rfl) (L0 := [(0, .ref x)]) rfl ?_
    refine A_wfh (fun wσ hgσ => ?_)
    have yσ : ext σ σ := ext.rf
    refine A_aload_n (i := 0) dX1_readyShare_0 rfl rfl ?_
    refine A_callV0 (b' := 0) (u_loaded σ x bf dq sv ou bd pe ep  hX) tX1_loaded q1383 hX rfl rfl dX1_readyShare_1 (by decide) (Nat.le_of_ble_eq_true rfl) (Nat.le_of_ble_eq_true rfl) (fun w9 τ9 h9 => h9.elim) (fun E9 q9 τ9 h9 => A_out rfl (⟨yσ.tr h9.2, 0, by rw [h9.1]; rfl, by rw [(mayQ_1 h0)]; rfl⟩))
  · subst hn
    have hW := hD.1
    have hR9 := hR
    obtain ⟨h1, ⟨fr, h2, h2p⟩, ⟨fm, h3, h3p⟩, ⟨mcn, fnA, h4, h4p, h4q⟩, ⟨mcf, ffA, h5, h5p, h5q⟩, ⟨fu, h6, h6p⟩, h7, h8, h9, h10, h11⟩ := hR
    have hF12 : nF N ≤ 12 := hW.2.2.2.2.2
    have hN4 : nN N ≤ 4 := hW.2.1.2
    have hC6 : nC N ≤ 6 := hW.1.2
    have hT3 : nT N ≤ 3 := hW.2.2.1.2
    have hP8 : nP N ≤ 8 := hW.2.2.2.1.2
    refine A_of rfl (by decide) (Nat.le_of_ble_eq_true rfl) (L0 := [(0, .ref x)]) rfl ?_
    refine A_wfh (fun wσ hgσ => ?_)
    have yσ : ext σ σ := ext.rf
    refine A_aload_n (i := 0) dX1_readyShare_0 rfl rfl ?_
    refine A_callV0E (b' := 4) (v := some (.ref (wW W))) (τ := σ) (c_loaded σ x bf dq sv ou bd pe ep W N hX hR9 hD) tX1_loaded q1383 hX rfl rfl dX1_readyShare_1 (by decide) (Nat.le_of_ble_eq_true rfl) (Nat.le_of_ble_eq_true rfl) ?_
    refine A_astore_n (i := 1) dX1_readyShare_4 rfl (Nat.le_of_ble_eq_true rfl) ?_
    refine A_aload_n (i := 1) dX1_readyShare_5 rfl rfl ?_
    refine A_callV0E (b' := 4) (v := some (.int (nI (nF N)))) (τ := σ) (c_many σ W N hR9 hW) tX5_many q1369 h1 rfl rfl dX1_readyShare_6 (by decide) (Nat.le_of_ble_eq_true rfl) (Nat.le_of_ble_eq_true rfl) ?_
    refine A_if_ne (tgt := 16) dX1_readyShare_9 (by decide) (fun c1 => ?_) (fun c1 => ?_)
    · skip
      refine A_aload_n (i := 1) dX1_readyShare_16 rfl rfl ?_
      refine A_callV0 (b' := 3) (c_ready5 σ W N hR9 hD) tX5_ready q1423 h1 rfl rfl dX1_readyShare_17 (by decide) (Nat.le_of_ble_eq_true rfl) (Nat.le_of_ble_eq_true rfl) (fun w9 σ1 h9 => ?_) (fun E9 q9 τ9 h9 => h9.elim)
      obtain ⟨e9, xσ1⟩ := h9
      subst e9
      refine A_wfh (fun wσ1 hgσ1 => ?_)
      have yσ1 : ext σ σ1 := yσ.tr (xσ1)
      have fσ1_0 : σ1.1 (wW W) = some (.inr (.inl (4, [.int (N 9), .ref (wR W), .ref (wM W), .ref (wNL W), .ref (wFL W), .ref (wUN W), .int (N 6), .int (N 8), .int (N 0), .int (N 1), .int (N 2), .int (N 3), .int (N 4), .int (N 5), .int (N 11)]))) := xσ1.at wσ h1
      have fσ1_1 : σ1.1 (wFL W) = some (.inr (.inl (14, [.int mcf, .ref (wFA W), .int (nI (nF N))]))) := xσ1.at wσ h5
      have fσ1_2 : σ1.1 (wFA W) = some (.inl (.object "java/lang/Object", 12, .inr (.inr (.inr (.inr ffA))))) := xσ1.at wσ h5p
      have fσ1_3 : σ1.1 (wNL W) = some (.inr (.inl (14, [.int mcn, .ref (wNA W), .int (nI (nN N))]))) := xσ1.at wσ h4
      have fσ1_4 : σ1.1 (wNA W) = some (.inl (.object "java/lang/Object", 4, .inr (.inr (.inr (.inr fnA))))) := xσ1.at wσ h4p
      have fσ1_5 : σ1.1 (wR W) = some (.inl (.int, 6, .inl fr)) := xσ1.at wσ h2
      have fσ1_6 : σ1.1 (wM W) = some (.inl (.int, 3, .inl fm)) := xσ1.at wσ h3
      have fσ1_7 : σ1.1 (wUN W) = some (.inl (.object "FlagLaundry$Test", 7, .inr (.inr (.inr (.inr fu))))) := xσ1.at wσ h6
      have fσ1_8 : σ1.1 x = some (.inr (.inl (0, [.ref bf, .int bd, .int pe, .int ep, .ref (wW W), .ref dq, .ref sv, .ref ou]))) := xσ1.at wσ hX
      have hRσ1 : RW g σ1 W N := hR9.ext wσ xσ1
      refine A_aload_n (i := 1) dX1_readyShare_20 rfl rfl ?_
      refine A_iconst (v := 3) dX1_readyShare_21 (by decide) ?_
      refine A_callV1 (b' := 2) (c_at5 σ1 W N 3 hRσ1 hD) tX5_at q1411 fσ1_0 rfl rfl dX1_readyShare_22 (by decide) (Nat.le_of_ble_eq_true rfl) (Nat.le_of_ble_eq_true rfl) (fun w9 σ2 h9 => ?_) (fun E9 q9 τ9 h9 => h9.elim)
      obtain ⟨e9, xσ2⟩ := h9
      subst e9
      refine A_wfh (fun wσ2 hgσ2 => ?_)
      have yσ2 : ext σ σ2 := yσ1.tr (xσ2)
      have fσ2_0 : σ2.1 (wW W) = some (.inr (.inl (4, [.int (N 9), .ref (wR W), .ref (wM W), .ref (wNL W), .ref (wFL W), .ref (wUN W), .int (N 6), .int (N 8), .int (N 0), .int (N 1), .int (N 2), .int (N 3), .int (N 4), .int (N 5), .int (N 11)]))) := xσ2.at wσ1 fσ1_0
      have fσ2_1 : σ2.1 (wFL W) = some (.inr (.inl (14, [.int mcf, .ref (wFA W), .int (nI (nF N))]))) := xσ2.at wσ1 fσ1_1
      have fσ2_2 : σ2.1 (wFA W) = some (.inl (.object "java/lang/Object", 12, .inr (.inr (.inr (.inr ffA))))) := xσ2.at wσ1 fσ1_2
      have fσ2_3 : σ2.1 (wNL W) = some (.inr (.inl (14, [.int mcn, .ref (wNA W), .int (nI (nN N))]))) := xσ2.at wσ1 fσ1_3
      have fσ2_4 : σ2.1 (wNA W) = some (.inl (.object "java/lang/Object", 4, .inr (.inr (.inr (.inr fnA))))) := xσ2.at wσ1 fσ1_4
      have fσ2_5 : σ2.1 (wR W) = some (.inl (.int, 6, .inl fr)) := xσ2.at wσ1 fσ1_5
      have fσ2_6 : σ2.1 (wM W) = some (.inl (.int, 3, .inl fm)) := xσ2.at wσ1 fσ1_6
      have fσ2_7 : σ2.1 (wUN W) = some (.inl (.object "FlagLaundry$Test", 7, .inr (.inr (.inr (.inr fu))))) := xσ2.at wσ1 fσ1_7
      have fσ2_8 : σ2.1 x = some (.inr (.inl (0, [.ref bf, .int bd, .int pe, .int ep, .ref (wW W), .ref dq, .ref sv, .ref ou]))) := xσ2.at wσ1 fσ1_8
      have hRσ2 : RW g σ2 W N := hRσ1.ext wσ1 xσ2
      refine A_iadd dX1_readyShare_25 ?_
      refine A_i2f dX1_readyShare_26 ?_
      refine A_aload_n (i := 1) dX1_readyShare_27 rfl rfl ?_
      refine A_callV0E (b' := 2) (v := some (.int (nI (nF N)))) (τ := σ2) (c_many σ2 W N hRσ2 hW) tX5_many q1369 fσ2_0 rfl rfl dX1_readyShare_28 (by decide) (Nat.le_of_ble_eq_true rfl) (Nat.le_of_ble_eq_true rfl) ?_
      refine A_i2f dX1_readyShare_31 ?_
      have hnz : ¬ N 10 ≤ 0 := by rw [hW.2.2.2.2.1]; exact nz_le (Nat.lt_of_le_of_lt hF12 (by decide)) c1
      have hdiv := share_n hW hnz
      rw [hW.2.2.2.2.1] at hdiv
      refine A_fdiv dX1_readyShare_32 (hdiv) ?_
      exact A_fret dX1_readyShare_33 rfl ⟨(mayQ_0 hs (by decide) (by decide)), by unfold shareN; rw [if_pos ⟨rfl, hnz⟩, hW.2.2.2.2.1], yσ2⟩
    · skip
      refine A_fconst0 dX1_readyShare_12 ?_
      refine A_goto (tgt := 33) dX1_readyShare_13 (by decide) ?_
      exact A_fret dX1_readyShare_33 rfl ⟨(mayQ_0 hs (by decide) (by decide)), by unfold shareN; rw [if_neg (fun q => q.2 (by rw [hW.2.2.2.2.1, c1]; decide))], yσ⟩
