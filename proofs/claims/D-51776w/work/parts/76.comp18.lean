/-! FLAGLAUNDRY 7: what would be -/
theorem pass_wet (N : AF) (f : Nat) : fl (passN N) f 4 = fl (dryN N) f 4 := by
  unfold passN
  rw [fl_va _ (by decide)]
  unfold fallN
  split
  · rfl
  · split
    · rfl
    · unfold fallAt
      rw [fl_va _ (by decide)]
      have h := upF_fall (dryN N) (ix (lastN (dryN N)))
      by_cases c : f = ix (lastN (dryN N))
      · rw [← c] at h ⊢
        exact h.2.1 4 (by decide)
      · exact h.2.2 f 4 c (by decide)
theorem pass_fell (N : AF) : passN N 5 = N 5 + fellN N := by
  have e5 : dryN N 5 = N 5 := hdr_dry N 5 (by decide)
  unfold passN fellN
  rw [va_up_ne _ _ (by decide)]
  unfold fallN
  rw [dryN_1]
  split
  · rw [e5, Int32.add_zero]
  · split
    · rw [e5, Int32.add_zero]
    · unfold fallAt
      show (if 5 = 5 then _ else _) = _
      rw [if_pos rfl, (upF_fall (dryN N) (ix (lastN (dryN N)))).1 5 (by decide), e5]
theorem fells (N : AF) : ∀ n, sm (fun i => fellN (itr passN N i)) n = itr passN N n 5 - N 5
  | 0 => (Int32.sub_self _).symm
  | n + 1 => by
    rw [sm_s, fells N n, itr_s, pass_fell]
    rw [Int32.sub_eq_add_neg, Int32.sub_eq_add_neg, Int32.add_assoc, Int32.add_comm (-N 5), ← Int32.add_assoc]
def dcU (N : AF) (f : Nat) : Nat → Nat → Int32
  | 0, _ => -1
  | k + 1, i => if fl (itr passN N i) f 4 = 0 then nI i else if fl (itr passN N i) f 8 = 2 then dcU N f k (i + 1) else -1
theorem dcU_c (N : AF) (f k i : Nat) : dcU N f (k + 1) i = if fl (itr passN N i) f 4 = 0 then nI i else if fl (itr passN N i) f 8 = 2 then dcU N f k (i + 1) else -1 := rfl
theorem dcU_s (N : AF) (f : Nat) {i : Nat} (h : i < 100) : dcU N f (100 - i) i = if fl (itr passN N i) f 4 = 0 then nI i else if fl (itr passN N i) f 8 = 2 then dcU N f (100 - (i + 1)) (i + 1) else -1 := by
  rw [show 100 - i = (100 - (i + 1)) + 1 by omega]
  rfl
theorem drU_c (N : AF) (f k i : Nat) : drU N f (k + 1) i = if fl (itr passN N i) f 8 = 2 then (if fl (itr passN N i) f 4 = 0 then nI i else if fl (dryN (itr passN N i)) f 4 = 0 then (if 99 ≤ nI i then -1 else nI (i + 1)) else drU N f k (i + 1)) else -1 := rfl
theorem dc_aux (N : AF) (f : Nat) : ∀ k i, i + k = 100 → fl (itr passN N i) f 8 = 2 → ¬ fl (itr passN N i) f 4 = 0 → dcU N f k i = drU N f k i
  | 0, _, _, _, _ => rfl
  | k + 1, i, hk, h8, h4 => by
    rw [dcU_c, drU_c, if_neg h4, if_pos h8, if_pos h8, if_neg h4]
    have ew : fl (itr passN N (i + 1)) f 4 = fl (dryN (itr passN N i)) f 4 := pass_wet _ f
    by_cases c : fl (dryN (itr passN N i)) f 4 = 0
    · rw [if_pos c]
      cases k with
      | zero =>
        have e : i = 99 := by omega
        subst e
        rfl
      | succ k =>
        rw [dcU_c, ew, if_pos c, if_neg (fun q => by have := (nI_lei (by decide : 99 < 2 ^ 31) (by omega : i < 2 ^ 31)).mp q; omega)]
    · rw [if_neg c]
      cases k with
      | zero => rfl
      | succ k =>
        by_cases d : fl (itr passN N (i + 1)) f 8 = 2
        · exact dc_aux N f (k + 1) (i + 1) (by omega) d (by rw [ew]; exact c)
        · rw [dcU_c, drU_c, ew, if_neg c, if_neg d, if_neg d]
theorem dc_eq {N : AF} {f : Nat} (h : fl N f 8 = 2) : dcU N f 100 0 = dryIn N f := by
  unfold dryIn
  by_cases c : fl N f 4 = 0
  · rw [dcU_c, drU_c, show itr passN N 0 = N from rfl, if_pos c, if_pos h, if_pos c]
  · exact dc_aux N f 100 0 rfl h c
theorem dc_no {N : AF} {f : Nat} (h : ¬ fl N f 8 = 2) : (-1 : Int32) = dryIn N f := by
  unfold dryIn
  rw [drU_c, show itr passN N 0 = N from rfl, if_neg h]
theorem WFd_ironI {N : AF} (w : WFd N) {f h : Nat} (hf : f < nF N) (hh : h < 4) : ∀ k, WFd (itr (fun M => ironN M f (nI h)) N k) ∧ nF (itr (fun M => ironN M f (nI h)) N k) = nF N
  | 0 => ⟨w, rfl⟩
  | k + 1 => by
    obtain ⟨a, b⟩ := WFd_ironI w hf hh k
    have := WFd_iron a (by rw [b]; exact hf) hh
    exact ⟨this.1, this.2.cnt.2.2.2.2.trans b⟩
theorem WFd_1 {N : AF} (w : WFd N) (v : Int32) : WFd (va_up N 1 v) := w.scl (scl_va _ (by decide) _)
theorem va_self (N : AF) (j : Nat) : va_up N j (N j) = N := by
  funext q
  unfold va_up
  split
  · rename_i c; rw [c]
  · rfl
theorem ext.kxF {σ τ ρ : AH} {a : Nat} (h : ext σ τ) (k : kx a τ ρ) (ha : σ.2 ≤ a) : ext σ ρ := ⟨Nat.le_trans h.1 k.1, fun b hb => (k.2 b (Nat.lt_of_lt_of_le hb h.1) (Nat.ne_of_lt (Nat.lt_of_lt_of_le hb ha))).trans (h.2 b hb)⟩
theorem ironFor_ok {N : AF} {f : Nat} {h : Int32} (c : whyIronN N f h = 0) : nI (ironK N f h) = ironForN N f h := by
  unfold ironForN
  by_cases e : fl N f 5 = 0
  · rw [if_pos e]
    have : ironK N f h = 0 := by
      unfold ironK gF
      rw [if_pos (by show fl N f 5 ≤ 0; rw [e]; decide)]
    rw [this]
    rfl
  · rw [if_neg e, if_pos c]
theorem q_firstSafe {l : Launch} {g : GC} (σ : AH) (x bf dq sv ou : Nat) (bd pe ep : Int32) (is : Int32) (nv : Value) (W : WA) (N : AF) (t h : Int32) (hL : LD g σ is nv W N) (hX : σ.1 x = some (lauC bf bd pe ep nv dq sv ou)) : AMet l g mX1_firstSafe 45 110 [.ref x, .int t, .int h] σ (A_val (mayT is (bi (okT is N t)) (bi (inR h 0 3))) (.int (firstSafeN N (ix t) h)) σ) (A_thr ["java/lang/IllegalStateException", "java/lang/IndexOutOfBoundsException", "java/lang/IllegalArgumentException"] (mayT is (bi (okT is N t)) (bi (inR h 0 3))) σ) := by
  rcases hL with ⟨h0, hn⟩ | ⟨hs, hn, hR, hD, hw, hh⟩
  · subst hn
    refine A_of rfl (by decide) (Nat.le_of_ble_eq_true rfl) (L0 := [(0, .ref x), (1, .int t), (2, .int h)]) rfl ?_
    refine A_wfh (fun wσ hgσ => ?_)
    have yσ : ext σ σ := ext.rf
    refine A_aload_n (i := 0) dX1_firstSafe_0 rfl rfl ?_
    refine A_iload_n (i := 1) dX1_firstSafe_1 rfl rfl ?_
    refine A_iload_n (i := 2) dX1_firstSafe_2 rfl rfl ?_
    refine A_callV2 (b' := 0) (u_checkWash σ x bf dq sv ou bd pe ep t h hX) tX1_checkWash q1668 hX rfl rfl dX1_firstSafe_3 (by decide) (Nat.le_of_ble_eq_true rfl) (Nat.le_of_ble_eq_true rfl) (fun w9 τ9 h9 => h9.elim) (fun E9 q9 τ9 h9 => A_out rfl (⟨yσ.tr h9.2, 0, by rw [h9.1]; rfl, by rw [(mayQ_1 h0)]; rfl⟩))
  · subst hn
    have hW := hD.1
    have hR9 := hR
    obtain ⟨h1, ⟨fr, h2, h2p⟩, ⟨fm, h3, h3p⟩, ⟨mcn, fnA, h4, h4p, h4q⟩, ⟨mcf, ffA, h5, h5p, h5q⟩, ⟨fu, h6, h6p⟩, h7, h8, h9, h10, h11⟩ := hR
    have hF12 : nF N ≤ 12 := hW.2.2.2.2.2
    have hN4 : nN N ≤ 4 := hW.2.1.2
    have hC6 : nC N ≤ 6 := hW.1.2
    have hT3 : nT N ≤ 3 := hW.2.2.1.2
    have hP8 : nP N ≤ 8 := hW.2.2.2.1.2
    by_cases ck1 : inR t 0 (N 8 - 1)
    · skip
      obtain ⟨jt, hjt, rfl⟩ := in_ex hW.2.2.1.1 (Nat.le_trans hT3 (by decide)) ck1
      have bjt : jt < 2000 := Nat.lt_of_lt_of_le hjt (Nat.le_trans hT3 (by decide))
      by_cases ck2 : inR h 0 3
      · skip
        obtain ⟨jh, hjh, rfl⟩ := hk_ex ck2
        have bjh : jh < 2000 := Nat.lt_of_le_of_lt hjh (by decide)
        refine A_of rfl (by decide) (Nat.le_of_ble_eq_true rfl) (L0 := [(0, .ref x), (1, .int (nI jt)), (2, .int (nI jh))]) rfl ?_
        refine A_wfh (fun wσ hgσ => ?_)
        have yσ : ext σ σ := ext.rf
        refine A_aload_n (i := 0) dX1_firstSafe_0 rfl rfl ?_
        refine A_iload_n (i := 1) dX1_firstSafe_1 rfl rfl ?_
        refine A_iload_n (i := 2) dX1_firstSafe_2 rfl rfl ?_
        refine A_callV2E (b' := 110) (v := some (.ref (wW W))) (τ := σ) (c_checkWash σ x bf dq sv ou bd pe ep W N jt jh hX hR9 hD hjt hjh) tX1_checkWash q1668 hX rfl rfl dX1_firstSafe_3 (by decide) (Nat.le_of_ble_eq_true rfl) (Nat.le_of_ble_eq_true rfl) ?_
        refine A_astore_n (i := 3) dX1_firstSafe_6 rfl (Nat.le_of_ble_eq_true rfl) ?_
        refine A_iconst (v := 0) dX1_firstSafe_7 (by decide) ?_
        refine A_istore dX1_firstSafe_8 (Nat.le_of_ble_eq_true rfl) ?_
        refine A_less (b' := ((nF N) - 0) * 9 + 0) (by omega) ?_
        refine A_sub (L' := [(0, .ref x), (1, .int (nI jt)), (2, .int (nI jh)), (3, .ref (wW W)), (4, .int (nI 0))]) ⟨rfl, rfl, rfl, rfl, rfl, trivial⟩ ?_
        refine A_forP (α := AH) (nF N) (fun i10 _ => ((nF N) - i10) * 9 + 0) (fun i10 _ => [(0, .ref x), (1, .int (nI jt)), (2, .int (nI jh)), (3, .ref (wW W)), (4, .int (nI i10))]) (fun _ τ10 => τ10) (fun i10 τ10 => ext σ τ10 ∧ firstSafeN N jt (nI jh) = fsr (fun f => safeN N f jt (nI jh)) i10 (nF N - i10)) σ (⟨ext.rf, rfl⟩) (fun i10 τ10 hi10 hI10 ih10 => ?_) (fun τ10 hI10 => ?_)
        · skip
          refine A_less (b' := ((nF N) - (i10 + 1)) * 9 + 0 + 9) (by omega) ?_
          obtain ⟨xτ10, hI10⟩ := hI10
          refine A_wfh (fun wτ10 hgτ10 => ?_)
          have yτ10 : ext σ τ10 := xτ10
          have hRτ10 : RW g τ10 W N := hR9.ext wσ yτ10
          have fτ10_0 : τ10.1 (wW W) = some (.inr (.inl (4, [.int (N 9), .ref (wR W), .ref (wM W), .ref (wNL W), .ref (wFL W), .ref (wUN W), .int (N 6), .int (N 8), .int (N 0), .int (N 1), .int (N 2), .int (N 3), .int (N 4), .int (N 5), .int (N 11)]))) := xτ10.at wσ h1
          have fτ10_1 : τ10.1 (wFL W) = some (.inr (.inl (14, [.int mcf, .ref (wFA W), .int (nI (nF N))]))) := xτ10.at wσ h5
          have fτ10_2 : τ10.1 (wFA W) = some (.inl (.object "java/lang/Object", 12, .inr (.inr (.inr (.inr ffA))))) := xτ10.at wσ h5p
          have fτ10_3 : τ10.1 (wNL W) = some (.inr (.inl (14, [.int mcn, .ref (wNA W), .int (nI (nN N))]))) := xτ10.at wσ h4
          have fτ10_4 : τ10.1 (wNA W) = some (.inl (.object "java/lang/Object", 4, .inr (.inr (.inr (.inr fnA))))) := xτ10.at wσ h4p
          have fτ10_5 : τ10.1 (wR W) = some (.inl (.int, 6, .inl fr)) := xτ10.at wσ h2
          have fτ10_6 : τ10.1 (wM W) = some (.inl (.int, 3, .inl fm)) := xτ10.at wσ h3
          have fτ10_7 : τ10.1 (wUN W) = some (.inl (.object "FlagLaundry$Test", 7, .inr (.inr (.inr (.inr fu))))) := xτ10.at wσ h6
          have zτ10 : kx (wF W i10) τ10 τ10 := kx.rf
          refine A_iload dX1_firstSafe_10 rfl ?_
          refine A_aload_n (i := 3) dX1_firstSafe_12 rfl rfl ?_
          refine A_callV0E (b' := ((nF N) - (i10 + 1)) * 9 + 0 + 9) (v := some (.int (nI (nF N)))) (τ := τ10) (c_many τ10 W N hRτ10 hW) tX5_many q1369 fτ10_0 rfl rfl dX1_firstSafe_13 (by decide) (by omega) (Nat.le_of_ble_eq_true rfl) ?_
          refine A_icmp_ge_f (tgt := 110) dX1_firstSafe_16 (by decide) (br_lt rfl hi10 (by omega)) ?_
          refine A_aload_n (i := 3) dX1_firstSafe_19 rfl rfl ?_
          refine A_iload dX1_firstSafe_20 rfl ?_
          refine A_iload_n (i := 1) dX1_firstSafe_22 rfl rfl ?_
          refine A_callS3 (b' := ((nF N) - (i10 + 1)) * 9 + 0 + 3) (c_putBar τ10 W N i10 jt hRτ10 hD hi10 hjt) tX1_putBar q1660 dX1_firstSafe_23 (by decide) (by omega) (Nat.le_of_ble_eq_true rfl) (fun w9 σ1 h9 => ?_) (fun E9 q9 τ9 h9 => h9.elim)
          obtain ⟨e9, xσ1⟩ := h9
          subst e9
          refine A_wfh (fun wσ1 hgσ1 => ?_)
          have yσ1 : ext σ σ1 := yτ10.tr (xσ1)
          have zσ1 : kx (wF W i10) τ10 σ1 := zτ10.ex xσ1
          have fσ1_0 : σ1.1 (wW W) = some (.inr (.inl (4, [.int (N 9), .ref (wR W), .ref (wM W), .ref (wNL W), .ref (wFL W), .ref (wUN W), .int (N 6), .int (N 8), .int (N 0), .int (N 1), .int (N 2), .int (N 3), .int (N 4), .int (N 5), .int (N 11)]))) := xσ1.at wτ10 fτ10_0
          have fσ1_1 : σ1.1 (wFL W) = some (.inr (.inl (14, [.int mcf, .ref (wFA W), .int (nI (nF N))]))) := xσ1.at wτ10 fτ10_1
          have fσ1_2 : σ1.1 (wFA W) = some (.inl (.object "java/lang/Object", 12, .inr (.inr (.inr (.inr ffA))))) := xσ1.at wτ10 fτ10_2
          have fσ1_3 : σ1.1 (wNL W) = some (.inr (.inl (14, [.int mcn, .ref (wNA W), .int (nI (nN N))]))) := xσ1.at wτ10 fτ10_3
          have fσ1_4 : σ1.1 (wNA W) = some (.inl (.object "java/lang/Object", 4, .inr (.inr (.inr (.inr fnA))))) := xσ1.at wτ10 fτ10_4
          have fσ1_5 : σ1.1 (wR W) = some (.inl (.int, 6, .inl fr)) := xσ1.at wτ10 fτ10_5
          have fσ1_6 : σ1.1 (wM W) = some (.inl (.int, 3, .inl fm)) := xσ1.at wτ10 fτ10_6
          have fσ1_7 : σ1.1 (wUN W) = some (.inl (.object "FlagLaundry$Test", 7, .inr (.inr (.inr (.inr fu))))) := xσ1.at wτ10 fτ10_7
          have hRσ1 : RW g σ1 W N := hRτ10.ext wτ10 xσ1
          refine A_if_eq (tgt := 32) dX1_firstSafe_26 (by decide) (fun c1 => ?_) (fun c1 => ?_)
          · skip
            refine A_aload_n (i := 3) dX1_firstSafe_32 rfl rfl ?_
            refine A_iload dX1_firstSafe_33 rfl ?_
            refine A_callV1E (b' := ((nF N) - (i10 + 1)) * 9 + 0 + 3) (v := some (.ref (wF W i10))) (τ := σ1) (c_flagOf σ1 W N i10 hRσ1 hW hi10) tX5_flagOf q1153 fσ1_0 rfl rfl dX1_firstSafe_35 (by decide) (by omega) (Nat.le_of_ble_eq_true rfl) ?_
            refine A_astore dX1_firstSafe_38 (Nat.le_of_ble_eq_true rfl) ?_
            refine A_aload dX1_firstSafe_40 rfl ?_
            refine A_getfN cb_X7 (hRσ1.2.2.2.2.2.2.1 i10 hi10) 8 (Nat.le_of_ble_eq_true rfl) q1122 rfl (v := .ref (wP W i10)) rfl dX1_firstSafe_42 ?_
            refine A_astore dX1_firstSafe_45 (Nat.le_of_ble_eq_true rfl) ?_
            refine A_aload dX1_firstSafe_47 rfl ?_
            refine A_new (b' := ((nF N) - (i10 + 1)) * 9 + 0 + 2) (u := 1) cb_X9 q1421 q1217 q166 (fs := [.int 0, .int 0]) (by intro j hj; rcases j with _ | j; exact rfl; rcases j with _ | j; exact rfl; omega) (by omega) ⟨Nat.le_of_ble_eq_true rfl, Nat.le_of_ble_eq_true rfl⟩ dX1_firstSafe_49 ?_
            obtain ⟨σ2, eσ2⟩ : ∃ τ, τ = h_new σ1 (.inr (.inl (8, [.int 0, .int 0]))) := ⟨_, rfl⟩
            refine A_st (σ' := σ2) eσ2.symm ?_
            have wσ2 : wfh σ2 := by rw [eσ2]; exact wσ1.new
            have fσ2_0 : σ2.1 (wW W) = some (.inr (.inl (4, [.int (N 9), .ref (wR W), .ref (wM W), .ref (wNL W), .ref (wFL W), .ref (wUN W), .int (N 6), .int (N 8), .int (N 0), .int (N 1), .int (N 2), .int (N 3), .int (N 4), .int (N 5), .int (N 11)]))) := by rw [eσ2]; exact (hn_ne (Nat.ne_of_lt (wσ1 _ _ fσ1_0))).trans fσ1_0
            have fσ2_1 : σ2.1 (wFL W) = some (.inr (.inl (14, [.int mcf, .ref (wFA W), .int (nI (nF N))]))) := by rw [eσ2]; exact (hn_ne (Nat.ne_of_lt (wσ1 _ _ fσ1_1))).trans fσ1_1
            have fσ2_2 : σ2.1 (wFA W) = some (.inl (.object "java/lang/Object", 12, .inr (.inr (.inr (.inr ffA))))) := by rw [eσ2]; exact (hn_ne (Nat.ne_of_lt (wσ1 _ _ fσ1_2))).trans fσ1_2
            have fσ2_3 : σ2.1 (wNL W) = some (.inr (.inl (14, [.int mcn, .ref (wNA W), .int (nI (nN N))]))) := by rw [eσ2]; exact (hn_ne (Nat.ne_of_lt (wσ1 _ _ fσ1_3))).trans fσ1_3
            have fσ2_4 : σ2.1 (wNA W) = some (.inl (.object "java/lang/Object", 4, .inr (.inr (.inr (.inr fnA))))) := by rw [eσ2]; exact (hn_ne (Nat.ne_of_lt (wσ1 _ _ fσ1_4))).trans fσ1_4
            have fσ2_5 : σ2.1 (wR W) = some (.inl (.int, 6, .inl fr)) := by rw [eσ2]; exact (hn_ne (Nat.ne_of_lt (wσ1 _ _ fσ1_5))).trans fσ1_5
            have fσ2_6 : σ2.1 (wM W) = some (.inl (.int, 3, .inl fm)) := by rw [eσ2]; exact (hn_ne (Nat.ne_of_lt (wσ1 _ _ fσ1_6))).trans fσ1_6
            have fσ2_7 : σ2.1 (wUN W) = some (.inl (.object "FlagLaundry$Test", 7, .inr (.inr (.inr (.inr fu))))) := by rw [eσ2]; exact (hn_ne (Nat.ne_of_lt (wσ1 _ _ fσ1_7))).trans fσ1_7
            have fσ2_8 : σ2.1 (wF W i10) = some (.inr (.inl (6, [.int (fl N i10 0), .int (fl N i10 1), .int (fl N i10 2), .int (fl N i10 3), .int (fl N i10 4), .int (fl N i10 5), .int (fl N i10 6), .int (fl N i10 7), .ref (wP W i10)]))) := by rw [eσ2]; exact (hn_ne (Nat.ne_of_lt (wσ1 _ _ (hRσ1.2.2.2.2.2.2.1 i10 hi10)))).trans (hRσ1.2.2.2.2.2.2.1 i10 hi10)
            have fσ2_9 : σ2.1 σ1.2 = some (.inr (.inl (8, [.int 0, .int 0]))) := by rw [eσ2]; exact if_pos rfl
            have xσ2 : ext σ1 σ2 := by rw [eσ2]; exact ext_new _ _
            have yσ2 : ext σ σ2 := yσ1.tr (xσ2)
            have zσ2 : kx (wF W i10) τ10 σ2 := by rw [eσ2]; exact zσ1.new
            have hRσ2 : RW g σ2 W N := hRσ1.ext wσ1 xσ2
            refine A_dup dX1_firstSafe_52 rfl ?_
            refine A_iload_n (i := 1) dX1_firstSafe_53 rfl rfl ?_
            refine A_aload_n (i := 3) dX1_firstSafe_54 rfl rfl ?_
            refine A_getfN cb_X5 fσ2_0 14 (Nat.le_of_ble_eq_true rfl) q857 rfl (v := .int (N 11)) rfl dX1_firstSafe_55 ?_
            refine A_callI2 (b' := ((nF N) - (i10 + 1)) * 9 + 0 + 2) (c_X9init σ2 σ1.2 (nI jt) (N 11) fσ2_9) tX9_init q1763 dX1_firstSafe_58 (by decide) (by omega) (Nat.le_of_ble_eq_true rfl) (fun w9 σ3 h9 => ?_) (fun E9 q9 τ9 h9 => h9.elim)
            obtain ⟨e9, fσ3_a, kσ3⟩ := h9
            subst e9
            refine A_wfh (fun wσ3 hgσ3 => ?_)
            have zσ3 : kx (wF W i10) τ10 σ3 := zσ2.trN (zσ1.1) kσ3
            have fσ3_0 : σ3.1 (wW W) = some (.inr (.inl (4, [.int (N 9), .ref (wR W), .ref (wM W), .ref (wNL W), .ref (wFL W), .ref (wUN W), .int (N 6), .int (N 8), .int (N 0), .int (N 1), .int (N 2), .int (N 3), .int (N 4), .int (N 5), .int (N 11)]))) := kσ3.at wσ2 fσ2_0 (ne_of (x := .inr (.inl (4, [.int (N 9), .ref (wR W), .ref (wM W), .ref (wNL W), .ref (wFL W), .ref (wUN W), .int (N 6), .int (N 8), .int (N 0), .int (N 1), .int (N 2), .int (N 3), .int (N 4), .int (N 5), .int (N 11)]))) (y := .inr (.inl (8, [.int 0, .int 0]))) fσ2_0 fσ2_9 (fun e8 => by simp at e8))
            have fσ3_1 : σ3.1 (wFL W) = some (.inr (.inl (14, [.int mcf, .ref (wFA W), .int (nI (nF N))]))) := kσ3.at wσ2 fσ2_1 (ne_of (x := .inr (.inl (14, [.int mcf, .ref (wFA W), .int (nI (nF N))]))) (y := .inr (.inl (8, [.int 0, .int 0]))) fσ2_1 fσ2_9 (fun e8 => by simp at e8))
            have fσ3_2 : σ3.1 (wFA W) = some (.inl (.object "java/lang/Object", 12, .inr (.inr (.inr (.inr ffA))))) := kσ3.at wσ2 fσ2_2 (ne_of (x := .inl (.object "java/lang/Object", 12, .inr (.inr (.inr (.inr ffA))))) (y := .inr (.inl (8, [.int 0, .int 0]))) fσ2_2 fσ2_9 (fun e8 => by simp at e8))
            have fσ3_3 : σ3.1 (wNL W) = some (.inr (.inl (14, [.int mcn, .ref (wNA W), .int (nI (nN N))]))) := kσ3.at wσ2 fσ2_3 (ne_of (x := .inr (.inl (14, [.int mcn, .ref (wNA W), .int (nI (nN N))]))) (y := .inr (.inl (8, [.int 0, .int 0]))) fσ2_3 fσ2_9 (fun e8 => by simp at e8))
            have fσ3_4 : σ3.1 (wNA W) = some (.inl (.object "java/lang/Object", 4, .inr (.inr (.inr (.inr fnA))))) := kσ3.at wσ2 fσ2_4 (ne_of (x := .inl (.object "java/lang/Object", 4, .inr (.inr (.inr (.inr fnA))))) (y := .inr (.inl (8, [.int 0, .int 0]))) fσ2_4 fσ2_9 (fun e8 => by simp at e8))
            have fσ3_5 : σ3.1 (wR W) = some (.inl (.int, 6, .inl fr)) := kσ3.at wσ2 fσ2_5 (ne_of (x := .inl (.int, 6, .inl fr)) (y := .inr (.inl (8, [.int 0, .int 0]))) fσ2_5 fσ2_9 (fun e8 => by simp at e8))
            have fσ3_6 : σ3.1 (wM W) = some (.inl (.int, 3, .inl fm)) := kσ3.at wσ2 fσ2_6 (ne_of (x := .inl (.int, 3, .inl fm)) (y := .inr (.inl (8, [.int 0, .int 0]))) fσ2_6 fσ2_9 (fun e8 => by simp at e8))
            have fσ3_7 : σ3.1 (wUN W) = some (.inl (.object "FlagLaundry$Test", 7, .inr (.inr (.inr (.inr fu))))) := kσ3.at wσ2 fσ2_7 (ne_of (x := .inl (.object "FlagLaundry$Test", 7, .inr (.inr (.inr (.inr fu))))) (y := .inr (.inl (8, [.int 0, .int 0]))) fσ2_7 fσ2_9 (fun e8 => by simp at e8))
            have fσ3_8 : σ3.1 (wF W i10) = some (.inr (.inl (6, [.int (fl N i10 0), .int (fl N i10 1), .int (fl N i10 2), .int (fl N i10 3), .int (fl N i10 4), .int (fl N i10 5), .int (fl N i10 6), .int (fl N i10 7), .ref (wP W i10)]))) := kσ3.at wσ2 fσ2_8 (ne_of (x := .inr (.inl (6, [.int (fl N i10 0), .int (fl N i10 1), .int (fl N i10 2), .int (fl N i10 3), .int (fl N i10 4), .int (fl N i10 5), .int (fl N i10 6), .int (fl N i10 7), .ref (wP W i10)]))) (y := .inr (.inl (8, [.int 0, .int 0]))) fσ2_8 fσ2_9 (fun e8 => by simp at e8))
            refine A_putfN cb_X7 fσ3_8 8 (Nat.le_of_ble_eq_true rfl) q1122 rfl rfl rfl rfl (Nat.le_of_ble_eq_true rfl) dX1_firstSafe_61 ?_
            obtain ⟨σ4, eσ4⟩ : ∃ τ, τ = h_put σ3 (wF W i10) (.inr (.inl (6, [.int (fl N i10 0), .int (fl N i10 1), .int (fl N i10 2), .int (fl N i10 3), .int (fl N i10 4), .int (fl N i10 5), .int (fl N i10 6), .int (fl N i10 7), .ref σ1.2]))) := ⟨_, rfl⟩
            refine A_st (σ' := σ4) eσ4.symm ?_
            have wσ4 : wfh σ4 := by rw [eσ4]; exact wσ3.put fσ3_8
            have fσ4_0 : σ4.1 (wW W) = some (.inr (.inl (4, [.int (N 9), .ref (wR W), .ref (wM W), .ref (wNL W), .ref (wFL W), .ref (wUN W), .int (N 6), .int (N 8), .int (N 0), .int (N 1), .int (N 2), .int (N 3), .int (N 4), .int (N 5), .int (N 11)]))) := by rw [eσ4]; exact (hp_ne (ne_of (x := .inr (.inl (4, [.int (N 9), .ref (wR W), .ref (wM W), .ref (wNL W), .ref (wFL W), .ref (wUN W), .int (N 6), .int (N 8), .int (N 0), .int (N 1), .int (N 2), .int (N 3), .int (N 4), .int (N 5), .int (N 11)]))) (y := .inr (.inl (6, [.int (fl N i10 0), .int (fl N i10 1), .int (fl N i10 2), .int (fl N i10 3), .int (fl N i10 4), .int (fl N i10 5), .int (fl N i10 6), .int (fl N i10 7), .ref (wP W i10)]))) fσ3_0 fσ3_8 (fun e8 => by simp at e8))).trans fσ3_0
            have fσ4_1 : σ4.1 (wFL W) = some (.inr (.inl (14, [.int mcf, .ref (wFA W), .int (nI (nF N))]))) := by rw [eσ4]; exact (hp_ne (ne_of (x := .inr (.inl (14, [.int mcf, .ref (wFA W), .int (nI (nF N))]))) (y := .inr (.inl (6, [.int (fl N i10 0), .int (fl N i10 1), .int (fl N i10 2), .int (fl N i10 3), .int (fl N i10 4), .int (fl N i10 5), .int (fl N i10 6), .int (fl N i10 7), .ref (wP W i10)]))) fσ3_1 fσ3_8 (fun e8 => by simp at e8))).trans fσ3_1
            have fσ4_2 : σ4.1 (wFA W) = some (.inl (.object "java/lang/Object", 12, .inr (.inr (.inr (.inr ffA))))) := by rw [eσ4]; exact (hp_ne (ne_of (x := .inl (.object "java/lang/Object", 12, .inr (.inr (.inr (.inr ffA))))) (y := .inr (.inl (6, [.int (fl N i10 0), .int (fl N i10 1), .int (fl N i10 2), .int (fl N i10 3), .int (fl N i10 4), .int (fl N i10 5), .int (fl N i10 6), .int (fl N i10 7), .ref (wP W i10)]))) fσ3_2 fσ3_8 (fun e8 => by simp at e8))).trans fσ3_2
            have fσ4_3 : σ4.1 (wNL W) = some (.inr (.inl (14, [.int mcn, .ref (wNA W), .int (nI (nN N))]))) := by rw [eσ4]; exact (hp_ne (ne_of (x := .inr (.inl (14, [.int mcn, .ref (wNA W), .int (nI (nN N))]))) (y := .inr (.inl (6, [.int (fl N i10 0), .int (fl N i10 1), .int (fl N i10 2), .int (fl N i10 3), .int (fl N i10 4), .int (fl N i10 5), .int (fl N i10 6), .int (fl N i10 7), .ref (wP W i10)]))) fσ3_3 fσ3_8 (fun e8 => by simp at e8))).trans fσ3_3
            have fσ4_4 : σ4.1 (wNA W) = some (.inl (.object "java/lang/Object", 4, .inr (.inr (.inr (.inr fnA))))) := by rw [eσ4]; exact (hp_ne (ne_of (x := .inl (.object "java/lang/Object", 4, .inr (.inr (.inr (.inr fnA))))) (y := .inr (.inl (6, [.int (fl N i10 0), .int (fl N i10 1), .int (fl N i10 2), .int (fl N i10 3), .int (fl N i10 4), .int (fl N i10 5), .int (fl N i10 6), .int (fl N i10 7), .ref (wP W i10)]))) fσ3_4 fσ3_8 (fun e8 => by simp at e8))).trans fσ3_4
            have fσ4_5 : σ4.1 (wR W) = some (.inl (.int, 6, .inl fr)) := by rw [eσ4]; exact (hp_ne (ne_of (x := .inl (.int, 6, .inl fr)) (y := .inr (.inl (6, [.int (fl N i10 0), .int (fl N i10 1), .int (fl N i10 2), .int (fl N i10 3), .int (fl N i10 4), .int (fl N i10 5), .int (fl N i10 6), .int (fl N i10 7), .ref (wP W i10)]))) fσ3_5 fσ3_8 (fun e8 => by simp at e8))).trans fσ3_5
            have fσ4_6 : σ4.1 (wM W) = some (.inl (.int, 3, .inl fm)) := by rw [eσ4]; exact (hp_ne (ne_of (x := .inl (.int, 3, .inl fm)) (y := .inr (.inl (6, [.int (fl N i10 0), .int (fl N i10 1), .int (fl N i10 2), .int (fl N i10 3), .int (fl N i10 4), .int (fl N i10 5), .int (fl N i10 6), .int (fl N i10 7), .ref (wP W i10)]))) fσ3_6 fσ3_8 (fun e8 => by simp at e8))).trans fσ3_6
            have fσ4_7 : σ4.1 (wUN W) = some (.inl (.object "FlagLaundry$Test", 7, .inr (.inr (.inr (.inr fu))))) := by rw [eσ4]; exact (hp_ne (ne_of (x := .inl (.object "FlagLaundry$Test", 7, .inr (.inr (.inr (.inr fu))))) (y := .inr (.inl (6, [.int (fl N i10 0), .int (fl N i10 1), .int (fl N i10 2), .int (fl N i10 3), .int (fl N i10 4), .int (fl N i10 5), .int (fl N i10 6), .int (fl N i10 7), .ref (wP W i10)]))) fσ3_7 fσ3_8 (fun e8 => by simp at e8))).trans fσ3_7
            have fσ4_8 : σ4.1 (wF W i10) = some (.inr (.inl (6, [.int (fl N i10 0), .int (fl N i10 1), .int (fl N i10 2), .int (fl N i10 3), .int (fl N i10 4), .int (fl N i10 5), .int (fl N i10 6), .int (fl N i10 7), .ref σ1.2]))) := by rw [eσ4]; exact if_pos rfl
            have fσ4_9 : σ4.1 σ1.2 = some (.inr (.inl (8, [.int (nI jt), .int (N 11)]))) := by rw [eσ4]; exact (hp_ne (ne_of (x := .inr (.inl (8, [.int (nI jt), .int (N 11)]))) (y := .inr (.inl (6, [.int (fl N i10 0), .int (fl N i10 1), .int (fl N i10 2), .int (fl N i10 3), .int (fl N i10 4), .int (fl N i10 5), .int (fl N i10 6), .int (fl N i10 7), .ref (wP W i10)]))) fσ3_a fσ3_8 (fun e8 => by simp at e8))).trans fσ3_a
            have zσ4 : kx (wF W i10) τ10 σ4 := by rw [eσ4]; exact zσ3.put
            have hR5 : RW g σ4 (setP W (upP (wP W) i10 σ1.2)) (put1 N i10 (nI jt)) := hRτ10.flag (F := plF (fl N i10) 1 (nI jt) (N 11)) wτ10 hW hi10 zσ4 fσ4_8 fσ4_9 (upF_put1 _ _ _)
            have hD5 : WFd (put1 N i10 (nI jt)) := hD.upF (upF_put1 _ _ _) (FK_pl (hD.2 i10 hi10) (Or.inr (Or.inl ⟨rfl, jt, hjt, rfl⟩)))
            refine A_aload_n (i := 3) dX1_firstSafe_64 rfl rfl ?_
            refine A_iload_n (i := 1) dX1_firstSafe_65 rfl rfl ?_
            refine A_iload_n (i := 2) dX1_firstSafe_66 rfl rfl ?_
            refine A_callS3 (b' := ((nF N) - (i10 + 1)) * 9 + 0 + 1) (c_washBar σ4 (setP W (upP (wP W) i10 σ1.2)) (put1 N i10 (nI jt)) (nI jt) (nI jh) hR5 hD5) tX1_washBar q1676 dX1_firstSafe_67 (by decide) (by omega) (Nat.le_of_ble_eq_true rfl) (fun w9 σ5 h9 => ?_) (fun E9 q9 τ9 h9 => h9.elim)
            obtain ⟨e9, xσ5⟩ := h9
            subst e9
            refine A_wfh (fun wσ5 hgσ5 => ?_)
            have zσ5 : kx (wF W i10) τ10 σ5 := zσ4.ex xσ5
            have fσ5_0 : σ5.1 (wW W) = some (.inr (.inl (4, [.int (N 9), .ref (wR W), .ref (wM W), .ref (wNL W), .ref (wFL W), .ref (wUN W), .int (N 6), .int (N 8), .int (N 0), .int (N 1), .int (N 2), .int (N 3), .int (N 4), .int (N 5), .int (N 11)]))) := xσ5.at wσ4 fσ4_0
            have fσ5_1 : σ5.1 (wFL W) = some (.inr (.inl (14, [.int mcf, .ref (wFA W), .int (nI (nF N))]))) := xσ5.at wσ4 fσ4_1
            have fσ5_2 : σ5.1 (wFA W) = some (.inl (.object "java/lang/Object", 12, .inr (.inr (.inr (.inr ffA))))) := xσ5.at wσ4 fσ4_2
            have fσ5_3 : σ5.1 (wNL W) = some (.inr (.inl (14, [.int mcn, .ref (wNA W), .int (nI (nN N))]))) := xσ5.at wσ4 fσ4_3
            have fσ5_4 : σ5.1 (wNA W) = some (.inl (.object "java/lang/Object", 4, .inr (.inr (.inr (.inr fnA))))) := xσ5.at wσ4 fσ4_4
            have fσ5_5 : σ5.1 (wR W) = some (.inl (.int, 6, .inl fr)) := xσ5.at wσ4 fσ4_5
            have fσ5_6 : σ5.1 (wM W) = some (.inl (.int, 3, .inl fm)) := xσ5.at wσ4 fσ4_6
            have fσ5_7 : σ5.1 (wUN W) = some (.inl (.object "FlagLaundry$Test", 7, .inr (.inr (.inr (.inr fu))))) := xσ5.at wσ4 fσ4_7
            have fσ5_8 : σ5.1 (wF W i10) = some (.inr (.inl (6, [.int (fl N i10 0), .int (fl N i10 1), .int (fl N i10 2), .int (fl N i10 3), .int (fl N i10 4), .int (fl N i10 5), .int (fl N i10 6), .int (fl N i10 7), .ref σ1.2]))) := xσ5.at wσ4 fσ4_8
            have fσ5_9 : σ5.1 σ1.2 = some (.inr (.inl (8, [.int (nI jt), .int (N 11)]))) := xσ5.at wσ4 fσ4_9
            have hRσ5 : RW g σ5 (setP W (upP (wP W) i10 σ1.2)) (put1 N i10 (nI jt)) := hR5.ext wσ4 xσ5
            refine A_if_ne (tgt := 86) dX1_firstSafe_70 (by decide) (fun c2 => ?_) (fun c2 => ?_)
            · skip
              refine A_iconst (v := 0) dX1_firstSafe_86 (by decide) ?_
              refine A_istore dX1_firstSafe_87 (Nat.le_of_ble_eq_true rfl) ?_
              refine A_aload dX1_firstSafe_89 rfl ?_
              refine A_aload dX1_firstSafe_91 rfl ?_
              refine A_putfN cb_X7 fσ5_8 8 (Nat.le_of_ble_eq_true rfl) q1122 rfl rfl rfl rfl (Nat.le_of_ble_eq_true rfl) dX1_firstSafe_93 ?_
              obtain ⟨σ6, eσ6⟩ : ∃ τ, τ = h_put σ5 (wF W i10) (.inr (.inl (6, [.int (fl N i10 0), .int (fl N i10 1), .int (fl N i10 2), .int (fl N i10 3), .int (fl N i10 4), .int (fl N i10 5), .int (fl N i10 6), .int (fl N i10 7), .ref (wP W i10)]))) := ⟨_, rfl⟩
              refine A_st (σ' := σ6) eσ6.symm ?_
              have wσ6 : wfh σ6 := by rw [eσ6]; exact wσ5.put fσ5_8
              have fσ6_0 : σ6.1 (wW W) = some (.inr (.inl (4, [.int (N 9), .ref (wR W), .ref (wM W), .ref (wNL W), .ref (wFL W), .ref (wUN W), .int (N 6), .int (N 8), .int (N 0), .int (N 1), .int (N 2), .int (N 3), .int (N 4), .int (N 5), .int (N 11)]))) := by rw [eσ6]; exact (hp_ne (ne_of (x := .inr (.inl (4, [.int (N 9), .ref (wR W), .ref (wM W), .ref (wNL W), .ref (wFL W), .ref (wUN W), .int (N 6), .int (N 8), .int (N 0), .int (N 1), .int (N 2), .int (N 3), .int (N 4), .int (N 5), .int (N 11)]))) (y := .inr (.inl (6, [.int (fl N i10 0), .int (fl N i10 1), .int (fl N i10 2), .int (fl N i10 3), .int (fl N i10 4), .int (fl N i10 5), .int (fl N i10 6), .int (fl N i10 7), .ref σ1.2]))) fσ5_0 fσ5_8 (fun e8 => by simp at e8))).trans fσ5_0
              have fσ6_1 : σ6.1 (wFL W) = some (.inr (.inl (14, [.int mcf, .ref (wFA W), .int (nI (nF N))]))) := by rw [eσ6]; exact (hp_ne (ne_of (x := .inr (.inl (14, [.int mcf, .ref (wFA W), .int (nI (nF N))]))) (y := .inr (.inl (6, [.int (fl N i10 0), .int (fl N i10 1), .int (fl N i10 2), .int (fl N i10 3), .int (fl N i10 4), .int (fl N i10 5), .int (fl N i10 6), .int (fl N i10 7), .ref σ1.2]))) fσ5_1 fσ5_8 (fun e8 => by simp at e8))).trans fσ5_1
              have fσ6_2 : σ6.1 (wFA W) = some (.inl (.object "java/lang/Object", 12, .inr (.inr (.inr (.inr ffA))))) := by rw [eσ6]; exact (hp_ne (ne_of (x := .inl (.object "java/lang/Object", 12, .inr (.inr (.inr (.inr ffA))))) (y := .inr (.inl (6, [.int (fl N i10 0), .int (fl N i10 1), .int (fl N i10 2), .int (fl N i10 3), .int (fl N i10 4), .int (fl N i10 5), .int (fl N i10 6), .int (fl N i10 7), .ref σ1.2]))) fσ5_2 fσ5_8 (fun e8 => by simp at e8))).trans fσ5_2
              have fσ6_3 : σ6.1 (wNL W) = some (.inr (.inl (14, [.int mcn, .ref (wNA W), .int (nI (nN N))]))) := by rw [eσ6]; exact (hp_ne (ne_of (x := .inr (.inl (14, [.int mcn, .ref (wNA W), .int (nI (nN N))]))) (y := .inr (.inl (6, [.int (fl N i10 0), .int (fl N i10 1), .int (fl N i10 2), .int (fl N i10 3), .int (fl N i10 4), .int (fl N i10 5), .int (fl N i10 6), .int (fl N i10 7), .ref σ1.2]))) fσ5_3 fσ5_8 (fun e8 => by simp at e8))).trans fσ5_3
              have fσ6_4 : σ6.1 (wNA W) = some (.inl (.object "java/lang/Object", 4, .inr (.inr (.inr (.inr fnA))))) := by rw [eσ6]; exact (hp_ne (ne_of (x := .inl (.object "java/lang/Object", 4, .inr (.inr (.inr (.inr fnA))))) (y := .inr (.inl (6, [.int (fl N i10 0), .int (fl N i10 1), .int (fl N i10 2), .int (fl N i10 3), .int (fl N i10 4), .int (fl N i10 5), .int (fl N i10 6), .int (fl N i10 7), .ref σ1.2]))) fσ5_4 fσ5_8 (fun e8 => by simp at e8))).trans fσ5_4
              have fσ6_5 : σ6.1 (wR W) = some (.inl (.int, 6, .inl fr)) := by rw [eσ6]; exact (hp_ne (ne_of (x := .inl (.int, 6, .inl fr)) (y := .inr (.inl (6, [.int (fl N i10 0), .int (fl N i10 1), .int (fl N i10 2), .int (fl N i10 3), .int (fl N i10 4), .int (fl N i10 5), .int (fl N i10 6), .int (fl N i10 7), .ref σ1.2]))) fσ5_5 fσ5_8 (fun e8 => by simp at e8))).trans fσ5_5
              have fσ6_6 : σ6.1 (wM W) = some (.inl (.int, 3, .inl fm)) := by rw [eσ6]; exact (hp_ne (ne_of (x := .inl (.int, 3, .inl fm)) (y := .inr (.inl (6, [.int (fl N i10 0), .int (fl N i10 1), .int (fl N i10 2), .int (fl N i10 3), .int (fl N i10 4), .int (fl N i10 5), .int (fl N i10 6), .int (fl N i10 7), .ref σ1.2]))) fσ5_6 fσ5_8 (fun e8 => by simp at e8))).trans fσ5_6
              have fσ6_7 : σ6.1 (wUN W) = some (.inl (.object "FlagLaundry$Test", 7, .inr (.inr (.inr (.inr fu))))) := by rw [eσ6]; exact (hp_ne (ne_of (x := .inl (.object "FlagLaundry$Test", 7, .inr (.inr (.inr (.inr fu))))) (y := .inr (.inl (6, [.int (fl N i10 0), .int (fl N i10 1), .int (fl N i10 2), .int (fl N i10 3), .int (fl N i10 4), .int (fl N i10 5), .int (fl N i10 6), .int (fl N i10 7), .ref σ1.2]))) fσ5_7 fσ5_8 (fun e8 => by simp at e8))).trans fσ5_7
              have fσ6_8 : σ6.1 (wF W i10) = some (.inr (.inl (6, [.int (fl N i10 0), .int (fl N i10 1), .int (fl N i10 2), .int (fl N i10 3), .int (fl N i10 4), .int (fl N i10 5), .int (fl N i10 6), .int (fl N i10 7), .ref (wP W i10)]))) := by rw [eσ6]; exact if_pos rfl
              have fσ6_9 : σ6.1 σ1.2 = some (.inr (.inl (8, [.int (nI jt), .int (N 11)]))) := by rw [eσ6]; exact (hp_ne (ne_of (x := .inr (.inl (8, [.int (nI jt), .int (N 11)]))) (y := .inr (.inl (6, [.int (fl N i10 0), .int (fl N i10 1), .int (fl N i10 2), .int (fl N i10 3), .int (fl N i10 4), .int (fl N i10 5), .int (fl N i10 6), .int (fl N i10 7), .ref σ1.2]))) fσ5_9 fσ5_8 (fun e8 => by simp at e8))).trans fσ5_9
              have zσ6 : kx (wF W i10) τ10 σ6 := by rw [eσ6]; exact zσ5.put
              have yσ6 : ext σ σ6 := yτ10.tr (zσ6.back (hRτ10.2.2.2.2.2.2.1 i10 hi10) fσ6_8)
              have hR9σ6 : RW g σ6 W N := hR9.ext wσ yσ6
              refine A_iload dX1_firstSafe_96 rfl ?_
              refine A_if_eq_t (tgt := 104) dX1_firstSafe_98 (by decide) (by decide) ?_
              refine A_iinc (v := nI (i10 + 1)) dX1_firstSafe_104 rfl (nI_inc _ _) (Nat.le_of_ble_eq_true rfl) ?_
              refine A_goto (tgt := 10) dX1_firstSafe_107 (by decide) ?_
              refine A_less (b' := ((nF N) - (i10 + 1)) * 9 + 0) (by omega) ?_
              refine A_sub (L' := [(0, .ref x), (1, .int (nI jt)), (2, .int (nI jh)), (3, .ref (wW W)), (4, .int (nI (i10 + 1)))]) ⟨rfl, rfl, rfl, rfl, rfl, trivial⟩ ?_
              exact ih10 σ6 (⟨yσ6, by rw [hI10, fsr_s _ hi10, if_neg (fun q => c2 ((safe_iff hF12).mp q).2.1)]⟩)
            · skip
              refine A_aload_n (i := 3) dX1_firstSafe_73 rfl rfl ?_
              refine A_iload_n (i := 1) dX1_firstSafe_74 rfl rfl ?_
              refine A_iload_n (i := 2) dX1_firstSafe_75 rfl rfl ?_
              refine A_callV2 (b' := ((nF N) - (i10 + 1)) * 9 + 0 + 0) (c_stainedIf5 σ5 (setP W (upP (wP W) i10 σ1.2)) (put1 N i10 (nI jt)) (nI jt) (nI jh) hRσ5 hD5) tX5_stainedIf q1730 fσ5_0 rfl rfl dX1_firstSafe_76 (by decide) (by omega) (Nat.le_of_ble_eq_true rfl) (fun w9 σ7 h9 => ?_) (fun E9 q9 τ9 h9 => h9.elim)
              obtain ⟨e9, xσ7⟩ := h9
              subst e9
              refine A_wfh (fun wσ7 hgσ7 => ?_)
              have zσ7 : kx (wF W i10) τ10 σ7 := zσ5.ex xσ7
              have fσ7_0 : σ7.1 (wW W) = some (.inr (.inl (4, [.int (N 9), .ref (wR W), .ref (wM W), .ref (wNL W), .ref (wFL W), .ref (wUN W), .int (N 6), .int (N 8), .int (N 0), .int (N 1), .int (N 2), .int (N 3), .int (N 4), .int (N 5), .int (N 11)]))) := xσ7.at wσ5 fσ5_0
              have fσ7_1 : σ7.1 (wFL W) = some (.inr (.inl (14, [.int mcf, .ref (wFA W), .int (nI (nF N))]))) := xσ7.at wσ5 fσ5_1
              have fσ7_2 : σ7.1 (wFA W) = some (.inl (.object "java/lang/Object", 12, .inr (.inr (.inr (.inr ffA))))) := xσ7.at wσ5 fσ5_2
              have fσ7_3 : σ7.1 (wNL W) = some (.inr (.inl (14, [.int mcn, .ref (wNA W), .int (nI (nN N))]))) := xσ7.at wσ5 fσ5_3
              have fσ7_4 : σ7.1 (wNA W) = some (.inl (.object "java/lang/Object", 4, .inr (.inr (.inr (.inr fnA))))) := xσ7.at wσ5 fσ5_4
              have fσ7_5 : σ7.1 (wR W) = some (.inl (.int, 6, .inl fr)) := xσ7.at wσ5 fσ5_5
              have fσ7_6 : σ7.1 (wM W) = some (.inl (.int, 3, .inl fm)) := xσ7.at wσ5 fσ5_6
              have fσ7_7 : σ7.1 (wUN W) = some (.inl (.object "FlagLaundry$Test", 7, .inr (.inr (.inr (.inr fu))))) := xσ7.at wσ5 fσ5_7
              have fσ7_8 : σ7.1 (wF W i10) = some (.inr (.inl (6, [.int (fl N i10 0), .int (fl N i10 1), .int (fl N i10 2), .int (fl N i10 3), .int (fl N i10 4), .int (fl N i10 5), .int (fl N i10 6), .int (fl N i10 7), .ref σ1.2]))) := xσ7.at wσ5 fσ5_8
              have fσ7_9 : σ7.1 σ1.2 = some (.inr (.inl (8, [.int (nI jt), .int (N 11)]))) := xσ7.at wσ5 fσ5_9
              have hRσ7 : RW g σ7 (setP W (upP (wP W) i10 σ1.2)) (put1 N i10 (nI jt)) := hRσ5.ext wσ5 xσ7
              refine A_if_ne (tgt := 86) dX1_firstSafe_79 (by decide) (fun c3 => ?_) (fun c3 => ?_)
              · skip
                refine A_iconst (v := 0) dX1_firstSafe_86 (by decide) ?_
                refine A_istore dX1_firstSafe_87 (Nat.le_of_ble_eq_true rfl) ?_
                refine A_aload dX1_firstSafe_89 rfl ?_
                refine A_aload dX1_firstSafe_91 rfl ?_
                refine A_putfN cb_X7 fσ7_8 8 (Nat.le_of_ble_eq_true rfl) q1122 rfl rfl rfl rfl (Nat.le_of_ble_eq_true rfl) dX1_firstSafe_93 ?_
                obtain ⟨σ8, eσ8⟩ : ∃ τ, τ = h_put σ7 (wF W i10) (.inr (.inl (6, [.int (fl N i10 0), .int (fl N i10 1), .int (fl N i10 2), .int (fl N i10 3), .int (fl N i10 4), .int (fl N i10 5), .int (fl N i10 6), .int (fl N i10 7), .ref (wP W i10)]))) := ⟨_, rfl⟩
                refine A_st (σ' := σ8) eσ8.symm ?_
                have wσ8 : wfh σ8 := by rw [eσ8]; exact wσ7.put fσ7_8
                have fσ8_0 : σ8.1 (wW W) = some (.inr (.inl (4, [.int (N 9), .ref (wR W), .ref (wM W), .ref (wNL W), .ref (wFL W), .ref (wUN W), .int (N 6), .int (N 8), .int (N 0), .int (N 1), .int (N 2), .int (N 3), .int (N 4), .int (N 5), .int (N 11)]))) := by rw [eσ8]; exact (hp_ne (ne_of (x := .inr (.inl (4, [.int (N 9), .ref (wR W), .ref (wM W), .ref (wNL W), .ref (wFL W), .ref (wUN W), .int (N 6), .int (N 8), .int (N 0), .int (N 1), .int (N 2), .int (N 3), .int (N 4), .int (N 5), .int (N 11)]))) (y := .inr (.inl (6, [.int (fl N i10 0), .int (fl N i10 1), .int (fl N i10 2), .int (fl N i10 3), .int (fl N i10 4), .int (fl N i10 5), .int (fl N i10 6), .int (fl N i10 7), .ref σ1.2]))) fσ7_0 fσ7_8 (fun e8 => by simp at e8))).trans fσ7_0
                have fσ8_1 : σ8.1 (wFL W) = some (.inr (.inl (14, [.int mcf, .ref (wFA W), .int (nI (nF N))]))) := by rw [eσ8]; exact (hp_ne (ne_of (x := .inr (.inl (14, [.int mcf, .ref (wFA W), .int (nI (nF N))]))) (y := .inr (.inl (6, [.int (fl N i10 0), .int (fl N i10 1), .int (fl N i10 2), .int (fl N i10 3), .int (fl N i10 4), .int (fl N i10 5), .int (fl N i10 6), .int (fl N i10 7), .ref σ1.2]))) fσ7_1 fσ7_8 (fun e8 => by simp at e8))).trans fσ7_1
                have fσ8_2 : σ8.1 (wFA W) = some (.inl (.object "java/lang/Object", 12, .inr (.inr (.inr (.inr ffA))))) := by rw [eσ8]; exact (hp_ne (ne_of (x := .inl (.object "java/lang/Object", 12, .inr (.inr (.inr (.inr ffA))))) (y := .inr (.inl (6, [.int (fl N i10 0), .int (fl N i10 1), .int (fl N i10 2), .int (fl N i10 3), .int (fl N i10 4), .int (fl N i10 5), .int (fl N i10 6), .int (fl N i10 7), .ref σ1.2]))) fσ7_2 fσ7_8 (fun e8 => by simp at e8))).trans fσ7_2
                have fσ8_3 : σ8.1 (wNL W) = some (.inr (.inl (14, [.int mcn, .ref (wNA W), .int (nI (nN N))]))) := by rw [eσ8]; exact (hp_ne (ne_of (x := .inr (.inl (14, [.int mcn, .ref (wNA W), .int (nI (nN N))]))) (y := .inr (.inl (6, [.int (fl N i10 0), .int (fl N i10 1), .int (fl N i10 2), .int (fl N i10 3), .int (fl N i10 4), .int (fl N i10 5), .int (fl N i10 6), .int (fl N i10 7), .ref σ1.2]))) fσ7_3 fσ7_8 (fun e8 => by simp at e8))).trans fσ7_3
                have fσ8_4 : σ8.1 (wNA W) = some (.inl (.object "java/lang/Object", 4, .inr (.inr (.inr (.inr fnA))))) := by rw [eσ8]; exact (hp_ne (ne_of (x := .inl (.object "java/lang/Object", 4, .inr (.inr (.inr (.inr fnA))))) (y := .inr (.inl (6, [.int (fl N i10 0), .int (fl N i10 1), .int (fl N i10 2), .int (fl N i10 3), .int (fl N i10 4), .int (fl N i10 5), .int (fl N i10 6), .int (fl N i10 7), .ref σ1.2]))) fσ7_4 fσ7_8 (fun e8 => by simp at e8))).trans fσ7_4
                have fσ8_5 : σ8.1 (wR W) = some (.inl (.int, 6, .inl fr)) := by rw [eσ8]; exact (hp_ne (ne_of (x := .inl (.int, 6, .inl fr)) (y := .inr (.inl (6, [.int (fl N i10 0), .int (fl N i10 1), .int (fl N i10 2), .int (fl N i10 3), .int (fl N i10 4), .int (fl N i10 5), .int (fl N i10 6), .int (fl N i10 7), .ref σ1.2]))) fσ7_5 fσ7_8 (fun e8 => by simp at e8))).trans fσ7_5
                have fσ8_6 : σ8.1 (wM W) = some (.inl (.int, 3, .inl fm)) := by rw [eσ8]; exact (hp_ne (ne_of (x := .inl (.int, 3, .inl fm)) (y := .inr (.inl (6, [.int (fl N i10 0), .int (fl N i10 1), .int (fl N i10 2), .int (fl N i10 3), .int (fl N i10 4), .int (fl N i10 5), .int (fl N i10 6), .int (fl N i10 7), .ref σ1.2]))) fσ7_6 fσ7_8 (fun e8 => by simp at e8))).trans fσ7_6
                have fσ8_7 : σ8.1 (wUN W) = some (.inl (.object "FlagLaundry$Test", 7, .inr (.inr (.inr (.inr fu))))) := by rw [eσ8]; exact (hp_ne (ne_of (x := .inl (.object "FlagLaundry$Test", 7, .inr (.inr (.inr (.inr fu))))) (y := .inr (.inl (6, [.int (fl N i10 0), .int (fl N i10 1), .int (fl N i10 2), .int (fl N i10 3), .int (fl N i10 4), .int (fl N i10 5), .int (fl N i10 6), .int (fl N i10 7), .ref σ1.2]))) fσ7_7 fσ7_8 (fun e8 => by simp at e8))).trans fσ7_7
                have fσ8_8 : σ8.1 (wF W i10) = some (.inr (.inl (6, [.int (fl N i10 0), .int (fl N i10 1), .int (fl N i10 2), .int (fl N i10 3), .int (fl N i10 4), .int (fl N i10 5), .int (fl N i10 6), .int (fl N i10 7), .ref (wP W i10)]))) := by rw [eσ8]; exact if_pos rfl
                have fσ8_9 : σ8.1 σ1.2 = some (.inr (.inl (8, [.int (nI jt), .int (N 11)]))) := by rw [eσ8]; exact (hp_ne (ne_of (x := .inr (.inl (8, [.int (nI jt), .int (N 11)]))) (y := .inr (.inl (6, [.int (fl N i10 0), .int (fl N i10 1), .int (fl N i10 2), .int (fl N i10 3), .int (fl N i10 4), .int (fl N i10 5), .int (fl N i10 6), .int (fl N i10 7), .ref σ1.2]))) fσ7_9 fσ7_8 (fun e8 => by simp at e8))).trans fσ7_9
                have zσ8 : kx (wF W i10) τ10 σ8 := by rw [eσ8]; exact zσ7.put
                have yσ8 : ext σ σ8 := yτ10.tr (zσ8.back (hRτ10.2.2.2.2.2.2.1 i10 hi10) fσ8_8)
                have hR9σ8 : RW g σ8 W N := hR9.ext wσ yσ8
                refine A_iload dX1_firstSafe_96 rfl ?_
                refine A_if_eq_t (tgt := 104) dX1_firstSafe_98 (by decide) (by decide) ?_
                refine A_iinc (v := nI (i10 + 1)) dX1_firstSafe_104 rfl (nI_inc _ _) (Nat.le_of_ble_eq_true rfl) ?_
                refine A_goto (tgt := 10) dX1_firstSafe_107 (by decide) ?_
                refine A_less (b' := ((nF N) - (i10 + 1)) * 9 + 0) (by omega) ?_
                refine A_sub (L' := [(0, .ref x), (1, .int (nI jt)), (2, .int (nI jh)), (3, .ref (wW W)), (4, .int (nI (i10 + 1)))]) ⟨rfl, rfl, rfl, rfl, rfl, trivial⟩ ?_
                exact ih10 σ8 (⟨yσ8, by rw [hI10, fsr_s _ hi10, if_neg (fun q => c3 ((safe_iff hF12).mp q).2.2)]⟩)
              · skip
                refine A_iconst (v := 1) dX1_firstSafe_82 (by decide) ?_
                refine A_goto (tgt := 87) dX1_firstSafe_83 (by decide) ?_
                refine A_istore dX1_firstSafe_87 (Nat.le_of_ble_eq_true rfl) ?_
                refine A_aload dX1_firstSafe_89 rfl ?_
                refine A_aload dX1_firstSafe_91 rfl ?_
                refine A_putfN cb_X7 fσ7_8 8 (Nat.le_of_ble_eq_true rfl) q1122 rfl rfl rfl rfl (Nat.le_of_ble_eq_true rfl) dX1_firstSafe_93 ?_
                obtain ⟨σ9, eσ9⟩ : ∃ τ, τ = h_put σ7 (wF W i10) (.inr (.inl (6, [.int (fl N i10 0), .int (fl N i10 1), .int (fl N i10 2), .int (fl N i10 3), .int (fl N i10 4), .int (fl N i10 5), .int (fl N i10 6), .int (fl N i10 7), .ref (wP W i10)]))) := ⟨_, rfl⟩
                refine A_st (σ' := σ9) eσ9.symm ?_
                have wσ9 : wfh σ9 := by rw [eσ9]; exact wσ7.put fσ7_8
                have fσ9_0 : σ9.1 (wW W) = some (.inr (.inl (4, [.int (N 9), .ref (wR W), .ref (wM W), .ref (wNL W), .ref (wFL W), .ref (wUN W), .int (N 6), .int (N 8), .int (N 0), .int (N 1), .int (N 2), .int (N 3), .int (N 4), .int (N 5), .int (N 11)]))) := by rw [eσ9]; exact (hp_ne (ne_of (x := .inr (.inl (4, [.int (N 9), .ref (wR W), .ref (wM W), .ref (wNL W), .ref (wFL W), .ref (wUN W), .int (N 6), .int (N 8), .int (N 0), .int (N 1), .int (N 2), .int (N 3), .int (N 4), .int (N 5), .int (N 11)]))) (y := .inr (.inl (6, [.int (fl N i10 0), .int (fl N i10 1), .int (fl N i10 2), .int (fl N i10 3), .int (fl N i10 4), .int (fl N i10 5), .int (fl N i10 6), .int (fl N i10 7), .ref σ1.2]))) fσ7_0 fσ7_8 (fun e8 => by simp at e8))).trans fσ7_0
                have fσ9_1 : σ9.1 (wFL W) = some (.inr (.inl (14, [.int mcf, .ref (wFA W), .int (nI (nF N))]))) := by rw [eσ9]; exact (hp_ne (ne_of (x := .inr (.inl (14, [.int mcf, .ref (wFA W), .int (nI (nF N))]))) (y := .inr (.inl (6, [.int (fl N i10 0), .int (fl N i10 1), .int (fl N i10 2), .int (fl N i10 3), .int (fl N i10 4), .int (fl N i10 5), .int (fl N i10 6), .int (fl N i10 7), .ref σ1.2]))) fσ7_1 fσ7_8 (fun e8 => by simp at e8))).trans fσ7_1
                have fσ9_2 : σ9.1 (wFA W) = some (.inl (.object "java/lang/Object", 12, .inr (.inr (.inr (.inr ffA))))) := by rw [eσ9]; exact (hp_ne (ne_of (x := .inl (.object "java/lang/Object", 12, .inr (.inr (.inr (.inr ffA))))) (y := .inr (.inl (6, [.int (fl N i10 0), .int (fl N i10 1), .int (fl N i10 2), .int (fl N i10 3), .int (fl N i10 4), .int (fl N i10 5), .int (fl N i10 6), .int (fl N i10 7), .ref σ1.2]))) fσ7_2 fσ7_8 (fun e8 => by simp at e8))).trans fσ7_2
                have fσ9_3 : σ9.1 (wNL W) = some (.inr (.inl (14, [.int mcn, .ref (wNA W), .int (nI (nN N))]))) := by rw [eσ9]; exact (hp_ne (ne_of (x := .inr (.inl (14, [.int mcn, .ref (wNA W), .int (nI (nN N))]))) (y := .inr (.inl (6, [.int (fl N i10 0), .int (fl N i10 1), .int (fl N i10 2), .int (fl N i10 3), .int (fl N i10 4), .int (fl N i10 5), .int (fl N i10 6), .int (fl N i10 7), .ref σ1.2]))) fσ7_3 fσ7_8 (fun e8 => by simp at e8))).trans fσ7_3
                have fσ9_4 : σ9.1 (wNA W) = some (.inl (.object "java/lang/Object", 4, .inr (.inr (.inr (.inr fnA))))) := by rw [eσ9]; exact (hp_ne (ne_of (x := .inl (.object "java/lang/Object", 4, .inr (.inr (.inr (.inr fnA))))) (y := .inr (.inl (6, [.int (fl N i10 0), .int (fl N i10 1), .int (fl N i10 2), .int (fl N i10 3), .int (fl N i10 4), .int (fl N i10 5), .int (fl N i10 6), .int (fl N i10 7), .ref σ1.2]))) fσ7_4 fσ7_8 (fun e8 => by simp at e8))).trans fσ7_4
                have fσ9_5 : σ9.1 (wR W) = some (.inl (.int, 6, .inl fr)) := by rw [eσ9]; exact (hp_ne (ne_of (x := .inl (.int, 6, .inl fr)) (y := .inr (.inl (6, [.int (fl N i10 0), .int (fl N i10 1), .int (fl N i10 2), .int (fl N i10 3), .int (fl N i10 4), .int (fl N i10 5), .int (fl N i10 6), .int (fl N i10 7), .ref σ1.2]))) fσ7_5 fσ7_8 (fun e8 => by simp at e8))).trans fσ7_5
                have fσ9_6 : σ9.1 (wM W) = some (.inl (.int, 3, .inl fm)) := by rw [eσ9]; exact (hp_ne (ne_of (x := .inl (.int, 3, .inl fm)) (y := .inr (.inl (6, [.int (fl N i10 0), .int (fl N i10 1), .int (fl N i10 2), .int (fl N i10 3), .int (fl N i10 4), .int (fl N i10 5), .int (fl N i10 6), .int (fl N i10 7), .ref σ1.2]))) fσ7_6 fσ7_8 (fun e8 => by simp at e8))).trans fσ7_6
                have fσ9_7 : σ9.1 (wUN W) = some (.inl (.object "FlagLaundry$Test", 7, .inr (.inr (.inr (.inr fu))))) := by rw [eσ9]; exact (hp_ne (ne_of (x := .inl (.object "FlagLaundry$Test", 7, .inr (.inr (.inr (.inr fu))))) (y := .inr (.inl (6, [.int (fl N i10 0), .int (fl N i10 1), .int (fl N i10 2), .int (fl N i10 3), .int (fl N i10 4), .int (fl N i10 5), .int (fl N i10 6), .int (fl N i10 7), .ref σ1.2]))) fσ7_7 fσ7_8 (fun e8 => by simp at e8))).trans fσ7_7
                have fσ9_8 : σ9.1 (wF W i10) = some (.inr (.inl (6, [.int (fl N i10 0), .int (fl N i10 1), .int (fl N i10 2), .int (fl N i10 3), .int (fl N i10 4), .int (fl N i10 5), .int (fl N i10 6), .int (fl N i10 7), .ref (wP W i10)]))) := by rw [eσ9]; exact if_pos rfl
                have fσ9_9 : σ9.1 σ1.2 = some (.inr (.inl (8, [.int (nI jt), .int (N 11)]))) := by rw [eσ9]; exact (hp_ne (ne_of (x := .inr (.inl (8, [.int (nI jt), .int (N 11)]))) (y := .inr (.inl (6, [.int (fl N i10 0), .int (fl N i10 1), .int (fl N i10 2), .int (fl N i10 3), .int (fl N i10 4), .int (fl N i10 5), .int (fl N i10 6), .int (fl N i10 7), .ref σ1.2]))) fσ7_9 fσ7_8 (fun e8 => by simp at e8))).trans fσ7_9
                have zσ9 : kx (wF W i10) τ10 σ9 := by rw [eσ9]; exact zσ7.put
                have yσ9 : ext σ σ9 := yτ10.tr (zσ9.back (hRτ10.2.2.2.2.2.2.1 i10 hi10) fσ9_8)
                have hR9σ9 : RW g σ9 W N := hR9.ext wσ yσ9
                refine A_iload dX1_firstSafe_96 rfl ?_
                refine A_if_eq_f (tgt := 104) dX1_firstSafe_98 (by decide) (by decide) ?_
                refine A_iload dX1_firstSafe_101 rfl ?_
                exact A_iret dX1_firstSafe_103 rfl (⟨(mayQ_0 hs (bi_n ⟨hs, ck1⟩) (bi_n ck2)), by rw [ixn bjt, hI10, fsr_s _ hi10, if_pos ((safe_iff hF12).mpr ⟨c1, c2, c3⟩)], yσ9⟩)
          · skip
            refine A_goto (tgt := 104) dX1_firstSafe_29 (by decide) ?_
            refine A_iinc (v := nI (i10 + 1)) dX1_firstSafe_104 rfl (nI_inc _ _) (Nat.le_of_ble_eq_true rfl) ?_
            refine A_goto (tgt := 10) dX1_firstSafe_107 (by decide) ?_
            refine A_less (b' := ((nF N) - (i10 + 1)) * 9 + 0) (by omega) ?_
            refine A_sub (L' := [(0, .ref x), (1, .int (nI jt)), (2, .int (nI jh)), (3, .ref (wW W)), (4, .int (nI (i10 + 1)))]) ⟨rfl, rfl, rfl, rfl, rfl, trivial⟩ ?_
            exact ih10 σ1 (⟨yσ1, by rw [hI10, fsr_s _ hi10, if_neg (fun q => c1 q.1)]⟩)
        · skip
          refine A_less (b' := 0) (by omega) ?_
          obtain ⟨xτ10, hI10⟩ := hI10
          refine A_wfh (fun wτ10 hgτ10 => ?_)
          have yτ10 : ext σ τ10 := xτ10
          have hRτ10 : RW g τ10 W N := hR9.ext wσ yτ10
          have fτ10_0 : τ10.1 (wW W) = some (.inr (.inl (4, [.int (N 9), .ref (wR W), .ref (wM W), .ref (wNL W), .ref (wFL W), .ref (wUN W), .int (N 6), .int (N 8), .int (N 0), .int (N 1), .int (N 2), .int (N 3), .int (N 4), .int (N 5), .int (N 11)]))) := xτ10.at wσ h1
          have fτ10_1 : τ10.1 (wFL W) = some (.inr (.inl (14, [.int mcf, .ref (wFA W), .int (nI (nF N))]))) := xτ10.at wσ h5
          have fτ10_2 : τ10.1 (wFA W) = some (.inl (.object "java/lang/Object", 12, .inr (.inr (.inr (.inr ffA))))) := xτ10.at wσ h5p
          have fτ10_3 : τ10.1 (wNL W) = some (.inr (.inl (14, [.int mcn, .ref (wNA W), .int (nI (nN N))]))) := xτ10.at wσ h4
          have fτ10_4 : τ10.1 (wNA W) = some (.inl (.object "java/lang/Object", 4, .inr (.inr (.inr (.inr fnA))))) := xτ10.at wσ h4p
          have fτ10_5 : τ10.1 (wR W) = some (.inl (.int, 6, .inl fr)) := xτ10.at wσ h2
          have fτ10_6 : τ10.1 (wM W) = some (.inl (.int, 3, .inl fm)) := xτ10.at wσ h3
          have fτ10_7 : τ10.1 (wUN W) = some (.inl (.object "FlagLaundry$Test", 7, .inr (.inr (.inr (.inr fu))))) := xτ10.at wσ h6
          refine A_iload dX1_firstSafe_10 rfl ?_
          refine A_aload_n (i := 3) dX1_firstSafe_12 rfl rfl ?_
          refine A_callV0E (b' := 0) (v := some (.int (nI (nF N)))) (τ := τ10) (c_many τ10 W N hRτ10 hW) tX5_many q1369 fτ10_0 rfl rfl dX1_firstSafe_13 (by decide) (Nat.le_of_ble_eq_true rfl) (Nat.le_of_ble_eq_true rfl) ?_
          refine A_icmp_ge_t (tgt := 110) dX1_firstSafe_16 (by decide) (br_ge rfl) ?_
          refine A_iconst (v := (-1)) dX1_firstSafe_110 (by decide) ?_
          exact A_iret dX1_firstSafe_111 rfl (⟨(mayQ_0 hs (bi_n ⟨hs, ck1⟩) (bi_n ck2)), by rw [ixn bjt, hI10, fsr_e], yτ10⟩)
      · skip
        refine A_of rfl (by decide) (Nat.le_of_ble_eq_true rfl) (L0 := [(0, .ref x), (1, .int (nI jt)), (2, .int h)]) rfl ?_
        refine A_wfh (fun wσ hgσ => ?_)
        have yσ : ext σ σ := ext.rf
        refine A_aload_n (i := 0) dX1_firstSafe_0 rfl rfl ?_
        refine A_iload_n (i := 1) dX1_firstSafe_1 rfl rfl ?_
        refine A_iload_n (i := 2) dX1_firstSafe_2 rfl rfl ?_
        refine A_callV2 (b' := 0) (c_checkWash_no2 σ x bf dq sv ou bd pe ep W N jt h hX hR9 hD hjt ck2) tX1_checkWash q1668 hX rfl rfl dX1_firstSafe_3 (by decide) (Nat.le_of_ble_eq_true rfl) (Nat.le_of_ble_eq_true rfl) (fun w9 τ9 h9 => h9.elim) (fun E9 q9 τ9 h9 => A_out rfl (⟨yσ.tr h9.2, 2, by rw [h9.1]; rfl, by rw [(mayQ_3 hs (bi_n ⟨hs, ck1⟩) (bi_f (fun h => ck2 h)))]; rfl⟩))
    · skip
      refine A_of rfl (by decide) (Nat.le_of_ble_eq_true rfl) (L0 := [(0, .ref x), (1, .int t), (2, .int h)]) rfl ?_
      refine A_wfh (fun wσ hgσ => ?_)
      have yσ : ext σ σ := ext.rf
      refine A_aload_n (i := 0) dX1_firstSafe_0 rfl rfl ?_
      refine A_iload_n (i := 1) dX1_firstSafe_1 rfl rfl ?_
      refine A_iload_n (i := 2) dX1_firstSafe_2 rfl rfl ?_
      refine A_callV2 (b' := 0) (c_checkWash_no σ x bf dq sv ou bd pe ep W N t h hX hR9 hD ck1) tX1_checkWash q1668 hX rfl rfl dX1_firstSafe_3 (by decide) (Nat.le_of_ble_eq_true rfl) (Nat.le_of_ble_eq_true rfl) (fun w9 τ9 h9 => h9.elim) (fun E9 q9 τ9 h9 => A_out rfl (⟨yσ.tr h9.2, 1, by rw [h9.1]; rfl, by rw [(mayQ_2 hs (bi_f (fun h => ck1 h.2)))]; rfl⟩))
theorem c_dryBy {l : Launch} {g : GC} (σ : AH) (x bf dq sv ou : Nat) (bd pe ep : Int32) (W : WA) (N : AF) (f : Nat) (v : Int32) (hX : σ.1 x = some (lauC bf bd pe ep (.ref (wW W)) dq sv ou)) (hR : RW g σ W N) (hD : WFd N) (hf : f < nF N) (hv : ∃ x, x ≤ 9 ∧ v = nI x) : AMet l g mX1_dryBy 15 172 [.ref x, .int (nI f), .int v] σ (A_ext (some (.int (dryIn (va_up N 1 v) f))) σ) (A_no) := by
  refine A_of rfl (by decide) (Nat.le_of_ble_eq_true rfl) (L0 := [(0, .ref x), (1, .int (nI f)), (2, .int v)]) rfl ?_
  refine A_wfh (fun wσ hgσ => ?_)
  have yσ : ext σ σ := ext.rf
  have hW := hD.1
  have hR9 := hR
  obtain ⟨h1, ⟨fr, h2, h2p⟩, ⟨fm, h3, h3p⟩, ⟨mcn, fnA, h4, h4p, h4q⟩, ⟨mcf, ffA, h5, h5p, h5q⟩, ⟨fu, h6, h6p⟩, h7, h8, h9, h10, h11⟩ := hR
  have hF12 : nF N ≤ 12 := hW.2.2.2.2.2
  have hN4 : nN N ≤ 4 := hW.2.1.2
  have hC6 : nC N ≤ 6 := hW.1.2
  have hT3 : nT N ≤ 3 := hW.2.2.1.2
  have hP8 : nP N ≤ 8 := hW.2.2.2.1.2
  refine A_new (b' := 168) (u := 4) cb_X5 q203 q755 q159 (fs := [.int 0, .null, .null, .null, .null, .null, .int 0, .int 0, .int 0, .int 0, .int 0, .int 0, .int 0, .int 0, .int 0]) (by intro j hj; rcases j with _ | j; exact rfl; rcases j with _ | j; exact rfl; rcases j with _ | j; exact rfl; rcases j with _ | j; exact rfl; rcases j with _ | j; exact rfl; rcases j with _ | j; exact rfl; rcases j with _ | j; exact rfl; rcases j with _ | j; exact rfl; rcases j with _ | j; exact rfl; rcases j with _ | j; exact rfl; rcases j with _ | j; exact rfl; rcases j with _ | j; exact rfl; rcases j with _ | j; exact rfl; rcases j with _ | j; exact rfl; rcases j with _ | j; exact rfl; omega) (Nat.le_of_ble_eq_true rfl) ⟨Nat.le_of_ble_eq_true rfl, Nat.le_of_ble_eq_true rfl⟩ dX1_dryBy_0 ?_
  obtain ⟨σ1, eσ1⟩ : ∃ τ, τ = h_new σ (.inr (.inl (4, [.int 0, .null, .null, .null, .null, .null, .int 0, .int 0, .int 0, .int 0, .int 0, .int 0, .int 0, .int 0, .int 0]))) := ⟨_, rfl⟩
  refine A_st (σ' := σ1) eσ1.symm ?_
  have wσ1 : wfh σ1 := by rw [eσ1]; exact wσ.new
  have fσ1_0 : σ1.1 (wW W) = some (.inr (.inl (4, [.int (N 9), .ref (wR W), .ref (wM W), .ref (wNL W), .ref (wFL W), .ref (wUN W), .int (N 6), .int (N 8), .int (N 0), .int (N 1), .int (N 2), .int (N 3), .int (N 4), .int (N 5), .int (N 11)]))) := by rw [eσ1]; exact (hn_ne (Nat.ne_of_lt (wσ _ _ h1))).trans h1
  have fσ1_1 : σ1.1 (wFL W) = some (.inr (.inl (14, [.int mcf, .ref (wFA W), .int (nI (nF N))]))) := by rw [eσ1]; exact (hn_ne (Nat.ne_of_lt (wσ _ _ h5))).trans h5
  have fσ1_2 : σ1.1 (wFA W) = some (.inl (.object "java/lang/Object", 12, .inr (.inr (.inr (.inr ffA))))) := by rw [eσ1]; exact (hn_ne (Nat.ne_of_lt (wσ _ _ h5p))).trans h5p
  have fσ1_3 : σ1.1 (wNL W) = some (.inr (.inl (14, [.int mcn, .ref (wNA W), .int (nI (nN N))]))) := by rw [eσ1]; exact (hn_ne (Nat.ne_of_lt (wσ _ _ h4))).trans h4
  have fσ1_4 : σ1.1 (wNA W) = some (.inl (.object "java/lang/Object", 4, .inr (.inr (.inr (.inr fnA))))) := by rw [eσ1]; exact (hn_ne (Nat.ne_of_lt (wσ _ _ h4p))).trans h4p
  have fσ1_5 : σ1.1 (wR W) = some (.inl (.int, 6, .inl fr)) := by rw [eσ1]; exact (hn_ne (Nat.ne_of_lt (wσ _ _ h2))).trans h2
  have fσ1_6 : σ1.1 (wM W) = some (.inl (.int, 3, .inl fm)) := by rw [eσ1]; exact (hn_ne (Nat.ne_of_lt (wσ _ _ h3))).trans h3
  have fσ1_7 : σ1.1 (wUN W) = some (.inl (.object "FlagLaundry$Test", 7, .inr (.inr (.inr (.inr fu))))) := by rw [eσ1]; exact (hn_ne (Nat.ne_of_lt (wσ _ _ h6))).trans h6
  have fσ1_8 : σ1.1 x = some (.inr (.inl (0, [.ref bf, .int bd, .int pe, .int ep, .ref (wW W), .ref dq, .ref sv, .ref ou]))) := by rw [eσ1]; exact (hn_ne (Nat.ne_of_lt (wσ _ _ hX))).trans hX
  have fσ1_9 : σ1.1 σ.2 = some (.inr (.inl (4, [.int 0, .null, .null, .null, .null, .null, .int 0, .int 0, .int 0, .int 0, .int 0, .int 0, .int 0, .int 0, .int 0]))) := by rw [eσ1]; exact if_pos rfl
  have xσ1 : ext σ σ1 := by rw [eσ1]; exact ext_new _ _
  have yσ1 : ext σ σ1 := yσ.tr (xσ1)
  have hRσ1 : RW g σ1 W N := hR9.ext wσ xσ1
  refine A_dup dX1_dryBy_3 rfl ?_
  refine A_aload_n (i := 0) dX1_dryBy_4 rfl rfl ?_
  refine A_getf cb_X1 fσ1_8 4 (Nat.le_of_ble_eq_true rfl) q242 rfl (v := .ref (wW W)) rfl dX1_dryBy_5 ?_
  refine A_callI1 (b' := 103) (c_wCopy σ1 W N σ.2 fσ1_9 (RW_cut hR9 wσ xσ1) hD (xσ1.1)) tX5_init_2 q1820 dX1_dryBy_8 (by decide) (Nat.le_of_ble_eq_true rfl) (Nat.le_of_ble_eq_true rfl) (fun w9 τ9 h9 => ?_) (fun E9 q9 τ9 h9 => h9.elim)
  obtain ⟨e9, kV, V, hV, hO, hRV⟩ := h9
  subst e9
  refine A_wfh (fun wτ9 hgτ9 => ?_)
  rw [← hV]
  have xV : ext σ τ9 := ⟨Nat.le_trans xσ1.1 kV.1, fun b hb => (kV.2 b hb).trans (xσ1.2 b hb)⟩
  have hRc := hRV
  obtain ⟨h1v, ⟨frv, h2v, h2pv⟩, ⟨fmv, h3v, h3pv⟩, ⟨mcnv, fnAv, h4v, h4pv, h4qv⟩, ⟨mcfv, ffAv, h5v, h5pv, h5qv⟩, ⟨fuv, h6v, h6pv⟩, h7v, h8v, h9v, h10v, h11v⟩ := hRc
  have fτ9v_0 : τ9.1 (wW V) = some (.inr (.inl (4, [.int (N 9), .ref (wR V), .ref (wM V), .ref (wNL V), .ref (wFL V), .ref (wUN V), .int (N 6), .int (N 8), .int (N 0), .int (N 1), .int (N 2), .int (N 3), .int (N 4), .int (N 5), .int (N 11)]))) := h1v
  have fτ9v_1 : τ9.1 (wFL V) = some (.inr (.inl (14, [.int mcfv, .ref (wFA V), .int (nI (nF N))]))) := h5v
  have fτ9v_2 : τ9.1 (wFA V) = some (.inl (.object "java/lang/Object", 12, .inr (.inr (.inr (.inr ffAv))))) := h5pv
  have fτ9v_3 : τ9.1 (wNL V) = some (.inr (.inl (14, [.int mcnv, .ref (wNA V), .int (nI (nN N))]))) := h4v
  have fτ9v_4 : τ9.1 (wNA V) = some (.inl (.object "java/lang/Object", 4, .inr (.inr (.inr (.inr fnAv))))) := h4pv
  have fτ9v_5 : τ9.1 (wR V) = some (.inl (.int, 6, .inl frv)) := h2v
  have fτ9v_6 : τ9.1 (wM V) = some (.inl (.int, 3, .inl fmv)) := h3v
  have fτ9v_7 : τ9.1 (wUN V) = some (.inl (.object "FlagLaundry$Test", 7, .inr (.inr (.inr (.inr fuv))))) := h6v
  have fxτ9 : τ9.1 x = some (.inr (.inl (0, [.ref bf, .int bd, .int pe, .int ep, .ref (wW W), .ref dq, .ref sv, .ref ou]))) := xV.at wσ hX
  have yτ9 : ext σ τ9 := yσ.tr xV
  refine A_astore_n (i := 3) dX1_dryBy_11 rfl (Nat.le_of_ble_eq_true rfl) ?_
  refine A_aload_n (i := 3) dX1_dryBy_12 rfl rfl ?_
  refine A_iload_n (i := 2) dX1_dryBy_13 rfl rfl ?_
  refine A_putfN cb_X5 fτ9v_0 9 (Nat.le_of_ble_eq_true rfl) q847 rfl rfl rfl rfl (Nat.le_of_ble_eq_true rfl) dX1_dryBy_14 ?_
  obtain ⟨σ2, eσ2⟩ : ∃ τ, τ = h_put τ9 (wW V) (.inr (.inl (4, [.int (N 9), .ref (wR V), .ref (wM V), .ref (wNL V), .ref (wFL V), .ref (wUN V), .int (N 6), .int (N 8), .int (N 0), .int v, .int (N 2), .int (N 3), .int (N 4), .int (N 5), .int (N 11)]))) := ⟨_, rfl⟩
  refine A_st (σ' := σ2) eσ2.symm ?_
  have wσ2 : wfh σ2 := by rw [eσ2]; exact wτ9.put fτ9v_0
  have fσ2_0 : σ2.1 (wW V) = some (.inr (.inl (4, [.int (N 9), .ref (wR V), .ref (wM V), .ref (wNL V), .ref (wFL V), .ref (wUN V), .int (N 6), .int (N 8), .int (N 0), .int v, .int (N 2), .int (N 3), .int (N 4), .int (N 5), .int (N 11)]))) := by rw [eσ2]; exact if_pos rfl
  have fσ2_1 : σ2.1 (wFL V) = some (.inr (.inl (14, [.int mcfv, .ref (wFA V), .int (nI (nF N))]))) := by rw [eσ2]; exact (hp_ne (ne_of (x := .inr (.inl (14, [.int mcfv, .ref (wFA V), .int (nI (nF N))]))) (y := .inr (.inl (4, [.int (N 9), .ref (wR V), .ref (wM V), .ref (wNL V), .ref (wFL V), .ref (wUN V), .int (N 6), .int (N 8), .int (N 0), .int (N 1), .int (N 2), .int (N 3), .int (N 4), .int (N 5), .int (N 11)]))) fτ9v_1 fτ9v_0 (fun e8 => by simp at e8))).trans fτ9v_1
  have fσ2_2 : σ2.1 (wFA V) = some (.inl (.object "java/lang/Object", 12, .inr (.inr (.inr (.inr ffAv))))) := by rw [eσ2]; exact (hp_ne (ne_of (x := .inl (.object "java/lang/Object", 12, .inr (.inr (.inr (.inr ffAv))))) (y := .inr (.inl (4, [.int (N 9), .ref (wR V), .ref (wM V), .ref (wNL V), .ref (wFL V), .ref (wUN V), .int (N 6), .int (N 8), .int (N 0), .int (N 1), .int (N 2), .int (N 3), .int (N 4), .int (N 5), .int (N 11)]))) fτ9v_2 fτ9v_0 (fun e8 => by simp at e8))).trans fτ9v_2
  have fσ2_3 : σ2.1 (wNL V) = some (.inr (.inl (14, [.int mcnv, .ref (wNA V), .int (nI (nN N))]))) := by rw [eσ2]; exact (hp_ne (ne_of (x := .inr (.inl (14, [.int mcnv, .ref (wNA V), .int (nI (nN N))]))) (y := .inr (.inl (4, [.int (N 9), .ref (wR V), .ref (wM V), .ref (wNL V), .ref (wFL V), .ref (wUN V), .int (N 6), .int (N 8), .int (N 0), .int (N 1), .int (N 2), .int (N 3), .int (N 4), .int (N 5), .int (N 11)]))) fτ9v_3 fτ9v_0 (fun e8 => by simp at e8))).trans fτ9v_3
  have fσ2_4 : σ2.1 (wNA V) = some (.inl (.object "java/lang/Object", 4, .inr (.inr (.inr (.inr fnAv))))) := by rw [eσ2]; exact (hp_ne (ne_of (x := .inl (.object "java/lang/Object", 4, .inr (.inr (.inr (.inr fnAv))))) (y := .inr (.inl (4, [.int (N 9), .ref (wR V), .ref (wM V), .ref (wNL V), .ref (wFL V), .ref (wUN V), .int (N 6), .int (N 8), .int (N 0), .int (N 1), .int (N 2), .int (N 3), .int (N 4), .int (N 5), .int (N 11)]))) fτ9v_4 fτ9v_0 (fun e8 => by simp at e8))).trans fτ9v_4
  have fσ2_5 : σ2.1 (wR V) = some (.inl (.int, 6, .inl frv)) := by rw [eσ2]; exact (hp_ne (ne_of (x := .inl (.int, 6, .inl frv)) (y := .inr (.inl (4, [.int (N 9), .ref (wR V), .ref (wM V), .ref (wNL V), .ref (wFL V), .ref (wUN V), .int (N 6), .int (N 8), .int (N 0), .int (N 1), .int (N 2), .int (N 3), .int (N 4), .int (N 5), .int (N 11)]))) fτ9v_5 fτ9v_0 (fun e8 => by simp at e8))).trans fτ9v_5
  have fσ2_6 : σ2.1 (wM V) = some (.inl (.int, 3, .inl fmv)) := by rw [eσ2]; exact (hp_ne (ne_of (x := .inl (.int, 3, .inl fmv)) (y := .inr (.inl (4, [.int (N 9), .ref (wR V), .ref (wM V), .ref (wNL V), .ref (wFL V), .ref (wUN V), .int (N 6), .int (N 8), .int (N 0), .int (N 1), .int (N 2), .int (N 3), .int (N 4), .int (N 5), .int (N 11)]))) fτ9v_6 fτ9v_0 (fun e8 => by simp at e8))).trans fτ9v_6
  have fσ2_7 : σ2.1 (wUN V) = some (.inl (.object "FlagLaundry$Test", 7, .inr (.inr (.inr (.inr fuv))))) := by rw [eσ2]; exact (hp_ne (ne_of (x := .inl (.object "FlagLaundry$Test", 7, .inr (.inr (.inr (.inr fuv))))) (y := .inr (.inl (4, [.int (N 9), .ref (wR V), .ref (wM V), .ref (wNL V), .ref (wFL V), .ref (wUN V), .int (N 6), .int (N 8), .int (N 0), .int (N 1), .int (N 2), .int (N 3), .int (N 4), .int (N 5), .int (N 11)]))) fτ9v_7 fτ9v_0 (fun e8 => by simp at e8))).trans fτ9v_7
  have fσ2_8 : σ2.1 x = some (.inr (.inl (0, [.ref bf, .int bd, .int pe, .int ep, .ref (wW W), .ref dq, .ref sv, .ref ou]))) := by rw [eσ2]; exact (hp_ne (ne_of (x := .inr (.inl (0, [.ref bf, .int bd, .int pe, .int ep, .ref (wW W), .ref dq, .ref sv, .ref ou]))) (y := .inr (.inl (4, [.int (N 9), .ref (wR V), .ref (wM V), .ref (wNL V), .ref (wFL V), .ref (wUN V), .int (N 6), .int (N 8), .int (N 0), .int (N 1), .int (N 2), .int (N 3), .int (N 4), .int (N 5), .int (N 11)]))) fxτ9 fτ9v_0 (fun e8 => by simp at e8))).trans fxτ9
  have hR7 : RW g σ2 V (va_up N 1 v) := hRV.scal wτ9 (by rw [eσ2]; exact kx.rf.put) fσ2_0 (scl_va _ (by decide) _)
  have hD7 : WFd (va_up N 1 v) := WFd_1 hD v
  have hf7 : f < nF (va_up N 1 v) := hf
  have hO7 : own σ.2 V (va_up N 1 v) := hO
  have hw7 : WFw (va_up N 1 v) := hv
  have hVw : σ.2 ≤ wW V := by rw [hV]; exact Nat.le_refl _
  have k7 : kl σ.2 σ σ2 := by rw [eσ2]; exact (xV.kl (Nat.le_refl _)).put hVw
  have yW7 : ext σ σ2 := k7.toExt
  refine A_aload_n (i := 3) dX1_dryBy_17 rfl rfl ?_
  refine A_iload_n (i := 1) dX1_dryBy_18 rfl rfl ?_
  refine A_callV1E (b' := 103) (v := some (.ref (wF V f))) (τ := σ2) (c_flagOf σ2 V (va_up N 1 v) f hR7 hD7.1 hf7) tX5_flagOf q1153 fσ2_0 rfl rfl dX1_dryBy_19 (by decide) (Nat.le_of_ble_eq_true rfl) (Nat.le_of_ble_eq_true rfl) ?_
  refine A_getfN cb_X7 (hR7.2.2.2.2.2.2.1 f hf7) 8 (Nat.le_of_ble_eq_true rfl) q1122 rfl (v := .ref (wP V f)) rfl dX1_dryBy_22 ?_
  rcases (flok_k hD7 hf7) with h8_1 | h8_1 | h8_1 | h8_1
  · skip
    have hP_1 : σ2.1 (wP V f) = some (.inr (.inl (7, []))) := by have h9 := (hR7.2.2.2.2.2.2.2.1 f hf7); rw [h8_1] at h9; exact h9
    refine A_instNo hP_1 rfl nc_X8_X11 q1422 dX1_dryBy_25 ?_
    refine A_if_ne_f (tgt := 33) dX1_dryBy_28 (by decide) (by decide) ?_
    refine A_iconst (v := (-1)) dX1_dryBy_31 (by decide) ?_
    exact A_iret dX1_dryBy_32 rfl (⟨by rw [dc_no (by rw [h8_1]; decide : ¬ fl (va_up N 1 v) f 8 = 2)], yW7⟩)
  · skip
    have hP_1 : σ2.1 (wP V f) = some (.inr (.inl (8, [.int ((fl (va_up N 1 v) f) 9), .int ((fl (va_up N 1 v) f) 10)]))) := by have h9 := (hR7.2.2.2.2.2.2.2.1 f hf7); rw [h8_1] at h9; exact h9
    refine A_instNo hP_1 rfl nc_X9_X11 q1422 dX1_dryBy_25 ?_
    refine A_if_ne_f (tgt := 33) dX1_dryBy_28 (by decide) (by decide) ?_
    refine A_iconst (v := (-1)) dX1_dryBy_31 (by decide) ?_
    exact A_iret dX1_dryBy_32 rfl (⟨by rw [dc_no (by rw [h8_1]; decide : ¬ fl (va_up N 1 v) f 8 = 2)], yW7⟩)
  · skip
    have hP_1 : σ2.1 (wP V f) = some (.inr (.inl (9, [.int ((fl (va_up N 1 v) f) 9)]))) := by have h9 := (hR7.2.2.2.2.2.2.2.1 f hf7); rw [h8_1] at h9; exact h9
    refine A_instE hP_1 rfl q1422 dX1_dryBy_25 ?_
    refine A_if_ne_t (tgt := 33) dX1_dryBy_28 (by decide) (by decide) ?_
    refine A_iconst (v := 0) dX1_dryBy_33 (by decide) ?_
    refine A_istore dX1_dryBy_34 (Nat.le_of_ble_eq_true rfl) ?_
    refine A_less (b' := (100 - 0) * 1 + 0) (by omega) ?_
    refine A_sub (L' := [(0, .ref x), (1, .int (nI f)), (2, .int v), (3, .ref (wW V)), (4, .int (nI 0))]) ⟨rfl, rfl, rfl, rfl, rfl, trivial⟩ ?_
    refine A_forP (α := AH) 100 (fun i36 _ => (100 - i36) * 1 + 0) (fun i36 _ => [(0, .ref x), (1, .int (nI f)), (2, .int v), (3, .ref (wW V)), (4, .int (nI i36))]) (fun _ τ36 => τ36) (fun i36 τ36 => (∃ P, RW g τ36 (setP V P) (itr passN (va_up N 1 v) i36)) ∧ kl σ.2 σ τ36 ∧ dryIn (va_up N 1 v) f = dcU (va_up N 1 v) f (100 - i36) i36) σ2 (⟨⟨_, hR7.sP⟩, k7, (dc_eq h8_1).symm⟩) (fun i36 τ36 hi36 hI36 ih36 => ?_) (fun τ36 hI36 => ?_)
    · skip
      refine A_less (b' := (100 - (i36 + 1)) * 1 + 0 + 1) (by omega) ?_
      obtain ⟨⟨P4, hR4⟩, k4, hI36⟩ := hI36
      refine A_wfh (fun wτ36 hgτ36 => ?_)
      have hD4 : WFd (itr passN (va_up N 1 v) i36) := (WFd_passI hD7 hw7 i36).1
      have hw4 : WFw (itr passN (va_up N 1 v) i36) := by unfold WFw; rw [(WFd_passI hD7 hw7 i36).2]; exact hw7
      have hO4 : own σ.2 (setP V P4) (itr passN (va_up N 1 v) i36) := hO7.sP (passI_nN _ _) (passI_nF _ _)
      have hf4 : f < nF (itr passN (va_up N 1 v) i36) := by rw [passI_nF]; exact hf7
      have yτ36 : ext σ τ36 := k4.toExt
      have hRc := hR4
      obtain ⟨h1t4, ⟨frt4, h2t4, h2pt4⟩, ⟨fmt4, h3t4, h3pt4⟩, ⟨mcnt4, fnAt4, h4t4, h4pt4, h4qt4⟩, ⟨mcft4, ffAt4, h5t4, h5pt4, h5qt4⟩, ⟨fut4, h6t4, h6pt4⟩, h7t4, h8t4, h9t4, h10t4, h11t4⟩ := hRc
      have fτ36t4_0 : τ36.1 (wW V) = some (.inr (.inl (4, [.int ((itr passN (va_up N 1 v) i36) 9), .ref (wR V), .ref (wM V), .ref (wNL V), .ref (wFL V), .ref (wUN V), .int ((itr passN (va_up N 1 v) i36) 6), .int ((itr passN (va_up N 1 v) i36) 8), .int ((itr passN (va_up N 1 v) i36) 0), .int ((itr passN (va_up N 1 v) i36) 1), .int ((itr passN (va_up N 1 v) i36) 2), .int ((itr passN (va_up N 1 v) i36) 3), .int ((itr passN (va_up N 1 v) i36) 4), .int ((itr passN (va_up N 1 v) i36) 5), .int ((itr passN (va_up N 1 v) i36) 11)]))) := h1t4
      have fτ36t4_1 : τ36.1 (wFL V) = some (.inr (.inl (14, [.int mcft4, .ref (wFA V), .int (nI (nF (itr passN (va_up N 1 v) i36)))]))) := h5t4
      have fτ36t4_2 : τ36.1 (wFA V) = some (.inl (.object "java/lang/Object", 12, .inr (.inr (.inr (.inr ffAt4))))) := h5pt4
      have fτ36t4_3 : τ36.1 (wNL V) = some (.inr (.inl (14, [.int mcnt4, .ref (wNA V), .int (nI (nN (itr passN (va_up N 1 v) i36)))]))) := h4t4
      have fτ36t4_4 : τ36.1 (wNA V) = some (.inl (.object "java/lang/Object", 4, .inr (.inr (.inr (.inr fnAt4))))) := h4pt4
      have fτ36t4_5 : τ36.1 (wR V) = some (.inl (.int, 6, .inl frt4)) := h2t4
      have fτ36t4_6 : τ36.1 (wM V) = some (.inl (.int, 3, .inl fmt4)) := h3t4
      have fτ36t4_7 : τ36.1 (wUN V) = some (.inl (.object "FlagLaundry$Test", 7, .inr (.inr (.inr (.inr fut4))))) := h6t4
      refine A_iload dX1_dryBy_36 rfl ?_
      refine A_bipush (v := 99) dX1_dryBy_38 (by decide) ?_
      refine A_icmp_gt_f (tgt := 86) dX1_dryBy_40 (by decide) (nI_nlt9 (m := 99) (by omega) (by decide)) ?_
      refine A_aload_n (i := 3) dX1_dryBy_43 rfl rfl ?_
      refine A_iload_n (i := 1) dX1_dryBy_44 rfl rfl ?_
      refine A_callV1E (b' := (100 - (i36 + 1)) * 1 + 0 + 1) (v := some (.ref (wF V f))) (τ := τ36) (c_flagOf τ36 (setP V P4) (itr passN (va_up N 1 v) i36) f hR4 hD4.1 hf4) tX5_flagOf q1153 fτ36t4_0 rfl rfl dX1_dryBy_45 (by decide) (by omega) (Nat.le_of_ble_eq_true rfl) ?_
      refine A_astore dX1_dryBy_48 (Nat.le_of_ble_eq_true rfl) ?_
      refine A_aload dX1_dryBy_50 rfl ?_
      refine A_getfN cb_X7 (hR4.2.2.2.2.2.2.1 f hf4) 4 (Nat.le_of_ble_eq_true rfl) q1110 rfl (v := .int (fl (itr passN (va_up N 1 v) i36) f 4)) rfl dX1_dryBy_52 ?_
      refine A_if_ne (tgt := 61) dX1_dryBy_55 (by decide) (fun c2 => ?_) (fun c2 => ?_)
      · skip
        refine A_aload dX1_dryBy_61 rfl ?_
        refine A_getfN cb_X7 (hR4.2.2.2.2.2.2.1 f hf4) 8 (Nat.le_of_ble_eq_true rfl) q1122 rfl (v := .ref (wP (setP V P4) f)) rfl dX1_dryBy_63 ?_
        rcases (flok_k hD4 hf4) with h8_3 | h8_3 | h8_3 | h8_3
        · skip
          have hP_3 : τ36.1 (wP (setP V P4) f) = some (.inr (.inl (7, []))) := by have h9 := (hR4.2.2.2.2.2.2.2.1 f hf4); rw [h8_3] at h9; exact h9
          refine A_instNo hP_3 rfl nc_X8_X11 q1422 dX1_dryBy_66 ?_
          refine A_if_ne_f (tgt := 74) dX1_dryBy_69 (by decide) (by decide) ?_
          refine A_iconst (v := (-1)) dX1_dryBy_72 (by decide) ?_
          exact A_iret dX1_dryBy_73 rfl (⟨by rw [hI36, dcU_s _ _ hi36, if_neg c2, if_neg (by rw [h8_3]; decide)], yτ36⟩)
        · skip
          have hP_3 : τ36.1 (wP (setP V P4) f) = some (.inr (.inl (8, [.int ((fl (itr passN (va_up N 1 v) i36) f) 9), .int ((fl (itr passN (va_up N 1 v) i36) f) 10)]))) := by have h9 := (hR4.2.2.2.2.2.2.2.1 f hf4); rw [h8_3] at h9; exact h9
          refine A_instNo hP_3 rfl nc_X9_X11 q1422 dX1_dryBy_66 ?_
          refine A_if_ne_f (tgt := 74) dX1_dryBy_69 (by decide) (by decide) ?_
          refine A_iconst (v := (-1)) dX1_dryBy_72 (by decide) ?_
          exact A_iret dX1_dryBy_73 rfl (⟨by rw [hI36, dcU_s _ _ hi36, if_neg c2, if_neg (by rw [h8_3]; decide)], yτ36⟩)
        · skip
          have hP_3 : τ36.1 (wP (setP V P4) f) = some (.inr (.inl (9, [.int ((fl (itr passN (va_up N 1 v) i36) f) 9)]))) := by have h9 := (hR4.2.2.2.2.2.2.2.1 f hf4); rw [h8_3] at h9; exact h9
          refine A_instE hP_3 rfl q1422 dX1_dryBy_66 ?_
          refine A_if_ne_t (tgt := 74) dX1_dryBy_69 (by decide) (by decide) ?_
          refine A_aload_n (i := 3) dX1_dryBy_74 rfl rfl ?_
          refine A_callV0 (b' := (100 - (i36 + 1)) * 1 + 0 + 0) (c_hour5 τ36 (setP V P4) (itr passN (va_up N 1 v) i36) σ.2 hR4 hD4 hO4 (Nat.le_trans k4.1 (Nat.le_refl _)) hw4) tX5_hour q1835 fτ36t4_0 rfl rfl dX1_dryBy_75 (by decide) (by omega) (Nat.le_of_ble_eq_true rfl) (fun w9 σ3 h9 => ?_) (fun E9 q9 τ9 h9 => h9.elim)
          obtain ⟨e9, ⟨Pσ3, hRσ3⟩, kσ3⟩ := h9
          subst e9
          refine A_wfh (fun wσ3 hgσ3 => ?_)
          have hRσ3 : RW g σ3 (setP (setP V P4) Pσ3) (passN (itr passN (va_up N 1 v) i36)) := hRσ3
          have hDσ3 : WFd (passN (itr passN (va_up N 1 v) i36)) := WFd_passN hD4 hw4
          have hRc := hRσ3
          obtain ⟨h1σ3, ⟨frσ3, h2σ3, h2pσ3⟩, ⟨fmσ3, h3σ3, h3pσ3⟩, ⟨mcnσ3, fnAσ3, h4σ3, h4pσ3, h4qσ3⟩, ⟨mcfσ3, ffAσ3, h5σ3, h5pσ3, h5qσ3⟩, ⟨fuσ3, h6σ3, h6pσ3⟩, h7σ3, h8σ3, h9σ3, h10σ3, h11σ3⟩ := hRc
          have fσ3σ3_0 : σ3.1 (wW V) = some (.inr (.inl (4, [.int ((passN (itr passN (va_up N 1 v) i36)) 9), .ref (wR V), .ref (wM V), .ref (wNL V), .ref (wFL V), .ref (wUN V), .int ((passN (itr passN (va_up N 1 v) i36)) 6), .int ((passN (itr passN (va_up N 1 v) i36)) 8), .int ((passN (itr passN (va_up N 1 v) i36)) 0), .int ((passN (itr passN (va_up N 1 v) i36)) 1), .int ((passN (itr passN (va_up N 1 v) i36)) 2), .int ((passN (itr passN (va_up N 1 v) i36)) 3), .int ((passN (itr passN (va_up N 1 v) i36)) 4), .int ((passN (itr passN (va_up N 1 v) i36)) 5), .int ((passN (itr passN (va_up N 1 v) i36)) 11)]))) := h1σ3
          have fσ3σ3_1 : σ3.1 (wFL V) = some (.inr (.inl (14, [.int mcfσ3, .ref (wFA V), .int (nI (nF (passN (itr passN (va_up N 1 v) i36))))]))) := h5σ3
          have fσ3σ3_2 : σ3.1 (wFA V) = some (.inl (.object "java/lang/Object", 12, .inr (.inr (.inr (.inr ffAσ3))))) := h5pσ3
          have fσ3σ3_3 : σ3.1 (wNL V) = some (.inr (.inl (14, [.int mcnσ3, .ref (wNA V), .int (nI (nN (passN (itr passN (va_up N 1 v) i36))))]))) := h4σ3
          have fσ3σ3_4 : σ3.1 (wNA V) = some (.inl (.object "java/lang/Object", 4, .inr (.inr (.inr (.inr fnAσ3))))) := h4pσ3
          have fσ3σ3_5 : σ3.1 (wR V) = some (.inl (.int, 6, .inl frσ3)) := h2σ3
          have fσ3σ3_6 : σ3.1 (wM V) = some (.inl (.int, 3, .inl fmσ3)) := h3σ3
          have fσ3σ3_7 : σ3.1 (wUN V) = some (.inl (.object "FlagLaundry$Test", 7, .inr (.inr (.inr (.inr fuσ3))))) := h6σ3
          refine A_istore dX1_dryBy_78 (Nat.le_of_ble_eq_true rfl) ?_
          refine A_iinc (v := nI (i36 + 1)) dX1_dryBy_80 rfl (nI_inc _ _) (Nat.le_of_ble_eq_true rfl) ?_
          refine A_goto (tgt := 36) dX1_dryBy_83 (by decide) ?_
          refine A_less (b' := (100 - (i36 + 1)) * 1 + 0) (by omega) ?_
          refine A_sub (L' := [(0, .ref x), (1, .int (nI f)), (2, .int v), (3, .ref (wW V)), (4, .int (nI (i36 + 1)))]) ⟨rfl, rfl, rfl, rfl, rfl, trivial⟩ ?_
          exact ih36 σ3 (⟨⟨_, hRσ3⟩, k4.tr kσ3, by rw [hI36, dcU_s _ _ hi36, if_neg c2, if_pos h8_3]⟩)
        · skip
          have hP_3 : τ36.1 (wP (setP V P4) f) = some (.inr (.inl (10, []))) := by have h9 := (hR4.2.2.2.2.2.2.2.1 f hf4); rw [h8_3] at h9; exact h9
          refine A_instNo hP_3 rfl nc_X12_X11 q1422 dX1_dryBy_66 ?_
          refine A_if_ne_f (tgt := 74) dX1_dryBy_69 (by decide) (by decide) ?_
          refine A_iconst (v := (-1)) dX1_dryBy_72 (by decide) ?_
          exact A_iret dX1_dryBy_73 rfl (⟨by rw [hI36, dcU_s _ _ hi36, if_neg c2, if_neg (by rw [h8_3]; decide)], yτ36⟩)
      · skip
        refine A_iload dX1_dryBy_58 rfl ?_
        exact A_iret dX1_dryBy_60 rfl (⟨by rw [hI36, dcU_s _ _ hi36, if_pos c2], yτ36⟩)
    · skip
      refine A_less (b' := 0) (by omega) ?_
      obtain ⟨⟨P4, hR4⟩, k4, hI36⟩ := hI36
      refine A_wfh (fun wτ36 hgτ36 => ?_)
      have hD4 : WFd (itr passN (va_up N 1 v) 100) := (WFd_passI hD7 hw7 100).1
      have hw4 : WFw (itr passN (va_up N 1 v) 100) := by unfold WFw; rw [(WFd_passI hD7 hw7 100).2]; exact hw7
      have hO4 : own σ.2 (setP V P4) (itr passN (va_up N 1 v) 100) := hO7.sP (passI_nN _ _) (passI_nF _ _)
      have hf4 : f < nF (itr passN (va_up N 1 v) 100) := by rw [passI_nF]; exact hf7
      have yτ36 : ext σ τ36 := k4.toExt
      have hRc := hR4
      obtain ⟨h1t4, ⟨frt4, h2t4, h2pt4⟩, ⟨fmt4, h3t4, h3pt4⟩, ⟨mcnt4, fnAt4, h4t4, h4pt4, h4qt4⟩, ⟨mcft4, ffAt4, h5t4, h5pt4, h5qt4⟩, ⟨fut4, h6t4, h6pt4⟩, h7t4, h8t4, h9t4, h10t4, h11t4⟩ := hRc
      have fτ36t4_0 : τ36.1 (wW V) = some (.inr (.inl (4, [.int ((itr passN (va_up N 1 v) 100) 9), .ref (wR V), .ref (wM V), .ref (wNL V), .ref (wFL V), .ref (wUN V), .int ((itr passN (va_up N 1 v) 100) 6), .int ((itr passN (va_up N 1 v) 100) 8), .int ((itr passN (va_up N 1 v) 100) 0), .int ((itr passN (va_up N 1 v) 100) 1), .int ((itr passN (va_up N 1 v) 100) 2), .int ((itr passN (va_up N 1 v) 100) 3), .int ((itr passN (va_up N 1 v) 100) 4), .int ((itr passN (va_up N 1 v) 100) 5), .int ((itr passN (va_up N 1 v) 100) 11)]))) := h1t4
      have fτ36t4_1 : τ36.1 (wFL V) = some (.inr (.inl (14, [.int mcft4, .ref (wFA V), .int (nI (nF (itr passN (va_up N 1 v) 100)))]))) := h5t4
      have fτ36t4_2 : τ36.1 (wFA V) = some (.inl (.object "java/lang/Object", 12, .inr (.inr (.inr (.inr ffAt4))))) := h5pt4
      have fτ36t4_3 : τ36.1 (wNL V) = some (.inr (.inl (14, [.int mcnt4, .ref (wNA V), .int (nI (nN (itr passN (va_up N 1 v) 100)))]))) := h4t4
      have fτ36t4_4 : τ36.1 (wNA V) = some (.inl (.object "java/lang/Object", 4, .inr (.inr (.inr (.inr fnAt4))))) := h4pt4
      have fτ36t4_5 : τ36.1 (wR V) = some (.inl (.int, 6, .inl frt4)) := h2t4
      have fτ36t4_6 : τ36.1 (wM V) = some (.inl (.int, 3, .inl fmt4)) := h3t4
      have fτ36t4_7 : τ36.1 (wUN V) = some (.inl (.object "FlagLaundry$Test", 7, .inr (.inr (.inr (.inr fut4))))) := h6t4
      refine A_iload dX1_dryBy_36 rfl ?_
      refine A_bipush (v := 99) dX1_dryBy_38 (by decide) ?_
      refine A_icmp_gt_t (tgt := 86) dX1_dryBy_40 (by decide) (by decide) ?_
      refine A_iconst (v := (-1)) dX1_dryBy_86 (by decide) ?_
      exact A_iret dX1_dryBy_87 rfl (⟨by rw [hI36] <;> rfl, yτ36⟩)
  · skip
    have hP_1 : σ2.1 (wP V f) = some (.inr (.inl (10, []))) := by have h9 := (hR7.2.2.2.2.2.2.2.1 f hf7); rw [h8_1] at h9; exact h9
    refine A_instNo hP_1 rfl nc_X12_X11 q1422 dX1_dryBy_25 ?_
    refine A_if_ne_f (tgt := 33) dX1_dryBy_28 (by decide) (by decide) ?_
    refine A_iconst (v := (-1)) dX1_dryBy_31 (by decide) ?_
    exact A_iret dX1_dryBy_32 rfl (⟨by rw [dc_no (by rw [h8_1]; decide : ¬ fl (va_up N 1 v) f 8 = 2)], yW7⟩)
theorem q_dryIn {l : Launch} {g : GC} (σ : AH) (x bf dq sv ou : Nat) (bd pe ep : Int32) (is : Int32) (nv : Value) (W : WA) (N : AF) (f : Int32) (hL : LD g σ is nv W N) (hX : σ.1 x = some (lauC bf bd pe ep nv dq sv ou)) : AMet l g mX1_dryIn 23 174 [.ref x, .int f] σ (A_val (mayT is (bi (okF is N f)) 1) (.int (dryIn N (ix f))) σ) (A_thr ["java/lang/IllegalStateException", "java/lang/IndexOutOfBoundsException"] (mayT is (bi (okF is N f)) 1) σ) := by
  rcases hL with ⟨h0, hn⟩ | ⟨hs, hn, hR, hD, hw, hh⟩
  · subst hn
    refine A_of rfl (by decide) (Nat.le_of_ble_eq_true rfl) (L0 := [(0, .ref x), (1, .int f)]) rfl ?_
    refine A_wfh (fun wσ hgσ => ?_)
    have yσ : ext σ σ := ext.rf
    refine A_aload_n (i := 0) dX1_dryIn_0 rfl rfl ?_
    refine A_iload_n (i := 1) dX1_dryIn_1 rfl rfl ?_
    refine A_callV1 (b' := 0) (u_checkFlag σ x bf dq sv ou bd pe ep f hX) tX1_checkFlag q1490 hX rfl rfl dX1_dryIn_2 (by decide) (Nat.le_of_ble_eq_true rfl) (Nat.le_of_ble_eq_true rfl) (fun w9 τ9 h9 => h9.elim) (fun E9 q9 τ9 h9 => A_out rfl (⟨yσ.tr h9.2, 0, by rw [h9.1]; rfl, by rw [(mayQ_1 h0)]; rfl⟩))
  · subst hn
    have hW := hD.1
    have hR9 := hR
    obtain ⟨h1, ⟨fr, h2, h2p⟩, ⟨fm, h3, h3p⟩, ⟨mcn, fnA, h4, h4p, h4q⟩, ⟨mcf, ffA, h5, h5p, h5q⟩, ⟨fu, h6, h6p⟩, h7, h8, h9, h10, h11⟩ := hR
    have hF12 : nF N ≤ 12 := hW.2.2.2.2.2
    have hN4 : nN N ≤ 4 := hW.2.1.2
    have hC6 : nC N ≤ 6 := hW.1.2
    have hT3 : nT N ≤ 3 := hW.2.2.1.2
    have hP8 : nP N ≤ 8 := hW.2.2.2.1.2
    by_cases ck1 : inR f 0 (N 10 - 1)
    · skip
      obtain ⟨jf, hjf, rfl⟩ := in_ex hW.2.2.2.2.1 (Nat.le_trans hF12 (by decide)) ck1
      have bjf : jf < 2000 := Nat.lt_of_lt_of_le hjf (Nat.le_trans hF12 (by decide))
      refine A_of rfl (by decide) (Nat.le_of_ble_eq_true rfl) (L0 := [(0, .ref x), (1, .int (nI jf))]) rfl ?_
      refine A_wfh (fun wσ hgσ => ?_)
      have yσ : ext σ σ := ext.rf
      refine A_aload_n (i := 0) dX1_dryIn_0 rfl rfl ?_
      refine A_iload_n (i := 1) dX1_dryIn_1 rfl rfl ?_
      refine A_callV1E (b' := 174) (v := some (.ref (wF W jf))) (τ := σ) (c_checkFlag σ x bf dq sv ou bd pe ep W N jf hX hR9 hD hjf) tX1_checkFlag q1490 hX rfl rfl dX1_dryIn_2 (by decide) (Nat.le_of_ble_eq_true rfl) (Nat.le_of_ble_eq_true rfl) ?_
      refine A_astore_n (i := 2) dX1_dryIn_5 rfl (Nat.le_of_ble_eq_true rfl) ?_
      refine A_aload_n (i := 0) dX1_dryIn_6 rfl rfl ?_
      refine A_iload_n (i := 1) dX1_dryIn_7 rfl rfl ?_
      refine A_aload_n (i := 0) dX1_dryIn_8 rfl rfl ?_
      refine A_getf cb_X1 hX 4 (Nat.le_of_ble_eq_true rfl) q242 rfl (v := .ref (wW W)) rfl dX1_dryIn_9 ?_
      refine A_getfN cb_X5 h1 9 (Nat.le_of_ble_eq_true rfl) q847 rfl (v := .int (N 1)) rfl dX1_dryIn_12 ?_
      refine A_callV2 (b' := 2) (c_dryBy σ x bf dq sv ou bd pe ep W N jf (N 1) hX hR9 hD hjf hw) tX1_dryBy q1816 hX rfl rfl dX1_dryIn_15 (by decide) (Nat.le_of_ble_eq_true rfl) (Nat.le_of_ble_eq_true rfl) (fun w9 σ1 h9 => ?_) (fun E9 q9 τ9 h9 => h9.elim)
      obtain ⟨e9, xσ1⟩ := h9
      subst e9
      refine A_wfh (fun wσ1 hgσ1 => ?_)
      have yσ1 : ext σ σ1 := yσ.tr (xσ1)
      have fσ1_0 : σ1.1 (wW W) = some (.inr (.inl (4, [.int (N 9), .ref (wR W), .ref (wM W), .ref (wNL W), .ref (wFL W), .ref (wUN W), .int (N 6), .int (N 8), .int (N 0), .int (N 1), .int (N 2), .int (N 3), .int (N 4), .int (N 5), .int (N 11)]))) := xσ1.at wσ h1
      have fσ1_1 : σ1.1 (wFL W) = some (.inr (.inl (14, [.int mcf, .ref (wFA W), .int (nI (nF N))]))) := xσ1.at wσ h5
      have fσ1_2 : σ1.1 (wFA W) = some (.inl (.object "java/lang/Object", 12, .inr (.inr (.inr (.inr ffA))))) := xσ1.at wσ h5p
      have fσ1_3 : σ1.1 (wNL W) = some (.inr (.inl (14, [.int mcn, .ref (wNA W), .int (nI (nN N))]))) := xσ1.at wσ h4
      have fσ1_4 : σ1.1 (wNA W) = some (.inl (.object "java/lang/Object", 4, .inr (.inr (.inr (.inr fnA))))) := xσ1.at wσ h4p
      have fσ1_5 : σ1.1 (wR W) = some (.inl (.int, 6, .inl fr)) := xσ1.at wσ h2
      have fσ1_6 : σ1.1 (wM W) = some (.inl (.int, 3, .inl fm)) := xσ1.at wσ h3
      have fσ1_7 : σ1.1 (wUN W) = some (.inl (.object "FlagLaundry$Test", 7, .inr (.inr (.inr (.inr fu))))) := xσ1.at wσ h6
      have fσ1_8 : σ1.1 x = some (.inr (.inl (0, [.ref bf, .int bd, .int pe, .int ep, .ref (wW W), .ref dq, .ref sv, .ref ou]))) := xσ1.at wσ hX
      have fσ1_9 : σ1.1 (wF W jf) = some (.inr (.inl (6, [.int (fl N jf 0), .int (fl N jf 1), .int (fl N jf 2), .int (fl N jf 3), .int (fl N jf 4), .int (fl N jf 5), .int (fl N jf 6), .int (fl N jf 7), .ref (wP W jf)]))) := xσ1.at wσ (hR9.2.2.2.2.2.2.1 jf hjf)
      have hRσ1 : RW g σ1 W N := hR9.ext wσ xσ1
      exact A_iret dX1_dryIn_18 rfl (⟨(mayQ_0 hs (bi_n ⟨hs, ck1⟩) (by decide)), by rw [ixn bjf, va_self], yσ1⟩)
    · skip
      refine A_of rfl (by decide) (Nat.le_of_ble_eq_true rfl) (L0 := [(0, .ref x), (1, .int f)]) rfl ?_
      refine A_wfh (fun wσ hgσ => ?_)
      have yσ : ext σ σ := ext.rf
      refine A_aload_n (i := 0) dX1_dryIn_0 rfl rfl ?_
      refine A_iload_n (i := 1) dX1_dryIn_1 rfl rfl ?_
      refine A_callV1 (b' := 0) (c_checkFlag_no σ x bf dq sv ou bd pe ep W N f hX hR9 hD ck1) tX1_checkFlag q1490 hX rfl rfl dX1_dryIn_2 (by decide) (Nat.le_of_ble_eq_true rfl) (Nat.le_of_ble_eq_true rfl) (fun w9 τ9 h9 => h9.elim) (fun E9 q9 τ9 h9 => A_out rfl (⟨yσ.tr h9.2, 1, by rw [h9.1]; rfl, by rw [(mayQ_2 hs (bi_f (fun h => ck1 h.2)))]; rfl⟩))
theorem q_dryByWind {l : Launch} {g : GC} (σ : AH) (x bf dq sv ou : Nat) (bd pe ep : Int32) (is : Int32) (nv : Value) (W : WA) (N : AF) (f v : Int32) (hL : LD g σ is nv W N) (hX : σ.1 x = some (lauC bf bd pe ep nv dq sv ou)) : AMet l g mX1_dryByWind 23 174 [.ref x, .int f, .int v] σ (A_val (mayT is (bi (okF is N f)) (bi (inR v 0 9))) (.int (dryIn (va_up N 1 v) (ix f))) σ) (A_thr ["java/lang/IllegalStateException", "java/lang/IndexOutOfBoundsException", "java/lang/IllegalArgumentException"] (mayT is (bi (okF is N f)) (bi (inR v 0 9))) σ) := by
  rcases hL with ⟨h0, hn⟩ | ⟨hs, hn, hR, hD, hw, hh⟩
  · subst hn
    refine A_of rfl (by decide) (Nat.le_of_ble_eq_true rfl) (L0 := [(0, .ref x), (1, .int f), (2, .int v)]) rfl ?_
    refine A_wfh (fun wσ hgσ => ?_)
    have yσ : ext σ σ := ext.rf
    refine A_aload_n (i := 0) dX1_dryByWind_0 rfl rfl ?_
    refine A_iload_n (i := 1) dX1_dryByWind_1 rfl rfl ?_
    refine A_callV1 (b' := 0) (u_checkFlag σ x bf dq sv ou bd pe ep f hX) tX1_checkFlag q1490 hX rfl rfl dX1_dryByWind_2 (by decide) (Nat.le_of_ble_eq_true rfl) (Nat.le_of_ble_eq_true rfl) (fun w9 τ9 h9 => h9.elim) (fun E9 q9 τ9 h9 => A_out rfl (⟨yσ.tr h9.2, 0, by rw [h9.1]; rfl, by rw [(mayQ_1 h0)]; rfl⟩))
  · subst hn
    have hW := hD.1
    have hR9 := hR
    obtain ⟨h1, ⟨fr, h2, h2p⟩, ⟨fm, h3, h3p⟩, ⟨mcn, fnA, h4, h4p, h4q⟩, ⟨mcf, ffA, h5, h5p, h5q⟩, ⟨fu, h6, h6p⟩, h7, h8, h9, h10, h11⟩ := hR
    have hF12 : nF N ≤ 12 := hW.2.2.2.2.2
    have hN4 : nN N ≤ 4 := hW.2.1.2
    have hC6 : nC N ≤ 6 := hW.1.2
    have hT3 : nT N ≤ 3 := hW.2.2.1.2
    have hP8 : nP N ≤ 8 := hW.2.2.2.1.2
    by_cases ck1 : inR f 0 (N 10 - 1)
    · skip
      obtain ⟨jf, hjf, rfl⟩ := in_ex hW.2.2.2.2.1 (Nat.le_trans hF12 (by decide)) ck1
      have bjf : jf < 2000 := Nat.lt_of_lt_of_le hjf (Nat.le_trans hF12 (by decide))
      by_cases ck2 : inR v 0 9
      · skip
        obtain ⟨jv, hjv, rfl⟩ := in6_ex (n := 9) (by decide) ck2
        have bjv : jv < 2000 := Nat.lt_of_le_of_lt hjv (by decide)
        refine A_of rfl (by decide) (Nat.le_of_ble_eq_true rfl) (L0 := [(0, .ref x), (1, .int (nI jf)), (2, .int (nI jv))]) rfl ?_
        refine A_wfh (fun wσ hgσ => ?_)
        have yσ : ext σ σ := ext.rf
        refine A_aload_n (i := 0) dX1_dryByWind_0 rfl rfl ?_
        refine A_iload_n (i := 1) dX1_dryByWind_1 rfl rfl ?_
        refine A_callV1E (b' := 174) (v := some (.ref (wF W jf))) (τ := σ) (c_checkFlag σ x bf dq sv ou bd pe ep W N jf hX hR9 hD hjf) tX1_checkFlag q1490 hX rfl rfl dX1_dryByWind_2 (by decide) (Nat.le_of_ble_eq_true rfl) (Nat.le_of_ble_eq_true rfl) ?_
        refine A_astore_n (i := 3) dX1_dryByWind_5 rfl (Nat.le_of_ble_eq_true rfl) ?_
        refine A_iload_n (i := 2) dX1_dryByWind_6 rfl rfl ?_
        refine A_i2l dX1_dryByWind_7 rfl ?_
        refine A_lconst (v := 0) dX1_dryByWind_8 rfl ?_
        refine A_ldc2 (v := 9) dX1_dryByWind_9 q1843 ?_
        refine A_callS3E (b' := 174) (v := some (.int (bi (inR (nI jv) 0 9)))) (τ := σ) (c_in1 σ _ _ _ (nI jv) 0 9 rfl (by decide) (by decide)) tX1_in q381 dX1_dryByWind_12 (by decide) (Nat.le_of_ble_eq_true rfl) (Nat.le_of_ble_eq_true rfl) ?_
        refine A_callS1E (b' := 174) (v := none) (τ := σ) (c_cArg σ (bi (inR (nI jv) 0 9)) (bi_n ck2)) tX1_checkArgument q1406 dX1_dryByWind_15 (by decide) (Nat.le_of_ble_eq_true rfl) (Nat.le_of_ble_eq_true rfl) ?_
        refine A_aload_n (i := 0) dX1_dryByWind_18 rfl rfl ?_
        refine A_iload_n (i := 1) dX1_dryByWind_19 rfl rfl ?_
        refine A_iload_n (i := 2) dX1_dryByWind_20 rfl rfl ?_
        refine A_callV2 (b' := 2) (c_dryBy σ x bf dq sv ou bd pe ep W N jf (nI jv) hX hR9 hD hjf ⟨jv, hjv, rfl⟩) tX1_dryBy q1816 hX rfl rfl dX1_dryByWind_21 (by decide) (Nat.le_of_ble_eq_true rfl) (Nat.le_of_ble_eq_true rfl) (fun w9 σ1 h9 => ?_) (fun E9 q9 τ9 h9 => h9.elim)
        obtain ⟨e9, xσ1⟩ := h9
        subst e9
        refine A_wfh (fun wσ1 hgσ1 => ?_)
        have yσ1 : ext σ σ1 := yσ.tr (xσ1)
        have fσ1_0 : σ1.1 (wW W) = some (.inr (.inl (4, [.int (N 9), .ref (wR W), .ref (wM W), .ref (wNL W), .ref (wFL W), .ref (wUN W), .int (N 6), .int (N 8), .int (N 0), .int (N 1), .int (N 2), .int (N 3), .int (N 4), .int (N 5), .int (N 11)]))) := xσ1.at wσ h1
        have fσ1_1 : σ1.1 (wFL W) = some (.inr (.inl (14, [.int mcf, .ref (wFA W), .int (nI (nF N))]))) := xσ1.at wσ h5
        have fσ1_2 : σ1.1 (wFA W) = some (.inl (.object "java/lang/Object", 12, .inr (.inr (.inr (.inr ffA))))) := xσ1.at wσ h5p
        have fσ1_3 : σ1.1 (wNL W) = some (.inr (.inl (14, [.int mcn, .ref (wNA W), .int (nI (nN N))]))) := xσ1.at wσ h4
        have fσ1_4 : σ1.1 (wNA W) = some (.inl (.object "java/lang/Object", 4, .inr (.inr (.inr (.inr fnA))))) := xσ1.at wσ h4p
        have fσ1_5 : σ1.1 (wR W) = some (.inl (.int, 6, .inl fr)) := xσ1.at wσ h2
        have fσ1_6 : σ1.1 (wM W) = some (.inl (.int, 3, .inl fm)) := xσ1.at wσ h3
        have fσ1_7 : σ1.1 (wUN W) = some (.inl (.object "FlagLaundry$Test", 7, .inr (.inr (.inr (.inr fu))))) := xσ1.at wσ h6
        have fσ1_8 : σ1.1 x = some (.inr (.inl (0, [.ref bf, .int bd, .int pe, .int ep, .ref (wW W), .ref dq, .ref sv, .ref ou]))) := xσ1.at wσ hX
        have fσ1_9 : σ1.1 (wF W jf) = some (.inr (.inl (6, [.int (fl N jf 0), .int (fl N jf 1), .int (fl N jf 2), .int (fl N jf 3), .int (fl N jf 4), .int (fl N jf 5), .int (fl N jf 6), .int (fl N jf 7), .ref (wP W jf)]))) := xσ1.at wσ (hR9.2.2.2.2.2.2.1 jf hjf)
        have hRσ1 : RW g σ1 W N := hR9.ext wσ xσ1
        exact A_iret dX1_dryByWind_24 rfl (⟨(mayQ_0 hs (bi_n ⟨hs, ck1⟩) (bi_n ck2)), by rw [ixn bjf] <;> rfl, yσ1⟩)
      · skip
        refine A_of rfl (by decide) (Nat.le_of_ble_eq_true rfl) (L0 := [(0, .ref x), (1, .int (nI jf)), (2, .int v)]) rfl ?_
        refine A_wfh (fun wσ hgσ => ?_)
        have yσ : ext σ σ := ext.rf
        refine A_aload_n (i := 0) dX1_dryByWind_0 rfl rfl ?_
        refine A_iload_n (i := 1) dX1_dryByWind_1 rfl rfl ?_
        refine A_callV1E (b' := 174) (v := some (.ref (wF W jf))) (τ := σ) (c_checkFlag σ x bf dq sv ou bd pe ep W N jf hX hR9 hD hjf) tX1_checkFlag q1490 hX rfl rfl dX1_dryByWind_2 (by decide) (Nat.le_of_ble_eq_true rfl) (Nat.le_of_ble_eq_true rfl) ?_
        refine A_astore_n (i := 3) dX1_dryByWind_5 rfl (Nat.le_of_ble_eq_true rfl) ?_
        refine A_iload_n (i := 2) dX1_dryByWind_6 rfl rfl ?_
        refine A_i2l dX1_dryByWind_7 rfl ?_
        refine A_lconst (v := 0) dX1_dryByWind_8 rfl ?_
        refine A_ldc2 (v := 9) dX1_dryByWind_9 q1843 ?_
        refine A_callS3E (b' := 174) (v := some (.int (bi (inR v 0 9)))) (τ := σ) (c_in1 σ _ _ _ v 0 9 rfl (by decide) (by decide)) tX1_in q381 dX1_dryByWind_12 (by decide) (Nat.le_of_ble_eq_true rfl) (Nat.le_of_ble_eq_true rfl) ?_
        refine A_callS1 (b' := 0) (c_cArg_no σ (bi (inR v 0 9)) (bi_f ck2)) tX1_checkArgument q1406 dX1_dryByWind_15 (by decide) (Nat.le_of_ble_eq_true rfl) (Nat.le_of_ble_eq_true rfl) (fun w9 τ9 h9 => h9.elim) (fun E9 q9 τ9 h9 => A_out rfl (⟨yσ.tr h9.2, 2, by rw [h9.1]; rfl, by rw [(mayQ_3 hs (bi_n ⟨hs, ck1⟩) (bi_f (fun h => ck2 h)))]; rfl⟩))
    · skip
      refine A_of rfl (by decide) (Nat.le_of_ble_eq_true rfl) (L0 := [(0, .ref x), (1, .int f), (2, .int v)]) rfl ?_
      refine A_wfh (fun wσ hgσ => ?_)
      have yσ : ext σ σ := ext.rf
      refine A_aload_n (i := 0) dX1_dryByWind_0 rfl rfl ?_
      refine A_iload_n (i := 1) dX1_dryByWind_1 rfl rfl ?_
      refine A_callV1 (b' := 0) (c_checkFlag_no σ x bf dq sv ou bd pe ep W N f hX hR9 hD ck1) tX1_checkFlag q1490 hX rfl rfl dX1_dryByWind_2 (by decide) (Nat.le_of_ble_eq_true rfl) (Nat.le_of_ble_eq_true rfl) (fun w9 τ9 h9 => h9.elim) (fun E9 q9 τ9 h9 => A_out rfl (⟨yσ.tr h9.2, 1, by rw [h9.1]; rfl, by rw [(mayQ_2 hs (bi_f (fun h => ck1 h.2)))]; rfl⟩))
theorem q_fallsIn {l : Launch} {g : GC} (σ : AH) (x bf dq sv ou : Nat) (bd pe ep : Int32) (is : Int32) (nv : Value) (W : WA) (N : AF) (h : Int32) (hL : LD g σ is nv W N) (hX : σ.1 x = some (lauC bf bd pe ep nv dq sv ou)) : AMet l g mX1_fallsIn 17 172 [.ref x, .int h] σ (A_val (mayT is (bi (inR h 0 99)) 1) (.int (itr passN N (ix h) 5 - N 5)) σ) (A_thr ["java/lang/IllegalStateException", "java/lang/IllegalArgumentException"] (mayT is (bi (inR h 0 99)) 1) σ) := by
  rcases hL with ⟨h0, hn⟩ | ⟨hs, hn, hR, hD, hw, hh⟩
  · subst hn
    refine A_of rfl (by decide) (Nat.le_of_ble_eq_true rfl) (L0 := [(0, .ref x), (1, .int h)]) rfl ?_
    refine A_wfh (fun wσ hgσ => ?_)
    have yσ : ext σ σ := ext.rf
    refine A_aload_n (i := 0) dX1_fallsIn_0 rfl rfl ?_
    refine A_callV0 (b' := 0) (u_loaded σ x bf dq sv ou bd pe ep  hX) tX1_loaded q1383 hX rfl rfl dX1_fallsIn_1 (by decide) (Nat.le_of_ble_eq_true rfl) (Nat.le_of_ble_eq_true rfl) (fun w9 τ9 h9 => h9.elim) (fun E9 q9 τ9 h9 => A_out rfl (⟨yσ.tr h9.2, 0, by rw [h9.1]; rfl, by rw [(mayQ_1 h0)]; rfl⟩))
  · subst hn
    have hW := hD.1
    have hR9 := hR
    obtain ⟨h1, ⟨fr, h2, h2p⟩, ⟨fm, h3, h3p⟩, ⟨mcn, fnA, h4, h4p, h4q⟩, ⟨mcf, ffA, h5, h5p, h5q⟩, ⟨fu, h6, h6p⟩, h7, h8, h9, h10, h11⟩ := hR
    have hF12 : nF N ≤ 12 := hW.2.2.2.2.2
    have hN4 : nN N ≤ 4 := hW.2.1.2
    have hC6 : nC N ≤ 6 := hW.1.2
    have hT3 : nT N ≤ 3 := hW.2.2.1.2
    have hP8 : nP N ≤ 8 := hW.2.2.2.1.2
    by_cases ck1 : inR h 0 99
    · skip
      obtain ⟨jh, hjh, rfl⟩ := in6_ex (n := 99) (by decide) ck1
      have bjh : jh < 2000 := Nat.lt_of_le_of_lt hjh (by decide)
      refine A_of rfl (by decide) (Nat.le_of_ble_eq_true rfl) (L0 := [(0, .ref x), (1, .int (nI jh))]) rfl ?_
      refine A_wfh (fun wσ hgσ => ?_)
      have yσ : ext σ σ := ext.rf
      refine A_aload_n (i := 0) dX1_fallsIn_0 rfl rfl ?_
      refine A_callV0E (b' := 172) (v := some (.ref (wW W))) (τ := σ) (c_loaded σ x bf dq sv ou bd pe ep W N hX hR9 hD) tX1_loaded q1383 hX rfl rfl dX1_fallsIn_1 (by decide) (Nat.le_of_ble_eq_true rfl) (Nat.le_of_ble_eq_true rfl) ?_
      refine A_astore_n (i := 2) dX1_fallsIn_4 rfl (Nat.le_of_ble_eq_true rfl) ?_
      refine A_iload_n (i := 1) dX1_fallsIn_5 rfl rfl ?_
      refine A_i2l dX1_fallsIn_6 rfl ?_
      refine A_lconst (v := 0) dX1_fallsIn_7 rfl ?_
      refine A_ldc2 (v := 99) dX1_fallsIn_8 q1851 ?_
      refine A_callS3E (b' := 172) (v := some (.int (bi (inR (nI jh) 0 99)))) (τ := σ) (c_in1 σ _ _ _ (nI jh) 0 99 rfl (by decide) (by decide)) tX1_in q381 dX1_fallsIn_11 (by decide) (Nat.le_of_ble_eq_true rfl) (Nat.le_of_ble_eq_true rfl) ?_
      refine A_callS1E (b' := 172) (v := none) (τ := σ) (c_cArg σ (bi (inR (nI jh) 0 99)) (bi_n ck1)) tX1_checkArgument q1406 dX1_fallsIn_14 (by decide) (Nat.le_of_ble_eq_true rfl) (Nat.le_of_ble_eq_true rfl) ?_
      refine A_new (b' := 168) (u := 4) cb_X5 q203 q755 q159 (fs := [.int 0, .null, .null, .null, .null, .null, .int 0, .int 0, .int 0, .int 0, .int 0, .int 0, .int 0, .int 0, .int 0]) (by intro j hj; rcases j with _ | j; exact rfl; rcases j with _ | j; exact rfl; rcases j with _ | j; exact rfl; rcases j with _ | j; exact rfl; rcases j with _ | j; exact rfl; rcases j with _ | j; exact rfl; rcases j with _ | j; exact rfl; rcases j with _ | j; exact rfl; rcases j with _ | j; exact rfl; rcases j with _ | j; exact rfl; rcases j with _ | j; exact rfl; rcases j with _ | j; exact rfl; rcases j with _ | j; exact rfl; rcases j with _ | j; exact rfl; rcases j with _ | j; exact rfl; omega) (Nat.le_of_ble_eq_true rfl) ⟨Nat.le_of_ble_eq_true rfl, Nat.le_of_ble_eq_true rfl⟩ dX1_fallsIn_17 ?_
      obtain ⟨σ1, eσ1⟩ : ∃ τ, τ = h_new σ (.inr (.inl (4, [.int 0, .null, .null, .null, .null, .null, .int 0, .int 0, .int 0, .int 0, .int 0, .int 0, .int 0, .int 0, .int 0]))) := ⟨_, rfl⟩
      refine A_st (σ' := σ1) eσ1.symm ?_
      have wσ1 : wfh σ1 := by rw [eσ1]; exact wσ.new
      have fσ1_0 : σ1.1 (wW W) = some (.inr (.inl (4, [.int (N 9), .ref (wR W), .ref (wM W), .ref (wNL W), .ref (wFL W), .ref (wUN W), .int (N 6), .int (N 8), .int (N 0), .int (N 1), .int (N 2), .int (N 3), .int (N 4), .int (N 5), .int (N 11)]))) := by rw [eσ1]; exact (hn_ne (Nat.ne_of_lt (wσ _ _ h1))).trans h1
      have fσ1_1 : σ1.1 (wFL W) = some (.inr (.inl (14, [.int mcf, .ref (wFA W), .int (nI (nF N))]))) := by rw [eσ1]; exact (hn_ne (Nat.ne_of_lt (wσ _ _ h5))).trans h5
      have fσ1_2 : σ1.1 (wFA W) = some (.inl (.object "java/lang/Object", 12, .inr (.inr (.inr (.inr ffA))))) := by rw [eσ1]; exact (hn_ne (Nat.ne_of_lt (wσ _ _ h5p))).trans h5p
      have fσ1_3 : σ1.1 (wNL W) = some (.inr (.inl (14, [.int mcn, .ref (wNA W), .int (nI (nN N))]))) := by rw [eσ1]; exact (hn_ne (Nat.ne_of_lt (wσ _ _ h4))).trans h4
      have fσ1_4 : σ1.1 (wNA W) = some (.inl (.object "java/lang/Object", 4, .inr (.inr (.inr (.inr fnA))))) := by rw [eσ1]; exact (hn_ne (Nat.ne_of_lt (wσ _ _ h4p))).trans h4p
      have fσ1_5 : σ1.1 (wR W) = some (.inl (.int, 6, .inl fr)) := by rw [eσ1]; exact (hn_ne (Nat.ne_of_lt (wσ _ _ h2))).trans h2
      have fσ1_6 : σ1.1 (wM W) = some (.inl (.int, 3, .inl fm)) := by rw [eσ1]; exact (hn_ne (Nat.ne_of_lt (wσ _ _ h3))).trans h3
      have fσ1_7 : σ1.1 (wUN W) = some (.inl (.object "FlagLaundry$Test", 7, .inr (.inr (.inr (.inr fu))))) := by rw [eσ1]; exact (hn_ne (Nat.ne_of_lt (wσ _ _ h6))).trans h6
      have fσ1_8 : σ1.1 x = some (.inr (.inl (0, [.ref bf, .int bd, .int pe, .int ep, .ref (wW W), .ref dq, .ref sv, .ref ou]))) := by rw [eσ1]; exact (hn_ne (Nat.ne_of_lt (wσ _ _ hX))).trans hX
      have fσ1_9 : σ1.1 σ.2 = some (.inr (.inl (4, [.int 0, .null, .null, .null, .null, .null, .int 0, .int 0, .int 0, .int 0, .int 0, .int 0, .int 0, .int 0, .int 0]))) := by rw [eσ1]; exact if_pos rfl
      have xσ1 : ext σ σ1 := by rw [eσ1]; exact ext_new _ _
      have yσ1 : ext σ σ1 := yσ.tr (xσ1)
      have hRσ1 : RW g σ1 W N := hR9.ext wσ xσ1
      refine A_dup dX1_fallsIn_20 rfl ?_
      refine A_aload_n (i := 2) dX1_fallsIn_21 rfl rfl ?_
      refine A_callI1 (b' := 103) (c_wCopy σ1 W N σ.2 fσ1_9 (RW_cut hR9 wσ xσ1) hD (xσ1.1)) tX5_init_2 q1820 dX1_fallsIn_22 (by decide) (Nat.le_of_ble_eq_true rfl) (Nat.le_of_ble_eq_true rfl) (fun w9 τ9 h9 => ?_) (fun E9 q9 τ9 h9 => h9.elim)
      obtain ⟨e9, kV, V, hV, hO, hRV⟩ := h9
      subst e9
      refine A_wfh (fun wτ9 hgτ9 => ?_)
      rw [← hV]
      have xV : ext σ τ9 := ⟨Nat.le_trans xσ1.1 kV.1, fun b hb => (kV.2 b hb).trans (xσ1.2 b hb)⟩
      have hRc := hRV
      obtain ⟨h1v, ⟨frv, h2v, h2pv⟩, ⟨fmv, h3v, h3pv⟩, ⟨mcnv, fnAv, h4v, h4pv, h4qv⟩, ⟨mcfv, ffAv, h5v, h5pv, h5qv⟩, ⟨fuv, h6v, h6pv⟩, h7v, h8v, h9v, h10v, h11v⟩ := hRc
      have fτ9v_0 : τ9.1 (wW V) = some (.inr (.inl (4, [.int (N 9), .ref (wR V), .ref (wM V), .ref (wNL V), .ref (wFL V), .ref (wUN V), .int (N 6), .int (N 8), .int (N 0), .int (N 1), .int (N 2), .int (N 3), .int (N 4), .int (N 5), .int (N 11)]))) := h1v
      have fτ9v_1 : τ9.1 (wFL V) = some (.inr (.inl (14, [.int mcfv, .ref (wFA V), .int (nI (nF N))]))) := h5v
      have fτ9v_2 : τ9.1 (wFA V) = some (.inl (.object "java/lang/Object", 12, .inr (.inr (.inr (.inr ffAv))))) := h5pv
      have fτ9v_3 : τ9.1 (wNL V) = some (.inr (.inl (14, [.int mcnv, .ref (wNA V), .int (nI (nN N))]))) := h4v
      have fτ9v_4 : τ9.1 (wNA V) = some (.inl (.object "java/lang/Object", 4, .inr (.inr (.inr (.inr fnAv))))) := h4pv
      have fτ9v_5 : τ9.1 (wR V) = some (.inl (.int, 6, .inl frv)) := h2v
      have fτ9v_6 : τ9.1 (wM V) = some (.inl (.int, 3, .inl fmv)) := h3v
      have fτ9v_7 : τ9.1 (wUN V) = some (.inl (.object "FlagLaundry$Test", 7, .inr (.inr (.inr (.inr fuv))))) := h6v
      have fxτ9 : τ9.1 x = some (.inr (.inl (0, [.ref bf, .int bd, .int pe, .int ep, .ref (wW W), .ref dq, .ref sv, .ref ou]))) := xV.at wσ hX
      have yτ9 : ext σ τ9 := yσ.tr xV
      refine A_iload_n (i := 1) dX1_fallsIn_25 rfl rfl ?_
      refine A_callV1 (b' := 3) (c_passes5 τ9 V N σ.2 jh hRV hD hO xV.1 hw hjh) tX5_passes q1852 fτ9v_0 rfl rfl dX1_fallsIn_26 (by decide) (Nat.le_of_ble_eq_true rfl) (Nat.le_of_ble_eq_true rfl) (fun w9 σ2 h9 => ?_) (fun E9 q9 τ9 h9 => h9.elim)
      obtain ⟨e9, ⟨Pσ2, hRσ2⟩, kσ2⟩ := h9
      subst e9
      refine A_wfh (fun wσ2 hgσ2 => ?_)
      have hRσ2 : RW g σ2 (setP V Pσ2) (itr passN N jh) := hRσ2
      have hDσ2 : WFd (itr passN N jh) := (WFd_passI hD hw jh).1
      have yσ2 : ext σ σ2 := ((xV.kl (Nat.le_refl _)).tr kσ2).toExt
      have hRc := hRσ2
      obtain ⟨h1σ2, ⟨frσ2, h2σ2, h2pσ2⟩, ⟨fmσ2, h3σ2, h3pσ2⟩, ⟨mcnσ2, fnAσ2, h4σ2, h4pσ2, h4qσ2⟩, ⟨mcfσ2, ffAσ2, h5σ2, h5pσ2, h5qσ2⟩, ⟨fuσ2, h6σ2, h6pσ2⟩, h7σ2, h8σ2, h9σ2, h10σ2, h11σ2⟩ := hRc
      have fσ2σ2_0 : σ2.1 (wW V) = some (.inr (.inl (4, [.int ((itr passN N jh) 9), .ref (wR V), .ref (wM V), .ref (wNL V), .ref (wFL V), .ref (wUN V), .int ((itr passN N jh) 6), .int ((itr passN N jh) 8), .int ((itr passN N jh) 0), .int ((itr passN N jh) 1), .int ((itr passN N jh) 2), .int ((itr passN N jh) 3), .int ((itr passN N jh) 4), .int ((itr passN N jh) 5), .int ((itr passN N jh) 11)]))) := h1σ2
      have fσ2σ2_1 : σ2.1 (wFL V) = some (.inr (.inl (14, [.int mcfσ2, .ref (wFA V), .int (nI (nF (itr passN N jh)))]))) := h5σ2
      have fσ2σ2_2 : σ2.1 (wFA V) = some (.inl (.object "java/lang/Object", 12, .inr (.inr (.inr (.inr ffAσ2))))) := h5pσ2
      have fσ2σ2_3 : σ2.1 (wNL V) = some (.inr (.inl (14, [.int mcnσ2, .ref (wNA V), .int (nI (nN (itr passN N jh)))]))) := h4σ2
      have fσ2σ2_4 : σ2.1 (wNA V) = some (.inl (.object "java/lang/Object", 4, .inr (.inr (.inr (.inr fnAσ2))))) := h4pσ2
      have fσ2σ2_5 : σ2.1 (wR V) = some (.inl (.int, 6, .inl frσ2)) := h2σ2
      have fσ2σ2_6 : σ2.1 (wM V) = some (.inl (.int, 3, .inl fmσ2)) := h3σ2
      have fσ2σ2_7 : σ2.1 (wUN V) = some (.inl (.object "FlagLaundry$Test", 7, .inr (.inr (.inr (.inr fuσ2))))) := h6σ2
      exact A_iret dX1_fallsIn_29 rfl (⟨(mayQ_0 hs (bi_n ck1) (by decide)), by rw [ixn bjh, fells], yσ2⟩)
    · skip
      refine A_of rfl (by decide) (Nat.le_of_ble_eq_true rfl) (L0 := [(0, .ref x), (1, .int h)]) rfl ?_
      refine A_wfh (fun wσ hgσ => ?_)
      have yσ : ext σ σ := ext.rf
      refine A_aload_n (i := 0) dX1_fallsIn_0 rfl rfl ?_
      refine A_callV0E (b' := 172) (v := some (.ref (wW W))) (τ := σ) (c_loaded σ x bf dq sv ou bd pe ep W N hX hR9 hD) tX1_loaded q1383 hX rfl rfl dX1_fallsIn_1 (by decide) (Nat.le_of_ble_eq_true rfl) (Nat.le_of_ble_eq_true rfl) ?_
      refine A_astore_n (i := 2) dX1_fallsIn_4 rfl (Nat.le_of_ble_eq_true rfl) ?_
      refine A_iload_n (i := 1) dX1_fallsIn_5 rfl rfl ?_
      refine A_i2l dX1_fallsIn_6 rfl ?_
      refine A_lconst (v := 0) dX1_fallsIn_7 rfl ?_
      refine A_ldc2 (v := 99) dX1_fallsIn_8 q1851 ?_
      refine A_callS3E (b' := 172) (v := some (.int (bi (inR h 0 99)))) (τ := σ) (c_in1 σ _ _ _ h 0 99 rfl (by decide) (by decide)) tX1_in q381 dX1_fallsIn_11 (by decide) (Nat.le_of_ble_eq_true rfl) (Nat.le_of_ble_eq_true rfl) ?_
      refine A_callS1 (b' := 0) (c_cArg_no σ (bi (inR h 0 99)) (bi_f ck1)) tX1_checkArgument q1406 dX1_fallsIn_14 (by decide) (Nat.le_of_ble_eq_true rfl) (Nat.le_of_ble_eq_true rfl) (fun w9 τ9 h9 => h9.elim) (fun E9 q9 τ9 h9 => A_out rfl (⟨yσ.tr h9.2, 1, by rw [h9.1]; rfl, by rw [(mayQ_2 hs (bi_f (fun h => ck1 h)))]; rfl⟩))
theorem q_ironsFor {l : Launch} {g : GC} (σ : AH) (x bf dq sv ou : Nat) (bd pe ep : Int32) (is : Int32) (nv : Value) (W : WA) (N : AF) (f h : Int32) (hL : LD g σ is nv W N) (hX : σ.1 x = some (lauC bf bd pe ep nv dq sv ou)) : AMet l g mX1_ironsFor 16 8 [.ref x, .int f, .int h] σ (A_val (mayT is (bi (okF is N f)) (bi (inR h 0 3))) (.int (ironForN N (ix f) h)) σ) (A_thr ["java/lang/IllegalStateException", "java/lang/IndexOutOfBoundsException", "java/lang/IllegalArgumentException"] (mayT is (bi (okF is N f)) (bi (inR h 0 3))) σ) := by
  rcases hL with ⟨h0, hn⟩ | ⟨hs, hn, hR, hD, hw, hh⟩
  · subst hn
    refine A_of rfl (by decide) (Nat.le_of_ble_eq_true rfl) (L0 := [(0, .ref x), (1, .int f), (2, .int h)]) rfl ?_
    refine A_wfh (fun wσ hgσ => ?_)
    have yσ : ext σ σ := ext.rf
    refine A_aload_n (i := 0) dX1_ironsFor_0 rfl rfl ?_
    refine A_iload_n (i := 1) dX1_ironsFor_1 rfl rfl ?_
    refine A_iload_n (i := 2) dX1_ironsFor_2 rfl rfl ?_
    refine A_callV2 (b' := 0) (u_checkIron σ x bf dq sv ou bd pe ep f h hX) tX1_checkIron q1684 hX rfl rfl dX1_ironsFor_3 (by decide) (Nat.le_of_ble_eq_true rfl) (Nat.le_of_ble_eq_true rfl) (fun w9 τ9 h9 => h9.elim) (fun E9 q9 τ9 h9 => A_out rfl (⟨yσ.tr h9.2, 0, by rw [h9.1]; rfl, by rw [(mayQ_1 h0)]; rfl⟩))
  · subst hn
    have hW := hD.1
    have hR9 := hR
    obtain ⟨h1, ⟨fr, h2, h2p⟩, ⟨fm, h3, h3p⟩, ⟨mcn, fnA, h4, h4p, h4q⟩, ⟨mcf, ffA, h5, h5p, h5q⟩, ⟨fu, h6, h6p⟩, h7, h8, h9, h10, h11⟩ := hR
    have hF12 : nF N ≤ 12 := hW.2.2.2.2.2
    have hN4 : nN N ≤ 4 := hW.2.1.2
    have hC6 : nC N ≤ 6 := hW.1.2
    have hT3 : nT N ≤ 3 := hW.2.2.1.2
    have hP8 : nP N ≤ 8 := hW.2.2.2.1.2
    by_cases ck1 : inR f 0 (N 10 - 1)
    · skip
      obtain ⟨jf, hjf, rfl⟩ := in_ex hW.2.2.2.2.1 (Nat.le_trans hF12 (by decide)) ck1
      have bjf : jf < 2000 := Nat.lt_of_lt_of_le hjf (Nat.le_trans hF12 (by decide))
      by_cases ck2 : inR h 0 3
      · skip
        obtain ⟨jh, hjh, rfl⟩ := hk_ex ck2
        have bjh : jh < 2000 := Nat.lt_of_le_of_lt hjh (by decide)
        refine A_of rfl (by decide) (Nat.le_of_ble_eq_true rfl) (L0 := [(0, .ref x), (1, .int (nI jf)), (2, .int (nI jh))]) rfl ?_
        refine A_wfh (fun wσ hgσ => ?_)
        have yσ : ext σ σ := ext.rf
        refine A_aload_n (i := 0) dX1_ironsFor_0 rfl rfl ?_
        refine A_iload_n (i := 1) dX1_ironsFor_1 rfl rfl ?_
        refine A_iload_n (i := 2) dX1_ironsFor_2 rfl rfl ?_
        refine A_callV2E (b' := 8) (v := some (.ref (wF W jf))) (τ := σ) (c_checkIron σ x bf dq sv ou bd pe ep W N jf jh hX hR9 hD hjf hjh) tX1_checkIron q1684 hX rfl rfl dX1_ironsFor_3 (by decide) (Nat.le_of_ble_eq_true rfl) (Nat.le_of_ble_eq_true rfl) ?_
        refine A_astore_n (i := 3) dX1_ironsFor_6 rfl (Nat.le_of_ble_eq_true rfl) ?_
        refine A_aload_n (i := 3) dX1_ironsFor_7 rfl rfl ?_
        refine A_iload_n (i := 2) dX1_ironsFor_8 rfl rfl ?_
        refine A_callS2 (b' := 6) (c_ironBar σ W N jf (nI jh) hR9 hD hjf) tX1_ironBar q1688 dX1_ironsFor_9 (by decide) (Nat.le_of_ble_eq_true rfl) (Nat.le_of_ble_eq_true rfl) (fun w9 σ1 h9 => ?_) (fun E9 q9 τ9 h9 => h9.elim)
        obtain ⟨e9, xσ1⟩ := h9
        subst e9
        refine A_wfh (fun wσ1 hgσ1 => ?_)
        have yσ1 : ext σ σ1 := yσ.tr (xσ1)
        have fσ1_0 : σ1.1 (wW W) = some (.inr (.inl (4, [.int (N 9), .ref (wR W), .ref (wM W), .ref (wNL W), .ref (wFL W), .ref (wUN W), .int (N 6), .int (N 8), .int (N 0), .int (N 1), .int (N 2), .int (N 3), .int (N 4), .int (N 5), .int (N 11)]))) := xσ1.at wσ h1
        have fσ1_1 : σ1.1 (wFL W) = some (.inr (.inl (14, [.int mcf, .ref (wFA W), .int (nI (nF N))]))) := xσ1.at wσ h5
        have fσ1_2 : σ1.1 (wFA W) = some (.inl (.object "java/lang/Object", 12, .inr (.inr (.inr (.inr ffA))))) := xσ1.at wσ h5p
        have fσ1_3 : σ1.1 (wNL W) = some (.inr (.inl (14, [.int mcn, .ref (wNA W), .int (nI (nN N))]))) := xσ1.at wσ h4
        have fσ1_4 : σ1.1 (wNA W) = some (.inl (.object "java/lang/Object", 4, .inr (.inr (.inr (.inr fnA))))) := xσ1.at wσ h4p
        have fσ1_5 : σ1.1 (wR W) = some (.inl (.int, 6, .inl fr)) := xσ1.at wσ h2
        have fσ1_6 : σ1.1 (wM W) = some (.inl (.int, 3, .inl fm)) := xσ1.at wσ h3
        have fσ1_7 : σ1.1 (wUN W) = some (.inl (.object "FlagLaundry$Test", 7, .inr (.inr (.inr (.inr fu))))) := xσ1.at wσ h6
        have fσ1_8 : σ1.1 x = some (.inr (.inl (0, [.ref bf, .int bd, .int pe, .int ep, .ref (wW W), .ref dq, .ref sv, .ref ou]))) := xσ1.at wσ hX
        have fσ1_9 : σ1.1 (wF W jf) = some (.inr (.inl (6, [.int (fl N jf 0), .int (fl N jf 1), .int (fl N jf 2), .int (fl N jf 3), .int (fl N jf 4), .int (fl N jf 5), .int (fl N jf 6), .int (fl N jf 7), .ref (wP W jf)]))) := xσ1.at wσ (hR9.2.2.2.2.2.2.1 jf hjf)
        have hRσ1 : RW g σ1 W N := hR9.ext wσ xσ1
        refine A_if_eq (tgt := 28) dX1_ironsFor_12 (by decide) (fun c1 => ?_) (fun c1 => ?_)
        · skip
          have hbar := c1
          obtain ⟨a9, ha9, ea9⟩ := (hD.2 jf hjf).2.2.2.2.2.1
          refine A_new (b' := 3) (u := 3) cb_X7 q1886 q1084 q163 (fs := [.int 0, .int 0, .int 0, .int 0, .int 0, .int 0, .int 0, .int 0, .null]) (by intro j hj; rcases j with _ | j; exact rfl; rcases j with _ | j; exact rfl; rcases j with _ | j; exact rfl; rcases j with _ | j; exact rfl; rcases j with _ | j; exact rfl; rcases j with _ | j; exact rfl; rcases j with _ | j; exact rfl; rcases j with _ | j; exact rfl; rcases j with _ | j; exact rfl; omega) (Nat.le_of_ble_eq_true rfl) ⟨Nat.le_of_ble_eq_true rfl, Nat.le_of_ble_eq_true rfl⟩ dX1_ironsFor_28 ?_
          obtain ⟨σ2, eσ2⟩ : ∃ τ, τ = h_new σ1 (.inr (.inl (6, [.int 0, .int 0, .int 0, .int 0, .int 0, .int 0, .int 0, .int 0, .null]))) := ⟨_, rfl⟩
          refine A_st (σ' := σ2) eσ2.symm ?_
          have wσ2 : wfh σ2 := by rw [eσ2]; exact wσ1.new
          have fσ2_0 : σ2.1 (wW W) = some (.inr (.inl (4, [.int (N 9), .ref (wR W), .ref (wM W), .ref (wNL W), .ref (wFL W), .ref (wUN W), .int (N 6), .int (N 8), .int (N 0), .int (N 1), .int (N 2), .int (N 3), .int (N 4), .int (N 5), .int (N 11)]))) := by rw [eσ2]; exact (hn_ne (Nat.ne_of_lt (wσ1 _ _ fσ1_0))).trans fσ1_0
          have fσ2_1 : σ2.1 (wFL W) = some (.inr (.inl (14, [.int mcf, .ref (wFA W), .int (nI (nF N))]))) := by rw [eσ2]; exact (hn_ne (Nat.ne_of_lt (wσ1 _ _ fσ1_1))).trans fσ1_1
          have fσ2_2 : σ2.1 (wFA W) = some (.inl (.object "java/lang/Object", 12, .inr (.inr (.inr (.inr ffA))))) := by rw [eσ2]; exact (hn_ne (Nat.ne_of_lt (wσ1 _ _ fσ1_2))).trans fσ1_2
          have fσ2_3 : σ2.1 (wNL W) = some (.inr (.inl (14, [.int mcn, .ref (wNA W), .int (nI (nN N))]))) := by rw [eσ2]; exact (hn_ne (Nat.ne_of_lt (wσ1 _ _ fσ1_3))).trans fσ1_3
          have fσ2_4 : σ2.1 (wNA W) = some (.inl (.object "java/lang/Object", 4, .inr (.inr (.inr (.inr fnA))))) := by rw [eσ2]; exact (hn_ne (Nat.ne_of_lt (wσ1 _ _ fσ1_4))).trans fσ1_4
          have fσ2_5 : σ2.1 (wR W) = some (.inl (.int, 6, .inl fr)) := by rw [eσ2]; exact (hn_ne (Nat.ne_of_lt (wσ1 _ _ fσ1_5))).trans fσ1_5
          have fσ2_6 : σ2.1 (wM W) = some (.inl (.int, 3, .inl fm)) := by rw [eσ2]; exact (hn_ne (Nat.ne_of_lt (wσ1 _ _ fσ1_6))).trans fσ1_6
          have fσ2_7 : σ2.1 (wUN W) = some (.inl (.object "FlagLaundry$Test", 7, .inr (.inr (.inr (.inr fu))))) := by rw [eσ2]; exact (hn_ne (Nat.ne_of_lt (wσ1 _ _ fσ1_7))).trans fσ1_7
          have fσ2_8 : σ2.1 x = some (.inr (.inl (0, [.ref bf, .int bd, .int pe, .int ep, .ref (wW W), .ref dq, .ref sv, .ref ou]))) := by rw [eσ2]; exact (hn_ne (Nat.ne_of_lt (wσ1 _ _ fσ1_8))).trans fσ1_8
          have fσ2_9 : σ2.1 (wF W jf) = some (.inr (.inl (6, [.int (fl N jf 0), .int (fl N jf 1), .int (fl N jf 2), .int (fl N jf 3), .int (fl N jf 4), .int (fl N jf 5), .int (fl N jf 6), .int (fl N jf 7), .ref (wP W jf)]))) := by rw [eσ2]; exact (hn_ne (Nat.ne_of_lt (wσ1 _ _ fσ1_9))).trans fσ1_9
          have fσ2_10 : σ2.1 σ1.2 = some (.inr (.inl (6, [.int 0, .int 0, .int 0, .int 0, .int 0, .int 0, .int 0, .int 0, .null]))) := by rw [eσ2]; exact if_pos rfl
          have xσ2 : ext σ1 σ2 := by rw [eσ2]; exact ext_new _ _
          have yσ2 : ext σ σ2 := yσ1.tr (xσ2)
          have hRσ2 : RW g σ2 W N := hRσ1.ext wσ1 xσ2
          refine A_dup dX1_ironsFor_31 rfl ?_
          refine A_aload_n (i := 3) dX1_ironsFor_32 rfl rfl ?_
          refine A_callI1 (b' := 2) (c_fInit2 σ2 σ1.2 (wF W jf) (wP W jf) (fl N jf) fσ2_10 fσ2_9 (Nat.ne_of_lt (wσ1 _ _ (hRσ1.2.2.2.2.2.2.1 jf hjf)))) tX7_init_2 q1887 dX1_ironsFor_33 (by decide) (Nat.le_of_ble_eq_true rfl) (Nat.le_of_ble_eq_true rfl) (fun w9 σ3 h9 => ?_) (fun E9 q9 τ9 h9 => h9.elim)
          obtain ⟨e9, fσ3_a, kσ3⟩ := h9
          subst e9
          refine A_wfh (fun wσ3 hgσ3 => ?_)
          have fσ3_0 : σ3.1 (wW W) = some (.inr (.inl (4, [.int (N 9), .ref (wR W), .ref (wM W), .ref (wNL W), .ref (wFL W), .ref (wUN W), .int (N 6), .int (N 8), .int (N 0), .int (N 1), .int (N 2), .int (N 3), .int (N 4), .int (N 5), .int (N 11)]))) := kσ3.at wσ2 fσ2_0 (ne_of (x := .inr (.inl (4, [.int (N 9), .ref (wR W), .ref (wM W), .ref (wNL W), .ref (wFL W), .ref (wUN W), .int (N 6), .int (N 8), .int (N 0), .int (N 1), .int (N 2), .int (N 3), .int (N 4), .int (N 5), .int (N 11)]))) (y := .inr (.inl (6, [.int 0, .int 0, .int 0, .int 0, .int 0, .int 0, .int 0, .int 0, .null]))) fσ2_0 fσ2_10 (fun e8 => by simp at e8))
          have fσ3_1 : σ3.1 (wFL W) = some (.inr (.inl (14, [.int mcf, .ref (wFA W), .int (nI (nF N))]))) := kσ3.at wσ2 fσ2_1 (ne_of (x := .inr (.inl (14, [.int mcf, .ref (wFA W), .int (nI (nF N))]))) (y := .inr (.inl (6, [.int 0, .int 0, .int 0, .int 0, .int 0, .int 0, .int 0, .int 0, .null]))) fσ2_1 fσ2_10 (fun e8 => by simp at e8))
          have fσ3_2 : σ3.1 (wFA W) = some (.inl (.object "java/lang/Object", 12, .inr (.inr (.inr (.inr ffA))))) := kσ3.at wσ2 fσ2_2 (ne_of (x := .inl (.object "java/lang/Object", 12, .inr (.inr (.inr (.inr ffA))))) (y := .inr (.inl (6, [.int 0, .int 0, .int 0, .int 0, .int 0, .int 0, .int 0, .int 0, .null]))) fσ2_2 fσ2_10 (fun e8 => by simp at e8))
          have fσ3_3 : σ3.1 (wNL W) = some (.inr (.inl (14, [.int mcn, .ref (wNA W), .int (nI (nN N))]))) := kσ3.at wσ2 fσ2_3 (ne_of (x := .inr (.inl (14, [.int mcn, .ref (wNA W), .int (nI (nN N))]))) (y := .inr (.inl (6, [.int 0, .int 0, .int 0, .int 0, .int 0, .int 0, .int 0, .int 0, .null]))) fσ2_3 fσ2_10 (fun e8 => by simp at e8))
          have fσ3_4 : σ3.1 (wNA W) = some (.inl (.object "java/lang/Object", 4, .inr (.inr (.inr (.inr fnA))))) := kσ3.at wσ2 fσ2_4 (ne_of (x := .inl (.object "java/lang/Object", 4, .inr (.inr (.inr (.inr fnA))))) (y := .inr (.inl (6, [.int 0, .int 0, .int 0, .int 0, .int 0, .int 0, .int 0, .int 0, .null]))) fσ2_4 fσ2_10 (fun e8 => by simp at e8))
          have fσ3_5 : σ3.1 (wR W) = some (.inl (.int, 6, .inl fr)) := kσ3.at wσ2 fσ2_5 (ne_of (x := .inl (.int, 6, .inl fr)) (y := .inr (.inl (6, [.int 0, .int 0, .int 0, .int 0, .int 0, .int 0, .int 0, .int 0, .null]))) fσ2_5 fσ2_10 (fun e8 => by simp at e8))
          have fσ3_6 : σ3.1 (wM W) = some (.inl (.int, 3, .inl fm)) := kσ3.at wσ2 fσ2_6 (ne_of (x := .inl (.int, 3, .inl fm)) (y := .inr (.inl (6, [.int 0, .int 0, .int 0, .int 0, .int 0, .int 0, .int 0, .int 0, .null]))) fσ2_6 fσ2_10 (fun e8 => by simp at e8))
          have fσ3_7 : σ3.1 (wUN W) = some (.inl (.object "FlagLaundry$Test", 7, .inr (.inr (.inr (.inr fu))))) := kσ3.at wσ2 fσ2_7 (ne_of (x := .inl (.object "FlagLaundry$Test", 7, .inr (.inr (.inr (.inr fu))))) (y := .inr (.inl (6, [.int 0, .int 0, .int 0, .int 0, .int 0, .int 0, .int 0, .int 0, .null]))) fσ2_7 fσ2_10 (fun e8 => by simp at e8))
          have fσ3_8 : σ3.1 x = some (.inr (.inl (0, [.ref bf, .int bd, .int pe, .int ep, .ref (wW W), .ref dq, .ref sv, .ref ou]))) := kσ3.at wσ2 fσ2_8 (ne_of (x := .inr (.inl (0, [.ref bf, .int bd, .int pe, .int ep, .ref (wW W), .ref dq, .ref sv, .ref ou]))) (y := .inr (.inl (6, [.int 0, .int 0, .int 0, .int 0, .int 0, .int 0, .int 0, .int 0, .null]))) fσ2_8 fσ2_10 (fun e8 => by simp at e8))
          have fσ3_9 : σ3.1 (wF W jf) = some (.inr (.inl (6, [.int (fl N jf 0), .int (fl N jf 1), .int (fl N jf 2), .int (fl N jf 3), .int (fl N jf 4), .int (fl N jf 5), .int (fl N jf 6), .int (fl N jf 7), .ref (wP W jf)]))) := kσ3.at wσ2 fσ2_9 (ne_of (x := .inr (.inl (6, [.int (fl N jf 0), .int (fl N jf 1), .int (fl N jf 2), .int (fl N jf 3), .int (fl N jf 4), .int (fl N jf 5), .int (fl N jf 6), .int (fl N jf 7), .ref (wP W jf)]))) (y := .inr (.inl (6, [.int 0, .int 0, .int 0, .int 0, .int 0, .int 0, .int 0, .int 0, .null]))) fσ2_9 fσ2_10 (fun e8 => by simp at e8))
          refine A_astore dX1_ironsFor_36 (Nat.le_of_ble_eq_true rfl) ?_
          refine A_iconst (v := 0) dX1_ironsFor_38 (by decide) ?_
          refine A_istore dX1_ironsFor_39 (Nat.le_of_ble_eq_true rfl) ?_
          obtain ⟨aθ, eθ⟩ : ∃ a, a = σ1.2 := ⟨_, rfl⟩
          rw [← eθ]
          have fθ := fσ3_a
          rw [← eθ] at fθ
          have hθ : σ.2 ≤ aθ := by rw [eθ]; exact yσ1.1
          refine A_less (b' := ((ironK N jf (nI jh)) - 0) * 0 + 0) (by omega) ?_
          refine A_sub (L' := [(0, .ref x), (1, .int (nI jf)), (2, .int (nI jh)), (3, .ref (wF W jf)), (4, .ref aθ), (5, .int (nI 0))]) ⟨rfl, rfl, rfl, rfl, rfl, rfl, trivial⟩ ?_
          refine A_forP (α := AH) (ironK N jf (nI jh)) (fun i41 _ => ((ironK N jf (nI jh)) - i41) * 0 + 0) (fun i41 _ => [(0, .ref x), (1, .int (nI jf)), (2, .int (nI jh)), (3, .ref (wF W jf)), (4, .ref aθ), (5, .int (nI i41))]) (fun _ τ41 => τ41) (fun i41 τ41 => ext σ τ41 ∧ τ41.1 aθ = some (flgC (fl (itr (fun M => ironN M jf (nI jh)) N i41) jf) (wP W jf))) σ3 (⟨yσ2.kxF kσ3 (by rw [← eθ]; exact hθ), fθ⟩) (fun i41 τ41 hi41 hI41 ih41 => ?_) (fun τ41 hI41 => ?_)
          · skip
            obtain ⟨xτ41, faτ41⟩ := hI41
            refine A_wfh (fun wτ41 hgτ41 => ?_)
            have yτ41 : ext σ τ41 := xτ41
            obtain ⟨hDi, hnFi⟩ := WFd_ironI hD hjf (Nat.lt_succ_of_le hjh) i41
            have hfi : jf < nF (itr (fun M => ironN M jf (nI jh)) N i41) := by rw [hnFi]; exact hjf
            have fτ41_0 : τ41.1 (wW W) = some (.inr (.inl (4, [.int (N 9), .ref (wR W), .ref (wM W), .ref (wNL W), .ref (wFL W), .ref (wUN W), .int (N 6), .int (N 8), .int (N 0), .int (N 1), .int (N 2), .int (N 3), .int (N 4), .int (N 5), .int (N 11)]))) := xτ41.at wσ h1
            have fτ41_1 : τ41.1 (wFL W) = some (.inr (.inl (14, [.int mcf, .ref (wFA W), .int (nI (nF N))]))) := xτ41.at wσ h5
            have fτ41_2 : τ41.1 (wFA W) = some (.inl (.object "java/lang/Object", 12, .inr (.inr (.inr (.inr ffA))))) := xτ41.at wσ h5p
            have fτ41_3 : τ41.1 (wNL W) = some (.inr (.inl (14, [.int mcn, .ref (wNA W), .int (nI (nN N))]))) := xτ41.at wσ h4
            have fτ41_4 : τ41.1 (wNA W) = some (.inl (.object "java/lang/Object", 4, .inr (.inr (.inr (.inr fnA))))) := xτ41.at wσ h4p
            have fτ41_5 : τ41.1 (wR W) = some (.inl (.int, 6, .inl fr)) := xτ41.at wσ h2
            have fτ41_6 : τ41.1 (wM W) = some (.inl (.int, 3, .inl fm)) := xτ41.at wσ h3
            have fτ41_7 : τ41.1 (wUN W) = some (.inl (.object "FlagLaundry$Test", 7, .inr (.inr (.inr (.inr fu))))) := xτ41.at wσ h6
            have fτ41_8 : τ41.1 x = some (.inr (.inl (0, [.ref bf, .int bd, .int pe, .int ep, .ref (wW W), .ref dq, .ref sv, .ref ou]))) := xτ41.at wσ hX
            refine A_aload dX1_ironsFor_41 rfl ?_
            refine A_getfN cb_X7 faτ41 5 (Nat.le_of_ble_eq_true rfl) q1112 rfl (v := .int (fl (itr (fun M => ironN M jf (nI jh)) N i41) jf 5)) rfl dX1_ironsFor_43 ?_
            refine A_if_le_f (tgt := 67) dX1_ironsFor_46 (by decide) (gF_not (fun k => fl (itr (fun M => ironN M jf (nI jh)) N k) jf 5 ≤ 0) 10 0 i41 (Nat.zero_le _) hi41) ?_
            refine A_aload_n (i := 0) dX1_ironsFor_49 rfl rfl ?_
            refine A_getf cb_X1 fτ41_8 4 (Nat.le_of_ble_eq_true rfl) q242 rfl (v := .ref (wW W)) rfl dX1_ironsFor_50 ?_
            refine A_aload dX1_ironsFor_53 rfl ?_
            refine A_iload_n (i := 2) dX1_ironsFor_55 rfl rfl ?_
            refine A_callV2 (b' := ((ironK N jf (nI jh)) - i41) * 0 + 0 + 0) (c_irons5 τ41 aθ (wP W jf) (fl (itr (fun M => ironN M jf (nI jh)) N i41) jf) jh (wW W) faτ41 hjh) tX5_irons q1888 fτ41_0 rfl rfl dX1_ironsFor_56 (by decide) (by omega) (Nat.le_of_ble_eq_true rfl) (fun w9 σ4 h9 => ?_) (fun E9 q9 τ9 h9 => h9.elim)
            obtain ⟨e9, fσ4_a, kσ4⟩ := h9
            subst e9
            refine A_wfh (fun wσ4 hgσ4 => ?_)
            have fσ4_0 : σ4.1 (wW W) = some (.inr (.inl (4, [.int (N 9), .ref (wR W), .ref (wM W), .ref (wNL W), .ref (wFL W), .ref (wUN W), .int (N 6), .int (N 8), .int (N 0), .int (N 1), .int (N 2), .int (N 3), .int (N 4), .int (N 5), .int (N 11)]))) := kσ4.at wτ41 fτ41_0 (ne_of (x := .inr (.inl (4, [.int (N 9), .ref (wR W), .ref (wM W), .ref (wNL W), .ref (wFL W), .ref (wUN W), .int (N 6), .int (N 8), .int (N 0), .int (N 1), .int (N 2), .int (N 3), .int (N 4), .int (N 5), .int (N 11)]))) (y := .inr (.inl (6, [.int (fl (itr (fun M => ironN M jf (nI jh)) N i41) jf 0), .int (fl (itr (fun M => ironN M jf (nI jh)) N i41) jf 1), .int (fl (itr (fun M => ironN M jf (nI jh)) N i41) jf 2), .int (fl (itr (fun M => ironN M jf (nI jh)) N i41) jf 3), .int (fl (itr (fun M => ironN M jf (nI jh)) N i41) jf 4), .int (fl (itr (fun M => ironN M jf (nI jh)) N i41) jf 5), .int (fl (itr (fun M => ironN M jf (nI jh)) N i41) jf 6), .int (fl (itr (fun M => ironN M jf (nI jh)) N i41) jf 7), .ref (wP W jf)]))) fτ41_0 faτ41 (fun e8 => by simp at e8))
            have fσ4_1 : σ4.1 (wFL W) = some (.inr (.inl (14, [.int mcf, .ref (wFA W), .int (nI (nF N))]))) := kσ4.at wτ41 fτ41_1 (ne_of (x := .inr (.inl (14, [.int mcf, .ref (wFA W), .int (nI (nF N))]))) (y := .inr (.inl (6, [.int (fl (itr (fun M => ironN M jf (nI jh)) N i41) jf 0), .int (fl (itr (fun M => ironN M jf (nI jh)) N i41) jf 1), .int (fl (itr (fun M => ironN M jf (nI jh)) N i41) jf 2), .int (fl (itr (fun M => ironN M jf (nI jh)) N i41) jf 3), .int (fl (itr (fun M => ironN M jf (nI jh)) N i41) jf 4), .int (fl (itr (fun M => ironN M jf (nI jh)) N i41) jf 5), .int (fl (itr (fun M => ironN M jf (nI jh)) N i41) jf 6), .int (fl (itr (fun M => ironN M jf (nI jh)) N i41) jf 7), .ref (wP W jf)]))) fτ41_1 faτ41 (fun e8 => by simp at e8))
            have fσ4_2 : σ4.1 (wFA W) = some (.inl (.object "java/lang/Object", 12, .inr (.inr (.inr (.inr ffA))))) := kσ4.at wτ41 fτ41_2 (ne_of (x := .inl (.object "java/lang/Object", 12, .inr (.inr (.inr (.inr ffA))))) (y := .inr (.inl (6, [.int (fl (itr (fun M => ironN M jf (nI jh)) N i41) jf 0), .int (fl (itr (fun M => ironN M jf (nI jh)) N i41) jf 1), .int (fl (itr (fun M => ironN M jf (nI jh)) N i41) jf 2), .int (fl (itr (fun M => ironN M jf (nI jh)) N i41) jf 3), .int (fl (itr (fun M => ironN M jf (nI jh)) N i41) jf 4), .int (fl (itr (fun M => ironN M jf (nI jh)) N i41) jf 5), .int (fl (itr (fun M => ironN M jf (nI jh)) N i41) jf 6), .int (fl (itr (fun M => ironN M jf (nI jh)) N i41) jf 7), .ref (wP W jf)]))) fτ41_2 faτ41 (fun e8 => by simp at e8))
            have fσ4_3 : σ4.1 (wNL W) = some (.inr (.inl (14, [.int mcn, .ref (wNA W), .int (nI (nN N))]))) := kσ4.at wτ41 fτ41_3 (ne_of (x := .inr (.inl (14, [.int mcn, .ref (wNA W), .int (nI (nN N))]))) (y := .inr (.inl (6, [.int (fl (itr (fun M => ironN M jf (nI jh)) N i41) jf 0), .int (fl (itr (fun M => ironN M jf (nI jh)) N i41) jf 1), .int (fl (itr (fun M => ironN M jf (nI jh)) N i41) jf 2), .int (fl (itr (fun M => ironN M jf (nI jh)) N i41) jf 3), .int (fl (itr (fun M => ironN M jf (nI jh)) N i41) jf 4), .int (fl (itr (fun M => ironN M jf (nI jh)) N i41) jf 5), .int (fl (itr (fun M => ironN M jf (nI jh)) N i41) jf 6), .int (fl (itr (fun M => ironN M jf (nI jh)) N i41) jf 7), .ref (wP W jf)]))) fτ41_3 faτ41 (fun e8 => by simp at e8))
            have fσ4_4 : σ4.1 (wNA W) = some (.inl (.object "java/lang/Object", 4, .inr (.inr (.inr (.inr fnA))))) := kσ4.at wτ41 fτ41_4 (ne_of (x := .inl (.object "java/lang/Object", 4, .inr (.inr (.inr (.inr fnA))))) (y := .inr (.inl (6, [.int (fl (itr (fun M => ironN M jf (nI jh)) N i41) jf 0), .int (fl (itr (fun M => ironN M jf (nI jh)) N i41) jf 1), .int (fl (itr (fun M => ironN M jf (nI jh)) N i41) jf 2), .int (fl (itr (fun M => ironN M jf (nI jh)) N i41) jf 3), .int (fl (itr (fun M => ironN M jf (nI jh)) N i41) jf 4), .int (fl (itr (fun M => ironN M jf (nI jh)) N i41) jf 5), .int (fl (itr (fun M => ironN M jf (nI jh)) N i41) jf 6), .int (fl (itr (fun M => ironN M jf (nI jh)) N i41) jf 7), .ref (wP W jf)]))) fτ41_4 faτ41 (fun e8 => by simp at e8))
            have fσ4_5 : σ4.1 (wR W) = some (.inl (.int, 6, .inl fr)) := kσ4.at wτ41 fτ41_5 (ne_of (x := .inl (.int, 6, .inl fr)) (y := .inr (.inl (6, [.int (fl (itr (fun M => ironN M jf (nI jh)) N i41) jf 0), .int (fl (itr (fun M => ironN M jf (nI jh)) N i41) jf 1), .int (fl (itr (fun M => ironN M jf (nI jh)) N i41) jf 2), .int (fl (itr (fun M => ironN M jf (nI jh)) N i41) jf 3), .int (fl (itr (fun M => ironN M jf (nI jh)) N i41) jf 4), .int (fl (itr (fun M => ironN M jf (nI jh)) N i41) jf 5), .int (fl (itr (fun M => ironN M jf (nI jh)) N i41) jf 6), .int (fl (itr (fun M => ironN M jf (nI jh)) N i41) jf 7), .ref (wP W jf)]))) fτ41_5 faτ41 (fun e8 => by simp at e8))
            have fσ4_6 : σ4.1 (wM W) = some (.inl (.int, 3, .inl fm)) := kσ4.at wτ41 fτ41_6 (ne_of (x := .inl (.int, 3, .inl fm)) (y := .inr (.inl (6, [.int (fl (itr (fun M => ironN M jf (nI jh)) N i41) jf 0), .int (fl (itr (fun M => ironN M jf (nI jh)) N i41) jf 1), .int (fl (itr (fun M => ironN M jf (nI jh)) N i41) jf 2), .int (fl (itr (fun M => ironN M jf (nI jh)) N i41) jf 3), .int (fl (itr (fun M => ironN M jf (nI jh)) N i41) jf 4), .int (fl (itr (fun M => ironN M jf (nI jh)) N i41) jf 5), .int (fl (itr (fun M => ironN M jf (nI jh)) N i41) jf 6), .int (fl (itr (fun M => ironN M jf (nI jh)) N i41) jf 7), .ref (wP W jf)]))) fτ41_6 faτ41 (fun e8 => by simp at e8))
            have fσ4_7 : σ4.1 (wUN W) = some (.inl (.object "FlagLaundry$Test", 7, .inr (.inr (.inr (.inr fu))))) := kσ4.at wτ41 fτ41_7 (ne_of (x := .inl (.object "FlagLaundry$Test", 7, .inr (.inr (.inr (.inr fu))))) (y := .inr (.inl (6, [.int (fl (itr (fun M => ironN M jf (nI jh)) N i41) jf 0), .int (fl (itr (fun M => ironN M jf (nI jh)) N i41) jf 1), .int (fl (itr (fun M => ironN M jf (nI jh)) N i41) jf 2), .int (fl (itr (fun M => ironN M jf (nI jh)) N i41) jf 3), .int (fl (itr (fun M => ironN M jf (nI jh)) N i41) jf 4), .int (fl (itr (fun M => ironN M jf (nI jh)) N i41) jf 5), .int (fl (itr (fun M => ironN M jf (nI jh)) N i41) jf 6), .int (fl (itr (fun M => ironN M jf (nI jh)) N i41) jf 7), .ref (wP W jf)]))) fτ41_7 faτ41 (fun e8 => by simp at e8))
            have fσ4_8 : σ4.1 x = some (.inr (.inl (0, [.ref bf, .int bd, .int pe, .int ep, .ref (wW W), .ref dq, .ref sv, .ref ou]))) := kσ4.at wτ41 fτ41_8 (ne_of (x := .inr (.inl (0, [.ref bf, .int bd, .int pe, .int ep, .ref (wW W), .ref dq, .ref sv, .ref ou]))) (y := .inr (.inl (6, [.int (fl (itr (fun M => ironN M jf (nI jh)) N i41) jf 0), .int (fl (itr (fun M => ironN M jf (nI jh)) N i41) jf 1), .int (fl (itr (fun M => ironN M jf (nI jh)) N i41) jf 2), .int (fl (itr (fun M => ironN M jf (nI jh)) N i41) jf 3), .int (fl (itr (fun M => ironN M jf (nI jh)) N i41) jf 4), .int (fl (itr (fun M => ironN M jf (nI jh)) N i41) jf 5), .int (fl (itr (fun M => ironN M jf (nI jh)) N i41) jf 6), .int (fl (itr (fun M => ironN M jf (nI jh)) N i41) jf 7), .ref (wP W jf)]))) fτ41_8 faτ41 (fun e8 => by simp at e8))
            refine A_istore dX1_ironsFor_59 (Nat.le_of_ble_eq_true rfl) ?_
            refine A_iinc (v := nI (i41 + 1)) dX1_ironsFor_61 rfl (nI_inc _ _) (Nat.le_of_ble_eq_true rfl) ?_
            refine A_goto (tgt := 41) dX1_ironsFor_64 (by decide) ?_
            refine A_less (b' := ((ironK N jf (nI jh)) - (i41 + 1)) * 0 + 0) (by omega) ?_
            refine A_sub (L' := [(0, .ref x), (1, .int (nI jf)), (2, .int (nI jh)), (3, .ref (wF W jf)), (4, .ref aθ), (5, .int (nI (i41 + 1)))]) ⟨rfl, rfl, rfl, rfl, rfl, rfl, trivial⟩ ?_
            exact ih41 σ4 (⟨yτ41.kxF kσ4 hθ, by rw [itr_s, flg_eq _ (WFd_iron hDi hfi (Nat.lt_succ_of_le hjh)).2.2.1]; exact fσ4_a⟩)
          · skip
            refine A_less (b' := 0) (by omega) ?_
            obtain ⟨xτ41, faτ41⟩ := hI41
            refine A_wfh (fun wτ41 hgτ41 => ?_)
            have yτ41 : ext σ τ41 := xτ41
            obtain ⟨hDi, hnFi⟩ := WFd_ironI hD hjf (Nat.lt_succ_of_le hjh) (ironK N jf (nI jh))
            have hfi : jf < nF (itr (fun M => ironN M jf (nI jh)) N (ironK N jf (nI jh))) := by rw [hnFi]; exact hjf
            have fτ41_0 : τ41.1 (wW W) = some (.inr (.inl (4, [.int (N 9), .ref (wR W), .ref (wM W), .ref (wNL W), .ref (wFL W), .ref (wUN W), .int (N 6), .int (N 8), .int (N 0), .int (N 1), .int (N 2), .int (N 3), .int (N 4), .int (N 5), .int (N 11)]))) := xτ41.at wσ h1
            have fτ41_1 : τ41.1 (wFL W) = some (.inr (.inl (14, [.int mcf, .ref (wFA W), .int (nI (nF N))]))) := xτ41.at wσ h5
            have fτ41_2 : τ41.1 (wFA W) = some (.inl (.object "java/lang/Object", 12, .inr (.inr (.inr (.inr ffA))))) := xτ41.at wσ h5p
            have fτ41_3 : τ41.1 (wNL W) = some (.inr (.inl (14, [.int mcn, .ref (wNA W), .int (nI (nN N))]))) := xτ41.at wσ h4
            have fτ41_4 : τ41.1 (wNA W) = some (.inl (.object "java/lang/Object", 4, .inr (.inr (.inr (.inr fnA))))) := xτ41.at wσ h4p
            have fτ41_5 : τ41.1 (wR W) = some (.inl (.int, 6, .inl fr)) := xτ41.at wσ h2
            have fτ41_6 : τ41.1 (wM W) = some (.inl (.int, 3, .inl fm)) := xτ41.at wσ h3
            have fτ41_7 : τ41.1 (wUN W) = some (.inl (.object "FlagLaundry$Test", 7, .inr (.inr (.inr (.inr fu))))) := xτ41.at wσ h6
            have fτ41_8 : τ41.1 x = some (.inr (.inl (0, [.ref bf, .int bd, .int pe, .int ep, .ref (wW W), .ref dq, .ref sv, .ref ou]))) := xτ41.at wσ hX
            refine A_aload dX1_ironsFor_41 rfl ?_
            refine A_getfN cb_X7 faτ41 5 (Nat.le_of_ble_eq_true rfl) q1112 rfl (v := .int (fl (itr (fun M => ironN M jf (nI jh)) N (ironK N jf (nI jh))) jf 5)) rfl dX1_ironsFor_43 ?_
            refine A_if_le_t (tgt := 67) dX1_ironsFor_46 (by decide) (gF_at (fun k => fl (itr (fun M => ironN M jf (nI jh)) N k) jf 5 ≤ 0) 10 0 (ironK_lt (Nat.lt_succ_of_le ha9) (Nat.lt_succ_of_le hjh) ea9 rfl)) ?_
            refine A_iload dX1_ironsFor_67 rfl ?_
            exact A_iret dX1_ironsFor_69 rfl (⟨(mayQ_0 hs (bi_n ⟨hs, ck1⟩) (bi_n ck2)), by rw [ixn bjf, ironFor_ok hbar], yτ41⟩)
        · skip
          refine A_aload_n (i := 3) dX1_ironsFor_15 rfl rfl ?_
          refine A_getfN cb_X7 fσ1_9 5 (Nat.le_of_ble_eq_true rfl) q1112 rfl (v := .int (fl N jf 5)) rfl dX1_ironsFor_16 ?_
          refine A_if_ne (tgt := 26) dX1_ironsFor_19 (by decide) (fun c2 => ?_) (fun c2 => ?_)
          · skip
            refine A_iconst (v := (-1)) dX1_ironsFor_26 (by decide) ?_
            exact A_iret dX1_ironsFor_27 rfl (⟨(mayQ_0 hs (bi_n ⟨hs, ck1⟩) (bi_n ck2)), by rw [ixn bjf]; unfold ironForN; rw [if_neg c2, if_neg c1], yσ1⟩)
          · skip
            refine A_iconst (v := 0) dX1_ironsFor_22 (by decide) ?_
            refine A_goto (tgt := 27) dX1_ironsFor_23 (by decide) ?_
            exact A_iret dX1_ironsFor_27 rfl (⟨(mayQ_0 hs (bi_n ⟨hs, ck1⟩) (bi_n ck2)), by rw [ixn bjf]; unfold ironForN; rw [if_pos c2], yσ1⟩)
      · skip
        refine A_of rfl (by decide) (Nat.le_of_ble_eq_true rfl) (L0 := [(0, .ref x), (1, .int (nI jf)), (2, .int h)]) rfl ?_
        refine A_wfh (fun wσ hgσ => ?_)
        have yσ : ext σ σ := ext.rf
        refine A_aload_n (i := 0) dX1_ironsFor_0 rfl rfl ?_
        refine A_iload_n (i := 1) dX1_ironsFor_1 rfl rfl ?_
        refine A_iload_n (i := 2) dX1_ironsFor_2 rfl rfl ?_
        refine A_callV2 (b' := 0) (c_checkIron_no2 σ x bf dq sv ou bd pe ep W N jf h hX hR9 hD hjf ck2) tX1_checkIron q1684 hX rfl rfl dX1_ironsFor_3 (by decide) (Nat.le_of_ble_eq_true rfl) (Nat.le_of_ble_eq_true rfl) (fun w9 τ9 h9 => h9.elim) (fun E9 q9 τ9 h9 => A_out rfl (⟨yσ.tr h9.2, 2, by rw [h9.1]; rfl, by rw [(mayQ_3 hs (bi_n ⟨hs, ck1⟩) (bi_f (fun h => ck2 h)))]; rfl⟩))
    · skip
      refine A_of rfl (by decide) (Nat.le_of_ble_eq_true rfl) (L0 := [(0, .ref x), (1, .int f), (2, .int h)]) rfl ?_
      refine A_wfh (fun wσ hgσ => ?_)
      have yσ : ext σ σ := ext.rf
      refine A_aload_n (i := 0) dX1_ironsFor_0 rfl rfl ?_
      refine A_iload_n (i := 1) dX1_ironsFor_1 rfl rfl ?_
      refine A_iload_n (i := 2) dX1_ironsFor_2 rfl rfl ?_
      refine A_callV2 (b' := 0) (c_checkIron_no σ x bf dq sv ou bd pe ep W N f h hX hR9 hD ck1) tX1_checkIron q1684 hX rfl rfl dX1_ironsFor_3 (by decide) (Nat.le_of_ble_eq_true rfl) (Nat.le_of_ble_eq_true rfl) (fun w9 τ9 h9 => h9.elim) (fun E9 q9 τ9 h9 => A_out rfl (⟨yσ.tr h9.2, 1, by rw [h9.1]; rfl, by rw [(mayQ_2 hs (bi_f (fun h => ck1 h.2)))]; rfl⟩))
