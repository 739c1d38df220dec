/-! THE COMPONENT 13: cells that are no world's; iterators; the pegs' gap; a nation gets its flags -/
/-- a cell such as a world has -/
def isW (e : AE) : Prop := (∃ c vs, e = .inr (.inl (c, vs)) ∧ (c = 4 ∨ c = 5 ∨ c = 6 ∨ c = 7 ∨ c = 8 ∨ c = 9 ∨ c = 10 ∨ c = 14)) ∨ (∃ n f, e = intA n f ∧ (n = 6 ∨ n = 3)) ∨ (∃ n f, e = objA "java/lang/Object" n f ∧ (n = 4 ∨ n = 12)) ∨ ∃ f, e = objA "FlagLaundry$Test" 7 f
theorem isW_no {c : Nat} {vs : List Value} (h : ¬ (c = 4 ∨ c = 5 ∨ c = 6 ∨ c = 7 ∨ c = 8 ∨ c = 9 ∨ c = 10 ∨ c = 14)) : ¬ isW (.inr (.inl (c, vs))) := by
  rintro (⟨c', vs', e, h'⟩ | ⟨n, f, e, -⟩ | ⟨n, f, e, -⟩ | ⟨f, e⟩)
  · injection e with e; injection e with e; injection e with e1 e2; subst e1; exact h h'
  · cases e
  · cases e
  · cases e
theorem isW_lam {c : Nat × List Value} : ¬ isW (.inr (.inr c)) := by
  rintro (⟨c', vs', e, h'⟩ | ⟨n, f, e, -⟩ | ⟨n, f, e, -⟩ | ⟨f, e⟩)
  · injection e with e; cases e
  · cases e
  · cases e
  · cases e
theorem isW_arr {t : FieldType} {v : vp_A} (h : ¬ (t = .int ∧ (v.1 = 6 ∨ v.1 = 3)) ∧ ¬ (t = .object "java/lang/Object" ∧ (v.1 = 4 ∨ v.1 = 12)) ∧ ¬ t = .object "FlagLaundry$Test") : ¬ isW (.inl (t, v)) := by
  obtain ⟨h1, h2, h3⟩ := h
  rintro (⟨c', vs', e, h'⟩ | ⟨n, f, e, h'⟩ | ⟨n, f, e, h'⟩ | ⟨f, e⟩)
  · cases e
  · injection e with e; injection e with e1 e2; subst e2; exact h1 ⟨e1, h'⟩
  · injection e with e; injection e with e1 e2; subst e2; exact h2 ⟨e1, h'⟩
  · injection e with e; injection e with e1 e2; exact h3 e1
theorem isW_plc (k a b : Int32) : isW (.inr (.inl (plc k a b))) := by
  refine Or.inl ⟨(plc k a b).1, (plc k a b).2, rfl, ?_⟩
  unfold plc
  split
  · simp
  · split
    · simp
    · split <;> simp
/-- a cell that is no world's has changed: the world is as it was -/
theorem RW.oth {g : GC} {σ τ : AH} {W : WA} {N : AF} {A : Nat} {c : AE} (h : RW g σ W N) (w : wfh σ) (hA : σ.1 A = some c) (hc : ¬ isW c) (k : kx A σ τ) : RW g τ W N := by
  obtain ⟨h1, ⟨f2, h2, h2'⟩, ⟨f3, h3, h3'⟩, ⟨m4, f4, h4, h4', h4''⟩, ⟨m5, f5, h5, h5', h5''⟩, ⟨f6, h6, h6'⟩, h7, h8, h9, h10⟩ := h
  have q : ∀ {a e}, σ.1 a = some e → isW e → τ.1 a = some e := fun {a e} ha he => k.at w ha (fun z => hc (Option.some.inj ((z ▸ hA).symm.trans ha) ▸ he))
  refine ⟨q h1 (Or.inl ⟨_, _, rfl, by decide⟩), ⟨f2, q h2 (Or.inr (Or.inl ⟨_, _, rfl, by decide⟩)), h2'⟩, ⟨f3, q h3 (Or.inr (Or.inl ⟨_, _, rfl, by decide⟩)), h3'⟩, ⟨m4, f4, q h4 (Or.inl ⟨_, _, rfl, by decide⟩), q h4' (Or.inr (Or.inr (Or.inl ⟨_, _, rfl, by decide⟩))), h4''⟩, ⟨m5, f5, q h5 (Or.inl ⟨_, _, rfl, by decide⟩), q h5' (Or.inr (Or.inr (Or.inl ⟨_, _, rfl, by decide⟩))), h5''⟩, ⟨f6, q h6 (Or.inr (Or.inr (Or.inr ⟨_, rfl⟩))), h6'⟩, fun f hf => q (h7 f hf) (Or.inl ⟨_, _, rfl, by decide⟩), fun f hf => q (h8 f hf) (isW_plc _ _ _), fun n hn => ?_, h10⟩
  obtain ⟨x, k1, k2⟩ := h9 n hn
  exact ⟨x, q k1 (Or.inl ⟨_, _, rfl, by decide⟩), k2⟩
theorem ext.putN {σ τ : AH} {b : Nat} {e : AE} (h : ext σ τ) (hb : σ.2 ≤ b) : ext σ (h_put τ b e) := ⟨h.1, fun a ha => (hp_ne (Nat.ne_of_lt (Nat.lt_of_lt_of_le ha hb))).trans (h.2 a ha)⟩
theorem leU_va (N : AF) (n : Int32) {j : Nat} (hj : j < 41) (v : Int32) : ∀ k, leU (va_up N j v) n k = va_up (leU N n k) j v
  | 0 => rfl
  | k + 1 => by
    rw [leU_s, leU_va N n hj v k, fl_va _ hj, leU_s]
    split
    · exact goTo_va _ hj _ _ _ _
    · rfl
theorem flagsN_va (N : AF) {j : Nat} (hj : j < 41) (h10 : ¬ j = 10) (v n : Int32) : flagsN (va_up N j v) n = flagsN N n := by
  unfold flagsN
  rw [show nF (va_up N j v) = nF N by unfold nF; rw [va_up_ne _ _ (by omega)]]
  simp only [fl_va N hj]
theorem hoN_eq (N : AF) {n : Nat} (hn : n < 4) : hoN N n = va_up (va_up (va_up (va_up (leU N (nI n) (nF N)) 2 (N 2 + payN N n (N 0))) 3 (N 3 + ((flagsN N (nI n) * na N n 1) - payN N n (N 0)))) (18 + 5 * n + 3) 1) (18 + 5 * n + 4) (mx 0 (N 0 - na N n 0)) := by
  have e1 : ho1 N n = va_up N 2 (N 2 + payN N n (N 0)) := rfl
  have e2 : ho2 N n = va_up (va_up N 2 (N 2 + payN N n (N 0))) 3 (N 3 + ((flagsN N (nI n) * na N n 1) - payN N n (N 0))) := by
    unfold ho2
    rw [e1, flagsN_va N (by decide) (by decide), va_up_ne _ _ (by decide : (3 : Nat) ≠ 2), show na (va_up N 2 (N 2 + payN N n (N 0))) n 1 = na N n 1 from va_up_ne _ _ (by omega)]
  have e3 : ho3 N n = va_up (ho2 N n) (18 + 5 * n + 3) 1 := rfl
  have e4 : ho4 N n = va_up (ho3 N n) (18 + 5 * n + 4) (mx 0 (N 0 - na N n 0)) := by
    unfold ho4 setNa lateN
    rw [show ho3 N n 0 = N 0 by rw [e3, e2, va_up_ne _ _ (by omega), va_up_ne _ _ (by omega), va_up_ne _ _ (by omega)], show na (ho3 N n) n 0 = na N n 0 by unfold na; rw [e3, e2, va_up_ne _ _ (by omega), va_up_ne _ _ (by omega), va_up_ne _ _ (by omega)]]
  have e5 : nF (ho4 N n) = nF N := by unfold nF; rw [e4, e3, e2, va_up_ne _ _ (by omega), va_up_ne _ _ (by omega), va_up_ne _ _ (by omega), va_up_ne _ _ (by omega)]
  unfold hoN
  rw [e5, e4, e3, e2, leU_va _ _ (by omega), leU_va _ _ (by omega), leU_va _ _ (by omega), leU_va _ _ (by omega)]
theorem c_gap5 {l : Launch} {g : GC} (σ : AH) (W : WA) (N : AF) (hR : RW g σ W N) (hD : WFd N) : AMet l g mX5_gap 34 5 [.ref (wW W)] σ (A_ext (some (.int (gapN N))) σ) (A_no) := by
  refine A_of rfl (by decide) (Nat.le_of_ble_eq_true rfl) (L0 := [(0, .ref (wW W))]) rfl ?_
  refine A_wfh (fun wσ hgσ => ?_)
  have yσ : ext σ σ := ext.rf
  have hW := hD.1
  have hR9 := hR
  obtain ⟨h1, ⟨fr, h2, h2p⟩, ⟨fm, h3, h3p⟩, ⟨mcn, fnA, h4, h4p, h4q⟩, ⟨mcf, ffA, h5, h5p, h5q⟩, ⟨fu, h6, h6p⟩, h7, h8, h9, h10, h11⟩ := hR
  have hF12 : nF N ≤ 12 := hW.2.2.2.2.2
  have hN4 : nN N ≤ 4 := hW.2.1.2
  have hC6 : nC N ≤ 6 := hW.1.2
  have hT3 : nT N ≤ 3 := hW.2.2.1.2
  have hP8 : nP N ≤ 8 := hW.2.2.2.1.2
  refine A_iconst (v := 0) dX5_gap_0 (by decide) ?_
  refine A_istore_n (i := 1) dX5_gap_1 rfl (Nat.le_of_ble_eq_true rfl) ?_
  refine A_iconst (v := 0) dX5_gap_2 (by decide) ?_
  refine A_istore_n (i := 2) dX5_gap_3 rfl (Nat.le_of_ble_eq_true rfl) ?_
  refine A_aload_n (i := 0) dX5_gap_4 rfl rfl ?_
  refine A_getf cb_X5 h1 4 (Nat.le_of_ble_eq_true rfl) q833 rfl (v := .ref (wFL W)) rfl dX5_gap_5 ?_
  refine A_callF0E (b' := 4) (v := some (.ref σ.2)) (τ := h_put (h_put (h_put (h_new σ (.inr (.inl (15, [.int 0, .int 0, .int 0, .null])))) σ.2 (.inr (.inl (15, [.int 0, .int 0, .int 0, .ref (wFL W)])))) σ.2 (.inr (.inl (15, [.int 0, .int (-1), .int 0, .ref (wFL W)])))) σ.2 (.inr (.inl (15, [.int 0, .int (-1), .int mcf, .ref (wFL W)])))) (c_lIter σ (wFL W) (wFA W) (nF N) mcf h5) tF_iterator q1568 h5 rfl dX5_gap_8 (by decide) (Nat.le_of_ble_eq_true rfl) (Nat.le_of_ble_eq_true rfl) ?_
  obtain ⟨σ1, eσ1⟩ : ∃ τ, τ = h_put (h_put (h_put (h_new σ (.inr (.inl (15, [.int 0, .int 0, .int 0, .null])))) σ.2 (.inr (.inl (15, [.int 0, .int 0, .int 0, .ref (wFL W)])))) σ.2 (.inr (.inl (15, [.int 0, .int (-1), .int 0, .ref (wFL W)])))) σ.2 (.inr (.inl (15, [.int 0, .int (-1), .int mcf, .ref (wFL W)]))) := ⟨_, rfl⟩
  refine A_st (σ' := σ1) eσ1.symm ?_
  have wσ1 : wfh σ1 := by rw [eσ1]; exact ((((wσ.new).put (if_pos rfl)).put (if_pos rfl)).put (if_pos rfl))
  have yσ1 : ext σ σ1 := by rw [eσ1]; exact ((((yσ.tr (ext_new _ _)).putN yσ.1).putN yσ.1).putN yσ.1)
  have xσ1 : ext σ σ1 := by rw [eσ1]; exact ((((ext_new _ _).putN (Nat.le_refl _)).putN (Nat.le_refl _)).putN (Nat.le_refl _))
  have hRσ1 : RW g σ1 W N := hR9.ext wσ xσ1
  have fσ1_0 : σ1.1 (wW W) = some (.inr (.inl (4, [.int (N 9), .ref (wR W), .ref (wM W), .ref (wNL W), .ref (wFL W), .ref (wUN W), .int (N 6), .int (N 8), .int (N 0), .int (N 1), .int (N 2), .int (N 3), .int (N 4), .int (N 5), .int (N 11)]))) := by rw [eσ1]; exact ((hp_ne (Nat.ne_of_lt (wσ _ _ h1))).trans ((hp_ne (Nat.ne_of_lt (wσ _ _ h1))).trans ((hp_ne (Nat.ne_of_lt (wσ _ _ h1))).trans ((hn_ne (Nat.ne_of_lt (wσ _ _ h1))).trans h1))))
  have fσ1_1 : σ1.1 (wFL W) = some (.inr (.inl (14, [.int mcf, .ref (wFA W), .int (nI (nF N))]))) := by rw [eσ1]; exact ((hp_ne (Nat.ne_of_lt (wσ _ _ h5))).trans ((hp_ne (Nat.ne_of_lt (wσ _ _ h5))).trans ((hp_ne (Nat.ne_of_lt (wσ _ _ h5))).trans ((hn_ne (Nat.ne_of_lt (wσ _ _ h5))).trans h5))))
  have fσ1_2 : σ1.1 (wFA W) = some (.inl (.object "java/lang/Object", 12, .inr (.inr (.inr (.inr ffA))))) := by rw [eσ1]; exact ((hp_ne (Nat.ne_of_lt (wσ _ _ h5p))).trans ((hp_ne (Nat.ne_of_lt (wσ _ _ h5p))).trans ((hp_ne (Nat.ne_of_lt (wσ _ _ h5p))).trans ((hn_ne (Nat.ne_of_lt (wσ _ _ h5p))).trans h5p))))
  have fσ1_3 : σ1.1 (wNL W) = some (.inr (.inl (14, [.int mcn, .ref (wNA W), .int (nI (nN N))]))) := by rw [eσ1]; exact ((hp_ne (Nat.ne_of_lt (wσ _ _ h4))).trans ((hp_ne (Nat.ne_of_lt (wσ _ _ h4))).trans ((hp_ne (Nat.ne_of_lt (wσ _ _ h4))).trans ((hn_ne (Nat.ne_of_lt (wσ _ _ h4))).trans h4))))
  have fσ1_4 : σ1.1 (wNA W) = some (.inl (.object "java/lang/Object", 4, .inr (.inr (.inr (.inr fnA))))) := by rw [eσ1]; exact ((hp_ne (Nat.ne_of_lt (wσ _ _ h4p))).trans ((hp_ne (Nat.ne_of_lt (wσ _ _ h4p))).trans ((hp_ne (Nat.ne_of_lt (wσ _ _ h4p))).trans ((hn_ne (Nat.ne_of_lt (wσ _ _ h4p))).trans h4p))))
  have fσ1_5 : σ1.1 (wR W) = some (.inl (.int, 6, .inl fr)) := by rw [eσ1]; exact ((hp_ne (Nat.ne_of_lt (wσ _ _ h2))).trans ((hp_ne (Nat.ne_of_lt (wσ _ _ h2))).trans ((hp_ne (Nat.ne_of_lt (wσ _ _ h2))).trans ((hn_ne (Nat.ne_of_lt (wσ _ _ h2))).trans h2))))
  have fσ1_6 : σ1.1 (wM W) = some (.inl (.int, 3, .inl fm)) := by rw [eσ1]; exact ((hp_ne (Nat.ne_of_lt (wσ _ _ h3))).trans ((hp_ne (Nat.ne_of_lt (wσ _ _ h3))).trans ((hp_ne (Nat.ne_of_lt (wσ _ _ h3))).trans ((hn_ne (Nat.ne_of_lt (wσ _ _ h3))).trans h3))))
  have fσ1_7 : σ1.1 (wUN W) = some (.inl (.object "FlagLaundry$Test", 7, .inr (.inr (.inr (.inr fu))))) := by rw [eσ1]; exact ((hp_ne (Nat.ne_of_lt (wσ _ _ h6))).trans ((hp_ne (Nat.ne_of_lt (wσ _ _ h6))).trans ((hp_ne (Nat.ne_of_lt (wσ _ _ h6))).trans ((hn_ne (Nat.ne_of_lt (wσ _ _ h6))).trans h6))))
  have fσ1_8 : σ1.1 σ.2 = some (.inr (.inl (15, [.int 0, .int (-1), .int mcf, .ref (wFL W)]))) := by rw [eσ1]; exact (if_pos rfl)
  refine A_astore_n (i := 3) dX5_gap_13 rfl (Nat.le_of_ble_eq_true rfl) ?_
  refine A_less (b' := ((nF N) - 0) * 0 + 4) (by omega) ?_
  refine A_sub (L' := [(0, .ref (wW W)), (1, .int (sm (fun f => bi (¬ (fl N f 6 &&& fl N f 1) = 0)) 0)), (2, .int (sm (fun f => if fl N f 8 = 3 then na N (ix (fl N f 0)) 1 else 0) 0)), (3, .ref σ.2)]) ⟨rfl, rfl, rfl, rfl, trivial⟩ ?_
  refine A_forP (α := AH) (nF N) (fun i14 _ => ((nF N) - i14) * 0 + 4) (fun i14 _ => [(0, .ref (wW W)), (1, .int (sm (fun f => bi (¬ (fl N f 6 &&& fl N f 1) = 0)) i14)), (2, .int (sm (fun f => if fl N f 8 = 3 then na N (ix (fl N f 0)) 1 else 0) i14)), (3, .ref σ.2)]) (fun _ τ14 => τ14) (fun i14 τ14 => ext σ τ14 ∧ ∃ lr, τ14.1 σ.2 = some (.inr (.inl (15, [.int (nI i14), .int lr, .int mcf, .ref (wFL W)])))) σ1 (⟨yσ1, _, fσ1_8⟩) (fun i14 τ14 hi14 hI14 ih14 => ?_) (fun τ14 hI14 => ?_)
  · skip
    obtain ⟨xτ14, lr, fiτ14⟩ := hI14
    refine A_wfh (fun wτ14 hgτ14 => ?_)
    have yτ14 : ext σ τ14 := xτ14
    have hRτ14 : RW g τ14 W N := hR9.ext wσ yτ14
    have fτ14_0 : τ14.1 (wW W) = some (.inr (.inl (4, [.int (N 9), .ref (wR W), .ref (wM W), .ref (wNL W), .ref (wFL W), .ref (wUN W), .int (N 6), .int (N 8), .int (N 0), .int (N 1), .int (N 2), .int (N 3), .int (N 4), .int (N 5), .int (N 11)]))) := xτ14.at wσ h1
    have fτ14_1 : τ14.1 (wFL W) = some (.inr (.inl (14, [.int mcf, .ref (wFA W), .int (nI (nF N))]))) := xτ14.at wσ h5
    have fτ14_2 : τ14.1 (wFA W) = some (.inl (.object "java/lang/Object", 12, .inr (.inr (.inr (.inr ffA))))) := xτ14.at wσ h5p
    have fτ14_3 : τ14.1 (wNL W) = some (.inr (.inl (14, [.int mcn, .ref (wNA W), .int (nI (nN N))]))) := xτ14.at wσ h4
    have fτ14_4 : τ14.1 (wNA W) = some (.inl (.object "java/lang/Object", 4, .inr (.inr (.inr (.inr fnA))))) := xτ14.at wσ h4p
    have fτ14_5 : τ14.1 (wR W) = some (.inl (.int, 6, .inl fr)) := xτ14.at wσ h2
    have fτ14_6 : τ14.1 (wM W) = some (.inl (.int, 3, .inl fm)) := xτ14.at wσ h3
    have fτ14_7 : τ14.1 (wUN W) = some (.inl (.object "FlagLaundry$Test", 7, .inr (.inr (.inr (.inr fu))))) := xτ14.at wσ h6
    refine A_aload_n (i := 3) dX5_gap_14 rfl rfl ?_
    refine A_callF0E (b' := ((nF N) - i14) * 0 + 4 + 0) (v := some (.int (bi (i14 < nF N)))) (τ := τ14) (c_iHas τ14 σ.2 (wFL W) (wFA W) (nF N) i14 mcf lr fiτ14 fτ14_1 (Nat.le_of_lt hi14) (by omega)) tF_hasNext q1596 fiτ14 rfl dX5_gap_15 (by decide) (by omega) (Nat.le_of_ble_eq_true rfl) ?_
    refine A_if_eq_f (tgt := 88) dX5_gap_20 (by decide) (by rw [bi_t hi14]; decide) ?_
    refine A_aload_n (i := 3) dX5_gap_23 rfl rfl ?_
    refine A_callF0E (b' := ((nF N) - i14) * 0 + 4 + 0) (v := some (.ref (wF W i14))) (τ := h_put (h_put τ14 σ.2 (.inr (.inl (15, [.int (nI (i14 + 1)), .int lr, .int mcf, .ref (wFL W)])))) σ.2 (.inr (.inl (15, [.int (nI (i14 + 1)), .int (nI i14), .int mcf, .ref (wFL W)])))) (c_iNext τ14 σ.2 (wFL W) (wFA W) (nF N) 12 i14 (wF W i14) mcf lr ffA fiτ14 fτ14_1 fτ14_2 hi14 (by omega) (by decide) (h5q i14 hi14)) tF_next q1606 fiτ14 rfl dX5_gap_24 (by decide) (by omega) (Nat.le_of_ble_eq_true rfl) ?_
    obtain ⟨σ2, eσ2⟩ : ∃ τ, τ = h_put (h_put τ14 σ.2 (.inr (.inl (15, [.int (nI (i14 + 1)), .int lr, .int mcf, .ref (wFL W)])))) σ.2 (.inr (.inl (15, [.int (nI (i14 + 1)), .int (nI i14), .int mcf, .ref (wFL W)]))) := ⟨_, rfl⟩
    refine A_st (σ' := σ2) eσ2.symm ?_
    have wσ2 : wfh σ2 := by rw [eσ2]; exact ((wτ14.put fiτ14).put (if_pos rfl))
    have yσ2 : ext σ σ2 := by rw [eσ2]; exact ((yτ14.putN yσ.1).putN yσ.1)
    have hRσ2 : RW g σ2 W N := hRτ14.oth wτ14 fiτ14 (isW_no (by decide)) (by rw [eσ2]; exact kx.rf.put.put)
    have fσ2_0 : σ2.1 (wW W) = some (.inr (.inl (4, [.int (N 9), .ref (wR W), .ref (wM W), .ref (wNL W), .ref (wFL W), .ref (wUN W), .int (N 6), .int (N 8), .int (N 0), .int (N 1), .int (N 2), .int (N 3), .int (N 4), .int (N 5), .int (N 11)]))) := by rw [eσ2]; exact ((hp_ne (ne_of (x := .inr (.inl (4, [.int (N 9), .ref (wR W), .ref (wM W), .ref (wNL W), .ref (wFL W), .ref (wUN W), .int (N 6), .int (N 8), .int (N 0), .int (N 1), .int (N 2), .int (N 3), .int (N 4), .int (N 5), .int (N 11)]))) (y := .inr (.inl (15, [.int (nI i14), .int lr, .int mcf, .ref (wFL W)]))) fτ14_0 fiτ14 (fun e8 => by simp at e8))).trans ((hp_ne (ne_of (x := .inr (.inl (4, [.int (N 9), .ref (wR W), .ref (wM W), .ref (wNL W), .ref (wFL W), .ref (wUN W), .int (N 6), .int (N 8), .int (N 0), .int (N 1), .int (N 2), .int (N 3), .int (N 4), .int (N 5), .int (N 11)]))) (y := .inr (.inl (15, [.int (nI i14), .int lr, .int mcf, .ref (wFL W)]))) fτ14_0 fiτ14 (fun e8 => by simp at e8))).trans fτ14_0))
    have fσ2_1 : σ2.1 (wFL W) = some (.inr (.inl (14, [.int mcf, .ref (wFA W), .int (nI (nF N))]))) := by rw [eσ2]; exact ((hp_ne (ne_of (x := .inr (.inl (14, [.int mcf, .ref (wFA W), .int (nI (nF N))]))) (y := .inr (.inl (15, [.int (nI i14), .int lr, .int mcf, .ref (wFL W)]))) fτ14_1 fiτ14 (fun e8 => by simp at e8))).trans ((hp_ne (ne_of (x := .inr (.inl (14, [.int mcf, .ref (wFA W), .int (nI (nF N))]))) (y := .inr (.inl (15, [.int (nI i14), .int lr, .int mcf, .ref (wFL W)]))) fτ14_1 fiτ14 (fun e8 => by simp at e8))).trans fτ14_1))
    have fσ2_2 : σ2.1 (wFA W) = some (.inl (.object "java/lang/Object", 12, .inr (.inr (.inr (.inr ffA))))) := by rw [eσ2]; exact ((hp_ne (ne_of (x := .inl (.object "java/lang/Object", 12, .inr (.inr (.inr (.inr ffA))))) (y := .inr (.inl (15, [.int (nI i14), .int lr, .int mcf, .ref (wFL W)]))) fτ14_2 fiτ14 (fun e8 => by simp at e8))).trans ((hp_ne (ne_of (x := .inl (.object "java/lang/Object", 12, .inr (.inr (.inr (.inr ffA))))) (y := .inr (.inl (15, [.int (nI i14), .int lr, .int mcf, .ref (wFL W)]))) fτ14_2 fiτ14 (fun e8 => by simp at e8))).trans fτ14_2))
    have fσ2_3 : σ2.1 (wNL W) = some (.inr (.inl (14, [.int mcn, .ref (wNA W), .int (nI (nN N))]))) := by rw [eσ2]; exact ((hp_ne (ne_of (x := .inr (.inl (14, [.int mcn, .ref (wNA W), .int (nI (nN N))]))) (y := .inr (.inl (15, [.int (nI i14), .int lr, .int mcf, .ref (wFL W)]))) fτ14_3 fiτ14 (fun e8 => by simp at e8))).trans ((hp_ne (ne_of (x := .inr (.inl (14, [.int mcn, .ref (wNA W), .int (nI (nN N))]))) (y := .inr (.inl (15, [.int (nI i14), .int lr, .int mcf, .ref (wFL W)]))) fτ14_3 fiτ14 (fun e8 => by simp at e8))).trans fτ14_3))
    have fσ2_4 : σ2.1 (wNA W) = some (.inl (.object "java/lang/Object", 4, .inr (.inr (.inr (.inr fnA))))) := by rw [eσ2]; exact ((hp_ne (ne_of (x := .inl (.object "java/lang/Object", 4, .inr (.inr (.inr (.inr fnA))))) (y := .inr (.inl (15, [.int (nI i14), .int lr, .int mcf, .ref (wFL W)]))) fτ14_4 fiτ14 (fun e8 => by simp at e8))).trans ((hp_ne (ne_of (x := .inl (.object "java/lang/Object", 4, .inr (.inr (.inr (.inr fnA))))) (y := .inr (.inl (15, [.int (nI i14), .int lr, .int mcf, .ref (wFL W)]))) fτ14_4 fiτ14 (fun e8 => by simp at e8))).trans fτ14_4))
    have fσ2_5 : σ2.1 (wR W) = some (.inl (.int, 6, .inl fr)) := by rw [eσ2]; exact ((hp_ne (ne_of (x := .inl (.int, 6, .inl fr)) (y := .inr (.inl (15, [.int (nI i14), .int lr, .int mcf, .ref (wFL W)]))) fτ14_5 fiτ14 (fun e8 => by simp at e8))).trans ((hp_ne (ne_of (x := .inl (.int, 6, .inl fr)) (y := .inr (.inl (15, [.int (nI i14), .int lr, .int mcf, .ref (wFL W)]))) fτ14_5 fiτ14 (fun e8 => by simp at e8))).trans fτ14_5))
    have fσ2_6 : σ2.1 (wM W) = some (.inl (.int, 3, .inl fm)) := by rw [eσ2]; exact ((hp_ne (ne_of (x := .inl (.int, 3, .inl fm)) (y := .inr (.inl (15, [.int (nI i14), .int lr, .int mcf, .ref (wFL W)]))) fτ14_6 fiτ14 (fun e8 => by simp at e8))).trans ((hp_ne (ne_of (x := .inl (.int, 3, .inl fm)) (y := .inr (.inl (15, [.int (nI i14), .int lr, .int mcf, .ref (wFL W)]))) fτ14_6 fiτ14 (fun e8 => by simp at e8))).trans fτ14_6))
    have fσ2_7 : σ2.1 (wUN W) = some (.inl (.object "FlagLaundry$Test", 7, .inr (.inr (.inr (.inr fu))))) := by rw [eσ2]; exact ((hp_ne (ne_of (x := .inl (.object "FlagLaundry$Test", 7, .inr (.inr (.inr (.inr fu))))) (y := .inr (.inl (15, [.int (nI i14), .int lr, .int mcf, .ref (wFL W)]))) fτ14_7 fiτ14 (fun e8 => by simp at e8))).trans ((hp_ne (ne_of (x := .inl (.object "FlagLaundry$Test", 7, .inr (.inr (.inr (.inr fu))))) (y := .inr (.inl (15, [.int (nI i14), .int lr, .int mcf, .ref (wFL W)]))) fτ14_7 fiτ14 (fun e8 => by simp at e8))).trans fτ14_7))
    have fσ2_8 : σ2.1 σ.2 = some (.inr (.inl (15, [.int (nI (i14 + 1)), .int (nI i14), .int mcf, .ref (wFL W)]))) := by rw [eσ2]; exact (if_pos rfl)
    have fσ2_9 : σ2.1 (wF W i14) = some (.inr (.inl (6, [.int (fl N i14 0), .int (fl N i14 1), .int (fl N i14 2), .int (fl N i14 3), .int (fl N i14 4), .int (fl N i14 5), .int (fl N i14 6), .int (fl N i14 7), .ref (wP W i14)]))) := by rw [eσ2]; exact ((hp_ne (ne_of (x := .inr (.inl (6, [.int (fl N i14 0), .int (fl N i14 1), .int (fl N i14 2), .int (fl N i14 3), .int (fl N i14 4), .int (fl N i14 5), .int (fl N i14 6), .int (fl N i14 7), .ref (wP W i14)]))) (y := .inr (.inl (15, [.int (nI i14), .int lr, .int mcf, .ref (wFL W)]))) (hRτ14.2.2.2.2.2.2.1 i14 hi14) fiτ14 (fun e8 => by simp at e8))).trans ((hp_ne (ne_of (x := .inr (.inl (6, [.int (fl N i14 0), .int (fl N i14 1), .int (fl N i14 2), .int (fl N i14 3), .int (fl N i14 4), .int (fl N i14 5), .int (fl N i14 6), .int (fl N i14 7), .ref (wP W i14)]))) (y := .inr (.inl (15, [.int (nI i14), .int lr, .int mcf, .ref (wFL W)]))) (hRτ14.2.2.2.2.2.2.1 i14 hi14) fiτ14 (fun e8 => by simp at e8))).trans (hRτ14.2.2.2.2.2.2.1 i14 hi14)))
    refine A_castE fσ2_9 rfl q1174 dX5_gap_29 ?_
    refine A_astore dX5_gap_32 (Nat.le_of_ble_eq_true rfl) ?_
    refine A_aload dX5_gap_34 rfl ?_
    refine A_getfN cb_X7 fσ2_9 8 (Nat.le_of_ble_eq_true rfl) q1121 rfl (v := .ref (wP W i14)) rfl dX5_gap_36 ?_
    rcases (flok_k hD hi14) with h8_1 | h8_1 | h8_1 | h8_1
    · skip
      have hP_1 : σ2.1 (wP W i14) = some (.inr (.inl (7, []))) := by have h9 := (hRσ2.2.2.2.2.2.2.2.1 i14 hi14); rw [h8_1] at h9; exact h9
      refine A_instNo hP_1 rfl nc_X8_X12 q807 dX5_gap_39 ?_
      refine A_if_eq_t (tgt := 60) dX5_gap_42 (by decide) (by decide) ?_
      refine A_iload_n (i := 1) dX5_gap_60 rfl rfl ?_
      refine A_aload dX5_gap_61 rfl ?_
      refine A_getfN cb_X7 fσ2_9 6 (Nat.le_of_ble_eq_true rfl) q1115 rfl (v := .int (fl N i14 6)) rfl dX5_gap_63 ?_
      refine A_aload dX5_gap_66 rfl ?_
      refine A_getfN cb_X7 fσ2_9 1 (Nat.le_of_ble_eq_true rfl) q1100 rfl (v := .int (fl N i14 1)) rfl dX5_gap_68 ?_
      refine A_iand dX5_gap_71 ?_
      refine A_if_eq (tgt := 79) dX5_gap_72 (by decide) (fun c2 => ?_) (fun c2 => ?_)
      · skip
        refine A_iconst (v := 0) dX5_gap_79 (by decide) ?_
        refine A_callSN1E (b' := ((nF N) - i14) * 0 + 4 + 0) (v := some (.int (oneI 0))) (τ := σ2) (c_one1 σ2 0) tX1_one q1205 dX5_gap_80 (by decide) (by omega) (Nat.le_of_ble_eq_true rfl) ?_
        refine A_int (w := bi (¬ (fl N i14 6 &&& fl N i14 1) = 0)) (by rw [bi_f (not_not_intro c2)] <;> rfl) ?_
        refine A_iadd dX5_gap_83 ?_
        refine A_int (w := sm (fun f => bi (¬ (fl N f 6 &&& fl N f 1) = 0)) (i14 + 1)) (rfl) ?_
        refine A_istore_n (i := 1) dX5_gap_84 rfl (Nat.le_of_ble_eq_true rfl) ?_
        refine A_goto (tgt := 14) dX5_gap_85 (by decide) ?_
        refine A_less (b' := ((nF N) - (i14 + 1)) * 0 + 4) (by omega) ?_
        refine A_sub (L' := [(0, .ref (wW W)), (1, .int (sm (fun f => bi (¬ (fl N f 6 &&& fl N f 1) = 0)) (i14 + 1))), (2, .int (sm (fun f => if fl N f 8 = 3 then na N (ix (fl N f 0)) 1 else 0) (i14 + 1))), (3, .ref σ.2)]) ⟨rfl, rfl, (by rw [sm_s (fun f => if fl N f 8 = 3 then na N (ix (fl N f 0)) 1 else 0) i14, if_neg (by rw [h8_1]; decide), Int32.add_zero]; rfl), rfl, trivial⟩ ?_
        exact ih14 σ2 (⟨yσ2, _, fσ2_8⟩)
      · skip
        refine A_iconst (v := 1) dX5_gap_75 (by decide) ?_
        refine A_goto (tgt := 80) dX5_gap_76 (by decide) ?_
        refine A_callSN1E (b' := ((nF N) - i14) * 0 + 4 + 0) (v := some (.int (oneI 1))) (τ := σ2) (c_one1 σ2 1) tX1_one q1205 dX5_gap_80 (by decide) (by omega) (Nat.le_of_ble_eq_true rfl) ?_
        refine A_int (w := bi (¬ (fl N i14 6 &&& fl N i14 1) = 0)) (by rw [bi_t c2] <;> rfl) ?_
        refine A_iadd dX5_gap_83 ?_
        refine A_int (w := sm (fun f => bi (¬ (fl N f 6 &&& fl N f 1) = 0)) (i14 + 1)) (rfl) ?_
        refine A_istore_n (i := 1) dX5_gap_84 rfl (Nat.le_of_ble_eq_true rfl) ?_
        refine A_goto (tgt := 14) dX5_gap_85 (by decide) ?_
        refine A_less (b' := ((nF N) - (i14 + 1)) * 0 + 4) (by omega) ?_
        refine A_sub (L' := [(0, .ref (wW W)), (1, .int (sm (fun f => bi (¬ (fl N f 6 &&& fl N f 1) = 0)) (i14 + 1))), (2, .int (sm (fun f => if fl N f 8 = 3 then na N (ix (fl N f 0)) 1 else 0) (i14 + 1))), (3, .ref σ.2)]) ⟨rfl, rfl, (by rw [sm_s (fun f => if fl N f 8 = 3 then na N (ix (fl N f 0)) 1 else 0) i14, if_neg (by rw [h8_1]; decide), Int32.add_zero]; rfl), rfl, trivial⟩ ?_
        exact ih14 σ2 (⟨yσ2, _, fσ2_8⟩)
    · skip
      have hP_1 : σ2.1 (wP W i14) = some (.inr (.inl (8, [.int ((fl N i14) 9), .int ((fl N i14) 10)]))) := by have h9 := (hRσ2.2.2.2.2.2.2.2.1 i14 hi14); rw [h8_1] at h9; exact h9
      refine A_instNo hP_1 rfl nc_X9_X12 q807 dX5_gap_39 ?_
      refine A_if_eq_t (tgt := 60) dX5_gap_42 (by decide) (by decide) ?_
      refine A_iload_n (i := 1) dX5_gap_60 rfl rfl ?_
      refine A_aload dX5_gap_61 rfl ?_
      refine A_getfN cb_X7 fσ2_9 6 (Nat.le_of_ble_eq_true rfl) q1115 rfl (v := .int (fl N i14 6)) rfl dX5_gap_63 ?_
      refine A_aload dX5_gap_66 rfl ?_
      refine A_getfN cb_X7 fσ2_9 1 (Nat.le_of_ble_eq_true rfl) q1100 rfl (v := .int (fl N i14 1)) rfl dX5_gap_68 ?_
      refine A_iand dX5_gap_71 ?_
      refine A_if_eq (tgt := 79) dX5_gap_72 (by decide) (fun c3 => ?_) (fun c3 => ?_)
      · skip
        refine A_iconst (v := 0) dX5_gap_79 (by decide) ?_
        refine A_callSN1E (b' := ((nF N) - i14) * 0 + 4 + 0) (v := some (.int (oneI 0))) (τ := σ2) (c_one1 σ2 0) tX1_one q1205 dX5_gap_80 (by decide) (by omega) (Nat.le_of_ble_eq_true rfl) ?_
        refine A_int (w := bi (¬ (fl N i14 6 &&& fl N i14 1) = 0)) (by rw [bi_f (not_not_intro c3)] <;> rfl) ?_
        refine A_iadd dX5_gap_83 ?_
        refine A_int (w := sm (fun f => bi (¬ (fl N f 6 &&& fl N f 1) = 0)) (i14 + 1)) (rfl) ?_
        refine A_istore_n (i := 1) dX5_gap_84 rfl (Nat.le_of_ble_eq_true rfl) ?_
        refine A_goto (tgt := 14) dX5_gap_85 (by decide) ?_
        refine A_less (b' := ((nF N) - (i14 + 1)) * 0 + 4) (by omega) ?_
        refine A_sub (L' := [(0, .ref (wW W)), (1, .int (sm (fun f => bi (¬ (fl N f 6 &&& fl N f 1) = 0)) (i14 + 1))), (2, .int (sm (fun f => if fl N f 8 = 3 then na N (ix (fl N f 0)) 1 else 0) (i14 + 1))), (3, .ref σ.2)]) ⟨rfl, rfl, (by rw [sm_s (fun f => if fl N f 8 = 3 then na N (ix (fl N f 0)) 1 else 0) i14, if_neg (by rw [h8_1]; decide), Int32.add_zero]; rfl), rfl, trivial⟩ ?_
        exact ih14 σ2 (⟨yσ2, _, fσ2_8⟩)
      · skip
        refine A_iconst (v := 1) dX5_gap_75 (by decide) ?_
        refine A_goto (tgt := 80) dX5_gap_76 (by decide) ?_
        refine A_callSN1E (b' := ((nF N) - i14) * 0 + 4 + 0) (v := some (.int (oneI 1))) (τ := σ2) (c_one1 σ2 1) tX1_one q1205 dX5_gap_80 (by decide) (by omega) (Nat.le_of_ble_eq_true rfl) ?_
        refine A_int (w := bi (¬ (fl N i14 6 &&& fl N i14 1) = 0)) (by rw [bi_t c3] <;> rfl) ?_
        refine A_iadd dX5_gap_83 ?_
        refine A_int (w := sm (fun f => bi (¬ (fl N f 6 &&& fl N f 1) = 0)) (i14 + 1)) (rfl) ?_
        refine A_istore_n (i := 1) dX5_gap_84 rfl (Nat.le_of_ble_eq_true rfl) ?_
        refine A_goto (tgt := 14) dX5_gap_85 (by decide) ?_
        refine A_less (b' := ((nF N) - (i14 + 1)) * 0 + 4) (by omega) ?_
        refine A_sub (L' := [(0, .ref (wW W)), (1, .int (sm (fun f => bi (¬ (fl N f 6 &&& fl N f 1) = 0)) (i14 + 1))), (2, .int (sm (fun f => if fl N f 8 = 3 then na N (ix (fl N f 0)) 1 else 0) (i14 + 1))), (3, .ref σ.2)]) ⟨rfl, rfl, (by rw [sm_s (fun f => if fl N f 8 = 3 then na N (ix (fl N f 0)) 1 else 0) i14, if_neg (by rw [h8_1]; decide), Int32.add_zero]; rfl), rfl, trivial⟩ ?_
        exact ih14 σ2 (⟨yσ2, _, fσ2_8⟩)
    · skip
      have hP_1 : σ2.1 (wP W i14) = some (.inr (.inl (9, [.int ((fl N i14) 9)]))) := by have h9 := (hRσ2.2.2.2.2.2.2.2.1 i14 hi14); rw [h8_1] at h9; exact h9
      refine A_instNo hP_1 rfl nc_X11_X12 q807 dX5_gap_39 ?_
      refine A_if_eq_t (tgt := 60) dX5_gap_42 (by decide) (by decide) ?_
      refine A_iload_n (i := 1) dX5_gap_60 rfl rfl ?_
      refine A_aload dX5_gap_61 rfl ?_
      refine A_getfN cb_X7 fσ2_9 6 (Nat.le_of_ble_eq_true rfl) q1115 rfl (v := .int (fl N i14 6)) rfl dX5_gap_63 ?_
      refine A_aload dX5_gap_66 rfl ?_
      refine A_getfN cb_X7 fσ2_9 1 (Nat.le_of_ble_eq_true rfl) q1100 rfl (v := .int (fl N i14 1)) rfl dX5_gap_68 ?_
      refine A_iand dX5_gap_71 ?_
      refine A_if_eq (tgt := 79) dX5_gap_72 (by decide) (fun c4 => ?_) (fun c4 => ?_)
      · skip
        refine A_iconst (v := 0) dX5_gap_79 (by decide) ?_
        refine A_callSN1E (b' := ((nF N) - i14) * 0 + 4 + 0) (v := some (.int (oneI 0))) (τ := σ2) (c_one1 σ2 0) tX1_one q1205 dX5_gap_80 (by decide) (by omega) (Nat.le_of_ble_eq_true rfl) ?_
        refine A_int (w := bi (¬ (fl N i14 6 &&& fl N i14 1) = 0)) (by rw [bi_f (not_not_intro c4)] <;> rfl) ?_
        refine A_iadd dX5_gap_83 ?_
        refine A_int (w := sm (fun f => bi (¬ (fl N f 6 &&& fl N f 1) = 0)) (i14 + 1)) (rfl) ?_
        refine A_istore_n (i := 1) dX5_gap_84 rfl (Nat.le_of_ble_eq_true rfl) ?_
        refine A_goto (tgt := 14) dX5_gap_85 (by decide) ?_
        refine A_less (b' := ((nF N) - (i14 + 1)) * 0 + 4) (by omega) ?_
        refine A_sub (L' := [(0, .ref (wW W)), (1, .int (sm (fun f => bi (¬ (fl N f 6 &&& fl N f 1) = 0)) (i14 + 1))), (2, .int (sm (fun f => if fl N f 8 = 3 then na N (ix (fl N f 0)) 1 else 0) (i14 + 1))), (3, .ref σ.2)]) ⟨rfl, rfl, (by rw [sm_s (fun f => if fl N f 8 = 3 then na N (ix (fl N f 0)) 1 else 0) i14, if_neg (by rw [h8_1]; decide), Int32.add_zero]; rfl), rfl, trivial⟩ ?_
        exact ih14 σ2 (⟨yσ2, _, fσ2_8⟩)
      · skip
        refine A_iconst (v := 1) dX5_gap_75 (by decide) ?_
        refine A_goto (tgt := 80) dX5_gap_76 (by decide) ?_
        refine A_callSN1E (b' := ((nF N) - i14) * 0 + 4 + 0) (v := some (.int (oneI 1))) (τ := σ2) (c_one1 σ2 1) tX1_one q1205 dX5_gap_80 (by decide) (by omega) (Nat.le_of_ble_eq_true rfl) ?_
        refine A_int (w := bi (¬ (fl N i14 6 &&& fl N i14 1) = 0)) (by rw [bi_t c4] <;> rfl) ?_
        refine A_iadd dX5_gap_83 ?_
        refine A_int (w := sm (fun f => bi (¬ (fl N f 6 &&& fl N f 1) = 0)) (i14 + 1)) (rfl) ?_
        refine A_istore_n (i := 1) dX5_gap_84 rfl (Nat.le_of_ble_eq_true rfl) ?_
        refine A_goto (tgt := 14) dX5_gap_85 (by decide) ?_
        refine A_less (b' := ((nF N) - (i14 + 1)) * 0 + 4) (by omega) ?_
        refine A_sub (L' := [(0, .ref (wW W)), (1, .int (sm (fun f => bi (¬ (fl N f 6 &&& fl N f 1) = 0)) (i14 + 1))), (2, .int (sm (fun f => if fl N f 8 = 3 then na N (ix (fl N f 0)) 1 else 0) (i14 + 1))), (3, .ref σ.2)]) ⟨rfl, rfl, (by rw [sm_s (fun f => if fl N f 8 = 3 then na N (ix (fl N f 0)) 1 else 0) i14, if_neg (by rw [h8_1]; decide), Int32.add_zero]; rfl), rfl, trivial⟩ ?_
        exact ih14 σ2 (⟨yσ2, _, fσ2_8⟩)
    · skip
      have hP_1 : σ2.1 (wP W i14) = some (.inr (.inl (10, []))) := by have h9 := (hRσ2.2.2.2.2.2.2.2.1 i14 hi14); rw [h8_1] at h9; exact h9
      refine A_instE hP_1 rfl q807 dX5_gap_39 ?_
      refine A_if_eq_f (tgt := 60) dX5_gap_42 (by decide) (by decide) ?_
      refine A_iload_n (i := 2) dX5_gap_45 rfl rfl ?_
      refine A_aload_n (i := 0) dX5_gap_46 rfl rfl ?_
      refine A_aload dX5_gap_47 rfl ?_
      refine A_getfN cb_X7 fσ2_9 0 (Nat.le_of_ble_eq_true rfl) q1097 rfl (v := .int (fl N i14 0)) rfl dX5_gap_49 ?_
      obtain ⟨m14, hm14, em14⟩ := (hD.2 i14 hi14).1
      obtain ⟨hh14, hn14, -⟩ := hRσ2.2.2.2.2.2.2.2.2.1 m14 hm14
      refine A_int (w := nI m14) (em14) ?_
      refine A_callV1E (b' := ((nF N) - i14) * 0 + 4 + 0) (v := some (.ref (wN W m14))) (τ := σ2) (c_nation5 σ2 W N m14 hRσ2 hD hm14) tX5_nation q1618 fσ2_0 rfl rfl dX5_gap_52 (by decide) (by omega) (Nat.le_of_ble_eq_true rfl) ?_
      refine A_getfN cb_X6 hn14 1 (Nat.le_of_ble_eq_true rfl) q987 rfl (v := .int (na N m14 1)) rfl dX5_gap_55 ?_
      refine A_iadd dX5_gap_58 ?_
      refine A_int (w := sm (fun f => if fl N f 8 = 3 then na N (ix (fl N f 0)) 1 else 0) (i14 + 1)) (by rw [sm_s, if_pos h8_1, em14, ixn (by omega)]) ?_
      refine A_istore_n (i := 2) dX5_gap_59 rfl (Nat.le_of_ble_eq_true rfl) ?_
      refine A_iload_n (i := 1) dX5_gap_60 rfl rfl ?_
      refine A_aload dX5_gap_61 rfl ?_
      refine A_getfN cb_X7 fσ2_9 6 (Nat.le_of_ble_eq_true rfl) q1115 rfl (v := .int (fl N i14 6)) rfl dX5_gap_63 ?_
      refine A_aload dX5_gap_66 rfl ?_
      refine A_getfN cb_X7 fσ2_9 1 (Nat.le_of_ble_eq_true rfl) q1100 rfl (v := .int (fl N i14 1)) rfl dX5_gap_68 ?_
      refine A_iand dX5_gap_71 ?_
      refine A_if_eq (tgt := 79) dX5_gap_72 (by decide) (fun c5 => ?_) (fun c5 => ?_)
      · skip
        refine A_iconst (v := 0) dX5_gap_79 (by decide) ?_
        refine A_callSN1E (b' := ((nF N) - i14) * 0 + 4 + 0) (v := some (.int (oneI 0))) (τ := σ2) (c_one1 σ2 0) tX1_one q1205 dX5_gap_80 (by decide) (by omega) (Nat.le_of_ble_eq_true rfl) ?_
        refine A_int (w := bi (¬ (fl N i14 6 &&& fl N i14 1) = 0)) (by rw [bi_f (not_not_intro c5)] <;> rfl) ?_
        refine A_iadd dX5_gap_83 ?_
        refine A_int (w := sm (fun f => bi (¬ (fl N f 6 &&& fl N f 1) = 0)) (i14 + 1)) (rfl) ?_
        refine A_istore_n (i := 1) dX5_gap_84 rfl (Nat.le_of_ble_eq_true rfl) ?_
        refine A_goto (tgt := 14) dX5_gap_85 (by decide) ?_
        refine A_less (b' := ((nF N) - (i14 + 1)) * 0 + 4) (by omega) ?_
        refine A_sub (L' := [(0, .ref (wW W)), (1, .int (sm (fun f => bi (¬ (fl N f 6 &&& fl N f 1) = 0)) (i14 + 1))), (2, .int (sm (fun f => if fl N f 8 = 3 then na N (ix (fl N f 0)) 1 else 0) (i14 + 1))), (3, .ref σ.2)]) ⟨rfl, rfl, rfl, rfl, trivial⟩ ?_
        exact ih14 σ2 (⟨yσ2, _, fσ2_8⟩)
      · skip
        refine A_iconst (v := 1) dX5_gap_75 (by decide) ?_
        refine A_goto (tgt := 80) dX5_gap_76 (by decide) ?_
        refine A_callSN1E (b' := ((nF N) - i14) * 0 + 4 + 0) (v := some (.int (oneI 1))) (τ := σ2) (c_one1 σ2 1) tX1_one q1205 dX5_gap_80 (by decide) (by omega) (Nat.le_of_ble_eq_true rfl) ?_
        refine A_int (w := bi (¬ (fl N i14 6 &&& fl N i14 1) = 0)) (by rw [bi_t c5] <;> rfl) ?_
        refine A_iadd dX5_gap_83 ?_
        refine A_int (w := sm (fun f => bi (¬ (fl N f 6 &&& fl N f 1) = 0)) (i14 + 1)) (rfl) ?_
        refine A_istore_n (i := 1) dX5_gap_84 rfl (Nat.le_of_ble_eq_true rfl) ?_
        refine A_goto (tgt := 14) dX5_gap_85 (by decide) ?_
        refine A_less (b' := ((nF N) - (i14 + 1)) * 0 + 4) (by omega) ?_
        refine A_sub (L' := [(0, .ref (wW W)), (1, .int (sm (fun f => bi (¬ (fl N f 6 &&& fl N f 1) = 0)) (i14 + 1))), (2, .int (sm (fun f => if fl N f 8 = 3 then na N (ix (fl N f 0)) 1 else 0) (i14 + 1))), (3, .ref σ.2)]) ⟨rfl, rfl, rfl, rfl, trivial⟩ ?_
        exact ih14 σ2 (⟨yσ2, _, fσ2_8⟩)
  · skip
    refine A_less (b' := 4) (by omega) ?_
    obtain ⟨xτ14, lr, fiτ14⟩ := hI14
    refine A_wfh (fun wτ14 hgτ14 => ?_)
    have yτ14 : ext σ τ14 := xτ14
    have hRτ14 : RW g τ14 W N := hR9.ext wσ yτ14
    have fτ14_0 : τ14.1 (wW W) = some (.inr (.inl (4, [.int (N 9), .ref (wR W), .ref (wM W), .ref (wNL W), .ref (wFL W), .ref (wUN W), .int (N 6), .int (N 8), .int (N 0), .int (N 1), .int (N 2), .int (N 3), .int (N 4), .int (N 5), .int (N 11)]))) := xτ14.at wσ h1
    have fτ14_1 : τ14.1 (wFL W) = some (.inr (.inl (14, [.int mcf, .ref (wFA W), .int (nI (nF N))]))) := xτ14.at wσ h5
    have fτ14_2 : τ14.1 (wFA W) = some (.inl (.object "java/lang/Object", 12, .inr (.inr (.inr (.inr ffA))))) := xτ14.at wσ h5p
    have fτ14_3 : τ14.1 (wNL W) = some (.inr (.inl (14, [.int mcn, .ref (wNA W), .int (nI (nN N))]))) := xτ14.at wσ h4
    have fτ14_4 : τ14.1 (wNA W) = some (.inl (.object "java/lang/Object", 4, .inr (.inr (.inr (.inr fnA))))) := xτ14.at wσ h4p
    have fτ14_5 : τ14.1 (wR W) = some (.inl (.int, 6, .inl fr)) := xτ14.at wσ h2
    have fτ14_6 : τ14.1 (wM W) = some (.inl (.int, 3, .inl fm)) := xτ14.at wσ h3
    have fτ14_7 : τ14.1 (wUN W) = some (.inl (.object "FlagLaundry$Test", 7, .inr (.inr (.inr (.inr fu))))) := xτ14.at wσ h6
    refine A_aload_n (i := 3) dX5_gap_14 rfl rfl ?_
    refine A_callF0E (b' := 4) (v := some (.int (bi ((nF N) < nF N)))) (τ := τ14) (c_iHas τ14 σ.2 (wFL W) (wFA W) (nF N) (nF N) mcf lr fiτ14 fτ14_1 (Nat.le_refl _) (by omega)) tF_hasNext q1596 fiτ14 rfl dX5_gap_15 (by decide) (Nat.le_of_ble_eq_true rfl) (Nat.le_of_ble_eq_true rfl) ?_
    refine A_if_eq_t (tgt := 88) dX5_gap_20 (by decide) (bi_f (Nat.lt_irrefl _)) ?_
    refine A_iload_n (i := 1) dX5_gap_88 rfl rfl ?_
    refine A_aload_n (i := 0) dX5_gap_89 rfl rfl ?_
    refine A_callV0E (b' := 4) (v := some (.int (nI (nF N)))) (τ := τ14) (c_many τ14 W N hRτ14 hW) tX5_many q1199 fτ14_0 rfl rfl dX5_gap_90 (by decide) (Nat.le_of_ble_eq_true rfl) (Nat.le_of_ble_eq_true rfl) ?_
    refine A_aload_n (i := 0) dX5_gap_93 rfl rfl ?_
    refine A_iconst (v := 0) dX5_gap_94 (by decide) ?_
    refine A_callV1 (b' := 3) (c_at5 τ14 W N 0 hRτ14 hD) tX5_at q1619 fτ14_0 rfl rfl dX5_gap_95 (by decide) (Nat.le_of_ble_eq_true rfl) (Nat.le_of_ble_eq_true rfl) (fun w9 σ3 h9 => ?_) (fun E9 q9 τ9 h9 => h9.elim)
    obtain ⟨e9, xσ3⟩ := h9
    subst e9
    refine A_wfh (fun wσ3 hgσ3 => ?_)
    have yσ3 : ext σ σ3 := yτ14.tr (xσ3)
    have fσ3_0 : σ3.1 (wW W) = some (.inr (.inl (4, [.int (N 9), .ref (wR W), .ref (wM W), .ref (wNL W), .ref (wFL W), .ref (wUN W), .int (N 6), .int (N 8), .int (N 0), .int (N 1), .int (N 2), .int (N 3), .int (N 4), .int (N 5), .int (N 11)]))) := xσ3.at wτ14 fτ14_0
    have fσ3_1 : σ3.1 (wFL W) = some (.inr (.inl (14, [.int mcf, .ref (wFA W), .int (nI (nF N))]))) := xσ3.at wτ14 fτ14_1
    have fσ3_2 : σ3.1 (wFA W) = some (.inl (.object "java/lang/Object", 12, .inr (.inr (.inr (.inr ffA))))) := xσ3.at wτ14 fτ14_2
    have fσ3_3 : σ3.1 (wNL W) = some (.inr (.inl (14, [.int mcn, .ref (wNA W), .int (nI (nN N))]))) := xσ3.at wτ14 fτ14_3
    have fσ3_4 : σ3.1 (wNA W) = some (.inl (.object "java/lang/Object", 4, .inr (.inr (.inr (.inr fnA))))) := xσ3.at wτ14 fτ14_4
    have fσ3_5 : σ3.1 (wR W) = some (.inl (.int, 6, .inl fr)) := xσ3.at wτ14 fτ14_5
    have fσ3_6 : σ3.1 (wM W) = some (.inl (.int, 3, .inl fm)) := xσ3.at wτ14 fτ14_6
    have fσ3_7 : σ3.1 (wUN W) = some (.inl (.object "FlagLaundry$Test", 7, .inr (.inr (.inr (.inr fu))))) := xσ3.at wτ14 fτ14_7
    have fσ3_8 : σ3.1 σ.2 = some (.inr (.inl (15, [.int (nI (nF N)), .int lr, .int mcf, .ref (wFL W)]))) := xσ3.at wτ14 fiτ14
    have hRσ3 : RW g σ3 W N := hRτ14.ext wτ14 xσ3
    refine A_isub dX5_gap_98 ?_
    refine A_aload_n (i := 0) dX5_gap_99 rfl rfl ?_
    refine A_iconst (v := 1) dX5_gap_100 (by decide) ?_
    refine A_callV1 (b' := 2) (c_at5 σ3 W N 1 hRσ3 hD) tX5_at q1619 fσ3_0 rfl rfl dX5_gap_101 (by decide) (Nat.le_of_ble_eq_true rfl) (Nat.le_of_ble_eq_true rfl) (fun w9 σ4 h9 => ?_) (fun E9 q9 τ9 h9 => h9.elim)
    obtain ⟨e9, xσ4⟩ := h9
    subst e9
    refine A_wfh (fun wσ4 hgσ4 => ?_)
    have yσ4 : ext σ σ4 := yσ3.tr (xσ4)
    have fσ4_0 : σ4.1 (wW W) = some (.inr (.inl (4, [.int (N 9), .ref (wR W), .ref (wM W), .ref (wNL W), .ref (wFL W), .ref (wUN W), .int (N 6), .int (N 8), .int (N 0), .int (N 1), .int (N 2), .int (N 3), .int (N 4), .int (N 5), .int (N 11)]))) := xσ4.at wσ3 fσ3_0
    have fσ4_1 : σ4.1 (wFL W) = some (.inr (.inl (14, [.int mcf, .ref (wFA W), .int (nI (nF N))]))) := xσ4.at wσ3 fσ3_1
    have fσ4_2 : σ4.1 (wFA W) = some (.inl (.object "java/lang/Object", 12, .inr (.inr (.inr (.inr ffA))))) := xσ4.at wσ3 fσ3_2
    have fσ4_3 : σ4.1 (wNL W) = some (.inr (.inl (14, [.int mcn, .ref (wNA W), .int (nI (nN N))]))) := xσ4.at wσ3 fσ3_3
    have fσ4_4 : σ4.1 (wNA W) = some (.inl (.object "java/lang/Object", 4, .inr (.inr (.inr (.inr fnA))))) := xσ4.at wσ3 fσ3_4
    have fσ4_5 : σ4.1 (wR W) = some (.inl (.int, 6, .inl fr)) := xσ4.at wσ3 fσ3_5
    have fσ4_6 : σ4.1 (wM W) = some (.inl (.int, 3, .inl fm)) := xσ4.at wσ3 fσ3_6
    have fσ4_7 : σ4.1 (wUN W) = some (.inl (.object "FlagLaundry$Test", 7, .inr (.inr (.inr (.inr fu))))) := xσ4.at wσ3 fσ3_7
    have fσ4_8 : σ4.1 σ.2 = some (.inr (.inl (15, [.int (nI (nF N)), .int lr, .int mcf, .ref (wFL W)]))) := xσ4.at wσ3 fσ3_8
    have hRσ4 : RW g σ4 W N := hRσ3.ext wσ3 xσ4
    refine A_isub dX5_gap_104 ?_
    refine A_aload_n (i := 0) dX5_gap_105 rfl rfl ?_
    refine A_iconst (v := 2) dX5_gap_106 (by decide) ?_
    refine A_callV1 (b' := 1) (c_at5 σ4 W N 2 hRσ4 hD) tX5_at q1619 fσ4_0 rfl rfl dX5_gap_107 (by decide) (Nat.le_of_ble_eq_true rfl) (Nat.le_of_ble_eq_true rfl) (fun w9 σ5 h9 => ?_) (fun E9 q9 τ9 h9 => h9.elim)
    obtain ⟨e9, xσ5⟩ := h9
    subst e9
    refine A_wfh (fun wσ5 hgσ5 => ?_)
    have yσ5 : ext σ σ5 := yσ4.tr (xσ5)
    have fσ5_0 : σ5.1 (wW W) = some (.inr (.inl (4, [.int (N 9), .ref (wR W), .ref (wM W), .ref (wNL W), .ref (wFL W), .ref (wUN W), .int (N 6), .int (N 8), .int (N 0), .int (N 1), .int (N 2), .int (N 3), .int (N 4), .int (N 5), .int (N 11)]))) := xσ5.at wσ4 fσ4_0
    have fσ5_1 : σ5.1 (wFL W) = some (.inr (.inl (14, [.int mcf, .ref (wFA W), .int (nI (nF N))]))) := xσ5.at wσ4 fσ4_1
    have fσ5_2 : σ5.1 (wFA W) = some (.inl (.object "java/lang/Object", 12, .inr (.inr (.inr (.inr ffA))))) := xσ5.at wσ4 fσ4_2
    have fσ5_3 : σ5.1 (wNL W) = some (.inr (.inl (14, [.int mcn, .ref (wNA W), .int (nI (nN N))]))) := xσ5.at wσ4 fσ4_3
    have fσ5_4 : σ5.1 (wNA W) = some (.inl (.object "java/lang/Object", 4, .inr (.inr (.inr (.inr fnA))))) := xσ5.at wσ4 fσ4_4
    have fσ5_5 : σ5.1 (wR W) = some (.inl (.int, 6, .inl fr)) := xσ5.at wσ4 fσ4_5
    have fσ5_6 : σ5.1 (wM W) = some (.inl (.int, 3, .inl fm)) := xσ5.at wσ4 fσ4_6
    have fσ5_7 : σ5.1 (wUN W) = some (.inl (.object "FlagLaundry$Test", 7, .inr (.inr (.inr (.inr fu))))) := xσ5.at wσ4 fσ4_7
    have fσ5_8 : σ5.1 σ.2 = some (.inr (.inl (15, [.int (nI (nF N)), .int lr, .int mcf, .ref (wFL W)]))) := xσ5.at wσ4 fσ4_8
    have hRσ5 : RW g σ5 W N := hRσ4.ext wσ4 xσ5
    refine A_isub dX5_gap_110 ?_
    refine A_aload_n (i := 0) dX5_gap_111 rfl rfl ?_
    refine A_iconst (v := 3) dX5_gap_112 (by decide) ?_
    refine A_callV1 (b' := 0) (c_at5 σ5 W N 3 hRσ5 hD) tX5_at q1619 fσ5_0 rfl rfl dX5_gap_113 (by decide) (Nat.le_of_ble_eq_true rfl) (Nat.le_of_ble_eq_true rfl) (fun w9 σ6 h9 => ?_) (fun E9 q9 τ9 h9 => h9.elim)
    obtain ⟨e9, xσ6⟩ := h9
    subst e9
    refine A_wfh (fun wσ6 hgσ6 => ?_)
    have yσ6 : ext σ σ6 := yσ5.tr (xσ6)
    have fσ6_0 : σ6.1 (wW W) = some (.inr (.inl (4, [.int (N 9), .ref (wR W), .ref (wM W), .ref (wNL W), .ref (wFL W), .ref (wUN W), .int (N 6), .int (N 8), .int (N 0), .int (N 1), .int (N 2), .int (N 3), .int (N 4), .int (N 5), .int (N 11)]))) := xσ6.at wσ5 fσ5_0
    have fσ6_1 : σ6.1 (wFL W) = some (.inr (.inl (14, [.int mcf, .ref (wFA W), .int (nI (nF N))]))) := xσ6.at wσ5 fσ5_1
    have fσ6_2 : σ6.1 (wFA W) = some (.inl (.object "java/lang/Object", 12, .inr (.inr (.inr (.inr ffA))))) := xσ6.at wσ5 fσ5_2
    have fσ6_3 : σ6.1 (wNL W) = some (.inr (.inl (14, [.int mcn, .ref (wNA W), .int (nI (nN N))]))) := xσ6.at wσ5 fσ5_3
    have fσ6_4 : σ6.1 (wNA W) = some (.inl (.object "java/lang/Object", 4, .inr (.inr (.inr (.inr fnA))))) := xσ6.at wσ5 fσ5_4
    have fσ6_5 : σ6.1 (wR W) = some (.inl (.int, 6, .inl fr)) := xσ6.at wσ5 fσ5_5
    have fσ6_6 : σ6.1 (wM W) = some (.inl (.int, 3, .inl fm)) := xσ6.at wσ5 fσ5_6
    have fσ6_7 : σ6.1 (wUN W) = some (.inl (.object "FlagLaundry$Test", 7, .inr (.inr (.inr (.inr fu))))) := xσ6.at wσ5 fσ5_7
    have fσ6_8 : σ6.1 σ.2 = some (.inr (.inl (15, [.int (nI (nF N)), .int lr, .int mcf, .ref (wFL W)]))) := xσ6.at wσ5 fσ5_8
    have hRσ6 : RW g σ6 W N := hRσ5.ext wσ5 xσ6
    refine A_isub dX5_gap_116 ?_
    refine A_mabs q1620 q1621 q150 q1622 dX5_gap_117 (by decide) (Nat.le_of_ble_eq_true rfl) ?_
    refine A_int (w := (ab (((((nI (nF N)) - (atN N 0)) - (atN N 1)) - (atN N 2)) - (atN N 3)))) rfl ?_
    refine A_iadd dX5_gap_120 ?_
    refine A_aload_n (i := 0) dX5_gap_121 rfl rfl ?_
    refine A_getf cb_X5 fσ6_0 10 (Nat.le_of_ble_eq_true rfl) q848 rfl (v := .int (N 2)) rfl dX5_gap_122 ?_
    refine A_aload_n (i := 0) dX5_gap_125 rfl rfl ?_
    refine A_getf cb_X5 fσ6_0 11 (Nat.le_of_ble_eq_true rfl) q850 rfl (v := .int (N 3)) rfl dX5_gap_126 ?_
    refine A_iadd dX5_gap_129 ?_
    refine A_iload_n (i := 2) dX5_gap_130 rfl rfl ?_
    refine A_isub dX5_gap_131 ?_
    refine A_mabs q1620 q1621 q150 q1622 dX5_gap_132 (by decide) (Nat.le_of_ble_eq_true rfl) ?_
    refine A_int (w := (ab (((N 2) + (N 3)) - sm (fun f => if fl N f 8 = 3 then na N (ix (fl N f 0)) 1 else 0) (nF N)))) rfl ?_
    refine A_iadd dX5_gap_135 ?_
    exact A_iret dX5_gap_136 rfl (⟨by unfold gapN; rw [← Int32.sub_sub, ← Int32.sub_sub, ← Int32.sub_sub, ← hW.2.2.2.2.1], yσ6⟩)
