/-! THE COMPONENT 16: a world is copied -/
abbrev mkV (w R M NL NA FL FA UN : Nat) (F N P : Nat → Nat) : WA := (w, R, M, NL, NA, FL, FA, UN, F, N, P)
def A_copy (g : GC) (w : Nat) (N : AF) (σ : AH) : Option Value → AH → Prop := fun v τ => v = none ∧ kl w σ τ ∧ ∃ V, wW V = w ∧ own w V N ∧ RW g τ V N
theorem c_wCopy {l : Launch} {g : GC} (σ : AH) (W : WA) (N : AF) (lo : Nat) (hw : σ.1 lo = some (.inr (.inl (4, [.int 0, .null, .null, .null, .null, .null, .int 0, .int 0, .int 0, .int 0, .int 0, .int 0, .int 0, .int 0, .int 0])))) (hR : RW g (cut σ lo) W N) (hD : WFd N) (hl : lo ≤ σ.2) : AMet l g mX5_init_2 6 65 [.ref lo, .ref (wW W)] σ (A_copy g lo N σ) (A_no) := by
  refine A_of rfl (by decide) (Nat.le_of_ble_eq_true rfl) (L0 := [(0, .ref lo), (1, .ref (wW W))]) rfl ?_
  refine A_wfh (fun wσ hgσ => ?_)
  have nσ : nw σ σ := nw.rf
  have qσ : kl lo σ σ := kl.rf
  have hW := hD.1
  have hR9 := hR
  obtain ⟨h1, ⟨fr, h2, h2p⟩, ⟨fm, h3, h3p⟩, ⟨mcn, fnA, h4, h4p, h4q⟩, ⟨mcf, ffA, h5, h5p, h5q⟩, ⟨fu, h6, h6p⟩, h7, h8, h9, h10, h11⟩ := hR
  have hF12 : nF N ≤ 12 := hW.2.2.2.2.2
  have hN4 : nN N ≤ 4 := hW.2.1.2
  have hC6 : nC N ≤ 6 := hW.1.2
  have hT3 : nT N ≤ 3 := hW.2.2.1.2
  have hP8 : nP N ≤ 8 := hW.2.2.2.1.2
  refine A_aload_n (i := 0) dX5_init_2_0 rfl rfl ?_
  refine A_aload_n (i := 1) dX5_init_2_1 rfl rfl ?_
  refine A_getf cb_X5 (cut_at kl.rf h1) 0 (Nat.le_of_ble_eq_true rfl) q822 rfl (v := .int (N 9)) rfl dX5_init_2_2 ?_
  refine A_callI1 (b' := 54) (c_wNew σ lo (N 9) hw) tX5_init q1823 dX5_init_2_5 (by decide) (Nat.le_of_ble_eq_true rfl) (Nat.le_of_ble_eq_true rfl) (fun w9 τ9 h9 => ?_) (fun E9 q9 τ9 h9 => h9.elim)
  obtain ⟨e9, kτ9, R9, M9, NL9, NA9, FL9, FA9, UN9, hown, hV0⟩ := h9
  subst e9
  refine A_wfh (fun wτ9 hgτ9 => ?_)
  have qτ9 : kl lo σ τ9 := qσ.kx hl (Nat.le_refl _) kτ9
  have hV9 := hV0 (fun _ => 0) (fun _ => 0) (fun _ => 0)
  obtain ⟨pR, pM, pNL, pNA, pFL, pFA⟩ := hown (fun _ => 0) (fun _ => 0) (fun _ => 0)
  have oR : lo ≤ R9 := Nat.le_trans hl pR
  have oM : lo ≤ M9 := Nat.le_trans hl pM
  have oNL : lo ≤ NL9 := Nat.le_trans hl pNL
  have oNA : lo ≤ NA9 := Nat.le_trans hl pNA
  have oFL : lo ≤ FL9 := Nat.le_trans hl pFL
  have oFA : lo ≤ FA9 := Nat.le_trans hl pFA
  obtain ⟨v1, ⟨fr9, v2, -⟩, ⟨fm9, v3, -⟩, ⟨mn9, fn9, v4, v4p, -⟩, ⟨mf9, ff9, v5, v5p, -⟩, ⟨fu9, v6, v6p⟩, -⟩ := hV9
  have fτ9_0 : τ9.1 lo = some (.inr (.inl (4, [.int (N 9), .ref R9, .ref M9, .ref NL9, .ref FL9, .ref UN9, .int 0, .int 0, .int 0, .int 0, .int 0, .int 0, .int 0, .int 0, .int 0]))) := v1
  have fτ9_1 : τ9.1 R9 = some (.inl (.int, 6, .inl fr9)) := v2
  have fτ9_2 : τ9.1 M9 = some (.inl (.int, 3, .inl fm9)) := v3
  have fτ9_3 : τ9.1 NL9 = some (.inr (.inl (14, [.int mn9, .ref NA9, .int (nI 0)]))) := v4
  have fτ9_4 : τ9.1 NA9 = some (.inl (.object "java/lang/Object", 4, .inr (.inr (.inr (.inr fn9))))) := v4p
  have fτ9_5 : τ9.1 FL9 = some (.inr (.inl (14, [.int mf9, .ref FA9, .int (nI 0)]))) := v5
  have fτ9_6 : τ9.1 FA9 = some (.inl (.object "java/lang/Object", 12, .inr (.inr (.inr (.inr ff9))))) := v5p
  have fτ9_7 : τ9.1 UN9 = some (.inl (.object "FlagLaundry$Test", 7, .inr (.inr (.inr (.inr fu9))))) := v6
  have foτ9_8 : τ9.1 (wW W) = some (.inr (.inl (4, [.int (N 9), .ref (wR W), .ref (wM W), .ref (wNL W), .ref (wFL W), .ref (wUN W), .int (N 6), .int (N 8), .int (N 0), .int (N 1), .int (N 2), .int (N 3), .int (N 4), .int (N 5), .int (N 11)]))) := cut_at qτ9 h1
  have foτ9_9 : τ9.1 (wFL W) = some (.inr (.inl (14, [.int mcf, .ref (wFA W), .int (nI (nF N))]))) := cut_at qτ9 h5
  have foτ9_10 : τ9.1 (wFA W) = some (.inl (.object "java/lang/Object", 12, .inr (.inr (.inr (.inr ffA))))) := cut_at qτ9 h5p
  have foτ9_11 : τ9.1 (wNL W) = some (.inr (.inl (14, [.int mcn, .ref (wNA W), .int (nI (nN N))]))) := cut_at qτ9 h4
  have foτ9_12 : τ9.1 (wNA W) = some (.inl (.object "java/lang/Object", 4, .inr (.inr (.inr (.inr fnA))))) := cut_at qτ9 h4p
  have foτ9_13 : τ9.1 (wR W) = some (.inl (.int, 6, .inl fr)) := cut_at qτ9 h2
  have foτ9_14 : τ9.1 (wM W) = some (.inl (.int, 3, .inl fm)) := cut_at qτ9 h3
  have foτ9_15 : τ9.1 (wUN W) = some (.inl (.object "FlagLaundry$Test", 7, .inr (.inr (.inr (.inr fu))))) := cut_at qτ9 h6
  refine A_aload_n (i := 1) dX5_init_2_8 rfl rfl ?_
  refine A_getf cb_X5 foτ9_8 1 (Nat.le_of_ble_eq_true rfl) q824 rfl (v := .ref (wR W)) rfl dX5_init_2_9 ?_
  refine A_iconst (v := 0) dX5_init_2_12 (by decide) ?_
  refine A_aload_n (i := 0) dX5_init_2_13 rfl rfl ?_
  refine A_getf cb_X5 fτ9_0 1 (Nat.le_of_ble_eq_true rfl) q824 rfl (v := .ref R9) rfl dX5_init_2_14 ?_
  refine A_iconst (v := 0) dX5_init_2_17 (by decide) ?_
  refine A_bipush (v := 6) dX5_init_2_18 (by decide) ?_
  refine A_copyi (by decide) rfl foτ9_13 fτ9_1 q1824 q476 q475 q152 (by decide) (by decide) (by decide) (by decide) (by decide) (fun i hi => rfl) (by decide) (Nat.le_of_ble_eq_true rfl) dX5_init_2_20 ?_
  refine A_st (σ' := h_put τ9 R9 (.inl (.int, 6, .inl (va_cpy fr fr9 0 0 6)))) (rfl) ?_
  obtain ⟨σ1, eσ1⟩ : ∃ τ, τ = h_put τ9 R9 (.inl (.int, 6, .inl (va_cpy fr fr9 0 0 6))) := ⟨_, rfl⟩
  refine A_st (σ' := σ1) eσ1.symm ?_
  have wσ1 : wfh σ1 := by rw [eσ1]; exact wτ9.put fτ9_1
  have fσ1_0 : σ1.1 lo = some (.inr (.inl (4, [.int (N 9), .ref R9, .ref M9, .ref NL9, .ref FL9, .ref UN9, .int 0, .int 0, .int 0, .int 0, .int 0, .int 0, .int 0, .int 0, .int 0]))) := by rw [eσ1]; exact (hp_ne (ne_of (x := .inr (.inl (4, [.int (N 9), .ref R9, .ref M9, .ref NL9, .ref FL9, .ref UN9, .int 0, .int 0, .int 0, .int 0, .int 0, .int 0, .int 0, .int 0, .int 0]))) (y := .inl (.int, 6, .inl fr9)) fτ9_0 fτ9_1 (fun e8 => by simp at e8))).trans fτ9_0
  have fσ1_1 : σ1.1 R9 = some (.inl (.int, 6, .inl (va_cpy fr fr9 0 0 6))) := by rw [eσ1]; exact if_pos rfl
  have fσ1_2 : σ1.1 M9 = some (.inl (.int, 3, .inl fm9)) := by rw [eσ1]; exact (hp_ne (ne_of (x := .inl (.int, 3, .inl fm9)) (y := .inl (.int, 6, .inl fr9)) fτ9_2 fτ9_1 (fun e8 => by simp at e8))).trans fτ9_2
  have fσ1_3 : σ1.1 NL9 = some (.inr (.inl (14, [.int mn9, .ref NA9, .int (nI 0)]))) := by rw [eσ1]; exact (hp_ne (ne_of (x := .inr (.inl (14, [.int mn9, .ref NA9, .int (nI 0)]))) (y := .inl (.int, 6, .inl fr9)) fτ9_3 fτ9_1 (fun e8 => by simp at e8))).trans fτ9_3
  have fσ1_4 : σ1.1 NA9 = some (.inl (.object "java/lang/Object", 4, .inr (.inr (.inr (.inr fn9))))) := by rw [eσ1]; exact (hp_ne (ne_of (x := .inl (.object "java/lang/Object", 4, .inr (.inr (.inr (.inr fn9))))) (y := .inl (.int, 6, .inl fr9)) fτ9_4 fτ9_1 (fun e8 => by simp at e8))).trans fτ9_4
  have fσ1_5 : σ1.1 FL9 = some (.inr (.inl (14, [.int mf9, .ref FA9, .int (nI 0)]))) := by rw [eσ1]; exact (hp_ne (ne_of (x := .inr (.inl (14, [.int mf9, .ref FA9, .int (nI 0)]))) (y := .inl (.int, 6, .inl fr9)) fτ9_5 fτ9_1 (fun e8 => by simp at e8))).trans fτ9_5
  have fσ1_6 : σ1.1 FA9 = some (.inl (.object "java/lang/Object", 12, .inr (.inr (.inr (.inr ff9))))) := by rw [eσ1]; exact (hp_ne (ne_of (x := .inl (.object "java/lang/Object", 12, .inr (.inr (.inr (.inr ff9))))) (y := .inl (.int, 6, .inl fr9)) fτ9_6 fτ9_1 (fun e8 => by simp at e8))).trans fτ9_6
  have fσ1_7 : σ1.1 UN9 = some (.inl (.object "FlagLaundry$Test", 7, .inr (.inr (.inr (.inr fu9))))) := by rw [eσ1]; exact (hp_ne (ne_of (x := .inl (.object "FlagLaundry$Test", 7, .inr (.inr (.inr (.inr fu9))))) (y := .inl (.int, 6, .inl fr9)) fτ9_7 fτ9_1 (fun e8 => by simp at e8))).trans fτ9_7
  have fσ1_8 : σ1.1 (wW W) = some (.inr (.inl (4, [.int (N 9), .ref (wR W), .ref (wM W), .ref (wNL W), .ref (wFL W), .ref (wUN W), .int (N 6), .int (N 8), .int (N 0), .int (N 1), .int (N 2), .int (N 3), .int (N 4), .int (N 5), .int (N 11)]))) := by rw [eσ1]; exact (hp_ne (Nat.ne_of_lt (Nat.lt_of_lt_of_le (cut_wfh σ lo _ _ h1) oR))).trans foτ9_8
  have fσ1_9 : σ1.1 (wFL W) = some (.inr (.inl (14, [.int mcf, .ref (wFA W), .int (nI (nF N))]))) := by rw [eσ1]; exact (hp_ne (Nat.ne_of_lt (Nat.lt_of_lt_of_le (cut_wfh σ lo _ _ h5) oR))).trans foτ9_9
  have fσ1_10 : σ1.1 (wFA W) = some (.inl (.object "java/lang/Object", 12, .inr (.inr (.inr (.inr ffA))))) := by rw [eσ1]; exact (hp_ne (Nat.ne_of_lt (Nat.lt_of_lt_of_le (cut_wfh σ lo _ _ h5p) oR))).trans foτ9_10
  have fσ1_11 : σ1.1 (wNL W) = some (.inr (.inl (14, [.int mcn, .ref (wNA W), .int (nI (nN N))]))) := by rw [eσ1]; exact (hp_ne (Nat.ne_of_lt (Nat.lt_of_lt_of_le (cut_wfh σ lo _ _ h4) oR))).trans foτ9_11
  have fσ1_12 : σ1.1 (wNA W) = some (.inl (.object "java/lang/Object", 4, .inr (.inr (.inr (.inr fnA))))) := by rw [eσ1]; exact (hp_ne (Nat.ne_of_lt (Nat.lt_of_lt_of_le (cut_wfh σ lo _ _ h4p) oR))).trans foτ9_12
  have fσ1_13 : σ1.1 (wR W) = some (.inl (.int, 6, .inl fr)) := by rw [eσ1]; exact (hp_ne (Nat.ne_of_lt (Nat.lt_of_lt_of_le (cut_wfh σ lo _ _ h2) oR))).trans foτ9_13
  have fσ1_14 : σ1.1 (wM W) = some (.inl (.int, 3, .inl fm)) := by rw [eσ1]; exact (hp_ne (Nat.ne_of_lt (Nat.lt_of_lt_of_le (cut_wfh σ lo _ _ h3) oR))).trans foτ9_14
  have fσ1_15 : σ1.1 (wUN W) = some (.inl (.object "FlagLaundry$Test", 7, .inr (.inr (.inr (.inr fu))))) := by rw [eσ1]; exact (hp_ne (Nat.ne_of_lt (Nat.lt_of_lt_of_le (cut_wfh σ lo _ _ h6) oR))).trans foτ9_15
  have qσ1 : kl lo σ σ1 := by rw [eσ1]; exact qτ9.put oR
  refine A_aload_n (i := 1) dX5_init_2_23 rfl rfl ?_
  refine A_getf cb_X5 fσ1_8 2 (Nat.le_of_ble_eq_true rfl) q827 rfl (v := .ref (wM W)) rfl dX5_init_2_24 ?_
  refine A_iconst (v := 0) dX5_init_2_27 (by decide) ?_
  refine A_aload_n (i := 0) dX5_init_2_28 rfl rfl ?_
  refine A_getf cb_X5 fσ1_0 2 (Nat.le_of_ble_eq_true rfl) q827 rfl (v := .ref M9) rfl dX5_init_2_29 ?_
  refine A_iconst (v := 0) dX5_init_2_32 (by decide) ?_
  refine A_iconst (v := 3) dX5_init_2_33 (by decide) ?_
  refine A_copyi (by decide) rfl fσ1_14 fσ1_2 q1824 q476 q475 q152 (by decide) (by decide) (by decide) (by decide) (by decide) (fun i hi => rfl) (by decide) (Nat.le_of_ble_eq_true rfl) dX5_init_2_34 ?_
  refine A_st (σ' := h_put σ1 M9 (.inl (.int, 3, .inl (va_cpy fm fm9 0 0 3)))) (rfl) ?_
  obtain ⟨σ2, eσ2⟩ : ∃ τ, τ = h_put σ1 M9 (.inl (.int, 3, .inl (va_cpy fm fm9 0 0 3))) := ⟨_, rfl⟩
  refine A_st (σ' := σ2) eσ2.symm ?_
  have wσ2 : wfh σ2 := by rw [eσ2]; exact wσ1.put fσ1_2
  have fσ2_0 : σ2.1 lo = some (.inr (.inl (4, [.int (N 9), .ref R9, .ref M9, .ref NL9, .ref FL9, .ref UN9, .int 0, .int 0, .int 0, .int 0, .int 0, .int 0, .int 0, .int 0, .int 0]))) := by rw [eσ2]; exact (hp_ne (ne_of (x := .inr (.inl (4, [.int (N 9), .ref R9, .ref M9, .ref NL9, .ref FL9, .ref UN9, .int 0, .int 0, .int 0, .int 0, .int 0, .int 0, .int 0, .int 0, .int 0]))) (y := .inl (.int, 3, .inl fm9)) fσ1_0 fσ1_2 (fun e8 => by simp at e8))).trans fσ1_0
  have fσ2_1 : σ2.1 R9 = some (.inl (.int, 6, .inl (va_cpy fr fr9 0 0 6))) := by rw [eσ2]; exact (hp_ne (ne_of (x := .inl (.int, 6, .inl (va_cpy fr fr9 0 0 6))) (y := .inl (.int, 3, .inl fm9)) fσ1_1 fσ1_2 (fun e8 => by simp at e8))).trans fσ1_1
  have fσ2_2 : σ2.1 M9 = some (.inl (.int, 3, .inl (va_cpy fm fm9 0 0 3))) := by rw [eσ2]; exact if_pos rfl
  have fσ2_3 : σ2.1 NL9 = some (.inr (.inl (14, [.int mn9, .ref NA9, .int (nI 0)]))) := by rw [eσ2]; exact (hp_ne (ne_of (x := .inr (.inl (14, [.int mn9, .ref NA9, .int (nI 0)]))) (y := .inl (.int, 3, .inl fm9)) fσ1_3 fσ1_2 (fun e8 => by simp at e8))).trans fσ1_3
  have fσ2_4 : σ2.1 NA9 = some (.inl (.object "java/lang/Object", 4, .inr (.inr (.inr (.inr fn9))))) := by rw [eσ2]; exact (hp_ne (ne_of (x := .inl (.object "java/lang/Object", 4, .inr (.inr (.inr (.inr fn9))))) (y := .inl (.int, 3, .inl fm9)) fσ1_4 fσ1_2 (fun e8 => by simp at e8))).trans fσ1_4
  have fσ2_5 : σ2.1 FL9 = some (.inr (.inl (14, [.int mf9, .ref FA9, .int (nI 0)]))) := by rw [eσ2]; exact (hp_ne (ne_of (x := .inr (.inl (14, [.int mf9, .ref FA9, .int (nI 0)]))) (y := .inl (.int, 3, .inl fm9)) fσ1_5 fσ1_2 (fun e8 => by simp at e8))).trans fσ1_5
  have fσ2_6 : σ2.1 FA9 = some (.inl (.object "java/lang/Object", 12, .inr (.inr (.inr (.inr ff9))))) := by rw [eσ2]; exact (hp_ne (ne_of (x := .inl (.object "java/lang/Object", 12, .inr (.inr (.inr (.inr ff9))))) (y := .inl (.int, 3, .inl fm9)) fσ1_6 fσ1_2 (fun e8 => by simp at e8))).trans fσ1_6
  have fσ2_7 : σ2.1 UN9 = some (.inl (.object "FlagLaundry$Test", 7, .inr (.inr (.inr (.inr fu9))))) := by rw [eσ2]; exact (hp_ne (ne_of (x := .inl (.object "FlagLaundry$Test", 7, .inr (.inr (.inr (.inr fu9))))) (y := .inl (.int, 3, .inl fm9)) fσ1_7 fσ1_2 (fun e8 => by simp at e8))).trans fσ1_7
  have fσ2_8 : σ2.1 (wW W) = some (.inr (.inl (4, [.int (N 9), .ref (wR W), .ref (wM W), .ref (wNL W), .ref (wFL W), .ref (wUN W), .int (N 6), .int (N 8), .int (N 0), .int (N 1), .int (N 2), .int (N 3), .int (N 4), .int (N 5), .int (N 11)]))) := by rw [eσ2]; exact (hp_ne (Nat.ne_of_lt (Nat.lt_of_lt_of_le (cut_wfh σ lo _ _ h1) oM))).trans fσ1_8
  have fσ2_9 : σ2.1 (wFL W) = some (.inr (.inl (14, [.int mcf, .ref (wFA W), .int (nI (nF N))]))) := by rw [eσ2]; exact (hp_ne (Nat.ne_of_lt (Nat.lt_of_lt_of_le (cut_wfh σ lo _ _ h5) oM))).trans fσ1_9
  have fσ2_10 : σ2.1 (wFA W) = some (.inl (.object "java/lang/Object", 12, .inr (.inr (.inr (.inr ffA))))) := by rw [eσ2]; exact (hp_ne (Nat.ne_of_lt (Nat.lt_of_lt_of_le (cut_wfh σ lo _ _ h5p) oM))).trans fσ1_10
  have fσ2_11 : σ2.1 (wNL W) = some (.inr (.inl (14, [.int mcn, .ref (wNA W), .int (nI (nN N))]))) := by rw [eσ2]; exact (hp_ne (Nat.ne_of_lt (Nat.lt_of_lt_of_le (cut_wfh σ lo _ _ h4) oM))).trans fσ1_11
  have fσ2_12 : σ2.1 (wNA W) = some (.inl (.object "java/lang/Object", 4, .inr (.inr (.inr (.inr fnA))))) := by rw [eσ2]; exact (hp_ne (Nat.ne_of_lt (Nat.lt_of_lt_of_le (cut_wfh σ lo _ _ h4p) oM))).trans fσ1_12
  have fσ2_13 : σ2.1 (wR W) = some (.inl (.int, 6, .inl fr)) := by rw [eσ2]; exact (hp_ne (Nat.ne_of_lt (Nat.lt_of_lt_of_le (cut_wfh σ lo _ _ h2) oM))).trans fσ1_13
  have fσ2_14 : σ2.1 (wM W) = some (.inl (.int, 3, .inl fm)) := by rw [eσ2]; exact (hp_ne (Nat.ne_of_lt (Nat.lt_of_lt_of_le (cut_wfh σ lo _ _ h3) oM))).trans fσ1_14
  have fσ2_15 : σ2.1 (wUN W) = some (.inl (.object "FlagLaundry$Test", 7, .inr (.inr (.inr (.inr fu))))) := by rw [eσ2]; exact (hp_ne (Nat.ne_of_lt (Nat.lt_of_lt_of_le (cut_wfh σ lo _ _ h6) oM))).trans fσ1_15
  have qσ2 : kl lo σ σ2 := by rw [eσ2]; exact qσ1.put oM
  refine A_aload_n (i := 1) dX5_init_2_37 rfl rfl ?_
  refine A_getf cb_X5 fσ2_8 3 (Nat.le_of_ble_eq_true rfl) q830 rfl (v := .ref (wNL W)) rfl dX5_init_2_38 ?_
  refine A_callF0E (b' := 53) (v := some (.ref σ2.2)) (τ := h_put (h_put (h_put (h_new σ2 (.inr (.inl (15, [.int 0, .int 0, .int 0, .null])))) σ2.2 (.inr (.inl (15, [.int 0, .int 0, .int 0, .ref (wNL W)])))) σ2.2 (.inr (.inl (15, [.int 0, .int (-1), .int 0, .ref (wNL W)])))) σ2.2 (.inr (.inl (15, [.int 0, .int (-1), .int mcn, .ref (wNL W)])))) (c_lIter σ2 (wNL W) (wNA W) (nN N) mcn fσ2_11) tF_iterator q1568 fσ2_11 rfl dX5_init_2_41 (by decide) (Nat.le_of_ble_eq_true rfl) (Nat.le_of_ble_eq_true rfl) ?_
  obtain ⟨σ3, eσ3⟩ : ∃ τ, τ = h_put (h_put (h_put (h_new σ2 (.inr (.inl (15, [.int 0, .int 0, .int 0, .null])))) σ2.2 (.inr (.inl (15, [.int 0, .int 0, .int 0, .ref (wNL W)])))) σ2.2 (.inr (.inl (15, [.int 0, .int (-1), .int 0, .ref (wNL W)])))) σ2.2 (.inr (.inl (15, [.int 0, .int (-1), .int mcn, .ref (wNL W)]))) := ⟨_, rfl⟩
  refine A_st (σ' := σ3) eσ3.symm ?_
  have wσ3 : wfh σ3 := by rw [eσ3]; exact ((((wσ2.new).put (if_pos rfl)).put (if_pos rfl)).put (if_pos rfl))
  have qσ3 : kl lo σ σ3 := by rw [eσ3]; exact ((((qσ2.new hl).put (Nat.le_trans hl qσ2.1)).put (Nat.le_trans hl qσ2.1)).put (Nat.le_trans hl qσ2.1))
  have fσ3_0 : σ3.1 lo = some (.inr (.inl (4, [.int (N 9), .ref R9, .ref M9, .ref NL9, .ref FL9, .ref UN9, .int 0, .int 0, .int 0, .int 0, .int 0, .int 0, .int 0, .int 0, .int 0]))) := by rw [eσ3]; exact ((hp_ne (Nat.ne_of_lt (wσ2 _ _ fσ2_0))).trans ((hp_ne (Nat.ne_of_lt (wσ2 _ _ fσ2_0))).trans ((hp_ne (Nat.ne_of_lt (wσ2 _ _ fσ2_0))).trans ((hn_ne (by exact Nat.ne_of_lt (wσ2 _ _ fσ2_0))).trans fσ2_0))))
  have fσ3_1 : σ3.1 R9 = some (.inl (.int, 6, .inl (va_cpy fr fr9 0 0 6))) := by rw [eσ3]; exact ((hp_ne (Nat.ne_of_lt (wσ2 _ _ fσ2_1))).trans ((hp_ne (Nat.ne_of_lt (wσ2 _ _ fσ2_1))).trans ((hp_ne (Nat.ne_of_lt (wσ2 _ _ fσ2_1))).trans ((hn_ne (by exact Nat.ne_of_lt (wσ2 _ _ fσ2_1))).trans fσ2_1))))
  have fσ3_2 : σ3.1 M9 = some (.inl (.int, 3, .inl (va_cpy fm fm9 0 0 3))) := by rw [eσ3]; exact ((hp_ne (Nat.ne_of_lt (wσ2 _ _ fσ2_2))).trans ((hp_ne (Nat.ne_of_lt (wσ2 _ _ fσ2_2))).trans ((hp_ne (Nat.ne_of_lt (wσ2 _ _ fσ2_2))).trans ((hn_ne (by exact Nat.ne_of_lt (wσ2 _ _ fσ2_2))).trans fσ2_2))))
  have fσ3_3 : σ3.1 NL9 = some (.inr (.inl (14, [.int mn9, .ref NA9, .int (nI 0)]))) := by rw [eσ3]; exact ((hp_ne (Nat.ne_of_lt (wσ2 _ _ fσ2_3))).trans ((hp_ne (Nat.ne_of_lt (wσ2 _ _ fσ2_3))).trans ((hp_ne (Nat.ne_of_lt (wσ2 _ _ fσ2_3))).trans ((hn_ne (by exact Nat.ne_of_lt (wσ2 _ _ fσ2_3))).trans fσ2_3))))
  have fσ3_4 : σ3.1 NA9 = some (.inl (.object "java/lang/Object", 4, .inr (.inr (.inr (.inr fn9))))) := by rw [eσ3]; exact ((hp_ne (Nat.ne_of_lt (wσ2 _ _ fσ2_4))).trans ((hp_ne (Nat.ne_of_lt (wσ2 _ _ fσ2_4))).trans ((hp_ne (Nat.ne_of_lt (wσ2 _ _ fσ2_4))).trans ((hn_ne (by exact Nat.ne_of_lt (wσ2 _ _ fσ2_4))).trans fσ2_4))))
  have fσ3_5 : σ3.1 FL9 = some (.inr (.inl (14, [.int mf9, .ref FA9, .int (nI 0)]))) := by rw [eσ3]; exact ((hp_ne (Nat.ne_of_lt (wσ2 _ _ fσ2_5))).trans ((hp_ne (Nat.ne_of_lt (wσ2 _ _ fσ2_5))).trans ((hp_ne (Nat.ne_of_lt (wσ2 _ _ fσ2_5))).trans ((hn_ne (by exact Nat.ne_of_lt (wσ2 _ _ fσ2_5))).trans fσ2_5))))
  have fσ3_6 : σ3.1 FA9 = some (.inl (.object "java/lang/Object", 12, .inr (.inr (.inr (.inr ff9))))) := by rw [eσ3]; exact ((hp_ne (Nat.ne_of_lt (wσ2 _ _ fσ2_6))).trans ((hp_ne (Nat.ne_of_lt (wσ2 _ _ fσ2_6))).trans ((hp_ne (Nat.ne_of_lt (wσ2 _ _ fσ2_6))).trans ((hn_ne (by exact Nat.ne_of_lt (wσ2 _ _ fσ2_6))).trans fσ2_6))))
  have fσ3_7 : σ3.1 UN9 = some (.inl (.object "FlagLaundry$Test", 7, .inr (.inr (.inr (.inr fu9))))) := by rw [eσ3]; exact ((hp_ne (Nat.ne_of_lt (wσ2 _ _ fσ2_7))).trans ((hp_ne (Nat.ne_of_lt (wσ2 _ _ fσ2_7))).trans ((hp_ne (Nat.ne_of_lt (wσ2 _ _ fσ2_7))).trans ((hn_ne (by exact Nat.ne_of_lt (wσ2 _ _ fσ2_7))).trans fσ2_7))))
  have fσ3_8 : σ3.1 (wW W) = some (.inr (.inl (4, [.int (N 9), .ref (wR W), .ref (wM W), .ref (wNL W), .ref (wFL W), .ref (wUN W), .int (N 6), .int (N 8), .int (N 0), .int (N 1), .int (N 2), .int (N 3), .int (N 4), .int (N 5), .int (N 11)]))) := by rw [eσ3]; exact ((hp_ne (Nat.ne_of_lt (wσ2 _ _ fσ2_8))).trans ((hp_ne (Nat.ne_of_lt (wσ2 _ _ fσ2_8))).trans ((hp_ne (Nat.ne_of_lt (wσ2 _ _ fσ2_8))).trans ((hn_ne (by exact Nat.ne_of_lt (wσ2 _ _ fσ2_8))).trans fσ2_8))))
  have fσ3_9 : σ3.1 (wFL W) = some (.inr (.inl (14, [.int mcf, .ref (wFA W), .int (nI (nF N))]))) := by rw [eσ3]; exact ((hp_ne (Nat.ne_of_lt (wσ2 _ _ fσ2_9))).trans ((hp_ne (Nat.ne_of_lt (wσ2 _ _ fσ2_9))).trans ((hp_ne (Nat.ne_of_lt (wσ2 _ _ fσ2_9))).trans ((hn_ne (by exact Nat.ne_of_lt (wσ2 _ _ fσ2_9))).trans fσ2_9))))
  have fσ3_10 : σ3.1 (wFA W) = some (.inl (.object "java/lang/Object", 12, .inr (.inr (.inr (.inr ffA))))) := by rw [eσ3]; exact ((hp_ne (Nat.ne_of_lt (wσ2 _ _ fσ2_10))).trans ((hp_ne (Nat.ne_of_lt (wσ2 _ _ fσ2_10))).trans ((hp_ne (Nat.ne_of_lt (wσ2 _ _ fσ2_10))).trans ((hn_ne (by exact Nat.ne_of_lt (wσ2 _ _ fσ2_10))).trans fσ2_10))))
  have fσ3_11 : σ3.1 (wNL W) = some (.inr (.inl (14, [.int mcn, .ref (wNA W), .int (nI (nN N))]))) := by rw [eσ3]; exact ((hp_ne (Nat.ne_of_lt (wσ2 _ _ fσ2_11))).trans ((hp_ne (Nat.ne_of_lt (wσ2 _ _ fσ2_11))).trans ((hp_ne (Nat.ne_of_lt (wσ2 _ _ fσ2_11))).trans ((hn_ne (by exact Nat.ne_of_lt (wσ2 _ _ fσ2_11))).trans fσ2_11))))
  have fσ3_12 : σ3.1 (wNA W) = some (.inl (.object "java/lang/Object", 4, .inr (.inr (.inr (.inr fnA))))) := by rw [eσ3]; exact ((hp_ne (Nat.ne_of_lt (wσ2 _ _ fσ2_12))).trans ((hp_ne (Nat.ne_of_lt (wσ2 _ _ fσ2_12))).trans ((hp_ne (Nat.ne_of_lt (wσ2 _ _ fσ2_12))).trans ((hn_ne (by exact Nat.ne_of_lt (wσ2 _ _ fσ2_12))).trans fσ2_12))))
  have fσ3_13 : σ3.1 (wR W) = some (.inl (.int, 6, .inl fr)) := by rw [eσ3]; exact ((hp_ne (Nat.ne_of_lt (wσ2 _ _ fσ2_13))).trans ((hp_ne (Nat.ne_of_lt (wσ2 _ _ fσ2_13))).trans ((hp_ne (Nat.ne_of_lt (wσ2 _ _ fσ2_13))).trans ((hn_ne (by exact Nat.ne_of_lt (wσ2 _ _ fσ2_13))).trans fσ2_13))))
  have fσ3_14 : σ3.1 (wM W) = some (.inl (.int, 3, .inl fm)) := by rw [eσ3]; exact ((hp_ne (Nat.ne_of_lt (wσ2 _ _ fσ2_14))).trans ((hp_ne (Nat.ne_of_lt (wσ2 _ _ fσ2_14))).trans ((hp_ne (Nat.ne_of_lt (wσ2 _ _ fσ2_14))).trans ((hn_ne (by exact Nat.ne_of_lt (wσ2 _ _ fσ2_14))).trans fσ2_14))))
  have fσ3_15 : σ3.1 (wUN W) = some (.inl (.object "FlagLaundry$Test", 7, .inr (.inr (.inr (.inr fu))))) := by rw [eσ3]; exact ((hp_ne (Nat.ne_of_lt (wσ2 _ _ fσ2_15))).trans ((hp_ne (Nat.ne_of_lt (wσ2 _ _ fσ2_15))).trans ((hp_ne (Nat.ne_of_lt (wσ2 _ _ fσ2_15))).trans ((hn_ne (by exact Nat.ne_of_lt (wσ2 _ _ fσ2_15))).trans fσ2_15))))
  have fσ3_16 : σ3.1 σ2.2 = some (.inr (.inl (15, [.int 0, .int (-1), .int mcn, .ref (wNL W)]))) := by rw [eσ3]; exact (if_pos rfl)
  refine A_astore_n (i := 2) dX5_init_2_46 rfl (Nat.le_of_ble_eq_true rfl) ?_
  have hr0 : RWr g σ3 (mkV lo R9 M9 NL9 NA9 FL9 FA9 UN9 (fun _ => 0) (fun _ => 0) (fun _ => 0)) (part N 0 0) := by
    refine ⟨⟨_, fσ3_1, fun c hc => ?_⟩, ⟨_, fσ3_2, fun c hc => ?_⟩, ⟨_, _, fσ3_3, fσ3_4, fun c hc => ?_⟩, ⟨_, _, fσ3_5, fσ3_6, fun c hc => ?_⟩, ⟨_, fσ3_7, v6p⟩, fun c hc => ?_, fun c hc => ?_, fun c hc => ?_, fun i j hc => ?_, fun i j hc => ?_⟩
    · rw [part_o N 0 0 (by omega) (by omega), ← h2p c hc]
      exact sb_cpy0 (Nat.lt_of_lt_of_le hc hC6)
    · rw [part_o N 0 0 (by omega) (by omega), ← h3p c hc]
      exact sb_cpy0 (Nat.lt_of_lt_of_le hc hT3)
    all_goals first | rw [part_nN N 0 (by decide)] at hc | rw [part_nF N 0 (by decide)] at hc
    all_goals exact absurd hc (Nat.not_lt_zero _)
  obtain ⟨iθ, eiθ⟩ : ∃ a, a = σ2.2 := ⟨_, rfl⟩
  rw [← eiθ]
  have fiθ := fσ3_16
  rw [← eiθ] at fiθ
  refine A_less (b' := ((nN N) - 0) * 1 + 49) (by omega) ?_
  refine A_sub (L' := [(0, .ref lo), (1, .ref (wW W)), (2, .ref iθ)]) ⟨rfl, rfl, rfl, trivial⟩ ?_
  refine A_forP (α := AH) (nN N) (fun i47 _ => ((nN N) - i47) * 1 + 49) (fun i47 _ => [(0, .ref lo), (1, .ref (wW W)), (2, .ref iθ)]) (fun _ τ47 => τ47) (fun i47 τ47 => kl lo σ τ47 ∧ τ47.1 lo = some (.inr (.inl (4, [.int (N 9), .ref R9, .ref M9, .ref NL9, .ref FL9, .ref UN9, .int 0, .int 0, .int 0, .int 0, .int 0, .int 0, .int 0, .int 0, .int 0]))) ∧ (∃ N7, RWr g τ47 (mkV lo R9 M9 NL9 NA9 FL9 FA9 UN9 (fun _ => 0) N7 (fun _ => 0)) (part N i47 0) ∧ ∀ k, k < i47 → lo ≤ N7 k) ∧ ∃ lr, τ47.1 iθ = some (.inr (.inl (15, [.int (nI i47), .int lr, .int mcn, .ref (wNL W)])))) σ3 (⟨qσ3, fσ3_0, ⟨_, hr0.nw nw.rf, fun k hk => absurd hk (Nat.not_lt_zero _)⟩, _, fiθ⟩) (fun i47 τ47 hi47 hI47 ih47 => ?_) (fun τ47 hI47 => ?_)
  · skip
    refine A_less (b' := ((nN N) - (i47 + 1)) * 1 + 49 + 1) (by omega) ?_
    obtain ⟨qτ47, cτ47, ⟨N7, hr7, hN7⟩, lr5, fi5⟩ := hI47
    refine A_wfh (fun wτ47 hgτ47 => ?_)
    have nτ47 : nw τ47 τ47 := nw.rf
    have hb7 : i47 < 2 ^ 31 := Nat.lt_of_lt_of_le hi47 (Nat.le_trans hN4 (by decide))
    have foτ47_0 : τ47.1 (wNL W) = some (.inr (.inl (14, [.int mcn, .ref (wNA W), .int (nI (nN N))]))) := cut_at qτ47 h4
    have foτ47_1 : τ47.1 (wNA W) = some (.inl (.object "java/lang/Object", 4, .inr (.inr (.inr (.inr fnA))))) := cut_at qτ47 h4p
    have hr7c := hr7
    obtain ⟨⟨fra, r2a, r2pa⟩, ⟨fma, r3a, r3pa⟩, ⟨mna, fna, r4a, r4pa, r4qa⟩, ⟨mfa, ffa, r5a, r5pa, r5qa⟩, ⟨fua, r6a, r6pa⟩, r7a, r8a, r9a, r10a, r11a⟩ := hr7c
    rw [part_nN N 0 hb7] at r4a r4qa r9a
    have r4b : τ47.1 NL9 = some (.inr (.inl (14, [.int mna, .ref NA9, .int (nI i47)]))) := r4a
    have r4c : τ47.1 NA9 = some (.inl (.object "java/lang/Object", 4, .inr (.inr (.inr (.inr fna))))) := r4pa
    refine A_aload_n (i := 2) dX5_init_2_47 rfl rfl ?_
    refine A_callF0E (b' := ((nN N) - (i47 + 1)) * 1 + 49 + 1) (v := some (.int (bi (i47 < nN N)))) (τ := τ47) (c_iHas τ47 iθ (wNL W) (wNA W) (nN N) i47 mcn lr5 fi5 foτ47_0 (Nat.le_of_lt hi47) (by omega)) tF_hasNext q1596 fi5 rfl dX5_init_2_48 (by decide) (by omega) (Nat.le_of_ble_eq_true rfl) ?_
    refine A_if_eq_f (tgt := 81) dX5_init_2_53 (by decide) (by rw [bi_t hi47]; decide) ?_
    obtain ⟨hh7, hn7, hd7⟩ := h9 i47 hi47
    refine A_aload_n (i := 2) dX5_init_2_56 rfl rfl ?_
    refine A_callF0E (b' := ((nN N) - (i47 + 1)) * 1 + 49 + 1) (v := some (.ref (wN W i47))) (τ := h_put (h_put τ47 iθ (.inr (.inl (15, [.int (nI (i47 + 1)), .int lr5, .int mcn, .ref (wNL W)])))) iθ (.inr (.inl (15, [.int (nI (i47 + 1)), .int (nI i47), .int mcn, .ref (wNL W)])))) (c_iNext τ47 iθ (wNL W) (wNA W) (nN N) 4 i47 (wN W i47) mcn lr5 fnA fi5 foτ47_0 foτ47_1 hi47 (by omega) (by decide) (h4q i47 hi47)) tF_next q1606 fi5 rfl dX5_init_2_57 (by decide) (by omega) (Nat.le_of_ble_eq_true rfl) ?_
    obtain ⟨σ4, eσ4⟩ : ∃ τ, τ = h_put (h_put τ47 iθ (.inr (.inl (15, [.int (nI (i47 + 1)), .int lr5, .int mcn, .ref (wNL W)])))) iθ (.inr (.inl (15, [.int (nI (i47 + 1)), .int (nI i47), .int mcn, .ref (wNL W)]))) := ⟨_, rfl⟩
    refine A_st (σ' := σ4) eσ4.symm ?_
    have wσ4 : wfh σ4 := by rw [eσ4]; exact ((wτ47.put fi5).put (if_pos rfl))
    have qσ4 : kl lo σ σ4 := by rw [eσ4]; exact ((qτ47.put (by rw [eiθ]; exact Nat.le_trans hl qσ2.1)).put (by rw [eiθ]; exact Nat.le_trans hl qσ2.1))
    have nσ4 : nw τ47 σ4 := by rw [eσ4]; exact (nτ47.kx wτ47 fi5 (isW_no (by decide)) (kx.rf.put.put))
    have fσ4_0 : σ4.1 (wNL W) = some (.inr (.inl (14, [.int mcn, .ref (wNA W), .int (nI (nN N))]))) := by rw [eσ4]; exact ((hp_ne (ne_of (x := .inr (.inl (14, [.int mcn, .ref (wNA W), .int (nI (nN N))]))) (y := .inr (.inl (15, [.int (nI i47), .int lr5, .int mcn, .ref (wNL W)]))) foτ47_0 fi5 (fun e8 => by simp at e8))).trans ((hp_ne (ne_of (x := .inr (.inl (14, [.int mcn, .ref (wNA W), .int (nI (nN N))]))) (y := .inr (.inl (15, [.int (nI i47), .int lr5, .int mcn, .ref (wNL W)]))) foτ47_0 fi5 (fun e8 => by simp at e8))).trans foτ47_0))
    have fσ4_1 : σ4.1 (wNA W) = some (.inl (.object "java/lang/Object", 4, .inr (.inr (.inr (.inr fnA))))) := by rw [eσ4]; exact ((hp_ne (ne_of (x := .inl (.object "java/lang/Object", 4, .inr (.inr (.inr (.inr fnA))))) (y := .inr (.inl (15, [.int (nI i47), .int lr5, .int mcn, .ref (wNL W)]))) foτ47_1 fi5 (fun e8 => by simp at e8))).trans ((hp_ne (ne_of (x := .inl (.object "java/lang/Object", 4, .inr (.inr (.inr (.inr fnA))))) (y := .inr (.inl (15, [.int (nI i47), .int lr5, .int mcn, .ref (wNL W)]))) foτ47_1 fi5 (fun e8 => by simp at e8))).trans foτ47_1))
    have fσ4_2 : σ4.1 lo = some (.inr (.inl (4, [.int (N 9), .ref R9, .ref M9, .ref NL9, .ref FL9, .ref UN9, .int 0, .int 0, .int 0, .int 0, .int 0, .int 0, .int 0, .int 0, .int 0]))) := by rw [eσ4]; exact ((hp_ne (ne_of (x := .inr (.inl (4, [.int (N 9), .ref R9, .ref M9, .ref NL9, .ref FL9, .ref UN9, .int 0, .int 0, .int 0, .int 0, .int 0, .int 0, .int 0, .int 0, .int 0]))) (y := .inr (.inl (15, [.int (nI i47), .int lr5, .int mcn, .ref (wNL W)]))) cτ47 fi5 (fun e8 => by simp at e8))).trans ((hp_ne (ne_of (x := .inr (.inl (4, [.int (N 9), .ref R9, .ref M9, .ref NL9, .ref FL9, .ref UN9, .int 0, .int 0, .int 0, .int 0, .int 0, .int 0, .int 0, .int 0, .int 0]))) (y := .inr (.inl (15, [.int (nI i47), .int lr5, .int mcn, .ref (wNL W)]))) cτ47 fi5 (fun e8 => by simp at e8))).trans cτ47))
    have fσ4_3 : σ4.1 NL9 = some (.inr (.inl (14, [.int mna, .ref NA9, .int (nI i47)]))) := by rw [eσ4]; exact ((hp_ne (ne_of (x := .inr (.inl (14, [.int mna, .ref NA9, .int (nI i47)]))) (y := .inr (.inl (15, [.int (nI i47), .int lr5, .int mcn, .ref (wNL W)]))) r4b fi5 (fun e8 => by simp at e8))).trans ((hp_ne (ne_of (x := .inr (.inl (14, [.int mna, .ref NA9, .int (nI i47)]))) (y := .inr (.inl (15, [.int (nI i47), .int lr5, .int mcn, .ref (wNL W)]))) r4b fi5 (fun e8 => by simp at e8))).trans r4b))
    have fσ4_4 : σ4.1 NA9 = some (.inl (.object "java/lang/Object", 4, .inr (.inr (.inr (.inr fna))))) := by rw [eσ4]; exact ((hp_ne (ne_of (x := .inl (.object "java/lang/Object", 4, .inr (.inr (.inr (.inr fna))))) (y := .inr (.inl (15, [.int (nI i47), .int lr5, .int mcn, .ref (wNL W)]))) r4c fi5 (fun e8 => by simp at e8))).trans ((hp_ne (ne_of (x := .inl (.object "java/lang/Object", 4, .inr (.inr (.inr (.inr fna))))) (y := .inr (.inl (15, [.int (nI i47), .int lr5, .int mcn, .ref (wNL W)]))) r4c fi5 (fun e8 => by simp at e8))).trans r4c))
    have fσ4_5 : σ4.1 iθ = some (.inr (.inl (15, [.int (nI (i47 + 1)), .int (nI i47), .int mcn, .ref (wNL W)]))) := by rw [eσ4]; exact (if_pos rfl)
    have fσ4_6 : σ4.1 (wN W i47) = some (.inr (.inl (5, [.int (na N i47 0), .int (na N i47 1), .int (na N i47 2), .int hh7]))) := by rw [eσ4]; exact ((hp_ne (ne_of (x := .inr (.inl (5, [.int (na N i47 0), .int (na N i47 1), .int (na N i47 2), .int hh7]))) (y := .inr (.inl (15, [.int (nI i47), .int lr5, .int mcn, .ref (wNL W)]))) (cut_at qτ47 hn7) fi5 (fun e8 => by simp at e8))).trans ((hp_ne (ne_of (x := .inr (.inl (5, [.int (na N i47 0), .int (na N i47 1), .int (na N i47 2), .int hh7]))) (y := .inr (.inl (15, [.int (nI i47), .int lr5, .int mcn, .ref (wNL W)]))) (cut_at qτ47 hn7) fi5 (fun e8 => by simp at e8))).trans (cut_at qτ47 hn7)))
    refine A_castE fσ4_6 rfl q1463 dX5_init_2_62 ?_
    refine A_astore_n (i := 3) dX5_init_2_65 rfl (Nat.le_of_ble_eq_true rfl) ?_
    refine A_aload_n (i := 0) dX5_init_2_66 rfl rfl ?_
    refine A_new (b' := ((nN N) - (i47 + 1)) * 1 + 49 + 0) (u := 1) cb_X6 q1463 q978 q162 (fs := [.int 0, .int 0, .int 0, .int 0]) (by intro j hj; rcases j with _ | j; exact rfl; rcases j with _ | j; exact rfl; rcases j with _ | j; exact rfl; rcases j with _ | j; exact rfl; omega) (by omega) ⟨Nat.le_of_ble_eq_true rfl, Nat.le_of_ble_eq_true rfl⟩ dX5_init_2_67 ?_
    obtain ⟨σ5, eσ5⟩ : ∃ τ, τ = h_new σ4 (.inr (.inl (5, [.int 0, .int 0, .int 0, .int 0]))) := ⟨_, rfl⟩
    refine A_st (σ' := σ5) eσ5.symm ?_
    have wσ5 : wfh σ5 := by rw [eσ5]; exact wσ4.new
    have fσ5_0 : σ5.1 (wNL W) = some (.inr (.inl (14, [.int mcn, .ref (wNA W), .int (nI (nN N))]))) := by rw [eσ5]; exact (hn_ne (Nat.ne_of_lt (wσ4 _ _ fσ4_0))).trans fσ4_0
    have fσ5_1 : σ5.1 (wNA W) = some (.inl (.object "java/lang/Object", 4, .inr (.inr (.inr (.inr fnA))))) := by rw [eσ5]; exact (hn_ne (Nat.ne_of_lt (wσ4 _ _ fσ4_1))).trans fσ4_1
    have fσ5_2 : σ5.1 lo = some (.inr (.inl (4, [.int (N 9), .ref R9, .ref M9, .ref NL9, .ref FL9, .ref UN9, .int 0, .int 0, .int 0, .int 0, .int 0, .int 0, .int 0, .int 0, .int 0]))) := by rw [eσ5]; exact (hn_ne (Nat.ne_of_lt (wσ4 _ _ fσ4_2))).trans fσ4_2
    have fσ5_3 : σ5.1 NL9 = some (.inr (.inl (14, [.int mna, .ref NA9, .int (nI i47)]))) := by rw [eσ5]; exact (hn_ne (Nat.ne_of_lt (wσ4 _ _ fσ4_3))).trans fσ4_3
    have fσ5_4 : σ5.1 NA9 = some (.inl (.object "java/lang/Object", 4, .inr (.inr (.inr (.inr fna))))) := by rw [eσ5]; exact (hn_ne (Nat.ne_of_lt (wσ4 _ _ fσ4_4))).trans fσ4_4
    have fσ5_5 : σ5.1 iθ = some (.inr (.inl (15, [.int (nI (i47 + 1)), .int (nI i47), .int mcn, .ref (wNL W)]))) := by rw [eσ5]; exact (hn_ne (Nat.ne_of_lt (wσ4 _ _ fσ4_5))).trans fσ4_5
    have fσ5_6 : σ5.1 (wN W i47) = some (.inr (.inl (5, [.int (na N i47 0), .int (na N i47 1), .int (na N i47 2), .int hh7]))) := by rw [eσ5]; exact (hn_ne (Nat.ne_of_lt (wσ4 _ _ fσ4_6))).trans fσ4_6
    have fσ5_7 : σ5.1 σ4.2 = some (.inr (.inl (5, [.int 0, .int 0, .int 0, .int 0]))) := by rw [eσ5]; exact if_pos rfl
    have xσ5 : ext σ4 σ5 := by rw [eσ5]; exact ext_new _ _
    have qσ5 : kl lo σ σ5 := by rw [eσ5]; exact qσ4.new hl
    have nσ5 : nw τ47 σ5 := by rw [eσ5]; exact nσ4.new wτ47
    refine A_dup dX5_init_2_70 rfl ?_
    refine A_aload_n (i := 3) dX5_init_2_71 rfl rfl ?_
    refine A_callI1 (b' := ((nN N) - (i47 + 1)) * 1 + 49 + 0) (c_nInit2 σ5 σ4.2 (wN W i47) (na N i47 0) (na N i47 1) (na N i47 2) hh7 fσ5_7 fσ5_6 (Nat.ne_of_lt (Nat.lt_of_lt_of_le (cut_wfh σ lo _ _ hn7) (Nat.le_trans hl qσ4.1)))) tX6_init_2 q1825 dX5_init_2_72 (by decide) (by omega) (Nat.le_of_ble_eq_true rfl) (fun w9 σ6 h9 => ?_) (fun E9 q9 τ9 h9 => h9.elim)
    obtain ⟨e9, fσ6_a, kσ6⟩ := h9
    subst e9
    refine A_wfh (fun wσ6 hgσ6 => ?_)
    have qσ6 : kl lo σ σ6 := qσ5.kx hl (Nat.le_trans hl qσ4.1) kσ6
    have nσ6 : nw τ47 σ6 := nσ5.kxF wτ47 nσ4.1 kσ6
    have fσ6_0 : σ6.1 (wNL W) = some (.inr (.inl (14, [.int mcn, .ref (wNA W), .int (nI (nN N))]))) := kσ6.at wσ5 fσ5_0 (Nat.ne_of_lt (Nat.lt_of_lt_of_le (cut_wfh σ lo _ _ h4) (Nat.le_trans hl qσ4.1)))
    have fσ6_1 : σ6.1 (wNA W) = some (.inl (.object "java/lang/Object", 4, .inr (.inr (.inr (.inr fnA))))) := kσ6.at wσ5 fσ5_1 (Nat.ne_of_lt (Nat.lt_of_lt_of_le (cut_wfh σ lo _ _ h4p) (Nat.le_trans hl qσ4.1)))
    have fσ6_2 : σ6.1 lo = some (.inr (.inl (4, [.int (N 9), .ref R9, .ref M9, .ref NL9, .ref FL9, .ref UN9, .int 0, .int 0, .int 0, .int 0, .int 0, .int 0, .int 0, .int 0, .int 0]))) := kσ6.at wσ5 fσ5_2 (ne_of (x := .inr (.inl (4, [.int (N 9), .ref R9, .ref M9, .ref NL9, .ref FL9, .ref UN9, .int 0, .int 0, .int 0, .int 0, .int 0, .int 0, .int 0, .int 0, .int 0]))) (y := .inr (.inl (5, [.int 0, .int 0, .int 0, .int 0]))) fσ5_2 fσ5_7 (fun e8 => by simp at e8))
    have fσ6_3 : σ6.1 NL9 = some (.inr (.inl (14, [.int mna, .ref NA9, .int (nI i47)]))) := kσ6.at wσ5 fσ5_3 (ne_of (x := .inr (.inl (14, [.int mna, .ref NA9, .int (nI i47)]))) (y := .inr (.inl (5, [.int 0, .int 0, .int 0, .int 0]))) fσ5_3 fσ5_7 (fun e8 => by simp at e8))
    have fσ6_4 : σ6.1 NA9 = some (.inl (.object "java/lang/Object", 4, .inr (.inr (.inr (.inr fna))))) := kσ6.at wσ5 fσ5_4 (ne_of (x := .inl (.object "java/lang/Object", 4, .inr (.inr (.inr (.inr fna))))) (y := .inr (.inl (5, [.int 0, .int 0, .int 0, .int 0]))) fσ5_4 fσ5_7 (fun e8 => by simp at e8))
    have fσ6_5 : σ6.1 iθ = some (.inr (.inl (15, [.int (nI (i47 + 1)), .int (nI i47), .int mcn, .ref (wNL W)]))) := kσ6.at wσ5 fσ5_5 (ne_of (x := .inr (.inl (15, [.int (nI (i47 + 1)), .int (nI i47), .int mcn, .ref (wNL W)]))) (y := .inr (.inl (5, [.int 0, .int 0, .int 0, .int 0]))) fσ5_5 fσ5_7 (fun e8 => by simp at e8))
    have fσ6_6 : σ6.1 (wN W i47) = some (.inr (.inl (5, [.int (na N i47 0), .int (na N i47 1), .int (na N i47 2), .int hh7]))) := kσ6.at wσ5 fσ5_6 (Nat.ne_of_lt (Nat.lt_of_lt_of_le (cut_wfh σ lo _ _ hn7) (Nat.le_trans hl qσ4.1)))
    have hxo := fσ6_a
    have hi47N : i47 < 4 := Nat.lt_of_lt_of_le hi47 hN4
    have hb8 : i47 + 1 < 2 ^ 31 := Nat.lt_of_le_of_lt hi47N (by decide)
    refine A_callV1E (b' := ((nN N) - (i47 + 1)) * 1 + 49 + 0) (v := none) (τ := h_put (h_put (h_put σ6 NL9 (.inr (.inl (14, [.int (mna + 1), .ref NA9, .int (nI i47)])))) NA9 (.inl (.object "java/lang/Object", 4, .inr (.inr (.inr (.inr (va_up fna i47 (some σ4.2)))))))) NL9 (.inr (.inl (14, [.int (mna + 1), .ref NA9, .int (nI (i47 + 1))])))) (c_addsN σ6 (mkV lo R9 M9 NL9 NA9 FL9 FA9 UN9 (fun _ => 0) N7 (fun _ => 0)) (newN (N 9)) i47 σ4.2 mna fna _ fσ6_2 fσ6_3 fσ6_4 fσ6_a hi47N) tX5_adds q1829 fσ6_2 rfl rfl dX5_init_2_75 (by decide) (by omega) (Nat.le_of_ble_eq_true rfl) ?_
    obtain ⟨σ7, eσ7⟩ : ∃ τ, τ = h_put (h_put (h_put σ6 NL9 (.inr (.inl (14, [.int (mna + 1), .ref NA9, .int (nI i47)])))) NA9 (.inl (.object "java/lang/Object", 4, .inr (.inr (.inr (.inr (va_up fna i47 (some σ4.2)))))))) NL9 (.inr (.inl (14, [.int (mna + 1), .ref NA9, .int (nI (i47 + 1))]))) := ⟨_, rfl⟩
    refine A_st (σ' := σ7) eσ7.symm ?_
    have wσ7 : wfh σ7 := by rw [eσ7]; exact (((wσ6.put fσ6_3).put ((hp_ne (ne_of (x := .inl (.object "java/lang/Object", 4, .inr (.inr (.inr (.inr fna))))) (y := .inr (.inl (14, [.int mna, .ref NA9, .int (nI i47)]))) fσ6_4 fσ6_3 (fun e8 => by simp at e8))).trans fσ6_4)).put ((hp_ne (ne_of (x := .inr (.inl (14, [.int mna, .ref NA9, .int (nI i47)]))) (y := .inl (.object "java/lang/Object", 4, .inr (.inr (.inr (.inr fna))))) fσ6_3 fσ6_4 (fun e8 => by simp at e8))).trans (if_pos rfl)))
    have qσ7 : kl lo σ σ7 := by rw [eσ7]; exact (((qσ6.put oNL).put oNA).put oNL)
    have fσ7_0 : σ7.1 (wNL W) = some (.inr (.inl (14, [.int mcn, .ref (wNA W), .int (nI (nN N))]))) := by rw [eσ7]; exact ((hp_ne (Nat.ne_of_lt (Nat.lt_of_lt_of_le (cut_wfh σ lo _ _ h4) oNL))).trans ((hp_ne (Nat.ne_of_lt (Nat.lt_of_lt_of_le (cut_wfh σ lo _ _ h4) oNA))).trans ((hp_ne (Nat.ne_of_lt (Nat.lt_of_lt_of_le (cut_wfh σ lo _ _ h4) oNL))).trans fσ6_0)))
    have fσ7_1 : σ7.1 (wNA W) = some (.inl (.object "java/lang/Object", 4, .inr (.inr (.inr (.inr fnA))))) := by rw [eσ7]; exact ((hp_ne (Nat.ne_of_lt (Nat.lt_of_lt_of_le (cut_wfh σ lo _ _ h4p) oNL))).trans ((hp_ne (Nat.ne_of_lt (Nat.lt_of_lt_of_le (cut_wfh σ lo _ _ h4p) oNA))).trans ((hp_ne (Nat.ne_of_lt (Nat.lt_of_lt_of_le (cut_wfh σ lo _ _ h4p) oNL))).trans fσ6_1)))
    have fσ7_2 : σ7.1 lo = some (.inr (.inl (4, [.int (N 9), .ref R9, .ref M9, .ref NL9, .ref FL9, .ref UN9, .int 0, .int 0, .int 0, .int 0, .int 0, .int 0, .int 0, .int 0, .int 0]))) := by rw [eσ7]; exact ((hp_ne (ne_of (x := .inr (.inl (4, [.int (N 9), .ref R9, .ref M9, .ref NL9, .ref FL9, .ref UN9, .int 0, .int 0, .int 0, .int 0, .int 0, .int 0, .int 0, .int 0, .int 0]))) (y := .inr (.inl (14, [.int mna, .ref NA9, .int (nI i47)]))) fσ6_2 fσ6_3 (fun e8 => by simp at e8))).trans ((hp_ne (ne_of (x := .inr (.inl (4, [.int (N 9), .ref R9, .ref M9, .ref NL9, .ref FL9, .ref UN9, .int 0, .int 0, .int 0, .int 0, .int 0, .int 0, .int 0, .int 0, .int 0]))) (y := .inl (.object "java/lang/Object", 4, .inr (.inr (.inr (.inr fna))))) fσ6_2 fσ6_4 (fun e8 => by simp at e8))).trans ((hp_ne (ne_of (x := .inr (.inl (4, [.int (N 9), .ref R9, .ref M9, .ref NL9, .ref FL9, .ref UN9, .int 0, .int 0, .int 0, .int 0, .int 0, .int 0, .int 0, .int 0, .int 0]))) (y := .inr (.inl (14, [.int mna, .ref NA9, .int (nI i47)]))) fσ6_2 fσ6_3 (fun e8 => by simp at e8))).trans fσ6_2)))
    have fσ7_3 : σ7.1 NL9 = some (.inr (.inl (14, [.int (mna + 1), .ref NA9, .int (nI (i47 + 1))]))) := by rw [eσ7]; exact (if_pos rfl)
    have fσ7_4 : σ7.1 NA9 = some (.inl (.object "java/lang/Object", 4, .inr (.inr (.inr (.inr (va_up fna i47 (some σ4.2))))))) := by rw [eσ7]; exact ((hp_ne (ne_of (x := .inl (.object "java/lang/Object", 4, .inr (.inr (.inr (.inr fna))))) (y := .inr (.inl (14, [.int mna, .ref NA9, .int (nI i47)]))) fσ6_4 fσ6_3 (fun e8 => by simp at e8))).trans (if_pos rfl))
    have fσ7_5 : σ7.1 iθ = some (.inr (.inl (15, [.int (nI (i47 + 1)), .int (nI i47), .int mcn, .ref (wNL W)]))) := by rw [eσ7]; exact ((hp_ne (ne_of (x := .inr (.inl (15, [.int (nI (i47 + 1)), .int (nI i47), .int mcn, .ref (wNL W)]))) (y := .inr (.inl (14, [.int mna, .ref NA9, .int (nI i47)]))) fσ6_5 fσ6_3 (fun e8 => by simp at e8))).trans ((hp_ne (ne_of (x := .inr (.inl (15, [.int (nI (i47 + 1)), .int (nI i47), .int mcn, .ref (wNL W)]))) (y := .inl (.object "java/lang/Object", 4, .inr (.inr (.inr (.inr fna))))) fσ6_5 fσ6_4 (fun e8 => by simp at e8))).trans ((hp_ne (ne_of (x := .inr (.inl (15, [.int (nI (i47 + 1)), .int (nI i47), .int mcn, .ref (wNL W)]))) (y := .inr (.inl (14, [.int mna, .ref NA9, .int (nI i47)]))) fσ6_5 fσ6_3 (fun e8 => by simp at e8))).trans fσ6_5)))
    have fσ7_6 : σ7.1 (wN W i47) = some (.inr (.inl (5, [.int (na N i47 0), .int (na N i47 1), .int (na N i47 2), .int hh7]))) := by rw [eσ7]; exact ((hp_ne (Nat.ne_of_lt (Nat.lt_of_lt_of_le (cut_wfh σ lo _ _ hn7) oNL))).trans ((hp_ne (Nat.ne_of_lt (Nat.lt_of_lt_of_le (cut_wfh σ lo _ _ hn7) oNA))).trans ((hp_ne (Nat.ne_of_lt (Nat.lt_of_lt_of_le (cut_wfh σ lo _ _ hn7) oNL))).trans fσ6_6)))
    have fσ7_7 : σ7.1 σ4.2 = some (.inr (.inl (5, [.int (na N i47 0), .int (na N i47 1), .int (na N i47 2), .int hh7]))) := by rw [eσ7]; exact ((hp_ne (ne_of (x := .inr (.inl (5, [.int (na N i47 0), .int (na N i47 1), .int (na N i47 2), .int hh7]))) (y := .inr (.inl (14, [.int mna, .ref NA9, .int (nI i47)]))) fσ6_a fσ6_3 (fun e8 => by simp at e8))).trans ((hp_ne (ne_of (x := .inr (.inl (5, [.int (na N i47 0), .int (na N i47 1), .int (na N i47 2), .int hh7]))) (y := .inl (.object "java/lang/Object", 4, .inr (.inr (.inr (.inr fna))))) fσ6_a fσ6_4 (fun e8 => by simp at e8))).trans ((hp_ne (ne_of (x := .inr (.inl (5, [.int (na N i47 0), .int (na N i47 1), .int (na N i47 2), .int hh7]))) (y := .inr (.inl (14, [.int mna, .ref NA9, .int (nI i47)]))) fσ6_a fσ6_3 (fun e8 => by simp at e8))).trans fσ6_a)))
    refine A_goto (tgt := 47) dX5_init_2_78 (by decide) ?_
    have hne9 : ¬ NA9 = NL9 := ne_of r4c r4b ne_arr
    obtain ⟨-, ⟨mcA, hLA⟩, hAA, hk9⟩ := add_of (v := none) (n := i47) (cap := 4) (f := fna) (x := σ4.2) hne9 eσ7
    have hr8 : RWr g σ7 (mkV lo R9 M9 NL9 NA9 FL9 FA9 UN9 (fun _ => 0) (upP N7 i47 σ4.2) (fun _ => 0)) (part N (i47 + 1) 0) := by
      have h := (hr7.nw nσ6).addN (N' := part N (i47 + 1) 0) (x := σ4.2) (h' := hh7) wσ6 (by rw [part_nN N 0 hb7]; exact hi47N) hC6 hk9 (by rw [part_nN N 0 hb7]; exact hLA) (by rw [part_nN N 0 hb7]; exact hAA) (by rw [part_nN N 0 hb7]; exact r4qa) (by rw [part_nN N 0 hb7, part_na, part_na, part_na]; exact hxo) (by rw [part_nN N 0 hb7, part_HD]; exact hd7) (by rw [part_nN N 0 hb7]; intro i hi; obtain ⟨_, q1, _⟩ := r9a i hi; exact Nat.ne_of_lt (Nat.lt_of_lt_of_le (wτ47 _ _ q1) nσ4.1)) (fun j a b => by unfold part; rw [if_neg a, if_neg a]) (by rw [part_nN N 0 hb7, part_nN N 0 hb8])
      rw [part_nN N 0 hb7] at h
      exact h
    refine A_less (b' := ((nN N) - (i47 + 1)) * 1 + 49) (by omega) ?_
    refine A_sub (L' := [(0, .ref lo), (1, .ref (wW W)), (2, .ref iθ)]) ⟨rfl, rfl, rfl, trivial⟩ ?_
    exact ih47 σ7 (⟨qσ7, fσ7_2, ⟨_, hr8, fun k hk => by unfold upP; split; exact Nat.le_trans hl qσ4.1; exact hN7 k (by omega)⟩, _, fσ7_5⟩)
  · skip
    refine A_less (b' := 49) (by omega) ?_
    obtain ⟨qτ47, cτ47, ⟨N7, hr7, hN7⟩, lr5, fi5⟩ := hI47
    refine A_wfh (fun wτ47 hgτ47 => ?_)
    have nτ47 : nw τ47 τ47 := nw.rf
    have hb7 : (nN N) < 2 ^ 31 := Nat.lt_of_le_of_lt hN4 (by decide)
    have foτ47_0 : τ47.1 (wNL W) = some (.inr (.inl (14, [.int mcn, .ref (wNA W), .int (nI (nN N))]))) := cut_at qτ47 h4
    have foτ47_1 : τ47.1 (wNA W) = some (.inl (.object "java/lang/Object", 4, .inr (.inr (.inr (.inr fnA))))) := cut_at qτ47 h4p
    have foτ47_2 : τ47.1 (wFL W) = some (.inr (.inl (14, [.int mcf, .ref (wFA W), .int (nI (nF N))]))) := cut_at qτ47 h5
    have foτ47_3 : τ47.1 (wFA W) = some (.inl (.object "java/lang/Object", 12, .inr (.inr (.inr (.inr ffA))))) := cut_at qτ47 h5p
    have foτ47_4 : τ47.1 (wW W) = some (.inr (.inl (4, [.int (N 9), .ref (wR W), .ref (wM W), .ref (wNL W), .ref (wFL W), .ref (wUN W), .int (N 6), .int (N 8), .int (N 0), .int (N 1), .int (N 2), .int (N 3), .int (N 4), .int (N 5), .int (N 11)]))) := cut_at qτ47 h1
    refine A_aload_n (i := 2) dX5_init_2_47 rfl rfl ?_
    refine A_callF0E (b' := 49) (v := some (.int (bi ((nN N) < nN N)))) (τ := τ47) (c_iHas τ47 iθ (wNL W) (wNA W) (nN N) (nN N) mcn lr5 fi5 foτ47_0 (Nat.le_refl _) (by omega)) tF_hasNext q1596 fi5 rfl dX5_init_2_48 (by decide) (Nat.le_of_ble_eq_true rfl) (Nat.le_of_ble_eq_true rfl) ?_
    refine A_if_eq_t (tgt := 81) dX5_init_2_53 (by decide) (bi_f (Nat.lt_irrefl _)) ?_
    refine A_aload_n (i := 1) dX5_init_2_81 rfl rfl ?_
    refine A_getf cb_X5 foτ47_4 4 (Nat.le_of_ble_eq_true rfl) q833 rfl (v := .ref (wFL W)) rfl dX5_init_2_82 ?_
    refine A_callF0E (b' := 48) (v := some (.ref τ47.2)) (τ := h_put (h_put (h_put (h_new τ47 (.inr (.inl (15, [.int 0, .int 0, .int 0, .null])))) τ47.2 (.inr (.inl (15, [.int 0, .int 0, .int 0, .ref (wFL W)])))) τ47.2 (.inr (.inl (15, [.int 0, .int (-1), .int 0, .ref (wFL W)])))) τ47.2 (.inr (.inl (15, [.int 0, .int (-1), .int mcf, .ref (wFL W)])))) (c_lIter τ47 (wFL W) (wFA W) (nF N) mcf foτ47_2) tF_iterator q1568 foτ47_2 rfl dX5_init_2_85 (by decide) (Nat.le_of_ble_eq_true rfl) (Nat.le_of_ble_eq_true rfl) ?_
    obtain ⟨σ8, eσ8⟩ : ∃ τ, τ = h_put (h_put (h_put (h_new τ47 (.inr (.inl (15, [.int 0, .int 0, .int 0, .null])))) τ47.2 (.inr (.inl (15, [.int 0, .int 0, .int 0, .ref (wFL W)])))) τ47.2 (.inr (.inl (15, [.int 0, .int (-1), .int 0, .ref (wFL W)])))) τ47.2 (.inr (.inl (15, [.int 0, .int (-1), .int mcf, .ref (wFL W)]))) := ⟨_, rfl⟩
    refine A_st (σ' := σ8) eσ8.symm ?_
    have wσ8 : wfh σ8 := by rw [eσ8]; exact ((((wτ47.new).put (if_pos rfl)).put (if_pos rfl)).put (if_pos rfl))
    have qσ8 : kl lo σ σ8 := by rw [eσ8]; exact ((((qτ47.new hl).put (Nat.le_trans hl qτ47.1)).put (Nat.le_trans hl qτ47.1)).put (Nat.le_trans hl qτ47.1))
    have nσ8 : nw τ47 σ8 := by rw [eσ8]; exact ((((nτ47.new wτ47).putF wτ47 nτ47.1).putF wτ47 nτ47.1).putF wτ47 nτ47.1)
    have fσ8_0 : σ8.1 (wNL W) = some (.inr (.inl (14, [.int mcn, .ref (wNA W), .int (nI (nN N))]))) := by rw [eσ8]; exact ((hp_ne (Nat.ne_of_lt (wτ47 _ _ foτ47_0))).trans ((hp_ne (Nat.ne_of_lt (wτ47 _ _ foτ47_0))).trans ((hp_ne (Nat.ne_of_lt (wτ47 _ _ foτ47_0))).trans ((hn_ne (by exact Nat.ne_of_lt (wτ47 _ _ foτ47_0))).trans foτ47_0))))
    have fσ8_1 : σ8.1 (wNA W) = some (.inl (.object "java/lang/Object", 4, .inr (.inr (.inr (.inr fnA))))) := by rw [eσ8]; exact ((hp_ne (Nat.ne_of_lt (wτ47 _ _ foτ47_1))).trans ((hp_ne (Nat.ne_of_lt (wτ47 _ _ foτ47_1))).trans ((hp_ne (Nat.ne_of_lt (wτ47 _ _ foτ47_1))).trans ((hn_ne (by exact Nat.ne_of_lt (wτ47 _ _ foτ47_1))).trans foτ47_1))))
    have fσ8_2 : σ8.1 (wFL W) = some (.inr (.inl (14, [.int mcf, .ref (wFA W), .int (nI (nF N))]))) := by rw [eσ8]; exact ((hp_ne (Nat.ne_of_lt (wτ47 _ _ foτ47_2))).trans ((hp_ne (Nat.ne_of_lt (wτ47 _ _ foτ47_2))).trans ((hp_ne (Nat.ne_of_lt (wτ47 _ _ foτ47_2))).trans ((hn_ne (by exact Nat.ne_of_lt (wτ47 _ _ foτ47_2))).trans foτ47_2))))
    have fσ8_3 : σ8.1 (wFA W) = some (.inl (.object "java/lang/Object", 12, .inr (.inr (.inr (.inr ffA))))) := by rw [eσ8]; exact ((hp_ne (Nat.ne_of_lt (wτ47 _ _ foτ47_3))).trans ((hp_ne (Nat.ne_of_lt (wτ47 _ _ foτ47_3))).trans ((hp_ne (Nat.ne_of_lt (wτ47 _ _ foτ47_3))).trans ((hn_ne (by exact Nat.ne_of_lt (wτ47 _ _ foτ47_3))).trans foτ47_3))))
    have fσ8_4 : σ8.1 (wW W) = some (.inr (.inl (4, [.int (N 9), .ref (wR W), .ref (wM W), .ref (wNL W), .ref (wFL W), .ref (wUN W), .int (N 6), .int (N 8), .int (N 0), .int (N 1), .int (N 2), .int (N 3), .int (N 4), .int (N 5), .int (N 11)]))) := by rw [eσ8]; exact ((hp_ne (Nat.ne_of_lt (wτ47 _ _ foτ47_4))).trans ((hp_ne (Nat.ne_of_lt (wτ47 _ _ foτ47_4))).trans ((hp_ne (Nat.ne_of_lt (wτ47 _ _ foτ47_4))).trans ((hn_ne (by exact Nat.ne_of_lt (wτ47 _ _ foτ47_4))).trans foτ47_4))))
    have fσ8_5 : σ8.1 lo = some (.inr (.inl (4, [.int (N 9), .ref R9, .ref M9, .ref NL9, .ref FL9, .ref UN9, .int 0, .int 0, .int 0, .int 0, .int 0, .int 0, .int 0, .int 0, .int 0]))) := by rw [eσ8]; exact ((hp_ne (Nat.ne_of_lt (wτ47 _ _ cτ47))).trans ((hp_ne (Nat.ne_of_lt (wτ47 _ _ cτ47))).trans ((hp_ne (Nat.ne_of_lt (wτ47 _ _ cτ47))).trans ((hn_ne (by exact Nat.ne_of_lt (wτ47 _ _ cτ47))).trans cτ47))))
    have fσ8_6 : σ8.1 iθ = some (.inr (.inl (15, [.int (nI (nN N)), .int lr5, .int mcn, .ref (wNL W)]))) := by rw [eσ8]; exact ((hp_ne (Nat.ne_of_lt (wτ47 _ _ fi5))).trans ((hp_ne (Nat.ne_of_lt (wτ47 _ _ fi5))).trans ((hp_ne (Nat.ne_of_lt (wτ47 _ _ fi5))).trans ((hn_ne (by exact Nat.ne_of_lt (wτ47 _ _ fi5))).trans fi5))))
    have fσ8_7 : σ8.1 τ47.2 = some (.inr (.inl (15, [.int 0, .int (-1), .int mcf, .ref (wFL W)]))) := by rw [eσ8]; exact (if_pos rfl)
    refine A_astore_n (i := 2) dX5_init_2_90 rfl (Nat.le_of_ble_eq_true rfl) ?_
    obtain ⟨iφ, eiφ⟩ : ∃ a, a = τ47.2 := ⟨_, rfl⟩
    rw [← eiφ]
    have fiφ := fσ8_7
    rw [← eiφ] at fiφ
    refine A_less (b' := ((nF N) - 0) * 4 + 0) (by omega) ?_
    refine A_sub (L' := [(0, .ref lo), (1, .ref (wW W)), (2, .ref iφ)]) ⟨rfl, rfl, rfl, trivial⟩ ?_
    refine A_forP (α := AH) (nF N) (fun i91 _ => ((nF N) - i91) * 4 + 0) (fun i91 _ => [(0, .ref lo), (1, .ref (wW W)), (2, .ref iφ)]) (fun _ τ91 => τ91) (fun i91 τ91 => kl lo σ τ91 ∧ τ91.1 lo = some (.inr (.inl (4, [.int (N 9), .ref R9, .ref M9, .ref NL9, .ref FL9, .ref UN9, .int 0, .int 0, .int 0, .int 0, .int 0, .int 0, .int 0, .int 0, .int 0]))) ∧ (∃ F7 P7, RWr g τ91 (mkV lo R9 M9 NL9 NA9 FL9 FA9 UN9 F7 N7 P7) (part N (nN N) i91) ∧ ∀ k, k < i91 → lo ≤ F7 k) ∧ ∃ lr, τ91.1 iφ = some (.inr (.inl (15, [.int (nI i91), .int lr, .int mcf, .ref (wFL W)])))) σ8 (⟨qσ8, fσ8_5, ⟨_, _, hr7.nw nσ8, fun k hk => absurd hk (Nat.not_lt_zero _)⟩, _, fiφ⟩) (fun i91 τ91 hi91 hI91 ih91 => ?_) (fun τ91 hI91 => ?_)
    · skip
      refine A_less (b' := ((nF N) - (i91 + 1)) * 4 + 0 + 4) (by omega) ?_
      obtain ⟨qτ91, cτ91, ⟨F7, P7, hs7, hF7⟩, lr6, fi6⟩ := hI91
      refine A_wfh (fun wτ91 hgτ91 => ?_)
      have nτ91 : nw τ91 τ91 := nw.rf
      have hb9 : i91 < 2 ^ 31 := Nat.lt_of_lt_of_le hi91 (Nat.le_trans hF12 (by decide))
      have foτ91_0 : τ91.1 (wFL W) = some (.inr (.inl (14, [.int mcf, .ref (wFA W), .int (nI (nF N))]))) := cut_at qτ91 h5
      have foτ91_1 : τ91.1 (wFA W) = some (.inl (.object "java/lang/Object", 12, .inr (.inr (.inr (.inr ffA))))) := cut_at qτ91 h5p
      have hs7c := hs7
      obtain ⟨⟨frb, r2b, r2pb⟩, ⟨fmb, r3b, r3pb⟩, ⟨mnb, fnb, r4b, r4pb, r4qb⟩, ⟨mfb, ffb, r5b, r5pb, r5qb⟩, ⟨fub, r6b, r6pb⟩, r7b, r8b, r9b, r10b, r11b⟩ := hs7c
      rw [part_nF N (nN N) hb9] at r5b r5qb r7b
      have r5c : τ91.1 FL9 = some (.inr (.inl (14, [.int mfb, .ref FA9, .int (nI i91)]))) := r5b
      have r5d : τ91.1 FA9 = some (.inl (.object "java/lang/Object", 12, .inr (.inr (.inr (.inr ffb))))) := r5pb
      refine A_aload_n (i := 2) dX5_init_2_91 rfl rfl ?_
      refine A_callF0E (b' := ((nF N) - (i91 + 1)) * 4 + 0 + 4) (v := some (.int (bi (i91 < nF N)))) (τ := τ91) (c_iHas τ91 iφ (wFL W) (wFA W) (nF N) i91 mcf lr6 fi6 foτ91_0 (Nat.le_of_lt hi91) (by omega)) tF_hasNext q1596 fi6 rfl dX5_init_2_92 (by decide) (by omega) (Nat.le_of_ble_eq_true rfl) ?_
      refine A_if_eq_f (tgt := 125) dX5_init_2_97 (by decide) (by rw [bi_t hi91]; decide) ?_
      refine A_aload_n (i := 2) dX5_init_2_100 rfl rfl ?_
      refine A_callF0E (b' := ((nF N) - (i91 + 1)) * 4 + 0 + 4) (v := some (.ref (wF W i91))) (τ := h_put (h_put τ91 iφ (.inr (.inl (15, [.int (nI (i91 + 1)), .int lr6, .int mcf, .ref (wFL W)])))) iφ (.inr (.inl (15, [.int (nI (i91 + 1)), .int (nI i91), .int mcf, .ref (wFL W)])))) (c_iNext τ91 iφ (wFL W) (wFA W) (nF N) 12 i91 (wF W i91) mcf lr6 ffA fi6 foτ91_0 foτ91_1 hi91 (by omega) (by decide) (h5q i91 hi91)) tF_next q1606 fi6 rfl dX5_init_2_101 (by decide) (by omega) (Nat.le_of_ble_eq_true rfl) ?_
      obtain ⟨σ9, eσ9⟩ : ∃ τ, τ = h_put (h_put τ91 iφ (.inr (.inl (15, [.int (nI (i91 + 1)), .int lr6, .int mcf, .ref (wFL W)])))) iφ (.inr (.inl (15, [.int (nI (i91 + 1)), .int (nI i91), .int mcf, .ref (wFL W)]))) := ⟨_, rfl⟩
      refine A_st (σ' := σ9) eσ9.symm ?_
      have wσ9 : wfh σ9 := by rw [eσ9]; exact ((wτ91.put fi6).put (if_pos rfl))
      have qσ9 : kl lo σ σ9 := by rw [eσ9]; exact ((qτ91.put (by rw [eiφ]; exact Nat.le_trans hl qτ47.1)).put (by rw [eiφ]; exact Nat.le_trans hl qτ47.1))
      have nσ9 : nw τ91 σ9 := by rw [eσ9]; exact (nτ91.kx wτ91 fi6 (isW_no (by decide)) (kx.rf.put.put))
      have fσ9_0 : σ9.1 (wFL W) = some (.inr (.inl (14, [.int mcf, .ref (wFA W), .int (nI (nF N))]))) := by rw [eσ9]; exact ((hp_ne (ne_of (x := .inr (.inl (14, [.int mcf, .ref (wFA W), .int (nI (nF N))]))) (y := .inr (.inl (15, [.int (nI i91), .int lr6, .int mcf, .ref (wFL W)]))) foτ91_0 fi6 (fun e8 => by simp at e8))).trans ((hp_ne (ne_of (x := .inr (.inl (14, [.int mcf, .ref (wFA W), .int (nI (nF N))]))) (y := .inr (.inl (15, [.int (nI i91), .int lr6, .int mcf, .ref (wFL W)]))) foτ91_0 fi6 (fun e8 => by simp at e8))).trans foτ91_0))
      have fσ9_1 : σ9.1 (wFA W) = some (.inl (.object "java/lang/Object", 12, .inr (.inr (.inr (.inr ffA))))) := by rw [eσ9]; exact ((hp_ne (ne_of (x := .inl (.object "java/lang/Object", 12, .inr (.inr (.inr (.inr ffA))))) (y := .inr (.inl (15, [.int (nI i91), .int lr6, .int mcf, .ref (wFL W)]))) foτ91_1 fi6 (fun e8 => by simp at e8))).trans ((hp_ne (ne_of (x := .inl (.object "java/lang/Object", 12, .inr (.inr (.inr (.inr ffA))))) (y := .inr (.inl (15, [.int (nI i91), .int lr6, .int mcf, .ref (wFL W)]))) foτ91_1 fi6 (fun e8 => by simp at e8))).trans foτ91_1))
      have fσ9_2 : σ9.1 lo = some (.inr (.inl (4, [.int (N 9), .ref R9, .ref M9, .ref NL9, .ref FL9, .ref UN9, .int 0, .int 0, .int 0, .int 0, .int 0, .int 0, .int 0, .int 0, .int 0]))) := by rw [eσ9]; exact ((hp_ne (ne_of (x := .inr (.inl (4, [.int (N 9), .ref R9, .ref M9, .ref NL9, .ref FL9, .ref UN9, .int 0, .int 0, .int 0, .int 0, .int 0, .int 0, .int 0, .int 0, .int 0]))) (y := .inr (.inl (15, [.int (nI i91), .int lr6, .int mcf, .ref (wFL W)]))) cτ91 fi6 (fun e8 => by simp at e8))).trans ((hp_ne (ne_of (x := .inr (.inl (4, [.int (N 9), .ref R9, .ref M9, .ref NL9, .ref FL9, .ref UN9, .int 0, .int 0, .int 0, .int 0, .int 0, .int 0, .int 0, .int 0, .int 0]))) (y := .inr (.inl (15, [.int (nI i91), .int lr6, .int mcf, .ref (wFL W)]))) cτ91 fi6 (fun e8 => by simp at e8))).trans cτ91))
      have fσ9_3 : σ9.1 FL9 = some (.inr (.inl (14, [.int mfb, .ref FA9, .int (nI i91)]))) := by rw [eσ9]; exact ((hp_ne (ne_of (x := .inr (.inl (14, [.int mfb, .ref FA9, .int (nI i91)]))) (y := .inr (.inl (15, [.int (nI i91), .int lr6, .int mcf, .ref (wFL W)]))) r5c fi6 (fun e8 => by simp at e8))).trans ((hp_ne (ne_of (x := .inr (.inl (14, [.int mfb, .ref FA9, .int (nI i91)]))) (y := .inr (.inl (15, [.int (nI i91), .int lr6, .int mcf, .ref (wFL W)]))) r5c fi6 (fun e8 => by simp at e8))).trans r5c))
      have fσ9_4 : σ9.1 FA9 = some (.inl (.object "java/lang/Object", 12, .inr (.inr (.inr (.inr ffb))))) := by rw [eσ9]; exact ((hp_ne (ne_of (x := .inl (.object "java/lang/Object", 12, .inr (.inr (.inr (.inr ffb))))) (y := .inr (.inl (15, [.int (nI i91), .int lr6, .int mcf, .ref (wFL W)]))) r5d fi6 (fun e8 => by simp at e8))).trans ((hp_ne (ne_of (x := .inl (.object "java/lang/Object", 12, .inr (.inr (.inr (.inr ffb))))) (y := .inr (.inl (15, [.int (nI i91), .int lr6, .int mcf, .ref (wFL W)]))) r5d fi6 (fun e8 => by simp at e8))).trans r5d))
      have fσ9_5 : σ9.1 iφ = some (.inr (.inl (15, [.int (nI (i91 + 1)), .int (nI i91), .int mcf, .ref (wFL W)]))) := by rw [eσ9]; exact (if_pos rfl)
      have fσ9_6 : σ9.1 (wF W i91) = some (.inr (.inl (6, [.int (fl N i91 0), .int (fl N i91 1), .int (fl N i91 2), .int (fl N i91 3), .int (fl N i91 4), .int (fl N i91 5), .int (fl N i91 6), .int (fl N i91 7), .ref (wP W i91)]))) := by rw [eσ9]; exact ((hp_ne (ne_of (x := .inr (.inl (6, [.int (fl N i91 0), .int (fl N i91 1), .int (fl N i91 2), .int (fl N i91 3), .int (fl N i91 4), .int (fl N i91 5), .int (fl N i91 6), .int (fl N i91 7), .ref (wP W i91)]))) (y := .inr (.inl (15, [.int (nI i91), .int lr6, .int mcf, .ref (wFL W)]))) (cut_at qτ91 (h7 i91 hi91)) fi6 (fun e8 => by simp at e8))).trans ((hp_ne (ne_of (x := .inr (.inl (6, [.int (fl N i91 0), .int (fl N i91 1), .int (fl N i91 2), .int (fl N i91 3), .int (fl N i91 4), .int (fl N i91 5), .int (fl N i91 6), .int (fl N i91 7), .ref (wP W i91)]))) (y := .inr (.inl (15, [.int (nI i91), .int lr6, .int mcf, .ref (wFL W)]))) (cut_at qτ91 (h7 i91 hi91)) fi6 (fun e8 => by simp at e8))).trans (cut_at qτ91 (h7 i91 hi91))))
      refine A_castE fσ9_6 rfl q1174 dX5_init_2_106 ?_
      refine A_astore_n (i := 3) dX5_init_2_109 rfl (Nat.le_of_ble_eq_true rfl) ?_
      refine A_aload_n (i := 0) dX5_init_2_110 rfl rfl ?_
      refine A_new (b' := ((nF N) - (i91 + 1)) * 4 + 0 + 1) (u := 3) cb_X7 q1174 q1084 q163 (fs := [.int 0, .int 0, .int 0, .int 0, .int 0, .int 0, .int 0, .int 0, .null]) (by intro j hj; rcases j with _ | j; exact rfl; rcases j with _ | j; exact rfl; rcases j with _ | j; exact rfl; rcases j with _ | j; exact rfl; rcases j with _ | j; exact rfl; rcases j with _ | j; exact rfl; rcases j with _ | j; exact rfl; rcases j with _ | j; exact rfl; rcases j with _ | j; exact rfl; omega) (by omega) ⟨Nat.le_of_ble_eq_true rfl, Nat.le_of_ble_eq_true rfl⟩ dX5_init_2_111 ?_
      obtain ⟨σ10, eσ10⟩ : ∃ τ, τ = h_new σ9 (.inr (.inl (6, [.int 0, .int 0, .int 0, .int 0, .int 0, .int 0, .int 0, .int 0, .null]))) := ⟨_, rfl⟩
      refine A_st (σ' := σ10) eσ10.symm ?_
      have wσ10 : wfh σ10 := by rw [eσ10]; exact wσ9.new
      have fσ10_0 : σ10.1 (wFL W) = some (.inr (.inl (14, [.int mcf, .ref (wFA W), .int (nI (nF N))]))) := by rw [eσ10]; exact (hn_ne (Nat.ne_of_lt (wσ9 _ _ fσ9_0))).trans fσ9_0
      have fσ10_1 : σ10.1 (wFA W) = some (.inl (.object "java/lang/Object", 12, .inr (.inr (.inr (.inr ffA))))) := by rw [eσ10]; exact (hn_ne (Nat.ne_of_lt (wσ9 _ _ fσ9_1))).trans fσ9_1
      have fσ10_2 : σ10.1 lo = some (.inr (.inl (4, [.int (N 9), .ref R9, .ref M9, .ref NL9, .ref FL9, .ref UN9, .int 0, .int 0, .int 0, .int 0, .int 0, .int 0, .int 0, .int 0, .int 0]))) := by rw [eσ10]; exact (hn_ne (Nat.ne_of_lt (wσ9 _ _ fσ9_2))).trans fσ9_2
      have fσ10_3 : σ10.1 FL9 = some (.inr (.inl (14, [.int mfb, .ref FA9, .int (nI i91)]))) := by rw [eσ10]; exact (hn_ne (Nat.ne_of_lt (wσ9 _ _ fσ9_3))).trans fσ9_3
      have fσ10_4 : σ10.1 FA9 = some (.inl (.object "java/lang/Object", 12, .inr (.inr (.inr (.inr ffb))))) := by rw [eσ10]; exact (hn_ne (Nat.ne_of_lt (wσ9 _ _ fσ9_4))).trans fσ9_4
      have fσ10_5 : σ10.1 iφ = some (.inr (.inl (15, [.int (nI (i91 + 1)), .int (nI i91), .int mcf, .ref (wFL W)]))) := by rw [eσ10]; exact (hn_ne (Nat.ne_of_lt (wσ9 _ _ fσ9_5))).trans fσ9_5
      have fσ10_6 : σ10.1 (wF W i91) = some (.inr (.inl (6, [.int (fl N i91 0), .int (fl N i91 1), .int (fl N i91 2), .int (fl N i91 3), .int (fl N i91 4), .int (fl N i91 5), .int (fl N i91 6), .int (fl N i91 7), .ref (wP W i91)]))) := by rw [eσ10]; exact (hn_ne (Nat.ne_of_lt (wσ9 _ _ fσ9_6))).trans fσ9_6
      have fσ10_7 : σ10.1 σ9.2 = some (.inr (.inl (6, [.int 0, .int 0, .int 0, .int 0, .int 0, .int 0, .int 0, .int 0, .null]))) := by rw [eσ10]; exact if_pos rfl
      have xσ10 : ext σ9 σ10 := by rw [eσ10]; exact ext_new _ _
      have qσ10 : kl lo σ σ10 := by rw [eσ10]; exact qσ9.new hl
      have nσ10 : nw τ91 σ10 := by rw [eσ10]; exact nσ9.new wτ91
      refine A_dup dX5_init_2_114 rfl ?_
      refine A_aload_n (i := 3) dX5_init_2_115 rfl rfl ?_
      refine A_callI1 (b' := ((nF N) - (i91 + 1)) * 4 + 0 + 0) (c_fInit2 σ10 σ9.2 (wF W i91) (wP W i91) (fl N i91) fσ10_7 fσ10_6 (Nat.ne_of_lt (Nat.lt_of_lt_of_le (cut_wfh σ lo _ _ (h7 i91 hi91)) (Nat.le_trans hl qσ9.1)))) tX7_init_2 q1830 dX5_init_2_116 (by decide) (by omega) (Nat.le_of_ble_eq_true rfl) (fun w9 σ11 h9 => ?_) (fun E9 q9 τ9 h9 => h9.elim)
      obtain ⟨e9, fσ11_a, kσ11⟩ := h9
      subst e9
      refine A_wfh (fun wσ11 hgσ11 => ?_)
      have qσ11 : kl lo σ σ11 := qσ10.kx hl (Nat.le_trans hl qσ9.1) kσ11
      have nσ11 : nw τ91 σ11 := nσ10.kxF wτ91 nσ9.1 kσ11
      have fσ11_0 : σ11.1 (wFL W) = some (.inr (.inl (14, [.int mcf, .ref (wFA W), .int (nI (nF N))]))) := kσ11.at wσ10 fσ10_0 (Nat.ne_of_lt (Nat.lt_of_lt_of_le (cut_wfh σ lo _ _ h5) (Nat.le_trans hl qσ9.1)))
      have fσ11_1 : σ11.1 (wFA W) = some (.inl (.object "java/lang/Object", 12, .inr (.inr (.inr (.inr ffA))))) := kσ11.at wσ10 fσ10_1 (Nat.ne_of_lt (Nat.lt_of_lt_of_le (cut_wfh σ lo _ _ h5p) (Nat.le_trans hl qσ9.1)))
      have fσ11_2 : σ11.1 lo = some (.inr (.inl (4, [.int (N 9), .ref R9, .ref M9, .ref NL9, .ref FL9, .ref UN9, .int 0, .int 0, .int 0, .int 0, .int 0, .int 0, .int 0, .int 0, .int 0]))) := kσ11.at wσ10 fσ10_2 (ne_of (x := .inr (.inl (4, [.int (N 9), .ref R9, .ref M9, .ref NL9, .ref FL9, .ref UN9, .int 0, .int 0, .int 0, .int 0, .int 0, .int 0, .int 0, .int 0, .int 0]))) (y := .inr (.inl (6, [.int 0, .int 0, .int 0, .int 0, .int 0, .int 0, .int 0, .int 0, .null]))) fσ10_2 fσ10_7 (fun e8 => by simp at e8))
      have fσ11_3 : σ11.1 FL9 = some (.inr (.inl (14, [.int mfb, .ref FA9, .int (nI i91)]))) := kσ11.at wσ10 fσ10_3 (ne_of (x := .inr (.inl (14, [.int mfb, .ref FA9, .int (nI i91)]))) (y := .inr (.inl (6, [.int 0, .int 0, .int 0, .int 0, .int 0, .int 0, .int 0, .int 0, .null]))) fσ10_3 fσ10_7 (fun e8 => by simp at e8))
      have fσ11_4 : σ11.1 FA9 = some (.inl (.object "java/lang/Object", 12, .inr (.inr (.inr (.inr ffb))))) := kσ11.at wσ10 fσ10_4 (ne_of (x := .inl (.object "java/lang/Object", 12, .inr (.inr (.inr (.inr ffb))))) (y := .inr (.inl (6, [.int 0, .int 0, .int 0, .int 0, .int 0, .int 0, .int 0, .int 0, .null]))) fσ10_4 fσ10_7 (fun e8 => by simp at e8))
      have fσ11_5 : σ11.1 iφ = some (.inr (.inl (15, [.int (nI (i91 + 1)), .int (nI i91), .int mcf, .ref (wFL W)]))) := kσ11.at wσ10 fσ10_5 (ne_of (x := .inr (.inl (15, [.int (nI (i91 + 1)), .int (nI i91), .int mcf, .ref (wFL W)]))) (y := .inr (.inl (6, [.int 0, .int 0, .int 0, .int 0, .int 0, .int 0, .int 0, .int 0, .null]))) fσ10_5 fσ10_7 (fun e8 => by simp at e8))
      have fσ11_6 : σ11.1 (wF W i91) = some (.inr (.inl (6, [.int (fl N i91 0), .int (fl N i91 1), .int (fl N i91 2), .int (fl N i91 3), .int (fl N i91 4), .int (fl N i91 5), .int (fl N i91 6), .int (fl N i91 7), .ref (wP W i91)]))) := kσ11.at wσ10 fσ10_6 (Nat.ne_of_lt (Nat.lt_of_lt_of_le (cut_wfh σ lo _ _ (h7 i91 hi91)) (Nat.le_trans hl qσ9.1)))
      have hxo := fσ11_a
      have hpo : σ11.1 (wP W i91) = some (.inr (.inl (plc (fl N i91 8) (fl N i91 9) (fl N i91 10)))) := cut_at qσ11 (h8 i91 hi91)
      have hi91F : i91 < 12 := Nat.lt_of_lt_of_le hi91 hF12
      have hb0 : i91 + 1 < 2 ^ 31 := Nat.lt_of_le_of_lt hi91F (by decide)
      refine A_callV1E (b' := ((nF N) - (i91 + 1)) * 4 + 0 + 0) (v := none) (τ := h_put (h_put (h_put σ11 FL9 (.inr (.inl (14, [.int (mfb + 1), .ref FA9, .int (nI i91)])))) FA9 (.inl (.object "java/lang/Object", 12, .inr (.inr (.inr (.inr (va_up ffb i91 (some σ9.2)))))))) FL9 (.inr (.inl (14, [.int (mfb + 1), .ref FA9, .int (nI (i91 + 1))])))) (c_addsF σ11 (mkV lo R9 M9 NL9 NA9 FL9 FA9 UN9 F7 N7 P7) (newN (N 9)) i91 σ9.2 mfb ffb _ fσ11_2 fσ11_3 fσ11_4 fσ11_a hi91F) tX5_adds_2 q1834 fσ11_2 rfl rfl dX5_init_2_119 (by decide) (by omega) (Nat.le_of_ble_eq_true rfl) ?_
      obtain ⟨σ12, eσ12⟩ : ∃ τ, τ = h_put (h_put (h_put σ11 FL9 (.inr (.inl (14, [.int (mfb + 1), .ref FA9, .int (nI i91)])))) FA9 (.inl (.object "java/lang/Object", 12, .inr (.inr (.inr (.inr (va_up ffb i91 (some σ9.2)))))))) FL9 (.inr (.inl (14, [.int (mfb + 1), .ref FA9, .int (nI (i91 + 1))]))) := ⟨_, rfl⟩
      refine A_st (σ' := σ12) eσ12.symm ?_
      have wσ12 : wfh σ12 := by rw [eσ12]; exact (((wσ11.put fσ11_3).put ((hp_ne (ne_of (x := .inl (.object "java/lang/Object", 12, .inr (.inr (.inr (.inr ffb))))) (y := .inr (.inl (14, [.int mfb, .ref FA9, .int (nI i91)]))) fσ11_4 fσ11_3 (fun e8 => by simp at e8))).trans fσ11_4)).put ((hp_ne (ne_of (x := .inr (.inl (14, [.int mfb, .ref FA9, .int (nI i91)]))) (y := .inl (.object "java/lang/Object", 12, .inr (.inr (.inr (.inr ffb))))) fσ11_3 fσ11_4 (fun e8 => by simp at e8))).trans (if_pos rfl)))
      have qσ12 : kl lo σ σ12 := by rw [eσ12]; exact (((qσ11.put oFL).put oFA).put oFL)
      have fσ12_0 : σ12.1 (wFL W) = some (.inr (.inl (14, [.int mcf, .ref (wFA W), .int (nI (nF N))]))) := by rw [eσ12]; exact ((hp_ne (Nat.ne_of_lt (Nat.lt_of_lt_of_le (cut_wfh σ lo _ _ h5) oFL))).trans ((hp_ne (Nat.ne_of_lt (Nat.lt_of_lt_of_le (cut_wfh σ lo _ _ h5) oFA))).trans ((hp_ne (Nat.ne_of_lt (Nat.lt_of_lt_of_le (cut_wfh σ lo _ _ h5) oFL))).trans fσ11_0)))
      have fσ12_1 : σ12.1 (wFA W) = some (.inl (.object "java/lang/Object", 12, .inr (.inr (.inr (.inr ffA))))) := by rw [eσ12]; exact ((hp_ne (Nat.ne_of_lt (Nat.lt_of_lt_of_le (cut_wfh σ lo _ _ h5p) oFL))).trans ((hp_ne (Nat.ne_of_lt (Nat.lt_of_lt_of_le (cut_wfh σ lo _ _ h5p) oFA))).trans ((hp_ne (Nat.ne_of_lt (Nat.lt_of_lt_of_le (cut_wfh σ lo _ _ h5p) oFL))).trans fσ11_1)))
      have fσ12_2 : σ12.1 lo = some (.inr (.inl (4, [.int (N 9), .ref R9, .ref M9, .ref NL9, .ref FL9, .ref UN9, .int 0, .int 0, .int 0, .int 0, .int 0, .int 0, .int 0, .int 0, .int 0]))) := by rw [eσ12]; exact ((hp_ne (ne_of (x := .inr (.inl (4, [.int (N 9), .ref R9, .ref M9, .ref NL9, .ref FL9, .ref UN9, .int 0, .int 0, .int 0, .int 0, .int 0, .int 0, .int 0, .int 0, .int 0]))) (y := .inr (.inl (14, [.int mfb, .ref FA9, .int (nI i91)]))) fσ11_2 fσ11_3 (fun e8 => by simp at e8))).trans ((hp_ne (ne_of (x := .inr (.inl (4, [.int (N 9), .ref R9, .ref M9, .ref NL9, .ref FL9, .ref UN9, .int 0, .int 0, .int 0, .int 0, .int 0, .int 0, .int 0, .int 0, .int 0]))) (y := .inl (.object "java/lang/Object", 12, .inr (.inr (.inr (.inr ffb))))) fσ11_2 fσ11_4 (fun e8 => by simp at e8))).trans ((hp_ne (ne_of (x := .inr (.inl (4, [.int (N 9), .ref R9, .ref M9, .ref NL9, .ref FL9, .ref UN9, .int 0, .int 0, .int 0, .int 0, .int 0, .int 0, .int 0, .int 0, .int 0]))) (y := .inr (.inl (14, [.int mfb, .ref FA9, .int (nI i91)]))) fσ11_2 fσ11_3 (fun e8 => by simp at e8))).trans fσ11_2)))
      have fσ12_3 : σ12.1 FL9 = some (.inr (.inl (14, [.int (mfb + 1), .ref FA9, .int (nI (i91 + 1))]))) := by rw [eσ12]; exact (if_pos rfl)
      have fσ12_4 : σ12.1 FA9 = some (.inl (.object "java/lang/Object", 12, .inr (.inr (.inr (.inr (va_up ffb i91 (some σ9.2))))))) := by rw [eσ12]; exact ((hp_ne (ne_of (x := .inl (.object "java/lang/Object", 12, .inr (.inr (.inr (.inr ffb))))) (y := .inr (.inl (14, [.int mfb, .ref FA9, .int (nI i91)]))) fσ11_4 fσ11_3 (fun e8 => by simp at e8))).trans (if_pos rfl))
      have fσ12_5 : σ12.1 iφ = some (.inr (.inl (15, [.int (nI (i91 + 1)), .int (nI i91), .int mcf, .ref (wFL W)]))) := by rw [eσ12]; exact ((hp_ne (ne_of (x := .inr (.inl (15, [.int (nI (i91 + 1)), .int (nI i91), .int mcf, .ref (wFL W)]))) (y := .inr (.inl (14, [.int mfb, .ref FA9, .int (nI i91)]))) fσ11_5 fσ11_3 (fun e8 => by simp at e8))).trans ((hp_ne (ne_of (x := .inr (.inl (15, [.int (nI (i91 + 1)), .int (nI i91), .int mcf, .ref (wFL W)]))) (y := .inl (.object "java/lang/Object", 12, .inr (.inr (.inr (.inr ffb))))) fσ11_5 fσ11_4 (fun e8 => by simp at e8))).trans ((hp_ne (ne_of (x := .inr (.inl (15, [.int (nI (i91 + 1)), .int (nI i91), .int mcf, .ref (wFL W)]))) (y := .inr (.inl (14, [.int mfb, .ref FA9, .int (nI i91)]))) fσ11_5 fσ11_3 (fun e8 => by simp at e8))).trans fσ11_5)))
      have fσ12_6 : σ12.1 (wF W i91) = some (.inr (.inl (6, [.int (fl N i91 0), .int (fl N i91 1), .int (fl N i91 2), .int (fl N i91 3), .int (fl N i91 4), .int (fl N i91 5), .int (fl N i91 6), .int (fl N i91 7), .ref (wP W i91)]))) := by rw [eσ12]; exact ((hp_ne (Nat.ne_of_lt (Nat.lt_of_lt_of_le (cut_wfh σ lo _ _ (h7 i91 hi91)) oFL))).trans ((hp_ne (Nat.ne_of_lt (Nat.lt_of_lt_of_le (cut_wfh σ lo _ _ (h7 i91 hi91)) oFA))).trans ((hp_ne (Nat.ne_of_lt (Nat.lt_of_lt_of_le (cut_wfh σ lo _ _ (h7 i91 hi91)) oFL))).trans fσ11_6)))
      have fσ12_7 : σ12.1 σ9.2 = some (.inr (.inl (6, [.int (fl N i91 0), .int (fl N i91 1), .int (fl N i91 2), .int (fl N i91 3), .int (fl N i91 4), .int (fl N i91 5), .int (fl N i91 6), .int (fl N i91 7), .ref (wP W i91)]))) := by rw [eσ12]; exact ((hp_ne (ne_of (x := .inr (.inl (6, [.int (fl N i91 0), .int (fl N i91 1), .int (fl N i91 2), .int (fl N i91 3), .int (fl N i91 4), .int (fl N i91 5), .int (fl N i91 6), .int (fl N i91 7), .ref (wP W i91)]))) (y := .inr (.inl (14, [.int mfb, .ref FA9, .int (nI i91)]))) fσ11_a fσ11_3 (fun e8 => by simp at e8))).trans ((hp_ne (ne_of (x := .inr (.inl (6, [.int (fl N i91 0), .int (fl N i91 1), .int (fl N i91 2), .int (fl N i91 3), .int (fl N i91 4), .int (fl N i91 5), .int (fl N i91 6), .int (fl N i91 7), .ref (wP W i91)]))) (y := .inl (.object "java/lang/Object", 12, .inr (.inr (.inr (.inr ffb))))) fσ11_a fσ11_4 (fun e8 => by simp at e8))).trans ((hp_ne (ne_of (x := .inr (.inl (6, [.int (fl N i91 0), .int (fl N i91 1), .int (fl N i91 2), .int (fl N i91 3), .int (fl N i91 4), .int (fl N i91 5), .int (fl N i91 6), .int (fl N i91 7), .ref (wP W i91)]))) (y := .inr (.inl (14, [.int mfb, .ref FA9, .int (nI i91)]))) fσ11_a fσ11_3 (fun e8 => by simp at e8))).trans fσ11_a)))
      refine A_goto (tgt := 91) dX5_init_2_122 (by decide) ?_
      have hne9 : ¬ FA9 = FL9 := ne_of r5d r5c ne_arr
      obtain ⟨-, ⟨mcA, hLA⟩, hAA, hk9⟩ := add_of (v := none) (n := i91) (cap := 12) (f := ffb) (x := σ9.2) hne9 eσ12
      have hr8 : RWr g σ12 (mkV lo R9 M9 NL9 NA9 FL9 FA9 UN9 (upP F7 i91 σ9.2) N7 (upP P7 i91 (wP W i91))) (part N (nN N) (i91 + 1)) := by
        have h := (hs7.nw nσ11).addF (N' := part N (nN N) (i91 + 1)) (x := σ9.2) (p := wP W i91) wσ11 hC6 (by rw [part_nN N _ hb7]; exact hN4) hT3 hk9 (by rw [part_nF N (nN N) hb9]; exact hLA) (by rw [part_nF N (nN N) hb9]; exact hAA) (by rw [part_nF N (nN N) hb9]; exact r5qb) (by rw [part_nF N (nN N) hb9, flg_eq _ (fun k _ => part_fl N (nN N) (i91 + 1) i91 k)]; exact hxo) (by rw [part_nF N (nN N) hb9, part_fl, part_fl, part_fl]; exact hpo) (by rw [part_nF N (nN N) hb9]; intro i hi; exact Nat.ne_of_lt (Nat.lt_of_lt_of_le (wτ91 _ _ (r7b i hi)) nσ9.1)) (fun j a b => by unfold part; rw [if_neg b, if_neg b]) (fun i k _ _ => by rw [part_fl, part_fl]) (by rw [part_nF N (nN N) hb9, part_nF N _ hb0])
        rw [part_nF N (nN N) hb9] at h
        exact h
      refine A_less (b' := ((nF N) - (i91 + 1)) * 4 + 0) (by omega) ?_
      refine A_sub (L' := [(0, .ref lo), (1, .ref (wW W)), (2, .ref iφ)]) ⟨rfl, rfl, rfl, trivial⟩ ?_
      exact ih91 σ12 (⟨qσ12, fσ12_2, ⟨_, _, hr8, fun k hk => by unfold upP; split; exact Nat.le_trans hl qσ9.1; exact hF7 k (by omega)⟩, _, fσ12_5⟩)
    · skip
      refine A_less (b' := 0) (by omega) ?_
      obtain ⟨qτ91, cτ91, ⟨F7, P7, hs7, hF7⟩, lr6, fi6⟩ := hI91
      refine A_wfh (fun wτ91 hgτ91 => ?_)
      have nτ91 : nw τ91 τ91 := nw.rf
      have hb9 : (nF N) < 2 ^ 31 := Nat.lt_of_le_of_lt hF12 (by decide)
      have foτ91_0 : τ91.1 (wFL W) = some (.inr (.inl (14, [.int mcf, .ref (wFA W), .int (nI (nF N))]))) := cut_at qτ91 h5
      have foτ91_1 : τ91.1 (wFA W) = some (.inl (.object "java/lang/Object", 12, .inr (.inr (.inr (.inr ffA))))) := cut_at qτ91 h5p
      have foτ91_2 : τ91.1 (wW W) = some (.inr (.inl (4, [.int (N 9), .ref (wR W), .ref (wM W), .ref (wNL W), .ref (wFL W), .ref (wUN W), .int (N 6), .int (N 8), .int (N 0), .int (N 1), .int (N 2), .int (N 3), .int (N 4), .int (N 5), .int (N 11)]))) := cut_at qτ91 h1
      refine A_aload_n (i := 2) dX5_init_2_91 rfl rfl ?_
      refine A_callF0E (b' := 0) (v := some (.int (bi ((nF N) < nF N)))) (τ := τ91) (c_iHas τ91 iφ (wFL W) (wFA W) (nF N) (nF N) mcf lr6 fi6 foτ91_0 (Nat.le_refl _) (by omega)) tF_hasNext q1596 fi6 rfl dX5_init_2_92 (by decide) (Nat.le_of_ble_eq_true rfl) (Nat.le_of_ble_eq_true rfl) ?_
      refine A_if_eq_t (tgt := 125) dX5_init_2_97 (by decide) (bi_f (Nat.lt_irrefl _)) ?_
      refine A_aload_n (i := 0) dX5_init_2_125 rfl rfl ?_
      refine A_aload_n (i := 1) dX5_init_2_126 rfl rfl ?_
      refine A_getf cb_X5 foτ91_2 6 (Nat.le_of_ble_eq_true rfl) q837 rfl (v := .int (N 6)) rfl dX5_init_2_127 ?_
      refine A_putf cb_X5 cτ91 6 (Nat.le_of_ble_eq_true rfl) q837 rfl rfl rfl rfl (Nat.le_of_ble_eq_true rfl) dX5_init_2_130 ?_
      obtain ⟨σ13, eσ13⟩ : ∃ τ, τ = h_put τ91 lo (.inr (.inl (4, [.int (N 9), .ref R9, .ref M9, .ref NL9, .ref FL9, .ref UN9, .int (N 6), .int 0, .int 0, .int 0, .int 0, .int 0, .int 0, .int 0, .int 0]))) := ⟨_, rfl⟩
      refine A_st (σ' := σ13) eσ13.symm ?_
      have wσ13 : wfh σ13 := by rw [eσ13]; exact wτ91.put cτ91
      have fσ13_0 : σ13.1 (wFL W) = some (.inr (.inl (14, [.int mcf, .ref (wFA W), .int (nI (nF N))]))) := by rw [eσ13]; exact (hp_ne (Nat.ne_of_lt (Nat.lt_of_lt_of_le (cut_wfh σ lo _ _ h5) (Nat.le_refl _)))).trans foτ91_0
      have fσ13_1 : σ13.1 (wFA W) = some (.inl (.object "java/lang/Object", 12, .inr (.inr (.inr (.inr ffA))))) := by rw [eσ13]; exact (hp_ne (Nat.ne_of_lt (Nat.lt_of_lt_of_le (cut_wfh σ lo _ _ h5p) (Nat.le_refl _)))).trans foτ91_1
      have fσ13_2 : σ13.1 (wW W) = some (.inr (.inl (4, [.int (N 9), .ref (wR W), .ref (wM W), .ref (wNL W), .ref (wFL W), .ref (wUN W), .int (N 6), .int (N 8), .int (N 0), .int (N 1), .int (N 2), .int (N 3), .int (N 4), .int (N 5), .int (N 11)]))) := by rw [eσ13]; exact (hp_ne (Nat.ne_of_lt (Nat.lt_of_lt_of_le (cut_wfh σ lo _ _ h1) (Nat.le_refl _)))).trans foτ91_2
      have fσ13_3 : σ13.1 lo = some (.inr (.inl (4, [.int (N 9), .ref R9, .ref M9, .ref NL9, .ref FL9, .ref UN9, .int (N 6), .int 0, .int 0, .int 0, .int 0, .int 0, .int 0, .int 0, .int 0]))) := by rw [eσ13]; exact if_pos rfl
      have fσ13_4 : σ13.1 iφ = some (.inr (.inl (15, [.int (nI (nF N)), .int lr6, .int mcf, .ref (wFL W)]))) := by rw [eσ13]; exact (hp_ne (ne_of (x := .inr (.inl (15, [.int (nI (nF N)), .int lr6, .int mcf, .ref (wFL W)]))) (y := .inr (.inl (4, [.int (N 9), .ref R9, .ref M9, .ref NL9, .ref FL9, .ref UN9, .int 0, .int 0, .int 0, .int 0, .int 0, .int 0, .int 0, .int 0, .int 0]))) fi6 cτ91 (fun e8 => by simp at e8))).trans fi6
      have qσ13 : kl lo σ σ13 := by rw [eσ13]; exact qτ91.put (Nat.le_refl _)
      refine A_aload_n (i := 0) dX5_init_2_133 rfl rfl ?_
      refine A_aload_n (i := 1) dX5_init_2_134 rfl rfl ?_
      refine A_getf cb_X5 fσ13_2 7 (Nat.le_of_ble_eq_true rfl) q840 rfl (v := .int (N 8)) rfl dX5_init_2_135 ?_
      refine A_putf cb_X5 fσ13_3 7 (Nat.le_of_ble_eq_true rfl) q840 rfl rfl rfl rfl (Nat.le_of_ble_eq_true rfl) dX5_init_2_138 ?_
      obtain ⟨σ14, eσ14⟩ : ∃ τ, τ = h_put σ13 lo (.inr (.inl (4, [.int (N 9), .ref R9, .ref M9, .ref NL9, .ref FL9, .ref UN9, .int (N 6), .int (N 8), .int 0, .int 0, .int 0, .int 0, .int 0, .int 0, .int 0]))) := ⟨_, rfl⟩
      refine A_st (σ' := σ14) eσ14.symm ?_
      have wσ14 : wfh σ14 := by rw [eσ14]; exact wσ13.put fσ13_3
      have fσ14_0 : σ14.1 (wFL W) = some (.inr (.inl (14, [.int mcf, .ref (wFA W), .int (nI (nF N))]))) := by rw [eσ14]; exact (hp_ne (Nat.ne_of_lt (Nat.lt_of_lt_of_le (cut_wfh σ lo _ _ h5) (Nat.le_refl _)))).trans fσ13_0
      have fσ14_1 : σ14.1 (wFA W) = some (.inl (.object "java/lang/Object", 12, .inr (.inr (.inr (.inr ffA))))) := by rw [eσ14]; exact (hp_ne (Nat.ne_of_lt (Nat.lt_of_lt_of_le (cut_wfh σ lo _ _ h5p) (Nat.le_refl _)))).trans fσ13_1
      have fσ14_2 : σ14.1 (wW W) = some (.inr (.inl (4, [.int (N 9), .ref (wR W), .ref (wM W), .ref (wNL W), .ref (wFL W), .ref (wUN W), .int (N 6), .int (N 8), .int (N 0), .int (N 1), .int (N 2), .int (N 3), .int (N 4), .int (N 5), .int (N 11)]))) := by rw [eσ14]; exact (hp_ne (Nat.ne_of_lt (Nat.lt_of_lt_of_le (cut_wfh σ lo _ _ h1) (Nat.le_refl _)))).trans fσ13_2
      have fσ14_3 : σ14.1 lo = some (.inr (.inl (4, [.int (N 9), .ref R9, .ref M9, .ref NL9, .ref FL9, .ref UN9, .int (N 6), .int (N 8), .int 0, .int 0, .int 0, .int 0, .int 0, .int 0, .int 0]))) := by rw [eσ14]; exact if_pos rfl
      have fσ14_4 : σ14.1 iφ = some (.inr (.inl (15, [.int (nI (nF N)), .int lr6, .int mcf, .ref (wFL W)]))) := by rw [eσ14]; exact (hp_ne (ne_of (x := .inr (.inl (15, [.int (nI (nF N)), .int lr6, .int mcf, .ref (wFL W)]))) (y := .inr (.inl (4, [.int (N 9), .ref R9, .ref M9, .ref NL9, .ref FL9, .ref UN9, .int (N 6), .int 0, .int 0, .int 0, .int 0, .int 0, .int 0, .int 0, .int 0]))) fσ13_4 fσ13_3 (fun e8 => by simp at e8))).trans fσ13_4
      have qσ14 : kl lo σ σ14 := by rw [eσ14]; exact qσ13.put (Nat.le_refl _)
      refine A_aload_n (i := 0) dX5_init_2_141 rfl rfl ?_
      refine A_aload_n (i := 1) dX5_init_2_142 rfl rfl ?_
      refine A_getf cb_X5 fσ14_2 8 (Nat.le_of_ble_eq_true rfl) q843 rfl (v := .int (N 0)) rfl dX5_init_2_143 ?_
      refine A_putf cb_X5 fσ14_3 8 (Nat.le_of_ble_eq_true rfl) q843 rfl rfl rfl rfl (Nat.le_of_ble_eq_true rfl) dX5_init_2_146 ?_
      obtain ⟨σ15, eσ15⟩ : ∃ τ, τ = h_put σ14 lo (.inr (.inl (4, [.int (N 9), .ref R9, .ref M9, .ref NL9, .ref FL9, .ref UN9, .int (N 6), .int (N 8), .int (N 0), .int 0, .int 0, .int 0, .int 0, .int 0, .int 0]))) := ⟨_, rfl⟩
      refine A_st (σ' := σ15) eσ15.symm ?_
      have wσ15 : wfh σ15 := by rw [eσ15]; exact wσ14.put fσ14_3
      have fσ15_0 : σ15.1 (wFL W) = some (.inr (.inl (14, [.int mcf, .ref (wFA W), .int (nI (nF N))]))) := by rw [eσ15]; exact (hp_ne (Nat.ne_of_lt (Nat.lt_of_lt_of_le (cut_wfh σ lo _ _ h5) (Nat.le_refl _)))).trans fσ14_0
      have fσ15_1 : σ15.1 (wFA W) = some (.inl (.object "java/lang/Object", 12, .inr (.inr (.inr (.inr ffA))))) := by rw [eσ15]; exact (hp_ne (Nat.ne_of_lt (Nat.lt_of_lt_of_le (cut_wfh σ lo _ _ h5p) (Nat.le_refl _)))).trans fσ14_1
      have fσ15_2 : σ15.1 (wW W) = some (.inr (.inl (4, [.int (N 9), .ref (wR W), .ref (wM W), .ref (wNL W), .ref (wFL W), .ref (wUN W), .int (N 6), .int (N 8), .int (N 0), .int (N 1), .int (N 2), .int (N 3), .int (N 4), .int (N 5), .int (N 11)]))) := by rw [eσ15]; exact (hp_ne (Nat.ne_of_lt (Nat.lt_of_lt_of_le (cut_wfh σ lo _ _ h1) (Nat.le_refl _)))).trans fσ14_2
      have fσ15_3 : σ15.1 lo = some (.inr (.inl (4, [.int (N 9), .ref R9, .ref M9, .ref NL9, .ref FL9, .ref UN9, .int (N 6), .int (N 8), .int (N 0), .int 0, .int 0, .int 0, .int 0, .int 0, .int 0]))) := by rw [eσ15]; exact if_pos rfl
      have fσ15_4 : σ15.1 iφ = some (.inr (.inl (15, [.int (nI (nF N)), .int lr6, .int mcf, .ref (wFL W)]))) := by rw [eσ15]; exact (hp_ne (ne_of (x := .inr (.inl (15, [.int (nI (nF N)), .int lr6, .int mcf, .ref (wFL W)]))) (y := .inr (.inl (4, [.int (N 9), .ref R9, .ref M9, .ref NL9, .ref FL9, .ref UN9, .int (N 6), .int (N 8), .int 0, .int 0, .int 0, .int 0, .int 0, .int 0, .int 0]))) fσ14_4 fσ14_3 (fun e8 => by simp at e8))).trans fσ14_4
      have qσ15 : kl lo σ σ15 := by rw [eσ15]; exact qσ14.put (Nat.le_refl _)
      refine A_aload_n (i := 0) dX5_init_2_149 rfl rfl ?_
      refine A_aload_n (i := 1) dX5_init_2_150 rfl rfl ?_
      refine A_getf cb_X5 fσ15_2 9 (Nat.le_of_ble_eq_true rfl) q845 rfl (v := .int (N 1)) rfl dX5_init_2_151 ?_
      refine A_putf cb_X5 fσ15_3 9 (Nat.le_of_ble_eq_true rfl) q845 rfl rfl rfl rfl (Nat.le_of_ble_eq_true rfl) dX5_init_2_154 ?_
      obtain ⟨σ16, eσ16⟩ : ∃ τ, τ = h_put σ15 lo (.inr (.inl (4, [.int (N 9), .ref R9, .ref M9, .ref NL9, .ref FL9, .ref UN9, .int (N 6), .int (N 8), .int (N 0), .int (N 1), .int 0, .int 0, .int 0, .int 0, .int 0]))) := ⟨_, rfl⟩
      refine A_st (σ' := σ16) eσ16.symm ?_
      have wσ16 : wfh σ16 := by rw [eσ16]; exact wσ15.put fσ15_3
      have fσ16_0 : σ16.1 (wFL W) = some (.inr (.inl (14, [.int mcf, .ref (wFA W), .int (nI (nF N))]))) := by rw [eσ16]; exact (hp_ne (Nat.ne_of_lt (Nat.lt_of_lt_of_le (cut_wfh σ lo _ _ h5) (Nat.le_refl _)))).trans fσ15_0
      have fσ16_1 : σ16.1 (wFA W) = some (.inl (.object "java/lang/Object", 12, .inr (.inr (.inr (.inr ffA))))) := by rw [eσ16]; exact (hp_ne (Nat.ne_of_lt (Nat.lt_of_lt_of_le (cut_wfh σ lo _ _ h5p) (Nat.le_refl _)))).trans fσ15_1
      have fσ16_2 : σ16.1 (wW W) = some (.inr (.inl (4, [.int (N 9), .ref (wR W), .ref (wM W), .ref (wNL W), .ref (wFL W), .ref (wUN W), .int (N 6), .int (N 8), .int (N 0), .int (N 1), .int (N 2), .int (N 3), .int (N 4), .int (N 5), .int (N 11)]))) := by rw [eσ16]; exact (hp_ne (Nat.ne_of_lt (Nat.lt_of_lt_of_le (cut_wfh σ lo _ _ h1) (Nat.le_refl _)))).trans fσ15_2
      have fσ16_3 : σ16.1 lo = some (.inr (.inl (4, [.int (N 9), .ref R9, .ref M9, .ref NL9, .ref FL9, .ref UN9, .int (N 6), .int (N 8), .int (N 0), .int (N 1), .int 0, .int 0, .int 0, .int 0, .int 0]))) := by rw [eσ16]; exact if_pos rfl
      have fσ16_4 : σ16.1 iφ = some (.inr (.inl (15, [.int (nI (nF N)), .int lr6, .int mcf, .ref (wFL W)]))) := by rw [eσ16]; exact (hp_ne (ne_of (x := .inr (.inl (15, [.int (nI (nF N)), .int lr6, .int mcf, .ref (wFL W)]))) (y := .inr (.inl (4, [.int (N 9), .ref R9, .ref M9, .ref NL9, .ref FL9, .ref UN9, .int (N 6), .int (N 8), .int (N 0), .int 0, .int 0, .int 0, .int 0, .int 0, .int 0]))) fσ15_4 fσ15_3 (fun e8 => by simp at e8))).trans fσ15_4
      have qσ16 : kl lo σ σ16 := by rw [eσ16]; exact qσ15.put (Nat.le_refl _)
      refine A_aload_n (i := 0) dX5_init_2_157 rfl rfl ?_
      refine A_aload_n (i := 1) dX5_init_2_158 rfl rfl ?_
      refine A_getf cb_X5 fσ16_2 10 (Nat.le_of_ble_eq_true rfl) q848 rfl (v := .int (N 2)) rfl dX5_init_2_159 ?_
      refine A_putf cb_X5 fσ16_3 10 (Nat.le_of_ble_eq_true rfl) q848 rfl rfl rfl rfl (Nat.le_of_ble_eq_true rfl) dX5_init_2_162 ?_
      obtain ⟨σ17, eσ17⟩ : ∃ τ, τ = h_put σ16 lo (.inr (.inl (4, [.int (N 9), .ref R9, .ref M9, .ref NL9, .ref FL9, .ref UN9, .int (N 6), .int (N 8), .int (N 0), .int (N 1), .int (N 2), .int 0, .int 0, .int 0, .int 0]))) := ⟨_, rfl⟩
      refine A_st (σ' := σ17) eσ17.symm ?_
      have wσ17 : wfh σ17 := by rw [eσ17]; exact wσ16.put fσ16_3
      have fσ17_0 : σ17.1 (wFL W) = some (.inr (.inl (14, [.int mcf, .ref (wFA W), .int (nI (nF N))]))) := by rw [eσ17]; exact (hp_ne (Nat.ne_of_lt (Nat.lt_of_lt_of_le (cut_wfh σ lo _ _ h5) (Nat.le_refl _)))).trans fσ16_0
      have fσ17_1 : σ17.1 (wFA W) = some (.inl (.object "java/lang/Object", 12, .inr (.inr (.inr (.inr ffA))))) := by rw [eσ17]; exact (hp_ne (Nat.ne_of_lt (Nat.lt_of_lt_of_le (cut_wfh σ lo _ _ h5p) (Nat.le_refl _)))).trans fσ16_1
      have fσ17_2 : σ17.1 (wW W) = some (.inr (.inl (4, [.int (N 9), .ref (wR W), .ref (wM W), .ref (wNL W), .ref (wFL W), .ref (wUN W), .int (N 6), .int (N 8), .int (N 0), .int (N 1), .int (N 2), .int (N 3), .int (N 4), .int (N 5), .int (N 11)]))) := by rw [eσ17]; exact (hp_ne (Nat.ne_of_lt (Nat.lt_of_lt_of_le (cut_wfh σ lo _ _ h1) (Nat.le_refl _)))).trans fσ16_2
      have fσ17_3 : σ17.1 lo = some (.inr (.inl (4, [.int (N 9), .ref R9, .ref M9, .ref NL9, .ref FL9, .ref UN9, .int (N 6), .int (N 8), .int (N 0), .int (N 1), .int (N 2), .int 0, .int 0, .int 0, .int 0]))) := by rw [eσ17]; exact if_pos rfl
      have fσ17_4 : σ17.1 iφ = some (.inr (.inl (15, [.int (nI (nF N)), .int lr6, .int mcf, .ref (wFL W)]))) := by rw [eσ17]; exact (hp_ne (ne_of (x := .inr (.inl (15, [.int (nI (nF N)), .int lr6, .int mcf, .ref (wFL W)]))) (y := .inr (.inl (4, [.int (N 9), .ref R9, .ref M9, .ref NL9, .ref FL9, .ref UN9, .int (N 6), .int (N 8), .int (N 0), .int (N 1), .int 0, .int 0, .int 0, .int 0, .int 0]))) fσ16_4 fσ16_3 (fun e8 => by simp at e8))).trans fσ16_4
      have qσ17 : kl lo σ σ17 := by rw [eσ17]; exact qσ16.put (Nat.le_refl _)
      refine A_aload_n (i := 0) dX5_init_2_165 rfl rfl ?_
      refine A_aload_n (i := 1) dX5_init_2_166 rfl rfl ?_
      refine A_getf cb_X5 fσ17_2 11 (Nat.le_of_ble_eq_true rfl) q850 rfl (v := .int (N 3)) rfl dX5_init_2_167 ?_
      refine A_putf cb_X5 fσ17_3 11 (Nat.le_of_ble_eq_true rfl) q850 rfl rfl rfl rfl (Nat.le_of_ble_eq_true rfl) dX5_init_2_170 ?_
      obtain ⟨σ18, eσ18⟩ : ∃ τ, τ = h_put σ17 lo (.inr (.inl (4, [.int (N 9), .ref R9, .ref M9, .ref NL9, .ref FL9, .ref UN9, .int (N 6), .int (N 8), .int (N 0), .int (N 1), .int (N 2), .int (N 3), .int 0, .int 0, .int 0]))) := ⟨_, rfl⟩
      refine A_st (σ' := σ18) eσ18.symm ?_
      have wσ18 : wfh σ18 := by rw [eσ18]; exact wσ17.put fσ17_3
      have fσ18_0 : σ18.1 (wFL W) = some (.inr (.inl (14, [.int mcf, .ref (wFA W), .int (nI (nF N))]))) := by rw [eσ18]; exact (hp_ne (Nat.ne_of_lt (Nat.lt_of_lt_of_le (cut_wfh σ lo _ _ h5) (Nat.le_refl _)))).trans fσ17_0
      have fσ18_1 : σ18.1 (wFA W) = some (.inl (.object "java/lang/Object", 12, .inr (.inr (.inr (.inr ffA))))) := by rw [eσ18]; exact (hp_ne (Nat.ne_of_lt (Nat.lt_of_lt_of_le (cut_wfh σ lo _ _ h5p) (Nat.le_refl _)))).trans fσ17_1
      have fσ18_2 : σ18.1 (wW W) = some (.inr (.inl (4, [.int (N 9), .ref (wR W), .ref (wM W), .ref (wNL W), .ref (wFL W), .ref (wUN W), .int (N 6), .int (N 8), .int (N 0), .int (N 1), .int (N 2), .int (N 3), .int (N 4), .int (N 5), .int (N 11)]))) := by rw [eσ18]; exact (hp_ne (Nat.ne_of_lt (Nat.lt_of_lt_of_le (cut_wfh σ lo _ _ h1) (Nat.le_refl _)))).trans fσ17_2
      have fσ18_3 : σ18.1 lo = some (.inr (.inl (4, [.int (N 9), .ref R9, .ref M9, .ref NL9, .ref FL9, .ref UN9, .int (N 6), .int (N 8), .int (N 0), .int (N 1), .int (N 2), .int (N 3), .int 0, .int 0, .int 0]))) := by rw [eσ18]; exact if_pos rfl
      have fσ18_4 : σ18.1 iφ = some (.inr (.inl (15, [.int (nI (nF N)), .int lr6, .int mcf, .ref (wFL W)]))) := by rw [eσ18]; exact (hp_ne (ne_of (x := .inr (.inl (15, [.int (nI (nF N)), .int lr6, .int mcf, .ref (wFL W)]))) (y := .inr (.inl (4, [.int (N 9), .ref R9, .ref M9, .ref NL9, .ref FL9, .ref UN9, .int (N 6), .int (N 8), .int (N 0), .int (N 1), .int (N 2), .int 0, .int 0, .int 0, .int 0]))) fσ17_4 fσ17_3 (fun e8 => by simp at e8))).trans fσ17_4
      have qσ18 : kl lo σ σ18 := by rw [eσ18]; exact qσ17.put (Nat.le_refl _)
      refine A_aload_n (i := 0) dX5_init_2_173 rfl rfl ?_
      refine A_aload_n (i := 1) dX5_init_2_174 rfl rfl ?_
      refine A_getf cb_X5 fσ18_2 12 (Nat.le_of_ble_eq_true rfl) q852 rfl (v := .int (N 4)) rfl dX5_init_2_175 ?_
      refine A_putf cb_X5 fσ18_3 12 (Nat.le_of_ble_eq_true rfl) q852 rfl rfl rfl rfl (Nat.le_of_ble_eq_true rfl) dX5_init_2_178 ?_
      obtain ⟨σ19, eσ19⟩ : ∃ τ, τ = h_put σ18 lo (.inr (.inl (4, [.int (N 9), .ref R9, .ref M9, .ref NL9, .ref FL9, .ref UN9, .int (N 6), .int (N 8), .int (N 0), .int (N 1), .int (N 2), .int (N 3), .int (N 4), .int 0, .int 0]))) := ⟨_, rfl⟩
      refine A_st (σ' := σ19) eσ19.symm ?_
      have wσ19 : wfh σ19 := by rw [eσ19]; exact wσ18.put fσ18_3
      have fσ19_0 : σ19.1 (wFL W) = some (.inr (.inl (14, [.int mcf, .ref (wFA W), .int (nI (nF N))]))) := by rw [eσ19]; exact (hp_ne (Nat.ne_of_lt (Nat.lt_of_lt_of_le (cut_wfh σ lo _ _ h5) (Nat.le_refl _)))).trans fσ18_0
      have fσ19_1 : σ19.1 (wFA W) = some (.inl (.object "java/lang/Object", 12, .inr (.inr (.inr (.inr ffA))))) := by rw [eσ19]; exact (hp_ne (Nat.ne_of_lt (Nat.lt_of_lt_of_le (cut_wfh σ lo _ _ h5p) (Nat.le_refl _)))).trans fσ18_1
      have fσ19_2 : σ19.1 (wW W) = some (.inr (.inl (4, [.int (N 9), .ref (wR W), .ref (wM W), .ref (wNL W), .ref (wFL W), .ref (wUN W), .int (N 6), .int (N 8), .int (N 0), .int (N 1), .int (N 2), .int (N 3), .int (N 4), .int (N 5), .int (N 11)]))) := by rw [eσ19]; exact (hp_ne (Nat.ne_of_lt (Nat.lt_of_lt_of_le (cut_wfh σ lo _ _ h1) (Nat.le_refl _)))).trans fσ18_2
      have fσ19_3 : σ19.1 lo = some (.inr (.inl (4, [.int (N 9), .ref R9, .ref M9, .ref NL9, .ref FL9, .ref UN9, .int (N 6), .int (N 8), .int (N 0), .int (N 1), .int (N 2), .int (N 3), .int (N 4), .int 0, .int 0]))) := by rw [eσ19]; exact if_pos rfl
      have fσ19_4 : σ19.1 iφ = some (.inr (.inl (15, [.int (nI (nF N)), .int lr6, .int mcf, .ref (wFL W)]))) := by rw [eσ19]; exact (hp_ne (ne_of (x := .inr (.inl (15, [.int (nI (nF N)), .int lr6, .int mcf, .ref (wFL W)]))) (y := .inr (.inl (4, [.int (N 9), .ref R9, .ref M9, .ref NL9, .ref FL9, .ref UN9, .int (N 6), .int (N 8), .int (N 0), .int (N 1), .int (N 2), .int (N 3), .int 0, .int 0, .int 0]))) fσ18_4 fσ18_3 (fun e8 => by simp at e8))).trans fσ18_4
      have qσ19 : kl lo σ σ19 := by rw [eσ19]; exact qσ18.put (Nat.le_refl _)
      refine A_aload_n (i := 0) dX5_init_2_181 rfl rfl ?_
      refine A_aload_n (i := 1) dX5_init_2_182 rfl rfl ?_
      refine A_getf cb_X5 fσ19_2 13 (Nat.le_of_ble_eq_true rfl) q854 rfl (v := .int (N 5)) rfl dX5_init_2_183 ?_
      refine A_putf cb_X5 fσ19_3 13 (Nat.le_of_ble_eq_true rfl) q854 rfl rfl rfl rfl (Nat.le_of_ble_eq_true rfl) dX5_init_2_186 ?_
      obtain ⟨σ20, eσ20⟩ : ∃ τ, τ = h_put σ19 lo (.inr (.inl (4, [.int (N 9), .ref R9, .ref M9, .ref NL9, .ref FL9, .ref UN9, .int (N 6), .int (N 8), .int (N 0), .int (N 1), .int (N 2), .int (N 3), .int (N 4), .int (N 5), .int 0]))) := ⟨_, rfl⟩
      refine A_st (σ' := σ20) eσ20.symm ?_
      have wσ20 : wfh σ20 := by rw [eσ20]; exact wσ19.put fσ19_3
      have fσ20_0 : σ20.1 (wFL W) = some (.inr (.inl (14, [.int mcf, .ref (wFA W), .int (nI (nF N))]))) := by rw [eσ20]; exact (hp_ne (Nat.ne_of_lt (Nat.lt_of_lt_of_le (cut_wfh σ lo _ _ h5) (Nat.le_refl _)))).trans fσ19_0
      have fσ20_1 : σ20.1 (wFA W) = some (.inl (.object "java/lang/Object", 12, .inr (.inr (.inr (.inr ffA))))) := by rw [eσ20]; exact (hp_ne (Nat.ne_of_lt (Nat.lt_of_lt_of_le (cut_wfh σ lo _ _ h5p) (Nat.le_refl _)))).trans fσ19_1
      have fσ20_2 : σ20.1 (wW W) = some (.inr (.inl (4, [.int (N 9), .ref (wR W), .ref (wM W), .ref (wNL W), .ref (wFL W), .ref (wUN W), .int (N 6), .int (N 8), .int (N 0), .int (N 1), .int (N 2), .int (N 3), .int (N 4), .int (N 5), .int (N 11)]))) := by rw [eσ20]; exact (hp_ne (Nat.ne_of_lt (Nat.lt_of_lt_of_le (cut_wfh σ lo _ _ h1) (Nat.le_refl _)))).trans fσ19_2
      have fσ20_3 : σ20.1 lo = some (.inr (.inl (4, [.int (N 9), .ref R9, .ref M9, .ref NL9, .ref FL9, .ref UN9, .int (N 6), .int (N 8), .int (N 0), .int (N 1), .int (N 2), .int (N 3), .int (N 4), .int (N 5), .int 0]))) := by rw [eσ20]; exact if_pos rfl
      have fσ20_4 : σ20.1 iφ = some (.inr (.inl (15, [.int (nI (nF N)), .int lr6, .int mcf, .ref (wFL W)]))) := by rw [eσ20]; exact (hp_ne (ne_of (x := .inr (.inl (15, [.int (nI (nF N)), .int lr6, .int mcf, .ref (wFL W)]))) (y := .inr (.inl (4, [.int (N 9), .ref R9, .ref M9, .ref NL9, .ref FL9, .ref UN9, .int (N 6), .int (N 8), .int (N 0), .int (N 1), .int (N 2), .int (N 3), .int (N 4), .int 0, .int 0]))) fσ19_4 fσ19_3 (fun e8 => by simp at e8))).trans fσ19_4
      have qσ20 : kl lo σ σ20 := by rw [eσ20]; exact qσ19.put (Nat.le_refl _)
      refine A_aload_n (i := 0) dX5_init_2_189 rfl rfl ?_
      refine A_aload_n (i := 1) dX5_init_2_190 rfl rfl ?_
      refine A_getf cb_X5 fσ20_2 14 (Nat.le_of_ble_eq_true rfl) q856 rfl (v := .int (N 11)) rfl dX5_init_2_191 ?_
      refine A_putf cb_X5 fσ20_3 14 (Nat.le_of_ble_eq_true rfl) q856 rfl rfl rfl rfl (Nat.le_of_ble_eq_true rfl) dX5_init_2_194 ?_
      obtain ⟨σ21, eσ21⟩ : ∃ τ, τ = h_put σ20 lo (.inr (.inl (4, [.int (N 9), .ref R9, .ref M9, .ref NL9, .ref FL9, .ref UN9, .int (N 6), .int (N 8), .int (N 0), .int (N 1), .int (N 2), .int (N 3), .int (N 4), .int (N 5), .int (N 11)]))) := ⟨_, rfl⟩
      refine A_st (σ' := σ21) eσ21.symm ?_
      have wσ21 : wfh σ21 := by rw [eσ21]; exact wσ20.put fσ20_3
      have fσ21_0 : σ21.1 (wFL W) = some (.inr (.inl (14, [.int mcf, .ref (wFA W), .int (nI (nF N))]))) := by rw [eσ21]; exact (hp_ne (Nat.ne_of_lt (Nat.lt_of_lt_of_le (cut_wfh σ lo _ _ h5) (Nat.le_refl _)))).trans fσ20_0
      have fσ21_1 : σ21.1 (wFA W) = some (.inl (.object "java/lang/Object", 12, .inr (.inr (.inr (.inr ffA))))) := by rw [eσ21]; exact (hp_ne (Nat.ne_of_lt (Nat.lt_of_lt_of_le (cut_wfh σ lo _ _ h5p) (Nat.le_refl _)))).trans fσ20_1
      have fσ21_2 : σ21.1 (wW W) = some (.inr (.inl (4, [.int (N 9), .ref (wR W), .ref (wM W), .ref (wNL W), .ref (wFL W), .ref (wUN W), .int (N 6), .int (N 8), .int (N 0), .int (N 1), .int (N 2), .int (N 3), .int (N 4), .int (N 5), .int (N 11)]))) := by rw [eσ21]; exact (hp_ne (Nat.ne_of_lt (Nat.lt_of_lt_of_le (cut_wfh σ lo _ _ h1) (Nat.le_refl _)))).trans fσ20_2
      have fσ21_3 : σ21.1 lo = some (.inr (.inl (4, [.int (N 9), .ref R9, .ref M9, .ref NL9, .ref FL9, .ref UN9, .int (N 6), .int (N 8), .int (N 0), .int (N 1), .int (N 2), .int (N 3), .int (N 4), .int (N 5), .int (N 11)]))) := by rw [eσ21]; exact if_pos rfl
      have fσ21_4 : σ21.1 iφ = some (.inr (.inl (15, [.int (nI (nF N)), .int lr6, .int mcf, .ref (wFL W)]))) := by rw [eσ21]; exact (hp_ne (ne_of (x := .inr (.inl (15, [.int (nI (nF N)), .int lr6, .int mcf, .ref (wFL W)]))) (y := .inr (.inl (4, [.int (N 9), .ref R9, .ref M9, .ref NL9, .ref FL9, .ref UN9, .int (N 6), .int (N 8), .int (N 0), .int (N 1), .int (N 2), .int (N 3), .int (N 4), .int (N 5), .int 0]))) fσ20_4 fσ20_3 (fun e8 => by simp at e8))).trans fσ20_4
      have qσ21 : kl lo σ σ21 := by rw [eσ21]; exact qσ20.put (Nat.le_refl _)
      have hs8 := hs7
      rw [part_all hW] at hs8
      have hk8 : kx lo τ91 σ21 := (by rw [eσ21, eσ20, eσ19, eσ18, eσ17, eσ16, eσ15, eσ14, eσ13]; exact kx.rf.put.put.put.put.put.put.put.put.put)
      exact A_vret dX5_init_2_197 rfl (⟨rfl, qσ21, (mkV lo R9 M9 NL9 NA9 FL9 FA9 UN9 F7 N7 P7), rfl, ⟨Nat.le_refl _, oR, oM, oNL, oNA, oFL, oFA, hF7, hN7⟩, fσ21_3, hs8.kw wτ91 cτ91 hk8⟩)
