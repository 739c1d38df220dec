/-! THE COMPONENT 12: hours pass; the iron; washing -/
theorem passI_cnt (N : AF) : ∀ n j, 6 ≤ j → j < 41 → itr passN N n j = N j
  | 0, _, _, _ => rfl
  | n + 1, j, a, b => (passN_cnt _ j a b).trans (passI_cnt N n j a b)
theorem passI_nF (N : AF) (n : Nat) : nF (itr passN N n) = nF N := by unfold nF; rw [passI_cnt N n 10 (by decide) (by decide)]
theorem passI_nN (N : AF) (n : Nat) : nN (itr passN N n) = nN N := by unfold nN; rw [passI_cnt N n 7 (by decide) (by decide)]
theorem wsh_nF (N : AF) (t r h : Int32) (n : Nat) : nF (wsh N t r h n) = nF N := (hdr_wsh N t r h n).nFe
set_option maxHeartbeats 200000 in
theorem c_passes5 {l : Launch} {g : GC} (σ : AH) (W : WA) (N : AF) (lo m : Nat) (hR : RW g σ W N) (hD : WFd N) (hO : own lo W N) (hl : lo ≤ σ.2) (hw : WFw N) (hm : m ≤ 99) : AMet l g mX5_passes 15 100 [.ref (wW W), .int (nI m)] σ (A_mut g (some (.int (sm (fun i => fellN (itr passN N i)) m))) lo W (itr passN N m) σ) (A_no) := by
  refine A_of rfl (by decide) (Nat.le_of_ble_eq_true rfl) (L0 := [(0, .ref (wW W)), (1, .int (nI m))]) rfl ?_
  refine A_wfh (fun wσ hgσ => ?_)
  have qσ : kl lo σ σ := kl.rf
  have hW := hD.1
  have hR9 := hR
  obtain ⟨h1, ⟨fr, h2, h2p⟩, ⟨fm, h3, h3p⟩, ⟨mcn, fnA, h4, h4p, h4q⟩, ⟨mcf, ffA, h5, h5p, h5q⟩, ⟨fu, h6, h6p⟩, h7, h8, h9, h10, h11⟩ := hR
  have hF12 : nF N ≤ 12 := hW.2.2.2.2.2
  have hN4 : nN N ≤ 4 := hW.2.1.2
  have hC6 : nC N ≤ 6 := hW.1.2
  have hT3 : nT N ≤ 3 := hW.2.2.1.2
  have hP8 : nP N ≤ 8 := hW.2.2.2.1.2
  refine A_iconst (v := 0) dX5_passes_0 (by decide) ?_
  refine A_istore_n (i := 2) dX5_passes_1 rfl (Nat.le_of_ble_eq_true rfl) ?_
  refine A_iconst (v := 0) dX5_passes_2 (by decide) ?_
  refine A_istore_n (i := 3) dX5_passes_3 rfl (Nat.le_of_ble_eq_true rfl) ?_
  refine A_less (b' := (m - 0) * 1 + 0) (by omega) ?_
  refine A_sub (L' := [(0, .ref (wW W)), (1, .int (nI m)), (2, .int (sm (fun i => fellN (itr passN N i)) 0)), (3, .int (nI 0))]) ⟨rfl, rfl, rfl, rfl, trivial⟩ ?_
  refine A_forP (α := AH) m (fun i4 _ => (m - i4) * 1 + 0) (fun i4 _ => [(0, .ref (wW W)), (1, .int (nI m)), (2, .int (sm (fun i => fellN (itr passN N i)) i4)), (3, .int (nI i4))]) (fun _ τ4 => τ4) (fun i4 τ4 => (∃ P, RW g τ4 (setP W P) (itr passN N i4)) ∧ kl lo σ τ4) σ (⟨⟨_, hR9.sP⟩, kl.rf⟩) (fun i4 τ4 hi4 hI4 ih4 => ?_) (fun τ4 hI4 => ?_)
  · skip
    refine A_less (b' := (m - (i4 + 1)) * 1 + 0 + 1) (by omega) ?_
    obtain ⟨⟨P4, hR4⟩, qτ4⟩ := hI4
    refine A_wfh (fun wτ4 hgτ4 => ?_)
    have hD4 : WFd (itr passN N i4) := (WFd_passI hD hw i4).1
    have hw4 : WFw (itr passN N i4) := by unfold WFw; rw [(WFd_passI hD hw i4).2]; exact hw
    have hO4 : own lo (setP W P4) (itr passN N i4) := hO.sP (passI_nN N i4) (passI_nF N i4)
    have hRc := hR4
    obtain ⟨h1t4, ⟨frt4, h2t4, h2pt4⟩, ⟨fmt4, h3t4, h3pt4⟩, ⟨mcnt4, fnAt4, h4t4, h4pt4, h4qt4⟩, ⟨mcft4, ffAt4, h5t4, h5pt4, h5qt4⟩, ⟨fut4, h6t4, h6pt4⟩, h7t4, h8t4, h9t4, h10t4, h11t4⟩ := hRc
    have fτ4t4_0 : τ4.1 (wW W) = some (.inr (.inl (4, [.int ((itr passN N i4) 9), .ref (wR W), .ref (wM W), .ref (wNL W), .ref (wFL W), .ref (wUN W), .int ((itr passN N i4) 6), .int ((itr passN N i4) 8), .int ((itr passN N i4) 0), .int ((itr passN N i4) 1), .int ((itr passN N i4) 2), .int ((itr passN N i4) 3), .int ((itr passN N i4) 4), .int ((itr passN N i4) 5), .int ((itr passN N i4) 11)]))) := h1t4
    have fτ4t4_1 : τ4.1 (wFL W) = some (.inr (.inl (14, [.int mcft4, .ref (wFA W), .int (nI (nF (itr passN N i4)))]))) := h5t4
    have fτ4t4_2 : τ4.1 (wFA W) = some (.inl (.object "java/lang/Object", 12, .inr (.inr (.inr (.inr ffAt4))))) := h5pt4
    have fτ4t4_3 : τ4.1 (wNL W) = some (.inr (.inl (14, [.int mcnt4, .ref (wNA W), .int (nI (nN (itr passN N i4)))]))) := h4t4
    have fτ4t4_4 : τ4.1 (wNA W) = some (.inl (.object "java/lang/Object", 4, .inr (.inr (.inr (.inr fnAt4))))) := h4pt4
    have fτ4t4_5 : τ4.1 (wR W) = some (.inl (.int, 6, .inl frt4)) := h2t4
    have fτ4t4_6 : τ4.1 (wM W) = some (.inl (.int, 3, .inl fmt4)) := h3t4
    have fτ4t4_7 : τ4.1 (wUN W) = some (.inl (.object "FlagLaundry$Test", 7, .inr (.inr (.inr (.inr fut4))))) := h6t4
    refine A_iload_n (i := 3) dX5_passes_4 rfl rfl ?_
    refine A_iload_n (i := 1) dX5_passes_5 rfl rfl ?_
    refine A_icmp_ge_f (tgt := 22) dX5_passes_6 (by decide) (br_lt rfl hi4 (by omega)) ?_
    refine A_iload_n (i := 2) dX5_passes_9 rfl rfl ?_
    refine A_aload_n (i := 0) dX5_passes_10 rfl rfl ?_
    refine A_callV0 (b' := (m - (i4 + 1)) * 1 + 0 + 0) (c_hour5 τ4 (setP W P4) (itr passN N i4) lo hR4 hD4 hO4 (Nat.le_trans hl qτ4.1) hw4) tX5_hour q1351 fτ4t4_0 rfl rfl dX5_passes_11 (by decide) (by omega) (Nat.le_of_ble_eq_true rfl) (fun w9 σ1 h9 => ?_) (fun E9 q9 τ9 h9 => h9.elim)
    obtain ⟨e9, ⟨Pσ1, hRσ1⟩, kσ1⟩ := h9
    subst e9
    refine A_wfh (fun wσ1 hgσ1 => ?_)
    have qσ1 : kl lo σ σ1 := qτ4.tr kσ1
    have hRσ1 : RW g σ1 (setP W Pσ1) (passN (itr passN N i4)) := hRσ1
    have hDσ1 : WFd (passN (itr passN N i4)) := WFd_passN hD4 hw4
    have hRc := hRσ1
    obtain ⟨h1σ1, ⟨frσ1, h2σ1, h2pσ1⟩, ⟨fmσ1, h3σ1, h3pσ1⟩, ⟨mcnσ1, fnAσ1, h4σ1, h4pσ1, h4qσ1⟩, ⟨mcfσ1, ffAσ1, h5σ1, h5pσ1, h5qσ1⟩, ⟨fuσ1, h6σ1, h6pσ1⟩, h7σ1, h8σ1, h9σ1, h10σ1, h11σ1⟩ := hRc
    have fσ1σ1_0 : σ1.1 (wW W) = some (.inr (.inl (4, [.int ((passN (itr passN N i4)) 9), .ref (wR W), .ref (wM W), .ref (wNL W), .ref (wFL W), .ref (wUN W), .int ((passN (itr passN N i4)) 6), .int ((passN (itr passN N i4)) 8), .int ((passN (itr passN N i4)) 0), .int ((passN (itr passN N i4)) 1), .int ((passN (itr passN N i4)) 2), .int ((passN (itr passN N i4)) 3), .int ((passN (itr passN N i4)) 4), .int ((passN (itr passN N i4)) 5), .int ((passN (itr passN N i4)) 11)]))) := h1σ1
    have fσ1σ1_1 : σ1.1 (wFL W) = some (.inr (.inl (14, [.int mcfσ1, .ref (wFA W), .int (nI (nF (passN (itr passN N i4))))]))) := h5σ1
    have fσ1σ1_2 : σ1.1 (wFA W) = some (.inl (.object "java/lang/Object", 12, .inr (.inr (.inr (.inr ffAσ1))))) := h5pσ1
    have fσ1σ1_3 : σ1.1 (wNL W) = some (.inr (.inl (14, [.int mcnσ1, .ref (wNA W), .int (nI (nN (passN (itr passN N i4))))]))) := h4σ1
    have fσ1σ1_4 : σ1.1 (wNA W) = some (.inl (.object "java/lang/Object", 4, .inr (.inr (.inr (.inr fnAσ1))))) := h4pσ1
    have fσ1σ1_5 : σ1.1 (wR W) = some (.inl (.int, 6, .inl frσ1)) := h2σ1
    have fσ1σ1_6 : σ1.1 (wM W) = some (.inl (.int, 3, .inl fmσ1)) := h3σ1
    have fσ1σ1_7 : σ1.1 (wUN W) = some (.inl (.object "FlagLaundry$Test", 7, .inr (.inr (.inr (.inr fuσ1))))) := h6σ1
    refine A_iadd dX5_passes_14 ?_
    refine A_istore_n (i := 2) dX5_passes_15 rfl (Nat.le_of_ble_eq_true rfl) ?_
    refine A_iinc (v := nI (i4 + 1)) dX5_passes_16 rfl (nI_inc _ _) (Nat.le_of_ble_eq_true rfl) ?_
    refine A_goto (tgt := 4) dX5_passes_19 (by decide) ?_
    refine A_less (b' := (m - (i4 + 1)) * 1 + 0) (by omega) ?_
    refine A_sub (L' := [(0, .ref (wW W)), (1, .int (nI m)), (2, .int (sm (fun i => fellN (itr passN N i)) (i4 + 1))), (3, .int (nI (i4 + 1)))]) ⟨rfl, rfl, rfl, rfl, trivial⟩ ?_
    exact ih4 σ1 (⟨⟨_, hRσ1⟩, qσ1⟩)
  · skip
    refine A_less (b' := 0) (by omega) ?_
    obtain ⟨⟨P4, hR4⟩, qτ4⟩ := hI4
    refine A_wfh (fun wτ4 hgτ4 => ?_)
    have hD4 : WFd (itr passN N m) := (WFd_passI hD hw m).1
    have hw4 : WFw (itr passN N m) := by unfold WFw; rw [(WFd_passI hD hw m).2]; exact hw
    have hO4 : own lo (setP W P4) (itr passN N m) := hO.sP (passI_nN N m) (passI_nF N m)
    have hRc := hR4
    obtain ⟨h1t4, ⟨frt4, h2t4, h2pt4⟩, ⟨fmt4, h3t4, h3pt4⟩, ⟨mcnt4, fnAt4, h4t4, h4pt4, h4qt4⟩, ⟨mcft4, ffAt4, h5t4, h5pt4, h5qt4⟩, ⟨fut4, h6t4, h6pt4⟩, h7t4, h8t4, h9t4, h10t4, h11t4⟩ := hRc
    have fτ4t4_0 : τ4.1 (wW W) = some (.inr (.inl (4, [.int ((itr passN N m) 9), .ref (wR W), .ref (wM W), .ref (wNL W), .ref (wFL W), .ref (wUN W), .int ((itr passN N m) 6), .int ((itr passN N m) 8), .int ((itr passN N m) 0), .int ((itr passN N m) 1), .int ((itr passN N m) 2), .int ((itr passN N m) 3), .int ((itr passN N m) 4), .int ((itr passN N m) 5), .int ((itr passN N m) 11)]))) := h1t4
    have fτ4t4_1 : τ4.1 (wFL W) = some (.inr (.inl (14, [.int mcft4, .ref (wFA W), .int (nI (nF (itr passN N m)))]))) := h5t4
    have fτ4t4_2 : τ4.1 (wFA W) = some (.inl (.object "java/lang/Object", 12, .inr (.inr (.inr (.inr ffAt4))))) := h5pt4
    have fτ4t4_3 : τ4.1 (wNL W) = some (.inr (.inl (14, [.int mcnt4, .ref (wNA W), .int (nI (nN (itr passN N m)))]))) := h4t4
    have fτ4t4_4 : τ4.1 (wNA W) = some (.inl (.object "java/lang/Object", 4, .inr (.inr (.inr (.inr fnAt4))))) := h4pt4
    have fτ4t4_5 : τ4.1 (wR W) = some (.inl (.int, 6, .inl frt4)) := h2t4
    have fτ4t4_6 : τ4.1 (wM W) = some (.inl (.int, 3, .inl fmt4)) := h3t4
    have fτ4t4_7 : τ4.1 (wUN W) = some (.inl (.object "FlagLaundry$Test", 7, .inr (.inr (.inr (.inr fut4))))) := h6t4
    refine A_iload_n (i := 3) dX5_passes_4 rfl rfl ?_
    refine A_iload_n (i := 1) dX5_passes_5 rfl rfl ?_
    refine A_icmp_ge_t (tgt := 22) dX5_passes_6 (by decide) (br_ge rfl) ?_
    refine A_iload_n (i := 2) dX5_passes_22 rfl rfl ?_
    exact A_iret dX5_passes_23 rfl (⟨rfl, ⟨_, hR4⟩, qτ4⟩)
theorem iron_eq (x : Int32) (k : Nat) (b : Int32) : x - (nI (k + 1) + b) = ((x - 1) - nI k) - b := by
  rw [← Int32.sub_sub, show nI (k + 1) = 1 + nI k by rw [Int32.add_comm]; exact (nI_add k 1).symm, ← Int32.sub_sub]
set_option maxHeartbeats 200000 in
theorem c_irons5 {l : Launch} {g : GC} (σ : AH) (a pl : Nat) (F : Nat → Int32) (k : Nat)  (ww : Nat) (hF : σ.1 a = some (.inr (.inl (6, [.int (F 0), .int (F 1), .int (F 2), .int (F 3), .int (F 4), .int (F 5), .int (F 6), .int (F 7), .ref pl])))) (hk : k ≤ 3) : AMet l g mX5_irons 3 0 [.ref ww, .ref a, .int (nI k)] σ (A_chg (some (.int (mx 0 (((F 5 - 1) - nI k) - bi (¬ F 4 ≤ 0))))) σ a (.inr (.inl (6, [.int (F 0), .int (F 1), .int (F 2), .int (F 3), .int (mx 0 (F 4 - nI k)), .int (mx 0 (((F 5 - 1) - nI k) - bi (¬ F 4 ≤ 0))), .int (F 6), .int (F 7), .ref pl])))) (A_no) := by
  refine A_of rfl (by decide) (Nat.le_of_ble_eq_true rfl) (L0 := [(0, .ref ww), (1, .ref a), (2, .int (nI k))]) rfl ?_
  refine A_wfh (fun wσ hgσ => ?_)
  have zσ : kx a σ σ := kx.rf
  refine A_gok (fun hg => ?_)
  obtain ⟨qh, hs, hh⟩ := heat_ex hg hk
  refine A_aload_n (i := 1) dX5_irons_0 rfl rfl ?_
  refine A_iconst (v := 0) dX5_irons_1 (by decide) ?_
  refine A_aload_n (i := 1) dX5_irons_2 rfl rfl ?_
  refine A_getfN cb_X7 hF 5 (Nat.le_of_ble_eq_true rfl) q1113 rfl (v := .int (F 5)) rfl dX5_irons_3 ?_
  refine A_iload_n (i := 2) dX5_irons_6 rfl rfl ?_
  refine A_callS1E (b' := 0) (v := some (.ref qh)) (τ := σ) (c_hOf σ hs) tX10_of q1258 dX5_irons_7 (by decide) (Nat.le_of_ble_eq_true rfl) (Nat.le_of_ble_eq_true rfl) ?_
  refine A_aload_n (i := 1) dX5_irons_10 rfl rfl ?_
  refine A_getfN cb_X7 hF 4 (Nat.le_of_ble_eq_true rfl) q1109 rfl (v := .int (F 4)) rfl dX5_irons_11 ?_
  refine A_if_le (tgt := 21) dX5_irons_14 (by decide) (fun c1 => ?_) (fun c1 => ?_)
  · skip
    refine A_iconst (v := 0) dX5_irons_21 (by decide) ?_
    refine A_hsmo (v := some (.int (nI (k + 1) + oneI 0))) (τ := σ) hh (c_hSmo σ k qh 0 hh) q1892 dX5_irons_22 (by decide) (Nat.le_of_eq (Nat.zero_add _)) (Nat.le_of_ble_eq_true rfl) ?_
    refine A_isub dX5_irons_25 ?_
    refine A_mmax q1355 q454 q150 q455 dX5_irons_26 (by decide) (Nat.le_of_ble_eq_true rfl) ?_
    refine A_int (w := (mx 0 ((F 5) - (nI (k + 1) + oneI 0)))) rfl ?_
    refine A_int (w := (mx 0 (((F 5 - 1) - nI k) - bi (¬ F 4 ≤ 0)))) (by rw [iron_eq, bi_f (not_not_intro c1)]; rfl) ?_
    refine A_putfN cb_X7 hF 5 (Nat.le_of_ble_eq_true rfl) q1113 rfl rfl rfl rfl (Nat.le_of_ble_eq_true rfl) dX5_irons_29 ?_
    obtain ⟨σ1, eσ1⟩ : ∃ τ, τ = h_put σ a (.inr (.inl (6, [.int (F 0), .int (F 1), .int (F 2), .int (F 3), .int (F 4), .int (mx 0 (((F 5 - 1) - nI k) - bi (¬ F 4 ≤ 0))), .int (F 6), .int (F 7), .ref pl]))) := ⟨_, rfl⟩
    refine A_st (σ' := σ1) eσ1.symm ?_
    have wσ1 : wfh σ1 := by rw [eσ1]; exact wσ.put hF
    have fσ1_0 : σ1.1 a = some (.inr (.inl (6, [.int (F 0), .int (F 1), .int (F 2), .int (F 3), .int (F 4), .int (mx 0 (((F 5 - 1) - nI k) - bi (¬ F 4 ≤ 0))), .int (F 6), .int (F 7), .ref pl]))) := by rw [eσ1]; exact if_pos rfl
    have zσ1 : kx a σ σ1 := by rw [eσ1]; exact zσ.put
    refine A_aload_n (i := 1) dX5_irons_32 rfl rfl ?_
    refine A_iconst (v := 0) dX5_irons_33 (by decide) ?_
    refine A_aload_n (i := 1) dX5_irons_34 rfl rfl ?_
    refine A_getfN cb_X7 fσ1_0 4 (Nat.le_of_ble_eq_true rfl) q1109 rfl (v := .int (F 4)) rfl dX5_irons_35 ?_
    refine A_iload_n (i := 2) dX5_irons_38 rfl rfl ?_
    refine A_isub dX5_irons_39 ?_
    refine A_mmax q1355 q454 q150 q455 dX5_irons_40 (by decide) (Nat.le_of_ble_eq_true rfl) ?_
    refine A_int (w := (mx 0 ((F 4) - (nI k)))) rfl ?_
    refine A_putfN cb_X7 fσ1_0 4 (Nat.le_of_ble_eq_true rfl) q1109 rfl rfl rfl rfl (Nat.le_of_ble_eq_true rfl) dX5_irons_43 ?_
    obtain ⟨σ2, eσ2⟩ : ∃ τ, τ = h_put σ1 a (.inr (.inl (6, [.int (F 0), .int (F 1), .int (F 2), .int (F 3), .int (mx 0 ((F 4) - (nI k))), .int (mx 0 (((F 5 - 1) - nI k) - bi (¬ F 4 ≤ 0))), .int (F 6), .int (F 7), .ref pl]))) := ⟨_, rfl⟩
    refine A_st (σ' := σ2) eσ2.symm ?_
    have wσ2 : wfh σ2 := by rw [eσ2]; exact wσ1.put fσ1_0
    have fσ2_0 : σ2.1 a = some (.inr (.inl (6, [.int (F 0), .int (F 1), .int (F 2), .int (F 3), .int (mx 0 ((F 4) - (nI k))), .int (mx 0 (((F 5 - 1) - nI k) - bi (¬ F 4 ≤ 0))), .int (F 6), .int (F 7), .ref pl]))) := by rw [eσ2]; exact if_pos rfl
    have zσ2 : kx a σ σ2 := by rw [eσ2]; exact zσ1.put
    refine A_aload_n (i := 1) dX5_irons_46 rfl rfl ?_
    refine A_getfN cb_X7 fσ2_0 5 (Nat.le_of_ble_eq_true rfl) q1113 rfl (v := .int (mx 0 (((F 5 - 1) - nI k) - bi (¬ F 4 ≤ 0)))) rfl dX5_irons_47 ?_
    exact A_iret dX5_irons_50 rfl (⟨rfl, fσ2_0, zσ2⟩)
  · skip
    refine A_iconst (v := 1) dX5_irons_17 (by decide) ?_
    refine A_goto (tgt := 22) dX5_irons_18 (by decide) ?_
    refine A_hsmo (v := some (.int (nI (k + 1) + oneI 1))) (τ := σ) hh (c_hSmo σ k qh 1 hh) q1892 dX5_irons_22 (by decide) (Nat.le_of_eq (Nat.zero_add _)) (Nat.le_of_ble_eq_true rfl) ?_
    refine A_isub dX5_irons_25 ?_
    refine A_mmax q1355 q454 q150 q455 dX5_irons_26 (by decide) (Nat.le_of_ble_eq_true rfl) ?_
    refine A_int (w := (mx 0 ((F 5) - (nI (k + 1) + oneI 1)))) rfl ?_
    refine A_int (w := (mx 0 (((F 5 - 1) - nI k) - bi (¬ F 4 ≤ 0)))) (by rw [iron_eq, bi_t c1]; rfl) ?_
    refine A_putfN cb_X7 hF 5 (Nat.le_of_ble_eq_true rfl) q1113 rfl rfl rfl rfl (Nat.le_of_ble_eq_true rfl) dX5_irons_29 ?_
    obtain ⟨σ3, eσ3⟩ : ∃ τ, τ = h_put σ a (.inr (.inl (6, [.int (F 0), .int (F 1), .int (F 2), .int (F 3), .int (F 4), .int (mx 0 (((F 5 - 1) - nI k) - bi (¬ F 4 ≤ 0))), .int (F 6), .int (F 7), .ref pl]))) := ⟨_, rfl⟩
    refine A_st (σ' := σ3) eσ3.symm ?_
    have wσ3 : wfh σ3 := by rw [eσ3]; exact wσ.put hF
    have fσ3_0 : σ3.1 a = some (.inr (.inl (6, [.int (F 0), .int (F 1), .int (F 2), .int (F 3), .int (F 4), .int (mx 0 (((F 5 - 1) - nI k) - bi (¬ F 4 ≤ 0))), .int (F 6), .int (F 7), .ref pl]))) := by rw [eσ3]; exact if_pos rfl
    have zσ3 : kx a σ σ3 := by rw [eσ3]; exact zσ.put
    refine A_aload_n (i := 1) dX5_irons_32 rfl rfl ?_
    refine A_iconst (v := 0) dX5_irons_33 (by decide) ?_
    refine A_aload_n (i := 1) dX5_irons_34 rfl rfl ?_
    refine A_getfN cb_X7 fσ3_0 4 (Nat.le_of_ble_eq_true rfl) q1109 rfl (v := .int (F 4)) rfl dX5_irons_35 ?_
    refine A_iload_n (i := 2) dX5_irons_38 rfl rfl ?_
    refine A_isub dX5_irons_39 ?_
    refine A_mmax q1355 q454 q150 q455 dX5_irons_40 (by decide) (Nat.le_of_ble_eq_true rfl) ?_
    refine A_int (w := (mx 0 ((F 4) - (nI k)))) rfl ?_
    refine A_putfN cb_X7 fσ3_0 4 (Nat.le_of_ble_eq_true rfl) q1109 rfl rfl rfl rfl (Nat.le_of_ble_eq_true rfl) dX5_irons_43 ?_
    obtain ⟨σ4, eσ4⟩ : ∃ τ, τ = h_put σ3 a (.inr (.inl (6, [.int (F 0), .int (F 1), .int (F 2), .int (F 3), .int (mx 0 ((F 4) - (nI k))), .int (mx 0 (((F 5 - 1) - nI k) - bi (¬ F 4 ≤ 0))), .int (F 6), .int (F 7), .ref pl]))) := ⟨_, rfl⟩
    refine A_st (σ' := σ4) eσ4.symm ?_
    have wσ4 : wfh σ4 := by rw [eσ4]; exact wσ3.put fσ3_0
    have fσ4_0 : σ4.1 a = some (.inr (.inl (6, [.int (F 0), .int (F 1), .int (F 2), .int (F 3), .int (mx 0 ((F 4) - (nI k))), .int (mx 0 (((F 5 - 1) - nI k) - bi (¬ F 4 ≤ 0))), .int (F 6), .int (F 7), .ref pl]))) := by rw [eσ4]; exact if_pos rfl
    have zσ4 : kx a σ σ4 := by rw [eσ4]; exact zσ3.put
    refine A_aload_n (i := 1) dX5_irons_46 rfl rfl ?_
    refine A_getfN cb_X7 fσ4_0 5 (Nat.le_of_ble_eq_true rfl) q1113 rfl (v := .int (mx 0 (((F 5 - 1) - nI k) - bi (¬ F 4 ≤ 0)))) rfl dX5_irons_47 ?_
    exact A_iret dX5_irons_50 rfl (⟨rfl, fσ4_0, zσ4⟩)
theorem wash5 (x : Int32) (k : Nat) : (x + 1) + nI k = x + nI (k + 1) := by
  rw [Int32.add_assoc, show (1 : Int32) + nI k = nI (k + 1) by rw [Int32.add_comm]; exact nI_add k 1]
/-- the flags that are still to be washed are as they were -/
theorem wsh_ge (N : AF) (t r h : Int32) : ∀ n f, n ≤ f → ∀ j, j < 11 → fl (wsh N t r h n) f j = fl N f j
  | 0, _, _, _, _ => rfl
  | n + 1, f, hf, j, hj => by
    rw [wsh_s]
    split
    · exact ((upF_wash _ n r h).2.2 f j (by omega) hj).trans (wsh_ge N t r h n f (by omega) j hj)
    · exact wsh_ge N t r h n f (by omega) j hj
theorem wsh_tub (N : AF) (t r h : Int32) (n : Nat) : inTub (wsh N t r h n) n t ↔ inTub N n t := by
  unfold inTub
  rw [wsh_ge N t r h n n (Nat.le_refl _) 8 (by decide), wsh_ge N t r h n n (Nat.le_refl _) 9 (by decide)]
theorem wsh_new (N : AF) (t r h : Int32) (n : Nat) (x : Int32) : newS (wsh N t r h n) n x = newS N n x := by
  unfold newS
  rw [wsh_ge N t r h n n (Nat.le_refl _) 1 (by decide), wsh_ge N t r h n n (Nat.le_refl _) 6 (by decide)]
set_option maxHeartbeats 200000 in
theorem c_washes5 {l : Launch} {g : GC} (σ : AH) (W : WA) (N : AF) (lo k : Nat) (t : Int32) (hR : RW g σ W N) (hD : WFd N) (hO : own lo W N) (hl : lo ≤ σ.2) (hk : k ≤ 3) : AMet l g mX5_washes 7 12 [.ref (wW W), .int t, .int (nI k)] σ (A_mut g (some (.int (stainBy N t (nI k)))) lo W (washN N t (nI k)) σ) (A_no) := by
  refine A_of rfl (by decide) (Nat.le_of_ble_eq_true rfl) (L0 := [(0, .ref (wW W)), (1, .int t), (2, .int (nI k))]) rfl ?_
  refine A_wfh (fun wσ hgσ => ?_)
  have qσ : kl lo σ σ := kl.rf
  have hW := hD.1
  have hR9 := hR
  obtain ⟨h1, ⟨fr, h2, h2p⟩, ⟨fm, h3, h3p⟩, ⟨mcn, fnA, h4, h4p, h4q⟩, ⟨mcf, ffA, h5, h5p, h5q⟩, ⟨fu, h6, h6p⟩, h7, h8, h9, h10, h11⟩ := hR
  have hF12 : nF N ≤ 12 := hW.2.2.2.2.2
  have hN4 : nN N ≤ 4 := hW.2.1.2
  have hC6 : nC N ≤ 6 := hW.1.2
  have hT3 : nT N ≤ 3 := hW.2.2.1.2
  have hP8 : nP N ≤ 8 := hW.2.2.2.1.2
  refine A_gok (fun hg => ?_)
  obtain ⟨qh, hs, hh⟩ := heat_ex hg hk
  refine A_aload_n (i := 0) dX5_washes_0 rfl rfl ?_
  refine A_iload_n (i := 1) dX5_washes_1 rfl rfl ?_
  refine A_iload_n (i := 2) dX5_washes_2 rfl rfl ?_
  refine A_callV2E (b' := 12) (v := some (.int (runIn N t (nI k)))) (τ := σ) (c_running5 σ W N t (nI k) hR9 hD) tX5_running q1250 h1 rfl rfl dX5_washes_3 (by decide) (Nat.le_of_ble_eq_true rfl) (Nat.le_of_ble_eq_true rfl) ?_
  refine A_istore_n (i := 3) dX5_washes_6 rfl (Nat.le_of_ble_eq_true rfl) ?_
  refine A_iconst (v := 0) dX5_washes_7 (by decide) ?_
  refine A_istore dX5_washes_8 (Nat.le_of_ble_eq_true rfl) ?_
  refine A_iconst (v := 0) dX5_washes_10 (by decide) ?_
  refine A_istore dX5_washes_11 (Nat.le_of_ble_eq_true rfl) ?_
  refine A_less (b' := ((nF N) - 0) * 1 + 0) (by omega) ?_
  refine A_sub (L' := [(0, .ref (wW W)), (1, .int t), (2, .int (nI k)), (3, .int (runIn N t (nI k))), (4, .int (sm (fun f => bi (inTub N f t ∧ ¬ newS N f (runIn N t (nI k)) = 0)) 0)), (5, .int (nI 0))]) ⟨rfl, rfl, rfl, rfl, rfl, rfl, trivial⟩ ?_
  refine A_forP (α := AH) (nF N) (fun i13 _ => ((nF N) - i13) * 1 + 0) (fun i13 _ => [(0, .ref (wW W)), (1, .int t), (2, .int (nI k)), (3, .int (runIn N t (nI k))), (4, .int (sm (fun f => bi (inTub N f t ∧ ¬ newS N f (runIn N t (nI k)) = 0)) i13)), (5, .int (nI i13))]) (fun _ τ13 => τ13) (fun i13 τ13 => (∃ P, RW g τ13 (setP W P) (wsh N t (runIn N t (nI k)) (nI k) i13)) ∧ kl lo σ τ13) σ (⟨⟨_, hR9.sP⟩, kl.rf⟩) (fun i13 τ13 hi13 hI13 ih13 => ?_) (fun τ13 hI13 => ?_)
  · skip
    refine A_less (b' := ((nF N) - (i13 + 1)) * 1 + 0 + 1) (by omega) ?_
    obtain ⟨⟨P5, hR5⟩, qτ13⟩ := hI13
    refine A_wfh (fun wτ13 hgτ13 => ?_)
    have hD5 : WFd (wsh N t (runIn N t (nI k)) (nI k) i13) := WFd_wsh hD (runIn_in N t (nI k) hC6) (by omega) i13 (Nat.le_of_lt hi13)
    have en5 : nF (wsh N t (runIn N t (nI k)) (nI k) i13) = nF N := wsh_nF N t _ _ i13
    have hi13' : i13 < nF (wsh N t (runIn N t (nI k)) (nI k) i13) := by rw [en5]; exact hi13
    have hRc := hR5
    obtain ⟨h1t5, ⟨frt5, h2t5, h2pt5⟩, ⟨fmt5, h3t5, h3pt5⟩, ⟨mcnt5, fnAt5, h4t5, h4pt5, h4qt5⟩, ⟨mcft5, ffAt5, h5t5, h5pt5, h5qt5⟩, ⟨fut5, h6t5, h6pt5⟩, h7t5, h8t5, h9t5, h10t5, h11t5⟩ := hRc
    have fτ13t5_0 : τ13.1 (wW W) = some (.inr (.inl (4, [.int ((wsh N t (runIn N t (nI k)) (nI k) i13) 9), .ref (wR W), .ref (wM W), .ref (wNL W), .ref (wFL W), .ref (wUN W), .int ((wsh N t (runIn N t (nI k)) (nI k) i13) 6), .int ((wsh N t (runIn N t (nI k)) (nI k) i13) 8), .int ((wsh N t (runIn N t (nI k)) (nI k) i13) 0), .int ((wsh N t (runIn N t (nI k)) (nI k) i13) 1), .int ((wsh N t (runIn N t (nI k)) (nI k) i13) 2), .int ((wsh N t (runIn N t (nI k)) (nI k) i13) 3), .int ((wsh N t (runIn N t (nI k)) (nI k) i13) 4), .int ((wsh N t (runIn N t (nI k)) (nI k) i13) 5), .int ((wsh N t (runIn N t (nI k)) (nI k) i13) 11)]))) := h1t5
    have fτ13t5_1 : τ13.1 (wFL W) = some (.inr (.inl (14, [.int mcft5, .ref (wFA W), .int (nI (nF (wsh N t (runIn N t (nI k)) (nI k) i13)))]))) := h5t5
    have fτ13t5_2 : τ13.1 (wFA W) = some (.inl (.object "java/lang/Object", 12, .inr (.inr (.inr (.inr ffAt5))))) := h5pt5
    have fτ13t5_3 : τ13.1 (wNL W) = some (.inr (.inl (14, [.int mcnt5, .ref (wNA W), .int (nI (nN (wsh N t (runIn N t (nI k)) (nI k) i13)))]))) := h4t5
    have fτ13t5_4 : τ13.1 (wNA W) = some (.inl (.object "java/lang/Object", 4, .inr (.inr (.inr (.inr fnAt5))))) := h4pt5
    have fτ13t5_5 : τ13.1 (wR W) = some (.inl (.int, 6, .inl frt5)) := h2t5
    have fτ13t5_6 : τ13.1 (wM W) = some (.inl (.int, 3, .inl fmt5)) := h3t5
    have fτ13t5_7 : τ13.1 (wUN W) = some (.inl (.object "FlagLaundry$Test", 7, .inr (.inr (.inr (.inr fut5))))) := h6t5
    refine A_iload dX5_washes_13 rfl ?_
    refine A_aload_n (i := 0) dX5_washes_15 rfl rfl ?_
    refine A_callV0E (b' := ((nF N) - (i13 + 1)) * 1 + 0 + 1) (v := some (.int (nI (nF (wsh N t (runIn N t (nI k)) (nI k) i13))))) (τ := τ13) (c_many τ13 (setP W P5) (wsh N t (runIn N t (nI k)) (nI k) i13) hR5 hD5.1) tX5_many q1199 fτ13t5_0 rfl rfl dX5_washes_16 (by decide) (by omega) (Nat.le_of_ble_eq_true rfl) ?_
    refine A_icmp_ge_f (tgt := 60) dX5_washes_19 (by decide) (br_lt (by rw [en5]) hi13 (by omega)) ?_
    refine A_aload_n (i := 0) dX5_washes_22 rfl rfl ?_
    refine A_iload dX5_washes_23 rfl ?_
    refine A_callV1E (b' := ((nF N) - (i13 + 1)) * 1 + 0 + 1) (v := some (.ref (wF W i13))) (τ := τ13) (c_flagOf τ13 (setP W P5) (wsh N t (runIn N t (nI k)) (nI k) i13) i13 hR5 hD5.1 hi13') tX5_flagOf q1200 fτ13t5_0 rfl rfl dX5_washes_25 (by decide) (by omega) (Nat.le_of_ble_eq_true rfl) ?_
    refine A_iload_n (i := 1) dX5_washes_28 rfl rfl ?_
    refine A_callV1E (b' := ((nF N) - (i13 + 1)) * 1 + 0 + 1) (v := some (.int (bi (inTub (wsh N t (runIn N t (nI k)) (nI k) i13) i13 t)))) (τ := τ13) (c_fIn τ13 (wF W i13) (wP (setP W P5) i13) (fl (wsh N t (runIn N t (nI k)) (nI k) i13) i13) t (hR5.2.2.2.2.2.2.1 i13 hi13') (hR5.2.2.2.2.2.2.2.1 i13 hi13') (flok_k hD5 hi13')) tX7_isIn q1190 (hR5.2.2.2.2.2.2.1 i13 hi13') rfl rfl dX5_washes_29 (by decide) (by omega) (Nat.le_of_ble_eq_true rfl) ?_
    refine A_if_eq (tgt := 54) dX5_washes_32 (by decide) (fun c1 => ?_) (fun c1 => ?_)
    · skip
      have c1 := bi_eq0.mp c1
      refine A_iinc (v := nI (i13 + 1)) dX5_washes_54 rfl (nI_inc _ _) (Nat.le_of_ble_eq_true rfl) ?_
      refine A_goto (tgt := 13) dX5_washes_57 (by decide) ?_
      have hR6 : RW g τ13 (setP W P5) (wsh N t (runIn N t (nI k)) (nI k) (i13 + 1)) := by rw [wsh_s, if_neg c1]; exact hR5
      refine A_less (b' := ((nF N) - (i13 + 1)) * 1 + 0) (by omega) ?_
      refine A_sub (L' := [(0, .ref (wW W)), (1, .int t), (2, .int (nI k)), (3, .int (runIn N t (nI k))), (4, .int (sm (fun f => bi (inTub N f t ∧ ¬ newS N f (runIn N t (nI k)) = 0)) (i13 + 1))), (5, .int (nI (i13 + 1)))]) ⟨rfl, rfl, rfl, rfl, (by rw [sm_s, bi_f (fun h => c1 ((wsh_tub N t _ _ i13).mpr h.1)), Int32.add_zero]; rfl), rfl, trivial⟩ ?_
      exact ih13 τ13 (⟨⟨_, hR6⟩, qτ13⟩)
    · skip
      have c1 := bi_ne0.mp c1
      refine A_iload dX5_washes_35 rfl ?_
      refine A_aload_n (i := 0) dX5_washes_37 rfl rfl ?_
      refine A_iload dX5_washes_38 rfl ?_
      refine A_callV1E (b' := ((nF N) - (i13 + 1)) * 1 + 0 + 1) (v := some (.ref (wF W i13))) (τ := τ13) (c_flagOf τ13 (setP W P5) (wsh N t (runIn N t (nI k)) (nI k) i13) i13 hR5 hD5.1 hi13') tX5_flagOf q1200 fτ13t5_0 rfl rfl dX5_washes_40 (by decide) (by omega) (Nat.le_of_ble_eq_true rfl) ?_
      refine A_iload_n (i := 2) dX5_washes_43 rfl rfl ?_
      refine A_callS1E (b' := ((nF N) - (i13 + 1)) * 1 + 0 + 1) (v := some (.ref qh)) (τ := τ13) (c_hOf τ13 hs) tX10_of q1258 dX5_washes_44 (by decide) (by omega) (Nat.le_of_ble_eq_true rfl) ?_
      refine A_iload_n (i := 3) dX5_washes_47 rfl rfl ?_
      refine A_callV2 (b' := ((nF N) - (i13 + 1)) * 1 + 0 + 0) (c_fWashes τ13 (wF W i13) (wP (setP W P5) i13) (fl (wsh N t (runIn N t (nI k)) (nI k) i13) i13) k qh (runIn N t (nI k)) (hR5.2.2.2.2.2.2.1 i13 hi13') hh) tX7_washes q1269 (hR5.2.2.2.2.2.2.1 i13 hi13') rfl rfl dX5_washes_48 (by decide) (by omega) (Nat.le_of_ble_eq_true rfl) (fun w9 σ1 h9 => ?_) (fun E9 q9 τ9 h9 => h9.elim)
      obtain ⟨b9, e9, fσ1_a, fσ1_x0, kσ1⟩ := h9
      subst e9
      refine A_wfh (fun wσ1 hgσ1 => ?_)
      have qσ1 : kl lo σ σ1 := qτ13.kx hl (hO.2.2.2.2.2.2.2.1 i13 hi13) kσ1
      have fσ1_0 : σ1.1 (wW W) = some (.inr (.inl (4, [.int ((wsh N t (runIn N t (nI k)) (nI k) i13) 9), .ref (wR W), .ref (wM W), .ref (wNL W), .ref (wFL W), .ref (wUN W), .int ((wsh N t (runIn N t (nI k)) (nI k) i13) 6), .int ((wsh N t (runIn N t (nI k)) (nI k) i13) 8), .int ((wsh N t (runIn N t (nI k)) (nI k) i13) 0), .int ((wsh N t (runIn N t (nI k)) (nI k) i13) 1), .int ((wsh N t (runIn N t (nI k)) (nI k) i13) 2), .int ((wsh N t (runIn N t (nI k)) (nI k) i13) 3), .int ((wsh N t (runIn N t (nI k)) (nI k) i13) 4), .int ((wsh N t (runIn N t (nI k)) (nI k) i13) 5), .int ((wsh N t (runIn N t (nI k)) (nI k) i13) 11)]))) := kσ1.at wτ13 fτ13t5_0 (fun e9 => by rw [e9] at fτ13t5_0; have e8 := fτ13t5_0.symm.trans (hR5.2.2.2.2.2.2.1 i13 hi13'); simp at e8)
      have fσ1_1 : σ1.1 (wFL W) = some (.inr (.inl (14, [.int mcft5, .ref (wFA W), .int (nI (nF (wsh N t (runIn N t (nI k)) (nI k) i13)))]))) := kσ1.at wτ13 fτ13t5_1 (fun e9 => by rw [e9] at fτ13t5_1; have e8 := fτ13t5_1.symm.trans (hR5.2.2.2.2.2.2.1 i13 hi13'); simp at e8)
      have fσ1_2 : σ1.1 (wFA W) = some (.inl (.object "java/lang/Object", 12, .inr (.inr (.inr (.inr ffAt5))))) := kσ1.at wτ13 fτ13t5_2 (fun e9 => by rw [e9] at fτ13t5_2; have e8 := fτ13t5_2.symm.trans (hR5.2.2.2.2.2.2.1 i13 hi13'); simp at e8)
      have fσ1_3 : σ1.1 (wNL W) = some (.inr (.inl (14, [.int mcnt5, .ref (wNA W), .int (nI (nN (wsh N t (runIn N t (nI k)) (nI k) i13)))]))) := kσ1.at wτ13 fτ13t5_3 (fun e9 => by rw [e9] at fτ13t5_3; have e8 := fτ13t5_3.symm.trans (hR5.2.2.2.2.2.2.1 i13 hi13'); simp at e8)
      have fσ1_4 : σ1.1 (wNA W) = some (.inl (.object "java/lang/Object", 4, .inr (.inr (.inr (.inr fnAt5))))) := kσ1.at wτ13 fτ13t5_4 (fun e9 => by rw [e9] at fτ13t5_4; have e8 := fτ13t5_4.symm.trans (hR5.2.2.2.2.2.2.1 i13 hi13'); simp at e8)
      have fσ1_5 : σ1.1 (wR W) = some (.inl (.int, 6, .inl frt5)) := kσ1.at wτ13 fτ13t5_5 (fun e9 => by rw [e9] at fτ13t5_5; have e8 := fτ13t5_5.symm.trans (hR5.2.2.2.2.2.2.1 i13 hi13'); simp at e8)
      have fσ1_6 : σ1.1 (wM W) = some (.inl (.int, 3, .inl fmt5)) := kσ1.at wτ13 fτ13t5_6 (fun e9 => by rw [e9] at fτ13t5_6; have e8 := fτ13t5_6.symm.trans (hR5.2.2.2.2.2.2.1 i13 hi13'); simp at e8)
      have fσ1_7 : σ1.1 (wUN W) = some (.inl (.object "FlagLaundry$Test", 7, .inr (.inr (.inr (.inr fut5))))) := kσ1.at wτ13 fτ13t5_7 (fun e9 => by rw [e9] at fτ13t5_7; have e8 := fτ13t5_7.symm.trans (hR5.2.2.2.2.2.2.1 i13 hi13'); simp at e8)
      refine A_iadd dX5_washes_51 ?_
      refine A_int (w := sm (fun f => bi (inTub N f t ∧ ¬ newS N f (runIn N t (nI k)) = 0)) (i13 + 1)) (by rw [sm_s]; show _ + bi (¬ newS (wsh N t (runIn N t (nI k)) (nI k) i13) i13 (runIn N t (nI k)) = 0) = _; rw [wsh_new, bi_congr (show (inTub N i13 t ∧ ¬ newS N i13 (runIn N t (nI k)) = 0) ↔ ¬ newS N i13 (runIn N t (nI k)) = 0 from ⟨fun h => h.2, fun h => ⟨(wsh_tub N t _ _ i13).mp c1, h⟩⟩)]) ?_
      refine A_istore dX5_washes_52 (Nat.le_of_ble_eq_true rfl) ?_
      refine A_iinc (v := nI (i13 + 1)) dX5_washes_54 rfl (nI_inc _ _) (Nat.le_of_ble_eq_true rfl) ?_
      refine A_goto (tgt := 13) dX5_washes_57 (by decide) ?_
      have hR6 : RW g σ1 (setP W (upP P5 i13 b9)) (wsh N t (runIn N t (nI k)) (nI k) (i13 + 1)) := by
        rw [wsh_s, if_pos c1]
        refine hR5.flag (F := waF (fl (wsh N t (runIn N t (nI k)) (nI k) i13) i13) (runIn N t (nI k)) (nI k)) wτ13 hD5.1 hi13' kσ1 ?_ fσ1_x0 (upF_wash _ _ _ _)
        rw [show waF (fl (wsh N t (runIn N t (nI k)) (nI k) i13) i13) (runIn N t (nI k)) (nI k) = (fun j => if j = 9 then -1 else if j = 8 then 0 else if j = 5 then mn 9 (fl (wsh N t (runIn N t (nI k)) (nI k) i13) i13 5 + nI (k + 1)) else if j = 4 then 9 else if j = 3 then mx 0 ((fl (wsh N t (runIn N t (nI k)) (nI k) i13) i13 3 - 1) - (2 * nI k)) else if j = 6 then fl (wsh N t (runIn N t (nI k)) (nI k) i13) i13 6 ||| (((runIn N t (nI k)) &&& (fl (wsh N t (runIn N t (nI k)) (nI k) i13) i13 1 ^^^ (-1))) &&& (fl (wsh N t (runIn N t (nI k)) (nI k) i13) i13 6 ^^^ (-1))) else fl (wsh N t (runIn N t (nI k)) (nI k) i13) i13 j) by unfold waF; rw [wash5 (fl (wsh N t (runIn N t (nI k)) (nI k) i13) i13 5) k]]
        exact fσ1_a
      refine A_less (b' := ((nF N) - (i13 + 1)) * 1 + 0) (by omega) ?_
      refine A_sub (L' := [(0, .ref (wW W)), (1, .int t), (2, .int (nI k)), (3, .int (runIn N t (nI k))), (4, .int (sm (fun f => bi (inTub N f t ∧ ¬ newS N f (runIn N t (nI k)) = 0)) (i13 + 1))), (5, .int (nI (i13 + 1)))]) ⟨rfl, rfl, rfl, rfl, rfl, rfl, trivial⟩ ?_
      exact ih13 σ1 (⟨⟨_, hR6⟩, qσ1⟩)
  · skip
    refine A_less (b' := 0) (by omega) ?_
    obtain ⟨⟨P5, hR5⟩, qτ13⟩ := hI13
    refine A_wfh (fun wτ13 hgτ13 => ?_)
    have hD5 : WFd (wsh N t (runIn N t (nI k)) (nI k) (nF N)) := WFd_wsh hD (runIn_in N t (nI k) hC6) (by omega) (nF N) (Nat.le_refl _)
    have en5 : nF (wsh N t (runIn N t (nI k)) (nI k) (nF N)) = nF N := wsh_nF N t _ _ (nF N)
    have hRc := hR5
    obtain ⟨h1t5, ⟨frt5, h2t5, h2pt5⟩, ⟨fmt5, h3t5, h3pt5⟩, ⟨mcnt5, fnAt5, h4t5, h4pt5, h4qt5⟩, ⟨mcft5, ffAt5, h5t5, h5pt5, h5qt5⟩, ⟨fut5, h6t5, h6pt5⟩, h7t5, h8t5, h9t5, h10t5, h11t5⟩ := hRc
    have fτ13t5_0 : τ13.1 (wW W) = some (.inr (.inl (4, [.int ((wsh N t (runIn N t (nI k)) (nI k) (nF N)) 9), .ref (wR W), .ref (wM W), .ref (wNL W), .ref (wFL W), .ref (wUN W), .int ((wsh N t (runIn N t (nI k)) (nI k) (nF N)) 6), .int ((wsh N t (runIn N t (nI k)) (nI k) (nF N)) 8), .int ((wsh N t (runIn N t (nI k)) (nI k) (nF N)) 0), .int ((wsh N t (runIn N t (nI k)) (nI k) (nF N)) 1), .int ((wsh N t (runIn N t (nI k)) (nI k) (nF N)) 2), .int ((wsh N t (runIn N t (nI k)) (nI k) (nF N)) 3), .int ((wsh N t (runIn N t (nI k)) (nI k) (nF N)) 4), .int ((wsh N t (runIn N t (nI k)) (nI k) (nF N)) 5), .int ((wsh N t (runIn N t (nI k)) (nI k) (nF N)) 11)]))) := h1t5
    have fτ13t5_1 : τ13.1 (wFL W) = some (.inr (.inl (14, [.int mcft5, .ref (wFA W), .int (nI (nF (wsh N t (runIn N t (nI k)) (nI k) (nF N))))]))) := h5t5
    have fτ13t5_2 : τ13.1 (wFA W) = some (.inl (.object "java/lang/Object", 12, .inr (.inr (.inr (.inr ffAt5))))) := h5pt5
    have fτ13t5_3 : τ13.1 (wNL W) = some (.inr (.inl (14, [.int mcnt5, .ref (wNA W), .int (nI (nN (wsh N t (runIn N t (nI k)) (nI k) (nF N))))]))) := h4t5
    have fτ13t5_4 : τ13.1 (wNA W) = some (.inl (.object "java/lang/Object", 4, .inr (.inr (.inr (.inr fnAt5))))) := h4pt5
    have fτ13t5_5 : τ13.1 (wR W) = some (.inl (.int, 6, .inl frt5)) := h2t5
    have fτ13t5_6 : τ13.1 (wM W) = some (.inl (.int, 3, .inl fmt5)) := h3t5
    have fτ13t5_7 : τ13.1 (wUN W) = some (.inl (.object "FlagLaundry$Test", 7, .inr (.inr (.inr (.inr fut5))))) := h6t5
    refine A_iload dX5_washes_13 rfl ?_
    refine A_aload_n (i := 0) dX5_washes_15 rfl rfl ?_
    refine A_callV0E (b' := 0) (v := some (.int (nI (nF (wsh N t (runIn N t (nI k)) (nI k) (nF N)))))) (τ := τ13) (c_many τ13 (setP W P5) (wsh N t (runIn N t (nI k)) (nI k) (nF N)) hR5 hD5.1) tX5_many q1199 fτ13t5_0 rfl rfl dX5_washes_16 (by decide) (Nat.le_of_ble_eq_true rfl) (Nat.le_of_ble_eq_true rfl) ?_
    refine A_icmp_ge_t (tgt := 60) dX5_washes_19 (by decide) (br_ge (by rw [en5])) ?_
    refine A_aload_n (i := 0) dX5_washes_60 rfl rfl ?_
    refine A_dup dX5_washes_61 rfl ?_
    refine A_getf cb_X5 fτ13t5_0 12 (Nat.le_of_ble_eq_true rfl) q852 rfl (v := .int ((wsh N t (runIn N t (nI k)) (nI k) (nF N)) 4)) rfl dX5_washes_62 ?_
    refine A_iconst (v := 1) dX5_washes_65 (by decide) ?_
    refine A_iadd dX5_washes_66 ?_
    refine A_putf cb_X5 fτ13t5_0 12 (Nat.le_of_ble_eq_true rfl) q852 rfl rfl rfl rfl (Nat.le_of_ble_eq_true rfl) dX5_washes_67 ?_
    obtain ⟨σ2, eσ2⟩ : ∃ τ, τ = h_put τ13 (wW W) (.inr (.inl (4, [.int ((wsh N t (runIn N t (nI k)) (nI k) (nF N)) 9), .ref (wR W), .ref (wM W), .ref (wNL W), .ref (wFL W), .ref (wUN W), .int ((wsh N t (runIn N t (nI k)) (nI k) (nF N)) 6), .int ((wsh N t (runIn N t (nI k)) (nI k) (nF N)) 8), .int ((wsh N t (runIn N t (nI k)) (nI k) (nF N)) 0), .int ((wsh N t (runIn N t (nI k)) (nI k) (nF N)) 1), .int ((wsh N t (runIn N t (nI k)) (nI k) (nF N)) 2), .int ((wsh N t (runIn N t (nI k)) (nI k) (nF N)) 3), .int (((wsh N t (runIn N t (nI k)) (nI k) (nF N)) 4) + 1), .int ((wsh N t (runIn N t (nI k)) (nI k) (nF N)) 5), .int ((wsh N t (runIn N t (nI k)) (nI k) (nF N)) 11)]))) := ⟨_, rfl⟩
    refine A_st (σ' := σ2) eσ2.symm ?_
    have wσ2 : wfh σ2 := by rw [eσ2]; exact wτ13.put fτ13t5_0
    have fσ2_0 : σ2.1 (wW W) = some (.inr (.inl (4, [.int ((wsh N t (runIn N t (nI k)) (nI k) (nF N)) 9), .ref (wR W), .ref (wM W), .ref (wNL W), .ref (wFL W), .ref (wUN W), .int ((wsh N t (runIn N t (nI k)) (nI k) (nF N)) 6), .int ((wsh N t (runIn N t (nI k)) (nI k) (nF N)) 8), .int ((wsh N t (runIn N t (nI k)) (nI k) (nF N)) 0), .int ((wsh N t (runIn N t (nI k)) (nI k) (nF N)) 1), .int ((wsh N t (runIn N t (nI k)) (nI k) (nF N)) 2), .int ((wsh N t (runIn N t (nI k)) (nI k) (nF N)) 3), .int (((wsh N t (runIn N t (nI k)) (nI k) (nF N)) 4) + 1), .int ((wsh N t (runIn N t (nI k)) (nI k) (nF N)) 5), .int ((wsh N t (runIn N t (nI k)) (nI k) (nF N)) 11)]))) := by rw [eσ2]; exact if_pos rfl
    have fσ2_1 : σ2.1 (wFL W) = some (.inr (.inl (14, [.int mcft5, .ref (wFA W), .int (nI (nF (wsh N t (runIn N t (nI k)) (nI k) (nF N))))]))) := by rw [eσ2]; exact (hp_ne (fun e9 => by rw [e9] at fτ13t5_1; have e8 := fτ13t5_1.symm.trans fτ13t5_0; simp at e8)).trans fτ13t5_1
    have fσ2_2 : σ2.1 (wFA W) = some (.inl (.object "java/lang/Object", 12, .inr (.inr (.inr (.inr ffAt5))))) := by rw [eσ2]; exact (hp_ne (fun e9 => by rw [e9] at fτ13t5_2; have e8 := fτ13t5_2.symm.trans fτ13t5_0; simp at e8)).trans fτ13t5_2
    have fσ2_3 : σ2.1 (wNL W) = some (.inr (.inl (14, [.int mcnt5, .ref (wNA W), .int (nI (nN (wsh N t (runIn N t (nI k)) (nI k) (nF N))))]))) := by rw [eσ2]; exact (hp_ne (fun e9 => by rw [e9] at fτ13t5_3; have e8 := fτ13t5_3.symm.trans fτ13t5_0; simp at e8)).trans fτ13t5_3
    have fσ2_4 : σ2.1 (wNA W) = some (.inl (.object "java/lang/Object", 4, .inr (.inr (.inr (.inr fnAt5))))) := by rw [eσ2]; exact (hp_ne (fun e9 => by rw [e9] at fτ13t5_4; have e8 := fτ13t5_4.symm.trans fτ13t5_0; simp at e8)).trans fτ13t5_4
    have fσ2_5 : σ2.1 (wR W) = some (.inl (.int, 6, .inl frt5)) := by rw [eσ2]; exact (hp_ne (fun e9 => by rw [e9] at fτ13t5_5; have e8 := fτ13t5_5.symm.trans fτ13t5_0; simp at e8)).trans fτ13t5_5
    have fσ2_6 : σ2.1 (wM W) = some (.inl (.int, 3, .inl fmt5)) := by rw [eσ2]; exact (hp_ne (fun e9 => by rw [e9] at fτ13t5_6; have e8 := fτ13t5_6.symm.trans fτ13t5_0; simp at e8)).trans fτ13t5_6
    have fσ2_7 : σ2.1 (wUN W) = some (.inl (.object "FlagLaundry$Test", 7, .inr (.inr (.inr (.inr fut5))))) := by rw [eσ2]; exact (hp_ne (fun e9 => by rw [e9] at fτ13t5_7; have e8 := fτ13t5_7.symm.trans fτ13t5_0; simp at e8)).trans fτ13t5_7
    have qσ2 : kl lo σ σ2 := by rw [eσ2]; exact qτ13.put hO.1
    have hR7 : RW g σ2 (setP W P5) (washN N t (nI k)) := hR5.scal wτ13 (by rw [eσ2]; exact kx.rf.put) fσ2_0 (scl_va _ (by decide) _)
    refine A_iload dX5_washes_70 rfl ?_
    exact A_iret dX5_washes_72 rfl (⟨rfl, ⟨_, hR7⟩, qσ2⟩)
