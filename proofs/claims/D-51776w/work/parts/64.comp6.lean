/-! THE COMPONENT 11: an hour passes -/
theorem flrN_h (N : AF) (f : Nat) {j : Nat} (hj : j < 41) : flrN N f j = N j := (upF_fall N f).1 j hj
theorem passN_fall {N : AF} {j : Nat} (hj : j < 12) (h1 : ¬ dryN N 1 < 7) (h2 : ¬ lastN (dryN N) = -1) (h3 : lastN (dryN N) = nI j) : passN N = va_up (va_up (flrN (dryN N) j) 5 (dryN N 5 + 1)) 0 (dryN N 0 + 1) := by
  unfold passN
  rw [show fallN (dryN N) = fallAt (dryN N) j by unfold fallN; rw [if_neg h1, if_neg h2, h3, ixn (by omega)]]
  show va_up (va_up (flrN (dryN N) j) 5 (flrN (dryN N) j 5 + 1)) 0 (va_up (flrN (dryN N) j) 5 (flrN (dryN N) j 5 + 1) 0 + 1) = _
  rw [va_up_ne _ _ (by decide : (0 : Nat) ≠ 5), flrN_h _ _ (by decide), flrN_h _ _ (by decide)]
theorem passN_none {N : AF} (h : fallN (dryN N) = dryN N) : passN N = va_up (dryN N) 0 (dryN N 0 + 1) := by
  unfold passN
  rw [h]
theorem dryN_1 (N : AF) : dryN N 1 = N 1 := dryU_1 N _
theorem scl_va (N : AF) {j : Nat} (h : j ≤ 5 ∨ j = 11) (v : Int32) : scl N (va_up N j v) := fun i a b => va_up_ne _ _ (by omega)
theorem scl.tr {A B D : AF} (h : scl A B) (k : scl B D) : scl A D := fun j a b => (k j a b).trans (h j a b)
set_option maxHeartbeats 200000 in
theorem c_hour5 {l : Launch} {g : GC} (σ : AH) (W : WA) (N : AF) (lo : Nat) (hR : RW g σ W N) (hD : WFd N) (hO : own lo W N) (hl : lo ≤ σ.2) (hw : WFw N) : AMet l g mX5_hour 7 1 [.ref (wW W)] σ (A_mut g (some (.int (fellN N))) lo W (passN N) σ) (A_no) := by
  refine A_of rfl (by decide) (Nat.le_of_ble_eq_true rfl) (L0 := [(0, .ref (wW W))]) rfl ?_
  refine A_wfh (fun wσ hgσ => ?_)
  have qσ : kl lo σ σ := kl.rf
  have hW := hD.1
  have hR9 := hR
  obtain ⟨h1, ⟨fr, h2, h2p⟩, ⟨fm, h3, h3p⟩, ⟨mcn, fnA, h4, h4p, h4q⟩, ⟨mcf, ffA, h5, h5p, h5q⟩, ⟨fu, h6, h6p⟩, h7, h8, h9, h10, h11⟩ := hR
  have hF12 : nF N ≤ 12 := hW.2.2.2.2.2
  have hN4 : nN N ≤ 4 := hW.2.1.2
  have hC6 : nC N ≤ 6 := hW.1.2
  have hT3 : nT N ≤ 3 := hW.2.2.1.2
  have hP8 : nP N ≤ 8 := hW.2.2.2.1.2
  refine A_iconst (v := 0) dX5_hour_0 (by decide) ?_
  refine A_istore_n (i := 1) dX5_hour_1 rfl (Nat.le_of_ble_eq_true rfl) ?_
  refine A_less (b' := ((nF N) - 0) * 0 + 1) (by omega) ?_
  refine A_sub (L' := [(0, .ref (wW W)), (1, .int (nI 0))]) ⟨rfl, rfl, trivial⟩ ?_
  refine A_forP (α := AH) (nF N) (fun i2 _ => ((nF N) - i2) * 0 + 1) (fun i2 _ => [(0, .ref (wW W)), (1, .int (nI i2))]) (fun _ τ2 => τ2) (fun i2 τ2 => (∃ P, RW g τ2 (setP W P) (dryU N i2)) ∧ kl lo σ τ2) σ (⟨⟨_, hR9.sP⟩, kl.rf⟩) (fun i2 τ2 hi2 hI2 ih2 => ?_) (fun τ2 hI2 => ?_)
  · skip
    obtain ⟨⟨P2, hR2⟩, qτ2⟩ := hI2
    refine A_wfh (fun wτ2 hgτ2 => ?_)
    have en2 : nF (dryU N i2) = nF N := (hdr_dryU N i2).nFe
    have hD2 : WFd (dryU N i2) := WFd_dryU hD hw i2 (Nat.le_of_lt hi2)
    have hi2' : i2 < nF (dryU N i2) := by rw [en2]; exact hi2
    have hRc := hR2
    obtain ⟨h1t2, ⟨frt2, h2t2, h2pt2⟩, ⟨fmt2, h3t2, h3pt2⟩, ⟨mcnt2, fnAt2, h4t2, h4pt2, h4qt2⟩, ⟨mcft2, ffAt2, h5t2, h5pt2, h5qt2⟩, ⟨fut2, h6t2, h6pt2⟩, h7t2, h8t2, h9t2, h10t2, h11t2⟩ := hRc
    have fτ2t2_0 : τ2.1 (wW W) = some (.inr (.inl (4, [.int ((dryU N i2) 9), .ref (wR W), .ref (wM W), .ref (wNL W), .ref (wFL W), .ref (wUN W), .int ((dryU N i2) 6), .int ((dryU N i2) 8), .int ((dryU N i2) 0), .int ((dryU N i2) 1), .int ((dryU N i2) 2), .int ((dryU N i2) 3), .int ((dryU N i2) 4), .int ((dryU N i2) 5), .int ((dryU N i2) 11)]))) := h1t2
    have fτ2t2_1 : τ2.1 (wFL W) = some (.inr (.inl (14, [.int mcft2, .ref (wFA W), .int (nI (nF (dryU N i2)))]))) := h5t2
    have fτ2t2_2 : τ2.1 (wFA W) = some (.inl (.object "java/lang/Object", 12, .inr (.inr (.inr (.inr ffAt2))))) := h5pt2
    have fτ2t2_3 : τ2.1 (wNL W) = some (.inr (.inl (14, [.int mcnt2, .ref (wNA W), .int (nI (nN (dryU N i2)))]))) := h4t2
    have fτ2t2_4 : τ2.1 (wNA W) = some (.inl (.object "java/lang/Object", 4, .inr (.inr (.inr (.inr fnAt2))))) := h4pt2
    have fτ2t2_5 : τ2.1 (wR W) = some (.inl (.int, 6, .inl frt2)) := h2t2
    have fτ2t2_6 : τ2.1 (wM W) = some (.inl (.int, 3, .inl fmt2)) := h3t2
    have fτ2t2_7 : τ2.1 (wUN W) = some (.inl (.object "FlagLaundry$Test", 7, .inr (.inr (.inr (.inr fut2))))) := h6t2
    refine A_iload_n (i := 1) dX5_hour_2 rfl rfl ?_
    refine A_aload_n (i := 0) dX5_hour_3 rfl rfl ?_
    refine A_callV0E (b' := ((nF N) - i2) * 0 + 1 + 0) (v := some (.int (nI (nF (dryU N i2))))) (τ := τ2) (c_many τ2 (setP W P2) (dryU N i2) hR2 hD2.1) tX5_many q1199 fτ2t2_0 rfl rfl dX5_hour_4 (by decide) (by omega) (Nat.le_of_ble_eq_true rfl) ?_
    refine A_icmp_ge_f (tgt := 59) dX5_hour_7 (by decide) (br_lt (by rw [en2]) hi2 (by omega)) ?_
    refine A_aload_n (i := 0) dX5_hour_10 rfl rfl ?_
    refine A_iload_n (i := 1) dX5_hour_11 rfl rfl ?_
    refine A_callV1E (b' := ((nF N) - i2) * 0 + 1 + 0) (v := some (.ref (wF W i2))) (τ := τ2) (c_flagOf τ2 (setP W P2) (dryU N i2) i2 hR2 hD2.1 hi2') tX5_flagOf q1200 fτ2t2_0 rfl rfl dX5_hour_12 (by decide) (by omega) (Nat.le_of_ble_eq_true rfl) ?_
    refine A_getfN cb_X7 (hR2.2.2.2.2.2.2.1 i2 hi2') 8 (Nat.le_of_ble_eq_true rfl) q1121 rfl (v := .ref (wP (setP W P2) i2)) rfl dX5_hour_15 ?_
    rcases (flok_k hD2 hi2') with h8_1 | h8_1 | h8_1 | h8_1
    · skip
      have hP_1 : τ2.1 (wP (setP W P2) i2) = some (.inr (.inl (7, []))) := by have h9 := (hR2.2.2.2.2.2.2.2.1 i2 hi2'); rw [h8_1] at h9; exact h9
      refine A_instNo hP_1 rfl nc_X8_X11 q813 dX5_hour_18 ?_
      refine A_if_eq_t (tgt := 53) dX5_hour_21 (by decide) (by decide) ?_
      refine A_iinc (v := nI (i2 + 1)) dX5_hour_53 rfl (nI_inc _ _) (Nat.le_of_ble_eq_true rfl) ?_
      refine A_goto (tgt := 2) dX5_hour_56 (by decide) ?_
      have hR4 : RW g τ2 (setP W P2) (dryU N (i2 + 1)) := by rw [show dryU N (i2 + 1) = dryU N i2 from if_neg (by rw [h8_1]; decide)]; exact hR2
      refine A_less (b' := ((nF N) - (i2 + 1)) * 0 + 1) (by omega) ?_
      refine A_sub (L' := [(0, .ref (wW W)), (1, .int (nI (i2 + 1)))]) ⟨rfl, rfl, trivial⟩ ?_
      exact ih2 τ2 (⟨⟨_, hR4⟩, qτ2⟩)
    · skip
      have hP_1 : τ2.1 (wP (setP W P2) i2) = some (.inr (.inl (8, [.int ((fl (dryU N i2) i2) 9), .int ((fl (dryU N i2) i2) 10)]))) := by have h9 := (hR2.2.2.2.2.2.2.2.1 i2 hi2'); rw [h8_1] at h9; exact h9
      refine A_instNo hP_1 rfl nc_X9_X11 q813 dX5_hour_18 ?_
      refine A_if_eq_t (tgt := 53) dX5_hour_21 (by decide) (by decide) ?_
      refine A_iinc (v := nI (i2 + 1)) dX5_hour_53 rfl (nI_inc _ _) (Nat.le_of_ble_eq_true rfl) ?_
      refine A_goto (tgt := 2) dX5_hour_56 (by decide) ?_
      have hR4 : RW g τ2 (setP W P2) (dryU N (i2 + 1)) := by rw [show dryU N (i2 + 1) = dryU N i2 from if_neg (by rw [h8_1]; decide)]; exact hR2
      refine A_less (b' := ((nF N) - (i2 + 1)) * 0 + 1) (by omega) ?_
      refine A_sub (L' := [(0, .ref (wW W)), (1, .int (nI (i2 + 1)))]) ⟨rfl, rfl, trivial⟩ ?_
      exact ih2 τ2 (⟨⟨_, hR4⟩, qτ2⟩)
    · skip
      have hP_1 : τ2.1 (wP (setP W P2) i2) = some (.inr (.inl (9, [.int ((fl (dryU N i2) i2) 9)]))) := by have h9 := (hR2.2.2.2.2.2.2.2.1 i2 hi2'); rw [h8_1] at h9; exact h9
      refine A_instE hP_1 rfl q813 dX5_hour_18 ?_
      refine A_if_eq_f (tgt := 53) dX5_hour_21 (by decide) (by decide) ?_
      refine A_aload_n (i := 0) dX5_hour_24 rfl rfl ?_
      refine A_iload_n (i := 1) dX5_hour_25 rfl rfl ?_
      refine A_callV1E (b' := ((nF N) - i2) * 0 + 1 + 0) (v := some (.ref (wF W i2))) (τ := τ2) (c_flagOf τ2 (setP W P2) (dryU N i2) i2 hR2 hD2.1 hi2') tX5_flagOf q1200 fτ2t2_0 rfl rfl dX5_hour_26 (by decide) (by omega) (Nat.le_of_ble_eq_true rfl) ?_
      refine A_iconst (v := 0) dX5_hour_29 (by decide) ?_
      refine A_aload_n (i := 0) dX5_hour_30 rfl rfl ?_
      refine A_iload_n (i := 1) dX5_hour_31 rfl rfl ?_
      refine A_callV1E (b' := ((nF N) - i2) * 0 + 1 + 0) (v := some (.ref (wF W i2))) (τ := τ2) (c_flagOf τ2 (setP W P2) (dryU N i2) i2 hR2 hD2.1 hi2') tX5_flagOf q1200 fτ2t2_0 rfl rfl dX5_hour_32 (by decide) (by omega) (Nat.le_of_ble_eq_true rfl) ?_
      refine A_getfN cb_X7 (hR2.2.2.2.2.2.2.1 i2 hi2') 4 (Nat.le_of_ble_eq_true rfl) q1109 rfl (v := .int (fl (dryU N i2) i2 4)) rfl dX5_hour_35 ?_
      refine A_iconst (v := 1) dX5_hour_38 (by decide) ?_
      refine A_isub dX5_hour_39 ?_
      refine A_aload_n (i := 0) dX5_hour_40 rfl rfl ?_
      refine A_getf cb_X5 fτ2t2_0 9 (Nat.le_of_ble_eq_true rfl) q845 rfl (v := .int ((dryU N i2) 1)) rfl dX5_hour_41 ?_
      refine A_iconst (v := 3) dX5_hour_44 (by decide) ?_
      refine A_idiv dX5_hour_45 (by decide) ?_
      refine A_isub dX5_hour_46 ?_
      refine A_mmax q1355 q454 q150 q455 dX5_hour_47 (by decide) (Nat.le_of_ble_eq_true rfl) ?_
      refine A_int (w := (mx 0 (((fl (dryU N i2) i2 4) - 1) - (((dryU N i2) 1) / 3)))) rfl ?_
      refine A_putfN cb_X7 (hR2.2.2.2.2.2.2.1 i2 hi2') 4 (Nat.le_of_ble_eq_true rfl) q1109 rfl rfl rfl rfl (Nat.le_of_ble_eq_true rfl) dX5_hour_50 ?_
      obtain ⟨σ1, eσ1⟩ : ∃ τ, τ = h_put τ2 (wF W i2) (.inr (.inl (6, [.int (fl (dryU N i2) i2 0), .int (fl (dryU N i2) i2 1), .int (fl (dryU N i2) i2 2), .int (fl (dryU N i2) i2 3), .int (mx 0 (((fl (dryU N i2) i2 4) - 1) - (((dryU N i2) 1) / 3))), .int (fl (dryU N i2) i2 5), .int (fl (dryU N i2) i2 6), .int (fl (dryU N i2) i2 7), .ref (wP (setP W P2) i2)]))) := ⟨_, rfl⟩
      refine A_st (σ' := σ1) eσ1.symm ?_
      have wσ1 : wfh σ1 := by rw [eσ1]; exact wτ2.put (hR2.2.2.2.2.2.2.1 i2 hi2')
      have fσ1_0 : σ1.1 (wW W) = some (.inr (.inl (4, [.int ((dryU N i2) 9), .ref (wR W), .ref (wM W), .ref (wNL W), .ref (wFL W), .ref (wUN W), .int ((dryU N i2) 6), .int ((dryU N i2) 8), .int ((dryU N i2) 0), .int ((dryU N i2) 1), .int ((dryU N i2) 2), .int ((dryU N i2) 3), .int ((dryU N i2) 4), .int ((dryU N i2) 5), .int ((dryU N i2) 11)]))) := by rw [eσ1]; exact (hp_ne (fun e9 => by rw [e9] at fτ2t2_0; have e8 := fτ2t2_0.symm.trans (hR2.2.2.2.2.2.2.1 i2 hi2'); simp at e8)).trans fτ2t2_0
      have fσ1_1 : σ1.1 (wFL W) = some (.inr (.inl (14, [.int mcft2, .ref (wFA W), .int (nI (nF (dryU N i2)))]))) := by rw [eσ1]; exact (hp_ne (fun e9 => by rw [e9] at fτ2t2_1; have e8 := fτ2t2_1.symm.trans (hR2.2.2.2.2.2.2.1 i2 hi2'); simp at e8)).trans fτ2t2_1
      have fσ1_2 : σ1.1 (wFA W) = some (.inl (.object "java/lang/Object", 12, .inr (.inr (.inr (.inr ffAt2))))) := by rw [eσ1]; exact (hp_ne (fun e9 => by rw [e9] at fτ2t2_2; have e8 := fτ2t2_2.symm.trans (hR2.2.2.2.2.2.2.1 i2 hi2'); simp at e8)).trans fτ2t2_2
      have fσ1_3 : σ1.1 (wNL W) = some (.inr (.inl (14, [.int mcnt2, .ref (wNA W), .int (nI (nN (dryU N i2)))]))) := by rw [eσ1]; exact (hp_ne (fun e9 => by rw [e9] at fτ2t2_3; have e8 := fτ2t2_3.symm.trans (hR2.2.2.2.2.2.2.1 i2 hi2'); simp at e8)).trans fτ2t2_3
      have fσ1_4 : σ1.1 (wNA W) = some (.inl (.object "java/lang/Object", 4, .inr (.inr (.inr (.inr fnAt2))))) := by rw [eσ1]; exact (hp_ne (fun e9 => by rw [e9] at fτ2t2_4; have e8 := fτ2t2_4.symm.trans (hR2.2.2.2.2.2.2.1 i2 hi2'); simp at e8)).trans fτ2t2_4
      have fσ1_5 : σ1.1 (wR W) = some (.inl (.int, 6, .inl frt2)) := by rw [eσ1]; exact (hp_ne (fun e9 => by rw [e9] at fτ2t2_5; have e8 := fτ2t2_5.symm.trans (hR2.2.2.2.2.2.2.1 i2 hi2'); simp at e8)).trans fτ2t2_5
      have fσ1_6 : σ1.1 (wM W) = some (.inl (.int, 3, .inl fmt2)) := by rw [eσ1]; exact (hp_ne (fun e9 => by rw [e9] at fτ2t2_6; have e8 := fτ2t2_6.symm.trans (hR2.2.2.2.2.2.2.1 i2 hi2'); simp at e8)).trans fτ2t2_6
      have fσ1_7 : σ1.1 (wUN W) = some (.inl (.object "FlagLaundry$Test", 7, .inr (.inr (.inr (.inr fut2))))) := by rw [eσ1]; exact (hp_ne (fun e9 => by rw [e9] at fτ2t2_7; have e8 := fτ2t2_7.symm.trans (hR2.2.2.2.2.2.2.1 i2 hi2'); simp at e8)).trans fτ2t2_7
      have fσ1_8 : σ1.1 (wF W i2) = some (.inr (.inl (6, [.int (fl (dryU N i2) i2 0), .int (fl (dryU N i2) i2 1), .int (fl (dryU N i2) i2 2), .int (fl (dryU N i2) i2 3), .int (mx 0 (((fl (dryU N i2) i2 4) - 1) - (((dryU N i2) 1) / 3))), .int (fl (dryU N i2) i2 5), .int (fl (dryU N i2) i2 6), .int (fl (dryU N i2) i2 7), .ref (wP (setP W P2) i2)]))) := by rw [eσ1]; exact if_pos rfl
      have fσ1_9 : σ1.1 (wP (setP W P2) i2) = some (.inr (.inl (9, [.int ((fl (dryU N i2) i2) 9)]))) := by rw [eσ1]; exact (hp_ne (fun e9 => by rw [e9] at hP_1; have e8 := hP_1.symm.trans (hR2.2.2.2.2.2.2.1 i2 hi2'); simp at e8)).trans hP_1
      have qσ1 : kl lo σ σ1 := by rw [eσ1]; exact qτ2.put (hO.2.2.2.2.2.2.2.1 i2 hi2)
      refine A_iinc (v := nI (i2 + 1)) dX5_hour_53 rfl (nI_inc _ _) (Nat.le_of_ble_eq_true rfl) ?_
      refine A_goto (tgt := 2) dX5_hour_56 (by decide) ?_
      have hu : upF (dryU N i2) (dryU N (i2 + 1)) i2 (fun j => if j = 4 then mx 0 ((fl (dryU N i2) i2 4 - 1) - (dryU N i2 1 / 3)) else fl (dryU N i2) i2 j) := by
        rw [show dryU N (i2 + 1) = setFl (dryU N i2) i2 4 (mx 0 ((fl (dryU N i2) i2 4 - 1) - (dryU N i2 1 / 3))) from if_pos h8_1]
        exact (upF.rf _ _).set (by decide) _
      have hR4 : RW g σ1 _ (dryU N (i2 + 1)) := hR2.flag (F := (fun j => if j = 4 then mx 0 ((fl (dryU N i2) i2 4 - 1) - (dryU N i2 1 / 3)) else fl (dryU N i2) i2 j)) (p := wP (setP W P2) i2) wτ2 hD2.1 hi2' (by rw [eσ1]; exact kx.rf.put) fσ1_8 (by show σ1.1 _ = some (.inr (.inl (plc (fl (dryU N i2) i2 8) (fl (dryU N i2) i2 9) (fl (dryU N i2) i2 10)))); rw [h8_1]; exact fσ1_9) hu
      refine A_less (b' := ((nF N) - (i2 + 1)) * 0 + 1) (by omega) ?_
      refine A_sub (L' := [(0, .ref (wW W)), (1, .int (nI (i2 + 1)))]) ⟨rfl, rfl, trivial⟩ ?_
      exact ih2 σ1 (⟨⟨_, hR4⟩, qσ1⟩)
    · skip
      have hP_1 : τ2.1 (wP (setP W P2) i2) = some (.inr (.inl (10, []))) := by have h9 := (hR2.2.2.2.2.2.2.2.1 i2 hi2'); rw [h8_1] at h9; exact h9
      refine A_instNo hP_1 rfl nc_X12_X11 q813 dX5_hour_18 ?_
      refine A_if_eq_t (tgt := 53) dX5_hour_21 (by decide) (by decide) ?_
      refine A_iinc (v := nI (i2 + 1)) dX5_hour_53 rfl (nI_inc _ _) (Nat.le_of_ble_eq_true rfl) ?_
      refine A_goto (tgt := 2) dX5_hour_56 (by decide) ?_
      have hR4 : RW g τ2 (setP W P2) (dryU N (i2 + 1)) := by rw [show dryU N (i2 + 1) = dryU N i2 from if_neg (by rw [h8_1]; decide)]; exact hR2
      refine A_less (b' := ((nF N) - (i2 + 1)) * 0 + 1) (by omega) ?_
      refine A_sub (L' := [(0, .ref (wW W)), (1, .int (nI (i2 + 1)))]) ⟨rfl, rfl, trivial⟩ ?_
      exact ih2 τ2 (⟨⟨_, hR4⟩, qτ2⟩)
  · skip
    refine A_less (b' := 1) (by omega) ?_
    obtain ⟨⟨P2, hR2⟩, qτ2⟩ := hI2
    refine A_wfh (fun wτ2 hgτ2 => ?_)
    have hR2 : RW g τ2 (setP W P2) (dryN N) := hR2
    have en2 : nF (dryN N) = nF N := (hdr_dryU N (nF N)).nFe
    have hD2 : WFd (dryN N) := WFd_dryN hD hw
    have hRc := hR2
    obtain ⟨h1t2, ⟨frt2, h2t2, h2pt2⟩, ⟨fmt2, h3t2, h3pt2⟩, ⟨mcnt2, fnAt2, h4t2, h4pt2, h4qt2⟩, ⟨mcft2, ffAt2, h5t2, h5pt2, h5qt2⟩, ⟨fut2, h6t2, h6pt2⟩, h7t2, h8t2, h9t2, h10t2, h11t2⟩ := hRc
    have fτ2t2_0 : τ2.1 (wW W) = some (.inr (.inl (4, [.int ((dryN N) 9), .ref (wR W), .ref (wM W), .ref (wNL W), .ref (wFL W), .ref (wUN W), .int ((dryN N) 6), .int ((dryN N) 8), .int ((dryN N) 0), .int ((dryN N) 1), .int ((dryN N) 2), .int ((dryN N) 3), .int ((dryN N) 4), .int ((dryN N) 5), .int ((dryN N) 11)]))) := h1t2
    have fτ2t2_1 : τ2.1 (wFL W) = some (.inr (.inl (14, [.int mcft2, .ref (wFA W), .int (nI (nF (dryN N)))]))) := h5t2
    have fτ2t2_2 : τ2.1 (wFA W) = some (.inl (.object "java/lang/Object", 12, .inr (.inr (.inr (.inr ffAt2))))) := h5pt2
    have fτ2t2_3 : τ2.1 (wNL W) = some (.inr (.inl (14, [.int mcnt2, .ref (wNA W), .int (nI (nN (dryN N)))]))) := h4t2
    have fτ2t2_4 : τ2.1 (wNA W) = some (.inl (.object "java/lang/Object", 4, .inr (.inr (.inr (.inr fnAt2))))) := h4pt2
    have fτ2t2_5 : τ2.1 (wR W) = some (.inl (.int, 6, .inl frt2)) := h2t2
    have fτ2t2_6 : τ2.1 (wM W) = some (.inl (.int, 3, .inl fmt2)) := h3t2
    have fτ2t2_7 : τ2.1 (wUN W) = some (.inl (.object "FlagLaundry$Test", 7, .inr (.inr (.inr (.inr fut2))))) := h6t2
    refine A_iload_n (i := 1) dX5_hour_2 rfl rfl ?_
    refine A_aload_n (i := 0) dX5_hour_3 rfl rfl ?_
    refine A_callV0E (b' := 1) (v := some (.int (nI (nF (dryN N))))) (τ := τ2) (c_many τ2 (setP W P2) (dryN N) hR2 hD2.1) tX5_many q1199 fτ2t2_0 rfl rfl dX5_hour_4 (by decide) (Nat.le_of_ble_eq_true rfl) (Nat.le_of_ble_eq_true rfl) ?_
    refine A_icmp_ge_t (tgt := 59) dX5_hour_7 (by decide) (br_ge (by rw [en2])) ?_
    refine A_aload_n (i := 0) dX5_hour_59 rfl rfl ?_
    refine A_getf cb_X5 fτ2t2_0 9 (Nat.le_of_ble_eq_true rfl) q845 rfl (v := .int ((dryN N) 1)) rfl dX5_hour_60 ?_
    refine A_bipush (v := 7) dX5_hour_63 (by decide) ?_
    refine A_icmp_lt (tgt := 75) dX5_hour_65 (by decide) (fun c2 => ?_) (fun c2 => ?_)
    · skip
      refine A_iconst (v := (-1)) dX5_hour_75 (by decide) ?_
      refine A_istore_n (i := 1) dX5_hour_76 rfl (Nat.le_of_ble_eq_true rfl) ?_
      refine A_aload_n (i := 0) dX5_hour_77 rfl rfl ?_
      refine A_dup dX5_hour_78 rfl ?_
      refine A_getf cb_X5 fτ2t2_0 8 (Nat.le_of_ble_eq_true rfl) q843 rfl (v := .int ((dryN N) 0)) rfl dX5_hour_79 ?_
      refine A_iconst (v := 1) dX5_hour_82 (by decide) ?_
      refine A_iadd dX5_hour_83 ?_
      refine A_putf cb_X5 fτ2t2_0 8 (Nat.le_of_ble_eq_true rfl) q843 rfl rfl rfl rfl (Nat.le_of_ble_eq_true rfl) dX5_hour_84 ?_
      obtain ⟨σ2, eσ2⟩ : ∃ τ, τ = h_put τ2 (wW W) (.inr (.inl (4, [.int ((dryN N) 9), .ref (wR W), .ref (wM W), .ref (wNL W), .ref (wFL W), .ref (wUN W), .int ((dryN N) 6), .int ((dryN N) 8), .int (((dryN N) 0) + 1), .int ((dryN N) 1), .int ((dryN N) 2), .int ((dryN N) 3), .int ((dryN N) 4), .int ((dryN N) 5), .int ((dryN N) 11)]))) := ⟨_, rfl⟩
      refine A_st (σ' := σ2) eσ2.symm ?_
      have wσ2 : wfh σ2 := by rw [eσ2]; exact wτ2.put fτ2t2_0
      have fσ2_0 : σ2.1 (wW W) = some (.inr (.inl (4, [.int ((dryN N) 9), .ref (wR W), .ref (wM W), .ref (wNL W), .ref (wFL W), .ref (wUN W), .int ((dryN N) 6), .int ((dryN N) 8), .int (((dryN N) 0) + 1), .int ((dryN N) 1), .int ((dryN N) 2), .int ((dryN N) 3), .int ((dryN N) 4), .int ((dryN N) 5), .int ((dryN N) 11)]))) := by rw [eσ2]; exact if_pos rfl
      have fσ2_1 : σ2.1 (wFL W) = some (.inr (.inl (14, [.int mcft2, .ref (wFA W), .int (nI (nF (dryN N)))]))) := by rw [eσ2]; exact (hp_ne (fun e9 => by rw [e9] at fτ2t2_1; have e8 := fτ2t2_1.symm.trans fτ2t2_0; simp at e8)).trans fτ2t2_1
      have fσ2_2 : σ2.1 (wFA W) = some (.inl (.object "java/lang/Object", 12, .inr (.inr (.inr (.inr ffAt2))))) := by rw [eσ2]; exact (hp_ne (fun e9 => by rw [e9] at fτ2t2_2; have e8 := fτ2t2_2.symm.trans fτ2t2_0; simp at e8)).trans fτ2t2_2
      have fσ2_3 : σ2.1 (wNL W) = some (.inr (.inl (14, [.int mcnt2, .ref (wNA W), .int (nI (nN (dryN N)))]))) := by rw [eσ2]; exact (hp_ne (fun e9 => by rw [e9] at fτ2t2_3; have e8 := fτ2t2_3.symm.trans fτ2t2_0; simp at e8)).trans fτ2t2_3
      have fσ2_4 : σ2.1 (wNA W) = some (.inl (.object "java/lang/Object", 4, .inr (.inr (.inr (.inr fnAt2))))) := by rw [eσ2]; exact (hp_ne (fun e9 => by rw [e9] at fτ2t2_4; have e8 := fτ2t2_4.symm.trans fτ2t2_0; simp at e8)).trans fτ2t2_4
      have fσ2_5 : σ2.1 (wR W) = some (.inl (.int, 6, .inl frt2)) := by rw [eσ2]; exact (hp_ne (fun e9 => by rw [e9] at fτ2t2_5; have e8 := fτ2t2_5.symm.trans fτ2t2_0; simp at e8)).trans fτ2t2_5
      have fσ2_6 : σ2.1 (wM W) = some (.inl (.int, 3, .inl fmt2)) := by rw [eσ2]; exact (hp_ne (fun e9 => by rw [e9] at fτ2t2_6; have e8 := fτ2t2_6.symm.trans fτ2t2_0; simp at e8)).trans fτ2t2_6
      have fσ2_7 : σ2.1 (wUN W) = some (.inl (.object "FlagLaundry$Test", 7, .inr (.inr (.inr (.inr fut2))))) := by rw [eσ2]; exact (hp_ne (fun e9 => by rw [e9] at fτ2t2_7; have e8 := fτ2t2_7.symm.trans fτ2t2_0; simp at e8)).trans fτ2t2_7
      have qσ2 : kl lo σ σ2 := by rw [eσ2]; exact qτ2.put hO.1
      have hR7 : RW g σ2 (setP W P2) (va_up (dryN N) 0 (dryN N 0 + 1)) := hR2.scal wτ2 (by rw [eσ2]; exact kx.rf.put) fσ2_0 (scl_va _ (by decide) _)
      have hD7 : WFd (va_up (dryN N) 0 (dryN N 0 + 1)) := hD2.scl (scl_va _ (by decide) _)
      refine A_iload_n (i := 1) dX5_hour_87 rfl rfl ?_
      refine A_iconst (v := (-1)) dX5_hour_88 (by decide) ?_
      refine A_icmp_ne_f (tgt := 94) dX5_hour_89 (by decide) (by decide) ?_
      refine A_iconst (v := 0) dX5_hour_92 (by decide) ?_
      exact A_iret dX5_hour_93 rfl (⟨by unfold fellN; rw [if_pos (by have c9 := c2; rw [dryN_1] at c9; exact c9)], ⟨_, by rw [passN_none (by unfold fallN; rw [if_pos c2])]; exact hR7⟩, qσ2⟩)
    · skip
      refine A_aload_n (i := 0) dX5_hour_68 rfl rfl ?_
      refine A_callV0E (b' := 1) (v := some (.int (lastN (dryN N)))) (τ := τ2) (c_last5 τ2 (setP W P2) (dryN N) hR2 hD2) tX5_lastOnLine q1356 fτ2t2_0 rfl rfl dX5_hour_69 (by decide) (Nat.le_of_ble_eq_true rfl) (Nat.le_of_ble_eq_true rfl) ?_
      refine A_goto (tgt := 76) dX5_hour_72 (by decide) ?_
      refine A_istore_n (i := 1) dX5_hour_76 rfl (Nat.le_of_ble_eq_true rfl) ?_
      refine A_aload_n (i := 0) dX5_hour_77 rfl rfl ?_
      refine A_dup dX5_hour_78 rfl ?_
      refine A_getf cb_X5 fτ2t2_0 8 (Nat.le_of_ble_eq_true rfl) q843 rfl (v := .int ((dryN N) 0)) rfl dX5_hour_79 ?_
      refine A_iconst (v := 1) dX5_hour_82 (by decide) ?_
      refine A_iadd dX5_hour_83 ?_
      refine A_putf cb_X5 fτ2t2_0 8 (Nat.le_of_ble_eq_true rfl) q843 rfl rfl rfl rfl (Nat.le_of_ble_eq_true rfl) dX5_hour_84 ?_
      obtain ⟨σ3, eσ3⟩ : ∃ τ, τ = h_put τ2 (wW W) (.inr (.inl (4, [.int ((dryN N) 9), .ref (wR W), .ref (wM W), .ref (wNL W), .ref (wFL W), .ref (wUN W), .int ((dryN N) 6), .int ((dryN N) 8), .int (((dryN N) 0) + 1), .int ((dryN N) 1), .int ((dryN N) 2), .int ((dryN N) 3), .int ((dryN N) 4), .int ((dryN N) 5), .int ((dryN N) 11)]))) := ⟨_, rfl⟩
      refine A_st (σ' := σ3) eσ3.symm ?_
      have wσ3 : wfh σ3 := by rw [eσ3]; exact wτ2.put fτ2t2_0
      have fσ3_0 : σ3.1 (wW W) = some (.inr (.inl (4, [.int ((dryN N) 9), .ref (wR W), .ref (wM W), .ref (wNL W), .ref (wFL W), .ref (wUN W), .int ((dryN N) 6), .int ((dryN N) 8), .int (((dryN N) 0) + 1), .int ((dryN N) 1), .int ((dryN N) 2), .int ((dryN N) 3), .int ((dryN N) 4), .int ((dryN N) 5), .int ((dryN N) 11)]))) := by rw [eσ3]; exact if_pos rfl
      have fσ3_1 : σ3.1 (wFL W) = some (.inr (.inl (14, [.int mcft2, .ref (wFA W), .int (nI (nF (dryN N)))]))) := by rw [eσ3]; exact (hp_ne (fun e9 => by rw [e9] at fτ2t2_1; have e8 := fτ2t2_1.symm.trans fτ2t2_0; simp at e8)).trans fτ2t2_1
      have fσ3_2 : σ3.1 (wFA W) = some (.inl (.object "java/lang/Object", 12, .inr (.inr (.inr (.inr ffAt2))))) := by rw [eσ3]; exact (hp_ne (fun e9 => by rw [e9] at fτ2t2_2; have e8 := fτ2t2_2.symm.trans fτ2t2_0; simp at e8)).trans fτ2t2_2
      have fσ3_3 : σ3.1 (wNL W) = some (.inr (.inl (14, [.int mcnt2, .ref (wNA W), .int (nI (nN (dryN N)))]))) := by rw [eσ3]; exact (hp_ne (fun e9 => by rw [e9] at fτ2t2_3; have e8 := fτ2t2_3.symm.trans fτ2t2_0; simp at e8)).trans fτ2t2_3
      have fσ3_4 : σ3.1 (wNA W) = some (.inl (.object "java/lang/Object", 4, .inr (.inr (.inr (.inr fnAt2))))) := by rw [eσ3]; exact (hp_ne (fun e9 => by rw [e9] at fτ2t2_4; have e8 := fτ2t2_4.symm.trans fτ2t2_0; simp at e8)).trans fτ2t2_4
      have fσ3_5 : σ3.1 (wR W) = some (.inl (.int, 6, .inl frt2)) := by rw [eσ3]; exact (hp_ne (fun e9 => by rw [e9] at fτ2t2_5; have e8 := fτ2t2_5.symm.trans fτ2t2_0; simp at e8)).trans fτ2t2_5
      have fσ3_6 : σ3.1 (wM W) = some (.inl (.int, 3, .inl fmt2)) := by rw [eσ3]; exact (hp_ne (fun e9 => by rw [e9] at fτ2t2_6; have e8 := fτ2t2_6.symm.trans fτ2t2_0; simp at e8)).trans fτ2t2_6
      have fσ3_7 : σ3.1 (wUN W) = some (.inl (.object "FlagLaundry$Test", 7, .inr (.inr (.inr (.inr fut2))))) := by rw [eσ3]; exact (hp_ne (fun e9 => by rw [e9] at fτ2t2_7; have e8 := fτ2t2_7.symm.trans fτ2t2_0; simp at e8)).trans fτ2t2_7
      have qσ3 : kl lo σ σ3 := by rw [eσ3]; exact qτ2.put hO.1
      have hR7 : RW g σ3 (setP W P2) (va_up (dryN N) 0 (dryN N 0 + 1)) := hR2.scal wτ2 (by rw [eσ3]; exact kx.rf.put) fσ3_0 (scl_va _ (by decide) _)
      have hD7 : WFd (va_up (dryN N) 0 (dryN N 0 + 1)) := hD2.scl (scl_va _ (by decide) _)
      refine A_iload_n (i := 1) dX5_hour_87 rfl rfl ?_
      refine A_iconst (v := (-1)) dX5_hour_88 (by decide) ?_
      refine A_icmp_ne (tgt := 94) dX5_hour_89 (by decide) (fun c3 => ?_) (fun c3 => ?_)
      · skip
        obtain ⟨j, hj, ej⟩ := lastN_in c3
        have hj9 : j < nF (va_up (dryN N) 0 (dryN N 0 + 1)) := hj
        have hj12 : j < 12 := by omega
        have ej9 := ej
        rw [show lastN (dryN N) = nI j from ej]
        have h7last := hR7
        refine A_aload_n (i := 0) dX5_hour_94 rfl rfl ?_
        refine A_iload_n (i := 1) dX5_hour_95 rfl rfl ?_
        refine A_callV1E (b' := 1) (v := some (.ref (wF W j))) (τ := σ3) (c_flagOf σ3 (setP W P2) (va_up (dryN N) 0 (dryN N 0 + 1)) j hR7 hD7.1 hj9) tX5_flagOf q1200 fσ3_0 rfl rfl dX5_hour_96 (by decide) (Nat.le_of_ble_eq_true rfl) (Nat.le_of_ble_eq_true rfl) ?_
        refine A_astore_n (i := 2) dX5_hour_99 rfl (Nat.le_of_ble_eq_true rfl) ?_
        refine A_aload_n (i := 2) dX5_hour_100 rfl rfl ?_
        refine A_new (b' := 0) (u := 1) cb_X8 q1360 q1090 q164 (fs := []) (fun j hj => absurd hj (Nat.not_lt_zero j)) (Nat.le_of_ble_eq_true rfl) ⟨Nat.le_of_ble_eq_true rfl, Nat.le_of_ble_eq_true rfl⟩ dX5_hour_101 ?_
        obtain ⟨σ4, eσ4⟩ : ∃ τ, τ = h_new σ3 (.inr (.inl (7, []))) := ⟨_, rfl⟩
        refine A_st (σ' := σ4) eσ4.symm ?_
        have wσ4 : wfh σ4 := by rw [eσ4]; exact wσ3.new
        have fσ4_0 : σ4.1 (wW W) = some (.inr (.inl (4, [.int ((dryN N) 9), .ref (wR W), .ref (wM W), .ref (wNL W), .ref (wFL W), .ref (wUN W), .int ((dryN N) 6), .int ((dryN N) 8), .int (((dryN N) 0) + 1), .int ((dryN N) 1), .int ((dryN N) 2), .int ((dryN N) 3), .int ((dryN N) 4), .int ((dryN N) 5), .int ((dryN N) 11)]))) := by rw [eσ4]; exact (hn_ne (Nat.ne_of_lt (wσ3 _ _ fσ3_0))).trans fσ3_0
        have fσ4_1 : σ4.1 (wFL W) = some (.inr (.inl (14, [.int mcft2, .ref (wFA W), .int (nI (nF (dryN N)))]))) := by rw [eσ4]; exact (hn_ne (Nat.ne_of_lt (wσ3 _ _ fσ3_1))).trans fσ3_1
        have fσ4_2 : σ4.1 (wFA W) = some (.inl (.object "java/lang/Object", 12, .inr (.inr (.inr (.inr ffAt2))))) := by rw [eσ4]; exact (hn_ne (Nat.ne_of_lt (wσ3 _ _ fσ3_2))).trans fσ3_2
        have fσ4_3 : σ4.1 (wNL W) = some (.inr (.inl (14, [.int mcnt2, .ref (wNA W), .int (nI (nN (dryN N)))]))) := by rw [eσ4]; exact (hn_ne (Nat.ne_of_lt (wσ3 _ _ fσ3_3))).trans fσ3_3
        have fσ4_4 : σ4.1 (wNA W) = some (.inl (.object "java/lang/Object", 4, .inr (.inr (.inr (.inr fnAt2))))) := by rw [eσ4]; exact (hn_ne (Nat.ne_of_lt (wσ3 _ _ fσ3_4))).trans fσ3_4
        have fσ4_5 : σ4.1 (wR W) = some (.inl (.int, 6, .inl frt2)) := by rw [eσ4]; exact (hn_ne (Nat.ne_of_lt (wσ3 _ _ fσ3_5))).trans fσ3_5
        have fσ4_6 : σ4.1 (wM W) = some (.inl (.int, 3, .inl fmt2)) := by rw [eσ4]; exact (hn_ne (Nat.ne_of_lt (wσ3 _ _ fσ3_6))).trans fσ3_6
        have fσ4_7 : σ4.1 (wUN W) = some (.inl (.object "FlagLaundry$Test", 7, .inr (.inr (.inr (.inr fut2))))) := by rw [eσ4]; exact (hn_ne (Nat.ne_of_lt (wσ3 _ _ fσ3_7))).trans fσ3_7
        have fσ4_8 : σ4.1 (wF W j) = some (.inr (.inl (6, [.int (fl (va_up (dryN N) 0 (dryN N 0 + 1)) j 0), .int (fl (va_up (dryN N) 0 (dryN N 0 + 1)) j 1), .int (fl (va_up (dryN N) 0 (dryN N 0 + 1)) j 2), .int (fl (va_up (dryN N) 0 (dryN N 0 + 1)) j 3), .int (fl (va_up (dryN N) 0 (dryN N 0 + 1)) j 4), .int (fl (va_up (dryN N) 0 (dryN N 0 + 1)) j 5), .int (fl (va_up (dryN N) 0 (dryN N 0 + 1)) j 6), .int (fl (va_up (dryN N) 0 (dryN N 0 + 1)) j 7), .ref (wP (setP W P2) j)]))) := by rw [eσ4]; exact (hn_ne (Nat.ne_of_lt (wσ3 _ _ (hR7.2.2.2.2.2.2.1 j hj9)))).trans (hR7.2.2.2.2.2.2.1 j hj9)
        have fσ4_9 : σ4.1 σ3.2 = some (.inr (.inl (7, []))) := by rw [eσ4]; exact if_pos rfl
        have xσ4 : ext σ3 σ4 := by rw [eσ4]; exact ext_new _ _
        have qσ4 : kl lo σ σ4 := by rw [eσ4]; exact qσ3.new hl
        have hRσ4 : RW g σ4 (setP W P2) (va_up (dryN N) 0 (dryN N 0 + 1)) := hR7.ext wσ3 xσ4
        refine A_dup dX5_hour_104 rfl ?_
        refine A_callIN0E (b' := 0) (v := none) (τ := σ4) (c_X8init σ4 σ3.2) tX8_init q1361 dX5_hour_105 (by decide) (Nat.le_of_ble_eq_true rfl) (Nat.le_of_ble_eq_true rfl) ?_
        refine A_putfN cb_X7 fσ4_8 8 (Nat.le_of_ble_eq_true rfl) q1121 rfl rfl rfl rfl (Nat.le_of_ble_eq_true rfl) dX5_hour_108 ?_
        obtain ⟨σ5, eσ5⟩ : ∃ τ, τ = h_put σ4 (wF W j) (.inr (.inl (6, [.int (fl (va_up (dryN N) 0 (dryN N 0 + 1)) j 0), .int (fl (va_up (dryN N) 0 (dryN N 0 + 1)) j 1), .int (fl (va_up (dryN N) 0 (dryN N 0 + 1)) j 2), .int (fl (va_up (dryN N) 0 (dryN N 0 + 1)) j 3), .int (fl (va_up (dryN N) 0 (dryN N 0 + 1)) j 4), .int (fl (va_up (dryN N) 0 (dryN N 0 + 1)) j 5), .int (fl (va_up (dryN N) 0 (dryN N 0 + 1)) j 6), .int (fl (va_up (dryN N) 0 (dryN N 0 + 1)) j 7), .ref σ3.2]))) := ⟨_, rfl⟩
        refine A_st (σ' := σ5) eσ5.symm ?_
        have wσ5 : wfh σ5 := by rw [eσ5]; exact wσ4.put fσ4_8
        have fσ5_0 : σ5.1 (wW W) = some (.inr (.inl (4, [.int ((dryN N) 9), .ref (wR W), .ref (wM W), .ref (wNL W), .ref (wFL W), .ref (wUN W), .int ((dryN N) 6), .int ((dryN N) 8), .int (((dryN N) 0) + 1), .int ((dryN N) 1), .int ((dryN N) 2), .int ((dryN N) 3), .int ((dryN N) 4), .int ((dryN N) 5), .int ((dryN N) 11)]))) := by rw [eσ5]; exact (hp_ne (fun e9 => by rw [e9] at fσ4_0; have e8 := fσ4_0.symm.trans fσ4_8; simp at e8)).trans fσ4_0
        have fσ5_1 : σ5.1 (wFL W) = some (.inr (.inl (14, [.int mcft2, .ref (wFA W), .int (nI (nF (dryN N)))]))) := by rw [eσ5]; exact (hp_ne (fun e9 => by rw [e9] at fσ4_1; have e8 := fσ4_1.symm.trans fσ4_8; simp at e8)).trans fσ4_1
        have fσ5_2 : σ5.1 (wFA W) = some (.inl (.object "java/lang/Object", 12, .inr (.inr (.inr (.inr ffAt2))))) := by rw [eσ5]; exact (hp_ne (fun e9 => by rw [e9] at fσ4_2; have e8 := fσ4_2.symm.trans fσ4_8; simp at e8)).trans fσ4_2
        have fσ5_3 : σ5.1 (wNL W) = some (.inr (.inl (14, [.int mcnt2, .ref (wNA W), .int (nI (nN (dryN N)))]))) := by rw [eσ5]; exact (hp_ne (fun e9 => by rw [e9] at fσ4_3; have e8 := fσ4_3.symm.trans fσ4_8; simp at e8)).trans fσ4_3
        have fσ5_4 : σ5.1 (wNA W) = some (.inl (.object "java/lang/Object", 4, .inr (.inr (.inr (.inr fnAt2))))) := by rw [eσ5]; exact (hp_ne (fun e9 => by rw [e9] at fσ4_4; have e8 := fσ4_4.symm.trans fσ4_8; simp at e8)).trans fσ4_4
        have fσ5_5 : σ5.1 (wR W) = some (.inl (.int, 6, .inl frt2)) := by rw [eσ5]; exact (hp_ne (fun e9 => by rw [e9] at fσ4_5; have e8 := fσ4_5.symm.trans fσ4_8; simp at e8)).trans fσ4_5
        have fσ5_6 : σ5.1 (wM W) = some (.inl (.int, 3, .inl fmt2)) := by rw [eσ5]; exact (hp_ne (fun e9 => by rw [e9] at fσ4_6; have e8 := fσ4_6.symm.trans fσ4_8; simp at e8)).trans fσ4_6
        have fσ5_7 : σ5.1 (wUN W) = some (.inl (.object "FlagLaundry$Test", 7, .inr (.inr (.inr (.inr fut2))))) := by rw [eσ5]; exact (hp_ne (fun e9 => by rw [e9] at fσ4_7; have e8 := fσ4_7.symm.trans fσ4_8; simp at e8)).trans fσ4_7
        have fσ5_8 : σ5.1 (wF W j) = some (.inr (.inl (6, [.int (fl (va_up (dryN N) 0 (dryN N 0 + 1)) j 0), .int (fl (va_up (dryN N) 0 (dryN N 0 + 1)) j 1), .int (fl (va_up (dryN N) 0 (dryN N 0 + 1)) j 2), .int (fl (va_up (dryN N) 0 (dryN N 0 + 1)) j 3), .int (fl (va_up (dryN N) 0 (dryN N 0 + 1)) j 4), .int (fl (va_up (dryN N) 0 (dryN N 0 + 1)) j 5), .int (fl (va_up (dryN N) 0 (dryN N 0 + 1)) j 6), .int (fl (va_up (dryN N) 0 (dryN N 0 + 1)) j 7), .ref σ3.2]))) := by rw [eσ5]; exact if_pos rfl
        have fσ5_9 : σ5.1 σ3.2 = some (.inr (.inl (7, []))) := by rw [eσ5]; exact (hp_ne (fun e9 => by rw [e9] at fσ4_9; have e8 := fσ4_9.symm.trans fσ4_8; simp at e8)).trans fσ4_9
        have qσ5 : kl lo σ σ5 := by rw [eσ5]; exact qσ4.put (hO.2.2.2.2.2.2.2.1 j (en2 ▸ hj))
        refine A_aload_n (i := 2) dX5_hour_111 rfl rfl ?_
        refine A_bipush (v := 9) dX5_hour_112 (by decide) ?_
        refine A_aload_n (i := 2) dX5_hour_114 rfl rfl ?_
        refine A_getfN cb_X7 fσ5_8 3 (Nat.le_of_ble_eq_true rfl) q1106 rfl (v := .int (fl (va_up (dryN N) 0 (dryN N 0 + 1)) j 3)) rfl dX5_hour_115 ?_
        refine A_iconst (v := 1) dX5_hour_118 (by decide) ?_
        refine A_iadd dX5_hour_119 ?_
        refine A_mmin q1245 q472 q150 q473 dX5_hour_120 (by decide) (Nat.le_of_ble_eq_true rfl) ?_
        refine A_int (w := (mn 9 ((fl (va_up (dryN N) 0 (dryN N 0 + 1)) j 3) + 1))) rfl ?_
        refine A_putfN cb_X7 fσ5_8 3 (Nat.le_of_ble_eq_true rfl) q1106 rfl rfl rfl rfl (Nat.le_of_ble_eq_true rfl) dX5_hour_123 ?_
        obtain ⟨σ6, eσ6⟩ : ∃ τ, τ = h_put σ5 (wF W j) (.inr (.inl (6, [.int (fl (va_up (dryN N) 0 (dryN N 0 + 1)) j 0), .int (fl (va_up (dryN N) 0 (dryN N 0 + 1)) j 1), .int (fl (va_up (dryN N) 0 (dryN N 0 + 1)) j 2), .int (mn 9 ((fl (va_up (dryN N) 0 (dryN N 0 + 1)) j 3) + 1)), .int (fl (va_up (dryN N) 0 (dryN N 0 + 1)) j 4), .int (fl (va_up (dryN N) 0 (dryN N 0 + 1)) j 5), .int (fl (va_up (dryN N) 0 (dryN N 0 + 1)) j 6), .int (fl (va_up (dryN N) 0 (dryN N 0 + 1)) j 7), .ref σ3.2]))) := ⟨_, rfl⟩
        refine A_st (σ' := σ6) eσ6.symm ?_
        have wσ6 : wfh σ6 := by rw [eσ6]; exact wσ5.put fσ5_8
        have fσ6_0 : σ6.1 (wW W) = some (.inr (.inl (4, [.int ((dryN N) 9), .ref (wR W), .ref (wM W), .ref (wNL W), .ref (wFL W), .ref (wUN W), .int ((dryN N) 6), .int ((dryN N) 8), .int (((dryN N) 0) + 1), .int ((dryN N) 1), .int ((dryN N) 2), .int ((dryN N) 3), .int ((dryN N) 4), .int ((dryN N) 5), .int ((dryN N) 11)]))) := by rw [eσ6]; exact (hp_ne (fun e9 => by rw [e9] at fσ5_0; have e8 := fσ5_0.symm.trans fσ5_8; simp at e8)).trans fσ5_0
        have fσ6_1 : σ6.1 (wFL W) = some (.inr (.inl (14, [.int mcft2, .ref (wFA W), .int (nI (nF (dryN N)))]))) := by rw [eσ6]; exact (hp_ne (fun e9 => by rw [e9] at fσ5_1; have e8 := fσ5_1.symm.trans fσ5_8; simp at e8)).trans fσ5_1
        have fσ6_2 : σ6.1 (wFA W) = some (.inl (.object "java/lang/Object", 12, .inr (.inr (.inr (.inr ffAt2))))) := by rw [eσ6]; exact (hp_ne (fun e9 => by rw [e9] at fσ5_2; have e8 := fσ5_2.symm.trans fσ5_8; simp at e8)).trans fσ5_2
        have fσ6_3 : σ6.1 (wNL W) = some (.inr (.inl (14, [.int mcnt2, .ref (wNA W), .int (nI (nN (dryN N)))]))) := by rw [eσ6]; exact (hp_ne (fun e9 => by rw [e9] at fσ5_3; have e8 := fσ5_3.symm.trans fσ5_8; simp at e8)).trans fσ5_3
        have fσ6_4 : σ6.1 (wNA W) = some (.inl (.object "java/lang/Object", 4, .inr (.inr (.inr (.inr fnAt2))))) := by rw [eσ6]; exact (hp_ne (fun e9 => by rw [e9] at fσ5_4; have e8 := fσ5_4.symm.trans fσ5_8; simp at e8)).trans fσ5_4
        have fσ6_5 : σ6.1 (wR W) = some (.inl (.int, 6, .inl frt2)) := by rw [eσ6]; exact (hp_ne (fun e9 => by rw [e9] at fσ5_5; have e8 := fσ5_5.symm.trans fσ5_8; simp at e8)).trans fσ5_5
        have fσ6_6 : σ6.1 (wM W) = some (.inl (.int, 3, .inl fmt2)) := by rw [eσ6]; exact (hp_ne (fun e9 => by rw [e9] at fσ5_6; have e8 := fσ5_6.symm.trans fσ5_8; simp at e8)).trans fσ5_6
        have fσ6_7 : σ6.1 (wUN W) = some (.inl (.object "FlagLaundry$Test", 7, .inr (.inr (.inr (.inr fut2))))) := by rw [eσ6]; exact (hp_ne (fun e9 => by rw [e9] at fσ5_7; have e8 := fσ5_7.symm.trans fσ5_8; simp at e8)).trans fσ5_7
        have fσ6_8 : σ6.1 (wF W j) = some (.inr (.inl (6, [.int (fl (va_up (dryN N) 0 (dryN N 0 + 1)) j 0), .int (fl (va_up (dryN N) 0 (dryN N 0 + 1)) j 1), .int (fl (va_up (dryN N) 0 (dryN N 0 + 1)) j 2), .int (mn 9 ((fl (va_up (dryN N) 0 (dryN N 0 + 1)) j 3) + 1)), .int (fl (va_up (dryN N) 0 (dryN N 0 + 1)) j 4), .int (fl (va_up (dryN N) 0 (dryN N 0 + 1)) j 5), .int (fl (va_up (dryN N) 0 (dryN N 0 + 1)) j 6), .int (fl (va_up (dryN N) 0 (dryN N 0 + 1)) j 7), .ref σ3.2]))) := by rw [eσ6]; exact if_pos rfl
        have fσ6_9 : σ6.1 σ3.2 = some (.inr (.inl (7, []))) := by rw [eσ6]; exact (hp_ne (fun e9 => by rw [e9] at fσ5_9; have e8 := fσ5_9.symm.trans fσ5_8; simp at e8)).trans fσ5_9
        have qσ6 : kl lo σ σ6 := by rw [eσ6]; exact qσ5.put (hO.2.2.2.2.2.2.2.1 j (en2 ▸ hj))
        have hR8 : RW g σ6 (setP W (upP P2 j σ3.2)) (flrN (va_up (dryN N) 0 (dryN N 0 + 1)) j) := hR7.flag (F := (fun k => if k = 3 then mn 9 (fl (va_up (dryN N) 0 (dryN N 0 + 1)) j 3 + 1) else plF (fl (va_up (dryN N) 0 (dryN N 0 + 1)) j) 0 (-1) (fl (va_up (dryN N) 0 (dryN N 0 + 1)) j 10) k)) wσ3 hD7.1 hj9 (by rw [eσ6, eσ5, eσ4]; exact kx.rf.new.put.put) fσ6_8 fσ6_9 (upF_fall (va_up (dryN N) 0 (dryN N 0 + 1)) j)
        refine A_aload_n (i := 0) dX5_hour_126 rfl rfl ?_
        refine A_dup dX5_hour_127 rfl ?_
        refine A_getf cb_X5 fσ6_0 13 (Nat.le_of_ble_eq_true rfl) q854 rfl (v := .int ((dryN N) 5)) rfl dX5_hour_128 ?_
        refine A_iconst (v := 1) dX5_hour_131 (by decide) ?_
        refine A_iadd dX5_hour_132 ?_
        refine A_putf cb_X5 fσ6_0 13 (Nat.le_of_ble_eq_true rfl) q854 rfl rfl rfl rfl (Nat.le_of_ble_eq_true rfl) dX5_hour_133 ?_
        obtain ⟨σ7, eσ7⟩ : ∃ τ, τ = h_put σ6 (wW W) (.inr (.inl (4, [.int ((dryN N) 9), .ref (wR W), .ref (wM W), .ref (wNL W), .ref (wFL W), .ref (wUN W), .int ((dryN N) 6), .int ((dryN N) 8), .int (((dryN N) 0) + 1), .int ((dryN N) 1), .int ((dryN N) 2), .int ((dryN N) 3), .int ((dryN N) 4), .int (((dryN N) 5) + 1), .int ((dryN N) 11)]))) := ⟨_, rfl⟩
        refine A_st (σ' := σ7) eσ7.symm ?_
        have wσ7 : wfh σ7 := by rw [eσ7]; exact wσ6.put fσ6_0
        have fσ7_0 : σ7.1 (wW W) = some (.inr (.inl (4, [.int ((dryN N) 9), .ref (wR W), .ref (wM W), .ref (wNL W), .ref (wFL W), .ref (wUN W), .int ((dryN N) 6), .int ((dryN N) 8), .int (((dryN N) 0) + 1), .int ((dryN N) 1), .int ((dryN N) 2), .int ((dryN N) 3), .int ((dryN N) 4), .int (((dryN N) 5) + 1), .int ((dryN N) 11)]))) := by rw [eσ7]; exact if_pos rfl
        have fσ7_1 : σ7.1 (wFL W) = some (.inr (.inl (14, [.int mcft2, .ref (wFA W), .int (nI (nF (dryN N)))]))) := by rw [eσ7]; exact (hp_ne (fun e9 => by rw [e9] at fσ6_1; have e8 := fσ6_1.symm.trans fσ6_0; simp at e8)).trans fσ6_1
        have fσ7_2 : σ7.1 (wFA W) = some (.inl (.object "java/lang/Object", 12, .inr (.inr (.inr (.inr ffAt2))))) := by rw [eσ7]; exact (hp_ne (fun e9 => by rw [e9] at fσ6_2; have e8 := fσ6_2.symm.trans fσ6_0; simp at e8)).trans fσ6_2
        have fσ7_3 : σ7.1 (wNL W) = some (.inr (.inl (14, [.int mcnt2, .ref (wNA W), .int (nI (nN (dryN N)))]))) := by rw [eσ7]; exact (hp_ne (fun e9 => by rw [e9] at fσ6_3; have e8 := fσ6_3.symm.trans fσ6_0; simp at e8)).trans fσ6_3
        have fσ7_4 : σ7.1 (wNA W) = some (.inl (.object "java/lang/Object", 4, .inr (.inr (.inr (.inr fnAt2))))) := by rw [eσ7]; exact (hp_ne (fun e9 => by rw [e9] at fσ6_4; have e8 := fσ6_4.symm.trans fσ6_0; simp at e8)).trans fσ6_4
        have fσ7_5 : σ7.1 (wR W) = some (.inl (.int, 6, .inl frt2)) := by rw [eσ7]; exact (hp_ne (fun e9 => by rw [e9] at fσ6_5; have e8 := fσ6_5.symm.trans fσ6_0; simp at e8)).trans fσ6_5
        have fσ7_6 : σ7.1 (wM W) = some (.inl (.int, 3, .inl fmt2)) := by rw [eσ7]; exact (hp_ne (fun e9 => by rw [e9] at fσ6_6; have e8 := fσ6_6.symm.trans fσ6_0; simp at e8)).trans fσ6_6
        have fσ7_7 : σ7.1 (wUN W) = some (.inl (.object "FlagLaundry$Test", 7, .inr (.inr (.inr (.inr fut2))))) := by rw [eσ7]; exact (hp_ne (fun e9 => by rw [e9] at fσ6_7; have e8 := fσ6_7.symm.trans fσ6_0; simp at e8)).trans fσ6_7
        have fσ7_8 : σ7.1 (wF W j) = some (.inr (.inl (6, [.int (fl (va_up (dryN N) 0 (dryN N 0 + 1)) j 0), .int (fl (va_up (dryN N) 0 (dryN N 0 + 1)) j 1), .int (fl (va_up (dryN N) 0 (dryN N 0 + 1)) j 2), .int (mn 9 ((fl (va_up (dryN N) 0 (dryN N 0 + 1)) j 3) + 1)), .int (fl (va_up (dryN N) 0 (dryN N 0 + 1)) j 4), .int (fl (va_up (dryN N) 0 (dryN N 0 + 1)) j 5), .int (fl (va_up (dryN N) 0 (dryN N 0 + 1)) j 6), .int (fl (va_up (dryN N) 0 (dryN N 0 + 1)) j 7), .ref σ3.2]))) := by rw [eσ7]; exact (hp_ne (fun e9 => by rw [e9] at fσ6_8; have e8 := fσ6_8.symm.trans fσ6_0; simp at e8)).trans fσ6_8
        have fσ7_9 : σ7.1 σ3.2 = some (.inr (.inl (7, []))) := by rw [eσ7]; exact (hp_ne (fun e9 => by rw [e9] at fσ6_9; have e8 := fσ6_9.symm.trans fσ6_0; simp at e8)).trans fσ6_9
        have qσ7 : kl lo σ σ7 := by rw [eσ7]; exact qσ6.put hO.1
        have ep : passN N = va_up (va_up (flrN (dryN N) j) 5 (dryN N 5 + 1)) 0 (dryN N 0 + 1) := passN_fall hj12 c2 c3 ej9
        have hR10 : RW g σ7 _ (passN N) := hR8.scal wσ6 (by rw [eσ7]; exact kx.rf.put) (by
          rw [show wldC _ (passN N) = wldC W (va_up (va_up (dryN N) 5 (dryN N 5 + 1)) 0 (dryN N 0 + 1)) from by
            rw [ep]
            refine wld_h ⟨rfl, rfl, rfl, rfl, rfl⟩ (fun i hi => ?_)
            unfold va_up
            split
            · rfl
            · split
              · rfl
              · exact flrN_h _ _ (by omega)]
          exact fσ7_0) (by
          rw [ep, flrN_va _ (by decide)]
          intro i a b
          rw [va_up_ne _ _ (by omega), va_up_ne _ _ (by omega), va_up_ne _ _ (by omega)])
        refine A_iconst (v := 1) dX5_hour_136 (by decide) ?_
        exact A_iret dX5_hour_137 rfl (⟨by unfold fellN; rw [if_neg (by have c9 := c2; rw [dryN_1] at c9; exact c9), if_neg c3], ⟨_, hR10⟩, qσ7⟩)
      · skip
        refine A_iconst (v := 0) dX5_hour_92 (by decide) ?_
        exact A_iret dX5_hour_93 rfl (⟨by unfold fellN; rw [if_neg (by have c9 := c2; rw [dryN_1] at c9; exact c9), if_pos c3], ⟨_, by rw [passN_none (by unfold fallN; rw [if_neg c2, if_pos c3])]; exact hR7⟩, qσ3⟩)
