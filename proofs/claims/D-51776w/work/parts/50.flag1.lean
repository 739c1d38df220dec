/-! THE COMPONENT 1: places, flags, nations; small numbers -/
/-- the cell of a place: kind, number, rank -/
def plc (k a b : Int32) : Nat × List Value := if k = 0 then (7, []) else if k = 1 then (8, [.int a, .int b]) else if k = 2 then (9, [.int a]) else (10, [])
abbrev PLk (k : Int32) : Prop := k = 0 ∨ k = 1 ∨ k = 2 ∨ k = 3
theorem nc_X8_X9 : Cond.not (.castable "FlagLaundry$Basket" "FlagLaundry$InTub") ∈ flatC (Jvm.Cond.and given_1 narrow_1) := by decide +kernel
theorem nc_X8_X11 : Cond.not (.castable "FlagLaundry$Basket" "FlagLaundry$OnPeg") ∈ flatC (Jvm.Cond.and given_1 narrow_1) := by decide +kernel
theorem nc_X8_X12 : Cond.not (.castable "FlagLaundry$Basket" "FlagLaundry$Away") ∈ flatC (Jvm.Cond.and given_1 narrow_1) := by decide +kernel
theorem nc_X9_X8 : Cond.not (.castable "FlagLaundry$InTub" "FlagLaundry$Basket") ∈ flatC (Jvm.Cond.and given_1 narrow_1) := by decide +kernel
theorem nc_X9_X11 : Cond.not (.castable "FlagLaundry$InTub" "FlagLaundry$OnPeg") ∈ flatC (Jvm.Cond.and given_1 narrow_1) := by decide +kernel
theorem nc_X9_X12 : Cond.not (.castable "FlagLaundry$InTub" "FlagLaundry$Away") ∈ flatC (Jvm.Cond.and given_1 narrow_1) := by decide +kernel
theorem nc_X11_X8 : Cond.not (.castable "FlagLaundry$OnPeg" "FlagLaundry$Basket") ∈ flatC (Jvm.Cond.and given_1 narrow_1) := by decide +kernel
theorem nc_X11_X9 : Cond.not (.castable "FlagLaundry$OnPeg" "FlagLaundry$InTub") ∈ flatC (Jvm.Cond.and given_1 narrow_1) := by decide +kernel
theorem nc_X11_X12 : Cond.not (.castable "FlagLaundry$OnPeg" "FlagLaundry$Away") ∈ flatC (Jvm.Cond.and given_1 narrow_1) := by decide +kernel
theorem nc_X12_X8 : Cond.not (.castable "FlagLaundry$Away" "FlagLaundry$Basket") ∈ flatC (Jvm.Cond.and given_1 narrow_1) := by decide +kernel
theorem nc_X12_X9 : Cond.not (.castable "FlagLaundry$Away" "FlagLaundry$InTub") ∈ flatC (Jvm.Cond.and given_1 narrow_1) := by decide +kernel
theorem nc_X12_X11 : Cond.not (.castable "FlagLaundry$Away" "FlagLaundry$OnPeg") ∈ flatC (Jvm.Cond.and given_1 narrow_1) := by decide +kernel
set_option maxHeartbeats 100000 in
theorem c_fHere {l : Launch} {g : GC} (σ : AH) (a : Nat) (pl : Nat) (F : Nat → Int32)  (hF : σ.1 a = some (.inr (.inl (6, [.int (F 0), .int (F 1), .int (F 2), .int (F 3), .int (F 4), .int (F 5), .int (F 6), .int (F 7), .ref pl])))) (hP : σ.1 pl = some (.inr (.inl (plc (F 8) (F 9) (F 10))))) (hk : PLk (F 8)) : AMet l g mX7_isHere 1 0 [.ref a] σ (A_eq (some (.int (bi (F 8 = 0)))) σ) A_no := by
  rcases hk with h8 | h8 | h8 | h8
  · skip
    have hP : σ.1 pl = some (.inr (.inl (7, []))) := by rw [h8] at hP; exact hP
    refine A_of rfl (by decide) (Nat.le_of_ble_eq_true rfl) (L0 := [(0, .ref a)]) rfl ?_
    refine A_aload_n (i := 0) dX7_isHere_0 rfl rfl ?_
    refine A_getf cb_X7 hF 8 (Nat.le_of_ble_eq_true rfl) q1119 rfl (v := .ref pl) rfl dX7_isHere_1 ?_
    refine A_instE hP rfl q1089 dX7_isHere_4 ?_
    exact A_zret dX7_isHere_7 rfl (rfl) (⟨by simp [bi, h8], rfl⟩)
  · skip
    have hP : σ.1 pl = some (.inr (.inl (8, [.int (F 9), .int (F 10)]))) := by rw [h8] at hP; exact hP
    refine A_of rfl (by decide) (Nat.le_of_ble_eq_true rfl) (L0 := [(0, .ref a)]) rfl ?_
    refine A_aload_n (i := 0) dX7_isHere_0 rfl rfl ?_
    refine A_getf cb_X7 hF 8 (Nat.le_of_ble_eq_true rfl) q1119 rfl (v := .ref pl) rfl dX7_isHere_1 ?_
    refine A_instNo hP rfl nc_X9_X8 q1089 dX7_isHere_4 ?_
    exact A_zret dX7_isHere_7 rfl (rfl) (⟨by simp [bi, h8], rfl⟩)
  · skip
    have hP : σ.1 pl = some (.inr (.inl (9, [.int (F 9)]))) := by rw [h8] at hP; exact hP
    refine A_of rfl (by decide) (Nat.le_of_ble_eq_true rfl) (L0 := [(0, .ref a)]) rfl ?_
    refine A_aload_n (i := 0) dX7_isHere_0 rfl rfl ?_
    refine A_getf cb_X7 hF 8 (Nat.le_of_ble_eq_true rfl) q1119 rfl (v := .ref pl) rfl dX7_isHere_1 ?_
    refine A_instNo hP rfl nc_X11_X8 q1089 dX7_isHere_4 ?_
    exact A_zret dX7_isHere_7 rfl (rfl) (⟨by simp [bi, h8], rfl⟩)
  · skip
    have hP : σ.1 pl = some (.inr (.inl (10, []))) := by rw [h8] at hP; exact hP
    refine A_of rfl (by decide) (Nat.le_of_ble_eq_true rfl) (L0 := [(0, .ref a)]) rfl ?_
    refine A_aload_n (i := 0) dX7_isHere_0 rfl rfl ?_
    refine A_getf cb_X7 hF 8 (Nat.le_of_ble_eq_true rfl) q1119 rfl (v := .ref pl) rfl dX7_isHere_1 ?_
    refine A_instNo hP rfl nc_X12_X8 q1089 dX7_isHere_4 ?_
    exact A_zret dX7_isHere_7 rfl (rfl) (⟨by simp [bi, h8], rfl⟩)
set_option maxHeartbeats 100000 in
theorem c_fIn {l : Launch} {g : GC} (σ : AH) (a : Nat) (pl : Nat) (F : Nat → Int32) (t : Int32) (hF : σ.1 a = some (.inr (.inl (6, [.int (F 0), .int (F 1), .int (F 2), .int (F 3), .int (F 4), .int (F 5), .int (F 6), .int (F 7), .ref pl])))) (hP : σ.1 pl = some (.inr (.inl (plc (F 8) (F 9) (F 10))))) (hk : PLk (F 8)) : AMet l g mX7_isIn 1 0 [.ref a, .int t] σ (A_eq (some (.int (bi (F 8 = 1 ∧ F 9 = t)))) σ) A_no := by
  rcases hk with h8 | h8 | h8 | h8
  · skip
    have hP : σ.1 pl = some (.inr (.inl (7, []))) := by rw [h8] at hP; exact hP
    refine A_of rfl (by decide) (Nat.le_of_ble_eq_true rfl) (L0 := [(0, .ref a), (1, .int t)]) rfl ?_
    refine A_aload_n (i := 0) dX7_isIn_0 rfl rfl ?_
    refine A_getf cb_X7 hF 8 (Nat.le_of_ble_eq_true rfl) q1119 rfl (v := .ref pl) rfl dX7_isIn_1 ?_
    refine A_astore_n (i := 3) dX7_isIn_4 rfl (Nat.le_of_ble_eq_true rfl) ?_
    refine A_aload_n (i := 3) dX7_isIn_5 rfl rfl ?_
    refine A_instNo hP rfl nc_X8_X9 q1194 dX7_isIn_6 ?_
    refine A_if_eq_t (tgt := 29) dX7_isIn_9 (by decide) (by decide) ?_
    refine A_iconst (v := 0) dX7_isIn_29 (by decide) ?_
    exact A_zret dX7_isIn_30 rfl (rfl) (⟨by simp [bi, h8], rfl⟩)
  · skip
    have hP : σ.1 pl = some (.inr (.inl (8, [.int (F 9), .int (F 10)]))) := by rw [h8] at hP; exact hP
    refine A_of rfl (by decide) (Nat.le_of_ble_eq_true rfl) (L0 := [(0, .ref a), (1, .int t)]) rfl ?_
    refine A_aload_n (i := 0) dX7_isIn_0 rfl rfl ?_
    refine A_getf cb_X7 hF 8 (Nat.le_of_ble_eq_true rfl) q1119 rfl (v := .ref pl) rfl dX7_isIn_1 ?_
    refine A_astore_n (i := 3) dX7_isIn_4 rfl (Nat.le_of_ble_eq_true rfl) ?_
    refine A_aload_n (i := 3) dX7_isIn_5 rfl rfl ?_
    refine A_instE hP rfl q1194 dX7_isIn_6 ?_
    refine A_if_eq_f (tgt := 29) dX7_isIn_9 (by decide) (by decide) ?_
    refine A_aload_n (i := 3) dX7_isIn_12 rfl rfl ?_
    refine A_castE hP rfl q1194 dX7_isIn_13 ?_
    refine A_astore_n (i := 2) dX7_isIn_16 rfl (Nat.le_of_ble_eq_true rfl) ?_
    refine A_aload_n (i := 2) dX7_isIn_17 rfl rfl ?_
    refine A_getfN cb_X9 hP 0 (Nat.le_of_ble_eq_true rfl) q1223 rfl (v := .int (F 9)) rfl dX7_isIn_18 ?_
    refine A_iload_n (i := 1) dX7_isIn_21 rfl rfl ?_
    refine A_icmp_ne (tgt := 29) dX7_isIn_22 (by decide) (fun c1 => ?_) (fun c1 => ?_)
    · skip
      refine A_iconst (v := 0) dX7_isIn_29 (by decide) ?_
      exact A_zret dX7_isIn_30 rfl (rfl) (⟨by simp [bi, h8, c1], rfl⟩)
    · skip
      refine A_iconst (v := 1) dX7_isIn_25 (by decide) ?_
      refine A_goto (tgt := 30) dX7_isIn_26 (by decide) ?_
      exact A_zret dX7_isIn_30 rfl (rfl) (⟨by simp [bi, h8, c1], rfl⟩)
  · skip
    have hP : σ.1 pl = some (.inr (.inl (9, [.int (F 9)]))) := by rw [h8] at hP; exact hP
    refine A_of rfl (by decide) (Nat.le_of_ble_eq_true rfl) (L0 := [(0, .ref a), (1, .int t)]) rfl ?_
    refine A_aload_n (i := 0) dX7_isIn_0 rfl rfl ?_
    refine A_getf cb_X7 hF 8 (Nat.le_of_ble_eq_true rfl) q1119 rfl (v := .ref pl) rfl dX7_isIn_1 ?_
    refine A_astore_n (i := 3) dX7_isIn_4 rfl (Nat.le_of_ble_eq_true rfl) ?_
    refine A_aload_n (i := 3) dX7_isIn_5 rfl rfl ?_
    refine A_instNo hP rfl nc_X11_X9 q1194 dX7_isIn_6 ?_
    refine A_if_eq_t (tgt := 29) dX7_isIn_9 (by decide) (by decide) ?_
    refine A_iconst (v := 0) dX7_isIn_29 (by decide) ?_
    exact A_zret dX7_isIn_30 rfl (rfl) (⟨by simp [bi, h8], rfl⟩)
  · skip
    have hP : σ.1 pl = some (.inr (.inl (10, []))) := by rw [h8] at hP; exact hP
    refine A_of rfl (by decide) (Nat.le_of_ble_eq_true rfl) (L0 := [(0, .ref a), (1, .int t)]) rfl ?_
    refine A_aload_n (i := 0) dX7_isIn_0 rfl rfl ?_
    refine A_getf cb_X7 hF 8 (Nat.le_of_ble_eq_true rfl) q1119 rfl (v := .ref pl) rfl dX7_isIn_1 ?_
    refine A_astore_n (i := 3) dX7_isIn_4 rfl (Nat.le_of_ble_eq_true rfl) ?_
    refine A_aload_n (i := 3) dX7_isIn_5 rfl rfl ?_
    refine A_instNo hP rfl nc_X12_X9 q1194 dX7_isIn_6 ?_
    refine A_if_eq_t (tgt := 29) dX7_isIn_9 (by decide) (by decide) ?_
    refine A_iconst (v := 0) dX7_isIn_29 (by decide) ?_
    exact A_zret dX7_isIn_30 rfl (rfl) (⟨by simp [bi, h8], rfl⟩)
set_option maxHeartbeats 100000 in
theorem c_fOn {l : Launch} {g : GC} (σ : AH) (a : Nat) (pl : Nat) (F : Nat → Int32) (t : Int32) (hF : σ.1 a = some (.inr (.inl (6, [.int (F 0), .int (F 1), .int (F 2), .int (F 3), .int (F 4), .int (F 5), .int (F 6), .int (F 7), .ref pl])))) (hP : σ.1 pl = some (.inr (.inl (plc (F 8) (F 9) (F 10))))) (hk : PLk (F 8)) : AMet l g mX7_isOn 1 0 [.ref a, .int t] σ (A_eq (some (.int (bi (F 8 = 2 ∧ F 9 = t)))) σ) A_no := by
  rcases hk with h8 | h8 | h8 | h8
  · skip
    have hP : σ.1 pl = some (.inr (.inl (7, []))) := by rw [h8] at hP; exact hP
    refine A_of rfl (by decide) (Nat.le_of_ble_eq_true rfl) (L0 := [(0, .ref a), (1, .int t)]) rfl ?_
    refine A_aload_n (i := 0) dX7_isOn_0 rfl rfl ?_
    refine A_getf cb_X7 hF 8 (Nat.le_of_ble_eq_true rfl) q1119 rfl (v := .ref pl) rfl dX7_isOn_1 ?_
    refine A_astore_n (i := 3) dX7_isOn_4 rfl (Nat.le_of_ble_eq_true rfl) ?_
    refine A_aload_n (i := 3) dX7_isOn_5 rfl rfl ?_
    refine A_instNo hP rfl nc_X8_X11 q1332 dX7_isOn_6 ?_
    refine A_if_eq_t (tgt := 29) dX7_isOn_9 (by decide) (by decide) ?_
    refine A_iconst (v := 0) dX7_isOn_29 (by decide) ?_
    exact A_zret dX7_isOn_30 rfl (rfl) (⟨by simp [bi, h8], rfl⟩)
  · skip
    have hP : σ.1 pl = some (.inr (.inl (8, [.int (F 9), .int (F 10)]))) := by rw [h8] at hP; exact hP
    refine A_of rfl (by decide) (Nat.le_of_ble_eq_true rfl) (L0 := [(0, .ref a), (1, .int t)]) rfl ?_
    refine A_aload_n (i := 0) dX7_isOn_0 rfl rfl ?_
    refine A_getf cb_X7 hF 8 (Nat.le_of_ble_eq_true rfl) q1119 rfl (v := .ref pl) rfl dX7_isOn_1 ?_
    refine A_astore_n (i := 3) dX7_isOn_4 rfl (Nat.le_of_ble_eq_true rfl) ?_
    refine A_aload_n (i := 3) dX7_isOn_5 rfl rfl ?_
    refine A_instNo hP rfl nc_X9_X11 q1332 dX7_isOn_6 ?_
    refine A_if_eq_t (tgt := 29) dX7_isOn_9 (by decide) (by decide) ?_
    refine A_iconst (v := 0) dX7_isOn_29 (by decide) ?_
    exact A_zret dX7_isOn_30 rfl (rfl) (⟨by simp [bi, h8], rfl⟩)
  · skip
    have hP : σ.1 pl = some (.inr (.inl (9, [.int (F 9)]))) := by rw [h8] at hP; exact hP
    refine A_of rfl (by decide) (Nat.le_of_ble_eq_true rfl) (L0 := [(0, .ref a), (1, .int t)]) rfl ?_
    refine A_aload_n (i := 0) dX7_isOn_0 rfl rfl ?_
    refine A_getf cb_X7 hF 8 (Nat.le_of_ble_eq_true rfl) q1119 rfl (v := .ref pl) rfl dX7_isOn_1 ?_
    refine A_astore_n (i := 3) dX7_isOn_4 rfl (Nat.le_of_ble_eq_true rfl) ?_
    refine A_aload_n (i := 3) dX7_isOn_5 rfl rfl ?_
    refine A_instE hP rfl q1332 dX7_isOn_6 ?_
    refine A_if_eq_f (tgt := 29) dX7_isOn_9 (by decide) (by decide) ?_
    refine A_aload_n (i := 3) dX7_isOn_12 rfl rfl ?_
    refine A_castE hP rfl q1332 dX7_isOn_13 ?_
    refine A_astore_n (i := 2) dX7_isOn_16 rfl (Nat.le_of_ble_eq_true rfl) ?_
    refine A_aload_n (i := 2) dX7_isOn_17 rfl rfl ?_
    refine A_getfN cb_X11 hP 0 (Nat.le_of_ble_eq_true rfl) q1342 rfl (v := .int (F 9)) rfl dX7_isOn_18 ?_
    refine A_iload_n (i := 1) dX7_isOn_21 rfl rfl ?_
    refine A_icmp_ne (tgt := 29) dX7_isOn_22 (by decide) (fun c1 => ?_) (fun c1 => ?_)
    · skip
      refine A_iconst (v := 0) dX7_isOn_29 (by decide) ?_
      exact A_zret dX7_isOn_30 rfl (rfl) (⟨by simp [bi, h8, c1], rfl⟩)
    · skip
      refine A_iconst (v := 1) dX7_isOn_25 (by decide) ?_
      refine A_goto (tgt := 30) dX7_isOn_26 (by decide) ?_
      exact A_zret dX7_isOn_30 rfl (rfl) (⟨by simp [bi, h8, c1], rfl⟩)
  · skip
    have hP : σ.1 pl = some (.inr (.inl (10, []))) := by rw [h8] at hP; exact hP
    refine A_of rfl (by decide) (Nat.le_of_ble_eq_true rfl) (L0 := [(0, .ref a), (1, .int t)]) rfl ?_
    refine A_aload_n (i := 0) dX7_isOn_0 rfl rfl ?_
    refine A_getf cb_X7 hF 8 (Nat.le_of_ble_eq_true rfl) q1119 rfl (v := .ref pl) rfl dX7_isOn_1 ?_
    refine A_astore_n (i := 3) dX7_isOn_4 rfl (Nat.le_of_ble_eq_true rfl) ?_
    refine A_aload_n (i := 3) dX7_isOn_5 rfl rfl ?_
    refine A_instNo hP rfl nc_X12_X11 q1332 dX7_isOn_6 ?_
    refine A_if_eq_t (tgt := 29) dX7_isOn_9 (by decide) (by decide) ?_
    refine A_iconst (v := 0) dX7_isOn_29 (by decide) ?_
    exact A_zret dX7_isOn_30 rfl (rfl) (⟨by simp [bi, h8], rfl⟩)
set_option maxHeartbeats 100000 in
theorem c_kindOf {l : Launch} {g : GC} (σ : AH) (pl : Nat) (F : Nat → Int32)  (hP : σ.1 pl = some (.inr (.inl (plc (F 8) (F 9) (F 10))))) (hk : PLk (F 8)) : AMet l g mX1_kindOf 1 0 [.ref pl] σ (A_eq (some (.int (F 8))) σ) A_no := by
  rcases hk with h8 | h8 | h8 | h8
  · skip
    have hP : σ.1 pl = some (.inr (.inl (7, []))) := by rw [h8] at hP; exact hP
    refine A_of rfl (by decide) (Nat.le_of_ble_eq_true rfl) (L0 := [(0, .ref pl)]) rfl ?_
    refine A_aload_n (i := 0) dX1_kindOf_0 rfl rfl ?_
    refine A_instE hP rfl q1420 dX1_kindOf_1 ?_
    refine A_if_eq_f (tgt := 11) dX1_kindOf_4 (by decide) (by decide) ?_
    refine A_iconst (v := 0) dX1_kindOf_7 (by decide) ?_
    refine A_goto (tgt := 34) dX1_kindOf_8 (by decide) ?_
    exact A_iret dX1_kindOf_34 rfl (⟨by rw [h8], rfl⟩)
  · skip
    have hP : σ.1 pl = some (.inr (.inl (8, [.int (F 9), .int (F 10)]))) := by rw [h8] at hP; exact hP
    refine A_of rfl (by decide) (Nat.le_of_ble_eq_true rfl) (L0 := [(0, .ref pl)]) rfl ?_
    refine A_aload_n (i := 0) dX1_kindOf_0 rfl rfl ?_
    refine A_instNo hP rfl nc_X9_X8 q1420 dX1_kindOf_1 ?_
    refine A_if_eq_t (tgt := 11) dX1_kindOf_4 (by decide) (by decide) ?_
    refine A_aload_n (i := 0) dX1_kindOf_11 rfl rfl ?_
    refine A_instE hP rfl q1421 dX1_kindOf_12 ?_
    refine A_if_eq_f (tgt := 22) dX1_kindOf_15 (by decide) (by decide) ?_
    refine A_iconst (v := 1) dX1_kindOf_18 (by decide) ?_
    refine A_goto (tgt := 34) dX1_kindOf_19 (by decide) ?_
    exact A_iret dX1_kindOf_34 rfl (⟨by rw [h8], rfl⟩)
  · skip
    have hP : σ.1 pl = some (.inr (.inl (9, [.int (F 9)]))) := by rw [h8] at hP; exact hP
    refine A_of rfl (by decide) (Nat.le_of_ble_eq_true rfl) (L0 := [(0, .ref pl)]) rfl ?_
    refine A_aload_n (i := 0) dX1_kindOf_0 rfl rfl ?_
    refine A_instNo hP rfl nc_X11_X8 q1420 dX1_kindOf_1 ?_
    refine A_if_eq_t (tgt := 11) dX1_kindOf_4 (by decide) (by decide) ?_
    refine A_aload_n (i := 0) dX1_kindOf_11 rfl rfl ?_
    refine A_instNo hP rfl nc_X11_X9 q1421 dX1_kindOf_12 ?_
    refine A_if_eq_t (tgt := 22) dX1_kindOf_15 (by decide) (by decide) ?_
    refine A_aload_n (i := 0) dX1_kindOf_22 rfl rfl ?_
    refine A_instE hP rfl q1422 dX1_kindOf_23 ?_
    refine A_if_eq_f (tgt := 33) dX1_kindOf_26 (by decide) (by decide) ?_
    refine A_iconst (v := 2) dX1_kindOf_29 (by decide) ?_
    refine A_goto (tgt := 34) dX1_kindOf_30 (by decide) ?_
    exact A_iret dX1_kindOf_34 rfl (⟨by rw [h8], rfl⟩)
  · skip
    have hP : σ.1 pl = some (.inr (.inl (10, []))) := by rw [h8] at hP; exact hP
    refine A_of rfl (by decide) (Nat.le_of_ble_eq_true rfl) (L0 := [(0, .ref pl)]) rfl ?_
    refine A_aload_n (i := 0) dX1_kindOf_0 rfl rfl ?_
    refine A_instNo hP rfl nc_X12_X8 q1420 dX1_kindOf_1 ?_
    refine A_if_eq_t (tgt := 11) dX1_kindOf_4 (by decide) (by decide) ?_
    refine A_aload_n (i := 0) dX1_kindOf_11 rfl rfl ?_
    refine A_instNo hP rfl nc_X12_X9 q1421 dX1_kindOf_12 ?_
    refine A_if_eq_t (tgt := 22) dX1_kindOf_15 (by decide) (by decide) ?_
    refine A_aload_n (i := 0) dX1_kindOf_22 rfl rfl ?_
    refine A_instNo hP rfl nc_X12_X11 q1422 dX1_kindOf_23 ?_
    refine A_if_eq_t (tgt := 33) dX1_kindOf_26 (by decide) (by decide) ?_
    refine A_iconst (v := 3) dX1_kindOf_33 (by decide) ?_
    exact A_iret dX1_kindOf_34 rfl (⟨by rw [h8], rfl⟩)
set_option maxHeartbeats 100000 in
theorem c_numberOf {l : Launch} {g : GC} (σ : AH) (pl : Nat) (F : Nat → Int32)  (hP : σ.1 pl = some (.inr (.inl (plc (F 8) (F 9) (F 10))))) (hk : PLk (F 8)) : AMet l g mX1_numberOf 1 0 [.ref pl] σ (A_eq (some (.int (if F 8 = 1 ∨ F 8 = 2 then F 9 else -1))) σ) A_no := by
  rcases hk with h8 | h8 | h8 | h8
  · skip
    have hP : σ.1 pl = some (.inr (.inl (7, []))) := by rw [h8] at hP; exact hP
    refine A_of rfl (by decide) (Nat.le_of_ble_eq_true rfl) (L0 := [(0, .ref pl)]) rfl ?_
    refine A_aload_n (i := 0) dX1_numberOf_0 rfl rfl ?_
    refine A_instNo hP rfl nc_X8_X9 q1421 dX1_numberOf_1 ?_
    refine A_if_eq_t (tgt := 19) dX1_numberOf_4 (by decide) (by decide) ?_
    refine A_aload_n (i := 0) dX1_numberOf_19 rfl rfl ?_
    refine A_instNo hP rfl nc_X8_X11 q1422 dX1_numberOf_20 ?_
    refine A_if_eq_t (tgt := 38) dX1_numberOf_23 (by decide) (by decide) ?_
    refine A_iconst (v := (-1)) dX1_numberOf_38 (by decide) ?_
    exact A_iret dX1_numberOf_39 rfl (⟨by simp [h8], rfl⟩)
  · skip
    have hP : σ.1 pl = some (.inr (.inl (8, [.int (F 9), .int (F 10)]))) := by rw [h8] at hP; exact hP
    refine A_of rfl (by decide) (Nat.le_of_ble_eq_true rfl) (L0 := [(0, .ref pl)]) rfl ?_
    refine A_aload_n (i := 0) dX1_numberOf_0 rfl rfl ?_
    refine A_instE hP rfl q1421 dX1_numberOf_1 ?_
    refine A_if_eq_f (tgt := 19) dX1_numberOf_4 (by decide) (by decide) ?_
    refine A_aload_n (i := 0) dX1_numberOf_7 rfl rfl ?_
    refine A_castE hP rfl q1421 dX1_numberOf_8 ?_
    refine A_astore_n (i := 2) dX1_numberOf_11 rfl (Nat.le_of_ble_eq_true rfl) ?_
    refine A_aload_n (i := 2) dX1_numberOf_12 rfl rfl ?_
    refine A_getfN cb_X9 hP 0 (Nat.le_of_ble_eq_true rfl) q1224 rfl (v := .int (F 9)) rfl dX1_numberOf_13 ?_
    refine A_goto (tgt := 39) dX1_numberOf_16 (by decide) ?_
    exact A_iret dX1_numberOf_39 rfl (⟨by simp [h8], rfl⟩)
  · skip
    have hP : σ.1 pl = some (.inr (.inl (9, [.int (F 9)]))) := by rw [h8] at hP; exact hP
    refine A_of rfl (by decide) (Nat.le_of_ble_eq_true rfl) (L0 := [(0, .ref pl)]) rfl ?_
    refine A_aload_n (i := 0) dX1_numberOf_0 rfl rfl ?_
    refine A_instNo hP rfl nc_X11_X9 q1421 dX1_numberOf_1 ?_
    refine A_if_eq_t (tgt := 19) dX1_numberOf_4 (by decide) (by decide) ?_
    refine A_aload_n (i := 0) dX1_numberOf_19 rfl rfl ?_
    refine A_instE hP rfl q1422 dX1_numberOf_20 ?_
    refine A_if_eq_f (tgt := 38) dX1_numberOf_23 (by decide) (by decide) ?_
    refine A_aload_n (i := 0) dX1_numberOf_26 rfl rfl ?_
    refine A_castE hP rfl q1422 dX1_numberOf_27 ?_
    refine A_astore_n (i := 1) dX1_numberOf_30 rfl (Nat.le_of_ble_eq_true rfl) ?_
    refine A_aload_n (i := 1) dX1_numberOf_31 rfl rfl ?_
    refine A_getfN cb_X11 hP 0 (Nat.le_of_ble_eq_true rfl) q1343 rfl (v := .int (F 9)) rfl dX1_numberOf_32 ?_
    refine A_goto (tgt := 39) dX1_numberOf_35 (by decide) ?_
    exact A_iret dX1_numberOf_39 rfl (⟨by simp [h8], rfl⟩)
  · skip
    have hP : σ.1 pl = some (.inr (.inl (10, []))) := by rw [h8] at hP; exact hP
    refine A_of rfl (by decide) (Nat.le_of_ble_eq_true rfl) (L0 := [(0, .ref pl)]) rfl ?_
    refine A_aload_n (i := 0) dX1_numberOf_0 rfl rfl ?_
    refine A_instNo hP rfl nc_X12_X9 q1421 dX1_numberOf_1 ?_
    refine A_if_eq_t (tgt := 19) dX1_numberOf_4 (by decide) (by decide) ?_
    refine A_aload_n (i := 0) dX1_numberOf_19 rfl rfl ?_
    refine A_instNo hP rfl nc_X12_X11 q1422 dX1_numberOf_20 ?_
    refine A_if_eq_t (tgt := 38) dX1_numberOf_23 (by decide) (by decide) ?_
    refine A_iconst (v := (-1)) dX1_numberOf_38 (by decide) ?_
    exact A_iret dX1_numberOf_39 rfl (⟨by simp [h8], rfl⟩)
set_option maxHeartbeats 100000 in
theorem c_fGets {l : Launch} {g : GC} (σ : AH) (a pl : Nat) (F : Nat → Int32) (r : Int32) (hF : σ.1 a = some (.inr (.inl (6, [.int (F 0), .int (F 1), .int (F 2), .int (F 3), .int (F 4), .int (F 5), .int (F 6), .int (F 7), .ref pl])))) : AMet l g mX7_gets 1 0 [.ref a, .int r] σ (A_eq (some (.int ((r &&& (F 1 ^^^ (-1))) &&& (F 6 ^^^ (-1))))) σ) (A_no) := by
  refine A_of rfl (by decide) (Nat.le_of_ble_eq_true rfl) (L0 := [(0, .ref a), (1, .int r)]) rfl ?_
  refine A_iload_n (i := 1) dX7_gets_0 rfl rfl ?_
  refine A_aload_n (i := 0) dX7_gets_1 rfl rfl ?_
  refine A_getf cb_X7 hF 1 (Nat.le_of_ble_eq_true rfl) q1099 rfl (v := .int (F 1)) rfl dX7_gets_2 ?_
  refine A_iconst (v := (-1)) dX7_gets_5 (by decide) ?_
  refine A_ixor dX7_gets_6 ?_
  refine A_iand dX7_gets_7 ?_
  refine A_aload_n (i := 0) dX7_gets_8 rfl rfl ?_
  refine A_getf cb_X7 hF 6 (Nat.le_of_ble_eq_true rfl) q1114 rfl (v := .int (F 6)) rfl dX7_gets_9 ?_
  refine A_iconst (v := (-1)) dX7_gets_12 (by decide) ?_
  refine A_ixor dX7_gets_13 ?_
  refine A_iand dX7_gets_14 ?_
  exact A_iret dX7_gets_15 rfl (⟨rfl, rfl⟩)
set_option maxHeartbeats 100000 in
theorem c_nLate {l : Launch} {g : GC} (σ : AH) (a : Nat) (d9 f9 g9 h9 : Int32) (h : Int32) (hN : σ.1 a = some (.inr (.inl (5, [.int d9, .int f9, .int g9, .int h9])))) : AMet l g mX6_late 1 0 [.ref a, .int h] σ (A_eq (some (.int (mx 0 (h - d9)))) σ) (A_no) := by
  refine A_of rfl (by decide) (Nat.le_of_ble_eq_true rfl) (L0 := [(0, .ref a), (1, .int h)]) rfl ?_
  refine A_iconst (v := 0) dX6_late_0 (by decide) ?_
  refine A_iload_n (i := 1) dX6_late_1 rfl rfl ?_
  refine A_aload_n (i := 0) dX6_late_2 rfl rfl ?_
  refine A_getf cb_X6 hN 0 (Nat.le_of_ble_eq_true rfl) q983 rfl (v := .int d9) rfl dX6_late_3 ?_
  refine A_isub dX6_late_6 ?_
  refine A_mmax q1482 q454 q150 q455 dX6_late_7 (by decide) (Nat.le_of_ble_eq_true rfl) ?_
  refine A_int (w := (mx 0 (h - d9))) rfl ?_
  exact A_iret dX6_late_10 rfl (⟨rfl, rfl⟩)
set_option maxHeartbeats 100000 in
theorem c_nPays {l : Launch} {g : GC} (σ : AH) (a : Nat) (d9 f9 g9 h9 : Int32) (h : Int32) (hN : σ.1 a = some (.inr (.inl (5, [.int d9, .int f9, .int g9, .int h9])))) : AMet l g mX6_pays 3 0 [.ref a, .int h] σ (A_eq (some (.int (mx 0 (f9 - (g9 * mx 0 (h - d9)))))) σ) (A_no) := by
  refine A_of rfl (by decide) (Nat.le_of_ble_eq_true rfl) (L0 := [(0, .ref a), (1, .int h)]) rfl ?_
  refine A_iconst (v := 0) dX6_pays_0 (by decide) ?_
  refine A_aload_n (i := 0) dX6_pays_1 rfl rfl ?_
  refine A_getf cb_X6 hN 1 (Nat.le_of_ble_eq_true rfl) q985 rfl (v := .int f9) rfl dX6_pays_2 ?_
  refine A_aload_n (i := 0) dX6_pays_5 rfl rfl ?_
  refine A_getf cb_X6 hN 2 (Nat.le_of_ble_eq_true rfl) q988 rfl (v := .int g9) rfl dX6_pays_6 ?_
  refine A_aload_n (i := 0) dX6_pays_9 rfl rfl ?_
  refine A_iload_n (i := 1) dX6_pays_10 rfl rfl ?_
  refine A_callV1E (b' := 0) (v := some (.int (mx 0 (h - d9)))) (τ := σ) (c_nLate σ a d9 f9 g9 h9 h hN) tX6_late q1864 hN rfl rfl dX6_pays_11 (by decide) (Nat.le_of_ble_eq_true rfl) (Nat.le_of_ble_eq_true rfl) ?_
  refine A_imul dX6_pays_14 ?_
  refine A_isub dX6_pays_15 ?_
  refine A_mmax q1482 q454 q150 q455 dX6_pays_16 (by decide) (Nat.le_of_ble_eq_true rfl) ?_
  refine A_int (w := (mx 0 (f9 - (g9 * (mx 0 (h - d9)))))) rfl ?_
  exact A_iret dX6_pays_19 rfl (⟨rfl, rfl⟩)
set_option maxHeartbeats 100000 in
theorem c_one1 {l : Launch} {g : GC} (σ : AH) (x : Int32)  : AMet l g mX1_one 1 0 [.int x] σ (A_eq (some (.int (oneI x))) σ) (A_no) := by
  refine A_of rfl (by decide) (Nat.le_of_ble_eq_true rfl) (L0 := [(0, .int x)]) rfl ?_
  refine A_iload_n (i := 0) dX1_one_0 rfl rfl ?_
  refine A_if_eq (tgt := 8) dX1_one_1 (by decide) (fun c1 => ?_) (fun c1 => ?_)
  · skip
    refine A_iconst (v := 0) dX1_one_8 (by decide) ?_
    exact A_iret dX1_one_9 rfl (⟨by simp [oneI, c1], rfl⟩)
  · skip
    refine A_iconst (v := 1) dX1_one_4 (by decide) ?_
    refine A_goto (tgt := 9) dX1_one_5 (by decide) ?_
    exact A_iret dX1_one_9 rfl (⟨by simp [oneI, c1], rfl⟩)
set_option maxHeartbeats 100000 in
theorem c_has1 {l : Launch} {g : GC} (σ : AH) (s k : Int32)  : AMet l g mX1_has 1 0 [.int s, .int k] σ (A_eq (some (.int (bi (hasB s k)))) σ) (A_no) := by
  refine A_of rfl (by decide) (Nat.le_of_ble_eq_true rfl) (L0 := [(0, .int s), (1, .int k)]) rfl ?_
  refine A_iload_n (i := 0) dX1_has_0 rfl rfl ?_
  refine A_iload_n (i := 1) dX1_has_1 rfl rfl ?_
  refine A_ishr dX1_has_2 ?_
  refine A_iconst (v := 1) dX1_has_3 (by decide) ?_
  refine A_iand dX1_has_4 ?_
  refine A_iconst (v := 1) dX1_has_5 (by decide) ?_
  refine A_icmp_ne (tgt := 13) dX1_has_6 (by decide) (fun c1 => ?_) (fun c1 => ?_)
  · skip
    refine A_iconst (v := 0) dX1_has_13 (by decide) ?_
    exact A_zret dX1_has_14 rfl (rfl) (⟨by simp [bi, hasB, c1], rfl⟩)
  · skip
    refine A_iconst (v := 1) dX1_has_9 (by decide) ?_
    refine A_goto (tgt := 14) dX1_has_10 (by decide) ?_
    exact A_zret dX1_has_14 rfl (rfl) (⟨by simp [bi, hasB, c1], rfl⟩)
