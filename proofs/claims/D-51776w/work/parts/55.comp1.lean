/-! THE COMPONENT 3: the world's questions -/
/-- a call of holds on the object a answers p of the flag; the heap stays -/
def callsT (l : Launch) (g : GC) (σ : AH) (e a : Nat) (fa : Nat → Nat) (n : Nat) (p : Nat → Prop) [DecidablePred p] : Prop :=
  ∀ f, f < n → ∀ {mi : MI} {d b : Nat} {Q : Option Value → AH → Prop} {X : String → Nat → AH → Prop} {pc : Nat} {L : List (Nat × Value)} {st : List Value} {ix cnt : Nat}, Cond.methodLink mi.1.cls ix ⟨"FlagLaundry$Test", "holds", "(LFlagLaundry$Flag;)Z"⟩ ∈ lw_all → decode mi.2.1 pc = .ok (.invokeinterface ix cnt, 5) → e ≤ d → (st.map fun v => v.category).sum ≤ 8 → AW l g mi d b Q X (pc + 5) L (.int (bi (p f)) :: st) σ → AW l g mi d b Q X pc L (.ref (fa f) :: .ref a :: st) σ
set_option maxHeartbeats 100000 in
theorem c_many {l : Launch} {g : GC} (σ : AH) (W : WA) (N : AF) (hR : RW g σ W N) (hW : WFc N) : AMet l g mX5_many 2 0 [.ref (wW W)] σ (A_eq (some (.int (nI (nF N)))) σ) (A_no) := by
  refine A_of rfl (by decide) (Nat.le_of_ble_eq_true rfl) (L0 := [(0, .ref (wW W))]) rfl ?_
  have hR9 := hR
  obtain ⟨h1, ⟨fr, h2, h2'⟩, ⟨fm, h3, h3'⟩, ⟨mcn, fnA, h4, h4', h4''⟩, ⟨mcf, ffA, h5, h5', h5''⟩, ⟨fu, h6, h6'⟩, h7, h8, h9, h10, h11⟩ := hR
  have hF12 : nF N ≤ 12 := hW.2.2.2.2.2
  have hN4 : nN N ≤ 4 := hW.2.1.2
  have hC6 : nC N ≤ 6 := hW.1.2
  have hT3 : nT N ≤ 3 := hW.2.2.1.2
  have hP8 : nP N ≤ 8 := hW.2.2.2.1.2
  refine A_aload_n (i := 0) dX5_many_0 rfl rfl ?_
  refine A_getf cb_X5 h1 4 (Nat.le_of_ble_eq_true rfl) q833 rfl (v := .ref (wFL W)) rfl dX5_many_1 ?_
  refine A_callF0E (b' := 0) (v := some (.int (nI (nF N)))) (τ := σ) (c_lSize σ (wFL W) (wFA W) (nF N) mcf h5) tF_size q1079 h5 rfl dX5_many_4 (by decide) (Nat.le_of_ble_eq_true rfl) (Nat.le_of_ble_eq_true rfl) ?_
  exact A_iret dX5_many_9 rfl (⟨rfl, rfl⟩)
set_option maxHeartbeats 100000 in
theorem c_flagOf {l : Launch} {g : GC} (σ : AH) (W : WA) (N : AF) (f : Nat) (hR : RW g σ W N) (hW : WFc N) (hf : f < nF N) : AMet l g mX5_flagOf 4 0 [.ref (wW W), .int (nI f)] σ (A_eq (some (.ref (wF W f))) σ) (A_no) := by
  refine A_of rfl (by decide) (Nat.le_of_ble_eq_true rfl) (L0 := [(0, .ref (wW W)), (1, .int (nI f))]) rfl ?_
  have hR9 := hR
  obtain ⟨h1, ⟨fr, h2, h2'⟩, ⟨fm, h3, h3'⟩, ⟨mcn, fnA, h4, h4', h4''⟩, ⟨mcf, ffA, h5, h5', h5''⟩, ⟨fu, h6, h6'⟩, h7, h8, h9, h10, h11⟩ := hR
  have hF12 : nF N ≤ 12 := hW.2.2.2.2.2
  have hN4 : nN N ≤ 4 := hW.2.1.2
  have hC6 : nC N ≤ 6 := hW.1.2
  have hT3 : nT N ≤ 3 := hW.2.2.1.2
  have hP8 : nP N ≤ 8 := hW.2.2.2.1.2
  refine A_aload_n (i := 0) dX5_flagOf_0 rfl rfl ?_
  refine A_getf cb_X5 h1 4 (Nat.le_of_ble_eq_true rfl) q833 rfl (v := .ref (wFL W)) rfl dX5_flagOf_1 ?_
  refine A_iload_n (i := 1) dX5_flagOf_4 rfl rfl ?_
  refine A_callF1E (b' := 0) (v := some (.ref (wF W f))) (τ := σ) (c_lGet σ (wFL W) (wFA W) (nF N) 12 mcf ffA f (wF W f) h5 h5' hf hF12 (by decide) (h5'' f hf)) tF_get q1158 h5 rfl dX5_flagOf_5 (by decide) (Nat.le_of_ble_eq_true rfl) (Nat.le_of_ble_eq_true rfl) ?_
  skip
  refine A_castE (h7 f hf) rfl q1174 dX5_flagOf_10 ?_
  exact A_aret dX5_flagOf_13 rfl (Or.inl ⟨_, rfl⟩) (Or.inr ⟨_, rfl⟩) (⟨rfl, rfl⟩)
set_option maxHeartbeats 100000 in
theorem c_cnt {l : Launch} {g : GC} (σ : AH) (W : WA) (N : AF) (a : Nat) (p : Nat → Prop) [DecidablePred p] (hR : RW g σ W N) (hW : WFc N) (hT : callsT l g σ 30 a (wF W) (nF N) p) : AMet l g mX5_count 30 0 [.ref (wW W), .ref a] σ (A_eq (some (.int (sm (fun f => bi (p f)) (nF N)))) σ) (A_no) := by
  refine A_of rfl (by decide) (Nat.le_of_ble_eq_true rfl) (L0 := [(0, .ref (wW W)), (1, .ref a)]) rfl ?_
  have hR9 := hR
  obtain ⟨h1, ⟨fr, h2, h2'⟩, ⟨fm, h3, h3'⟩, ⟨mcn, fnA, h4, h4', h4''⟩, ⟨mcf, ffA, h5, h5', h5''⟩, ⟨fu, h6, h6'⟩, h7, h8, h9, h10, h11⟩ := hR
  have hF12 : nF N ≤ 12 := hW.2.2.2.2.2
  have hN4 : nN N ≤ 4 := hW.2.1.2
  have hC6 : nC N ≤ 6 := hW.1.2
  have hT3 : nT N ≤ 3 := hW.2.2.1.2
  have hP8 : nP N ≤ 8 := hW.2.2.2.1.2
  refine A_iconst (v := 0) dX5_count_0 (by decide) ?_
  refine A_istore_n (i := 2) dX5_count_1 rfl (Nat.le_of_ble_eq_true rfl) ?_
  refine A_iconst (v := 0) dX5_count_2 (by decide) ?_
  refine A_istore_n (i := 3) dX5_count_3 rfl (Nat.le_of_ble_eq_true rfl) ?_
  refine A_sub (L' := [(0, .ref (wW W)), (1, .ref a), (2, .int (sm (fun f => bi (p f)) 0)), (3, .int (nI 0))]) ⟨rfl, rfl, rfl, rfl, trivial⟩ ?_
  refine A_for (nF N) (fun i4 => 0) (fun i4 => [(0, .ref (wW W)), (1, .ref a), (2, .int (sm (fun f => bi (p f)) i4)), (3, .int (nI i4))]) (fun i4 => σ) (fun i4 => True) trivial (fun i4 hi4 hI4 ih4 => ?_) (fun hI4 => ?_)
  · skip
    refine A_iload_n (i := 3) dX5_count_4 rfl rfl ?_
    refine A_aload_n (i := 0) dX5_count_5 rfl rfl ?_
    refine A_callV0E (b' := 0) (v := some (.int (nI (nF N)))) (τ := σ) (c_many σ W N hR9 hW) tX5_many q1199 h1 rfl rfl dX5_count_6 (by decide) (Nat.le_of_ble_eq_true rfl) (Nat.le_of_ble_eq_true rfl) ?_
    refine A_icmp_ge_f (tgt := 35) dX5_count_9 (by decide) (br_lt rfl hi4 (by omega)) ?_
    refine A_iload_n (i := 2) dX5_count_12 rfl rfl ?_
    refine A_aload_n (i := 1) dX5_count_13 rfl rfl ?_
    refine A_aload_n (i := 0) dX5_count_14 rfl rfl ?_
    refine A_iload_n (i := 3) dX5_count_15 rfl rfl ?_
    refine A_callV1E (b' := 0) (v := some (.ref (wF W i4))) (τ := σ) (c_flagOf σ W N i4 hR9 hW hi4) tX5_flagOf q1200 h1 rfl rfl dX5_count_16 (by decide) (Nat.le_of_ble_eq_true rfl) (Nat.le_of_ble_eq_true rfl) ?_
    refine hT i4 hi4 q1202 dX5_count_19 (by decide) (Nat.le_of_ble_eq_true rfl) ?_
    refine A_callSN1E (b' := 0) (v := some (.int (oneI (bi (p i4))))) (τ := σ) (c_one1 σ (bi (p i4))) tX1_one q1205 dX5_count_24 (by decide) (Nat.le_of_ble_eq_true rfl) (Nat.le_of_ble_eq_true rfl) ?_
    refine A_int (w := bi (p i4)) (oneI_bi _) ?_
    refine A_iadd dX5_count_27 ?_
    refine A_int (w := sm (fun f => bi (p f)) (i4 + 1)) (rfl) ?_
    refine A_istore_n (i := 2) dX5_count_28 rfl (Nat.le_of_ble_eq_true rfl) ?_
    refine A_iinc (v := nI (i4 + 1)) dX5_count_29 rfl (nI_inc _ _) (Nat.le_of_ble_eq_true rfl) ?_
    refine A_goto (tgt := 4) dX5_count_32 (by decide) ?_
    refine A_sub (L' := [(0, .ref (wW W)), (1, .ref a), (2, .int (sm (fun f => bi (p f)) (i4 + 1))), (3, .int (nI (i4 + 1)))]) ⟨rfl, rfl, rfl, rfl, trivial⟩ ?_
    exact ih4 trivial
  · skip
    refine A_iload_n (i := 3) dX5_count_4 rfl rfl ?_
    refine A_aload_n (i := 0) dX5_count_5 rfl rfl ?_
    refine A_callV0E (b' := 0) (v := some (.int (nI (nF N)))) (τ := σ) (c_many σ W N hR9 hW) tX5_many q1199 h1 rfl rfl dX5_count_6 (by decide) (Nat.le_of_ble_eq_true rfl) (Nat.le_of_ble_eq_true rfl) ?_
    refine A_icmp_ge_t (tgt := 35) dX5_count_9 (by decide) (br_ge rfl) ?_
    refine A_iload_n (i := 2) dX5_count_35 rfl rfl ?_
    exact A_iret dX5_count_36 rfl (⟨rfl, rfl⟩)
