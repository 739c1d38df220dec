/-! THE COMPONENT 10: the world's changes -/
/-- the answer v; the world is now N'; below lo all is kept -/
def A_mut (g : GC) (v : Option Value) (lo : Nat) (W : WA) (N' : AF) (σ : AH) : Option Value → AH → Prop := fun w τ => w = v ∧ (∃ P, RW g τ (setP W P) N') ∧ kl lo σ τ
theorem own.sP {lo : Nat} {W : WA} {N N' : AF} {P : Nat → Nat} (h : own lo W N) (e7 : nN N' = nN N) (e10 : nF N' = nF N) : own lo (setP W P) N' := by
  unfold own
  rw [e7, e10]
  exact h
theorem RW.sP {g : GC} {σ : AH} {W : WA} {N : AF} (h : RW g σ W N) : RW g σ (setP W (wP W)) N := h
theorem kl.new {lo : Nat} {σ τ : AH} {e : AE} (h : kl lo σ τ) (hl : lo ≤ σ.2) : kl lo σ (h_new τ e) := h.tr ((ext_new τ e).kl (Nat.le_trans hl h.1))
theorem kl.put {lo a : Nat} {σ τ : AH} {e : AE} (h : kl lo σ τ) (ha : lo ≤ a) : kl lo σ (h_put τ a e) := ⟨h.1, fun b hb => (hp_ne (Nat.ne_of_lt (Nat.lt_of_lt_of_le hb ha))).trans (h.2 b hb)⟩
theorem kl.ex {lo : Nat} {σ τ ρ : AH} (h : kl lo σ τ) (hl : lo ≤ σ.2) (x : ext τ ρ) : kl lo σ ρ := h.tr (x.kl (Nat.le_trans hl h.1))
theorem kl.kx {lo A : Nat} {σ τ ρ : AH} (h : kl lo σ τ) (hl : lo ≤ σ.2) (hA : lo ≤ A) (k : kx A τ ρ) : kl lo σ ρ := h.tr (_root_.Jvm.Pilot.CFlagLaundryLaw_law_r9784_83ea13.kx.kl k (Nat.le_trans hl h.1) hA)
set_option maxHeartbeats 200000 in
theorem c_dirtIf5 {l : Launch} {g : GC} (σ : AH) (W : WA) (N : AF) (t : Int32) (k : Nat) (hR : RW g σ W N) (hD : WFd N) (hk : k ≤ 3) : AMet l g mX5_dirtIf 5 0 [.ref (wW W), .int t, .int (nI k)] σ (A_eq (some (.int (dirtBy N t (nI k)))) σ) (A_no) := by
  refine A_of rfl (by decide) (Nat.le_of_ble_eq_true rfl) (L0 := [(0, .ref (wW W)), (1, .int t), (2, .int (nI k))]) rfl ?_
  have hW := hD.1
  have hR9 := hR
  obtain ⟨h1, ⟨fr, h2, h2p⟩, ⟨fm, h3, h3p⟩, ⟨mcn, fnA, h4, h4p, h4q⟩, ⟨mcf, ffA, h5, h5p, h5q⟩, ⟨fu, h6, h6p⟩, h7, h8, h9, h10, h11⟩ := hR
  have hF12 : nF N ≤ 12 := hW.2.2.2.2.2
  have hN4 : nN N ≤ 4 := hW.2.1.2
  have hC6 : nC N ≤ 6 := hW.1.2
  have hT3 : nT N ≤ 3 := hW.2.2.1.2
  have hP8 : nP N ≤ 8 := hW.2.2.2.1.2
  refine A_gok (fun hg => ?_)
  obtain ⟨qh, hs, hh⟩ := heat_ex hg hk
  refine A_iconst (v := 0) dX5_dirtIf_0 (by decide) ?_
  refine A_istore_n (i := 3) dX5_dirtIf_1 rfl (Nat.le_of_ble_eq_true rfl) ?_
  refine A_iconst (v := 0) dX5_dirtIf_2 (by decide) ?_
  refine A_istore dX5_dirtIf_3 (Nat.le_of_ble_eq_true rfl) ?_
  refine A_sub (L' := [(0, .ref (wW W)), (1, .int t), (2, .int (nI k)), (3, .int (sm (fun f => if inTub N f t then dirtB N f (nI k) else 0) 0)), (4, .int (nI 0))]) ⟨rfl, rfl, rfl, rfl, rfl, trivial⟩ ?_
  refine A_for (nF N) (fun i5 => 0) (fun i5 => [(0, .ref (wW W)), (1, .int t), (2, .int (nI k)), (3, .int (sm (fun f => if inTub N f t then dirtB N f (nI k) else 0) i5)), (4, .int (nI i5))]) (fun i5 => σ) (fun i5 => True) trivial (fun i5 hi5 hI5 ih5 => ?_) (fun hI5 => ?_)
  · skip
    refine A_iload dX5_dirtIf_5 rfl ?_
    refine A_aload_n (i := 0) dX5_dirtIf_7 rfl rfl ?_
    refine A_callV0E (b' := 0) (v := some (.int (nI (nF N)))) (τ := σ) (c_many σ W N hR9 hW) tX5_many q1199 h1 rfl rfl dX5_dirtIf_8 (by decide) (Nat.le_of_ble_eq_true rfl) (Nat.le_of_ble_eq_true rfl) ?_
    refine A_icmp_ge_f (tgt := 53) dX5_dirtIf_11 (by decide) (br_lt rfl hi5 (by omega)) ?_
    refine A_iload_n (i := 3) dX5_dirtIf_14 rfl rfl ?_
    refine A_aload_n (i := 0) dX5_dirtIf_15 rfl rfl ?_
    refine A_iload dX5_dirtIf_16 rfl ?_
    refine A_callV1E (b' := 0) (v := some (.ref (wF W i5))) (τ := σ) (c_flagOf σ W N i5 hR9 hW hi5) tX5_flagOf q1200 h1 rfl rfl dX5_dirtIf_18 (by decide) (Nat.le_of_ble_eq_true rfl) (Nat.le_of_ble_eq_true rfl) ?_
    refine A_iload_n (i := 1) dX5_dirtIf_21 rfl rfl ?_
    refine A_callV1E (b' := 0) (v := some (.int (bi (inTub N i5 t)))) (τ := σ) (c_fIn σ (wF W i5) (wP W i5) (fl N i5) t (hR9.2.2.2.2.2.2.1 i5 hi5) (hR9.2.2.2.2.2.2.2.1 i5 hi5) (flok_k hD hi5)) tX7_isIn q1190 (hR9.2.2.2.2.2.2.1 i5 hi5) rfl rfl dX5_dirtIf_22 (by decide) (Nat.le_of_ble_eq_true rfl) (Nat.le_of_ble_eq_true rfl) ?_
    refine A_if_eq (tgt := 44) dX5_dirtIf_25 (by decide) (fun c1 => ?_) (fun c1 => ?_)
    · skip
      have c1 := bi_eq0.mp c1
      refine A_iconst (v := 0) dX5_dirtIf_44 (by decide) ?_
      refine A_iadd dX5_dirtIf_45 ?_
      refine A_int (w := sm (fun f => if inTub N f t then dirtB N f (nI k) else 0) (i5 + 1)) (by rw [sm_s, if_neg c1]) ?_
      refine A_int (w := sm (fun f => if inTub N f t then dirtB N f (nI k) else 0) (i5 + 1)) (by rw [sm_s, if_neg c1]) ?_
      refine A_istore_n (i := 3) dX5_dirtIf_46 rfl (Nat.le_of_ble_eq_true rfl) ?_
      refine A_iinc (v := nI (i5 + 1)) dX5_dirtIf_47 rfl (nI_inc _ _) (Nat.le_of_ble_eq_true rfl) ?_
      refine A_goto (tgt := 5) dX5_dirtIf_50 (by decide) ?_
      refine A_sub (L' := [(0, .ref (wW W)), (1, .int t), (2, .int (nI k)), (3, .int (sm (fun f => if inTub N f t then dirtB N f (nI k) else 0) (i5 + 1))), (4, .int (nI (i5 + 1)))]) ⟨rfl, rfl, rfl, rfl, rfl, trivial⟩ ?_
      exact ih5 trivial
    · skip
      have c1 := bi_ne0.mp c1
      refine A_aload_n (i := 0) dX5_dirtIf_28 rfl rfl ?_
      refine A_iload dX5_dirtIf_29 rfl ?_
      refine A_callV1E (b' := 0) (v := some (.ref (wF W i5))) (τ := σ) (c_flagOf σ W N i5 hR9 hW hi5) tX5_flagOf q1200 h1 rfl rfl dX5_dirtIf_31 (by decide) (Nat.le_of_ble_eq_true rfl) (Nat.le_of_ble_eq_true rfl) ?_
      refine A_iload_n (i := 2) dX5_dirtIf_34 rfl rfl ?_
      refine A_callS1E (b' := 0) (v := some (.ref qh)) (τ := σ) (c_hOf σ hs) tX10_of q1258 dX5_dirtIf_35 (by decide) (Nat.le_of_ble_eq_true rfl) (Nat.le_of_ble_eq_true rfl) ?_
      refine A_callV1E (b' := 0) (v := some (.int (dirtB N i5 (nI k)))) (τ := σ) (c_fWashed σ (wF W i5) (wP W i5) (fl N i5) k qh (hR9.2.2.2.2.2.2.1 i5 hi5) hh) tX7_washed q1748 (hR9.2.2.2.2.2.2.1 i5 hi5) rfl rfl dX5_dirtIf_38 (by decide) (Nat.le_of_ble_eq_true rfl) (Nat.le_of_ble_eq_true rfl) ?_
      refine A_goto (tgt := 45) dX5_dirtIf_41 (by decide) ?_
      refine A_iadd dX5_dirtIf_45 ?_
      refine A_int (w := sm (fun f => if inTub N f t then dirtB N f (nI k) else 0) (i5 + 1)) (by rw [sm_s, if_pos c1]) ?_
      refine A_int (w := sm (fun f => if inTub N f t then dirtB N f (nI k) else 0) (i5 + 1)) (by rw [sm_s, if_pos c1]) ?_
      refine A_istore_n (i := 3) dX5_dirtIf_46 rfl (Nat.le_of_ble_eq_true rfl) ?_
      refine A_iinc (v := nI (i5 + 1)) dX5_dirtIf_47 rfl (nI_inc _ _) (Nat.le_of_ble_eq_true rfl) ?_
      refine A_goto (tgt := 5) dX5_dirtIf_50 (by decide) ?_
      refine A_sub (L' := [(0, .ref (wW W)), (1, .int t), (2, .int (nI k)), (3, .int (sm (fun f => if inTub N f t then dirtB N f (nI k) else 0) (i5 + 1))), (4, .int (nI (i5 + 1)))]) ⟨rfl, rfl, rfl, rfl, rfl, trivial⟩ ?_
      exact ih5 trivial
  · skip
    refine A_iload dX5_dirtIf_5 rfl ?_
    refine A_aload_n (i := 0) dX5_dirtIf_7 rfl rfl ?_
    refine A_callV0E (b' := 0) (v := some (.int (nI (nF N)))) (τ := σ) (c_many σ W N hR9 hW) tX5_many q1199 h1 rfl rfl dX5_dirtIf_8 (by decide) (Nat.le_of_ble_eq_true rfl) (Nat.le_of_ble_eq_true rfl) ?_
    refine A_icmp_ge_t (tgt := 53) dX5_dirtIf_11 (by decide) (br_ge rfl) ?_
    refine A_iload_n (i := 3) dX5_dirtIf_53 rfl rfl ?_
    exact A_iret dX5_dirtIf_54 rfl (⟨rfl, rfl⟩)
set_option maxHeartbeats 200000 in
theorem c_nation5 {l : Launch} {g : GC} (σ : AH) (W : WA) (N : AF) (n : Nat) (hR : RW g σ W N) (hD : WFd N) (hn : n < nN N) : AMet l g mX5_nation 4 0 [.ref (wW W), .int (nI n)] σ (A_eq (some (.ref (wN W n))) σ) (A_no) := by
  refine A_of rfl (by decide) (Nat.le_of_ble_eq_true rfl) (L0 := [(0, .ref (wW W)), (1, .int (nI n))]) rfl ?_
  have hW := hD.1
  have hR9 := hR
  obtain ⟨h1, ⟨fr, h2, h2p⟩, ⟨fm, h3, h3p⟩, ⟨mcn, fnA, h4, h4p, h4q⟩, ⟨mcf, ffA, h5, h5p, h5q⟩, ⟨fu, h6, h6p⟩, h7, h8, h9, h10, h11⟩ := hR
  have hF12 : nF N ≤ 12 := hW.2.2.2.2.2
  have hN4 : nN N ≤ 4 := hW.2.1.2
  have hC6 : nC N ≤ 6 := hW.1.2
  have hT3 : nT N ≤ 3 := hW.2.2.1.2
  have hP8 : nP N ≤ 8 := hW.2.2.2.1.2
  obtain ⟨hh9, hn9, hd9⟩ := h9 n hn
  refine A_aload_n (i := 0) dX5_nation_0 rfl rfl ?_
  refine A_getf cb_X5 h1 3 (Nat.le_of_ble_eq_true rfl) q830 rfl (v := .ref (wNL W)) rfl dX5_nation_1 ?_
  refine A_iload_n (i := 1) dX5_nation_4 rfl rfl ?_
  refine A_callF1E (b' := 0) (v := some (.ref (wN W n))) (τ := σ) (c_lGet σ (wNL W) (wNA W) (nN N) 4 mcn fnA n (wN W n) h4 h4p hn hN4 (by decide) (h4q n hn)) tF_get q1158 h4 rfl dX5_nation_5 (by decide) (Nat.le_of_ble_eq_true rfl) (Nat.le_of_ble_eq_true rfl) ?_
  refine A_castE hn9 rfl q1463 dX5_nation_10 ?_
  exact A_aret dX5_nation_13 rfl (Or.inl ⟨_, rfl⟩) (Or.inr ⟨_, rfl⟩) (⟨rfl, rfl⟩)
/-- the world's cell, where a number has changed -/
theorem wld_h {W W' : WA} {N N' : AF} (hw : wR W' = wR W ∧ wM W' = wM W ∧ wNL W' = wNL W ∧ wFL W' = wFL W ∧ wUN W' = wUN W) (h : ∀ j, j ≤ 11 → N' j = N j) : wldC W' N' = wldC W N := by
  obtain ⟨a1, a2, a3, a4, a5⟩ := hw
  unfold wldC
  rw [h 9 (by decide), h 6 (by decide), h 8 (by decide), h 0 (by decide), h 1 (by decide), h 2 (by decide), h 3 (by decide), h 4 (by decide), h 5 (by decide), h 11 (by decide), a1, a2, a3, a4, a5]
theorem wld_up {W : WA} {N N' : AF} {P : Nat → Nat} (h : ∀ j, j < 41 → N' j = N j) (k : Nat) (v : Int32) : wldC (setP W P) (va_up N' k v) = wldC W (va_up N k v) := wld_h ⟨rfl, rfl, rfl, rfl, rfl⟩ (fun j hj => by
  unfold va_up
  split
  · rfl
  · exact h j (by omega))
set_option maxHeartbeats 200000 in
theorem c_puts5 {l : Launch} {g : GC} (σ : AH) (W : WA) (N : AF) (lo f t : Nat) (hR : RW g σ W N) (hD : WFd N) (hO : own lo W N) (hl : lo ≤ σ.2) (hf : f < nF N) (ht : t < nT N) : AMet l g mX5_puts 34 2 [.ref (wW W), .int (nI f), .int (nI t)] σ (A_mut g (some (.int (manyT (putIn N f (nI t)) (nI t)))) lo W (putIn N f (nI t)) σ) (A_no) := by
  refine A_of rfl (by decide) (Nat.le_of_ble_eq_true rfl) (L0 := [(0, .ref (wW W)), (1, .int (nI f)), (2, .int (nI t))]) rfl ?_
  refine A_wfh (fun wσ hgσ => ?_)
  have qσ : kl lo σ σ := kl.rf
  have zσ : kx (wF W f) σ σ := kx.rf
  have hW := hD.1
  have hR9 := hR
  obtain ⟨h1, ⟨fr, h2, h2p⟩, ⟨fm, h3, h3p⟩, ⟨mcn, fnA, h4, h4p, h4q⟩, ⟨mcf, ffA, h5, h5p, h5q⟩, ⟨fu, h6, h6p⟩, h7, h8, h9, h10, h11⟩ := hR
  have hF12 : nF N ≤ 12 := hW.2.2.2.2.2
  have hN4 : nN N ≤ 4 := hW.2.1.2
  have hC6 : nC N ≤ 6 := hW.1.2
  have hT3 : nT N ≤ 3 := hW.2.2.1.2
  have hP8 : nP N ≤ 8 := hW.2.2.2.1.2
  refine A_aload_n (i := 0) dX5_puts_0 rfl rfl ?_
  refine A_iload_n (i := 1) dX5_puts_1 rfl rfl ?_
  refine A_callV1E (b' := 2) (v := some (.ref (wF W f))) (τ := σ) (c_flagOf σ W N f hR9 hW hf) tX5_flagOf q1200 h1 rfl rfl dX5_puts_2 (by decide) (Nat.le_of_ble_eq_true rfl) (Nat.le_of_ble_eq_true rfl) ?_
  refine A_new (b' := 1) (u := 1) cb_X9 q810 q1217 q166 (fs := [.int 0, .int 0]) (by intro j hj; rcases j with _ | j; exact rfl; rcases j with _ | j; exact rfl; omega) (Nat.le_of_ble_eq_true rfl) ⟨Nat.le_of_ble_eq_true rfl, Nat.le_of_ble_eq_true rfl⟩ dX5_puts_5 ?_
  obtain ⟨σ1, eσ1⟩ : ∃ τ, τ = h_new σ (.inr (.inl (8, [.int 0, .int 0]))) := ⟨_, rfl⟩
  refine A_st (σ' := σ1) eσ1.symm ?_
  have wσ1 : wfh σ1 := by rw [eσ1]; exact wσ.new
  have fσ1_0 : σ1.1 (wW W) = some (.inr (.inl (4, [.int (N 9), .ref (wR W), .ref (wM W), .ref (wNL W), .ref (wFL W), .ref (wUN W), .int (N 6), .int (N 8), .int (N 0), .int (N 1), .int (N 2), .int (N 3), .int (N 4), .int (N 5), .int (N 11)]))) := by rw [eσ1]; exact (hn_ne (Nat.ne_of_lt (wσ _ _ h1))).trans h1
  have fσ1_1 : σ1.1 (wFL W) = some (.inr (.inl (14, [.int mcf, .ref (wFA W), .int (nI (nF N))]))) := by rw [eσ1]; exact (hn_ne (Nat.ne_of_lt (wσ _ _ h5))).trans h5
  have fσ1_2 : σ1.1 (wFA W) = some (.inl (.object "java/lang/Object", 12, .inr (.inr (.inr (.inr ffA))))) := by rw [eσ1]; exact (hn_ne (Nat.ne_of_lt (wσ _ _ h5p))).trans h5p
  have fσ1_3 : σ1.1 (wNL W) = some (.inr (.inl (14, [.int mcn, .ref (wNA W), .int (nI (nN N))]))) := by rw [eσ1]; exact (hn_ne (Nat.ne_of_lt (wσ _ _ h4))).trans h4
  have fσ1_4 : σ1.1 (wNA W) = some (.inl (.object "java/lang/Object", 4, .inr (.inr (.inr (.inr fnA))))) := by rw [eσ1]; exact (hn_ne (Nat.ne_of_lt (wσ _ _ h4p))).trans h4p
  have fσ1_5 : σ1.1 (wR W) = some (.inl (.int, 6, .inl fr)) := by rw [eσ1]; exact (hn_ne (Nat.ne_of_lt (wσ _ _ h2))).trans h2
  have fσ1_6 : σ1.1 (wM W) = some (.inl (.int, 3, .inl fm)) := by rw [eσ1]; exact (hn_ne (Nat.ne_of_lt (wσ _ _ h3))).trans h3
  have fσ1_7 : σ1.1 (wUN W) = some (.inl (.object "FlagLaundry$Test", 7, .inr (.inr (.inr (.inr fu))))) := by rw [eσ1]; exact (hn_ne (Nat.ne_of_lt (wσ _ _ h6))).trans h6
  have fσ1_8 : σ1.1 (wF W f) = some (.inr (.inl (6, [.int (fl N f 0), .int (fl N f 1), .int (fl N f 2), .int (fl N f 3), .int (fl N f 4), .int (fl N f 5), .int (fl N f 6), .int (fl N f 7), .ref (wP W f)]))) := by rw [eσ1]; exact (hn_ne (Nat.ne_of_lt (wσ _ _ (hR9.2.2.2.2.2.2.1 f hf)))).trans (hR9.2.2.2.2.2.2.1 f hf)
  have fσ1_9 : σ1.1 σ.2 = some (.inr (.inl (8, [.int 0, .int 0]))) := by rw [eσ1]; exact if_pos rfl
  have xσ1 : ext σ σ1 := by rw [eσ1]; exact ext_new _ _
  have qσ1 : kl lo σ σ1 := by rw [eσ1]; exact qσ.new hl
  have zσ1 : kx (wF W f) σ σ1 := by rw [eσ1]; exact zσ.new
  have hRσ1 : RW g σ1 W N := hR9.ext wσ xσ1
  refine A_dup dX5_puts_8 rfl ?_
  refine A_iload_n (i := 2) dX5_puts_9 rfl rfl ?_
  refine A_aload_n (i := 0) dX5_puts_10 rfl rfl ?_
  refine A_getf cb_X5 fσ1_0 14 (Nat.le_of_ble_eq_true rfl) q856 rfl (v := .int (N 11)) rfl dX5_puts_11 ?_
  refine A_callI2 (b' := 1) (c_X9init σ1 σ.2 (nI t) (N 11) fσ1_9) tX9_init q1218 dX5_puts_14 (by decide) (Nat.le_of_ble_eq_true rfl) (Nat.le_of_ble_eq_true rfl) (fun w9 σ2 h9 => ?_) (fun E9 q9 τ9 h9 => h9.elim)
  obtain ⟨e9, fσ2_a, kσ2⟩ := h9
  subst e9
  refine A_wfh (fun wσ2 hgσ2 => ?_)
  have qσ2 : kl lo σ σ2 := qσ1.kx hl (Nat.le_trans hl qσ.1) kσ2
  have zσ2 : kx (wF W f) σ σ2 := zσ1.trN (zσ.1) kσ2
  have fσ2_0 : σ2.1 (wW W) = some (.inr (.inl (4, [.int (N 9), .ref (wR W), .ref (wM W), .ref (wNL W), .ref (wFL W), .ref (wUN W), .int (N 6), .int (N 8), .int (N 0), .int (N 1), .int (N 2), .int (N 3), .int (N 4), .int (N 5), .int (N 11)]))) := kσ2.at wσ1 fσ1_0 (fun e9 => by rw [e9] at fσ1_0; have e8 := fσ1_0.symm.trans fσ1_9; simp at e8)
  have fσ2_1 : σ2.1 (wFL W) = some (.inr (.inl (14, [.int mcf, .ref (wFA W), .int (nI (nF N))]))) := kσ2.at wσ1 fσ1_1 (fun e9 => by rw [e9] at fσ1_1; have e8 := fσ1_1.symm.trans fσ1_9; simp at e8)
  have fσ2_2 : σ2.1 (wFA W) = some (.inl (.object "java/lang/Object", 12, .inr (.inr (.inr (.inr ffA))))) := kσ2.at wσ1 fσ1_2 (fun e9 => by rw [e9] at fσ1_2; have e8 := fσ1_2.symm.trans fσ1_9; simp at e8)
  have fσ2_3 : σ2.1 (wNL W) = some (.inr (.inl (14, [.int mcn, .ref (wNA W), .int (nI (nN N))]))) := kσ2.at wσ1 fσ1_3 (fun e9 => by rw [e9] at fσ1_3; have e8 := fσ1_3.symm.trans fσ1_9; simp at e8)
  have fσ2_4 : σ2.1 (wNA W) = some (.inl (.object "java/lang/Object", 4, .inr (.inr (.inr (.inr fnA))))) := kσ2.at wσ1 fσ1_4 (fun e9 => by rw [e9] at fσ1_4; have e8 := fσ1_4.symm.trans fσ1_9; simp at e8)
  have fσ2_5 : σ2.1 (wR W) = some (.inl (.int, 6, .inl fr)) := kσ2.at wσ1 fσ1_5 (fun e9 => by rw [e9] at fσ1_5; have e8 := fσ1_5.symm.trans fσ1_9; simp at e8)
  have fσ2_6 : σ2.1 (wM W) = some (.inl (.int, 3, .inl fm)) := kσ2.at wσ1 fσ1_6 (fun e9 => by rw [e9] at fσ1_6; have e8 := fσ1_6.symm.trans fσ1_9; simp at e8)
  have fσ2_7 : σ2.1 (wUN W) = some (.inl (.object "FlagLaundry$Test", 7, .inr (.inr (.inr (.inr fu))))) := kσ2.at wσ1 fσ1_7 (fun e9 => by rw [e9] at fσ1_7; have e8 := fσ1_7.symm.trans fσ1_9; simp at e8)
  have fσ2_8 : σ2.1 (wF W f) = some (.inr (.inl (6, [.int (fl N f 0), .int (fl N f 1), .int (fl N f 2), .int (fl N f 3), .int (fl N f 4), .int (fl N f 5), .int (fl N f 6), .int (fl N f 7), .ref (wP W f)]))) := kσ2.at wσ1 fσ1_8 (fun e9 => by rw [e9] at fσ1_8; have e8 := fσ1_8.symm.trans fσ1_9; simp at e8)
  refine A_putfN cb_X7 fσ2_8 8 (Nat.le_of_ble_eq_true rfl) q1121 rfl rfl rfl rfl (Nat.le_of_ble_eq_true rfl) dX5_puts_17 ?_
  obtain ⟨σ3, eσ3⟩ : ∃ τ, τ = h_put σ2 (wF W f) (.inr (.inl (6, [.int (fl N f 0), .int (fl N f 1), .int (fl N f 2), .int (fl N f 3), .int (fl N f 4), .int (fl N f 5), .int (fl N f 6), .int (fl N f 7), .ref σ.2]))) := ⟨_, rfl⟩
  refine A_st (σ' := σ3) eσ3.symm ?_
  have wσ3 : wfh σ3 := by rw [eσ3]; exact wσ2.put fσ2_8
  have fσ3_0 : σ3.1 (wW W) = some (.inr (.inl (4, [.int (N 9), .ref (wR W), .ref (wM W), .ref (wNL W), .ref (wFL W), .ref (wUN W), .int (N 6), .int (N 8), .int (N 0), .int (N 1), .int (N 2), .int (N 3), .int (N 4), .int (N 5), .int (N 11)]))) := by rw [eσ3]; exact (hp_ne (fun e9 => by rw [e9] at fσ2_0; have e8 := fσ2_0.symm.trans fσ2_8; simp at e8)).trans fσ2_0
  have fσ3_1 : σ3.1 (wFL W) = some (.inr (.inl (14, [.int mcf, .ref (wFA W), .int (nI (nF N))]))) := by rw [eσ3]; exact (hp_ne (fun e9 => by rw [e9] at fσ2_1; have e8 := fσ2_1.symm.trans fσ2_8; simp at e8)).trans fσ2_1
  have fσ3_2 : σ3.1 (wFA W) = some (.inl (.object "java/lang/Object", 12, .inr (.inr (.inr (.inr ffA))))) := by rw [eσ3]; exact (hp_ne (fun e9 => by rw [e9] at fσ2_2; have e8 := fσ2_2.symm.trans fσ2_8; simp at e8)).trans fσ2_2
  have fσ3_3 : σ3.1 (wNL W) = some (.inr (.inl (14, [.int mcn, .ref (wNA W), .int (nI (nN N))]))) := by rw [eσ3]; exact (hp_ne (fun e9 => by rw [e9] at fσ2_3; have e8 := fσ2_3.symm.trans fσ2_8; simp at e8)).trans fσ2_3
  have fσ3_4 : σ3.1 (wNA W) = some (.inl (.object "java/lang/Object", 4, .inr (.inr (.inr (.inr fnA))))) := by rw [eσ3]; exact (hp_ne (fun e9 => by rw [e9] at fσ2_4; have e8 := fσ2_4.symm.trans fσ2_8; simp at e8)).trans fσ2_4
  have fσ3_5 : σ3.1 (wR W) = some (.inl (.int, 6, .inl fr)) := by rw [eσ3]; exact (hp_ne (fun e9 => by rw [e9] at fσ2_5; have e8 := fσ2_5.symm.trans fσ2_8; simp at e8)).trans fσ2_5
  have fσ3_6 : σ3.1 (wM W) = some (.inl (.int, 3, .inl fm)) := by rw [eσ3]; exact (hp_ne (fun e9 => by rw [e9] at fσ2_6; have e8 := fσ2_6.symm.trans fσ2_8; simp at e8)).trans fσ2_6
  have fσ3_7 : σ3.1 (wUN W) = some (.inl (.object "FlagLaundry$Test", 7, .inr (.inr (.inr (.inr fu))))) := by rw [eσ3]; exact (hp_ne (fun e9 => by rw [e9] at fσ2_7; have e8 := fσ2_7.symm.trans fσ2_8; simp at e8)).trans fσ2_7
  have fσ3_8 : σ3.1 (wF W f) = some (.inr (.inl (6, [.int (fl N f 0), .int (fl N f 1), .int (fl N f 2), .int (fl N f 3), .int (fl N f 4), .int (fl N f 5), .int (fl N f 6), .int (fl N f 7), .ref σ.2]))) := by rw [eσ3]; exact if_pos rfl
  have fσ3_9 : σ3.1 σ.2 = some (.inr (.inl (8, [.int (nI t), .int (N 11)]))) := by rw [eσ3]; exact (hp_ne (fun e9 => by rw [e9] at fσ2_a; have e8 := fσ2_a.symm.trans fσ2_8; simp at e8)).trans fσ2_a
  have qσ3 : kl lo σ σ3 := by rw [eσ3]; exact qσ2.put (hO.2.2.2.2.2.2.2.1 f hf)
  have zσ3 : kx (wF W f) σ σ3 := by rw [eσ3]; exact zσ2.put
  have kσ3 : kx (wF W f) σ σ3 := zσ3
  have hR5 : RW g σ3 (setP W (upP (wP W) f σ.2)) (setFl (goTo N f 1 (nI t)) f 10 (goTo N f 1 (nI t) 11)) := hR9.flag (F := plF (fl N f) 1 (nI t) (N 11)) wσ hW hf kσ3 fσ3_8 fσ3_9 (upF_put N f (nI t))
  have hD5 : WFd (setFl (goTo N f 1 (nI t)) f 10 (goTo N f 1 (nI t) 11)) := hD.upF (upF_put N f (nI t)) (FK_pl (hD.2 f hf) (Or.inr (Or.inl ⟨rfl, t, ht, rfl⟩)))
  have e11 : (setFl (goTo N f 1 (nI t)) f 10 (goTo N f 1 (nI t) 11)) 11 = N 11 := (upF_put N f (nI t)).1 11 (by decide)
  refine A_aload_n (i := 0) dX5_puts_20 rfl rfl ?_
  refine A_dup dX5_puts_21 rfl ?_
  refine A_getf cb_X5 fσ3_0 14 (Nat.le_of_ble_eq_true rfl) q856 rfl (v := .int (N 11)) rfl dX5_puts_22 ?_
  refine A_iconst (v := 1) dX5_puts_25 (by decide) ?_
  refine A_iadd dX5_puts_26 ?_
  refine A_putf cb_X5 fσ3_0 14 (Nat.le_of_ble_eq_true rfl) q856 rfl rfl rfl rfl (Nat.le_of_ble_eq_true rfl) dX5_puts_27 ?_
  obtain ⟨σ4, eσ4⟩ : ∃ τ, τ = h_put σ3 (wW W) (.inr (.inl (4, [.int (N 9), .ref (wR W), .ref (wM W), .ref (wNL W), .ref (wFL W), .ref (wUN W), .int (N 6), .int (N 8), .int (N 0), .int (N 1), .int (N 2), .int (N 3), .int (N 4), .int (N 5), .int ((N 11) + 1)]))) := ⟨_, rfl⟩
  refine A_st (σ' := σ4) eσ4.symm ?_
  have wσ4 : wfh σ4 := by rw [eσ4]; exact wσ3.put fσ3_0
  have fσ4_0 : σ4.1 (wW W) = some (.inr (.inl (4, [.int (N 9), .ref (wR W), .ref (wM W), .ref (wNL W), .ref (wFL W), .ref (wUN W), .int (N 6), .int (N 8), .int (N 0), .int (N 1), .int (N 2), .int (N 3), .int (N 4), .int (N 5), .int ((N 11) + 1)]))) := by rw [eσ4]; exact if_pos rfl
  have fσ4_1 : σ4.1 (wFL W) = some (.inr (.inl (14, [.int mcf, .ref (wFA W), .int (nI (nF N))]))) := by rw [eσ4]; exact (hp_ne (fun e9 => by rw [e9] at fσ3_1; have e8 := fσ3_1.symm.trans fσ3_0; simp at e8)).trans fσ3_1
  have fσ4_2 : σ4.1 (wFA W) = some (.inl (.object "java/lang/Object", 12, .inr (.inr (.inr (.inr ffA))))) := by rw [eσ4]; exact (hp_ne (fun e9 => by rw [e9] at fσ3_2; have e8 := fσ3_2.symm.trans fσ3_0; simp at e8)).trans fσ3_2
  have fσ4_3 : σ4.1 (wNL W) = some (.inr (.inl (14, [.int mcn, .ref (wNA W), .int (nI (nN N))]))) := by rw [eσ4]; exact (hp_ne (fun e9 => by rw [e9] at fσ3_3; have e8 := fσ3_3.symm.trans fσ3_0; simp at e8)).trans fσ3_3
  have fσ4_4 : σ4.1 (wNA W) = some (.inl (.object "java/lang/Object", 4, .inr (.inr (.inr (.inr fnA))))) := by rw [eσ4]; exact (hp_ne (fun e9 => by rw [e9] at fσ3_4; have e8 := fσ3_4.symm.trans fσ3_0; simp at e8)).trans fσ3_4
  have fσ4_5 : σ4.1 (wR W) = some (.inl (.int, 6, .inl fr)) := by rw [eσ4]; exact (hp_ne (fun e9 => by rw [e9] at fσ3_5; have e8 := fσ3_5.symm.trans fσ3_0; simp at e8)).trans fσ3_5
  have fσ4_6 : σ4.1 (wM W) = some (.inl (.int, 3, .inl fm)) := by rw [eσ4]; exact (hp_ne (fun e9 => by rw [e9] at fσ3_6; have e8 := fσ3_6.symm.trans fσ3_0; simp at e8)).trans fσ3_6
  have fσ4_7 : σ4.1 (wUN W) = some (.inl (.object "FlagLaundry$Test", 7, .inr (.inr (.inr (.inr fu))))) := by rw [eσ4]; exact (hp_ne (fun e9 => by rw [e9] at fσ3_7; have e8 := fσ3_7.symm.trans fσ3_0; simp at e8)).trans fσ3_7
  have fσ4_8 : σ4.1 (wF W f) = some (.inr (.inl (6, [.int (fl N f 0), .int (fl N f 1), .int (fl N f 2), .int (fl N f 3), .int (fl N f 4), .int (fl N f 5), .int (fl N f 6), .int (fl N f 7), .ref σ.2]))) := by rw [eσ4]; exact (hp_ne (fun e9 => by rw [e9] at fσ3_8; have e8 := fσ3_8.symm.trans fσ3_0; simp at e8)).trans fσ3_8
  have fσ4_9 : σ4.1 σ.2 = some (.inr (.inl (8, [.int (nI t), .int (N 11)]))) := by rw [eσ4]; exact (hp_ne (fun e9 => by rw [e9] at fσ3_9; have e8 := fσ3_9.symm.trans fσ3_0; simp at e8)).trans fσ3_9
  have qσ4 : kl lo σ σ4 := by rw [eσ4]; exact qσ3.put hO.1
  have hR6 : RW g σ4 (setP W (upP (wP W) f σ.2)) (putIn N f (nI t)) := hR5.scal wσ3 (by rw [eσ4]; exact kx.rf.put) (by rw [show wldC (setP W (upP (wP W) f σ.2)) (putIn N f (nI t)) = wldC W (va_up N 11 (N 11 + 1)) by unfold putIn; rw [e11]; exact wld_up (upF_put N f (nI t)).1 _ _]; exact fσ4_0) (fun i a b => va_up_ne _ _ (by omega))
  have hD6 : WFd (putIn N f (nI t)) := WFd_put hD hf ht
  refine A_aload_n (i := 0) dX5_puts_30 rfl rfl ?_
  refine A_iload_n (i := 2) dX5_puts_31 rfl rfl ?_
  refine A_callV1 (b' := 0) (c_within σ4 (setP W (upP (wP W) f σ.2)) (putIn N f (nI t)) (nI t) hR6 hD6) tX5_within q1233 fσ4_0 rfl rfl dX5_puts_32 (by decide) (Nat.le_of_ble_eq_true rfl) (Nat.le_of_ble_eq_true rfl) (fun w9 σ5 h9 => ?_) (fun E9 q9 τ9 h9 => h9.elim)
  obtain ⟨e9, xσ5⟩ := h9
  subst e9
  refine A_wfh (fun wσ5 hgσ5 => ?_)
  have qσ5 : kl lo σ σ5 := qσ4.ex hl xσ5
  have fσ5_0 : σ5.1 (wW W) = some (.inr (.inl (4, [.int (N 9), .ref (wR W), .ref (wM W), .ref (wNL W), .ref (wFL W), .ref (wUN W), .int (N 6), .int (N 8), .int (N 0), .int (N 1), .int (N 2), .int (N 3), .int (N 4), .int (N 5), .int ((N 11) + 1)]))) := xσ5.at wσ4 fσ4_0
  have fσ5_1 : σ5.1 (wFL W) = some (.inr (.inl (14, [.int mcf, .ref (wFA W), .int (nI (nF N))]))) := xσ5.at wσ4 fσ4_1
  have fσ5_2 : σ5.1 (wFA W) = some (.inl (.object "java/lang/Object", 12, .inr (.inr (.inr (.inr ffA))))) := xσ5.at wσ4 fσ4_2
  have fσ5_3 : σ5.1 (wNL W) = some (.inr (.inl (14, [.int mcn, .ref (wNA W), .int (nI (nN N))]))) := xσ5.at wσ4 fσ4_3
  have fσ5_4 : σ5.1 (wNA W) = some (.inl (.object "java/lang/Object", 4, .inr (.inr (.inr (.inr fnA))))) := xσ5.at wσ4 fσ4_4
  have fσ5_5 : σ5.1 (wR W) = some (.inl (.int, 6, .inl fr)) := xσ5.at wσ4 fσ4_5
  have fσ5_6 : σ5.1 (wM W) = some (.inl (.int, 3, .inl fm)) := xσ5.at wσ4 fσ4_6
  have fσ5_7 : σ5.1 (wUN W) = some (.inl (.object "FlagLaundry$Test", 7, .inr (.inr (.inr (.inr fu))))) := xσ5.at wσ4 fσ4_7
  have fσ5_8 : σ5.1 (wF W f) = some (.inr (.inl (6, [.int (fl N f 0), .int (fl N f 1), .int (fl N f 2), .int (fl N f 3), .int (fl N f 4), .int (fl N f 5), .int (fl N f 6), .int (fl N f 7), .ref σ.2]))) := xσ5.at wσ4 fσ4_8
  have fσ5_9 : σ5.1 σ.2 = some (.inr (.inl (8, [.int (nI t), .int (N 11)]))) := xσ5.at wσ4 fσ4_9
  have hRσ5 : RW g σ5 (setP W (upP (wP W) f σ.2)) (putIn N f (nI t)) := hR6.ext wσ4 xσ5
  exact A_iret dX5_puts_35 rfl (⟨rfl, ⟨_, hRσ5⟩, qσ5⟩)
