/-! FLAGLAUNDRY 11: a flag more; back; saved worlds; the buffer -/
theorem isW_ty {t : FieldType} {n : Nat} {x : (Nat → Int32) ⊕ (Nat → Int64) ⊕ (Nat → UInt32) ⊕ (Nat → UInt64) ⊕ (Nat → Option Nat)} (h : ¬ t = .int ∧ ¬ t = .object "java/lang/Object" ∧ ¬ t = .object "FlagLaundry$Test") : ¬ isW (.inl (t, n, x)) := by
  rintro (⟨c', vs', e, h'⟩ | ⟨n, f, e, h'⟩ | ⟨n, f, e, h'⟩ | ⟨f, e⟩)
  · cases e
  · injection e with e; injection e with e1 e2; exact h.1 e1
  · injection e with e; injection e with e1 e2; exact h.2.1 e1
  · injection e with e; injection e with e1 e2; exact h.2.2 e1
theorem sub1 (n : Nat) : nI (n + 1) - 1 = nI n := by
  have := nI_sub (a := n + 1) (b := 1) (by omega)
  rw [Nat.add_sub_cancel] at this
  exact this
theorem q_addFlag {l : Launch} {g : GC} (σ : AH) (x bf dq sv ou : Nat) (bd pe ep : Int32) (is : Int32) (nv : Value) (W : WA) (N : AF) (n o c d : Int32) (da hq u : Nat) (e : Nat → Nat) (hL : LD g σ is nv W N) (hX : σ.1 x = some (lauC bf bd pe ep nv dq sv ou)) (hQ : DQ σ dq da hq u e) (hu : u ≤ 8) : AMet l g mX1_addFlag 10 76 [.ref x, .int n, .int o, .int c, .int d] σ (A_mq g (mayT is (bi (okN is N n)) (bi (okN is N n ∧ inR o 1 ((1 <<< (N 6 &&& 31)) - 1) ∧ inR c 0 3 ∧ inR d 0 9 ∧ ¬ na N (ix n) 3 = 1 ∧ ¬ 12 ≤ N 10))) (.int (nI (nF N))) bf bd pe ep dq sv ou x da u e W (addN N n o c d) σ) (A_thr ["java/lang/IllegalStateException", "java/lang/IndexOutOfBoundsException", "java/lang/IllegalArgumentException"] (mayT is (bi (okN is N n)) (bi (okN is N n ∧ inR o 1 ((1 <<< (N 6 &&& 31)) - 1) ∧ inR c 0 3 ∧ inR d 0 9 ∧ ¬ na N (ix n) 3 = 1 ∧ ¬ 12 ≤ N 10))) σ) := by
  rcases hL with ⟨h0, hn⟩ | ⟨hs, hn, hR, hD, hw, hh⟩
  · subst hn
    refine A_of rfl (by decide) (Nat.le_of_ble_eq_true rfl) (L0 := [(0, .ref x), (1, .int n), (2, .int o), (3, .int c), (4, .int d)]) rfl ?_
    refine A_wfh (fun wσ hgσ => ?_)
    have yσ : ext σ σ := ext.rf
    refine A_aload_n (i := 0) dX1_addFlag_0 rfl rfl ?_
    refine A_iload_n (i := 1) dX1_addFlag_1 rfl rfl ?_
    refine A_callV1 (b' := 0) (u_checkNation σ x bf dq sv ou bd pe ep n hX) tX1_checkNation q1455 hX rfl rfl dX1_addFlag_2 (by decide) (Nat.le_of_ble_eq_true rfl) (Nat.le_of_ble_eq_true rfl) (fun w9 τ9 h9 => h9.elim) (fun E9 q9 τ9 h9 => A_out rfl (⟨yσ.tr h9.2, 0, by rw [h9.1]; rfl, by rw [(mayQ_1 h0)]; rfl⟩))
  · subst hn
    have hW := hD.1
    have hR9 := hR
    obtain ⟨h1, ⟨fr, h2, h2p⟩, ⟨fm, h3, h3p⟩, ⟨mcn, fnA, h4, h4p, h4q⟩, ⟨mcf, ffA, h5, h5p, h5q⟩, ⟨fu, h6, h6p⟩, h7, h8, h9, h10, h11⟩ := hR
    have hF12 : nF N ≤ 12 := hW.2.2.2.2.2
    have hN4 : nN N ≤ 4 := hW.2.1.2
    have hC6 : nC N ≤ 6 := hW.1.2
    have hT3 : nT N ≤ 3 := hW.2.2.1.2
    have hP8 : nP N ≤ 8 := hW.2.2.2.1.2
    by_cases ck1 : inR n 0 (N 7 - 1)
    · skip
      obtain ⟨jn, hjn, rfl⟩ := in_ex hW.2.1.1 (Nat.le_trans hN4 (by decide)) ck1
      have bjn : jn < 2000 := Nat.lt_of_lt_of_le hjn (Nat.le_trans hN4 (by decide))
      obtain ⟨hh9, hn9, hd9⟩ := h9 jn hjn
      refine A_of rfl (by decide) (Nat.le_of_ble_eq_true rfl) (L0 := [(0, .ref x), (1, .int (nI jn)), (2, .int o), (3, .int c), (4, .int d)]) rfl ?_
      refine A_wfh (fun wσ hgσ => ?_)
      have yσ : ext σ σ := ext.rf
      refine A_aload_n (i := 0) dX1_addFlag_0 rfl rfl ?_
      refine A_iload_n (i := 1) dX1_addFlag_1 rfl rfl ?_
      refine A_callV1E (b' := 76) (v := some (.ref (wN W jn))) (τ := σ) (c_checkNation σ x bf dq sv ou bd pe ep W N jn hX hR9 hD hjn) tX1_checkNation q1455 hX rfl rfl dX1_addFlag_2 (by decide) (Nat.le_of_ble_eq_true rfl) (Nat.le_of_ble_eq_true rfl) ?_
      refine A_astore dX1_addFlag_5 (Nat.le_of_ble_eq_true rfl) ?_
      refine A_iload_n (i := 2) dX1_addFlag_7 rfl rfl ?_
      refine A_i2l dX1_addFlag_8 rfl ?_
      refine A_lconst (v := 1) dX1_addFlag_9 rfl ?_
      refine A_iconst (v := 1) dX1_addFlag_10 (by decide) ?_
      refine A_aload_n (i := 0) dX1_addFlag_11 rfl rfl ?_
      refine A_getf cb_X1 hX 4 (Nat.le_of_ble_eq_true rfl) q242 rfl (v := .ref (wW W)) rfl dX1_addFlag_12 ?_
      refine A_getfN cb_X5 h1 6 (Nat.le_of_ble_eq_true rfl) q839 rfl (v := .int (N 6)) rfl dX1_addFlag_15 ?_
      refine A_ishl dX1_addFlag_18 ?_
      refine A_iconst (v := 1) dX1_addFlag_19 (by decide) ?_
      refine A_isub dX1_addFlag_20 ?_
      refine A_i2l dX1_addFlag_21 rfl ?_
      refine A_callS3E (b' := 76) (v := some (.int (bi (inR o 1 (((1 : Int32) <<< ((N 6) &&& 31)) - 1))))) (τ := σ) (c_in1 σ _ _ _ o 1 (((1 : Int32) <<< ((N 6) &&& 31)) - 1) rfl (by decide) rfl) tX1_in q381 dX1_addFlag_22 (by decide) (Nat.le_of_ble_eq_true rfl) (Nat.le_of_ble_eq_true rfl) ?_
      refine A_if_eq (tgt := 78) dX1_addFlag_25 (by decide) (fun c1 => ?_) (fun c1 => ?_)
      · skip
        have c1 := bi_eq0.mp c1
        refine A_iconst (v := 0) dX1_addFlag_78 (by decide) ?_
        refine A_callS1 (b' := 0) (c_cArg_no σ 0 rfl) tX1_checkArgument q1406 dX1_addFlag_79 (by decide) (Nat.le_of_ble_eq_true rfl) (Nat.le_of_ble_eq_true rfl) (fun w9 τ9 h9 => h9.elim) (fun E9 q9 τ9 h9 => A_out rfl (⟨yσ.tr h9.2, 2, by rw [h9.1]; rfl, by rw [(mayQ_3 hs (bi_n ⟨hs, ck1⟩) (bi_f (fun h => c1 h.2.1)))]; rfl⟩))
      · skip
        have c1 := bi_ne0.mp c1
        refine A_iload_n (i := 3) dX1_addFlag_28 rfl rfl ?_
        refine A_i2l dX1_addFlag_29 rfl ?_
        refine A_lconst (v := 0) dX1_addFlag_30 rfl ?_
        refine A_ldc2 (v := 3) dX1_addFlag_31 q1675 ?_
        refine A_callS3E (b' := 76) (v := some (.int (bi (inR c 0 3)))) (τ := σ) (c_in1 σ _ _ _ c 0 3 rfl (by decide) (by decide)) tX1_in q381 dX1_addFlag_34 (by decide) (Nat.le_of_ble_eq_true rfl) (Nat.le_of_ble_eq_true rfl) ?_
        refine A_if_eq (tgt := 78) dX1_addFlag_37 (by decide) (fun c2 => ?_) (fun c2 => ?_)
        · skip
          have c2 := bi_eq0.mp c2
          refine A_iconst (v := 0) dX1_addFlag_78 (by decide) ?_
          refine A_callS1 (b' := 0) (c_cArg_no σ 0 rfl) tX1_checkArgument q1406 dX1_addFlag_79 (by decide) (Nat.le_of_ble_eq_true rfl) (Nat.le_of_ble_eq_true rfl) (fun w9 τ9 h9 => h9.elim) (fun E9 q9 τ9 h9 => A_out rfl (⟨yσ.tr h9.2, 2, by rw [h9.1]; rfl, by rw [(mayQ_3 hs (bi_n ⟨hs, ck1⟩) (bi_f (fun h => c2 h.2.2.1)))]; rfl⟩))
        · skip
          have c2 := bi_ne0.mp c2
          refine A_iload dX1_addFlag_40 rfl ?_
          refine A_i2l dX1_addFlag_42 rfl ?_
          refine A_lconst (v := 0) dX1_addFlag_43 rfl ?_
          refine A_ldc2 (v := 9) dX1_addFlag_44 q1843 ?_
          refine A_callS3E (b' := 76) (v := some (.int (bi (inR d 0 9)))) (τ := σ) (c_in1 σ _ _ _ d 0 9 rfl (by decide) (by decide)) tX1_in q381 dX1_addFlag_47 (by decide) (Nat.le_of_ble_eq_true rfl) (Nat.le_of_ble_eq_true rfl) ?_
          refine A_if_eq (tgt := 78) dX1_addFlag_50 (by decide) (fun c3 => ?_) (fun c3 => ?_)
          · skip
            have c3 := bi_eq0.mp c3
            refine A_iconst (v := 0) dX1_addFlag_78 (by decide) ?_
            refine A_callS1 (b' := 0) (c_cArg_no σ 0 rfl) tX1_checkArgument q1406 dX1_addFlag_79 (by decide) (Nat.le_of_ble_eq_true rfl) (Nat.le_of_ble_eq_true rfl) (fun w9 τ9 h9 => h9.elim) (fun E9 q9 τ9 h9 => A_out rfl (⟨yσ.tr h9.2, 2, by rw [h9.1]; rfl, by rw [(mayQ_3 hs (bi_n ⟨hs, ck1⟩) (bi_f (fun h => c3 h.2.2.2.1)))]; rfl⟩))
          · skip
            have c3 := bi_ne0.mp c3
            refine A_aload dX1_addFlag_53 rfl ?_
            refine A_getfN cb_X6 hn9 3 (Nat.le_of_ble_eq_true rfl) q991 rfl (v := .int hh9) rfl dX1_addFlag_55 ?_
            refine A_iconst (v := (-1)) dX1_addFlag_58 (by decide) ?_
            refine A_icmp_ne (tgt := 78) dX1_addFlag_59 (by decide) (fun c4 => ?_) (fun c4 => ?_)
            · skip
              refine A_iconst (v := 0) dX1_addFlag_78 (by decide) ?_
              refine A_callS1 (b' := 0) (c_cArg_no σ 0 rfl) tX1_checkArgument q1406 dX1_addFlag_79 (by decide) (Nat.le_of_ble_eq_true rfl) (Nat.le_of_ble_eq_true rfl) (fun w9 τ9 h9 => h9.elim) (fun E9 q9 τ9 h9 => A_out rfl (⟨yσ.tr h9.2, 2, by rw [h9.1]; rfl, by rw [(mayQ_3 hs (bi_n ⟨hs, ck1⟩) (bi_f (fun h => h.2.2.2.2.1 (by rw [ixn bjn]; exact (HD_1 hd9 c4).1))))]; rfl⟩))
            · skip
              refine A_aload_n (i := 0) dX1_addFlag_62 rfl rfl ?_
              refine A_getf cb_X1 hX 4 (Nat.le_of_ble_eq_true rfl) q242 rfl (v := .ref (wW W)) rfl dX1_addFlag_63 ?_
              refine A_callV0E (b' := 76) (v := some (.int (nI (nF N)))) (τ := σ) (c_many σ W N hR9 hW) tX5_many q1369 h1 rfl rfl dX1_addFlag_66 (by decide) (Nat.le_of_ble_eq_true rfl) (Nat.le_of_ble_eq_true rfl) ?_
              refine A_bipush (v := 12) dX1_addFlag_69 (by decide) ?_
              refine A_icmp_ge (tgt := 78) dX1_addFlag_71 (by decide) (fun c5 => ?_) (fun c5 => ?_)
              · skip
                refine A_iconst (v := 0) dX1_addFlag_78 (by decide) ?_
                refine A_callS1 (b' := 0) (c_cArg_no σ 0 rfl) tX1_checkArgument q1406 dX1_addFlag_79 (by decide) (Nat.le_of_ble_eq_true rfl) (Nat.le_of_ble_eq_true rfl) (fun w9 τ9 h9 => h9.elim) (fun E9 q9 τ9 h9 => A_out rfl (⟨yσ.tr h9.2, 2, by rw [h9.1]; rfl, by rw [(mayQ_3 hs (bi_n ⟨hs, ck1⟩) (bi_f (fun h => h.2.2.2.2.2 (by rw [hW.2.2.2.2.1]; exact c5))))]; rfl⟩))
              · skip
                refine A_iconst (v := 1) dX1_addFlag_74 (by decide) ?_
                refine A_goto (tgt := 79) dX1_addFlag_75 (by decide) ?_
                refine A_callS1E (b' := 76) (v := none) (τ := σ) (c_cArg σ 1 (by decide)) tX1_checkArgument q1406 dX1_addFlag_79 (by decide) (Nat.le_of_ble_eq_true rfl) (Nat.le_of_ble_eq_true rfl) ?_
                refine A_aload_n (i := 0) dX1_addFlag_82 rfl rfl ?_
                refine A_callV0 (b' := 7) (c_changed σ x bf dq sv ou bd pe ep W N da hq u e hX hR9 hD (hQ.ex wσ yσ) hu) tX1_changed q2040 hX rfl rfl dX1_addFlag_83 (by decide) (Nat.le_of_ble_eq_true rfl) (Nat.le_of_ble_eq_true rfl) (fun w9 τ5 h5 => ?_) (fun E9 q9 τ9 h9 => h9.elim)
                obtain ⟨V, h5q, e5, fx5, hRV, hOW, hDQ5, fr5, n5⟩ := h5
                subst e5
                refine A_wfh (fun wτ5 hgτ5 => ?_)
                have fra0 : fra [x, dq, da] σ τ5 := (fra.rf.ex yσ).tr fr5
                have n0 : nw σ τ5 := (nw.rf.ex wσ yσ).tr n5
                have hOV : own σ.2 V N := hOW.le yσ.1
                have hl5 : σ.2 ≤ τ5.2 := fra0.1
                have hRo : RW g τ5 W N := hR9.nw n0
                have hRc := hRV
                obtain ⟨h1v, ⟨frv, h2v, h2pv⟩, ⟨fmv, h3v, h3pv⟩, ⟨mcnv, fnAv, h4v, h4pv, h4qv⟩, ⟨mcfv, ffAv, h5v, h5pv, h5qv⟩, ⟨fuv, h6v, h6pv⟩, h7v, h8v, h9v, h10v, h11v⟩ := hRc
                have fτ5v_0 : τ5.1 (wW V) = some (.inr (.inl (4, [.int (N 9), .ref (wR V), .ref (wM V), .ref (wNL V), .ref (wFL V), .ref (wUN V), .int (N 6), .int (N 8), .int (N 0), .int (N 1), .int (N 2), .int (N 3), .int (N 4), .int (N 5), .int (N 11)]))) := h1v
                have fτ5v_1 : τ5.1 (wFL V) = some (.inr (.inl (14, [.int mcfv, .ref (wFA V), .int (nI (nF N))]))) := h5v
                have fτ5v_2 : τ5.1 (wFA V) = some (.inl (.object "java/lang/Object", 12, .inr (.inr (.inr (.inr ffAv))))) := h5pv
                have fτ5v_3 : τ5.1 (wNL V) = some (.inr (.inl (14, [.int mcnv, .ref (wNA V), .int (nI (nN N))]))) := h4v
                have fτ5v_4 : τ5.1 (wNA V) = some (.inl (.object "java/lang/Object", 4, .inr (.inr (.inr (.inr fnAv))))) := h4pv
                have fτ5v_5 : τ5.1 (wR V) = some (.inl (.int, 6, .inl frv)) := h2v
                have fτ5v_6 : τ5.1 (wM V) = some (.inl (.int, 3, .inl fmv)) := h3v
                have fτ5v_7 : τ5.1 (wUN V) = some (.inl (.object "FlagLaundry$Test", 7, .inr (.inr (.inr (.inr fuv))))) := h6v
                have hF12' : nF N < 12 := by have k := c5; exact Nat.lt_of_not_le (fun q => k ((nI_lei (by decide : 12 < 2 ^ 31) (by omega)).mpr q))
                refine A_new (b' := 4) (u := 3) cb_X7 q1886 q1084 q163 (fs := [.int 0, .int 0, .int 0, .int 0, .int 0, .int 0, .int 0, .int 0, .null]) (by intro j hj; rcases j with _ | j; exact rfl; rcases j with _ | j; exact rfl; rcases j with _ | j; exact rfl; rcases j with _ | j; exact rfl; rcases j with _ | j; exact rfl; rcases j with _ | j; exact rfl; rcases j with _ | j; exact rfl; rcases j with _ | j; exact rfl; rcases j with _ | j; exact rfl; omega) (Nat.le_of_ble_eq_true rfl) ⟨Nat.le_of_ble_eq_true rfl, Nat.le_of_ble_eq_true rfl⟩ dX1_addFlag_86 ?_
                obtain ⟨σ1, eσ1⟩ : ∃ τ, τ = h_new τ5 (.inr (.inl (6, [.int 0, .int 0, .int 0, .int 0, .int 0, .int 0, .int 0, .int 0, .null]))) := ⟨_, rfl⟩
                refine A_st (σ' := σ1) eσ1.symm ?_
                have wσ1 : wfh σ1 := by rw [eσ1]; exact wτ5.new
                have fσ1_0 : σ1.1 (wW V) = some (.inr (.inl (4, [.int (N 9), .ref (wR V), .ref (wM V), .ref (wNL V), .ref (wFL V), .ref (wUN V), .int (N 6), .int (N 8), .int (N 0), .int (N 1), .int (N 2), .int (N 3), .int (N 4), .int (N 5), .int (N 11)]))) := by rw [eσ1]; exact (hn_ne (Nat.ne_of_lt (wτ5 _ _ fτ5v_0))).trans fτ5v_0
                have fσ1_1 : σ1.1 (wFL V) = some (.inr (.inl (14, [.int mcfv, .ref (wFA V), .int (nI (nF N))]))) := by rw [eσ1]; exact (hn_ne (Nat.ne_of_lt (wτ5 _ _ fτ5v_1))).trans fτ5v_1
                have fσ1_2 : σ1.1 (wFA V) = some (.inl (.object "java/lang/Object", 12, .inr (.inr (.inr (.inr ffAv))))) := by rw [eσ1]; exact (hn_ne (Nat.ne_of_lt (wτ5 _ _ fτ5v_2))).trans fτ5v_2
                have fσ1_3 : σ1.1 (wNL V) = some (.inr (.inl (14, [.int mcnv, .ref (wNA V), .int (nI (nN N))]))) := by rw [eσ1]; exact (hn_ne (Nat.ne_of_lt (wτ5 _ _ fτ5v_3))).trans fτ5v_3
                have fσ1_4 : σ1.1 (wNA V) = some (.inl (.object "java/lang/Object", 4, .inr (.inr (.inr (.inr fnAv))))) := by rw [eσ1]; exact (hn_ne (Nat.ne_of_lt (wτ5 _ _ fτ5v_4))).trans fτ5v_4
                have fσ1_5 : σ1.1 (wR V) = some (.inl (.int, 6, .inl frv)) := by rw [eσ1]; exact (hn_ne (Nat.ne_of_lt (wτ5 _ _ fτ5v_5))).trans fτ5v_5
                have fσ1_6 : σ1.1 (wM V) = some (.inl (.int, 3, .inl fmv)) := by rw [eσ1]; exact (hn_ne (Nat.ne_of_lt (wτ5 _ _ fτ5v_6))).trans fτ5v_6
                have fσ1_7 : σ1.1 (wUN V) = some (.inl (.object "FlagLaundry$Test", 7, .inr (.inr (.inr (.inr fuv))))) := by rw [eσ1]; exact (hn_ne (Nat.ne_of_lt (wτ5 _ _ fτ5v_7))).trans fτ5v_7
                have fσ1_8 : σ1.1 x = some (.inr (.inl (0, [.ref bf, .int bd, .int pe, .int ep, .ref (wW V), .ref dq, .ref sv, .ref ou]))) := by rw [eσ1]; exact (hn_ne (Nat.ne_of_lt (wτ5 _ _ fx5))).trans fx5
                have fσ1_9 : σ1.1 τ5.2 = some (.inr (.inl (6, [.int 0, .int 0, .int 0, .int 0, .int 0, .int 0, .int 0, .int 0, .null]))) := by rw [eσ1]; exact if_pos rfl
                have xσ1 : ext τ5 σ1 := by rw [eσ1]; exact ext_new _ _
                have hRσ1 : RW g σ1 V N := hRV.ext wτ5 xσ1
                refine A_dup dX1_addFlag_89 rfl ?_
                refine A_iload_n (i := 1) dX1_addFlag_90 rfl rfl ?_
                refine A_iload_n (i := 2) dX1_addFlag_91 rfl rfl ?_
                refine A_iload_n (i := 3) dX1_addFlag_92 rfl rfl ?_
                refine A_iload dX1_addFlag_93 rfl ?_
                refine A_callI4 (b' := 3) (c_fInit σ1 τ5.2 (nI jn) o c d fσ1_9) tX7_init q2185 dX1_addFlag_95 (by decide) (Nat.le_of_ble_eq_true rfl) (Nat.le_of_ble_eq_true rfl) (fun w9 σ2 h9 => ?_) (fun E9 q9 τ9 h9 => h9.elim)
                obtain ⟨b9, e9, fσ2_a, fσ2_x0, kσ2⟩ := h9
                subst e9
                refine A_wfh (fun wσ2 hgσ2 => ?_)
                have fσ2_0 : σ2.1 (wW V) = some (.inr (.inl (4, [.int (N 9), .ref (wR V), .ref (wM V), .ref (wNL V), .ref (wFL V), .ref (wUN V), .int (N 6), .int (N 8), .int (N 0), .int (N 1), .int (N 2), .int (N 3), .int (N 4), .int (N 5), .int (N 11)]))) := kσ2.at wσ1 fσ1_0 (ne_of (x := .inr (.inl (4, [.int (N 9), .ref (wR V), .ref (wM V), .ref (wNL V), .ref (wFL V), .ref (wUN V), .int (N 6), .int (N 8), .int (N 0), .int (N 1), .int (N 2), .int (N 3), .int (N 4), .int (N 5), .int (N 11)]))) (y := .inr (.inl (6, [.int 0, .int 0, .int 0, .int 0, .int 0, .int 0, .int 0, .int 0, .null]))) fσ1_0 fσ1_9 (fun e8 => by simp at e8))
                have fσ2_1 : σ2.1 (wFL V) = some (.inr (.inl (14, [.int mcfv, .ref (wFA V), .int (nI (nF N))]))) := kσ2.at wσ1 fσ1_1 (ne_of (x := .inr (.inl (14, [.int mcfv, .ref (wFA V), .int (nI (nF N))]))) (y := .inr (.inl (6, [.int 0, .int 0, .int 0, .int 0, .int 0, .int 0, .int 0, .int 0, .null]))) fσ1_1 fσ1_9 (fun e8 => by simp at e8))
                have fσ2_2 : σ2.1 (wFA V) = some (.inl (.object "java/lang/Object", 12, .inr (.inr (.inr (.inr ffAv))))) := kσ2.at wσ1 fσ1_2 (ne_of (x := .inl (.object "java/lang/Object", 12, .inr (.inr (.inr (.inr ffAv))))) (y := .inr (.inl (6, [.int 0, .int 0, .int 0, .int 0, .int 0, .int 0, .int 0, .int 0, .null]))) fσ1_2 fσ1_9 (fun e8 => by simp at e8))
                have fσ2_3 : σ2.1 (wNL V) = some (.inr (.inl (14, [.int mcnv, .ref (wNA V), .int (nI (nN N))]))) := kσ2.at wσ1 fσ1_3 (ne_of (x := .inr (.inl (14, [.int mcnv, .ref (wNA V), .int (nI (nN N))]))) (y := .inr (.inl (6, [.int 0, .int 0, .int 0, .int 0, .int 0, .int 0, .int 0, .int 0, .null]))) fσ1_3 fσ1_9 (fun e8 => by simp at e8))
                have fσ2_4 : σ2.1 (wNA V) = some (.inl (.object "java/lang/Object", 4, .inr (.inr (.inr (.inr fnAv))))) := kσ2.at wσ1 fσ1_4 (ne_of (x := .inl (.object "java/lang/Object", 4, .inr (.inr (.inr (.inr fnAv))))) (y := .inr (.inl (6, [.int 0, .int 0, .int 0, .int 0, .int 0, .int 0, .int 0, .int 0, .null]))) fσ1_4 fσ1_9 (fun e8 => by simp at e8))
                have fσ2_5 : σ2.1 (wR V) = some (.inl (.int, 6, .inl frv)) := kσ2.at wσ1 fσ1_5 (ne_of (x := .inl (.int, 6, .inl frv)) (y := .inr (.inl (6, [.int 0, .int 0, .int 0, .int 0, .int 0, .int 0, .int 0, .int 0, .null]))) fσ1_5 fσ1_9 (fun e8 => by simp at e8))
                have fσ2_6 : σ2.1 (wM V) = some (.inl (.int, 3, .inl fmv)) := kσ2.at wσ1 fσ1_6 (ne_of (x := .inl (.int, 3, .inl fmv)) (y := .inr (.inl (6, [.int 0, .int 0, .int 0, .int 0, .int 0, .int 0, .int 0, .int 0, .null]))) fσ1_6 fσ1_9 (fun e8 => by simp at e8))
                have fσ2_7 : σ2.1 (wUN V) = some (.inl (.object "FlagLaundry$Test", 7, .inr (.inr (.inr (.inr fuv))))) := kσ2.at wσ1 fσ1_7 (ne_of (x := .inl (.object "FlagLaundry$Test", 7, .inr (.inr (.inr (.inr fuv))))) (y := .inr (.inl (6, [.int 0, .int 0, .int 0, .int 0, .int 0, .int 0, .int 0, .int 0, .null]))) fσ1_7 fσ1_9 (fun e8 => by simp at e8))
                have fσ2_8 : σ2.1 x = some (.inr (.inl (0, [.ref bf, .int bd, .int pe, .int ep, .ref (wW V), .ref dq, .ref sv, .ref ou]))) := kσ2.at wσ1 fσ1_8 (ne_of (x := .inr (.inl (0, [.ref bf, .int bd, .int pe, .int ep, .ref (wW V), .ref dq, .ref sv, .ref ou]))) (y := .inr (.inl (6, [.int 0, .int 0, .int 0, .int 0, .int 0, .int 0, .int 0, .int 0, .null]))) fσ1_8 fσ1_9 (fun e8 => by simp at e8))
                skip
                refine A_callV1E (b' := 3) (v := none) (τ := h_put (h_put (h_put σ2 (wFL V) (.inr (.inl (14, [.int (mcfv + 1), .ref (wFA V), .int (nI (nF N))])))) (wFA V) (.inl (.object "java/lang/Object", 12, .inr (.inr (.inr (.inr (va_up ffAv (nF N) (some τ5.2)))))))) (wFL V) (.inr (.inl (14, [.int (mcfv + 1), .ref (wFA V), .int (nI (nF N + 1))])))) (c_addsF σ2 V N (nF N) τ5.2 mcfv ffAv _ fσ2_0 fσ2_1 fσ2_2 fσ2_a hF12') tX5_adds_2 q2186 fσ2_0 rfl rfl dX1_addFlag_98 (by decide) (Nat.le_of_ble_eq_true rfl) (Nat.le_of_ble_eq_true rfl) ?_
                obtain ⟨σ3, eσ3⟩ : ∃ τ, τ = h_put (h_put (h_put σ2 (wFL V) (.inr (.inl (14, [.int (mcfv + 1), .ref (wFA V), .int (nI (nF N))])))) (wFA V) (.inl (.object "java/lang/Object", 12, .inr (.inr (.inr (.inr (va_up ffAv (nF N) (some τ5.2)))))))) (wFL V) (.inr (.inl (14, [.int (mcfv + 1), .ref (wFA V), .int (nI (nF N + 1))]))) := ⟨_, rfl⟩
                refine A_st (σ' := σ3) eσ3.symm ?_
                have wσ3 : wfh σ3 := by rw [eσ3]; exact (((wσ2.put fσ2_1).put ((hp_ne (ne_of (x := .inl (.object "java/lang/Object", 12, .inr (.inr (.inr (.inr ffAv))))) (y := .inr (.inl (14, [.int mcfv, .ref (wFA V), .int (nI (nF N))]))) fσ2_2 fσ2_1 (fun e8 => by simp at e8))).trans fσ2_2)).put ((hp_ne (ne_of (x := .inr (.inl (14, [.int mcfv, .ref (wFA V), .int (nI (nF N))]))) (y := .inl (.object "java/lang/Object", 12, .inr (.inr (.inr (.inr ffAv))))) fσ2_1 fσ2_2 (fun e8 => by simp at e8))).trans (if_pos rfl)))
                have fσ3_0 : σ3.1 (wW V) = some (.inr (.inl (4, [.int (N 9), .ref (wR V), .ref (wM V), .ref (wNL V), .ref (wFL V), .ref (wUN V), .int (N 6), .int (N 8), .int (N 0), .int (N 1), .int (N 2), .int (N 3), .int (N 4), .int (N 5), .int (N 11)]))) := by rw [eσ3]; exact ((hp_ne (ne_of (x := .inr (.inl (4, [.int (N 9), .ref (wR V), .ref (wM V), .ref (wNL V), .ref (wFL V), .ref (wUN V), .int (N 6), .int (N 8), .int (N 0), .int (N 1), .int (N 2), .int (N 3), .int (N 4), .int (N 5), .int (N 11)]))) (y := .inr (.inl (14, [.int mcfv, .ref (wFA V), .int (nI (nF N))]))) fσ2_0 fσ2_1 (fun e8 => by simp at e8))).trans ((hp_ne (ne_of (x := .inr (.inl (4, [.int (N 9), .ref (wR V), .ref (wM V), .ref (wNL V), .ref (wFL V), .ref (wUN V), .int (N 6), .int (N 8), .int (N 0), .int (N 1), .int (N 2), .int (N 3), .int (N 4), .int (N 5), .int (N 11)]))) (y := .inl (.object "java/lang/Object", 12, .inr (.inr (.inr (.inr ffAv))))) fσ2_0 fσ2_2 (fun e8 => by simp at e8))).trans ((hp_ne (ne_of (x := .inr (.inl (4, [.int (N 9), .ref (wR V), .ref (wM V), .ref (wNL V), .ref (wFL V), .ref (wUN V), .int (N 6), .int (N 8), .int (N 0), .int (N 1), .int (N 2), .int (N 3), .int (N 4), .int (N 5), .int (N 11)]))) (y := .inr (.inl (14, [.int mcfv, .ref (wFA V), .int (nI (nF N))]))) fσ2_0 fσ2_1 (fun e8 => by simp at e8))).trans fσ2_0)))
                have fσ3_1 : σ3.1 (wFL V) = some (.inr (.inl (14, [.int (mcfv + 1), .ref (wFA V), .int (nI (nF N + 1))]))) := by rw [eσ3]; exact (if_pos rfl)
                have fσ3_2 : σ3.1 (wFA V) = some (.inl (.object "java/lang/Object", 12, .inr (.inr (.inr (.inr (va_up ffAv (nF N) (some τ5.2))))))) := by rw [eσ3]; exact ((hp_ne (ne_of (x := .inl (.object "java/lang/Object", 12, .inr (.inr (.inr (.inr ffAv))))) (y := .inr (.inl (14, [.int mcfv, .ref (wFA V), .int (nI (nF N))]))) fσ2_2 fσ2_1 (fun e8 => by simp at e8))).trans (if_pos rfl))
                have fσ3_3 : σ3.1 (wR V) = some (.inl (.int, 6, .inl frv)) := by rw [eσ3]; exact ((hp_ne (ne_of (x := .inl (.int, 6, .inl frv)) (y := .inr (.inl (14, [.int mcfv, .ref (wFA V), .int (nI (nF N))]))) fσ2_5 fσ2_1 (fun e8 => by simp at e8))).trans ((hp_ne (ne_of (x := .inl (.int, 6, .inl frv)) (y := .inl (.object "java/lang/Object", 12, .inr (.inr (.inr (.inr ffAv))))) fσ2_5 fσ2_2 (fun e8 => by simp at e8))).trans ((hp_ne (ne_of (x := .inl (.int, 6, .inl frv)) (y := .inr (.inl (14, [.int mcfv, .ref (wFA V), .int (nI (nF N))]))) fσ2_5 fσ2_1 (fun e8 => by simp at e8))).trans fσ2_5)))
                have fσ3_4 : σ3.1 (wM V) = some (.inl (.int, 3, .inl fmv)) := by rw [eσ3]; exact ((hp_ne (ne_of (x := .inl (.int, 3, .inl fmv)) (y := .inr (.inl (14, [.int mcfv, .ref (wFA V), .int (nI (nF N))]))) fσ2_6 fσ2_1 (fun e8 => by simp at e8))).trans ((hp_ne (ne_of (x := .inl (.int, 3, .inl fmv)) (y := .inl (.object "java/lang/Object", 12, .inr (.inr (.inr (.inr ffAv))))) fσ2_6 fσ2_2 (fun e8 => by simp at e8))).trans ((hp_ne (ne_of (x := .inl (.int, 3, .inl fmv)) (y := .inr (.inl (14, [.int mcfv, .ref (wFA V), .int (nI (nF N))]))) fσ2_6 fσ2_1 (fun e8 => by simp at e8))).trans fσ2_6)))
                have fσ3_5 : σ3.1 (wUN V) = some (.inl (.object "FlagLaundry$Test", 7, .inr (.inr (.inr (.inr fuv))))) := by rw [eσ3]; exact ((hp_ne (ne_of (x := .inl (.object "FlagLaundry$Test", 7, .inr (.inr (.inr (.inr fuv))))) (y := .inr (.inl (14, [.int mcfv, .ref (wFA V), .int (nI (nF N))]))) fσ2_7 fσ2_1 (fun e8 => by simp at e8))).trans ((hp_ne (ne_of (x := .inl (.object "FlagLaundry$Test", 7, .inr (.inr (.inr (.inr fuv))))) (y := .inl (.object "java/lang/Object", 12, .inr (.inr (.inr (.inr ffAv))))) fσ2_7 fσ2_2 (fun e8 => by simp at e8))).trans ((hp_ne (ne_of (x := .inl (.object "FlagLaundry$Test", 7, .inr (.inr (.inr (.inr fuv))))) (y := .inr (.inl (14, [.int mcfv, .ref (wFA V), .int (nI (nF N))]))) fσ2_7 fσ2_1 (fun e8 => by simp at e8))).trans fσ2_7)))
                have fσ3_6 : σ3.1 x = some (.inr (.inl (0, [.ref bf, .int bd, .int pe, .int ep, .ref (wW V), .ref dq, .ref sv, .ref ou]))) := by rw [eσ3]; exact ((hp_ne (ne_of (x := .inr (.inl (0, [.ref bf, .int bd, .int pe, .int ep, .ref (wW V), .ref dq, .ref sv, .ref ou]))) (y := .inr (.inl (14, [.int mcfv, .ref (wFA V), .int (nI (nF N))]))) fσ2_8 fσ2_1 (fun e8 => by simp at e8))).trans ((hp_ne (ne_of (x := .inr (.inl (0, [.ref bf, .int bd, .int pe, .int ep, .ref (wW V), .ref dq, .ref sv, .ref ou]))) (y := .inl (.object "java/lang/Object", 12, .inr (.inr (.inr (.inr ffAv))))) fσ2_8 fσ2_2 (fun e8 => by simp at e8))).trans ((hp_ne (ne_of (x := .inr (.inl (0, [.ref bf, .int bd, .int pe, .int ep, .ref (wW V), .ref dq, .ref sv, .ref ou]))) (y := .inr (.inl (14, [.int mcfv, .ref (wFA V), .int (nI (nF N))]))) fσ2_8 fσ2_1 (fun e8 => by simp at e8))).trans fσ2_8)))
                have fσ3_7 : σ3.1 τ5.2 = some (.inr (.inl (6, [.int (nI jn), .int o, .int c, .int d, .int 0, .int 0, .int 0, .int 0, .ref b9]))) := by rw [eσ3]; exact ((hp_ne (ne_of (x := .inr (.inl (6, [.int (nI jn), .int o, .int c, .int d, .int 0, .int 0, .int 0, .int 0, .ref b9]))) (y := .inr (.inl (14, [.int mcfv, .ref (wFA V), .int (nI (nF N))]))) fσ2_a fσ2_1 (fun e8 => by simp at e8))).trans ((hp_ne (ne_of (x := .inr (.inl (6, [.int (nI jn), .int o, .int c, .int d, .int 0, .int 0, .int 0, .int 0, .ref b9]))) (y := .inl (.object "java/lang/Object", 12, .inr (.inr (.inr (.inr ffAv))))) fσ2_a fσ2_2 (fun e8 => by simp at e8))).trans ((hp_ne (ne_of (x := .inr (.inl (6, [.int (nI jn), .int o, .int c, .int d, .int 0, .int 0, .int 0, .int 0, .ref b9]))) (y := .inr (.inl (14, [.int mcfv, .ref (wFA V), .int (nI (nF N))]))) fσ2_a fσ2_1 (fun e8 => by simp at e8))).trans fσ2_a)))
                have hxo : σ2.1 τ5.2 = some (flgC (fl (addN N (nI jn) o c d) (nF N)) b9) := by rw [flg_eq b9 (fun k hk => addN_F N (nI jn) o c d hk)]; exact fσ2_a
                have hpo : σ2.1 b9 = some (.inr (.inl (plc (fl (addN N (nI jn) o c d) (nF N) 8) (fl (addN N (nI jn) o c d) (nF N) 9) (fl (addN N (nI jn) o c d) (nF N) 10)))) := by rw [addN_F N _ _ _ _ (by decide), addN_F N _ _ _ _ (by decide), addN_F N _ _ _ _ (by decide)]; exact fσ2_x0
                have xo : ext τ5 σ2 := xσ1.kxF kσ2 (Nat.le_refl _)
                have hRo2 : RW g σ2 V N := hRV.ext wτ5 xo
                have hne9 : ¬ wFA V = wFL V := ne_of hRo2.2.2.2.2.1.choose_spec.choose_spec.2.1 hRo2.2.2.2.2.1.choose_spec.choose_spec.1 ne_arr
                obtain ⟨-, ⟨mcA, hLA⟩, hAA, hk9⟩ := add_of (v := none) (n := nF N) (cap := 12) (f := ffAv) (x := τ5.2) hne9 eσ3
                have hNF : nF (addN N (nI jn) o c d) = nF N + 1 := (wfc_add hW hF12' (nI jn) o c d).2
                have hR7 : RW g σ3 (setFP V (upP (wF V) (nF N) τ5.2) (upP (wP V) (nF N) b9)) (addN N (nI jn) o c d) := hRo2.addF (N' := (addN N (nI jn) o c d)) wσ2 hW hk9 hLA hAA h5qv hxo hpo (fun i hi => Nat.ne_of_lt (wτ5 _ _ (hRV.2.2.2.2.2.2.1 i hi))) (fun j hj h => addN_h N _ _ _ _ hj h) (fun i k hi hk => addN_fl N _ _ _ _ (Nat.ne_of_lt hi) hk) hNF
                have k7 : kl σ.2 τ5 σ3 := (xo.kl hl5).tr (hk9.kl (Nat.le_trans hl5 xo.1) hOV.2.2.2.2.2.1 hOV.2.2.2.2.2.2.1)
                have hD7 : WFc (addN N (nI jn) o c d) := (wfc_add hW hF12' (nI jn) o c d).1
                refine A_aload_n (i := 0) dX1_addFlag_101 rfl rfl ?_
                refine A_getf cb_X1 fσ3_6 4 (Nat.le_of_ble_eq_true rfl) q242 rfl (v := .ref (wW V)) rfl dX1_addFlag_102 ?_
                refine A_callV0E (b' := 3) (v := some (.int (nI (nF (addN N (nI jn) o c d))))) (τ := σ3) (c_many σ3 (setFP V (upP (wF V) (nF N) τ5.2) (upP (wP V) (nF N) b9)) (addN N (nI jn) o c d) hR7 hD7) tX5_many q1369 fσ3_0 rfl rfl dX1_addFlag_105 (by decide) (Nat.le_of_ble_eq_true rfl) (Nat.le_of_ble_eq_true rfl) ?_
                refine A_iconst (v := 1) dX1_addFlag_108 (by decide) ?_
                refine A_isub dX1_addFlag_109 ?_
                refine A_int (w := nI (nF N)) (by rw [hNF]; exact sub1 _) ?_
                exact A_iret dX1_addFlag_110 rfl (⟨(mayQ_0 hs (bi_n ⟨hs, ck1⟩) (bi_n ⟨⟨hs, ck1⟩, c1, c2, c3, by rw [ixn bjn, HD_0 hd9 c4]; decide, by rw [hW.2.2.2.2.1]; exact c5⟩)), rfl, (setFP V (upP (wF V) (nF N) τ5.2) (upP (wP V) (nF N) b9)), _, (k7.2 x (wσ _ _ hX)).trans fx5, hR7, hDQ5.kl k7 (hQ.lt wσ).1 (hQ.lt wσ).2, fra0.kl k7, n0.kl wσ (Nat.le_refl _) k7⟩)
    · skip
      refine A_of rfl (by decide) (Nat.le_of_ble_eq_true rfl) (L0 := [(0, .ref x), (1, .int n), (2, .int o), (3, .int c), (4, .int d)]) rfl ?_
      refine A_wfh (fun wσ hgσ => ?_)
      have yσ : ext σ σ := ext.rf
      refine A_aload_n (i := 0) dX1_addFlag_0 rfl rfl ?_
      refine A_iload_n (i := 1) dX1_addFlag_1 rfl rfl ?_
      refine A_callV1 (b' := 0) (c_checkNation_no σ x bf dq sv ou bd pe ep W N n hX hR9 hD ck1) tX1_checkNation q1455 hX rfl rfl dX1_addFlag_2 (by decide) (Nat.le_of_ble_eq_true rfl) (Nat.le_of_ble_eq_true rfl) (fun w9 τ9 h9 => h9.elim) (fun E9 q9 τ9 h9 => A_out rfl (⟨yσ.tr h9.2, 1, by rw [h9.1]; rfl, by rw [(mayQ_2 hs (bi_f (fun h => ck1 h.2)))]; rfl⟩))
theorem q_undoable {l : Launch} {g : GC} (σ : AH) (x bf dq sv ou : Nat) (bd pe ep : Int32) (nv : Value) (da hq u : Nat) (e : Nat → Nat) (hX : σ.1 x = some (lauC bf bd pe ep nv dq sv ou)) (hQ : DQ σ dq da hq u e) : AMet l g mX1_undoable 3 0 [.ref x] σ (A_eq (some (.int (nI u))) σ) (A_no) := by
  refine A_of rfl (by decide) (Nat.le_of_ble_eq_true rfl) (L0 := [(0, .ref x)]) rfl ?_
  refine A_aload_n (i := 0) dX1_undoable_0 rfl rfl ?_
  refine A_getf cb_X1 hX 5 (Nat.le_of_ble_eq_true rfl) q243 rfl (v := .ref dq) rfl dX1_undoable_1 ?_
  refine A_callV0E (b' := 0) (v := some (.int (nI u))) (τ := σ) (c_dqSize σ dq da hq u e hQ) tJ1_size q284 hQ.2.2.1 rfl rfl dX1_undoable_4 (by decide) (Nat.le_of_ble_eq_true rfl) (Nat.le_of_ble_eq_true rfl) ?_
  exact A_iret dX1_undoable_7 rfl (⟨rfl, rfl⟩)
theorem q_undo {l : Launch} {g : GC} (σ : AH) (x bf dq sv ou : Nat) (bd pe ep : Int32) (nv : Value) (da hq u : Nat) (e : Nat → Nat) (hX : σ.1 x = some (lauC bf bd pe ep nv dq sv ou)) (hQ : DQ σ dq da hq u e) (hu : u ≤ 8) (hE : ∀ i, i < u → ∃ vs, σ.1 (e i) = some (.inr (.inl (4, vs)))) : AMet l g mX1_undo 7 2 [.ref x] σ (fun w τ => (mayT (bi (0 < nI u)) 1 1) = 0 ∧ w = some (.int (nI (u - 1))) ∧ ∃ h, τ.1 x = some (lauC bf bd pe ep (.ref (e (u - 1))) dq sv ou) ∧ DQ τ dq da h (u - 1) e ∧ fra [x, dq, da] σ τ ∧ nw σ τ) (A_thr ["java/lang/IllegalStateException"] (mayT (bi (0 < nI u)) 1 1) σ) := by
  refine A_of rfl (by decide) (Nat.le_of_ble_eq_true rfl) (L0 := [(0, .ref x)]) rfl ?_
  refine A_wfh (fun wσ hgσ => ?_)
  have yσ : ext σ σ := ext.rf
  have hxq : ¬ x = dq := ne_of hX hQ.2.2.1 (fun q => by simp at q)
  have hxa : ¬ x = da := by obtain ⟨_, _, _, f, hA, _⟩ := hQ; exact ne_of hX hA (fun q => by simp at q)
  refine A_aload_n (i := 0) dX1_undo_0 rfl rfl ?_
  refine A_getf cb_X1 hX 5 (Nat.le_of_ble_eq_true rfl) q243 rfl (v := .ref dq) rfl dX1_undo_1 ?_
  refine A_callV0E (b' := 2) (v := some (.int (bi (u = 0)))) (τ := σ) (c_dqEmpty σ dq da hq u e hQ) tJ1_isEmpty q2194 hQ.2.2.1 rfl rfl dX1_undo_4 (by decide) (Nat.le_of_ble_eq_true rfl) (Nat.le_of_ble_eq_true rfl) ?_
  refine A_if_ne (tgt := 14) dX1_undo_7 (by decide) (fun c1 => ?_) (fun c1 => ?_)
  · skip
    have c1 := bi_ne0.mp c1
    refine A_iconst (v := 0) dX1_undo_14 (by decide) ?_
    refine A_callS1 (b' := 0) (c_cSta_no σ 0 rfl) tX1_checkState q1387 dX1_undo_15 (by decide) (Nat.le_of_ble_eq_true rfl) (Nat.le_of_ble_eq_true rfl) (fun w9 τ9 h9 => h9.elim) (fun E9 q9 τ9 h9 => A_out rfl (⟨yσ.tr h9.2, 0, by rw [h9.1]; rfl, by rw [mayQ_1 (bi_f (fun q => by have k := (nI_lti (by decide : 0 < 2 ^ 31) (by omega : u < 2 ^ 31)).mp q; omega))]; rfl⟩))
  · skip
    have c1 := bi_eq0.mp c1
    refine A_iconst (v := 1) dX1_undo_10 (by decide) ?_
    refine A_goto (tgt := 15) dX1_undo_11 (by decide) ?_
    refine A_callS1E (b' := 2) (v := none) (τ := σ) (c_cSta σ 1 (by decide)) tX1_checkState q1387 dX1_undo_15 (by decide) (Nat.le_of_ble_eq_true rfl) (Nat.le_of_ble_eq_true rfl) ?_
    have h0 : 0 < u := Nat.pos_of_ne_zero c1
    refine A_aload_n (i := 0) dX1_undo_18 rfl rfl ?_
    refine A_aload_n (i := 0) dX1_undo_19 rfl rfl ?_
    refine A_getf cb_X1 hX 5 (Nat.le_of_ble_eq_true rfl) q243 rfl (v := .ref dq) rfl dX1_undo_20 ?_
    refine A_callV0 (b' := 2) (c_dqRemL σ dq da hq u e hQ h0) tJ1_removeLast q2198 hQ.2.2.1 rfl rfl dX1_undo_23 (by decide) (Nat.le_of_ble_eq_true rfl) (Nat.le_of_ble_eq_true rfl) (fun w9 τ9 h9 => ?_) (fun E9 q9 τ9 h9 => h9.elim)
    obtain ⟨e9, hd9, k9⟩ := h9
    subst e9
    refine A_wfh (fun wτ9 hgτ9 => ?_)
    have fx9 : τ9.1 x = some (.inr (.inl (0, [.ref bf, .int bd, .int pe, .int ep, nv, .ref dq, .ref sv, .ref ou]))) := k9.at wσ hX hxq hxa
    have n9 : nw σ τ9 := hQ.nw nw.rf wσ k9
    obtain ⟨vs9, hv9⟩ := hE (u - 1) (by omega)
    have fv9 : τ9.1 (e (u - 1)) = some (.inr (.inl (4, vs9))) := n9.2 _ _ hv9 (Or.inl ⟨_, _, rfl, by decide⟩)
    refine A_castE fv9 rfl q203 dX1_undo_26 ?_
    refine A_putf cb_X1 fx9 4 (Nat.le_of_ble_eq_true rfl) q242 rfl rfl rfl rfl (Nat.le_of_ble_eq_true rfl) dX1_undo_29 ?_
    obtain ⟨σ1, eσ1⟩ : ∃ τ, τ = h_put τ9 x (.inr (.inl (0, [.ref bf, .int bd, .int pe, .int ep, .ref (e (u - 1)), .ref dq, .ref sv, .ref ou]))) := ⟨_, rfl⟩
    refine A_st (σ' := σ1) eσ1.symm ?_
    have wσ1 : wfh σ1 := by rw [eσ1]; exact wτ9.put fx9
    have fσ1_0 : σ1.1 x = some (.inr (.inl (0, [.ref bf, .int bd, .int pe, .int ep, .ref (e (u - 1)), .ref dq, .ref sv, .ref ou]))) := by rw [eσ1]; exact if_pos rfl
    have fσ1_1 : σ1.1 (e (u - 1)) = some (.inr (.inl (4, vs9))) := by rw [eσ1]; exact (hp_ne (ne_of (x := .inr (.inl (4, vs9))) (y := .inr (.inl (0, [.ref bf, .int bd, .int pe, .int ep, nv, .ref dq, .ref sv, .ref ou]))) fv9 fx9 (fun e8 => by simp at e8))).trans fv9
    have fσ1_2 : σ1.1 dq = some (dqC da hq (u - 1)) := by rw [eσ1]; exact (hp_ne (ne_of (x := dqC da hq (u - 1)) (y := .inr (.inl (0, [.ref bf, .int bd, .int pe, .int ep, nv, .ref dq, .ref sv, .ref ou]))) hd9.2.2.1 fx9 (fun e8 => by simp at e8))).trans hd9.2.2.1
    have kx9 : kx x τ9 σ1 := by rw [eσ1]; exact kx.rf.put
    have hd8 := hd9.kx wτ9 fx9 (fun vs q => by simp at q) (fun v q => by simp at q) kx9
    have n8 : nw σ σ1 := n9.kx wτ9 fx9 (isW_no (by decide)) kx9
    have fr8 : fra [x, dq, da] σ σ1 := (fra.rf.k2 (by simp) (by simp) k9).kx (by simp) kx9
    refine A_aload_n (i := 0) dX1_undo_32 rfl rfl ?_
    refine A_getf cb_X1 fσ1_0 5 (Nat.le_of_ble_eq_true rfl) q243 rfl (v := .ref dq) rfl dX1_undo_33 ?_
    refine A_callV0E (b' := 2) (v := some (.int (nI (u - 1)))) (τ := σ1) (c_dqSize σ1 dq da hq (u - 1) e hd8) tJ1_size q284 fσ1_2 rfl rfl dX1_undo_36 (by decide) (Nat.le_of_ble_eq_true rfl) (Nat.le_of_ble_eq_true rfl) ?_
    exact A_iret dX1_undo_39 rfl (⟨mayQ_0 (bi_n ((nI_lti (by decide : 0 < 2 ^ 31) (by omega : u < 2 ^ 31)).mpr h0)) (by decide) (by decide), rfl, _, fσ1_0, hd8, fr8, n8⟩)
theorem q_save {l : Launch} {g : GC} (σ : AH) (x bf dq sv ou : Nat) (bd pe ep : Int32) (is : Int32) (nv : Value) (W : WA) (N : AF) (h : Int32) (fs : Nat → Option Nat) (hL : LD g σ is nv W N) (hX : σ.1 x = some (lauC bf bd pe ep nv dq sv ou)) (hS : σ.1 sv = some (.inl (.object "FlagLaundry$World", 2, .inr (.inr (.inr (.inr fs)))))) : AMet l g mX1_save 9 2 [.ref x, .int h] σ (fun w τ => (mayT is (bi (inR h 0 1)) 1) = 0 ∧ w = some (.int (N 0)) ∧ τ.1 sv = some (objA "FlagLaundry$World" 2 (va_up fs (ix h) (some (wW W)))) ∧ kx sv σ τ) (A_thr ["java/lang/IllegalStateException", "java/lang/IndexOutOfBoundsException"] (mayT is (bi (inR h 0 1)) 1) σ) := by
  rcases hL with ⟨h0, hn⟩ | ⟨hs, hn, hR, hD, hw, hh⟩
  · subst hn
    refine A_of rfl (by decide) (Nat.le_of_ble_eq_true rfl) (L0 := [(0, .ref x), (1, .int h)]) rfl ?_
    refine A_wfh (fun wσ hgσ => ?_)
    have yσ : ext σ σ := ext.rf
    refine A_aload_n (i := 0) dX1_save_0 rfl rfl ?_
    refine A_callV0 (b' := 0) (u_loaded σ x bf dq sv ou bd pe ep  hX) tX1_loaded q1383 hX rfl rfl dX1_save_1 (by decide) (Nat.le_of_ble_eq_true rfl) (Nat.le_of_ble_eq_true rfl) (fun w9 τ9 h9 => h9.elim) (fun E9 q9 τ9 h9 => A_out rfl (⟨yσ.tr h9.2, 0, by rw [h9.1]; rfl, by rw [(mayQ_1 h0)]; rfl⟩))
  · subst hn
    have hW := hD.1
    have hR9 := hR
    obtain ⟨h1, ⟨fr, h2, h2p⟩, ⟨fm, h3, h3p⟩, ⟨mcn, fnA, h4, h4p, h4q⟩, ⟨mcf, ffA, h5, h5p, h5q⟩, ⟨fu, h6, h6p⟩, h7, h8, h9, h10, h11⟩ := hR
    have hF12 : nF N ≤ 12 := hW.2.2.2.2.2
    have hN4 : nN N ≤ 4 := hW.2.1.2
    have hC6 : nC N ≤ 6 := hW.1.2
    have hT3 : nT N ≤ 3 := hW.2.2.1.2
    have hP8 : nP N ≤ 8 := hW.2.2.2.1.2
    by_cases ck1 : inR h 0 1
    · skip
      obtain ⟨jh, hjh, rfl⟩ := in6_ex (n := 1) (by decide) ck1
      have bjh : jh < 2000 := Nat.lt_of_le_of_lt hjh (by decide)
      refine A_of rfl (by decide) (Nat.le_of_ble_eq_true rfl) (L0 := [(0, .ref x), (1, .int (nI jh))]) rfl ?_
      refine A_wfh (fun wσ hgσ => ?_)
      have yσ : ext σ σ := ext.rf
      refine A_aload_n (i := 0) dX1_save_0 rfl rfl ?_
      refine A_callV0E (b' := 2) (v := some (.ref (wW W))) (τ := σ) (c_loaded σ x bf dq sv ou bd pe ep W N hX hR9 hD) tX1_loaded q1383 hX rfl rfl dX1_save_1 (by decide) (Nat.le_of_ble_eq_true rfl) (Nat.le_of_ble_eq_true rfl) ?_
      refine A_astore_n (i := 2) dX1_save_4 rfl (Nat.le_of_ble_eq_true rfl) ?_
      refine A_iload_n (i := 1) dX1_save_5 rfl rfl ?_
      refine A_iconst (v := 2) dX1_save_6 (by decide) ?_
      refine A_callS2E (b' := 2) (v := none) (τ := σ) (c_cIdx σ (nI jh) 2 ck1) tX1_checkIndex q378 dX1_save_7 (by decide) (Nat.le_of_ble_eq_true rfl) (Nat.le_of_ble_eq_true rfl) ?_
      refine A_aload_n (i := 0) dX1_save_10 rfl rfl ?_
      refine A_getf cb_X1 hX 6 (Nat.le_of_ble_eq_true rfl) q244 rfl (v := .ref sv) rfl dX1_save_11 ?_
      refine A_iload_n (i := 1) dX1_save_14 rfl rfl ?_
      refine A_aload_n (i := 2) dX1_save_15 rfl rfl ?_
      refine A_aast hS (by decide) h1 rfl (Or.inl rfl) (vp_in_nI (Nat.lt_succ_of_le hjh) (by decide)) dX1_save_16 ?_
      refine A_st (σ' := h_put σ sv (.inl (.object "FlagLaundry$World", 2, .inr (.inr (.inr (.inr (va_up fs jh (some (wW W))))))))) (by rw [nI_clamp (Nat.lt_trans bjh (by decide))]) ?_
      obtain ⟨σ1, eσ1⟩ : ∃ τ, τ = h_put σ sv (.inl (.object "FlagLaundry$World", 2, .inr (.inr (.inr (.inr (va_up fs jh (some (wW W)))))))) := ⟨_, rfl⟩
      refine A_st (σ' := σ1) eσ1.symm ?_
      have wσ1 : wfh σ1 := by rw [eσ1]; exact wσ.put hS
      have fσ1_0 : σ1.1 (wW W) = some (.inr (.inl (4, [.int (N 9), .ref (wR W), .ref (wM W), .ref (wNL W), .ref (wFL W), .ref (wUN W), .int (N 6), .int (N 8), .int (N 0), .int (N 1), .int (N 2), .int (N 3), .int (N 4), .int (N 5), .int (N 11)]))) := by rw [eσ1]; exact (hp_ne (ne_of (x := .inr (.inl (4, [.int (N 9), .ref (wR W), .ref (wM W), .ref (wNL W), .ref (wFL W), .ref (wUN W), .int (N 6), .int (N 8), .int (N 0), .int (N 1), .int (N 2), .int (N 3), .int (N 4), .int (N 5), .int (N 11)]))) (y := .inl (.object "FlagLaundry$World", 2, .inr (.inr (.inr (.inr fs))))) h1 hS (fun e8 => by simp at e8))).trans h1
      have fσ1_1 : σ1.1 (wFL W) = some (.inr (.inl (14, [.int mcf, .ref (wFA W), .int (nI (nF N))]))) := by rw [eσ1]; exact (hp_ne (ne_of (x := .inr (.inl (14, [.int mcf, .ref (wFA W), .int (nI (nF N))]))) (y := .inl (.object "FlagLaundry$World", 2, .inr (.inr (.inr (.inr fs))))) h5 hS (fun e8 => by simp at e8))).trans h5
      have fσ1_2 : σ1.1 (wFA W) = some (.inl (.object "java/lang/Object", 12, .inr (.inr (.inr (.inr ffA))))) := by rw [eσ1]; exact (hp_ne (ne_of (x := .inl (.object "java/lang/Object", 12, .inr (.inr (.inr (.inr ffA))))) (y := .inl (.object "FlagLaundry$World", 2, .inr (.inr (.inr (.inr fs))))) h5p hS (fun e8 => by simp at e8))).trans h5p
      have fσ1_3 : σ1.1 (wNL W) = some (.inr (.inl (14, [.int mcn, .ref (wNA W), .int (nI (nN N))]))) := by rw [eσ1]; exact (hp_ne (ne_of (x := .inr (.inl (14, [.int mcn, .ref (wNA W), .int (nI (nN N))]))) (y := .inl (.object "FlagLaundry$World", 2, .inr (.inr (.inr (.inr fs))))) h4 hS (fun e8 => by simp at e8))).trans h4
      have fσ1_4 : σ1.1 (wNA W) = some (.inl (.object "java/lang/Object", 4, .inr (.inr (.inr (.inr fnA))))) := by rw [eσ1]; exact (hp_ne (ne_of (x := .inl (.object "java/lang/Object", 4, .inr (.inr (.inr (.inr fnA))))) (y := .inl (.object "FlagLaundry$World", 2, .inr (.inr (.inr (.inr fs))))) h4p hS (fun e8 => by simp at e8))).trans h4p
      have fσ1_5 : σ1.1 (wR W) = some (.inl (.int, 6, .inl fr)) := by rw [eσ1]; exact (hp_ne (ne_of (x := .inl (.int, 6, .inl fr)) (y := .inl (.object "FlagLaundry$World", 2, .inr (.inr (.inr (.inr fs))))) h2 hS (fun e8 => by simp at e8))).trans h2
      have fσ1_6 : σ1.1 (wM W) = some (.inl (.int, 3, .inl fm)) := by rw [eσ1]; exact (hp_ne (ne_of (x := .inl (.int, 3, .inl fm)) (y := .inl (.object "FlagLaundry$World", 2, .inr (.inr (.inr (.inr fs))))) h3 hS (fun e8 => by simp at e8))).trans h3
      have fσ1_7 : σ1.1 (wUN W) = some (.inl (.object "FlagLaundry$Test", 7, .inr (.inr (.inr (.inr fu))))) := by rw [eσ1]; exact (hp_ne (ne_of (x := .inl (.object "FlagLaundry$Test", 7, .inr (.inr (.inr (.inr fu))))) (y := .inl (.object "FlagLaundry$World", 2, .inr (.inr (.inr (.inr fs))))) h6 hS (fun e8 => by simp at e8))).trans h6
      have fσ1_8 : σ1.1 sv = some (.inl (.object "FlagLaundry$World", 2, .inr (.inr (.inr (.inr (va_up fs jh (some (wW W)))))))) := by rw [eσ1]; exact if_pos rfl
      have fσ1_9 : σ1.1 x = some (.inr (.inl (0, [.ref bf, .int bd, .int pe, .int ep, .ref (wW W), .ref dq, .ref sv, .ref ou]))) := by rw [eσ1]; exact (hp_ne (ne_of (x := .inr (.inl (0, [.ref bf, .int bd, .int pe, .int ep, .ref (wW W), .ref dq, .ref sv, .ref ou]))) (y := .inl (.object "FlagLaundry$World", 2, .inr (.inr (.inr (.inr fs))))) hX hS (fun e8 => by simp at e8))).trans hX
      have hRσ1 : RW g σ1 W N := hR9.oth wσ hS (isW_ty ⟨by decide, by decide, by decide⟩) (by rw [eσ1]; exact kx.rf.put)
      refine A_aload_n (i := 2) dX1_save_17 rfl rfl ?_
      refine A_getfN cb_X5 fσ1_0 8 (Nat.le_of_ble_eq_true rfl) q844 rfl (v := .int (N 0)) rfl dX1_save_18 ?_
      exact A_iret dX1_save_21 rfl (⟨(mayQ_0 hs (bi_n ck1) (by decide)), rfl, by rw [ixn bjh]; exact fσ1_8, (by rw [eσ1]; exact kx.rf.put)⟩)
    · skip
      refine A_of rfl (by decide) (Nat.le_of_ble_eq_true rfl) (L0 := [(0, .ref x), (1, .int h)]) rfl ?_
      refine A_wfh (fun wσ hgσ => ?_)
      have yσ : ext σ σ := ext.rf
      refine A_aload_n (i := 0) dX1_save_0 rfl rfl ?_
      refine A_callV0E (b' := 2) (v := some (.ref (wW W))) (τ := σ) (c_loaded σ x bf dq sv ou bd pe ep W N hX hR9 hD) tX1_loaded q1383 hX rfl rfl dX1_save_1 (by decide) (Nat.le_of_ble_eq_true rfl) (Nat.le_of_ble_eq_true rfl) ?_
      refine A_astore_n (i := 2) dX1_save_4 rfl (Nat.le_of_ble_eq_true rfl) ?_
      refine A_iload_n (i := 1) dX1_save_5 rfl rfl ?_
      refine A_iconst (v := 2) dX1_save_6 (by decide) ?_
      refine A_callS2 (b' := 0) (c_cIdx_no σ h 2 ck1) tX1_checkIndex q378 dX1_save_7 (by decide) (Nat.le_of_ble_eq_true rfl) (Nat.le_of_ble_eq_true rfl) (fun w9 τ9 h9 => h9.elim) (fun E9 q9 τ9 h9 => A_out rfl (⟨yσ.tr h9.2, 1, by rw [h9.1]; rfl, by rw [(mayQ_2 hs (bi_f (fun h => ck1 h)))]; rfl⟩))
