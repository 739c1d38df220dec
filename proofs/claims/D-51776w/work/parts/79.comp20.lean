/-! FLAGLAUNDRY 9: changes -/
theorem own.le {a b : Nat} {W : WA} {N : AF} (h : own b W N) (k : a ≤ b) : own a W N := ⟨Nat.le_trans k h.1, Nat.le_trans k h.2.1, Nat.le_trans k h.2.2.1, Nat.le_trans k h.2.2.2.1, Nat.le_trans k h.2.2.2.2.1, Nat.le_trans k h.2.2.2.2.2.1, Nat.le_trans k h.2.2.2.2.2.2.1, fun f hf => Nat.le_trans k (h.2.2.2.2.2.2.2.1 f hf), fun n hn => Nat.le_trans k (h.2.2.2.2.2.2.2.2 n hn)⟩
/-- a change is made: the new world, the past -/
def A_mq (g : GC) (c : Int32) (v : Value) (bf : Nat) (bd pe ep : Int32) (dq sv ou x da u : Nat) (e : Nat → Nat) (W : WA) (N' : AF) (σ : AH) : Option Value → AH → Prop := fun w τ => c = 0 ∧ w = some v ∧ ∃ V h, τ.1 x = some (lauC bf bd pe ep (.ref (wW V)) dq sv ou) ∧ RW g τ V N' ∧ DQ τ dq da h (remC u) (chE u e (wW W)) ∧ fra [x, dq, da] σ τ ∧ nw σ τ
theorem q_put {l : Launch} {g : GC} (σ : AH) (x bf dq sv ou : Nat) (bd pe ep : Int32) (is : Int32) (nv : Value) (W : WA) (N : AF) (f t : Int32) (da hq u : Nat) (e : Nat → Nat) (hL : LD g σ is nv W N) (hX : σ.1 x = some (lauC bf bd pe ep nv dq sv ou)) (hQ : DQ σ dq da hq u e) (hu : u ≤ 8) : AMet l g mX1_put 45 77 [.ref x, .int f, .int t] σ (A_mq g (mayT is (bi (okF is N f ∧ okT is N t)) (bi (okB is N f t ∧ whyPutN N (ix f) (ix t) = 0))) (.int (manyT (putIn N (ix f) t) t)) bf bd pe ep dq sv ou x da u e W (putIn N (ix f) t) σ) (A_thr ["java/lang/IllegalStateException", "java/lang/IndexOutOfBoundsException", "java/lang/IllegalArgumentException"] (mayT is (bi (okF is N f ∧ okT is N t)) (bi (okB is N f t ∧ whyPutN N (ix f) (ix t) = 0))) σ) := by
  rcases hL with ⟨h0, hn⟩ | ⟨hs, hn, hR, hD, hw, hh⟩
  · subst hn
    refine A_of rfl (by decide) (Nat.le_of_ble_eq_true rfl) (L0 := [(0, .ref x), (1, .int f), (2, .int t)]) rfl ?_
    refine A_wfh (fun wσ hgσ => ?_)
    have yσ : ext σ σ := ext.rf
    refine A_aload_n (i := 0) dX1_put_0 rfl rfl ?_
    refine A_iload_n (i := 1) dX1_put_1 rfl rfl ?_
    refine A_iload_n (i := 2) dX1_put_2 rfl rfl ?_
    refine A_callV2 (b' := 0) (u_checkBoth σ x bf dq sv ou bd pe ep f t hX) tX1_checkBoth q1656 hX rfl rfl dX1_put_3 (by decide) (Nat.le_of_ble_eq_true rfl) (Nat.le_of_ble_eq_true rfl) (fun w9 τ9 h9 => h9.elim) (fun E9 q9 τ9 h9 => A_out rfl (⟨yσ.tr h9.2, 0, by rw [h9.1]; rfl, by rw [(mayQ_1 h0)]; rfl⟩))
  · subst hn
    have hW := hD.1
    have hR9 := hR
    obtain ⟨h1, ⟨fr, h2, h2p⟩, ⟨fm, h3, h3p⟩, ⟨mcn, fnA, h4, h4p, h4q⟩, ⟨mcf, ffA, h5, h5p, h5q⟩, ⟨fu, h6, h6p⟩, h7, h8, h9, h10, h11⟩ := hR
    have hF12 : nF N ≤ 12 := hW.2.2.2.2.2
    have hN4 : nN N ≤ 4 := hW.2.1.2
    have hC6 : nC N ≤ 6 := hW.1.2
    have hT3 : nT N ≤ 3 := hW.2.2.1.2
    have hP8 : nP N ≤ 8 := hW.2.2.2.1.2
    by_cases ck1 : inR f 0 (N 10 - 1)
    · skip
      obtain ⟨jf, hjf, rfl⟩ := in_ex hW.2.2.2.2.1 (Nat.le_trans hF12 (by decide)) ck1
      have bjf : jf < 2000 := Nat.lt_of_lt_of_le hjf (Nat.le_trans hF12 (by decide))
      by_cases ck2 : inR t 0 (N 8 - 1)
      · skip
        obtain ⟨jt, hjt, rfl⟩ := in_ex hW.2.2.1.1 (Nat.le_trans hT3 (by decide)) ck2
        have bjt : jt < 2000 := Nat.lt_of_lt_of_le hjt (Nat.le_trans hT3 (by decide))
        refine A_of rfl (by decide) (Nat.le_of_ble_eq_true rfl) (L0 := [(0, .ref x), (1, .int (nI jf)), (2, .int (nI jt))]) rfl ?_
        refine A_wfh (fun wσ hgσ => ?_)
        have yσ : ext σ σ := ext.rf
        refine A_aload_n (i := 0) dX1_put_0 rfl rfl ?_
        refine A_iload_n (i := 1) dX1_put_1 rfl rfl ?_
        refine A_iload_n (i := 2) dX1_put_2 rfl rfl ?_
        refine A_callV2E (b' := 77) (v := some (.ref (wF W jf))) (τ := σ) (c_checkBoth σ x bf dq sv ou bd pe ep W N jf jt hX hR9 hD hjf hjt) tX1_checkBoth q1656 hX rfl rfl dX1_put_3 (by decide) (Nat.le_of_ble_eq_true rfl) (Nat.le_of_ble_eq_true rfl) ?_
        refine A_astore_n (i := 3) dX1_put_6 rfl (Nat.le_of_ble_eq_true rfl) ?_
        refine A_aload_n (i := 0) dX1_put_7 rfl rfl ?_
        refine A_getf cb_X1 hX 4 (Nat.le_of_ble_eq_true rfl) q242 rfl (v := .ref (wW W)) rfl dX1_put_8 ?_
        refine A_iload_n (i := 1) dX1_put_11 rfl rfl ?_
        refine A_iload_n (i := 2) dX1_put_12 rfl rfl ?_
        refine A_callS3 (b' := 71) (c_putBar σ W N jf jt hR9 hD hjf hjt) tX1_putBar q1660 dX1_put_13 (by decide) (Nat.le_of_ble_eq_true rfl) (Nat.le_of_ble_eq_true rfl) (fun w9 σ1 h9 => ?_) (fun E9 q9 τ9 h9 => h9.elim)
        obtain ⟨e9, xσ1⟩ := h9
        subst e9
        refine A_wfh (fun wσ1 hgσ1 => ?_)
        have yσ1 : ext σ σ1 := yσ.tr (xσ1)
        have fσ1_0 : σ1.1 (wW W) = some (.inr (.inl (4, [.int (N 9), .ref (wR W), .ref (wM W), .ref (wNL W), .ref (wFL W), .ref (wUN W), .int (N 6), .int (N 8), .int (N 0), .int (N 1), .int (N 2), .int (N 3), .int (N 4), .int (N 5), .int (N 11)]))) := xσ1.at wσ h1
        have fσ1_1 : σ1.1 (wFL W) = some (.inr (.inl (14, [.int mcf, .ref (wFA W), .int (nI (nF N))]))) := xσ1.at wσ h5
        have fσ1_2 : σ1.1 (wFA W) = some (.inl (.object "java/lang/Object", 12, .inr (.inr (.inr (.inr ffA))))) := xσ1.at wσ h5p
        have fσ1_3 : σ1.1 (wNL W) = some (.inr (.inl (14, [.int mcn, .ref (wNA W), .int (nI (nN N))]))) := xσ1.at wσ h4
        have fσ1_4 : σ1.1 (wNA W) = some (.inl (.object "java/lang/Object", 4, .inr (.inr (.inr (.inr fnA))))) := xσ1.at wσ h4p
        have fσ1_5 : σ1.1 (wR W) = some (.inl (.int, 6, .inl fr)) := xσ1.at wσ h2
        have fσ1_6 : σ1.1 (wM W) = some (.inl (.int, 3, .inl fm)) := xσ1.at wσ h3
        have fσ1_7 : σ1.1 (wUN W) = some (.inl (.object "FlagLaundry$Test", 7, .inr (.inr (.inr (.inr fu))))) := xσ1.at wσ h6
        have fσ1_8 : σ1.1 x = some (.inr (.inl (0, [.ref bf, .int bd, .int pe, .int ep, .ref (wW W), .ref dq, .ref sv, .ref ou]))) := xσ1.at wσ hX
        have fσ1_9 : σ1.1 (wF W jf) = some (.inr (.inl (6, [.int (fl N jf 0), .int (fl N jf 1), .int (fl N jf 2), .int (fl N jf 3), .int (fl N jf 4), .int (fl N jf 5), .int (fl N jf 6), .int (fl N jf 7), .ref (wP W jf)]))) := xσ1.at wσ (hR9.2.2.2.2.2.2.1 jf hjf)
        have hRσ1 : RW g σ1 W N := hR9.ext wσ xσ1
        refine A_if_ne (tgt := 23) dX1_put_16 (by decide) (fun c1 => ?_) (fun c1 => ?_)
        · skip
          refine A_iconst (v := 0) dX1_put_23 (by decide) ?_
          refine A_callS1 (b' := 0) (c_cArg_no σ1 0 rfl) tX1_checkArgument q1406 dX1_put_24 (by decide) (Nat.le_of_ble_eq_true rfl) (Nat.le_of_ble_eq_true rfl) (fun w9 τ9 h9 => h9.elim) (fun E9 q9 τ9 h9 => A_out rfl (⟨yσ1.tr h9.2, 2, by rw [h9.1]; rfl, by rw [(mayQ_3 hs (bi_n ⟨⟨hs, ck1⟩, ⟨hs, ck2⟩⟩) (bi_f (fun h => c1 (by have k := h.2; rw [ixn bjf, ixn bjt] at k; exact k))))]; rfl⟩))
        · skip
          refine A_iconst (v := 1) dX1_put_19 (by decide) ?_
          refine A_goto (tgt := 24) dX1_put_20 (by decide) ?_
          refine A_callS1E (b' := 71) (v := none) (τ := σ1) (c_cArg σ1 1 (by decide)) tX1_checkArgument q1406 dX1_put_24 (by decide) (Nat.le_of_ble_eq_true rfl) (Nat.le_of_ble_eq_true rfl) ?_
          refine A_aload_n (i := 0) dX1_put_27 rfl rfl ?_
          refine A_callV0 (b' := 2) (c_changed σ1 x bf dq sv ou bd pe ep W N da hq u e fσ1_8 hRσ1 hD (hQ.ex wσ yσ1) hu) tX1_changed q2040 fσ1_8 rfl rfl dX1_put_28 (by decide) (Nat.le_of_ble_eq_true rfl) (Nat.le_of_ble_eq_true rfl) (fun w9 τ5 h5 => ?_) (fun E9 q9 τ9 h9 => h9.elim)
          obtain ⟨V, h5q, e5, fx5, hRV, hOW, hDQ5, fr5, n5⟩ := h5
          subst e5
          refine A_wfh (fun wτ5 hgτ5 => ?_)
          have fra0 : fra [x, dq, da] σ τ5 := (fra.rf.ex yσ1).tr fr5
          have n0 : nw σ τ5 := (nw.rf.ex wσ yσ1).tr n5
          have hOV : own σ.2 V N := hOW.le yσ1.1
          have hl5 : σ.2 ≤ τ5.2 := fra0.1
          have hRo : RW g τ5 W N := hR9.nw n0
          have hRc := hRV
          obtain ⟨h1v, ⟨frv, h2v, h2pv⟩, ⟨fmv, h3v, h3pv⟩, ⟨mcnv, fnAv, h4v, h4pv, h4qv⟩, ⟨mcfv, ffAv, h5v, h5pv, h5qv⟩, ⟨fuv, h6v, h6pv⟩, h7v, h8v, h9v, h10v, h11v⟩ := hRc
          have fτ5v_0 : τ5.1 (wW V) = some (.inr (.inl (4, [.int (N 9), .ref (wR V), .ref (wM V), .ref (wNL V), .ref (wFL V), .ref (wUN V), .int (N 6), .int (N 8), .int (N 0), .int (N 1), .int (N 2), .int (N 3), .int (N 4), .int (N 5), .int (N 11)]))) := h1v
          have fτ5v_1 : τ5.1 (wFL V) = some (.inr (.inl (14, [.int mcfv, .ref (wFA V), .int (nI (nF N))]))) := h5v
          have fτ5v_2 : τ5.1 (wFA V) = some (.inl (.object "java/lang/Object", 12, .inr (.inr (.inr (.inr ffAv))))) := h5pv
          have fτ5v_3 : τ5.1 (wNL V) = some (.inr (.inl (14, [.int mcnv, .ref (wNA V), .int (nI (nN N))]))) := h4v
          have fτ5v_4 : τ5.1 (wNA V) = some (.inl (.object "java/lang/Object", 4, .inr (.inr (.inr (.inr fnAv))))) := h4pv
          have fτ5v_5 : τ5.1 (wR V) = some (.inl (.int, 6, .inl frv)) := h2v
          have fτ5v_6 : τ5.1 (wM V) = some (.inl (.int, 3, .inl fmv)) := h3v
          have fτ5v_7 : τ5.1 (wUN V) = some (.inl (.object "FlagLaundry$Test", 7, .inr (.inr (.inr (.inr fuv))))) := h6v
          refine A_iload_n (i := 1) dX1_put_31 rfl rfl ?_
          refine A_iload_n (i := 2) dX1_put_32 rfl rfl ?_
          refine A_callV2 (b' := 0) (c_puts5 τ5 V N σ.2 jf jt hRV hD hOV hl5 hjf hjt) tX5_puts q2080 fτ5v_0 rfl rfl dX1_put_33 (by decide) (Nat.le_of_ble_eq_true rfl) (Nat.le_of_ble_eq_true rfl) (fun w9 σ2 h9 => ?_) (fun E9 q9 τ9 h9 => h9.elim)
          obtain ⟨e9, ⟨Pσ2, hRσ2⟩, kσ2⟩ := h9
          subst e9
          refine A_wfh (fun wσ2 hgσ2 => ?_)
          have hRσ2 : RW g σ2 (setP V Pσ2) (putIn N jf (nI jt)) := hRσ2
          have hDσ2 : WFd (putIn N jf (nI jt)) := WFd_put hD hjf hjt
          have hRc := hRσ2
          obtain ⟨h1σ2, ⟨frσ2, h2σ2, h2pσ2⟩, ⟨fmσ2, h3σ2, h3pσ2⟩, ⟨mcnσ2, fnAσ2, h4σ2, h4pσ2, h4qσ2⟩, ⟨mcfσ2, ffAσ2, h5σ2, h5pσ2, h5qσ2⟩, ⟨fuσ2, h6σ2, h6pσ2⟩, h7σ2, h8σ2, h9σ2, h10σ2, h11σ2⟩ := hRc
          have fσ2σ2_0 : σ2.1 (wW V) = some (.inr (.inl (4, [.int ((putIn N jf (nI jt)) 9), .ref (wR V), .ref (wM V), .ref (wNL V), .ref (wFL V), .ref (wUN V), .int ((putIn N jf (nI jt)) 6), .int ((putIn N jf (nI jt)) 8), .int ((putIn N jf (nI jt)) 0), .int ((putIn N jf (nI jt)) 1), .int ((putIn N jf (nI jt)) 2), .int ((putIn N jf (nI jt)) 3), .int ((putIn N jf (nI jt)) 4), .int ((putIn N jf (nI jt)) 5), .int ((putIn N jf (nI jt)) 11)]))) := h1σ2
          have fσ2σ2_1 : σ2.1 (wFL V) = some (.inr (.inl (14, [.int mcfσ2, .ref (wFA V), .int (nI (nF (putIn N jf (nI jt))))]))) := h5σ2
          have fσ2σ2_2 : σ2.1 (wFA V) = some (.inl (.object "java/lang/Object", 12, .inr (.inr (.inr (.inr ffAσ2))))) := h5pσ2
          have fσ2σ2_3 : σ2.1 (wNL V) = some (.inr (.inl (14, [.int mcnσ2, .ref (wNA V), .int (nI (nN (putIn N jf (nI jt))))]))) := h4σ2
          have fσ2σ2_4 : σ2.1 (wNA V) = some (.inl (.object "java/lang/Object", 4, .inr (.inr (.inr (.inr fnAσ2))))) := h4pσ2
          have fσ2σ2_5 : σ2.1 (wR V) = some (.inl (.int, 6, .inl frσ2)) := h2σ2
          have fσ2σ2_6 : σ2.1 (wM V) = some (.inl (.int, 3, .inl fmσ2)) := h3σ2
          have fσ2σ2_7 : σ2.1 (wUN V) = some (.inl (.object "FlagLaundry$Test", 7, .inr (.inr (.inr (.inr fuσ2))))) := h6σ2
          exact A_iret dX1_put_36 rfl (⟨(mayQ_0 hs (bi_n ⟨⟨hs, ck1⟩, ⟨hs, ck2⟩⟩) (bi_n ⟨⟨⟨hs, ck1⟩, ⟨hs, ck2⟩⟩, by rw [ixn bjf, ixn bjt]; exact c1⟩)), by rw [ixn bjf], (setP V Pσ2), _, (kσ2.2 x (wσ _ _ hX)).trans fx5, (by rw [ixn bjf]; exact hRσ2), hDQ5.kl kσ2 (hQ.lt wσ).1 (hQ.lt wσ).2, fra0.kl kσ2, n0.kl wσ (Nat.le_refl _) kσ2⟩)
      · skip
        refine A_of rfl (by decide) (Nat.le_of_ble_eq_true rfl) (L0 := [(0, .ref x), (1, .int (nI jf)), (2, .int t)]) rfl ?_
        refine A_wfh (fun wσ hgσ => ?_)
        have yσ : ext σ σ := ext.rf
        refine A_aload_n (i := 0) dX1_put_0 rfl rfl ?_
        refine A_iload_n (i := 1) dX1_put_1 rfl rfl ?_
        refine A_iload_n (i := 2) dX1_put_2 rfl rfl ?_
        refine A_callV2 (b' := 0) (c_checkBoth_no2 σ x bf dq sv ou bd pe ep W N jf t hX hR9 hD hjf ck2) tX1_checkBoth q1656 hX rfl rfl dX1_put_3 (by decide) (Nat.le_of_ble_eq_true rfl) (Nat.le_of_ble_eq_true rfl) (fun w9 τ9 h9 => h9.elim) (fun E9 q9 τ9 h9 => A_out rfl (⟨yσ.tr h9.2, 1, by rw [h9.1]; rfl, by rw [(mayQ_2 hs (bi_f (fun h => ck2 h.2.2)))]; rfl⟩))
    · skip
      refine A_of rfl (by decide) (Nat.le_of_ble_eq_true rfl) (L0 := [(0, .ref x), (1, .int f), (2, .int t)]) rfl ?_
      refine A_wfh (fun wσ hgσ => ?_)
      have yσ : ext σ σ := ext.rf
      refine A_aload_n (i := 0) dX1_put_0 rfl rfl ?_
      refine A_iload_n (i := 1) dX1_put_1 rfl rfl ?_
      refine A_iload_n (i := 2) dX1_put_2 rfl rfl ?_
      refine A_callV2 (b' := 0) (c_checkBoth_no σ x bf dq sv ou bd pe ep W N f t hX hR9 hD ck1) tX1_checkBoth q1656 hX rfl rfl dX1_put_3 (by decide) (Nat.le_of_ble_eq_true rfl) (Nat.le_of_ble_eq_true rfl) (fun w9 τ9 h9 => h9.elim) (fun E9 q9 τ9 h9 => A_out rfl (⟨yσ.tr h9.2, 1, by rw [h9.1]; rfl, by rw [(mayQ_2 hs (bi_f (fun h => ck1 h.1.2)))]; rfl⟩))
theorem q_wash {l : Launch} {g : GC} (σ : AH) (x bf dq sv ou : Nat) (bd pe ep : Int32) (is : Int32) (nv : Value) (W : WA) (N : AF) (t h : Int32) (da hq u : Nat) (e : Nat → Nat) (hL : LD g σ is nv W N) (hX : σ.1 x = some (lauC bf bd pe ep nv dq sv ou)) (hQ : DQ σ dq da hq u e) (hu : u ≤ 8) : AMet l g mX1_wash 36 83 [.ref x, .int t, .int h] σ (A_mq g (mayT is (bi (okT is N t)) (bi (okT is N t ∧ inR h 0 3 ∧ whyWashN N t h = 0))) (.int (stainBy N t h)) bf bd pe ep dq sv ou x da u e W (washN N t h) σ) (A_thr ["java/lang/IllegalStateException", "java/lang/IndexOutOfBoundsException", "java/lang/IllegalArgumentException"] (mayT is (bi (okT is N t)) (bi (okT is N t ∧ inR h 0 3 ∧ whyWashN N t h = 0))) σ) := by
  rcases hL with ⟨h0, hn⟩ | ⟨hs, hn, hR, hD, hw, hh⟩
  · subst hn
    refine A_of rfl (by decide) (Nat.le_of_ble_eq_true rfl) (L0 := [(0, .ref x), (1, .int t), (2, .int h)]) rfl ?_
    refine A_wfh (fun wσ hgσ => ?_)
    have yσ : ext σ σ := ext.rf
    refine A_aload_n (i := 0) dX1_wash_0 rfl rfl ?_
    refine A_iload_n (i := 1) dX1_wash_1 rfl rfl ?_
    refine A_iload_n (i := 2) dX1_wash_2 rfl rfl ?_
    refine A_callV2 (b' := 0) (u_checkWash σ x bf dq sv ou bd pe ep t h hX) tX1_checkWash q1668 hX rfl rfl dX1_wash_3 (by decide) (Nat.le_of_ble_eq_true rfl) (Nat.le_of_ble_eq_true rfl) (fun w9 τ9 h9 => h9.elim) (fun E9 q9 τ9 h9 => A_out rfl (⟨yσ.tr h9.2, 0, by rw [h9.1]; rfl, by rw [(mayQ_1 h0)]; rfl⟩))
  · subst hn
    have hW := hD.1
    have hR9 := hR
    obtain ⟨h1, ⟨fr, h2, h2p⟩, ⟨fm, h3, h3p⟩, ⟨mcn, fnA, h4, h4p, h4q⟩, ⟨mcf, ffA, h5, h5p, h5q⟩, ⟨fu, h6, h6p⟩, h7, h8, h9, h10, h11⟩ := hR
    have hF12 : nF N ≤ 12 := hW.2.2.2.2.2
    have hN4 : nN N ≤ 4 := hW.2.1.2
    have hC6 : nC N ≤ 6 := hW.1.2
    have hT3 : nT N ≤ 3 := hW.2.2.1.2
    have hP8 : nP N ≤ 8 := hW.2.2.2.1.2
    by_cases ck1 : inR t 0 (N 8 - 1)
    · skip
      obtain ⟨jt, hjt, rfl⟩ := in_ex hW.2.2.1.1 (Nat.le_trans hT3 (by decide)) ck1
      have bjt : jt < 2000 := Nat.lt_of_lt_of_le hjt (Nat.le_trans hT3 (by decide))
      by_cases ck2 : inR h 0 3
      · skip
        obtain ⟨jh, hjh, rfl⟩ := hk_ex ck2
        have bjh : jh < 2000 := Nat.lt_of_le_of_lt hjh (by decide)
        refine A_of rfl (by decide) (Nat.le_of_ble_eq_true rfl) (L0 := [(0, .ref x), (1, .int (nI jt)), (2, .int (nI jh))]) rfl ?_
        refine A_wfh (fun wσ hgσ => ?_)
        have yσ : ext σ σ := ext.rf
        refine A_aload_n (i := 0) dX1_wash_0 rfl rfl ?_
        refine A_iload_n (i := 1) dX1_wash_1 rfl rfl ?_
        refine A_iload_n (i := 2) dX1_wash_2 rfl rfl ?_
        refine A_callV2E (b' := 83) (v := some (.ref (wW W))) (τ := σ) (c_checkWash σ x bf dq sv ou bd pe ep W N jt jh hX hR9 hD hjt hjh) tX1_checkWash q1668 hX rfl rfl dX1_wash_3 (by decide) (Nat.le_of_ble_eq_true rfl) (Nat.le_of_ble_eq_true rfl) ?_
        refine A_iload_n (i := 1) dX1_wash_6 rfl rfl ?_
        refine A_iload_n (i := 2) dX1_wash_7 rfl rfl ?_
        refine A_callS3 (b' := 82) (c_washBar σ W N (nI jt) (nI jh) hR9 hD) tX1_washBar q1676 dX1_wash_8 (by decide) (Nat.le_of_ble_eq_true rfl) (Nat.le_of_ble_eq_true rfl) (fun w9 σ1 h9 => ?_) (fun E9 q9 τ9 h9 => h9.elim)
        obtain ⟨e9, xσ1⟩ := h9
        subst e9
        refine A_wfh (fun wσ1 hgσ1 => ?_)
        have yσ1 : ext σ σ1 := yσ.tr (xσ1)
        have fσ1_0 : σ1.1 (wW W) = some (.inr (.inl (4, [.int (N 9), .ref (wR W), .ref (wM W), .ref (wNL W), .ref (wFL W), .ref (wUN W), .int (N 6), .int (N 8), .int (N 0), .int (N 1), .int (N 2), .int (N 3), .int (N 4), .int (N 5), .int (N 11)]))) := xσ1.at wσ h1
        have fσ1_1 : σ1.1 (wFL W) = some (.inr (.inl (14, [.int mcf, .ref (wFA W), .int (nI (nF N))]))) := xσ1.at wσ h5
        have fσ1_2 : σ1.1 (wFA W) = some (.inl (.object "java/lang/Object", 12, .inr (.inr (.inr (.inr ffA))))) := xσ1.at wσ h5p
        have fσ1_3 : σ1.1 (wNL W) = some (.inr (.inl (14, [.int mcn, .ref (wNA W), .int (nI (nN N))]))) := xσ1.at wσ h4
        have fσ1_4 : σ1.1 (wNA W) = some (.inl (.object "java/lang/Object", 4, .inr (.inr (.inr (.inr fnA))))) := xσ1.at wσ h4p
        have fσ1_5 : σ1.1 (wR W) = some (.inl (.int, 6, .inl fr)) := xσ1.at wσ h2
        have fσ1_6 : σ1.1 (wM W) = some (.inl (.int, 3, .inl fm)) := xσ1.at wσ h3
        have fσ1_7 : σ1.1 (wUN W) = some (.inl (.object "FlagLaundry$Test", 7, .inr (.inr (.inr (.inr fu))))) := xσ1.at wσ h6
        have fσ1_8 : σ1.1 x = some (.inr (.inl (0, [.ref bf, .int bd, .int pe, .int ep, .ref (wW W), .ref dq, .ref sv, .ref ou]))) := xσ1.at wσ hX
        have hRσ1 : RW g σ1 W N := hR9.ext wσ xσ1
        refine A_if_ne (tgt := 18) dX1_wash_11 (by decide) (fun c1 => ?_) (fun c1 => ?_)
        · skip
          refine A_iconst (v := 0) dX1_wash_18 (by decide) ?_
          refine A_callS1 (b' := 0) (c_cArg_no σ1 0 rfl) tX1_checkArgument q1406 dX1_wash_19 (by decide) (Nat.le_of_ble_eq_true rfl) (Nat.le_of_ble_eq_true rfl) (fun w9 τ9 h9 => h9.elim) (fun E9 q9 τ9 h9 => A_out rfl (⟨yσ1.tr h9.2, 2, by rw [h9.1]; rfl, by rw [(mayQ_3 hs (bi_n ⟨hs, ck1⟩) (bi_f (fun h => c1 h.2.2)))]; rfl⟩))
        · skip
          refine A_iconst (v := 1) dX1_wash_14 (by decide) ?_
          refine A_goto (tgt := 19) dX1_wash_15 (by decide) ?_
          refine A_callS1E (b' := 82) (v := none) (τ := σ1) (c_cArg σ1 1 (by decide)) tX1_checkArgument q1406 dX1_wash_19 (by decide) (Nat.le_of_ble_eq_true rfl) (Nat.le_of_ble_eq_true rfl) ?_
          refine A_aload_n (i := 0) dX1_wash_22 rfl rfl ?_
          refine A_callV0 (b' := 13) (c_changed σ1 x bf dq sv ou bd pe ep W N da hq u e fσ1_8 hRσ1 hD (hQ.ex wσ yσ1) hu) tX1_changed q2040 fσ1_8 rfl rfl dX1_wash_23 (by decide) (Nat.le_of_ble_eq_true rfl) (Nat.le_of_ble_eq_true rfl) (fun w9 τ5 h5 => ?_) (fun E9 q9 τ9 h9 => h9.elim)
          obtain ⟨V, h5q, e5, fx5, hRV, hOW, hDQ5, fr5, n5⟩ := h5
          subst e5
          refine A_wfh (fun wτ5 hgτ5 => ?_)
          have fra0 : fra [x, dq, da] σ τ5 := (fra.rf.ex yσ1).tr fr5
          have n0 : nw σ τ5 := (nw.rf.ex wσ yσ1).tr n5
          have hOV : own σ.2 V N := hOW.le yσ1.1
          have hl5 : σ.2 ≤ τ5.2 := fra0.1
          have hRo : RW g τ5 W N := hR9.nw n0
          have hRc := hRV
          obtain ⟨h1v, ⟨frv, h2v, h2pv⟩, ⟨fmv, h3v, h3pv⟩, ⟨mcnv, fnAv, h4v, h4pv, h4qv⟩, ⟨mcfv, ffAv, h5v, h5pv, h5qv⟩, ⟨fuv, h6v, h6pv⟩, h7v, h8v, h9v, h10v, h11v⟩ := hRc
          have fτ5v_0 : τ5.1 (wW V) = some (.inr (.inl (4, [.int (N 9), .ref (wR V), .ref (wM V), .ref (wNL V), .ref (wFL V), .ref (wUN V), .int (N 6), .int (N 8), .int (N 0), .int (N 1), .int (N 2), .int (N 3), .int (N 4), .int (N 5), .int (N 11)]))) := h1v
          have fτ5v_1 : τ5.1 (wFL V) = some (.inr (.inl (14, [.int mcfv, .ref (wFA V), .int (nI (nF N))]))) := h5v
          have fτ5v_2 : τ5.1 (wFA V) = some (.inl (.object "java/lang/Object", 12, .inr (.inr (.inr (.inr ffAv))))) := h5pv
          have fτ5v_3 : τ5.1 (wNL V) = some (.inr (.inl (14, [.int mcnv, .ref (wNA V), .int (nI (nN N))]))) := h4v
          have fτ5v_4 : τ5.1 (wNA V) = some (.inl (.object "java/lang/Object", 4, .inr (.inr (.inr (.inr fnAv))))) := h4pv
          have fτ5v_5 : τ5.1 (wR V) = some (.inl (.int, 6, .inl frv)) := h2v
          have fτ5v_6 : τ5.1 (wM V) = some (.inl (.int, 3, .inl fmv)) := h3v
          have fτ5v_7 : τ5.1 (wUN V) = some (.inl (.object "FlagLaundry$Test", 7, .inr (.inr (.inr (.inr fuv))))) := h6v
          refine A_iload_n (i := 1) dX1_wash_26 rfl rfl ?_
          refine A_iload_n (i := 2) dX1_wash_27 rfl rfl ?_
          refine A_callV2 (b' := 1) (c_washes5 τ5 V N σ.2 jh (nI jt) hRV hD hOV hl5 hjh) tX5_washes q2088 fτ5v_0 rfl rfl dX1_wash_28 (by decide) (Nat.le_of_ble_eq_true rfl) (Nat.le_of_ble_eq_true rfl) (fun w9 σ2 h9 => ?_) (fun E9 q9 τ9 h9 => h9.elim)
          obtain ⟨e9, ⟨Pσ2, hRσ2⟩, kσ2⟩ := h9
          subst e9
          refine A_wfh (fun wσ2 hgσ2 => ?_)
          have hRσ2 : RW g σ2 (setP V Pσ2) (washN N (nI jt) (nI jh)) := hRσ2
          have hDσ2 : WFd (washN N (nI jt) (nI jh)) := WFd_wash hD (Nat.lt_succ_of_le hjh)
          have hRc := hRσ2
          obtain ⟨h1σ2, ⟨frσ2, h2σ2, h2pσ2⟩, ⟨fmσ2, h3σ2, h3pσ2⟩, ⟨mcnσ2, fnAσ2, h4σ2, h4pσ2, h4qσ2⟩, ⟨mcfσ2, ffAσ2, h5σ2, h5pσ2, h5qσ2⟩, ⟨fuσ2, h6σ2, h6pσ2⟩, h7σ2, h8σ2, h9σ2, h10σ2, h11σ2⟩ := hRc
          have fσ2σ2_0 : σ2.1 (wW V) = some (.inr (.inl (4, [.int ((washN N (nI jt) (nI jh)) 9), .ref (wR V), .ref (wM V), .ref (wNL V), .ref (wFL V), .ref (wUN V), .int ((washN N (nI jt) (nI jh)) 6), .int ((washN N (nI jt) (nI jh)) 8), .int ((washN N (nI jt) (nI jh)) 0), .int ((washN N (nI jt) (nI jh)) 1), .int ((washN N (nI jt) (nI jh)) 2), .int ((washN N (nI jt) (nI jh)) 3), .int ((washN N (nI jt) (nI jh)) 4), .int ((washN N (nI jt) (nI jh)) 5), .int ((washN N (nI jt) (nI jh)) 11)]))) := h1σ2
          have fσ2σ2_1 : σ2.1 (wFL V) = some (.inr (.inl (14, [.int mcfσ2, .ref (wFA V), .int (nI (nF (washN N (nI jt) (nI jh))))]))) := h5σ2
          have fσ2σ2_2 : σ2.1 (wFA V) = some (.inl (.object "java/lang/Object", 12, .inr (.inr (.inr (.inr ffAσ2))))) := h5pσ2
          have fσ2σ2_3 : σ2.1 (wNL V) = some (.inr (.inl (14, [.int mcnσ2, .ref (wNA V), .int (nI (nN (washN N (nI jt) (nI jh))))]))) := h4σ2
          have fσ2σ2_4 : σ2.1 (wNA V) = some (.inl (.object "java/lang/Object", 4, .inr (.inr (.inr (.inr fnAσ2))))) := h4pσ2
          have fσ2σ2_5 : σ2.1 (wR V) = some (.inl (.int, 6, .inl frσ2)) := h2σ2
          have fσ2σ2_6 : σ2.1 (wM V) = some (.inl (.int, 3, .inl fmσ2)) := h3σ2
          have fσ2σ2_7 : σ2.1 (wUN V) = some (.inl (.object "FlagLaundry$Test", 7, .inr (.inr (.inr (.inr fuσ2))))) := h6σ2
          exact A_iret dX1_wash_31 rfl (⟨(mayQ_0 hs (bi_n ⟨hs, ck1⟩) (bi_n ⟨⟨hs, ck1⟩, ck2, c1⟩)), rfl, (setP V Pσ2), _, (kσ2.2 x (wσ _ _ hX)).trans fx5, hRσ2, hDQ5.kl kσ2 (hQ.lt wσ).1 (hQ.lt wσ).2, fra0.kl kσ2, n0.kl wσ (Nat.le_refl _) kσ2⟩)
      · skip
        refine A_of rfl (by decide) (Nat.le_of_ble_eq_true rfl) (L0 := [(0, .ref x), (1, .int (nI jt)), (2, .int h)]) rfl ?_
        refine A_wfh (fun wσ hgσ => ?_)
        have yσ : ext σ σ := ext.rf
        refine A_aload_n (i := 0) dX1_wash_0 rfl rfl ?_
        refine A_iload_n (i := 1) dX1_wash_1 rfl rfl ?_
        refine A_iload_n (i := 2) dX1_wash_2 rfl rfl ?_
        refine A_callV2 (b' := 0) (c_checkWash_no2 σ x bf dq sv ou bd pe ep W N jt h hX hR9 hD hjt ck2) tX1_checkWash q1668 hX rfl rfl dX1_wash_3 (by decide) (Nat.le_of_ble_eq_true rfl) (Nat.le_of_ble_eq_true rfl) (fun w9 τ9 h9 => h9.elim) (fun E9 q9 τ9 h9 => A_out rfl (⟨yσ.tr h9.2, 2, by rw [h9.1]; rfl, by rw [(mayQ_3 hs (bi_n ⟨hs, ck1⟩) (bi_f (fun h => ck2 h.2.1)))]; rfl⟩))
    · skip
      refine A_of rfl (by decide) (Nat.le_of_ble_eq_true rfl) (L0 := [(0, .ref x), (1, .int t), (2, .int h)]) rfl ?_
      refine A_wfh (fun wσ hgσ => ?_)
      have yσ : ext σ σ := ext.rf
      refine A_aload_n (i := 0) dX1_wash_0 rfl rfl ?_
      refine A_iload_n (i := 1) dX1_wash_1 rfl rfl ?_
      refine A_iload_n (i := 2) dX1_wash_2 rfl rfl ?_
      refine A_callV2 (b' := 0) (c_checkWash_no σ x bf dq sv ou bd pe ep W N t h hX hR9 hD ck1) tX1_checkWash q1668 hX rfl rfl dX1_wash_3 (by decide) (Nat.le_of_ble_eq_true rfl) (Nat.le_of_ble_eq_true rfl) (fun w9 τ9 h9 => h9.elim) (fun E9 q9 τ9 h9 => A_out rfl (⟨yσ.tr h9.2, 1, by rw [h9.1]; rfl, by rw [(mayQ_2 hs (bi_f (fun h => ck1 h.2)))]; rfl⟩))
theorem in1_e2 {x : Int32} {n : Nat} (hn : n ≤ 1000) (h : inR x 1 (nI n)) : ∃ k, k ≤ n ∧ x = nI k := in6_ex hn ⟨fun q => h.1 (Int32.lt_of_lt_of_le q (by decide)), h.2⟩
theorem q_pass {l : Launch} {g : GC} (σ : AH) (x bf dq sv ou : Nat) (bd pe ep : Int32) (is : Int32) (nv : Value) (W : WA) (N : AF) (h : Int32) (da hq u : Nat) (e : Nat → Nat) (hL : LD g σ is nv W N) (hX : σ.1 x = some (lauC bf bd pe ep nv dq sv ou)) (hQ : DQ σ dq da hq u e) (hu : u ≤ 8) : AMet l g mX1_pass 17 171 [.ref x, .int h] σ (A_mq g (mayT is (bi (inR h 1 50)) 1) (.int (itr passN N (ix h) 5 - N 5)) bf bd pe ep dq sv ou x da u e W (itr passN N (ix h)) σ) (A_thr ["java/lang/IllegalStateException", "java/lang/IllegalArgumentException"] (mayT is (bi (inR h 1 50)) 1) σ) := by
  rcases hL with ⟨h0, hn⟩ | ⟨hs, hn, hR, hD, hw, hh⟩
  · subst hn
    refine A_of rfl (by decide) (Nat.le_of_ble_eq_true rfl) (L0 := [(0, .ref x), (1, .int h)]) rfl ?_
    refine A_wfh (fun wσ hgσ => ?_)
    have yσ : ext σ σ := ext.rf
    refine A_aload_n (i := 0) dX1_pass_0 rfl rfl ?_
    refine A_callV0 (b' := 0) (u_loaded σ x bf dq sv ou bd pe ep  hX) tX1_loaded q1383 hX rfl rfl dX1_pass_1 (by decide) (Nat.le_of_ble_eq_true rfl) (Nat.le_of_ble_eq_true rfl) (fun w9 τ9 h9 => h9.elim) (fun E9 q9 τ9 h9 => A_out rfl (⟨yσ.tr h9.2, 0, by rw [h9.1]; rfl, by rw [(mayQ_1 h0)]; rfl⟩))
  · subst hn
    have hW := hD.1
    have hR9 := hR
    obtain ⟨h1, ⟨fr, h2, h2p⟩, ⟨fm, h3, h3p⟩, ⟨mcn, fnA, h4, h4p, h4q⟩, ⟨mcf, ffA, h5, h5p, h5q⟩, ⟨fu, h6, h6p⟩, h7, h8, h9, h10, h11⟩ := hR
    have hF12 : nF N ≤ 12 := hW.2.2.2.2.2
    have hN4 : nN N ≤ 4 := hW.2.1.2
    have hC6 : nC N ≤ 6 := hW.1.2
    have hT3 : nT N ≤ 3 := hW.2.2.1.2
    have hP8 : nP N ≤ 8 := hW.2.2.2.1.2
    by_cases ck1 : inR h 1 50
    · skip
      obtain ⟨jh, hjh, rfl⟩ := in1_e2 (n := 50) (by decide) ck1
      have bjh : jh < 2000 := Nat.lt_of_le_of_lt hjh (by decide)
      refine A_of rfl (by decide) (Nat.le_of_ble_eq_true rfl) (L0 := [(0, .ref x), (1, .int (nI jh))]) rfl ?_
      refine A_wfh (fun wσ hgσ => ?_)
      have yσ : ext σ σ := ext.rf
      refine A_aload_n (i := 0) dX1_pass_0 rfl rfl ?_
      refine A_callV0E (b' := 171) (v := some (.ref (wW W))) (τ := σ) (c_loaded σ x bf dq sv ou bd pe ep W N hX hR9 hD) tX1_loaded q1383 hX rfl rfl dX1_pass_1 (by decide) (Nat.le_of_ble_eq_true rfl) (Nat.le_of_ble_eq_true rfl) ?_
      refine A_astore_n (i := 2) dX1_pass_4 rfl (Nat.le_of_ble_eq_true rfl) ?_
      refine A_iload_n (i := 1) dX1_pass_5 rfl rfl ?_
      refine A_i2l dX1_pass_6 rfl ?_
      refine A_lconst (v := 1) dX1_pass_7 rfl ?_
      refine A_ldc2 (v := 50) dX1_pass_8 q2170 ?_
      refine A_callS3E (b' := 171) (v := some (.int (bi (inR (nI jh) 1 50)))) (τ := σ) (c_in1 σ _ _ _ (nI jh) 1 50 rfl (by decide) (by decide)) tX1_in q381 dX1_pass_11 (by decide) (Nat.le_of_ble_eq_true rfl) (Nat.le_of_ble_eq_true rfl) ?_
      refine A_callS1E (b' := 171) (v := none) (τ := σ) (c_cArg σ (bi (inR (nI jh) 1 50)) (bi_n ck1)) tX1_checkArgument q1406 dX1_pass_14 (by decide) (Nat.le_of_ble_eq_true rfl) (Nat.le_of_ble_eq_true rfl) ?_
      refine A_aload_n (i := 0) dX1_pass_17 rfl rfl ?_
      refine A_callV0 (b' := 102) (c_changed σ x bf dq sv ou bd pe ep W N da hq u e hX hR9 hD (hQ.ex wσ yσ) hu) tX1_changed q2040 hX rfl rfl dX1_pass_18 (by decide) (Nat.le_of_ble_eq_true rfl) (Nat.le_of_ble_eq_true rfl) (fun w9 τ5 h5 => ?_) (fun E9 q9 τ9 h9 => h9.elim)
      obtain ⟨V, h5q, e5, fx5, hRV, hOW, hDQ5, fr5, n5⟩ := h5
      subst e5
      refine A_wfh (fun wτ5 hgτ5 => ?_)
      have fra0 : fra [x, dq, da] σ τ5 := (fra.rf.ex yσ).tr fr5
      have n0 : nw σ τ5 := (nw.rf.ex wσ yσ).tr n5
      have hOV : own σ.2 V N := hOW.le yσ.1
      have hl5 : σ.2 ≤ τ5.2 := fra0.1
      have hRo : RW g τ5 W N := hR9.nw n0
      have hRc := hRV
      obtain ⟨h1v, ⟨frv, h2v, h2pv⟩, ⟨fmv, h3v, h3pv⟩, ⟨mcnv, fnAv, h4v, h4pv, h4qv⟩, ⟨mcfv, ffAv, h5v, h5pv, h5qv⟩, ⟨fuv, h6v, h6pv⟩, h7v, h8v, h9v, h10v, h11v⟩ := hRc
      have fτ5v_0 : τ5.1 (wW V) = some (.inr (.inl (4, [.int (N 9), .ref (wR V), .ref (wM V), .ref (wNL V), .ref (wFL V), .ref (wUN V), .int (N 6), .int (N 8), .int (N 0), .int (N 1), .int (N 2), .int (N 3), .int (N 4), .int (N 5), .int (N 11)]))) := h1v
      have fτ5v_1 : τ5.1 (wFL V) = some (.inr (.inl (14, [.int mcfv, .ref (wFA V), .int (nI (nF N))]))) := h5v
      have fτ5v_2 : τ5.1 (wFA V) = some (.inl (.object "java/lang/Object", 12, .inr (.inr (.inr (.inr ffAv))))) := h5pv
      have fτ5v_3 : τ5.1 (wNL V) = some (.inr (.inl (14, [.int mcnv, .ref (wNA V), .int (nI (nN N))]))) := h4v
      have fτ5v_4 : τ5.1 (wNA V) = some (.inl (.object "java/lang/Object", 4, .inr (.inr (.inr (.inr fnAv))))) := h4pv
      have fτ5v_5 : τ5.1 (wR V) = some (.inl (.int, 6, .inl frv)) := h2v
      have fτ5v_6 : τ5.1 (wM V) = some (.inl (.int, 3, .inl fmv)) := h3v
      have fτ5v_7 : τ5.1 (wUN V) = some (.inl (.object "FlagLaundry$Test", 7, .inr (.inr (.inr (.inr fuv))))) := h6v
      refine A_iload_n (i := 1) dX1_pass_21 rfl rfl ?_
      refine A_callV1 (b' := 2) (c_passes5 τ5 V N σ.2 jh hRV hD hOV hl5 hw (Nat.le_trans hjh (by decide))) tX5_passes q1852 fτ5v_0 rfl rfl dX1_pass_22 (by decide) (Nat.le_of_ble_eq_true rfl) (Nat.le_of_ble_eq_true rfl) (fun w9 σ1 h9 => ?_) (fun E9 q9 τ9 h9 => h9.elim)
      obtain ⟨e9, ⟨Pσ1, hRσ1⟩, kσ1⟩ := h9
      subst e9
      refine A_wfh (fun wσ1 hgσ1 => ?_)
      have hRσ1 : RW g σ1 (setP V Pσ1) (itr passN N jh) := hRσ1
      have hDσ1 : WFd (itr passN N jh) := (WFd_passI hD hw jh).1
      have hRc := hRσ1
      obtain ⟨h1σ1, ⟨frσ1, h2σ1, h2pσ1⟩, ⟨fmσ1, h3σ1, h3pσ1⟩, ⟨mcnσ1, fnAσ1, h4σ1, h4pσ1, h4qσ1⟩, ⟨mcfσ1, ffAσ1, h5σ1, h5pσ1, h5qσ1⟩, ⟨fuσ1, h6σ1, h6pσ1⟩, h7σ1, h8σ1, h9σ1, h10σ1, h11σ1⟩ := hRc
      have fσ1σ1_0 : σ1.1 (wW V) = some (.inr (.inl (4, [.int ((itr passN N jh) 9), .ref (wR V), .ref (wM V), .ref (wNL V), .ref (wFL V), .ref (wUN V), .int ((itr passN N jh) 6), .int ((itr passN N jh) 8), .int ((itr passN N jh) 0), .int ((itr passN N jh) 1), .int ((itr passN N jh) 2), .int ((itr passN N jh) 3), .int ((itr passN N jh) 4), .int ((itr passN N jh) 5), .int ((itr passN N jh) 11)]))) := h1σ1
      have fσ1σ1_1 : σ1.1 (wFL V) = some (.inr (.inl (14, [.int mcfσ1, .ref (wFA V), .int (nI (nF (itr passN N jh)))]))) := h5σ1
      have fσ1σ1_2 : σ1.1 (wFA V) = some (.inl (.object "java/lang/Object", 12, .inr (.inr (.inr (.inr ffAσ1))))) := h5pσ1
      have fσ1σ1_3 : σ1.1 (wNL V) = some (.inr (.inl (14, [.int mcnσ1, .ref (wNA V), .int (nI (nN (itr passN N jh)))]))) := h4σ1
      have fσ1σ1_4 : σ1.1 (wNA V) = some (.inl (.object "java/lang/Object", 4, .inr (.inr (.inr (.inr fnAσ1))))) := h4pσ1
      have fσ1σ1_5 : σ1.1 (wR V) = some (.inl (.int, 6, .inl frσ1)) := h2σ1
      have fσ1σ1_6 : σ1.1 (wM V) = some (.inl (.int, 3, .inl fmσ1)) := h3σ1
      have fσ1σ1_7 : σ1.1 (wUN V) = some (.inl (.object "FlagLaundry$Test", 7, .inr (.inr (.inr (.inr fuσ1))))) := h6σ1
      exact A_iret dX1_pass_25 rfl (⟨(mayQ_0 hs (bi_n ck1) (by decide)), by rw [ixn bjh, fells], (setP V Pσ1), _, (kσ1.2 x (wσ _ _ hX)).trans fx5, (by rw [ixn bjh]; exact hRσ1), hDQ5.kl kσ1 (hQ.lt wσ).1 (hQ.lt wσ).2, fra0.kl kσ1, n0.kl wσ (Nat.le_refl _) kσ1⟩)
    · skip
      refine A_of rfl (by decide) (Nat.le_of_ble_eq_true rfl) (L0 := [(0, .ref x), (1, .int h)]) rfl ?_
      refine A_wfh (fun wσ hgσ => ?_)
      have yσ : ext σ σ := ext.rf
      refine A_aload_n (i := 0) dX1_pass_0 rfl rfl ?_
      refine A_callV0E (b' := 171) (v := some (.ref (wW W))) (τ := σ) (c_loaded σ x bf dq sv ou bd pe ep W N hX hR9 hD) tX1_loaded q1383 hX rfl rfl dX1_pass_1 (by decide) (Nat.le_of_ble_eq_true rfl) (Nat.le_of_ble_eq_true rfl) ?_
      refine A_astore_n (i := 2) dX1_pass_4 rfl (Nat.le_of_ble_eq_true rfl) ?_
      refine A_iload_n (i := 1) dX1_pass_5 rfl rfl ?_
      refine A_i2l dX1_pass_6 rfl ?_
      refine A_lconst (v := 1) dX1_pass_7 rfl ?_
      refine A_ldc2 (v := 50) dX1_pass_8 q2170 ?_
      refine A_callS3E (b' := 171) (v := some (.int (bi (inR h 1 50)))) (τ := σ) (c_in1 σ _ _ _ h 1 50 rfl (by decide) (by decide)) tX1_in q381 dX1_pass_11 (by decide) (Nat.le_of_ble_eq_true rfl) (Nat.le_of_ble_eq_true rfl) ?_
      refine A_callS1 (b' := 0) (c_cArg_no σ (bi (inR h 1 50)) (bi_f ck1)) tX1_checkArgument q1406 dX1_pass_14 (by decide) (Nat.le_of_ble_eq_true rfl) (Nat.le_of_ble_eq_true rfl) (fun w9 τ9 h9 => h9.elim) (fun E9 q9 τ9 h9 => A_out rfl (⟨yσ.tr h9.2, 1, by rw [h9.1]; rfl, by rw [(mayQ_2 hs (bi_f (fun h => ck1 h)))]; rfl⟩))
theorem q_handOver {l : Launch} {g : GC} (σ : AH) (x bf dq sv ou : Nat) (bd pe ep : Int32) (is : Int32) (nv : Value) (W : WA) (N : AF) (n : Int32) (da hq u : Nat) (e : Nat → Nat) (hL : LD g σ is nv W N) (hX : σ.1 x = some (lauC bf bd pe ep nv dq sv ou)) (hQ : DQ σ dq da hq u e) (hu : u ≤ 8) : AMet l g mX1_handOver 37 86 [.ref x, .int n] σ (A_mq g (mayT is (bi (okN is N n)) (bi (okN is N n ∧ ¬ flagsN N n ≤ 0 ∧ ¬ na N (ix n) 3 = 1 ∧ culpN N n = -1))) (.int (payN N (ix n) (N 0))) bf bd pe ep dq sv ou x da u e W (hoN N (ix n)) σ) (A_thr ["java/lang/IllegalStateException", "java/lang/IndexOutOfBoundsException", "java/lang/IllegalArgumentException"] (mayT is (bi (okN is N n)) (bi (okN is N n ∧ ¬ flagsN N n ≤ 0 ∧ ¬ na N (ix n) 3 = 1 ∧ culpN N n = -1))) σ) := by
  rcases hL with ⟨h0, hn⟩ | ⟨hs, hn, hR, hD, hw, hh⟩
  · subst hn
    refine A_of rfl (by decide) (Nat.le_of_ble_eq_true rfl) (L0 := [(0, .ref x), (1, .int n)]) rfl ?_
    refine A_wfh (fun wσ hgσ => ?_)
    have yσ : ext σ σ := ext.rf
    refine A_aload_n (i := 0) dX1_handOver_0 rfl rfl ?_
    refine A_iload_n (i := 1) dX1_handOver_1 rfl rfl ?_
    refine A_callV1 (b' := 0) (u_checkNation σ x bf dq sv ou bd pe ep n hX) tX1_checkNation q1455 hX rfl rfl dX1_handOver_2 (by decide) (Nat.le_of_ble_eq_true rfl) (Nat.le_of_ble_eq_true rfl) (fun w9 τ9 h9 => h9.elim) (fun E9 q9 τ9 h9 => A_out rfl (⟨yσ.tr h9.2, 0, by rw [h9.1]; rfl, by rw [(mayQ_1 h0)]; rfl⟩))
  · subst hn
    have hW := hD.1
    have hR9 := hR
    obtain ⟨h1, ⟨fr, h2, h2p⟩, ⟨fm, h3, h3p⟩, ⟨mcn, fnA, h4, h4p, h4q⟩, ⟨mcf, ffA, h5, h5p, h5q⟩, ⟨fu, h6, h6p⟩, h7, h8, h9, h10, h11⟩ := hR
    have hF12 : nF N ≤ 12 := hW.2.2.2.2.2
    have hN4 : nN N ≤ 4 := hW.2.1.2
    have hC6 : nC N ≤ 6 := hW.1.2
    have hT3 : nT N ≤ 3 := hW.2.2.1.2
    have hP8 : nP N ≤ 8 := hW.2.2.2.1.2
    by_cases ck1 : inR n 0 (N 7 - 1)
    · skip
      obtain ⟨jn, hjn, rfl⟩ := in_ex hW.2.1.1 (Nat.le_trans hN4 (by decide)) ck1
      have bjn : jn < 2000 := Nat.lt_of_lt_of_le hjn (Nat.le_trans hN4 (by decide))
      obtain ⟨hh9, hn9, hd9⟩ := h9 jn hjn
      obtain ⟨hx, hxl, hxe⟩ := hh
      have hH : ¬ N 0 = -1 := by rw [hxe]; exact nI_m1 (by omega)
      refine A_of rfl (by decide) (Nat.le_of_ble_eq_true rfl) (L0 := [(0, .ref x), (1, .int (nI jn))]) rfl ?_
      refine A_wfh (fun wσ hgσ => ?_)
      have yσ : ext σ σ := ext.rf
      refine A_aload_n (i := 0) dX1_handOver_0 rfl rfl ?_
      refine A_iload_n (i := 1) dX1_handOver_1 rfl rfl ?_
      refine A_callV1E (b' := 86) (v := some (.ref (wN W jn))) (τ := σ) (c_checkNation σ x bf dq sv ou bd pe ep W N jn hX hR9 hD hjn) tX1_checkNation q1455 hX rfl rfl dX1_handOver_2 (by decide) (Nat.le_of_ble_eq_true rfl) (Nat.le_of_ble_eq_true rfl) ?_
      refine A_astore_n (i := 2) dX1_handOver_5 rfl (Nat.le_of_ble_eq_true rfl) ?_
      refine A_aload_n (i := 2) dX1_handOver_6 rfl rfl ?_
      refine A_getfN cb_X6 hn9 3 (Nat.le_of_ble_eq_true rfl) q991 rfl (v := .int hh9) rfl dX1_handOver_7 ?_
      refine A_iconst (v := (-1)) dX1_handOver_10 (by decide) ?_
      refine A_icmp_ne (tgt := 41) dX1_handOver_11 (by decide) (fun c1 => ?_) (fun c1 => ?_)
      · skip
        refine A_iconst (v := 0) dX1_handOver_41 (by decide) ?_
        refine A_callS1 (b' := 0) (c_cArg_no σ 0 rfl) tX1_checkArgument q1406 dX1_handOver_42 (by decide) (Nat.le_of_ble_eq_true rfl) (Nat.le_of_ble_eq_true rfl) (fun w9 τ9 h9 => h9.elim) (fun E9 q9 τ9 h9 => A_out rfl (⟨yσ.tr h9.2, 2, by rw [h9.1]; rfl, by rw [(mayQ_3 hs (bi_n ⟨hs, ck1⟩) (bi_f (fun h => h.2.2.1 (by rw [ixn bjn]; exact (HD_1 hd9 c1).1))))]; rfl⟩))
      · skip
        refine A_aload_n (i := 0) dX1_handOver_14 rfl rfl ?_
        refine A_getf cb_X1 hX 4 (Nat.le_of_ble_eq_true rfl) q242 rfl (v := .ref (wW W)) rfl dX1_handOver_15 ?_
        refine A_iload_n (i := 1) dX1_handOver_18 rfl rfl ?_
        refine A_callV1 (b' := 85) (c_flagsOf5 σ W N (nI jn) hR9 hD) tX5_flagsOf q1464 h1 rfl rfl dX1_handOver_19 (by decide) (Nat.le_of_ble_eq_true rfl) (Nat.le_of_ble_eq_true rfl) (fun w9 σ1 h9 => ?_) (fun E9 q9 τ9 h9 => h9.elim)
        obtain ⟨e9, xσ1⟩ := h9
        subst e9
        refine A_wfh (fun wσ1 hgσ1 => ?_)
        have yσ1 : ext σ σ1 := yσ.tr (xσ1)
        have fσ1_0 : σ1.1 (wW W) = some (.inr (.inl (4, [.int (N 9), .ref (wR W), .ref (wM W), .ref (wNL W), .ref (wFL W), .ref (wUN W), .int (N 6), .int (N 8), .int (N 0), .int (N 1), .int (N 2), .int (N 3), .int (N 4), .int (N 5), .int (N 11)]))) := xσ1.at wσ h1
        have fσ1_1 : σ1.1 (wFL W) = some (.inr (.inl (14, [.int mcf, .ref (wFA W), .int (nI (nF N))]))) := xσ1.at wσ h5
        have fσ1_2 : σ1.1 (wFA W) = some (.inl (.object "java/lang/Object", 12, .inr (.inr (.inr (.inr ffA))))) := xσ1.at wσ h5p
        have fσ1_3 : σ1.1 (wNL W) = some (.inr (.inl (14, [.int mcn, .ref (wNA W), .int (nI (nN N))]))) := xσ1.at wσ h4
        have fσ1_4 : σ1.1 (wNA W) = some (.inl (.object "java/lang/Object", 4, .inr (.inr (.inr (.inr fnA))))) := xσ1.at wσ h4p
        have fσ1_5 : σ1.1 (wR W) = some (.inl (.int, 6, .inl fr)) := xσ1.at wσ h2
        have fσ1_6 : σ1.1 (wM W) = some (.inl (.int, 3, .inl fm)) := xσ1.at wσ h3
        have fσ1_7 : σ1.1 (wUN W) = some (.inl (.object "FlagLaundry$Test", 7, .inr (.inr (.inr (.inr fu))))) := xσ1.at wσ h6
        have fσ1_8 : σ1.1 x = some (.inr (.inl (0, [.ref bf, .int bd, .int pe, .int ep, .ref (wW W), .ref dq, .ref sv, .ref ou]))) := xσ1.at wσ hX
        have fσ1_9 : σ1.1 (wN W jn) = some (.inr (.inl (5, [.int (na N jn 0), .int (na N jn 1), .int (na N jn 2), .int hh9]))) := xσ1.at wσ hn9
        have hRσ1 : RW g σ1 W N := hR9.ext wσ xσ1
        refine A_if_le (tgt := 41) dX1_handOver_22 (by decide) (fun c2 => ?_) (fun c2 => ?_)
        · skip
          refine A_iconst (v := 0) dX1_handOver_41 (by decide) ?_
          refine A_callS1 (b' := 0) (c_cArg_no σ1 0 rfl) tX1_checkArgument q1406 dX1_handOver_42 (by decide) (Nat.le_of_ble_eq_true rfl) (Nat.le_of_ble_eq_true rfl) (fun w9 τ9 h9 => h9.elim) (fun E9 q9 τ9 h9 => A_out rfl (⟨yσ1.tr h9.2, 2, by rw [h9.1]; rfl, by rw [(mayQ_3 hs (bi_n ⟨hs, ck1⟩) (bi_f (fun h => h.2.1 c2)))]; rfl⟩))
        · skip
          refine A_aload_n (i := 0) dX1_handOver_25 rfl rfl ?_
          refine A_getf cb_X1 fσ1_8 4 (Nat.le_of_ble_eq_true rfl) q242 rfl (v := .ref (wW W)) rfl dX1_handOver_26 ?_
          refine A_iload_n (i := 1) dX1_handOver_29 rfl rfl ?_
          refine A_callV1E (b' := 85) (v := some (.int (culpN N (nI jn)))) (τ := σ1) (c_culprit5 σ1 W N (nI jn) hRσ1 hD) tX5_culprit q1645 fσ1_0 rfl rfl dX1_handOver_30 (by decide) (Nat.le_of_ble_eq_true rfl) (Nat.le_of_ble_eq_true rfl) ?_
          refine A_iconst (v := (-1)) dX1_handOver_33 (by decide) ?_
          refine A_icmp_ne (tgt := 41) dX1_handOver_34 (by decide) (fun c3 => ?_) (fun c3 => ?_)
          · skip
            refine A_iconst (v := 0) dX1_handOver_41 (by decide) ?_
            refine A_callS1 (b' := 0) (c_cArg_no σ1 0 rfl) tX1_checkArgument q1406 dX1_handOver_42 (by decide) (Nat.le_of_ble_eq_true rfl) (Nat.le_of_ble_eq_true rfl) (fun w9 τ9 h9 => h9.elim) (fun E9 q9 τ9 h9 => A_out rfl (⟨yσ1.tr h9.2, 2, by rw [h9.1]; rfl, by rw [(mayQ_3 hs (bi_n ⟨hs, ck1⟩) (bi_f (fun h => c3 h.2.2.2)))]; rfl⟩))
          · skip
            refine A_iconst (v := 1) dX1_handOver_37 (by decide) ?_
            refine A_goto (tgt := 42) dX1_handOver_38 (by decide) ?_
            refine A_callS1E (b' := 85) (v := none) (τ := σ1) (c_cArg σ1 1 (by decide)) tX1_checkArgument q1406 dX1_handOver_42 (by decide) (Nat.le_of_ble_eq_true rfl) (Nat.le_of_ble_eq_true rfl) ?_
            refine A_aload_n (i := 0) dX1_handOver_45 rfl rfl ?_
            refine A_callV0 (b' := 16) (c_changed σ1 x bf dq sv ou bd pe ep W N da hq u e fσ1_8 hRσ1 hD (hQ.ex wσ yσ1) hu) tX1_changed q2040 fσ1_8 rfl rfl dX1_handOver_46 (by decide) (Nat.le_of_ble_eq_true rfl) (Nat.le_of_ble_eq_true rfl) (fun w9 τ5 h5 => ?_) (fun E9 q9 τ9 h9 => h9.elim)
            obtain ⟨V, h5q, e5, fx5, hRV, hOW, hDQ5, fr5, n5⟩ := h5
            subst e5
            refine A_wfh (fun wτ5 hgτ5 => ?_)
            have fra0 : fra [x, dq, da] σ τ5 := (fra.rf.ex yσ1).tr fr5
            have n0 : nw σ τ5 := (nw.rf.ex wσ yσ1).tr n5
            have hOV : own σ.2 V N := hOW.le yσ1.1
            have hl5 : σ.2 ≤ τ5.2 := fra0.1
            have hRo : RW g τ5 W N := hR9.nw n0
            have hRc := hRV
            obtain ⟨h1v, ⟨frv, h2v, h2pv⟩, ⟨fmv, h3v, h3pv⟩, ⟨mcnv, fnAv, h4v, h4pv, h4qv⟩, ⟨mcfv, ffAv, h5v, h5pv, h5qv⟩, ⟨fuv, h6v, h6pv⟩, h7v, h8v, h9v, h10v, h11v⟩ := hRc
            have fτ5v_0 : τ5.1 (wW V) = some (.inr (.inl (4, [.int (N 9), .ref (wR V), .ref (wM V), .ref (wNL V), .ref (wFL V), .ref (wUN V), .int (N 6), .int (N 8), .int (N 0), .int (N 1), .int (N 2), .int (N 3), .int (N 4), .int (N 5), .int (N 11)]))) := h1v
            have fτ5v_1 : τ5.1 (wFL V) = some (.inr (.inl (14, [.int mcfv, .ref (wFA V), .int (nI (nF N))]))) := h5v
            have fτ5v_2 : τ5.1 (wFA V) = some (.inl (.object "java/lang/Object", 12, .inr (.inr (.inr (.inr ffAv))))) := h5pv
            have fτ5v_3 : τ5.1 (wNL V) = some (.inr (.inl (14, [.int mcnv, .ref (wNA V), .int (nI (nN N))]))) := h4v
            have fτ5v_4 : τ5.1 (wNA V) = some (.inl (.object "java/lang/Object", 4, .inr (.inr (.inr (.inr fnAv))))) := h4pv
            have fτ5v_5 : τ5.1 (wR V) = some (.inl (.int, 6, .inl frv)) := h2v
            have fτ5v_6 : τ5.1 (wM V) = some (.inl (.int, 3, .inl fmv)) := h3v
            have fτ5v_7 : τ5.1 (wUN V) = some (.inl (.object "FlagLaundry$Test", 7, .inr (.inr (.inr (.inr fuv))))) := h6v
            refine A_iload_n (i := 1) dX1_handOver_49 rfl rfl ?_
            refine A_callV1 (b' := 2) (c_hands5 τ5 V N σ.2 jn hRV hD hOV hl5 hjn hH) tX5_hands q2151 fτ5v_0 rfl rfl dX1_handOver_50 (by decide) (Nat.le_of_ble_eq_true rfl) (Nat.le_of_ble_eq_true rfl) (fun w9 σ2 h9 => ?_) (fun E9 q9 τ9 h9 => h9.elim)
            obtain ⟨e9, ⟨Pσ2, hRσ2⟩, kσ2⟩ := h9
            subst e9
            refine A_wfh (fun wσ2 hgσ2 => ?_)
            have hRσ2 : RW g σ2 (setP V Pσ2) (hoN N jn) := hRσ2
            have hDσ2 : WFd (hoN N jn) := WFd_leU (WFd_ho hD hjn) (nI jn) (nF (ho4 N jn)) (Nat.le_refl _)
            have hRc := hRσ2
            obtain ⟨h1σ2, ⟨frσ2, h2σ2, h2pσ2⟩, ⟨fmσ2, h3σ2, h3pσ2⟩, ⟨mcnσ2, fnAσ2, h4σ2, h4pσ2, h4qσ2⟩, ⟨mcfσ2, ffAσ2, h5σ2, h5pσ2, h5qσ2⟩, ⟨fuσ2, h6σ2, h6pσ2⟩, h7σ2, h8σ2, h9σ2, h10σ2, h11σ2⟩ := hRc
            have fσ2σ2_0 : σ2.1 (wW V) = some (.inr (.inl (4, [.int ((hoN N jn) 9), .ref (wR V), .ref (wM V), .ref (wNL V), .ref (wFL V), .ref (wUN V), .int ((hoN N jn) 6), .int ((hoN N jn) 8), .int ((hoN N jn) 0), .int ((hoN N jn) 1), .int ((hoN N jn) 2), .int ((hoN N jn) 3), .int ((hoN N jn) 4), .int ((hoN N jn) 5), .int ((hoN N jn) 11)]))) := h1σ2
            have fσ2σ2_1 : σ2.1 (wFL V) = some (.inr (.inl (14, [.int mcfσ2, .ref (wFA V), .int (nI (nF (hoN N jn)))]))) := h5σ2
            have fσ2σ2_2 : σ2.1 (wFA V) = some (.inl (.object "java/lang/Object", 12, .inr (.inr (.inr (.inr ffAσ2))))) := h5pσ2
            have fσ2σ2_3 : σ2.1 (wNL V) = some (.inr (.inl (14, [.int mcnσ2, .ref (wNA V), .int (nI (nN (hoN N jn)))]))) := h4σ2
            have fσ2σ2_4 : σ2.1 (wNA V) = some (.inl (.object "java/lang/Object", 4, .inr (.inr (.inr (.inr fnAσ2))))) := h4pσ2
            have fσ2σ2_5 : σ2.1 (wR V) = some (.inl (.int, 6, .inl frσ2)) := h2σ2
            have fσ2σ2_6 : σ2.1 (wM V) = some (.inl (.int, 3, .inl fmσ2)) := h3σ2
            have fσ2σ2_7 : σ2.1 (wUN V) = some (.inl (.object "FlagLaundry$Test", 7, .inr (.inr (.inr (.inr fuσ2))))) := h6σ2
            exact A_iret dX1_handOver_53 rfl (⟨(mayQ_0 hs (bi_n ⟨hs, ck1⟩) (bi_n ⟨⟨hs, ck1⟩, c2, by rw [ixn bjn, HD_0 hd9 c1]; decide, c3⟩)), by rw [ixn bjn], (setP V Pσ2), _, (kσ2.2 x (wσ _ _ hX)).trans fx5, (by rw [ixn bjn]; exact hRσ2), hDQ5.kl kσ2 (hQ.lt wσ).1 (hQ.lt wσ).2, fra0.kl kσ2, n0.kl wσ (Nat.le_refl _) kσ2⟩)
    · skip
      refine A_of rfl (by decide) (Nat.le_of_ble_eq_true rfl) (L0 := [(0, .ref x), (1, .int n)]) rfl ?_
      refine A_wfh (fun wσ hgσ => ?_)
      have yσ : ext σ σ := ext.rf
      refine A_aload_n (i := 0) dX1_handOver_0 rfl rfl ?_
      refine A_iload_n (i := 1) dX1_handOver_1 rfl rfl ?_
      refine A_callV1 (b' := 0) (c_checkNation_no σ x bf dq sv ou bd pe ep W N n hX hR9 hD ck1) tX1_checkNation q1455 hX rfl rfl dX1_handOver_2 (by decide) (Nat.le_of_ble_eq_true rfl) (Nat.le_of_ble_eq_true rfl) (fun w9 τ9 h9 => h9.elim) (fun E9 q9 τ9 h9 => A_out rfl (⟨yσ.tr h9.2, 1, by rw [h9.1]; rfl, by rw [(mayQ_2 hs (bi_f (fun h => ck1 h.2)))]; rfl⟩))
theorem q_setWind {l : Launch} {g : GC} (σ : AH) (x bf dq sv ou : Nat) (bd pe ep : Int32) (is : Int32) (nv : Value) (W : WA) (N : AF) (v : Int32) (da hq u : Nat) (e : Nat → Nat) (hL : LD g σ is nv W N) (hX : σ.1 x = some (lauC bf bd pe ep nv dq sv ou)) (hQ : DQ σ dq da hq u e) (hu : u ≤ 8) : AMet l g mX1_setWind 10 71 [.ref x, .int v] σ (A_mq g (mayT is (bi (inR v 0 9)) 1) (.int (N 1)) bf bd pe ep dq sv ou x da u e W (va_up N 1 v) σ) (A_thr ["java/lang/IllegalStateException", "java/lang/IllegalArgumentException"] (mayT is (bi (inR v 0 9)) 1) σ) := by
  rcases hL with ⟨h0, hn⟩ | ⟨hs, hn, hR, hD, hw, hh⟩
  · subst hn
    refine A_of rfl (by decide) (Nat.le_of_ble_eq_true rfl) (L0 := [(0, .ref x), (1, .int v)]) rfl ?_
    refine A_wfh (fun wσ hgσ => ?_)
    have yσ : ext σ σ := ext.rf
    refine A_aload_n (i := 0) dX1_setWind_0 rfl rfl ?_
    refine A_callV0 (b' := 0) (u_loaded σ x bf dq sv ou bd pe ep  hX) tX1_loaded q1383 hX rfl rfl dX1_setWind_1 (by decide) (Nat.le_of_ble_eq_true rfl) (Nat.le_of_ble_eq_true rfl) (fun w9 τ9 h9 => h9.elim) (fun E9 q9 τ9 h9 => A_out rfl (⟨yσ.tr h9.2, 0, by rw [h9.1]; rfl, by rw [(mayQ_1 h0)]; rfl⟩))
  · subst hn
    have hW := hD.1
    have hR9 := hR
    obtain ⟨h1, ⟨fr, h2, h2p⟩, ⟨fm, h3, h3p⟩, ⟨mcn, fnA, h4, h4p, h4q⟩, ⟨mcf, ffA, h5, h5p, h5q⟩, ⟨fu, h6, h6p⟩, h7, h8, h9, h10, h11⟩ := hR
    have hF12 : nF N ≤ 12 := hW.2.2.2.2.2
    have hN4 : nN N ≤ 4 := hW.2.1.2
    have hC6 : nC N ≤ 6 := hW.1.2
    have hT3 : nT N ≤ 3 := hW.2.2.1.2
    have hP8 : nP N ≤ 8 := hW.2.2.2.1.2
    by_cases ck1 : inR v 0 9
    · skip
      refine A_of rfl (by decide) (Nat.le_of_ble_eq_true rfl) (L0 := [(0, .ref x), (1, .int v)]) rfl ?_
      refine A_wfh (fun wσ hgσ => ?_)
      have yσ : ext σ σ := ext.rf
      refine A_aload_n (i := 0) dX1_setWind_0 rfl rfl ?_
      refine A_callV0E (b' := 71) (v := some (.ref (wW W))) (τ := σ) (c_loaded σ x bf dq sv ou bd pe ep W N hX hR9 hD) tX1_loaded q1383 hX rfl rfl dX1_setWind_1 (by decide) (Nat.le_of_ble_eq_true rfl) (Nat.le_of_ble_eq_true rfl) ?_
      refine A_astore_n (i := 2) dX1_setWind_4 rfl (Nat.le_of_ble_eq_true rfl) ?_
      refine A_iload_n (i := 1) dX1_setWind_5 rfl rfl ?_
      refine A_i2l dX1_setWind_6 rfl ?_
      refine A_lconst (v := 0) dX1_setWind_7 rfl ?_
      refine A_ldc2 (v := 9) dX1_setWind_8 q1843 ?_
      refine A_callS3E (b' := 71) (v := some (.int (bi (inR v 0 9)))) (τ := σ) (c_in1 σ _ _ _ v 0 9 rfl (by decide) (by decide)) tX1_in q381 dX1_setWind_11 (by decide) (Nat.le_of_ble_eq_true rfl) (Nat.le_of_ble_eq_true rfl) ?_
      refine A_callS1E (b' := 71) (v := none) (τ := σ) (c_cArg σ (bi (inR v 0 9)) (bi_n ck1)) tX1_checkArgument q1406 dX1_setWind_14 (by decide) (Nat.le_of_ble_eq_true rfl) (Nat.le_of_ble_eq_true rfl) ?_
      refine A_aload_n (i := 0) dX1_setWind_17 rfl rfl ?_
      refine A_callV0 (b' := 2) (c_changed σ x bf dq sv ou bd pe ep W N da hq u e hX hR9 hD (hQ.ex wσ yσ) hu) tX1_changed q2040 hX rfl rfl dX1_setWind_18 (by decide) (Nat.le_of_ble_eq_true rfl) (Nat.le_of_ble_eq_true rfl) (fun w9 τ5 h5 => ?_) (fun E9 q9 τ9 h9 => h9.elim)
      obtain ⟨V, h5q, e5, fx5, hRV, hOW, hDQ5, fr5, n5⟩ := h5
      subst e5
      refine A_wfh (fun wτ5 hgτ5 => ?_)
      have fra0 : fra [x, dq, da] σ τ5 := (fra.rf.ex yσ).tr fr5
      have n0 : nw σ τ5 := (nw.rf.ex wσ yσ).tr n5
      have hOV : own σ.2 V N := hOW.le yσ.1
      have hl5 : σ.2 ≤ τ5.2 := fra0.1
      have hRo : RW g τ5 W N := hR9.nw n0
      have hRc := hRV
      obtain ⟨h1v, ⟨frv, h2v, h2pv⟩, ⟨fmv, h3v, h3pv⟩, ⟨mcnv, fnAv, h4v, h4pv, h4qv⟩, ⟨mcfv, ffAv, h5v, h5pv, h5qv⟩, ⟨fuv, h6v, h6pv⟩, h7v, h8v, h9v, h10v, h11v⟩ := hRc
      have fτ5v_0 : τ5.1 (wW V) = some (.inr (.inl (4, [.int (N 9), .ref (wR V), .ref (wM V), .ref (wNL V), .ref (wFL V), .ref (wUN V), .int (N 6), .int (N 8), .int (N 0), .int (N 1), .int (N 2), .int (N 3), .int (N 4), .int (N 5), .int (N 11)]))) := h1v
      have fτ5v_1 : τ5.1 (wFL V) = some (.inr (.inl (14, [.int mcfv, .ref (wFA V), .int (nI (nF N))]))) := h5v
      have fτ5v_2 : τ5.1 (wFA V) = some (.inl (.object "java/lang/Object", 12, .inr (.inr (.inr (.inr ffAv))))) := h5pv
      have fτ5v_3 : τ5.1 (wNL V) = some (.inr (.inl (14, [.int mcnv, .ref (wNA V), .int (nI (nN N))]))) := h4v
      have fτ5v_4 : τ5.1 (wNA V) = some (.inl (.object "java/lang/Object", 4, .inr (.inr (.inr (.inr fnAv))))) := h4pv
      have fτ5v_5 : τ5.1 (wR V) = some (.inl (.int, 6, .inl frv)) := h2v
      have fτ5v_6 : τ5.1 (wM V) = some (.inl (.int, 3, .inl fmv)) := h3v
      have fτ5v_7 : τ5.1 (wUN V) = some (.inl (.object "FlagLaundry$Test", 7, .inr (.inr (.inr (.inr fuv))))) := h6v
      refine A_iload_n (i := 1) dX1_setWind_21 rfl rfl ?_
      refine A_putfN cb_X5 fτ5v_0 9 (Nat.le_of_ble_eq_true rfl) q847 rfl rfl rfl rfl (Nat.le_of_ble_eq_true rfl) dX1_setWind_22 ?_
      obtain ⟨σ1, eσ1⟩ : ∃ τ, τ = h_put τ5 (wW V) (.inr (.inl (4, [.int (N 9), .ref (wR V), .ref (wM V), .ref (wNL V), .ref (wFL V), .ref (wUN V), .int (N 6), .int (N 8), .int (N 0), .int v, .int (N 2), .int (N 3), .int (N 4), .int (N 5), .int (N 11)]))) := ⟨_, rfl⟩
      refine A_st (σ' := σ1) eσ1.symm ?_
      have wσ1 : wfh σ1 := by rw [eσ1]; exact wτ5.put fτ5v_0
      have fσ1_0 : σ1.1 (wW V) = some (.inr (.inl (4, [.int (N 9), .ref (wR V), .ref (wM V), .ref (wNL V), .ref (wFL V), .ref (wUN V), .int (N 6), .int (N 8), .int (N 0), .int v, .int (N 2), .int (N 3), .int (N 4), .int (N 5), .int (N 11)]))) := by rw [eσ1]; exact if_pos rfl
      have fσ1_1 : σ1.1 (wFL V) = some (.inr (.inl (14, [.int mcfv, .ref (wFA V), .int (nI (nF N))]))) := by rw [eσ1]; exact (hp_ne (ne_of (x := .inr (.inl (14, [.int mcfv, .ref (wFA V), .int (nI (nF N))]))) (y := .inr (.inl (4, [.int (N 9), .ref (wR V), .ref (wM V), .ref (wNL V), .ref (wFL V), .ref (wUN V), .int (N 6), .int (N 8), .int (N 0), .int (N 1), .int (N 2), .int (N 3), .int (N 4), .int (N 5), .int (N 11)]))) fτ5v_1 fτ5v_0 (fun e8 => by simp at e8))).trans fτ5v_1
      have fσ1_2 : σ1.1 (wFA V) = some (.inl (.object "java/lang/Object", 12, .inr (.inr (.inr (.inr ffAv))))) := by rw [eσ1]; exact (hp_ne (ne_of (x := .inl (.object "java/lang/Object", 12, .inr (.inr (.inr (.inr ffAv))))) (y := .inr (.inl (4, [.int (N 9), .ref (wR V), .ref (wM V), .ref (wNL V), .ref (wFL V), .ref (wUN V), .int (N 6), .int (N 8), .int (N 0), .int (N 1), .int (N 2), .int (N 3), .int (N 4), .int (N 5), .int (N 11)]))) fτ5v_2 fτ5v_0 (fun e8 => by simp at e8))).trans fτ5v_2
      have fσ1_3 : σ1.1 (wNL V) = some (.inr (.inl (14, [.int mcnv, .ref (wNA V), .int (nI (nN N))]))) := by rw [eσ1]; exact (hp_ne (ne_of (x := .inr (.inl (14, [.int mcnv, .ref (wNA V), .int (nI (nN N))]))) (y := .inr (.inl (4, [.int (N 9), .ref (wR V), .ref (wM V), .ref (wNL V), .ref (wFL V), .ref (wUN V), .int (N 6), .int (N 8), .int (N 0), .int (N 1), .int (N 2), .int (N 3), .int (N 4), .int (N 5), .int (N 11)]))) fτ5v_3 fτ5v_0 (fun e8 => by simp at e8))).trans fτ5v_3
      have fσ1_4 : σ1.1 (wNA V) = some (.inl (.object "java/lang/Object", 4, .inr (.inr (.inr (.inr fnAv))))) := by rw [eσ1]; exact (hp_ne (ne_of (x := .inl (.object "java/lang/Object", 4, .inr (.inr (.inr (.inr fnAv))))) (y := .inr (.inl (4, [.int (N 9), .ref (wR V), .ref (wM V), .ref (wNL V), .ref (wFL V), .ref (wUN V), .int (N 6), .int (N 8), .int (N 0), .int (N 1), .int (N 2), .int (N 3), .int (N 4), .int (N 5), .int (N 11)]))) fτ5v_4 fτ5v_0 (fun e8 => by simp at e8))).trans fτ5v_4
      have fσ1_5 : σ1.1 (wR V) = some (.inl (.int, 6, .inl frv)) := by rw [eσ1]; exact (hp_ne (ne_of (x := .inl (.int, 6, .inl frv)) (y := .inr (.inl (4, [.int (N 9), .ref (wR V), .ref (wM V), .ref (wNL V), .ref (wFL V), .ref (wUN V), .int (N 6), .int (N 8), .int (N 0), .int (N 1), .int (N 2), .int (N 3), .int (N 4), .int (N 5), .int (N 11)]))) fτ5v_5 fτ5v_0 (fun e8 => by simp at e8))).trans fτ5v_5
      have fσ1_6 : σ1.1 (wM V) = some (.inl (.int, 3, .inl fmv)) := by rw [eσ1]; exact (hp_ne (ne_of (x := .inl (.int, 3, .inl fmv)) (y := .inr (.inl (4, [.int (N 9), .ref (wR V), .ref (wM V), .ref (wNL V), .ref (wFL V), .ref (wUN V), .int (N 6), .int (N 8), .int (N 0), .int (N 1), .int (N 2), .int (N 3), .int (N 4), .int (N 5), .int (N 11)]))) fτ5v_6 fτ5v_0 (fun e8 => by simp at e8))).trans fτ5v_6
      have fσ1_7 : σ1.1 (wUN V) = some (.inl (.object "FlagLaundry$Test", 7, .inr (.inr (.inr (.inr fuv))))) := by rw [eσ1]; exact (hp_ne (ne_of (x := .inl (.object "FlagLaundry$Test", 7, .inr (.inr (.inr (.inr fuv))))) (y := .inr (.inl (4, [.int (N 9), .ref (wR V), .ref (wM V), .ref (wNL V), .ref (wFL V), .ref (wUN V), .int (N 6), .int (N 8), .int (N 0), .int (N 1), .int (N 2), .int (N 3), .int (N 4), .int (N 5), .int (N 11)]))) fτ5v_7 fτ5v_0 (fun e8 => by simp at e8))).trans fτ5v_7
      have fσ1_8 : σ1.1 x = some (.inr (.inl (0, [.ref bf, .int bd, .int pe, .int ep, .ref (wW V), .ref dq, .ref sv, .ref ou]))) := by rw [eσ1]; exact (hp_ne (ne_of (x := .inr (.inl (0, [.ref bf, .int bd, .int pe, .int ep, .ref (wW V), .ref dq, .ref sv, .ref ou]))) (y := .inr (.inl (4, [.int (N 9), .ref (wR V), .ref (wM V), .ref (wNL V), .ref (wFL V), .ref (wUN V), .int (N 6), .int (N 8), .int (N 0), .int (N 1), .int (N 2), .int (N 3), .int (N 4), .int (N 5), .int (N 11)]))) fx5 fτ5v_0 (fun e8 => by simp at e8))).trans fx5
      have hR7 : RW g σ1 V (va_up N 1 v) := hRV.scal wτ5 (by rw [eσ1]; exact kx.rf.put) fσ1_0 (scl_va _ (by decide) _)
      have k7 : kl σ.2 τ5 σ1 := by rw [eσ1]; exact kl.rf.put hOV.1
      have hWw : σ1.1 (wW W) = some (.inr (.inl (4, [.int (N 9), .ref (wR W), .ref (wM W), .ref (wNL W), .ref (wFL W), .ref (wUN W), .int (N 6), .int (N 8), .int (N 0), .int (N 1), .int (N 2), .int (N 3), .int (N 4), .int (N 5), .int (N 11)]))) := (k7.2 _ (wσ _ _ h1)).trans hRo.1
      refine A_aload_n (i := 2) dX1_setWind_25 rfl rfl ?_
      refine A_getfN cb_X5 hWw 9 (Nat.le_of_ble_eq_true rfl) q847 rfl (v := .int (N 1)) rfl dX1_setWind_26 ?_
      exact A_iret dX1_setWind_29 rfl (⟨(mayQ_0 hs (bi_n ck1) (by decide)), rfl, V, _, (k7.2 x (wσ _ _ hX)).trans fx5, hR7, hDQ5.kl k7 (hQ.lt wσ).1 (hQ.lt wσ).2, fra0.kl k7, n0.kl wσ (Nat.le_refl _) k7⟩)
    · skip
      refine A_of rfl (by decide) (Nat.le_of_ble_eq_true rfl) (L0 := [(0, .ref x), (1, .int v)]) rfl ?_
      refine A_wfh (fun wσ hgσ => ?_)
      have yσ : ext σ σ := ext.rf
      refine A_aload_n (i := 0) dX1_setWind_0 rfl rfl ?_
      refine A_callV0E (b' := 71) (v := some (.ref (wW W))) (τ := σ) (c_loaded σ x bf dq sv ou bd pe ep W N hX hR9 hD) tX1_loaded q1383 hX rfl rfl dX1_setWind_1 (by decide) (Nat.le_of_ble_eq_true rfl) (Nat.le_of_ble_eq_true rfl) ?_
      refine A_astore_n (i := 2) dX1_setWind_4 rfl (Nat.le_of_ble_eq_true rfl) ?_
      refine A_iload_n (i := 1) dX1_setWind_5 rfl rfl ?_
      refine A_i2l dX1_setWind_6 rfl ?_
      refine A_lconst (v := 0) dX1_setWind_7 rfl ?_
      refine A_ldc2 (v := 9) dX1_setWind_8 q1843 ?_
      refine A_callS3E (b' := 71) (v := some (.int (bi (inR v 0 9)))) (τ := σ) (c_in1 σ _ _ _ v 0 9 rfl (by decide) (by decide)) tX1_in q381 dX1_setWind_11 (by decide) (Nat.le_of_ble_eq_true rfl) (Nat.le_of_ble_eq_true rfl) ?_
      refine A_callS1 (b' := 0) (c_cArg_no σ (bi (inR v 0 9)) (bi_f ck1)) tX1_checkArgument q1406 dX1_setWind_14 (by decide) (Nat.le_of_ble_eq_true rfl) (Nat.le_of_ble_eq_true rfl) (fun w9 τ9 h9 => h9.elim) (fun E9 q9 τ9 h9 => A_out rfl (⟨yσ.tr h9.2, 1, by rw [h9.1]; rfl, by rw [(mayQ_2 hs (bi_f (fun h => ck1 h)))]; rfl⟩))
theorem q_hang {l : Launch} {g : GC} (σ : AH) (x bf dq sv ou : Nat) (bd pe ep : Int32) (is : Int32) (nv : Value) (W : WA) (N : AF) (f : Int32) (da hq u : Nat) (e : Nat → Nat) (hL : LD g σ is nv W N) (hX : σ.1 x = some (lauC bf bd pe ep nv dq sv ou)) (hQ : DQ σ dq da hq u e) (hu : u ≤ 8) : AMet l g mX1_hang 10 73 [.ref x, .int f] σ (A_mq g (mayT is (bi (okF is N f)) (bi (okF is N f ∧ canHangN N (ix f)))) (.int (fl (goTo N (ix f) 2 (freeN N)) (ix f) 9)) bf bd pe ep dq sv ou x da u e W (goTo N (ix f) 2 (freeN N)) σ) (A_thr ["java/lang/IllegalStateException", "java/lang/IndexOutOfBoundsException", "java/lang/IllegalArgumentException"] (mayT is (bi (okF is N f)) (bi (okF is N f ∧ canHangN N (ix f)))) σ) := by
  rcases hL with ⟨h0, hn⟩ | ⟨hs, hn, hR, hD, hw, hh⟩
  · subst hn
    refine A_of rfl (by decide) (Nat.le_of_ble_eq_true rfl) (L0 := [(0, .ref x), (1, .int f)]) rfl ?_
    refine A_wfh (fun wσ hgσ => ?_)
    have yσ : ext σ σ := ext.rf
    refine A_aload_n (i := 0) dX1_hang_0 rfl rfl ?_
    refine A_iload_n (i := 1) dX1_hang_1 rfl rfl ?_
    refine A_callV1 (b' := 0) (u_checkFlag σ x bf dq sv ou bd pe ep f hX) tX1_checkFlag q1490 hX rfl rfl dX1_hang_2 (by decide) (Nat.le_of_ble_eq_true rfl) (Nat.le_of_ble_eq_true rfl) (fun w9 τ9 h9 => h9.elim) (fun E9 q9 τ9 h9 => A_out rfl (⟨yσ.tr h9.2, 0, by rw [h9.1]; rfl, by rw [(mayQ_1 h0)]; rfl⟩))
  · subst hn
    have hW := hD.1
    have hR9 := hR
    obtain ⟨h1, ⟨fr, h2, h2p⟩, ⟨fm, h3, h3p⟩, ⟨mcn, fnA, h4, h4p, h4q⟩, ⟨mcf, ffA, h5, h5p, h5q⟩, ⟨fu, h6, h6p⟩, h7, h8, h9, h10, h11⟩ := hR
    have hF12 : nF N ≤ 12 := hW.2.2.2.2.2
    have hN4 : nN N ≤ 4 := hW.2.1.2
    have hC6 : nC N ≤ 6 := hW.1.2
    have hT3 : nT N ≤ 3 := hW.2.2.1.2
    have hP8 : nP N ≤ 8 := hW.2.2.2.1.2
    by_cases ck1 : inR f 0 (N 10 - 1)
    · skip
      obtain ⟨jf, hjf, rfl⟩ := in_ex hW.2.2.2.2.1 (Nat.le_trans hF12 (by decide)) ck1
      have bjf : jf < 2000 := Nat.lt_of_lt_of_le hjf (Nat.le_trans hF12 (by decide))
      refine A_of rfl (by decide) (Nat.le_of_ble_eq_true rfl) (L0 := [(0, .ref x), (1, .int (nI jf))]) rfl ?_
      refine A_wfh (fun wσ hgσ => ?_)
      have yσ : ext σ σ := ext.rf
      refine A_aload_n (i := 0) dX1_hang_0 rfl rfl ?_
      refine A_iload_n (i := 1) dX1_hang_1 rfl rfl ?_
      refine A_callV1E (b' := 73) (v := some (.ref (wF W jf))) (τ := σ) (c_checkFlag σ x bf dq sv ou bd pe ep W N jf hX hR9 hD hjf) tX1_checkFlag q1490 hX rfl rfl dX1_hang_2 (by decide) (Nat.le_of_ble_eq_true rfl) (Nat.le_of_ble_eq_true rfl) ?_
      refine A_astore_n (i := 2) dX1_hang_5 rfl (Nat.le_of_ble_eq_true rfl) ?_
      refine A_aload_n (i := 0) dX1_hang_6 rfl rfl ?_
      refine A_getf cb_X1 hX 4 (Nat.le_of_ble_eq_true rfl) q242 rfl (v := .ref (wW W)) rfl dX1_hang_7 ?_
      refine A_callV0E (b' := 73) (v := some (.int (freeN N))) (τ := σ) (c_freePeg5 σ W N hR9 hD) tX5_freePeg q2096 h1 rfl rfl dX1_hang_10 (by decide) (Nat.le_of_ble_eq_true rfl) (Nat.le_of_ble_eq_true rfl) ?_
      refine A_istore_n (i := 3) dX1_hang_13 rfl (Nat.le_of_ble_eq_true rfl) ?_
      refine A_aload_n (i := 2) dX1_hang_14 rfl rfl ?_
      refine A_callV0E (b' := 73) (v := some (.int (bi (inBasket N jf)))) (τ := σ) (c_fHere σ (wF W jf) (wP W jf) (fl N jf) (hR9.2.2.2.2.2.2.1 jf hjf) (hR9.2.2.2.2.2.2.2.1 jf hjf) (flok_k hD hjf)) tX7_isHere q1178 (hR9.2.2.2.2.2.2.1 jf hjf) rfl rfl dX1_hang_15 (by decide) (Nat.le_of_ble_eq_true rfl) (Nat.le_of_ble_eq_true rfl) ?_
      refine A_if_eq (tgt := 30) dX1_hang_18 (by decide) (fun c1 => ?_) (fun c1 => ?_)
      · skip
        have c1 := bi_eq0.mp c1
        refine A_iconst (v := 0) dX1_hang_30 (by decide) ?_
        refine A_callS1 (b' := 0) (c_cArg_no σ 0 rfl) tX1_checkArgument q1406 dX1_hang_31 (by decide) (Nat.le_of_ble_eq_true rfl) (Nat.le_of_ble_eq_true rfl) (fun w9 τ9 h9 => h9.elim) (fun E9 q9 τ9 h9 => A_out rfl (⟨yσ.tr h9.2, 2, by rw [h9.1]; rfl, by rw [(mayQ_3 hs (bi_n ⟨hs, ck1⟩) (bi_f (fun h => by have k := h.2; rw [ixn bjf] at k; exact c1 k.1)))]; rfl⟩))
      · skip
        have c1 := bi_ne0.mp c1
        refine A_iload_n (i := 3) dX1_hang_21 rfl rfl ?_
        refine A_iconst (v := (-1)) dX1_hang_22 (by decide) ?_
        refine A_icmp_eq (tgt := 30) dX1_hang_23 (by decide) (fun c2 => ?_) (fun c2 => ?_)
        · skip
          refine A_iconst (v := 0) dX1_hang_30 (by decide) ?_
          refine A_callS1 (b' := 0) (c_cArg_no σ 0 rfl) tX1_checkArgument q1406 dX1_hang_31 (by decide) (Nat.le_of_ble_eq_true rfl) (Nat.le_of_ble_eq_true rfl) (fun w9 τ9 h9 => h9.elim) (fun E9 q9 τ9 h9 => A_out rfl (⟨yσ.tr h9.2, 2, by rw [h9.1]; rfl, by rw [(mayQ_3 hs (bi_n ⟨hs, ck1⟩) (bi_f (fun h => by have k := h.2; rw [ixn bjf] at k; exact k.2 c2)))]; rfl⟩))
        · skip
          refine A_iconst (v := 1) dX1_hang_26 (by decide) ?_
          refine A_goto (tgt := 31) dX1_hang_27 (by decide) ?_
          refine A_callS1E (b' := 73) (v := none) (τ := σ) (c_cArg σ 1 (by decide)) tX1_checkArgument q1406 dX1_hang_31 (by decide) (Nat.le_of_ble_eq_true rfl) (Nat.le_of_ble_eq_true rfl) ?_
          refine A_aload_n (i := 0) dX1_hang_34 rfl rfl ?_
          refine A_callV0 (b' := 4) (c_changed σ x bf dq sv ou bd pe ep W N da hq u e hX hR9 hD (hQ.ex wσ yσ) hu) tX1_changed q2040 hX rfl rfl dX1_hang_35 (by decide) (Nat.le_of_ble_eq_true rfl) (Nat.le_of_ble_eq_true rfl) (fun w9 τ5 h5 => ?_) (fun E9 q9 τ9 h9 => h9.elim)
          obtain ⟨V, h5q, e5, fx5, hRV, hOW, hDQ5, fr5, n5⟩ := h5
          subst e5
          refine A_wfh (fun wτ5 hgτ5 => ?_)
          have fra0 : fra [x, dq, da] σ τ5 := (fra.rf.ex yσ).tr fr5
          have n0 : nw σ τ5 := (nw.rf.ex wσ yσ).tr n5
          have hOV : own σ.2 V N := hOW.le yσ.1
          have hl5 : σ.2 ≤ τ5.2 := fra0.1
          have hRo : RW g τ5 W N := hR9.nw n0
          have hRc := hRV
          obtain ⟨h1v, ⟨frv, h2v, h2pv⟩, ⟨fmv, h3v, h3pv⟩, ⟨mcnv, fnAv, h4v, h4pv, h4qv⟩, ⟨mcfv, ffAv, h5v, h5pv, h5qv⟩, ⟨fuv, h6v, h6pv⟩, h7v, h8v, h9v, h10v, h11v⟩ := hRc
          have fτ5v_0 : τ5.1 (wW V) = some (.inr (.inl (4, [.int (N 9), .ref (wR V), .ref (wM V), .ref (wNL V), .ref (wFL V), .ref (wUN V), .int (N 6), .int (N 8), .int (N 0), .int (N 1), .int (N 2), .int (N 3), .int (N 4), .int (N 5), .int (N 11)]))) := h1v
          have fτ5v_1 : τ5.1 (wFL V) = some (.inr (.inl (14, [.int mcfv, .ref (wFA V), .int (nI (nF N))]))) := h5v
          have fτ5v_2 : τ5.1 (wFA V) = some (.inl (.object "java/lang/Object", 12, .inr (.inr (.inr (.inr ffAv))))) := h5pv
          have fτ5v_3 : τ5.1 (wNL V) = some (.inr (.inl (14, [.int mcnv, .ref (wNA V), .int (nI (nN N))]))) := h4v
          have fτ5v_4 : τ5.1 (wNA V) = some (.inl (.object "java/lang/Object", 4, .inr (.inr (.inr (.inr fnAv))))) := h4pv
          have fτ5v_5 : τ5.1 (wR V) = some (.inl (.int, 6, .inl frv)) := h2v
          have fτ5v_6 : τ5.1 (wM V) = some (.inl (.int, 3, .inl fmv)) := h3v
          have fτ5v_7 : τ5.1 (wUN V) = some (.inl (.object "FlagLaundry$Test", 7, .inr (.inr (.inr (.inr fuv))))) := h6v
          have zτ5 : kx (wF V jf) τ5 τ5 := kx.rf
          refine A_iload_n (i := 1) dX1_hang_38 rfl rfl ?_
          refine A_callV1E (b' := 4) (v := some (.ref (wF V jf))) (τ := τ5) (c_flagOf τ5 V N jf hRV hW hjf) tX5_flagOf q1153 fτ5v_0 rfl rfl dX1_hang_39 (by decide) (Nat.le_of_ble_eq_true rfl) (Nat.le_of_ble_eq_true rfl) ?_
          refine A_new (b' := 3) (u := 1) cb_X11 q1422 q1336 q168 (fs := [.int 0]) (by intro j hj; rcases j with _ | j; exact rfl; omega) (Nat.le_of_ble_eq_true rfl) ⟨Nat.le_of_ble_eq_true rfl, Nat.le_of_ble_eq_true rfl⟩ dX1_hang_42 ?_
          obtain ⟨σ1, eσ1⟩ : ∃ τ, τ = h_new τ5 (.inr (.inl (9, [.int 0]))) := ⟨_, rfl⟩
          refine A_st (σ' := σ1) eσ1.symm ?_
          have wσ1 : wfh σ1 := by rw [eσ1]; exact wτ5.new
          have fσ1_0 : σ1.1 (wW V) = some (.inr (.inl (4, [.int (N 9), .ref (wR V), .ref (wM V), .ref (wNL V), .ref (wFL V), .ref (wUN V), .int (N 6), .int (N 8), .int (N 0), .int (N 1), .int (N 2), .int (N 3), .int (N 4), .int (N 5), .int (N 11)]))) := by rw [eσ1]; exact (hn_ne (Nat.ne_of_lt (wτ5 _ _ fτ5v_0))).trans fτ5v_0
          have fσ1_1 : σ1.1 (wFL V) = some (.inr (.inl (14, [.int mcfv, .ref (wFA V), .int (nI (nF N))]))) := by rw [eσ1]; exact (hn_ne (Nat.ne_of_lt (wτ5 _ _ fτ5v_1))).trans fτ5v_1
          have fσ1_2 : σ1.1 (wFA V) = some (.inl (.object "java/lang/Object", 12, .inr (.inr (.inr (.inr ffAv))))) := by rw [eσ1]; exact (hn_ne (Nat.ne_of_lt (wτ5 _ _ fτ5v_2))).trans fτ5v_2
          have fσ1_3 : σ1.1 (wNL V) = some (.inr (.inl (14, [.int mcnv, .ref (wNA V), .int (nI (nN N))]))) := by rw [eσ1]; exact (hn_ne (Nat.ne_of_lt (wτ5 _ _ fτ5v_3))).trans fτ5v_3
          have fσ1_4 : σ1.1 (wNA V) = some (.inl (.object "java/lang/Object", 4, .inr (.inr (.inr (.inr fnAv))))) := by rw [eσ1]; exact (hn_ne (Nat.ne_of_lt (wτ5 _ _ fτ5v_4))).trans fτ5v_4
          have fσ1_5 : σ1.1 (wR V) = some (.inl (.int, 6, .inl frv)) := by rw [eσ1]; exact (hn_ne (Nat.ne_of_lt (wτ5 _ _ fτ5v_5))).trans fτ5v_5
          have fσ1_6 : σ1.1 (wM V) = some (.inl (.int, 3, .inl fmv)) := by rw [eσ1]; exact (hn_ne (Nat.ne_of_lt (wτ5 _ _ fτ5v_6))).trans fτ5v_6
          have fσ1_7 : σ1.1 (wUN V) = some (.inl (.object "FlagLaundry$Test", 7, .inr (.inr (.inr (.inr fuv))))) := by rw [eσ1]; exact (hn_ne (Nat.ne_of_lt (wτ5 _ _ fτ5v_7))).trans fτ5v_7
          have fσ1_8 : σ1.1 x = some (.inr (.inl (0, [.ref bf, .int bd, .int pe, .int ep, .ref (wW V), .ref dq, .ref sv, .ref ou]))) := by rw [eσ1]; exact (hn_ne (Nat.ne_of_lt (wτ5 _ _ fx5))).trans fx5
          have fσ1_9 : σ1.1 (wF V jf) = some (.inr (.inl (6, [.int (fl N jf 0), .int (fl N jf 1), .int (fl N jf 2), .int (fl N jf 3), .int (fl N jf 4), .int (fl N jf 5), .int (fl N jf 6), .int (fl N jf 7), .ref (wP V jf)]))) := by rw [eσ1]; exact (hn_ne (Nat.ne_of_lt (wτ5 _ _ (hRV.2.2.2.2.2.2.1 jf hjf)))).trans (hRV.2.2.2.2.2.2.1 jf hjf)
          have fσ1_10 : σ1.1 τ5.2 = some (.inr (.inl (9, [.int 0]))) := by rw [eσ1]; exact if_pos rfl
          have xσ1 : ext τ5 σ1 := by rw [eσ1]; exact ext_new _ _
          have zσ1 : kx (wF V jf) τ5 σ1 := by rw [eσ1]; exact zτ5.new
          have hRσ1 : RW g σ1 V N := hRV.ext wτ5 xσ1
          refine A_dup dX1_hang_45 rfl ?_
          refine A_iload_n (i := 3) dX1_hang_46 rfl rfl ?_
          refine A_callI1 (b' := 3) (c_X11init σ1 τ5.2 (freeN N) fσ1_10) tX11_init q2097 dX1_hang_47 (by decide) (Nat.le_of_ble_eq_true rfl) (Nat.le_of_ble_eq_true rfl) (fun w9 σ2 h9 => ?_) (fun E9 q9 τ9 h9 => h9.elim)
          obtain ⟨e9, fσ2_a, kσ2⟩ := h9
          subst e9
          refine A_wfh (fun wσ2 hgσ2 => ?_)
          have zσ2 : kx (wF V jf) τ5 σ2 := zσ1.trN (zτ5.1) kσ2
          have fσ2_0 : σ2.1 (wW V) = some (.inr (.inl (4, [.int (N 9), .ref (wR V), .ref (wM V), .ref (wNL V), .ref (wFL V), .ref (wUN V), .int (N 6), .int (N 8), .int (N 0), .int (N 1), .int (N 2), .int (N 3), .int (N 4), .int (N 5), .int (N 11)]))) := kσ2.at wσ1 fσ1_0 (ne_of (x := .inr (.inl (4, [.int (N 9), .ref (wR V), .ref (wM V), .ref (wNL V), .ref (wFL V), .ref (wUN V), .int (N 6), .int (N 8), .int (N 0), .int (N 1), .int (N 2), .int (N 3), .int (N 4), .int (N 5), .int (N 11)]))) (y := .inr (.inl (9, [.int 0]))) fσ1_0 fσ1_10 (fun e8 => by simp at e8))
          have fσ2_1 : σ2.1 (wFL V) = some (.inr (.inl (14, [.int mcfv, .ref (wFA V), .int (nI (nF N))]))) := kσ2.at wσ1 fσ1_1 (ne_of (x := .inr (.inl (14, [.int mcfv, .ref (wFA V), .int (nI (nF N))]))) (y := .inr (.inl (9, [.int 0]))) fσ1_1 fσ1_10 (fun e8 => by simp at e8))
          have fσ2_2 : σ2.1 (wFA V) = some (.inl (.object "java/lang/Object", 12, .inr (.inr (.inr (.inr ffAv))))) := kσ2.at wσ1 fσ1_2 (ne_of (x := .inl (.object "java/lang/Object", 12, .inr (.inr (.inr (.inr ffAv))))) (y := .inr (.inl (9, [.int 0]))) fσ1_2 fσ1_10 (fun e8 => by simp at e8))
          have fσ2_3 : σ2.1 (wNL V) = some (.inr (.inl (14, [.int mcnv, .ref (wNA V), .int (nI (nN N))]))) := kσ2.at wσ1 fσ1_3 (ne_of (x := .inr (.inl (14, [.int mcnv, .ref (wNA V), .int (nI (nN N))]))) (y := .inr (.inl (9, [.int 0]))) fσ1_3 fσ1_10 (fun e8 => by simp at e8))
          have fσ2_4 : σ2.1 (wNA V) = some (.inl (.object "java/lang/Object", 4, .inr (.inr (.inr (.inr fnAv))))) := kσ2.at wσ1 fσ1_4 (ne_of (x := .inl (.object "java/lang/Object", 4, .inr (.inr (.inr (.inr fnAv))))) (y := .inr (.inl (9, [.int 0]))) fσ1_4 fσ1_10 (fun e8 => by simp at e8))
          have fσ2_5 : σ2.1 (wR V) = some (.inl (.int, 6, .inl frv)) := kσ2.at wσ1 fσ1_5 (ne_of (x := .inl (.int, 6, .inl frv)) (y := .inr (.inl (9, [.int 0]))) fσ1_5 fσ1_10 (fun e8 => by simp at e8))
          have fσ2_6 : σ2.1 (wM V) = some (.inl (.int, 3, .inl fmv)) := kσ2.at wσ1 fσ1_6 (ne_of (x := .inl (.int, 3, .inl fmv)) (y := .inr (.inl (9, [.int 0]))) fσ1_6 fσ1_10 (fun e8 => by simp at e8))
          have fσ2_7 : σ2.1 (wUN V) = some (.inl (.object "FlagLaundry$Test", 7, .inr (.inr (.inr (.inr fuv))))) := kσ2.at wσ1 fσ1_7 (ne_of (x := .inl (.object "FlagLaundry$Test", 7, .inr (.inr (.inr (.inr fuv))))) (y := .inr (.inl (9, [.int 0]))) fσ1_7 fσ1_10 (fun e8 => by simp at e8))
          have fσ2_8 : σ2.1 x = some (.inr (.inl (0, [.ref bf, .int bd, .int pe, .int ep, .ref (wW V), .ref dq, .ref sv, .ref ou]))) := kσ2.at wσ1 fσ1_8 (ne_of (x := .inr (.inl (0, [.ref bf, .int bd, .int pe, .int ep, .ref (wW V), .ref dq, .ref sv, .ref ou]))) (y := .inr (.inl (9, [.int 0]))) fσ1_8 fσ1_10 (fun e8 => by simp at e8))
          have fσ2_9 : σ2.1 (wF V jf) = some (.inr (.inl (6, [.int (fl N jf 0), .int (fl N jf 1), .int (fl N jf 2), .int (fl N jf 3), .int (fl N jf 4), .int (fl N jf 5), .int (fl N jf 6), .int (fl N jf 7), .ref (wP V jf)]))) := kσ2.at wσ1 fσ1_9 (ne_of (x := .inr (.inl (6, [.int (fl N jf 0), .int (fl N jf 1), .int (fl N jf 2), .int (fl N jf 3), .int (fl N jf 4), .int (fl N jf 5), .int (fl N jf 6), .int (fl N jf 7), .ref (wP V jf)]))) (y := .inr (.inl (9, [.int 0]))) fσ1_9 fσ1_10 (fun e8 => by simp at e8))
          refine A_putfN cb_X7 fσ2_9 8 (Nat.le_of_ble_eq_true rfl) q1122 rfl rfl rfl rfl (Nat.le_of_ble_eq_true rfl) dX1_hang_50 ?_
          obtain ⟨σ3, eσ3⟩ : ∃ τ, τ = h_put σ2 (wF V jf) (.inr (.inl (6, [.int (fl N jf 0), .int (fl N jf 1), .int (fl N jf 2), .int (fl N jf 3), .int (fl N jf 4), .int (fl N jf 5), .int (fl N jf 6), .int (fl N jf 7), .ref τ5.2]))) := ⟨_, rfl⟩
          refine A_st (σ' := σ3) eσ3.symm ?_
          have wσ3 : wfh σ3 := by rw [eσ3]; exact wσ2.put fσ2_9
          have fσ3_0 : σ3.1 (wW V) = some (.inr (.inl (4, [.int (N 9), .ref (wR V), .ref (wM V), .ref (wNL V), .ref (wFL V), .ref (wUN V), .int (N 6), .int (N 8), .int (N 0), .int (N 1), .int (N 2), .int (N 3), .int (N 4), .int (N 5), .int (N 11)]))) := by rw [eσ3]; exact (hp_ne (ne_of (x := .inr (.inl (4, [.int (N 9), .ref (wR V), .ref (wM V), .ref (wNL V), .ref (wFL V), .ref (wUN V), .int (N 6), .int (N 8), .int (N 0), .int (N 1), .int (N 2), .int (N 3), .int (N 4), .int (N 5), .int (N 11)]))) (y := .inr (.inl (6, [.int (fl N jf 0), .int (fl N jf 1), .int (fl N jf 2), .int (fl N jf 3), .int (fl N jf 4), .int (fl N jf 5), .int (fl N jf 6), .int (fl N jf 7), .ref (wP V jf)]))) fσ2_0 fσ2_9 (fun e8 => by simp at e8))).trans fσ2_0
          have fσ3_1 : σ3.1 (wFL V) = some (.inr (.inl (14, [.int mcfv, .ref (wFA V), .int (nI (nF N))]))) := by rw [eσ3]; exact (hp_ne (ne_of (x := .inr (.inl (14, [.int mcfv, .ref (wFA V), .int (nI (nF N))]))) (y := .inr (.inl (6, [.int (fl N jf 0), .int (fl N jf 1), .int (fl N jf 2), .int (fl N jf 3), .int (fl N jf 4), .int (fl N jf 5), .int (fl N jf 6), .int (fl N jf 7), .ref (wP V jf)]))) fσ2_1 fσ2_9 (fun e8 => by simp at e8))).trans fσ2_1
          have fσ3_2 : σ3.1 (wFA V) = some (.inl (.object "java/lang/Object", 12, .inr (.inr (.inr (.inr ffAv))))) := by rw [eσ3]; exact (hp_ne (ne_of (x := .inl (.object "java/lang/Object", 12, .inr (.inr (.inr (.inr ffAv))))) (y := .inr (.inl (6, [.int (fl N jf 0), .int (fl N jf 1), .int (fl N jf 2), .int (fl N jf 3), .int (fl N jf 4), .int (fl N jf 5), .int (fl N jf 6), .int (fl N jf 7), .ref (wP V jf)]))) fσ2_2 fσ2_9 (fun e8 => by simp at e8))).trans fσ2_2
          have fσ3_3 : σ3.1 (wNL V) = some (.inr (.inl (14, [.int mcnv, .ref (wNA V), .int (nI (nN N))]))) := by rw [eσ3]; exact (hp_ne (ne_of (x := .inr (.inl (14, [.int mcnv, .ref (wNA V), .int (nI (nN N))]))) (y := .inr (.inl (6, [.int (fl N jf 0), .int (fl N jf 1), .int (fl N jf 2), .int (fl N jf 3), .int (fl N jf 4), .int (fl N jf 5), .int (fl N jf 6), .int (fl N jf 7), .ref (wP V jf)]))) fσ2_3 fσ2_9 (fun e8 => by simp at e8))).trans fσ2_3
          have fσ3_4 : σ3.1 (wNA V) = some (.inl (.object "java/lang/Object", 4, .inr (.inr (.inr (.inr fnAv))))) := by rw [eσ3]; exact (hp_ne (ne_of (x := .inl (.object "java/lang/Object", 4, .inr (.inr (.inr (.inr fnAv))))) (y := .inr (.inl (6, [.int (fl N jf 0), .int (fl N jf 1), .int (fl N jf 2), .int (fl N jf 3), .int (fl N jf 4), .int (fl N jf 5), .int (fl N jf 6), .int (fl N jf 7), .ref (wP V jf)]))) fσ2_4 fσ2_9 (fun e8 => by simp at e8))).trans fσ2_4
          have fσ3_5 : σ3.1 (wR V) = some (.inl (.int, 6, .inl frv)) := by rw [eσ3]; exact (hp_ne (ne_of (x := .inl (.int, 6, .inl frv)) (y := .inr (.inl (6, [.int (fl N jf 0), .int (fl N jf 1), .int (fl N jf 2), .int (fl N jf 3), .int (fl N jf 4), .int (fl N jf 5), .int (fl N jf 6), .int (fl N jf 7), .ref (wP V jf)]))) fσ2_5 fσ2_9 (fun e8 => by simp at e8))).trans fσ2_5
          have fσ3_6 : σ3.1 (wM V) = some (.inl (.int, 3, .inl fmv)) := by rw [eσ3]; exact (hp_ne (ne_of (x := .inl (.int, 3, .inl fmv)) (y := .inr (.inl (6, [.int (fl N jf 0), .int (fl N jf 1), .int (fl N jf 2), .int (fl N jf 3), .int (fl N jf 4), .int (fl N jf 5), .int (fl N jf 6), .int (fl N jf 7), .ref (wP V jf)]))) fσ2_6 fσ2_9 (fun e8 => by simp at e8))).trans fσ2_6
          have fσ3_7 : σ3.1 (wUN V) = some (.inl (.object "FlagLaundry$Test", 7, .inr (.inr (.inr (.inr fuv))))) := by rw [eσ3]; exact (hp_ne (ne_of (x := .inl (.object "FlagLaundry$Test", 7, .inr (.inr (.inr (.inr fuv))))) (y := .inr (.inl (6, [.int (fl N jf 0), .int (fl N jf 1), .int (fl N jf 2), .int (fl N jf 3), .int (fl N jf 4), .int (fl N jf 5), .int (fl N jf 6), .int (fl N jf 7), .ref (wP V jf)]))) fσ2_7 fσ2_9 (fun e8 => by simp at e8))).trans fσ2_7
          have fσ3_8 : σ3.1 x = some (.inr (.inl (0, [.ref bf, .int bd, .int pe, .int ep, .ref (wW V), .ref dq, .ref sv, .ref ou]))) := by rw [eσ3]; exact (hp_ne (ne_of (x := .inr (.inl (0, [.ref bf, .int bd, .int pe, .int ep, .ref (wW V), .ref dq, .ref sv, .ref ou]))) (y := .inr (.inl (6, [.int (fl N jf 0), .int (fl N jf 1), .int (fl N jf 2), .int (fl N jf 3), .int (fl N jf 4), .int (fl N jf 5), .int (fl N jf 6), .int (fl N jf 7), .ref (wP V jf)]))) fσ2_8 fσ2_9 (fun e8 => by simp at e8))).trans fσ2_8
          have fσ3_9 : σ3.1 (wF V jf) = some (.inr (.inl (6, [.int (fl N jf 0), .int (fl N jf 1), .int (fl N jf 2), .int (fl N jf 3), .int (fl N jf 4), .int (fl N jf 5), .int (fl N jf 6), .int (fl N jf 7), .ref τ5.2]))) := by rw [eσ3]; exact if_pos rfl
          have fσ3_10 : σ3.1 τ5.2 = some (.inr (.inl (9, [.int (freeN N)]))) := by rw [eσ3]; exact (hp_ne (ne_of (x := .inr (.inl (9, [.int (freeN N)]))) (y := .inr (.inl (6, [.int (fl N jf 0), .int (fl N jf 1), .int (fl N jf 2), .int (fl N jf 3), .int (fl N jf 4), .int (fl N jf 5), .int (fl N jf 6), .int (fl N jf 7), .ref (wP V jf)]))) fσ2_a fσ2_9 (fun e8 => by simp at e8))).trans fσ2_a
          have zσ3 : kx (wF V jf) τ5 σ3 := by rw [eσ3]; exact zσ2.put
          have hR7 : RW g σ3 (setP V (upP (wP V) jf τ5.2)) (goTo N jf 2 (freeN N)) := hRV.flag (F := plF (fl N jf) 2 (freeN N) (fl N jf 10)) wτ5 hW hjf zσ3 fσ3_9 fσ3_10 (upF_goTo _ _ _ _)
          have k7 : kl σ.2 τ5 σ3 := zσ3.kl hl5 (hOV.2.2.2.2.2.2.2.1 jf hjf)
          refine A_iload_n (i := 3) dX1_hang_53 rfl rfl ?_
          exact A_iret dX1_hang_54 rfl (⟨(mayQ_0 hs (bi_n ⟨hs, ck1⟩) (bi_n ⟨⟨hs, ck1⟩, by rw [ixn bjf]; exact ⟨c1, c2⟩⟩)), by rw [ixn bjf, (upF_goTo N jf 2 (freeN N)).2.1 9 (by decide)] <;> rfl, (setP V (upP (wP V) jf τ5.2)), _, (k7.2 x (wσ _ _ hX)).trans fx5, (by rw [ixn bjf]; exact hR7), hDQ5.kl k7 (hQ.lt wσ).1 (hQ.lt wσ).2, fra0.kl k7, n0.kl wσ (Nat.le_refl _) k7⟩)
    · skip
      refine A_of rfl (by decide) (Nat.le_of_ble_eq_true rfl) (L0 := [(0, .ref x), (1, .int f)]) rfl ?_
      refine A_wfh (fun wσ hgσ => ?_)
      have yσ : ext σ σ := ext.rf
      refine A_aload_n (i := 0) dX1_hang_0 rfl rfl ?_
      refine A_iload_n (i := 1) dX1_hang_1 rfl rfl ?_
      refine A_callV1 (b' := 0) (c_checkFlag_no σ x bf dq sv ou bd pe ep W N f hX hR9 hD ck1) tX1_checkFlag q1490 hX rfl rfl dX1_hang_2 (by decide) (Nat.le_of_ble_eq_true rfl) (Nat.le_of_ble_eq_true rfl) (fun w9 τ9 h9 => h9.elim) (fun E9 q9 τ9 h9 => A_out rfl (⟨yσ.tr h9.2, 1, by rw [h9.1]; rfl, by rw [(mayQ_2 hs (bi_f (fun h => ck1 h.2)))]; rfl⟩))
theorem num_ne {N : AF} (h : WFd N) {f : Nat} (hf : f < nF N) : ¬ fl N f 9 = -1 ↔ (fl N f 8 = 1 ∨ fl N f 8 = 2) := by
  have hW := h.1
  rcases (h.2 f hf).2.2.2.2.2.2.2 with ⟨h1, h2⟩ | ⟨h1, t, ht, h2⟩ | ⟨h1, p, hp, h2⟩ | ⟨h1, h2⟩
  · exact ⟨fun q => absurd h2 q, fun q => by rw [h1] at q; exact absurd q (by decide)⟩
  · have := hW.2.2.1.2
    exact ⟨fun _ => Or.inl h1, fun _ => by rw [h2]; exact nI_m1 (by omega)⟩
  · have := hW.2.2.2.1.2
    exact ⟨fun _ => Or.inr h1, fun _ => by rw [h2]; exact nI_m1 (by omega)⟩
  · exact ⟨fun q => absurd h2 q, fun q => by rw [h1] at q; exact absurd q (by decide)⟩
theorem q_takeDown {l : Launch} {g : GC} (σ : AH) (x bf dq sv ou : Nat) (bd pe ep : Int32) (is : Int32) (nv : Value) (W : WA) (N : AF) (f : Int32) (da hq u : Nat) (e : Nat → Nat) (hL : LD g σ is nv W N) (hX : σ.1 x = some (lauC bf bd pe ep nv dq sv ou)) (hQ : DQ σ dq da hq u e) (hu : u ≤ 8) : AMet l g mX1_takeDown 10 71 [.ref x, .int f] σ (A_mq g (mayT is (bi (okF is N f)) (bi (okF is N f ∧ (fl N (ix f) 8 = 1 ∨ fl N (ix f) 8 = 2)))) (.int (fl (goTo N (ix f) 0 (-1)) (ix f) 4)) bf bd pe ep dq sv ou x da u e W (goTo N (ix f) 0 (-1)) σ) (A_thr ["java/lang/IllegalStateException", "java/lang/IndexOutOfBoundsException", "java/lang/IllegalArgumentException"] (mayT is (bi (okF is N f)) (bi (okF is N f ∧ (fl N (ix f) 8 = 1 ∨ fl N (ix f) 8 = 2)))) σ) := by
  rcases hL with ⟨h0, hn⟩ | ⟨hs, hn, hR, hD, hw, hh⟩
  · subst hn
    refine A_of rfl (by decide) (Nat.le_of_ble_eq_true rfl) (L0 := [(0, .ref x), (1, .int f)]) rfl ?_
    refine A_wfh (fun wσ hgσ => ?_)
    have yσ : ext σ σ := ext.rf
    refine A_aload_n (i := 0) dX1_takeDown_0 rfl rfl ?_
    refine A_iload_n (i := 1) dX1_takeDown_1 rfl rfl ?_
    refine A_callV1 (b' := 0) (u_checkFlag σ x bf dq sv ou bd pe ep f hX) tX1_checkFlag q1490 hX rfl rfl dX1_takeDown_2 (by decide) (Nat.le_of_ble_eq_true rfl) (Nat.le_of_ble_eq_true rfl) (fun w9 τ9 h9 => h9.elim) (fun E9 q9 τ9 h9 => A_out rfl (⟨yσ.tr h9.2, 0, by rw [h9.1]; rfl, by rw [(mayQ_1 h0)]; rfl⟩))
  · subst hn
    have hW := hD.1
    have hR9 := hR
    obtain ⟨h1, ⟨fr, h2, h2p⟩, ⟨fm, h3, h3p⟩, ⟨mcn, fnA, h4, h4p, h4q⟩, ⟨mcf, ffA, h5, h5p, h5q⟩, ⟨fu, h6, h6p⟩, h7, h8, h9, h10, h11⟩ := hR
    have hF12 : nF N ≤ 12 := hW.2.2.2.2.2
    have hN4 : nN N ≤ 4 := hW.2.1.2
    have hC6 : nC N ≤ 6 := hW.1.2
    have hT3 : nT N ≤ 3 := hW.2.2.1.2
    have hP8 : nP N ≤ 8 := hW.2.2.2.1.2
    by_cases ck1 : inR f 0 (N 10 - 1)
    · skip
      obtain ⟨jf, hjf, rfl⟩ := in_ex hW.2.2.2.2.1 (Nat.le_trans hF12 (by decide)) ck1
      have bjf : jf < 2000 := Nat.lt_of_lt_of_le hjf (Nat.le_trans hF12 (by decide))
      refine A_of rfl (by decide) (Nat.le_of_ble_eq_true rfl) (L0 := [(0, .ref x), (1, .int (nI jf))]) rfl ?_
      refine A_wfh (fun wσ hgσ => ?_)
      have yσ : ext σ σ := ext.rf
      refine A_aload_n (i := 0) dX1_takeDown_0 rfl rfl ?_
      refine A_iload_n (i := 1) dX1_takeDown_1 rfl rfl ?_
      refine A_callV1E (b' := 71) (v := some (.ref (wF W jf))) (τ := σ) (c_checkFlag σ x bf dq sv ou bd pe ep W N jf hX hR9 hD hjf) tX1_checkFlag q1490 hX rfl rfl dX1_takeDown_2 (by decide) (Nat.le_of_ble_eq_true rfl) (Nat.le_of_ble_eq_true rfl) ?_
      refine A_astore_n (i := 2) dX1_takeDown_5 rfl (Nat.le_of_ble_eq_true rfl) ?_
      refine A_aload_n (i := 2) dX1_takeDown_6 rfl rfl ?_
      refine A_getfN cb_X7 (hR9.2.2.2.2.2.2.1 jf hjf) 8 (Nat.le_of_ble_eq_true rfl) q1122 rfl (v := .ref (wP W jf)) rfl dX1_takeDown_7 ?_
      refine A_callS1E (b' := 71) (v := some (.int (fl N jf 9))) (τ := σ) (c_numberOf1 σ W N jf hR9 hD hjf) tX1_numberOf q1495 dX1_takeDown_10 (by decide) (Nat.le_of_ble_eq_true rfl) (Nat.le_of_ble_eq_true rfl) ?_
      refine A_iconst (v := (-1)) dX1_takeDown_13 (by decide) ?_
      refine A_icmp_eq (tgt := 21) dX1_takeDown_14 (by decide) (fun c1 => ?_) (fun c1 => ?_)
      · skip
        refine A_iconst (v := 0) dX1_takeDown_21 (by decide) ?_
        refine A_callS1 (b' := 0) (c_cArg_no σ 0 rfl) tX1_checkArgument q1406 dX1_takeDown_22 (by decide) (Nat.le_of_ble_eq_true rfl) (Nat.le_of_ble_eq_true rfl) (fun w9 τ9 h9 => h9.elim) (fun E9 q9 τ9 h9 => A_out rfl (⟨yσ.tr h9.2, 2, by rw [h9.1]; rfl, by rw [(mayQ_3 hs (bi_n ⟨hs, ck1⟩) (bi_f (fun h => (num_ne hD hjf).mpr (by have k := h.2; rw [ixn bjf] at k; exact k) c1)))]; rfl⟩))
      · skip
        refine A_iconst (v := 1) dX1_takeDown_17 (by decide) ?_
        refine A_goto (tgt := 22) dX1_takeDown_18 (by decide) ?_
        refine A_callS1E (b' := 71) (v := none) (τ := σ) (c_cArg σ 1 (by decide)) tX1_checkArgument q1406 dX1_takeDown_22 (by decide) (Nat.le_of_ble_eq_true rfl) (Nat.le_of_ble_eq_true rfl) ?_
        refine A_aload_n (i := 0) dX1_takeDown_25 rfl rfl ?_
        refine A_callV0 (b' := 2) (c_changed σ x bf dq sv ou bd pe ep W N da hq u e hX hR9 hD (hQ.ex wσ yσ) hu) tX1_changed q2040 hX rfl rfl dX1_takeDown_26 (by decide) (Nat.le_of_ble_eq_true rfl) (Nat.le_of_ble_eq_true rfl) (fun w9 τ5 h5 => ?_) (fun E9 q9 τ9 h9 => h9.elim)
        obtain ⟨V, h5q, e5, fx5, hRV, hOW, hDQ5, fr5, n5⟩ := h5
        subst e5
        refine A_wfh (fun wτ5 hgτ5 => ?_)
        have fra0 : fra [x, dq, da] σ τ5 := (fra.rf.ex yσ).tr fr5
        have n0 : nw σ τ5 := (nw.rf.ex wσ yσ).tr n5
        have hOV : own σ.2 V N := hOW.le yσ.1
        have hl5 : σ.2 ≤ τ5.2 := fra0.1
        have hRo : RW g τ5 W N := hR9.nw n0
        have hRc := hRV
        obtain ⟨h1v, ⟨frv, h2v, h2pv⟩, ⟨fmv, h3v, h3pv⟩, ⟨mcnv, fnAv, h4v, h4pv, h4qv⟩, ⟨mcfv, ffAv, h5v, h5pv, h5qv⟩, ⟨fuv, h6v, h6pv⟩, h7v, h8v, h9v, h10v, h11v⟩ := hRc
        have fτ5v_0 : τ5.1 (wW V) = some (.inr (.inl (4, [.int (N 9), .ref (wR V), .ref (wM V), .ref (wNL V), .ref (wFL V), .ref (wUN V), .int (N 6), .int (N 8), .int (N 0), .int (N 1), .int (N 2), .int (N 3), .int (N 4), .int (N 5), .int (N 11)]))) := h1v
        have fτ5v_1 : τ5.1 (wFL V) = some (.inr (.inl (14, [.int mcfv, .ref (wFA V), .int (nI (nF N))]))) := h5v
        have fτ5v_2 : τ5.1 (wFA V) = some (.inl (.object "java/lang/Object", 12, .inr (.inr (.inr (.inr ffAv))))) := h5pv
        have fτ5v_3 : τ5.1 (wNL V) = some (.inr (.inl (14, [.int mcnv, .ref (wNA V), .int (nI (nN N))]))) := h4v
        have fτ5v_4 : τ5.1 (wNA V) = some (.inl (.object "java/lang/Object", 4, .inr (.inr (.inr (.inr fnAv))))) := h4pv
        have fτ5v_5 : τ5.1 (wR V) = some (.inl (.int, 6, .inl frv)) := h2v
        have fτ5v_6 : τ5.1 (wM V) = some (.inl (.int, 3, .inl fmv)) := h3v
        have fτ5v_7 : τ5.1 (wUN V) = some (.inl (.object "FlagLaundry$Test", 7, .inr (.inr (.inr (.inr fuv))))) := h6v
        have zτ5 : kx (wF V jf) τ5 τ5 := kx.rf
        refine A_iload_n (i := 1) dX1_takeDown_29 rfl rfl ?_
        refine A_callV1E (b' := 2) (v := some (.ref (wF V jf))) (τ := τ5) (c_flagOf τ5 V N jf hRV hW hjf) tX5_flagOf q1153 fτ5v_0 rfl rfl dX1_takeDown_30 (by decide) (Nat.le_of_ble_eq_true rfl) (Nat.le_of_ble_eq_true rfl) ?_
        refine A_new (b' := 1) (u := 1) cb_X8 q1420 q1090 q164 (fs := []) (fun j hj => absurd hj (Nat.not_lt_zero j)) (Nat.le_of_ble_eq_true rfl) ⟨Nat.le_of_ble_eq_true rfl, Nat.le_of_ble_eq_true rfl⟩ dX1_takeDown_33 ?_
        obtain ⟨σ1, eσ1⟩ : ∃ τ, τ = h_new τ5 (.inr (.inl (7, []))) := ⟨_, rfl⟩
        refine A_st (σ' := σ1) eσ1.symm ?_
        have wσ1 : wfh σ1 := by rw [eσ1]; exact wτ5.new
        have fσ1_0 : σ1.1 (wW V) = some (.inr (.inl (4, [.int (N 9), .ref (wR V), .ref (wM V), .ref (wNL V), .ref (wFL V), .ref (wUN V), .int (N 6), .int (N 8), .int (N 0), .int (N 1), .int (N 2), .int (N 3), .int (N 4), .int (N 5), .int (N 11)]))) := by rw [eσ1]; exact (hn_ne (Nat.ne_of_lt (wτ5 _ _ fτ5v_0))).trans fτ5v_0
        have fσ1_1 : σ1.1 (wFL V) = some (.inr (.inl (14, [.int mcfv, .ref (wFA V), .int (nI (nF N))]))) := by rw [eσ1]; exact (hn_ne (Nat.ne_of_lt (wτ5 _ _ fτ5v_1))).trans fτ5v_1
        have fσ1_2 : σ1.1 (wFA V) = some (.inl (.object "java/lang/Object", 12, .inr (.inr (.inr (.inr ffAv))))) := by rw [eσ1]; exact (hn_ne (Nat.ne_of_lt (wτ5 _ _ fτ5v_2))).trans fτ5v_2
        have fσ1_3 : σ1.1 (wNL V) = some (.inr (.inl (14, [.int mcnv, .ref (wNA V), .int (nI (nN N))]))) := by rw [eσ1]; exact (hn_ne (Nat.ne_of_lt (wτ5 _ _ fτ5v_3))).trans fτ5v_3
        have fσ1_4 : σ1.1 (wNA V) = some (.inl (.object "java/lang/Object", 4, .inr (.inr (.inr (.inr fnAv))))) := by rw [eσ1]; exact (hn_ne (Nat.ne_of_lt (wτ5 _ _ fτ5v_4))).trans fτ5v_4
        have fσ1_5 : σ1.1 (wR V) = some (.inl (.int, 6, .inl frv)) := by rw [eσ1]; exact (hn_ne (Nat.ne_of_lt (wτ5 _ _ fτ5v_5))).trans fτ5v_5
        have fσ1_6 : σ1.1 (wM V) = some (.inl (.int, 3, .inl fmv)) := by rw [eσ1]; exact (hn_ne (Nat.ne_of_lt (wτ5 _ _ fτ5v_6))).trans fτ5v_6
        have fσ1_7 : σ1.1 (wUN V) = some (.inl (.object "FlagLaundry$Test", 7, .inr (.inr (.inr (.inr fuv))))) := by rw [eσ1]; exact (hn_ne (Nat.ne_of_lt (wτ5 _ _ fτ5v_7))).trans fτ5v_7
        have fσ1_8 : σ1.1 x = some (.inr (.inl (0, [.ref bf, .int bd, .int pe, .int ep, .ref (wW V), .ref dq, .ref sv, .ref ou]))) := by rw [eσ1]; exact (hn_ne (Nat.ne_of_lt (wτ5 _ _ fx5))).trans fx5
        have fσ1_9 : σ1.1 (wF V jf) = some (.inr (.inl (6, [.int (fl N jf 0), .int (fl N jf 1), .int (fl N jf 2), .int (fl N jf 3), .int (fl N jf 4), .int (fl N jf 5), .int (fl N jf 6), .int (fl N jf 7), .ref (wP V jf)]))) := by rw [eσ1]; exact (hn_ne (Nat.ne_of_lt (wτ5 _ _ (hRV.2.2.2.2.2.2.1 jf hjf)))).trans (hRV.2.2.2.2.2.2.1 jf hjf)
        have fσ1_10 : σ1.1 τ5.2 = some (.inr (.inl (7, []))) := by rw [eσ1]; exact if_pos rfl
        have xσ1 : ext τ5 σ1 := by rw [eσ1]; exact ext_new _ _
        have zσ1 : kx (wF V jf) τ5 σ1 := by rw [eσ1]; exact zτ5.new
        have hRσ1 : RW g σ1 V N := hRV.ext wτ5 xσ1
        refine A_dup dX1_takeDown_36 rfl ?_
        refine A_callIN0E (b' := 1) (v := none) (τ := σ1) (c_X8init σ1 τ5.2) tX8_init q2112 dX1_takeDown_37 (by decide) (Nat.le_of_ble_eq_true rfl) (Nat.le_of_ble_eq_true rfl) ?_
        refine A_putfN cb_X7 fσ1_9 8 (Nat.le_of_ble_eq_true rfl) q1122 rfl rfl rfl rfl (Nat.le_of_ble_eq_true rfl) dX1_takeDown_40 ?_
        obtain ⟨σ2, eσ2⟩ : ∃ τ, τ = h_put σ1 (wF V jf) (.inr (.inl (6, [.int (fl N jf 0), .int (fl N jf 1), .int (fl N jf 2), .int (fl N jf 3), .int (fl N jf 4), .int (fl N jf 5), .int (fl N jf 6), .int (fl N jf 7), .ref τ5.2]))) := ⟨_, rfl⟩
        refine A_st (σ' := σ2) eσ2.symm ?_
        have wσ2 : wfh σ2 := by rw [eσ2]; exact wσ1.put fσ1_9
        have fσ2_0 : σ2.1 (wW V) = some (.inr (.inl (4, [.int (N 9), .ref (wR V), .ref (wM V), .ref (wNL V), .ref (wFL V), .ref (wUN V), .int (N 6), .int (N 8), .int (N 0), .int (N 1), .int (N 2), .int (N 3), .int (N 4), .int (N 5), .int (N 11)]))) := by rw [eσ2]; exact (hp_ne (ne_of (x := .inr (.inl (4, [.int (N 9), .ref (wR V), .ref (wM V), .ref (wNL V), .ref (wFL V), .ref (wUN V), .int (N 6), .int (N 8), .int (N 0), .int (N 1), .int (N 2), .int (N 3), .int (N 4), .int (N 5), .int (N 11)]))) (y := .inr (.inl (6, [.int (fl N jf 0), .int (fl N jf 1), .int (fl N jf 2), .int (fl N jf 3), .int (fl N jf 4), .int (fl N jf 5), .int (fl N jf 6), .int (fl N jf 7), .ref (wP V jf)]))) fσ1_0 fσ1_9 (fun e8 => by simp at e8))).trans fσ1_0
        have fσ2_1 : σ2.1 (wFL V) = some (.inr (.inl (14, [.int mcfv, .ref (wFA V), .int (nI (nF N))]))) := by rw [eσ2]; exact (hp_ne (ne_of (x := .inr (.inl (14, [.int mcfv, .ref (wFA V), .int (nI (nF N))]))) (y := .inr (.inl (6, [.int (fl N jf 0), .int (fl N jf 1), .int (fl N jf 2), .int (fl N jf 3), .int (fl N jf 4), .int (fl N jf 5), .int (fl N jf 6), .int (fl N jf 7), .ref (wP V jf)]))) fσ1_1 fσ1_9 (fun e8 => by simp at e8))).trans fσ1_1
        have fσ2_2 : σ2.1 (wFA V) = some (.inl (.object "java/lang/Object", 12, .inr (.inr (.inr (.inr ffAv))))) := by rw [eσ2]; exact (hp_ne (ne_of (x := .inl (.object "java/lang/Object", 12, .inr (.inr (.inr (.inr ffAv))))) (y := .inr (.inl (6, [.int (fl N jf 0), .int (fl N jf 1), .int (fl N jf 2), .int (fl N jf 3), .int (fl N jf 4), .int (fl N jf 5), .int (fl N jf 6), .int (fl N jf 7), .ref (wP V jf)]))) fσ1_2 fσ1_9 (fun e8 => by simp at e8))).trans fσ1_2
        have fσ2_3 : σ2.1 (wNL V) = some (.inr (.inl (14, [.int mcnv, .ref (wNA V), .int (nI (nN N))]))) := by rw [eσ2]; exact (hp_ne (ne_of (x := .inr (.inl (14, [.int mcnv, .ref (wNA V), .int (nI (nN N))]))) (y := .inr (.inl (6, [.int (fl N jf 0), .int (fl N jf 1), .int (fl N jf 2), .int (fl N jf 3), .int (fl N jf 4), .int (fl N jf 5), .int (fl N jf 6), .int (fl N jf 7), .ref (wP V jf)]))) fσ1_3 fσ1_9 (fun e8 => by simp at e8))).trans fσ1_3
        have fσ2_4 : σ2.1 (wNA V) = some (.inl (.object "java/lang/Object", 4, .inr (.inr (.inr (.inr fnAv))))) := by rw [eσ2]; exact (hp_ne (ne_of (x := .inl (.object "java/lang/Object", 4, .inr (.inr (.inr (.inr fnAv))))) (y := .inr (.inl (6, [.int (fl N jf 0), .int (fl N jf 1), .int (fl N jf 2), .int (fl N jf 3), .int (fl N jf 4), .int (fl N jf 5), .int (fl N jf 6), .int (fl N jf 7), .ref (wP V jf)]))) fσ1_4 fσ1_9 (fun e8 => by simp at e8))).trans fσ1_4
        have fσ2_5 : σ2.1 (wR V) = some (.inl (.int, 6, .inl frv)) := by rw [eσ2]; exact (hp_ne (ne_of (x := .inl (.int, 6, .inl frv)) (y := .inr (.inl (6, [.int (fl N jf 0), .int (fl N jf 1), .int (fl N jf 2), .int (fl N jf 3), .int (fl N jf 4), .int (fl N jf 5), .int (fl N jf 6), .int (fl N jf 7), .ref (wP V jf)]))) fσ1_5 fσ1_9 (fun e8 => by simp at e8))).trans fσ1_5
        have fσ2_6 : σ2.1 (wM V) = some (.inl (.int, 3, .inl fmv)) := by rw [eσ2]; exact (hp_ne (ne_of (x := .inl (.int, 3, .inl fmv)) (y := .inr (.inl (6, [.int (fl N jf 0), .int (fl N jf 1), .int (fl N jf 2), .int (fl N jf 3), .int (fl N jf 4), .int (fl N jf 5), .int (fl N jf 6), .int (fl N jf 7), .ref (wP V jf)]))) fσ1_6 fσ1_9 (fun e8 => by simp at e8))).trans fσ1_6
        have fσ2_7 : σ2.1 (wUN V) = some (.inl (.object "FlagLaundry$Test", 7, .inr (.inr (.inr (.inr fuv))))) := by rw [eσ2]; exact (hp_ne (ne_of (x := .inl (.object "FlagLaundry$Test", 7, .inr (.inr (.inr (.inr fuv))))) (y := .inr (.inl (6, [.int (fl N jf 0), .int (fl N jf 1), .int (fl N jf 2), .int (fl N jf 3), .int (fl N jf 4), .int (fl N jf 5), .int (fl N jf 6), .int (fl N jf 7), .ref (wP V jf)]))) fσ1_7 fσ1_9 (fun e8 => by simp at e8))).trans fσ1_7
        have fσ2_8 : σ2.1 x = some (.inr (.inl (0, [.ref bf, .int bd, .int pe, .int ep, .ref (wW V), .ref dq, .ref sv, .ref ou]))) := by rw [eσ2]; exact (hp_ne (ne_of (x := .inr (.inl (0, [.ref bf, .int bd, .int pe, .int ep, .ref (wW V), .ref dq, .ref sv, .ref ou]))) (y := .inr (.inl (6, [.int (fl N jf 0), .int (fl N jf 1), .int (fl N jf 2), .int (fl N jf 3), .int (fl N jf 4), .int (fl N jf 5), .int (fl N jf 6), .int (fl N jf 7), .ref (wP V jf)]))) fσ1_8 fσ1_9 (fun e8 => by simp at e8))).trans fσ1_8
        have fσ2_9 : σ2.1 (wF V jf) = some (.inr (.inl (6, [.int (fl N jf 0), .int (fl N jf 1), .int (fl N jf 2), .int (fl N jf 3), .int (fl N jf 4), .int (fl N jf 5), .int (fl N jf 6), .int (fl N jf 7), .ref τ5.2]))) := by rw [eσ2]; exact if_pos rfl
        have fσ2_10 : σ2.1 τ5.2 = some (.inr (.inl (7, []))) := by rw [eσ2]; exact (hp_ne (ne_of (x := .inr (.inl (7, []))) (y := .inr (.inl (6, [.int (fl N jf 0), .int (fl N jf 1), .int (fl N jf 2), .int (fl N jf 3), .int (fl N jf 4), .int (fl N jf 5), .int (fl N jf 6), .int (fl N jf 7), .ref (wP V jf)]))) fσ1_10 fσ1_9 (fun e8 => by simp at e8))).trans fσ1_10
        have zσ2 : kx (wF V jf) τ5 σ2 := by rw [eσ2]; exact zσ1.put
        have hR7 : RW g σ2 (setP V (upP (wP V) jf τ5.2)) (goTo N jf 0 (-1)) := hRV.flag (F := plF (fl N jf) 0 (-1) (fl N jf 10)) wτ5 hW hjf zσ2 fσ2_9 fσ2_10 (upF_goTo _ _ _ _)
        have k7 : kl σ.2 τ5 σ2 := zσ2.kl hl5 (hOV.2.2.2.2.2.2.2.1 jf hjf)
        have hFo : σ2.1 (wF W jf) = some (flgC (fl N jf) (wP W jf)) := (k7.2 _ (wσ _ _ (h7 jf hjf))).trans (hRo.2.2.2.2.2.2.1 jf hjf)
        refine A_aload_n (i := 2) dX1_takeDown_43 rfl rfl ?_
        refine A_getfN cb_X7 hFo 4 (Nat.le_of_ble_eq_true rfl) q1110 rfl (v := .int (fl N jf 4)) rfl dX1_takeDown_44 ?_
        exact A_iret dX1_takeDown_47 rfl (⟨(mayQ_0 hs (bi_n ⟨hs, ck1⟩) (bi_n ⟨⟨hs, ck1⟩, by rw [ixn bjf]; exact (num_ne hD hjf).mp c1⟩)), by rw [ixn bjf, (upF_goTo N jf 0 (-1)).2.1 4 (by decide)] <;> rfl, (setP V (upP (wP V) jf τ5.2)), _, (k7.2 x (wσ _ _ hX)).trans fx5, (by rw [ixn bjf]; exact hR7), hDQ5.kl k7 (hQ.lt wσ).1 (hQ.lt wσ).2, fra0.kl k7, n0.kl wσ (Nat.le_refl _) k7⟩)
    · skip
      refine A_of rfl (by decide) (Nat.le_of_ble_eq_true rfl) (L0 := [(0, .ref x), (1, .int f)]) rfl ?_
      refine A_wfh (fun wσ hgσ => ?_)
      have yσ : ext σ σ := ext.rf
      refine A_aload_n (i := 0) dX1_takeDown_0 rfl rfl ?_
      refine A_iload_n (i := 1) dX1_takeDown_1 rfl rfl ?_
      refine A_callV1 (b' := 0) (c_checkFlag_no σ x bf dq sv ou bd pe ep W N f hX hR9 hD ck1) tX1_checkFlag q1490 hX rfl rfl dX1_takeDown_2 (by decide) (Nat.le_of_ble_eq_true rfl) (Nat.le_of_ble_eq_true rfl) (fun w9 τ9 h9 => h9.elim) (fun E9 q9 τ9 h9 => A_out rfl (⟨yσ.tr h9.2, 1, by rw [h9.1]; rfl, by rw [(mayQ_2 hs (bi_f (fun h => ck1 h.2)))]; rfl⟩))
theorem q_iron {l : Launch} {g : GC} (σ : AH) (x bf dq sv ou : Nat) (bd pe ep : Int32) (is : Int32) (nv : Value) (W : WA) (N : AF) (f h : Int32) (da hq u : Nat) (e : Nat → Nat) (hL : LD g σ is nv W N) (hX : σ.1 x = some (lauC bf bd pe ep nv dq sv ou)) (hQ : DQ σ dq da hq u e) (hu : u ≤ 8) : AMet l g mX1_iron 16 71 [.ref x, .int f, .int h] σ (A_mq g (mayT is (bi (okF is N f)) (bi (okF is N f ∧ inR h 0 3 ∧ whyIronN N (ix f) h = 0))) (.int (fl (ironN N (ix f) h) (ix f) 5)) bf bd pe ep dq sv ou x da u e W (ironN N (ix f) h) σ) (A_thr ["java/lang/IllegalStateException", "java/lang/IndexOutOfBoundsException", "java/lang/IllegalArgumentException"] (mayT is (bi (okF is N f)) (bi (okF is N f ∧ inR h 0 3 ∧ whyIronN N (ix f) h = 0))) σ) := by
  rcases hL with ⟨h0, hn⟩ | ⟨hs, hn, hR, hD, hw, hh⟩
  · subst hn
    refine A_of rfl (by decide) (Nat.le_of_ble_eq_true rfl) (L0 := [(0, .ref x), (1, .int f), (2, .int h)]) rfl ?_
    refine A_wfh (fun wσ hgσ => ?_)
    have yσ : ext σ σ := ext.rf
    refine A_aload_n (i := 0) dX1_iron_0 rfl rfl ?_
    refine A_iload_n (i := 1) dX1_iron_1 rfl rfl ?_
    refine A_iload_n (i := 2) dX1_iron_2 rfl rfl ?_
    refine A_callV2 (b' := 0) (u_checkIron σ x bf dq sv ou bd pe ep f h hX) tX1_checkIron q1684 hX rfl rfl dX1_iron_3 (by decide) (Nat.le_of_ble_eq_true rfl) (Nat.le_of_ble_eq_true rfl) (fun w9 τ9 h9 => h9.elim) (fun E9 q9 τ9 h9 => A_out rfl (⟨yσ.tr h9.2, 0, by rw [h9.1]; rfl, by rw [(mayQ_1 h0)]; rfl⟩))
  · subst hn
    have hW := hD.1
    have hR9 := hR
    obtain ⟨h1, ⟨fr, h2, h2p⟩, ⟨fm, h3, h3p⟩, ⟨mcn, fnA, h4, h4p, h4q⟩, ⟨mcf, ffA, h5, h5p, h5q⟩, ⟨fu, h6, h6p⟩, h7, h8, h9, h10, h11⟩ := hR
    have hF12 : nF N ≤ 12 := hW.2.2.2.2.2
    have hN4 : nN N ≤ 4 := hW.2.1.2
    have hC6 : nC N ≤ 6 := hW.1.2
    have hT3 : nT N ≤ 3 := hW.2.2.1.2
    have hP8 : nP N ≤ 8 := hW.2.2.2.1.2
    by_cases ck1 : inR f 0 (N 10 - 1)
    · skip
      obtain ⟨jf, hjf, rfl⟩ := in_ex hW.2.2.2.2.1 (Nat.le_trans hF12 (by decide)) ck1
      have bjf : jf < 2000 := Nat.lt_of_lt_of_le hjf (Nat.le_trans hF12 (by decide))
      by_cases ck2 : inR h 0 3
      · skip
        obtain ⟨jh, hjh, rfl⟩ := hk_ex ck2
        have bjh : jh < 2000 := Nat.lt_of_le_of_lt hjh (by decide)
        refine A_of rfl (by decide) (Nat.le_of_ble_eq_true rfl) (L0 := [(0, .ref x), (1, .int (nI jf)), (2, .int (nI jh))]) rfl ?_
        refine A_wfh (fun wσ hgσ => ?_)
        have yσ : ext σ σ := ext.rf
        refine A_aload_n (i := 0) dX1_iron_0 rfl rfl ?_
        refine A_iload_n (i := 1) dX1_iron_1 rfl rfl ?_
        refine A_iload_n (i := 2) dX1_iron_2 rfl rfl ?_
        refine A_callV2E (b' := 71) (v := some (.ref (wF W jf))) (τ := σ) (c_checkIron σ x bf dq sv ou bd pe ep W N jf jh hX hR9 hD hjf hjh) tX1_checkIron q1684 hX rfl rfl dX1_iron_3 (by decide) (Nat.le_of_ble_eq_true rfl) (Nat.le_of_ble_eq_true rfl) ?_
        refine A_iload_n (i := 2) dX1_iron_6 rfl rfl ?_
        refine A_callS2 (b' := 69) (c_ironBar σ W N jf (nI jh) hR9 hD hjf) tX1_ironBar q1688 dX1_iron_7 (by decide) (Nat.le_of_ble_eq_true rfl) (Nat.le_of_ble_eq_true rfl) (fun w9 σ1 h9 => ?_) (fun E9 q9 τ9 h9 => h9.elim)
        obtain ⟨e9, xσ1⟩ := h9
        subst e9
        refine A_wfh (fun wσ1 hgσ1 => ?_)
        have yσ1 : ext σ σ1 := yσ.tr (xσ1)
        have fσ1_0 : σ1.1 (wW W) = some (.inr (.inl (4, [.int (N 9), .ref (wR W), .ref (wM W), .ref (wNL W), .ref (wFL W), .ref (wUN W), .int (N 6), .int (N 8), .int (N 0), .int (N 1), .int (N 2), .int (N 3), .int (N 4), .int (N 5), .int (N 11)]))) := xσ1.at wσ h1
        have fσ1_1 : σ1.1 (wFL W) = some (.inr (.inl (14, [.int mcf, .ref (wFA W), .int (nI (nF N))]))) := xσ1.at wσ h5
        have fσ1_2 : σ1.1 (wFA W) = some (.inl (.object "java/lang/Object", 12, .inr (.inr (.inr (.inr ffA))))) := xσ1.at wσ h5p
        have fσ1_3 : σ1.1 (wNL W) = some (.inr (.inl (14, [.int mcn, .ref (wNA W), .int (nI (nN N))]))) := xσ1.at wσ h4
        have fσ1_4 : σ1.1 (wNA W) = some (.inl (.object "java/lang/Object", 4, .inr (.inr (.inr (.inr fnA))))) := xσ1.at wσ h4p
        have fσ1_5 : σ1.1 (wR W) = some (.inl (.int, 6, .inl fr)) := xσ1.at wσ h2
        have fσ1_6 : σ1.1 (wM W) = some (.inl (.int, 3, .inl fm)) := xσ1.at wσ h3
        have fσ1_7 : σ1.1 (wUN W) = some (.inl (.object "FlagLaundry$Test", 7, .inr (.inr (.inr (.inr fu))))) := xσ1.at wσ h6
        have fσ1_8 : σ1.1 x = some (.inr (.inl (0, [.ref bf, .int bd, .int pe, .int ep, .ref (wW W), .ref dq, .ref sv, .ref ou]))) := xσ1.at wσ hX
        have fσ1_9 : σ1.1 (wF W jf) = some (.inr (.inl (6, [.int (fl N jf 0), .int (fl N jf 1), .int (fl N jf 2), .int (fl N jf 3), .int (fl N jf 4), .int (fl N jf 5), .int (fl N jf 6), .int (fl N jf 7), .ref (wP W jf)]))) := xσ1.at wσ (hR9.2.2.2.2.2.2.1 jf hjf)
        have hRσ1 : RW g σ1 W N := hR9.ext wσ xσ1
        refine A_if_ne (tgt := 17) dX1_iron_10 (by decide) (fun c1 => ?_) (fun c1 => ?_)
        · skip
          refine A_iconst (v := 0) dX1_iron_17 (by decide) ?_
          refine A_callS1 (b' := 0) (c_cArg_no σ1 0 rfl) tX1_checkArgument q1406 dX1_iron_18 (by decide) (Nat.le_of_ble_eq_true rfl) (Nat.le_of_ble_eq_true rfl) (fun w9 τ9 h9 => h9.elim) (fun E9 q9 τ9 h9 => A_out rfl (⟨yσ1.tr h9.2, 2, by rw [h9.1]; rfl, by rw [(mayQ_3 hs (bi_n ⟨hs, ck1⟩) (bi_f (fun h => c1 (by have k := h.2.2; rw [ixn bjf] at k; exact k))))]; rfl⟩))
        · skip
          refine A_iconst (v := 1) dX1_iron_13 (by decide) ?_
          refine A_goto (tgt := 18) dX1_iron_14 (by decide) ?_
          refine A_callS1E (b' := 69) (v := none) (τ := σ1) (c_cArg σ1 1 (by decide)) tX1_checkArgument q1406 dX1_iron_18 (by decide) (Nat.le_of_ble_eq_true rfl) (Nat.le_of_ble_eq_true rfl) ?_
          refine A_aload_n (i := 0) dX1_iron_21 rfl rfl ?_
          refine A_callV0 (b' := 0) (c_changed σ1 x bf dq sv ou bd pe ep W N da hq u e fσ1_8 hRσ1 hD (hQ.ex wσ yσ1) hu) tX1_changed q2040 fσ1_8 rfl rfl dX1_iron_22 (by decide) (Nat.le_of_ble_eq_true rfl) (Nat.le_of_ble_eq_true rfl) (fun w9 τ5 h5 => ?_) (fun E9 q9 τ9 h9 => h9.elim)
          obtain ⟨V, h5q, e5, fx5, hRV, hOW, hDQ5, fr5, n5⟩ := h5
          subst e5
          refine A_wfh (fun wτ5 hgτ5 => ?_)
          have fra0 : fra [x, dq, da] σ τ5 := (fra.rf.ex yσ1).tr fr5
          have n0 : nw σ τ5 := (nw.rf.ex wσ yσ1).tr n5
          have hOV : own σ.2 V N := hOW.le yσ1.1
          have hl5 : σ.2 ≤ τ5.2 := fra0.1
          have hRo : RW g τ5 W N := hR9.nw n0
          have hRc := hRV
          obtain ⟨h1v, ⟨frv, h2v, h2pv⟩, ⟨fmv, h3v, h3pv⟩, ⟨mcnv, fnAv, h4v, h4pv, h4qv⟩, ⟨mcfv, ffAv, h5v, h5pv, h5qv⟩, ⟨fuv, h6v, h6pv⟩, h7v, h8v, h9v, h10v, h11v⟩ := hRc
          have fτ5v_0 : τ5.1 (wW V) = some (.inr (.inl (4, [.int (N 9), .ref (wR V), .ref (wM V), .ref (wNL V), .ref (wFL V), .ref (wUN V), .int (N 6), .int (N 8), .int (N 0), .int (N 1), .int (N 2), .int (N 3), .int (N 4), .int (N 5), .int (N 11)]))) := h1v
          have fτ5v_1 : τ5.1 (wFL V) = some (.inr (.inl (14, [.int mcfv, .ref (wFA V), .int (nI (nF N))]))) := h5v
          have fτ5v_2 : τ5.1 (wFA V) = some (.inl (.object "java/lang/Object", 12, .inr (.inr (.inr (.inr ffAv))))) := h5pv
          have fτ5v_3 : τ5.1 (wNL V) = some (.inr (.inl (14, [.int mcnv, .ref (wNA V), .int (nI (nN N))]))) := h4v
          have fτ5v_4 : τ5.1 (wNA V) = some (.inl (.object "java/lang/Object", 4, .inr (.inr (.inr (.inr fnAv))))) := h4pv
          have fτ5v_5 : τ5.1 (wR V) = some (.inl (.int, 6, .inl frv)) := h2v
          have fτ5v_6 : τ5.1 (wM V) = some (.inl (.int, 3, .inl fmv)) := h3v
          have fτ5v_7 : τ5.1 (wUN V) = some (.inl (.object "FlagLaundry$Test", 7, .inr (.inr (.inr (.inr fuv))))) := h6v
          refine A_astore_n (i := 3) dX1_iron_25 rfl (Nat.le_of_ble_eq_true rfl) ?_
          refine A_aload_n (i := 3) dX1_iron_26 rfl rfl ?_
          have zτ5 : kx (wF V jf) τ5 τ5 := kx.rf
          refine A_aload_n (i := 3) dX1_iron_27 rfl rfl ?_
          refine A_iload_n (i := 1) dX1_iron_28 rfl rfl ?_
          refine A_callV1E (b' := 0) (v := some (.ref (wF V jf))) (τ := τ5) (c_flagOf τ5 V N jf hRV hW hjf) tX5_flagOf q1153 fτ5v_0 rfl rfl dX1_iron_29 (by decide) (Nat.le_of_ble_eq_true rfl) (Nat.le_of_ble_eq_true rfl) ?_
          refine A_iload_n (i := 2) dX1_iron_32 rfl rfl ?_
          refine A_callV2 (b' := 0) (c_irons5 τ5 (wF V jf) (wP V jf) (fl N jf) jh (wW V) (hRV.2.2.2.2.2.2.1 jf hjf) hjh) tX5_irons q1888 fτ5v_0 rfl rfl dX1_iron_33 (by decide) (Nat.le_of_ble_eq_true rfl) (Nat.le_of_ble_eq_true rfl) (fun w9 σ2 h9 => ?_) (fun E9 q9 τ9 h9 => h9.elim)
          obtain ⟨e9, fσ2_a, kσ2⟩ := h9
          subst e9
          refine A_wfh (fun wσ2 hgσ2 => ?_)
          have zσ2 : kx (wF V jf) τ5 σ2 := zτ5.trx kσ2
          have fσ2_0 : σ2.1 (wW V) = some (.inr (.inl (4, [.int (N 9), .ref (wR V), .ref (wM V), .ref (wNL V), .ref (wFL V), .ref (wUN V), .int (N 6), .int (N 8), .int (N 0), .int (N 1), .int (N 2), .int (N 3), .int (N 4), .int (N 5), .int (N 11)]))) := kσ2.at wτ5 fτ5v_0 (ne_of (x := .inr (.inl (4, [.int (N 9), .ref (wR V), .ref (wM V), .ref (wNL V), .ref (wFL V), .ref (wUN V), .int (N 6), .int (N 8), .int (N 0), .int (N 1), .int (N 2), .int (N 3), .int (N 4), .int (N 5), .int (N 11)]))) (y := .inr (.inl (6, [.int (fl N jf 0), .int (fl N jf 1), .int (fl N jf 2), .int (fl N jf 3), .int (fl N jf 4), .int (fl N jf 5), .int (fl N jf 6), .int (fl N jf 7), .ref (wP V jf)]))) fτ5v_0 (hRV.2.2.2.2.2.2.1 jf hjf) (fun e8 => by simp at e8))
          have fσ2_1 : σ2.1 (wFL V) = some (.inr (.inl (14, [.int mcfv, .ref (wFA V), .int (nI (nF N))]))) := kσ2.at wτ5 fτ5v_1 (ne_of (x := .inr (.inl (14, [.int mcfv, .ref (wFA V), .int (nI (nF N))]))) (y := .inr (.inl (6, [.int (fl N jf 0), .int (fl N jf 1), .int (fl N jf 2), .int (fl N jf 3), .int (fl N jf 4), .int (fl N jf 5), .int (fl N jf 6), .int (fl N jf 7), .ref (wP V jf)]))) fτ5v_1 (hRV.2.2.2.2.2.2.1 jf hjf) (fun e8 => by simp at e8))
          have fσ2_2 : σ2.1 (wFA V) = some (.inl (.object "java/lang/Object", 12, .inr (.inr (.inr (.inr ffAv))))) := kσ2.at wτ5 fτ5v_2 (ne_of (x := .inl (.object "java/lang/Object", 12, .inr (.inr (.inr (.inr ffAv))))) (y := .inr (.inl (6, [.int (fl N jf 0), .int (fl N jf 1), .int (fl N jf 2), .int (fl N jf 3), .int (fl N jf 4), .int (fl N jf 5), .int (fl N jf 6), .int (fl N jf 7), .ref (wP V jf)]))) fτ5v_2 (hRV.2.2.2.2.2.2.1 jf hjf) (fun e8 => by simp at e8))
          have fσ2_3 : σ2.1 (wNL V) = some (.inr (.inl (14, [.int mcnv, .ref (wNA V), .int (nI (nN N))]))) := kσ2.at wτ5 fτ5v_3 (ne_of (x := .inr (.inl (14, [.int mcnv, .ref (wNA V), .int (nI (nN N))]))) (y := .inr (.inl (6, [.int (fl N jf 0), .int (fl N jf 1), .int (fl N jf 2), .int (fl N jf 3), .int (fl N jf 4), .int (fl N jf 5), .int (fl N jf 6), .int (fl N jf 7), .ref (wP V jf)]))) fτ5v_3 (hRV.2.2.2.2.2.2.1 jf hjf) (fun e8 => by simp at e8))
          have fσ2_4 : σ2.1 (wNA V) = some (.inl (.object "java/lang/Object", 4, .inr (.inr (.inr (.inr fnAv))))) := kσ2.at wτ5 fτ5v_4 (ne_of (x := .inl (.object "java/lang/Object", 4, .inr (.inr (.inr (.inr fnAv))))) (y := .inr (.inl (6, [.int (fl N jf 0), .int (fl N jf 1), .int (fl N jf 2), .int (fl N jf 3), .int (fl N jf 4), .int (fl N jf 5), .int (fl N jf 6), .int (fl N jf 7), .ref (wP V jf)]))) fτ5v_4 (hRV.2.2.2.2.2.2.1 jf hjf) (fun e8 => by simp at e8))
          have fσ2_5 : σ2.1 (wR V) = some (.inl (.int, 6, .inl frv)) := kσ2.at wτ5 fτ5v_5 (ne_of (x := .inl (.int, 6, .inl frv)) (y := .inr (.inl (6, [.int (fl N jf 0), .int (fl N jf 1), .int (fl N jf 2), .int (fl N jf 3), .int (fl N jf 4), .int (fl N jf 5), .int (fl N jf 6), .int (fl N jf 7), .ref (wP V jf)]))) fτ5v_5 (hRV.2.2.2.2.2.2.1 jf hjf) (fun e8 => by simp at e8))
          have fσ2_6 : σ2.1 (wM V) = some (.inl (.int, 3, .inl fmv)) := kσ2.at wτ5 fτ5v_6 (ne_of (x := .inl (.int, 3, .inl fmv)) (y := .inr (.inl (6, [.int (fl N jf 0), .int (fl N jf 1), .int (fl N jf 2), .int (fl N jf 3), .int (fl N jf 4), .int (fl N jf 5), .int (fl N jf 6), .int (fl N jf 7), .ref (wP V jf)]))) fτ5v_6 (hRV.2.2.2.2.2.2.1 jf hjf) (fun e8 => by simp at e8))
          have fσ2_7 : σ2.1 (wUN V) = some (.inl (.object "FlagLaundry$Test", 7, .inr (.inr (.inr (.inr fuv))))) := kσ2.at wτ5 fτ5v_7 (ne_of (x := .inl (.object "FlagLaundry$Test", 7, .inr (.inr (.inr (.inr fuv))))) (y := .inr (.inl (6, [.int (fl N jf 0), .int (fl N jf 1), .int (fl N jf 2), .int (fl N jf 3), .int (fl N jf 4), .int (fl N jf 5), .int (fl N jf 6), .int (fl N jf 7), .ref (wP V jf)]))) fτ5v_7 (hRV.2.2.2.2.2.2.1 jf hjf) (fun e8 => by simp at e8))
          have fσ2_8 : σ2.1 x = some (.inr (.inl (0, [.ref bf, .int bd, .int pe, .int ep, .ref (wW V), .ref dq, .ref sv, .ref ou]))) := kσ2.at wτ5 fx5 (ne_of (x := .inr (.inl (0, [.ref bf, .int bd, .int pe, .int ep, .ref (wW V), .ref dq, .ref sv, .ref ou]))) (y := .inr (.inl (6, [.int (fl N jf 0), .int (fl N jf 1), .int (fl N jf 2), .int (fl N jf 3), .int (fl N jf 4), .int (fl N jf 5), .int (fl N jf 6), .int (fl N jf 7), .ref (wP V jf)]))) fx5 (hRV.2.2.2.2.2.2.1 jf hjf) (fun e8 => by simp at e8))
          have hR7 : RW g σ2 (setP V (upP (wP V) jf (wP V jf))) (ironN N jf (nI jh)) := hRV.flag (F := (fun j => if j = 4 then mx 0 (fl N jf 4 - nI jh) else if j = 5 then mx 0 (((fl N jf 5 - 1) - nI jh) - bi (¬ fl N jf 4 ≤ 0)) else fl N jf j)) wτ5 hW hjf zσ2 fσ2_a (zσ2.at wτ5 (hRV.2.2.2.2.2.2.2.1 jf hjf) (ne_of (hRV.2.2.2.2.2.2.2.1 jf hjf) (hRV.2.2.2.2.2.2.1 jf hjf) (ne_pl (plc_cls _ _ _).1))) (WFd_iron hD hjf (Nat.lt_succ_of_le hjh)).2
          have k7 : kl σ.2 τ5 σ2 := zσ2.kl hl5 (hOV.2.2.2.2.2.2.2.1 jf hjf)
          exact A_iret dX1_iron_36 rfl (⟨(mayQ_0 hs (bi_n ⟨hs, ck1⟩) (bi_n ⟨⟨hs, ck1⟩, ck2, by rw [ixn bjf]; exact c1⟩)), by rw [ixn bjf, (WFd_iron hD hjf (Nat.lt_succ_of_le hjh)).2.2.1 5 (by decide)] <;> rfl, (setP V (upP (wP V) jf (wP V jf))), _, (k7.2 x (wσ _ _ hX)).trans fx5, (by rw [ixn bjf]; exact hR7), hDQ5.kl k7 (hQ.lt wσ).1 (hQ.lt wσ).2, fra0.kl k7, n0.kl wσ (Nat.le_refl _) k7⟩)
      · skip
        refine A_of rfl (by decide) (Nat.le_of_ble_eq_true rfl) (L0 := [(0, .ref x), (1, .int (nI jf)), (2, .int h)]) rfl ?_
        refine A_wfh (fun wσ hgσ => ?_)
        have yσ : ext σ σ := ext.rf
        refine A_aload_n (i := 0) dX1_iron_0 rfl rfl ?_
        refine A_iload_n (i := 1) dX1_iron_1 rfl rfl ?_
        refine A_iload_n (i := 2) dX1_iron_2 rfl rfl ?_
        refine A_callV2 (b' := 0) (c_checkIron_no2 σ x bf dq sv ou bd pe ep W N jf h hX hR9 hD hjf ck2) tX1_checkIron q1684 hX rfl rfl dX1_iron_3 (by decide) (Nat.le_of_ble_eq_true rfl) (Nat.le_of_ble_eq_true rfl) (fun w9 τ9 h9 => h9.elim) (fun E9 q9 τ9 h9 => A_out rfl (⟨yσ.tr h9.2, 2, by rw [h9.1]; rfl, by rw [(mayQ_3 hs (bi_n ⟨hs, ck1⟩) (bi_f (fun h => ck2 h.2.1)))]; rfl⟩))
    · skip
      refine A_of rfl (by decide) (Nat.le_of_ble_eq_true rfl) (L0 := [(0, .ref x), (1, .int f), (2, .int h)]) rfl ?_
      refine A_wfh (fun wσ hgσ => ?_)
      have yσ : ext σ σ := ext.rf
      refine A_aload_n (i := 0) dX1_iron_0 rfl rfl ?_
      refine A_iload_n (i := 1) dX1_iron_1 rfl rfl ?_
      refine A_iload_n (i := 2) dX1_iron_2 rfl rfl ?_
      refine A_callV2 (b' := 0) (c_checkIron_no σ x bf dq sv ou bd pe ep W N f h hX hR9 hD ck1) tX1_checkIron q1684 hX rfl rfl dX1_iron_3 (by decide) (Nat.le_of_ble_eq_true rfl) (Nat.le_of_ble_eq_true rfl) (fun w9 τ9 h9 => h9.elim) (fun E9 q9 τ9 h9 => A_out rfl (⟨yσ.tr h9.2, 1, by rw [h9.1]; rfl, by rw [(mayQ_2 hs (bi_f (fun h => ck1 h.2)))]; rfl⟩))
