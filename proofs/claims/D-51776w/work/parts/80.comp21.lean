/-! FLAGLAUNDRY 10: more changes -/
def adF (n o c d : Int32) : Nat → Int32 := fun k => if k = 0 then n else if k = 1 then o else if k = 2 then c else if k = 3 then d else if k = 9 then -1 else 0
theorem upF_clr (N : AF) (f : Nat) : ∀ k, k ≤ 11 → upF N (clrU N f k) f (fun j => if j < k then 0 else fl N f j)
  | 0, _ => (upF.rf N f).cg (fun j _ => if_neg (Nat.not_lt_zero _))
  | k + 1, hk => by
    rw [clrU_s]
    refine ((upF_clr N f k (by omega)).set (by omega : k < 11) 0).cg (fun j _ => ?_)
    by_cases a : j = k
    · rw [if_pos a, if_pos (by omega)]
    · rw [if_neg a]
      by_cases b : j < k
      · rw [if_pos b, if_pos (by omega)]
      · rw [if_neg b, if_neg (by omega)]
theorem upF_add (N : AF) (n o c d : Int32) : upF N (goTo (af1 N n o c d) (nF N) 0 (-1)) (nF N) (adF n o c d) := by
  refine ((((((upF_clr N (nF N) 11 (Nat.le_refl _)).set (by decide : 0 < 11) n).set (by decide : 1 < 11) o).set (by decide : 2 < 11) c).set (by decide : 3 < 11) d).goTo 0 (-1)).cg (fun k hk => ?_)
  have e : k = 0 ∨ k = 1 ∨ k = 2 ∨ k = 3 ∨ k = 4 ∨ k = 5 ∨ k = 6 ∨ k = 7 ∨ k = 8 ∨ k = 9 ∨ k = 10 := by omega
  rcases e with rfl | rfl | rfl | rfl | rfl | rfl | rfl | rfl | rfl | rfl | rfl <;> rfl
theorem addN_h (N : AF) (n o c d : Int32) {j : Nat} (hj : j < 41) (h : ¬ j = 10) : addN N n o c d j = N j := (va_up_ne _ _ h).trans ((upF_add N n o c d).1 j hj)
theorem addN_fl (N : AF) (n o c d : Int32) {i k : Nat} (hi : ¬ i = nF N) (hk : k < 11) : fl (addN N n o c d) i k = fl N i k := (fl_va _ (by decide) _ _ _).trans ((upF_add N n o c d).2.2 i k hi hk)
theorem addN_F (N : AF) (n o c d : Int32) {k : Nat} (hk : k < 11) : fl (addN N n o c d) (nF N) k = adF n o c d k := (fl_va _ (by decide) _ _ _).trans ((upF_add N n o c d).2.1 k hk)
/-- a flag more, in a whole world -/
theorem RW.addF {g : GC} {σ τ : AH} {W : WA} {N N' : AF} {x p : Nat} {mc : Int32} {f : Nat → Option Nat} (h : RW g σ W N) (w : wfh σ) (hW : WFc N) (k : k2 (wFL W) (wFA W) σ τ) (hL : τ.1 (wFL W) = some (lstC mc (wFA W) (nF N + 1))) (hA : τ.1 (wFA W) = some (objA "java/lang/Object" 12 (va_up f (nF N) (some x)))) (hf : ∀ i, i < nF N → f i = some (wF W i)) (hx : σ.1 x = some (flgC (fl N' (nF N)) p)) (hp : σ.1 p = some (.inr (.inl (plc (fl N' (nF N) 8) (fl N' (nF N) 9) (fl N' (nF N) 10))))) (hnew : ∀ i, i < nF N → ¬ wF W i = x) (hN : ∀ j, j < 41 → ¬ j = 10 → N' j = N j) (hN2 : ∀ i k, i < nF N → k < 11 → fl N' i k = fl N i k) (h7 : nF N' = nF N + 1) : RW g τ (setFP W (upP (wF W) (nF N) x) (upP (wP W) (nF N) p)) N' := by
  refine ⟨?_, RWr.addF h.2 w hW.1.2 hW.2.1.2 hW.2.2.1.2 k hL hA hf hx hp hnew hN hN2 h7⟩
  obtain ⟨-, -, -, ⟨m5, f5, h5, h5', -⟩, -⟩ := h.2
  have e : wldC (setFP W (upP (wF W) (nF N) x) (upP (wP W) (nF N) p)) N' = wldC W N := by
    unfold wldC
    rw [hN 9 (by decide) (by decide), hN 6 (by decide) (by decide), hN 8 (by decide) (by decide), hN 0 (by decide) (by decide), hN 1 (by decide) (by decide), hN 2 (by decide) (by decide), hN 3 (by decide) (by decide), hN 4 (by decide) (by decide), hN 5 (by decide) (by decide), hN 11 (by decide) (by decide)]
    rfl
  rw [e]
  exact k.at w h.1 (ne_of h.1 h5 (ne_cls (by decide))) (ne_of h.1 h5' (fun q => by simp at q))
def bcE (x : Int32) : Int32 := ((((((((x - (((((x : Int32)).toUInt32 >>> ((1 : Int32).toUInt32 &&& Int32.toUInt32 31)).toInt32) &&& (1431655765 : Int32))) &&& (858993459 : Int32)) + ((((((x - (((((x : Int32)).toUInt32 >>> ((1 : Int32).toUInt32 &&& Int32.toUInt32 31)).toInt32) &&& (1431655765 : Int32))) : Int32)).toUInt32 >>> ((2 : Int32).toUInt32 &&& Int32.toUInt32 31)).toInt32) &&& (858993459 : Int32))) + (((((((x - (((((x : Int32)).toUInt32 >>> ((1 : Int32).toUInt32 &&& Int32.toUInt32 31)).toInt32) &&& (1431655765 : Int32))) &&& (858993459 : Int32)) + ((((((x - (((((x : Int32)).toUInt32 >>> ((1 : Int32).toUInt32 &&& Int32.toUInt32 31)).toInt32) &&& (1431655765 : Int32))) : Int32)).toUInt32 >>> ((2 : Int32).toUInt32 &&& Int32.toUInt32 31)).toInt32) &&& (858993459 : Int32))) : Int32)).toUInt32 >>> ((4 : Int32).toUInt32 &&& Int32.toUInt32 31)).toInt32)) &&& (252645135 : Int32)) + (((((((((x - (((((x : Int32)).toUInt32 >>> ((1 : Int32).toUInt32 &&& Int32.toUInt32 31)).toInt32) &&& (1431655765 : Int32))) &&& (858993459 : Int32)) + ((((((x - (((((x : Int32)).toUInt32 >>> ((1 : Int32).toUInt32 &&& Int32.toUInt32 31)).toInt32) &&& (1431655765 : Int32))) : Int32)).toUInt32 >>> ((2 : Int32).toUInt32 &&& Int32.toUInt32 31)).toInt32) &&& (858993459 : Int32))) + (((((((x - (((((x : Int32)).toUInt32 >>> ((1 : Int32).toUInt32 &&& Int32.toUInt32 31)).toInt32) &&& (1431655765 : Int32))) &&& (858993459 : Int32)) + ((((((x - (((((x : Int32)).toUInt32 >>> ((1 : Int32).toUInt32 &&& Int32.toUInt32 31)).toInt32) &&& (1431655765 : Int32))) : Int32)).toUInt32 >>> ((2 : Int32).toUInt32 &&& Int32.toUInt32 31)).toInt32) &&& (858993459 : Int32))) : Int32)).toUInt32 >>> ((4 : Int32).toUInt32 &&& Int32.toUInt32 31)).toInt32)) &&& (252645135 : Int32)) : Int32)).toUInt32 >>> ((8 : Int32).toUInt32 &&& Int32.toUInt32 31)).toInt32)) + ((((((((((x - (((((x : Int32)).toUInt32 >>> ((1 : Int32).toUInt32 &&& Int32.toUInt32 31)).toInt32) &&& (1431655765 : Int32))) &&& (858993459 : Int32)) + ((((((x - (((((x : Int32)).toUInt32 >>> ((1 : Int32).toUInt32 &&& Int32.toUInt32 31)).toInt32) &&& (1431655765 : Int32))) : Int32)).toUInt32 >>> ((2 : Int32).toUInt32 &&& Int32.toUInt32 31)).toInt32) &&& (858993459 : Int32))) + (((((((x - (((((x : Int32)).toUInt32 >>> ((1 : Int32).toUInt32 &&& Int32.toUInt32 31)).toInt32) &&& (1431655765 : Int32))) &&& (858993459 : Int32)) + ((((((x - (((((x : Int32)).toUInt32 >>> ((1 : Int32).toUInt32 &&& Int32.toUInt32 31)).toInt32) &&& (1431655765 : Int32))) : Int32)).toUInt32 >>> ((2 : Int32).toUInt32 &&& Int32.toUInt32 31)).toInt32) &&& (858993459 : Int32))) : Int32)).toUInt32 >>> ((4 : Int32).toUInt32 &&& Int32.toUInt32 31)).toInt32)) &&& (252645135 : Int32)) + (((((((((x - (((((x : Int32)).toUInt32 >>> ((1 : Int32).toUInt32 &&& Int32.toUInt32 31)).toInt32) &&& (1431655765 : Int32))) &&& (858993459 : Int32)) + ((((((x - (((((x : Int32)).toUInt32 >>> ((1 : Int32).toUInt32 &&& Int32.toUInt32 31)).toInt32) &&& (1431655765 : Int32))) : Int32)).toUInt32 >>> ((2 : Int32).toUInt32 &&& Int32.toUInt32 31)).toInt32) &&& (858993459 : Int32))) + (((((((x - (((((x : Int32)).toUInt32 >>> ((1 : Int32).toUInt32 &&& Int32.toUInt32 31)).toInt32) &&& (1431655765 : Int32))) &&& (858993459 : Int32)) + ((((((x - (((((x : Int32)).toUInt32 >>> ((1 : Int32).toUInt32 &&& Int32.toUInt32 31)).toInt32) &&& (1431655765 : Int32))) : Int32)).toUInt32 >>> ((2 : Int32).toUInt32 &&& Int32.toUInt32 31)).toInt32) &&& (858993459 : Int32))) : Int32)).toUInt32 >>> ((4 : Int32).toUInt32 &&& Int32.toUInt32 31)).toInt32)) &&& (252645135 : Int32)) : Int32)).toUInt32 >>> ((8 : Int32).toUInt32 &&& Int32.toUInt32 31)).toInt32)) : Int32)).toUInt32 >>> ((16 : Int32).toUInt32 &&& Int32.toUInt32 31)).toInt32)) &&& (63 : Int32))
theorem bc_tab : ∀ c, c ≤ 6 → ∀ x, x < 2 ^ c → bcE (nI x) = sm (fun k => bi (hasB (nI x) (nI k))) c := by decide +kernel
theorem bc_st {N : AF} (h : WFd N) {f : Nat} (hf : f < nF N) : bcE (fl N f 6) = stN N f := by
  obtain ⟨x, hx, e⟩ := (h.2 f hf).2.2.2.2.2.2.1
  unfold stN
  rw [e]
  exact bc_tab _ h.1.1.2 x hx
theorem c_bitCount {l : Launch} {g : GC} (σ : AH) (x : Int32)  : AMet l g mJ18_bitCount 1 0 [.int x] σ (A_eq (some (.int (bcE x))) σ) (A_no) := by
  refine A_of rfl (by decide) (Nat.le_of_ble_eq_true rfl) (L0 := [(0, .int x)]) rfl ?_
  refine A_iload_n (i := 0) dJ18_bitCount_0 rfl rfl ?_
  refine A_iload_n (i := 0) dJ18_bitCount_1 rfl rfl ?_
  refine A_iconst (v := 1) dJ18_bitCount_2 (by decide) ?_
  refine A_iushr (v := (((x : Int32)).toUInt32 >>> ((1 : Int32).toUInt32 &&& Int32.toUInt32 31)).toInt32) dJ18_bitCount_3 rfl ?_
  refine A_ldcw (v := 1431655765) dJ18_bitCount_4 q2141 ?_
  refine A_iand dJ18_bitCount_7 ?_
  refine A_isub dJ18_bitCount_8 ?_
  refine A_istore_n (i := 0) dJ18_bitCount_9 rfl (Nat.le_of_ble_eq_true rfl) ?_
  refine A_iload_n (i := 0) dJ18_bitCount_10 rfl rfl ?_
  refine A_ldcw (v := 858993459) dJ18_bitCount_11 q2142 ?_
  refine A_iand dJ18_bitCount_14 ?_
  refine A_iload_n (i := 0) dJ18_bitCount_15 rfl rfl ?_
  refine A_iconst (v := 2) dJ18_bitCount_16 (by decide) ?_
  refine A_iushr (v := ((((x - (((((x : Int32)).toUInt32 >>> ((1 : Int32).toUInt32 &&& Int32.toUInt32 31)).toInt32) &&& (1431655765 : Int32))) : Int32)).toUInt32 >>> ((2 : Int32).toUInt32 &&& Int32.toUInt32 31)).toInt32) dJ18_bitCount_17 rfl ?_
  refine A_ldcw (v := 858993459) dJ18_bitCount_18 q2142 ?_
  refine A_iand dJ18_bitCount_21 ?_
  refine A_iadd dJ18_bitCount_22 ?_
  refine A_istore_n (i := 0) dJ18_bitCount_23 rfl (Nat.le_of_ble_eq_true rfl) ?_
  refine A_iload_n (i := 0) dJ18_bitCount_24 rfl rfl ?_
  refine A_iload_n (i := 0) dJ18_bitCount_25 rfl rfl ?_
  refine A_iconst (v := 4) dJ18_bitCount_26 (by decide) ?_
  refine A_iushr (v := ((((((x - (((((x : Int32)).toUInt32 >>> ((1 : Int32).toUInt32 &&& Int32.toUInt32 31)).toInt32) &&& (1431655765 : Int32))) &&& (858993459 : Int32)) + ((((((x - (((((x : Int32)).toUInt32 >>> ((1 : Int32).toUInt32 &&& Int32.toUInt32 31)).toInt32) &&& (1431655765 : Int32))) : Int32)).toUInt32 >>> ((2 : Int32).toUInt32 &&& Int32.toUInt32 31)).toInt32) &&& (858993459 : Int32))) : Int32)).toUInt32 >>> ((4 : Int32).toUInt32 &&& Int32.toUInt32 31)).toInt32) dJ18_bitCount_27 rfl ?_
  refine A_iadd dJ18_bitCount_28 ?_
  refine A_ldcw (v := 252645135) dJ18_bitCount_29 q2143 ?_
  refine A_iand dJ18_bitCount_32 ?_
  refine A_istore_n (i := 0) dJ18_bitCount_33 rfl (Nat.le_of_ble_eq_true rfl) ?_
  refine A_iload_n (i := 0) dJ18_bitCount_34 rfl rfl ?_
  refine A_iload_n (i := 0) dJ18_bitCount_35 rfl rfl ?_
  refine A_bipush (v := 8) dJ18_bitCount_36 (by decide) ?_
  refine A_iushr (v := ((((((((x - (((((x : Int32)).toUInt32 >>> ((1 : Int32).toUInt32 &&& Int32.toUInt32 31)).toInt32) &&& (1431655765 : Int32))) &&& (858993459 : Int32)) + ((((((x - (((((x : Int32)).toUInt32 >>> ((1 : Int32).toUInt32 &&& Int32.toUInt32 31)).toInt32) &&& (1431655765 : Int32))) : Int32)).toUInt32 >>> ((2 : Int32).toUInt32 &&& Int32.toUInt32 31)).toInt32) &&& (858993459 : Int32))) + (((((((x - (((((x : Int32)).toUInt32 >>> ((1 : Int32).toUInt32 &&& Int32.toUInt32 31)).toInt32) &&& (1431655765 : Int32))) &&& (858993459 : Int32)) + ((((((x - (((((x : Int32)).toUInt32 >>> ((1 : Int32).toUInt32 &&& Int32.toUInt32 31)).toInt32) &&& (1431655765 : Int32))) : Int32)).toUInt32 >>> ((2 : Int32).toUInt32 &&& Int32.toUInt32 31)).toInt32) &&& (858993459 : Int32))) : Int32)).toUInt32 >>> ((4 : Int32).toUInt32 &&& Int32.toUInt32 31)).toInt32)) &&& (252645135 : Int32)) : Int32)).toUInt32 >>> ((8 : Int32).toUInt32 &&& Int32.toUInt32 31)).toInt32) dJ18_bitCount_38 rfl ?_
  refine A_iadd dJ18_bitCount_39 ?_
  refine A_istore_n (i := 0) dJ18_bitCount_40 rfl (Nat.le_of_ble_eq_true rfl) ?_
  refine A_iload_n (i := 0) dJ18_bitCount_41 rfl rfl ?_
  refine A_iload_n (i := 0) dJ18_bitCount_42 rfl rfl ?_
  refine A_bipush (v := 16) dJ18_bitCount_43 (by decide) ?_
  refine A_iushr (v := (((((((((x - (((((x : Int32)).toUInt32 >>> ((1 : Int32).toUInt32 &&& Int32.toUInt32 31)).toInt32) &&& (1431655765 : Int32))) &&& (858993459 : Int32)) + ((((((x - (((((x : Int32)).toUInt32 >>> ((1 : Int32).toUInt32 &&& Int32.toUInt32 31)).toInt32) &&& (1431655765 : Int32))) : Int32)).toUInt32 >>> ((2 : Int32).toUInt32 &&& Int32.toUInt32 31)).toInt32) &&& (858993459 : Int32))) + (((((((x - (((((x : Int32)).toUInt32 >>> ((1 : Int32).toUInt32 &&& Int32.toUInt32 31)).toInt32) &&& (1431655765 : Int32))) &&& (858993459 : Int32)) + ((((((x - (((((x : Int32)).toUInt32 >>> ((1 : Int32).toUInt32 &&& Int32.toUInt32 31)).toInt32) &&& (1431655765 : Int32))) : Int32)).toUInt32 >>> ((2 : Int32).toUInt32 &&& Int32.toUInt32 31)).toInt32) &&& (858993459 : Int32))) : Int32)).toUInt32 >>> ((4 : Int32).toUInt32 &&& Int32.toUInt32 31)).toInt32)) &&& (252645135 : Int32)) + (((((((((x - (((((x : Int32)).toUInt32 >>> ((1 : Int32).toUInt32 &&& Int32.toUInt32 31)).toInt32) &&& (1431655765 : Int32))) &&& (858993459 : Int32)) + ((((((x - (((((x : Int32)).toUInt32 >>> ((1 : Int32).toUInt32 &&& Int32.toUInt32 31)).toInt32) &&& (1431655765 : Int32))) : Int32)).toUInt32 >>> ((2 : Int32).toUInt32 &&& Int32.toUInt32 31)).toInt32) &&& (858993459 : Int32))) + (((((((x - (((((x : Int32)).toUInt32 >>> ((1 : Int32).toUInt32 &&& Int32.toUInt32 31)).toInt32) &&& (1431655765 : Int32))) &&& (858993459 : Int32)) + ((((((x - (((((x : Int32)).toUInt32 >>> ((1 : Int32).toUInt32 &&& Int32.toUInt32 31)).toInt32) &&& (1431655765 : Int32))) : Int32)).toUInt32 >>> ((2 : Int32).toUInt32 &&& Int32.toUInt32 31)).toInt32) &&& (858993459 : Int32))) : Int32)).toUInt32 >>> ((4 : Int32).toUInt32 &&& Int32.toUInt32 31)).toInt32)) &&& (252645135 : Int32)) : Int32)).toUInt32 >>> ((8 : Int32).toUInt32 &&& Int32.toUInt32 31)).toInt32)) : Int32)).toUInt32 >>> ((16 : Int32).toUInt32 &&& Int32.toUInt32 31)).toInt32) dJ18_bitCount_45 rfl ?_
  refine A_iadd dJ18_bitCount_46 ?_
  refine A_istore_n (i := 0) dJ18_bitCount_47 rfl (Nat.le_of_ble_eq_true rfl) ?_
  refine A_iload_n (i := 0) dJ18_bitCount_48 rfl rfl ?_
  refine A_bipush (v := 63) dJ18_bitCount_49 (by decide) ?_
  refine A_iand dJ18_bitCount_51 ?_
  exact A_iret dJ18_bitCount_52 rfl (⟨rfl, rfl⟩)
theorem c_size1 {l : Launch} {g : GC} (σ : AH) (x : Int32)  : AMet l g mX1_size 2 0 [.int x] σ (A_eq (some (.int (bcE x))) σ) (A_no) := by
  refine A_of rfl (by decide) (Nat.le_of_ble_eq_true rfl) (L0 := [(0, .int x)]) rfl ?_
  refine A_iload_n (i := 0) dX1_size_0 rfl rfl ?_
  refine A_callS1E (b' := 0) (v := some (.int (bcE x))) (τ := σ) (c_bitCount σ x) tJ18_bitCount q2138 dX1_size_1 (by decide) (Nat.le_of_ble_eq_true rfl) (Nat.le_of_ble_eq_true rfl) ?_
  exact A_iret dX1_size_4 rfl (⟨rfl, rfl⟩)
theorem q_bleach {l : Launch} {g : GC} (σ : AH) (x bf dq sv ou : Nat) (bd pe ep : Int32) (is : Int32) (nv : Value) (W : WA) (N : AF) (f : Int32) (da hq u : Nat) (e : Nat → Nat) (hL : LD g σ is nv W N) (hX : σ.1 x = some (lauC bf bd pe ep nv dq sv ou)) (hQ : DQ σ dq da hq u e) (hu : u ≤ 8) : AMet l g mX1_bleach 16 72 [.ref x, .int f] σ (A_mq g (mayT is (bi (okF is N f)) (bi (okF is N f ∧ whyBlN N (ix f) = 0))) (.int (stN N (ix f))) bf bd pe ep dq sv ou x da u e W (blN N (ix f)) σ) (A_thr ["java/lang/IllegalStateException", "java/lang/IndexOutOfBoundsException", "java/lang/IllegalArgumentException"] (mayT is (bi (okF is N f)) (bi (okF is N f ∧ whyBlN N (ix f) = 0))) σ) := by
  rcases hL with ⟨h0, hn⟩ | ⟨hs, hn, hR, hD, hw, hh⟩
  · subst hn
    refine A_of rfl (by decide) (Nat.le_of_ble_eq_true rfl) (L0 := [(0, .ref x), (1, .int f)]) rfl ?_
    refine A_wfh (fun wσ hgσ => ?_)
    have yσ : ext σ σ := ext.rf
    refine A_aload_n (i := 0) dX1_bleach_0 rfl rfl ?_
    refine A_iload_n (i := 1) dX1_bleach_1 rfl rfl ?_
    refine A_callV1 (b' := 0) (u_checkFlag σ x bf dq sv ou bd pe ep f hX) tX1_checkFlag q1490 hX rfl rfl dX1_bleach_2 (by decide) (Nat.le_of_ble_eq_true rfl) (Nat.le_of_ble_eq_true rfl) (fun w9 τ9 h9 => h9.elim) (fun E9 q9 τ9 h9 => A_out rfl (⟨yσ.tr h9.2, 0, by rw [h9.1]; rfl, by rw [(mayQ_1 h0)]; rfl⟩))
  · subst hn
    have hW := hD.1
    have hR9 := hR
    obtain ⟨h1, ⟨fr, h2, h2p⟩, ⟨fm, h3, h3p⟩, ⟨mcn, fnA, h4, h4p, h4q⟩, ⟨mcf, ffA, h5, h5p, h5q⟩, ⟨fu, h6, h6p⟩, h7, h8, h9, h10, h11⟩ := hR
    have hF12 : nF N ≤ 12 := hW.2.2.2.2.2
    have hN4 : nN N ≤ 4 := hW.2.1.2
    have hC6 : nC N ≤ 6 := hW.1.2
    have hT3 : nT N ≤ 3 := hW.2.2.1.2
    have hP8 : nP N ≤ 8 := hW.2.2.2.1.2
    by_cases ck1 : inR f 0 (N 10 - 1)
    · skip
      obtain ⟨jf, hjf, rfl⟩ := in_ex hW.2.2.2.2.1 (Nat.le_trans hF12 (by decide)) ck1
      have bjf : jf < 2000 := Nat.lt_of_lt_of_le hjf (Nat.le_trans hF12 (by decide))
      refine A_of rfl (by decide) (Nat.le_of_ble_eq_true rfl) (L0 := [(0, .ref x), (1, .int (nI jf))]) rfl ?_
      refine A_wfh (fun wσ hgσ => ?_)
      have yσ : ext σ σ := ext.rf
      refine A_aload_n (i := 0) dX1_bleach_0 rfl rfl ?_
      refine A_iload_n (i := 1) dX1_bleach_1 rfl rfl ?_
      refine A_callV1E (b' := 72) (v := some (.ref (wF W jf))) (τ := σ) (c_checkFlag σ x bf dq sv ou bd pe ep W N jf hX hR9 hD hjf) tX1_checkFlag q1490 hX rfl rfl dX1_bleach_2 (by decide) (Nat.le_of_ble_eq_true rfl) (Nat.le_of_ble_eq_true rfl) ?_
      refine A_astore_n (i := 2) dX1_bleach_5 rfl (Nat.le_of_ble_eq_true rfl) ?_
      refine A_aload_n (i := 2) dX1_bleach_6 rfl rfl ?_
      refine A_callS1 (b' := 71) (c_bleachBar σ W N jf hR9 hD hjf) tX1_bleachBar q1706 dX1_bleach_7 (by decide) (Nat.le_of_ble_eq_true rfl) (Nat.le_of_ble_eq_true rfl) (fun w9 σ1 h9 => ?_) (fun E9 q9 τ9 h9 => h9.elim)
      obtain ⟨e9, xσ1⟩ := h9
      subst e9
      refine A_wfh (fun wσ1 hgσ1 => ?_)
      have yσ1 : ext σ σ1 := yσ.tr (xσ1)
      have fσ1_0 : σ1.1 (wW W) = some (.inr (.inl (4, [.int (N 9), .ref (wR W), .ref (wM W), .ref (wNL W), .ref (wFL W), .ref (wUN W), .int (N 6), .int (N 8), .int (N 0), .int (N 1), .int (N 2), .int (N 3), .int (N 4), .int (N 5), .int (N 11)]))) := xσ1.at wσ h1
      have fσ1_1 : σ1.1 (wFL W) = some (.inr (.inl (14, [.int mcf, .ref (wFA W), .int (nI (nF N))]))) := xσ1.at wσ h5
      have fσ1_2 : σ1.1 (wFA W) = some (.inl (.object "java/lang/Object", 12, .inr (.inr (.inr (.inr ffA))))) := xσ1.at wσ h5p
      have fσ1_3 : σ1.1 (wNL W) = some (.inr (.inl (14, [.int mcn, .ref (wNA W), .int (nI (nN N))]))) := xσ1.at wσ h4
      have fσ1_4 : σ1.1 (wNA W) = some (.inl (.object "java/lang/Object", 4, .inr (.inr (.inr (.inr fnA))))) := xσ1.at wσ h4p
      have fσ1_5 : σ1.1 (wR W) = some (.inl (.int, 6, .inl fr)) := xσ1.at wσ h2
      have fσ1_6 : σ1.1 (wM W) = some (.inl (.int, 3, .inl fm)) := xσ1.at wσ h3
      have fσ1_7 : σ1.1 (wUN W) = some (.inl (.object "FlagLaundry$Test", 7, .inr (.inr (.inr (.inr fu))))) := xσ1.at wσ h6
      have fσ1_8 : σ1.1 x = some (.inr (.inl (0, [.ref bf, .int bd, .int pe, .int ep, .ref (wW W), .ref dq, .ref sv, .ref ou]))) := xσ1.at wσ hX
      have fσ1_9 : σ1.1 (wF W jf) = some (.inr (.inl (6, [.int (fl N jf 0), .int (fl N jf 1), .int (fl N jf 2), .int (fl N jf 3), .int (fl N jf 4), .int (fl N jf 5), .int (fl N jf 6), .int (fl N jf 7), .ref (wP W jf)]))) := xσ1.at wσ (hR9.2.2.2.2.2.2.1 jf hjf)
      have hRσ1 : RW g σ1 W N := hR9.ext wσ xσ1
      refine A_if_ne (tgt := 17) dX1_bleach_10 (by decide) (fun c1 => ?_) (fun c1 => ?_)
      · skip
        refine A_iconst (v := 0) dX1_bleach_17 (by decide) ?_
        refine A_callS1 (b' := 0) (c_cArg_no σ1 0 rfl) tX1_checkArgument q1406 dX1_bleach_18 (by decide) (Nat.le_of_ble_eq_true rfl) (Nat.le_of_ble_eq_true rfl) (fun w9 τ9 h9 => h9.elim) (fun E9 q9 τ9 h9 => A_out rfl (⟨yσ1.tr h9.2, 2, by rw [h9.1]; rfl, by rw [(mayQ_3 hs (bi_n ⟨hs, ck1⟩) (bi_f (fun h => c1 (by have k := h.2; rw [ixn bjf] at k; exact k))))]; rfl⟩))
      · skip
        refine A_iconst (v := 1) dX1_bleach_13 (by decide) ?_
        refine A_goto (tgt := 18) dX1_bleach_14 (by decide) ?_
        refine A_callS1E (b' := 71) (v := none) (τ := σ1) (c_cArg σ1 1 (by decide)) tX1_checkArgument q1406 dX1_bleach_18 (by decide) (Nat.le_of_ble_eq_true rfl) (Nat.le_of_ble_eq_true rfl) ?_
        refine A_aload_n (i := 0) dX1_bleach_21 rfl rfl ?_
        refine A_callV0 (b' := 2) (c_changed σ1 x bf dq sv ou bd pe ep W N da hq u e fσ1_8 hRσ1 hD (hQ.ex wσ yσ1) hu) tX1_changed q2040 fσ1_8 rfl rfl dX1_bleach_22 (by decide) (Nat.le_of_ble_eq_true rfl) (Nat.le_of_ble_eq_true rfl) (fun w9 τ5 h5 => ?_) (fun E9 q9 τ9 h9 => h9.elim)
        obtain ⟨V, h5q, e5, fx5, hRV, hOW, hDQ5, fr5, n5⟩ := h5
        subst e5
        refine A_wfh (fun wτ5 hgτ5 => ?_)
        have fra0 : fra [x, dq, da] σ τ5 := (fra.rf.ex yσ1).tr fr5
        have n0 : nw σ τ5 := (nw.rf.ex wσ yσ1).tr n5
        have hOV : own σ.2 V N := hOW.le yσ1.1
        have hl5 : σ.2 ≤ τ5.2 := fra0.1
        have hRo : RW g τ5 W N := hR9.nw n0
        have hRc := hRV
        obtain ⟨h1v, ⟨frv, h2v, h2pv⟩, ⟨fmv, h3v, h3pv⟩, ⟨mcnv, fnAv, h4v, h4pv, h4qv⟩, ⟨mcfv, ffAv, h5v, h5pv, h5qv⟩, ⟨fuv, h6v, h6pv⟩, h7v, h8v, h9v, h10v, h11v⟩ := hRc
        have fτ5v_0 : τ5.1 (wW V) = some (.inr (.inl (4, [.int (N 9), .ref (wR V), .ref (wM V), .ref (wNL V), .ref (wFL V), .ref (wUN V), .int (N 6), .int (N 8), .int (N 0), .int (N 1), .int (N 2), .int (N 3), .int (N 4), .int (N 5), .int (N 11)]))) := h1v
        have fτ5v_1 : τ5.1 (wFL V) = some (.inr (.inl (14, [.int mcfv, .ref (wFA V), .int (nI (nF N))]))) := h5v
        have fτ5v_2 : τ5.1 (wFA V) = some (.inl (.object "java/lang/Object", 12, .inr (.inr (.inr (.inr ffAv))))) := h5pv
        have fτ5v_3 : τ5.1 (wNL V) = some (.inr (.inl (14, [.int mcnv, .ref (wNA V), .int (nI (nN N))]))) := h4v
        have fτ5v_4 : τ5.1 (wNA V) = some (.inl (.object "java/lang/Object", 4, .inr (.inr (.inr (.inr fnAv))))) := h4pv
        have fτ5v_5 : τ5.1 (wR V) = some (.inl (.int, 6, .inl frv)) := h2v
        have fτ5v_6 : τ5.1 (wM V) = some (.inl (.int, 3, .inl fmv)) := h3v
        have fτ5v_7 : τ5.1 (wUN V) = some (.inl (.object "FlagLaundry$Test", 7, .inr (.inr (.inr (.inr fuv))))) := h6v
        refine A_iload_n (i := 1) dX1_bleach_25 rfl rfl ?_
        have zτ5 : kx (wF V jf) τ5 τ5 := kx.rf
        refine A_callV1E (b' := 2) (v := some (.ref (wF V jf))) (τ := τ5) (c_flagOf τ5 V N jf hRV hW hjf) tX5_flagOf q1153 fτ5v_0 rfl rfl dX1_bleach_26 (by decide) (Nat.le_of_ble_eq_true rfl) (Nat.le_of_ble_eq_true rfl) ?_
        refine A_astore_n (i := 3) dX1_bleach_29 rfl (Nat.le_of_ble_eq_true rfl) ?_
        refine A_aload_n (i := 3) dX1_bleach_30 rfl rfl ?_
        refine A_iconst (v := 0) dX1_bleach_31 (by decide) ?_
        refine A_putfN cb_X7 (hRV.2.2.2.2.2.2.1 jf hjf) 6 (Nat.le_of_ble_eq_true rfl) q1116 rfl rfl rfl rfl (Nat.le_of_ble_eq_true rfl) dX1_bleach_32 ?_
        obtain ⟨σ2, eσ2⟩ : ∃ τ, τ = h_put τ5 (wF V jf) (.inr (.inl (6, [.int (fl N jf 0), .int (fl N jf 1), .int (fl N jf 2), .int (fl N jf 3), .int (fl N jf 4), .int (fl N jf 5), .int 0, .int (fl N jf 7), .ref (wP V jf)]))) := ⟨_, rfl⟩
        refine A_st (σ' := σ2) eσ2.symm ?_
        have wσ2 : wfh σ2 := by rw [eσ2]; exact wτ5.put (hRV.2.2.2.2.2.2.1 jf hjf)
        have fσ2_0 : σ2.1 (wW V) = some (.inr (.inl (4, [.int (N 9), .ref (wR V), .ref (wM V), .ref (wNL V), .ref (wFL V), .ref (wUN V), .int (N 6), .int (N 8), .int (N 0), .int (N 1), .int (N 2), .int (N 3), .int (N 4), .int (N 5), .int (N 11)]))) := by rw [eσ2]; exact (hp_ne (ne_of (x := .inr (.inl (4, [.int (N 9), .ref (wR V), .ref (wM V), .ref (wNL V), .ref (wFL V), .ref (wUN V), .int (N 6), .int (N 8), .int (N 0), .int (N 1), .int (N 2), .int (N 3), .int (N 4), .int (N 5), .int (N 11)]))) (y := .inr (.inl (6, [.int (fl N jf 0), .int (fl N jf 1), .int (fl N jf 2), .int (fl N jf 3), .int (fl N jf 4), .int (fl N jf 5), .int (fl N jf 6), .int (fl N jf 7), .ref (wP V jf)]))) fτ5v_0 (hRV.2.2.2.2.2.2.1 jf hjf) (fun e8 => by simp at e8))).trans fτ5v_0
        have fσ2_1 : σ2.1 (wFL V) = some (.inr (.inl (14, [.int mcfv, .ref (wFA V), .int (nI (nF N))]))) := by rw [eσ2]; exact (hp_ne (ne_of (x := .inr (.inl (14, [.int mcfv, .ref (wFA V), .int (nI (nF N))]))) (y := .inr (.inl (6, [.int (fl N jf 0), .int (fl N jf 1), .int (fl N jf 2), .int (fl N jf 3), .int (fl N jf 4), .int (fl N jf 5), .int (fl N jf 6), .int (fl N jf 7), .ref (wP V jf)]))) fτ5v_1 (hRV.2.2.2.2.2.2.1 jf hjf) (fun e8 => by simp at e8))).trans fτ5v_1
        have fσ2_2 : σ2.1 (wFA V) = some (.inl (.object "java/lang/Object", 12, .inr (.inr (.inr (.inr ffAv))))) := by rw [eσ2]; exact (hp_ne (ne_of (x := .inl (.object "java/lang/Object", 12, .inr (.inr (.inr (.inr ffAv))))) (y := .inr (.inl (6, [.int (fl N jf 0), .int (fl N jf 1), .int (fl N jf 2), .int (fl N jf 3), .int (fl N jf 4), .int (fl N jf 5), .int (fl N jf 6), .int (fl N jf 7), .ref (wP V jf)]))) fτ5v_2 (hRV.2.2.2.2.2.2.1 jf hjf) (fun e8 => by simp at e8))).trans fτ5v_2
        have fσ2_3 : σ2.1 (wNL V) = some (.inr (.inl (14, [.int mcnv, .ref (wNA V), .int (nI (nN N))]))) := by rw [eσ2]; exact (hp_ne (ne_of (x := .inr (.inl (14, [.int mcnv, .ref (wNA V), .int (nI (nN N))]))) (y := .inr (.inl (6, [.int (fl N jf 0), .int (fl N jf 1), .int (fl N jf 2), .int (fl N jf 3), .int (fl N jf 4), .int (fl N jf 5), .int (fl N jf 6), .int (fl N jf 7), .ref (wP V jf)]))) fτ5v_3 (hRV.2.2.2.2.2.2.1 jf hjf) (fun e8 => by simp at e8))).trans fτ5v_3
        have fσ2_4 : σ2.1 (wNA V) = some (.inl (.object "java/lang/Object", 4, .inr (.inr (.inr (.inr fnAv))))) := by rw [eσ2]; exact (hp_ne (ne_of (x := .inl (.object "java/lang/Object", 4, .inr (.inr (.inr (.inr fnAv))))) (y := .inr (.inl (6, [.int (fl N jf 0), .int (fl N jf 1), .int (fl N jf 2), .int (fl N jf 3), .int (fl N jf 4), .int (fl N jf 5), .int (fl N jf 6), .int (fl N jf 7), .ref (wP V jf)]))) fτ5v_4 (hRV.2.2.2.2.2.2.1 jf hjf) (fun e8 => by simp at e8))).trans fτ5v_4
        have fσ2_5 : σ2.1 (wR V) = some (.inl (.int, 6, .inl frv)) := by rw [eσ2]; exact (hp_ne (ne_of (x := .inl (.int, 6, .inl frv)) (y := .inr (.inl (6, [.int (fl N jf 0), .int (fl N jf 1), .int (fl N jf 2), .int (fl N jf 3), .int (fl N jf 4), .int (fl N jf 5), .int (fl N jf 6), .int (fl N jf 7), .ref (wP V jf)]))) fτ5v_5 (hRV.2.2.2.2.2.2.1 jf hjf) (fun e8 => by simp at e8))).trans fτ5v_5
        have fσ2_6 : σ2.1 (wM V) = some (.inl (.int, 3, .inl fmv)) := by rw [eσ2]; exact (hp_ne (ne_of (x := .inl (.int, 3, .inl fmv)) (y := .inr (.inl (6, [.int (fl N jf 0), .int (fl N jf 1), .int (fl N jf 2), .int (fl N jf 3), .int (fl N jf 4), .int (fl N jf 5), .int (fl N jf 6), .int (fl N jf 7), .ref (wP V jf)]))) fτ5v_6 (hRV.2.2.2.2.2.2.1 jf hjf) (fun e8 => by simp at e8))).trans fτ5v_6
        have fσ2_7 : σ2.1 (wUN V) = some (.inl (.object "FlagLaundry$Test", 7, .inr (.inr (.inr (.inr fuv))))) := by rw [eσ2]; exact (hp_ne (ne_of (x := .inl (.object "FlagLaundry$Test", 7, .inr (.inr (.inr (.inr fuv))))) (y := .inr (.inl (6, [.int (fl N jf 0), .int (fl N jf 1), .int (fl N jf 2), .int (fl N jf 3), .int (fl N jf 4), .int (fl N jf 5), .int (fl N jf 6), .int (fl N jf 7), .ref (wP V jf)]))) fτ5v_7 (hRV.2.2.2.2.2.2.1 jf hjf) (fun e8 => by simp at e8))).trans fτ5v_7
        have fσ2_8 : σ2.1 x = some (.inr (.inl (0, [.ref bf, .int bd, .int pe, .int ep, .ref (wW V), .ref dq, .ref sv, .ref ou]))) := by rw [eσ2]; exact (hp_ne (ne_of (x := .inr (.inl (0, [.ref bf, .int bd, .int pe, .int ep, .ref (wW V), .ref dq, .ref sv, .ref ou]))) (y := .inr (.inl (6, [.int (fl N jf 0), .int (fl N jf 1), .int (fl N jf 2), .int (fl N jf 3), .int (fl N jf 4), .int (fl N jf 5), .int (fl N jf 6), .int (fl N jf 7), .ref (wP V jf)]))) fx5 (hRV.2.2.2.2.2.2.1 jf hjf) (fun e8 => by simp at e8))).trans fx5
        have fσ2_9 : σ2.1 (wF V jf) = some (.inr (.inl (6, [.int (fl N jf 0), .int (fl N jf 1), .int (fl N jf 2), .int (fl N jf 3), .int (fl N jf 4), .int (fl N jf 5), .int 0, .int (fl N jf 7), .ref (wP V jf)]))) := by rw [eσ2]; exact if_pos rfl
        have zσ2 : kx (wF V jf) τ5 σ2 := by rw [eσ2]; exact zτ5.put
        refine A_aload_n (i := 3) dX1_bleach_35 rfl rfl ?_
        refine A_dup dX1_bleach_36 rfl ?_
        refine A_getfN cb_X7 fσ2_9 7 (Nat.le_of_ble_eq_true rfl) q1118 rfl (v := .int (fl N jf 7)) rfl dX1_bleach_37 ?_
        refine A_iconst (v := 1) dX1_bleach_40 (by decide) ?_
        refine A_iadd dX1_bleach_41 ?_
        refine A_putfN cb_X7 fσ2_9 7 (Nat.le_of_ble_eq_true rfl) q1118 rfl rfl rfl rfl (Nat.le_of_ble_eq_true rfl) dX1_bleach_42 ?_
        obtain ⟨σ3, eσ3⟩ : ∃ τ, τ = h_put σ2 (wF V jf) (.inr (.inl (6, [.int (fl N jf 0), .int (fl N jf 1), .int (fl N jf 2), .int (fl N jf 3), .int (fl N jf 4), .int (fl N jf 5), .int 0, .int ((fl N jf 7) + 1), .ref (wP V jf)]))) := ⟨_, rfl⟩
        refine A_st (σ' := σ3) eσ3.symm ?_
        have wσ3 : wfh σ3 := by rw [eσ3]; exact wσ2.put fσ2_9
        have fσ3_0 : σ3.1 (wW V) = some (.inr (.inl (4, [.int (N 9), .ref (wR V), .ref (wM V), .ref (wNL V), .ref (wFL V), .ref (wUN V), .int (N 6), .int (N 8), .int (N 0), .int (N 1), .int (N 2), .int (N 3), .int (N 4), .int (N 5), .int (N 11)]))) := by rw [eσ3]; exact (hp_ne (ne_of (x := .inr (.inl (4, [.int (N 9), .ref (wR V), .ref (wM V), .ref (wNL V), .ref (wFL V), .ref (wUN V), .int (N 6), .int (N 8), .int (N 0), .int (N 1), .int (N 2), .int (N 3), .int (N 4), .int (N 5), .int (N 11)]))) (y := .inr (.inl (6, [.int (fl N jf 0), .int (fl N jf 1), .int (fl N jf 2), .int (fl N jf 3), .int (fl N jf 4), .int (fl N jf 5), .int 0, .int (fl N jf 7), .ref (wP V jf)]))) fσ2_0 fσ2_9 (fun e8 => by simp at e8))).trans fσ2_0
        have fσ3_1 : σ3.1 (wFL V) = some (.inr (.inl (14, [.int mcfv, .ref (wFA V), .int (nI (nF N))]))) := by rw [eσ3]; exact (hp_ne (ne_of (x := .inr (.inl (14, [.int mcfv, .ref (wFA V), .int (nI (nF N))]))) (y := .inr (.inl (6, [.int (fl N jf 0), .int (fl N jf 1), .int (fl N jf 2), .int (fl N jf 3), .int (fl N jf 4), .int (fl N jf 5), .int 0, .int (fl N jf 7), .ref (wP V jf)]))) fσ2_1 fσ2_9 (fun e8 => by simp at e8))).trans fσ2_1
        have fσ3_2 : σ3.1 (wFA V) = some (.inl (.object "java/lang/Object", 12, .inr (.inr (.inr (.inr ffAv))))) := by rw [eσ3]; exact (hp_ne (ne_of (x := .inl (.object "java/lang/Object", 12, .inr (.inr (.inr (.inr ffAv))))) (y := .inr (.inl (6, [.int (fl N jf 0), .int (fl N jf 1), .int (fl N jf 2), .int (fl N jf 3), .int (fl N jf 4), .int (fl N jf 5), .int 0, .int (fl N jf 7), .ref (wP V jf)]))) fσ2_2 fσ2_9 (fun e8 => by simp at e8))).trans fσ2_2
        have fσ3_3 : σ3.1 (wNL V) = some (.inr (.inl (14, [.int mcnv, .ref (wNA V), .int (nI (nN N))]))) := by rw [eσ3]; exact (hp_ne (ne_of (x := .inr (.inl (14, [.int mcnv, .ref (wNA V), .int (nI (nN N))]))) (y := .inr (.inl (6, [.int (fl N jf 0), .int (fl N jf 1), .int (fl N jf 2), .int (fl N jf 3), .int (fl N jf 4), .int (fl N jf 5), .int 0, .int (fl N jf 7), .ref (wP V jf)]))) fσ2_3 fσ2_9 (fun e8 => by simp at e8))).trans fσ2_3
        have fσ3_4 : σ3.1 (wNA V) = some (.inl (.object "java/lang/Object", 4, .inr (.inr (.inr (.inr fnAv))))) := by rw [eσ3]; exact (hp_ne (ne_of (x := .inl (.object "java/lang/Object", 4, .inr (.inr (.inr (.inr fnAv))))) (y := .inr (.inl (6, [.int (fl N jf 0), .int (fl N jf 1), .int (fl N jf 2), .int (fl N jf 3), .int (fl N jf 4), .int (fl N jf 5), .int 0, .int (fl N jf 7), .ref (wP V jf)]))) fσ2_4 fσ2_9 (fun e8 => by simp at e8))).trans fσ2_4
        have fσ3_5 : σ3.1 (wR V) = some (.inl (.int, 6, .inl frv)) := by rw [eσ3]; exact (hp_ne (ne_of (x := .inl (.int, 6, .inl frv)) (y := .inr (.inl (6, [.int (fl N jf 0), .int (fl N jf 1), .int (fl N jf 2), .int (fl N jf 3), .int (fl N jf 4), .int (fl N jf 5), .int 0, .int (fl N jf 7), .ref (wP V jf)]))) fσ2_5 fσ2_9 (fun e8 => by simp at e8))).trans fσ2_5
        have fσ3_6 : σ3.1 (wM V) = some (.inl (.int, 3, .inl fmv)) := by rw [eσ3]; exact (hp_ne (ne_of (x := .inl (.int, 3, .inl fmv)) (y := .inr (.inl (6, [.int (fl N jf 0), .int (fl N jf 1), .int (fl N jf 2), .int (fl N jf 3), .int (fl N jf 4), .int (fl N jf 5), .int 0, .int (fl N jf 7), .ref (wP V jf)]))) fσ2_6 fσ2_9 (fun e8 => by simp at e8))).trans fσ2_6
        have fσ3_7 : σ3.1 (wUN V) = some (.inl (.object "FlagLaundry$Test", 7, .inr (.inr (.inr (.inr fuv))))) := by rw [eσ3]; exact (hp_ne (ne_of (x := .inl (.object "FlagLaundry$Test", 7, .inr (.inr (.inr (.inr fuv))))) (y := .inr (.inl (6, [.int (fl N jf 0), .int (fl N jf 1), .int (fl N jf 2), .int (fl N jf 3), .int (fl N jf 4), .int (fl N jf 5), .int 0, .int (fl N jf 7), .ref (wP V jf)]))) fσ2_7 fσ2_9 (fun e8 => by simp at e8))).trans fσ2_7
        have fσ3_8 : σ3.1 x = some (.inr (.inl (0, [.ref bf, .int bd, .int pe, .int ep, .ref (wW V), .ref dq, .ref sv, .ref ou]))) := by rw [eσ3]; exact (hp_ne (ne_of (x := .inr (.inl (0, [.ref bf, .int bd, .int pe, .int ep, .ref (wW V), .ref dq, .ref sv, .ref ou]))) (y := .inr (.inl (6, [.int (fl N jf 0), .int (fl N jf 1), .int (fl N jf 2), .int (fl N jf 3), .int (fl N jf 4), .int (fl N jf 5), .int 0, .int (fl N jf 7), .ref (wP V jf)]))) fσ2_8 fσ2_9 (fun e8 => by simp at e8))).trans fσ2_8
        have fσ3_9 : σ3.1 (wF V jf) = some (.inr (.inl (6, [.int (fl N jf 0), .int (fl N jf 1), .int (fl N jf 2), .int (fl N jf 3), .int (fl N jf 4), .int (fl N jf 5), .int 0, .int ((fl N jf 7) + 1), .ref (wP V jf)]))) := by rw [eσ3]; exact if_pos rfl
        have zσ3 : kx (wF V jf) τ5 σ3 := by rw [eσ3]; exact zσ2.put
        have hR7 : RW g σ3 (setP V (upP (wP V) jf (wP V jf))) (blN N jf) := hRV.flag (F := (fun j => if j = 7 then fl N jf 7 + 1 else if j = 6 then 0 else fl N jf j)) wτ5 hW hjf zσ3 fσ3_9 (zσ3.at wτ5 (hRV.2.2.2.2.2.2.2.1 jf hjf) (ne_of (hRV.2.2.2.2.2.2.2.1 jf hjf) (hRV.2.2.2.2.2.2.1 jf hjf) (ne_pl (plc_cls _ _ _).1))) (upF_bl N jf)
        have k7 : kl σ.2 τ5 σ3 := zσ3.kl hl5 (hOV.2.2.2.2.2.2.2.1 jf hjf)
        have hFo : σ3.1 (wF W jf) = some (flgC (fl N jf) (wP W jf)) := (k7.2 _ (wσ _ _ (h7 jf hjf))).trans (hRo.2.2.2.2.2.2.1 jf hjf)
        refine A_aload_n (i := 2) dX1_bleach_45 rfl rfl ?_
        refine A_getfN cb_X7 hFo 6 (Nat.le_of_ble_eq_true rfl) q1116 rfl (v := .int (fl N jf 6)) rfl dX1_bleach_46 ?_
        refine A_callS1E (b' := 2) (v := some (.int (bcE (fl N jf 6)))) (τ := σ3) (c_size1 σ3 (fl N jf 6)) tX1_size q2135 dX1_bleach_49 (by decide) (Nat.le_of_ble_eq_true rfl) (Nat.le_of_ble_eq_true rfl) ?_
        exact A_iret dX1_bleach_52 rfl (⟨(mayQ_0 hs (bi_n ⟨hs, ck1⟩) (bi_n ⟨⟨hs, ck1⟩, by rw [ixn bjf]; exact c1⟩)), by rw [ixn bjf, bc_st hD hjf], (setP V (upP (wP V) jf (wP V jf))), _, (k7.2 x (wσ _ _ hX)).trans fx5, (by rw [ixn bjf]; exact hR7), hDQ5.kl k7 (hQ.lt wσ).1 (hQ.lt wσ).2, fra0.kl k7, n0.kl wσ (Nat.le_refl _) k7⟩)
    · skip
      refine A_of rfl (by decide) (Nat.le_of_ble_eq_true rfl) (L0 := [(0, .ref x), (1, .int f)]) rfl ?_
      refine A_wfh (fun wσ hgσ => ?_)
      have yσ : ext σ σ := ext.rf
      refine A_aload_n (i := 0) dX1_bleach_0 rfl rfl ?_
      refine A_iload_n (i := 1) dX1_bleach_1 rfl rfl ?_
      refine A_callV1 (b' := 0) (c_checkFlag_no σ x bf dq sv ou bd pe ep W N f hX hR9 hD ck1) tX1_checkFlag q1490 hX rfl rfl dX1_bleach_2 (by decide) (Nat.le_of_ble_eq_true rfl) (Nat.le_of_ble_eq_true rfl) (fun w9 τ9 h9 => h9.elim) (fun E9 q9 τ9 h9 => A_out rfl (⟨yσ.tr h9.2, 1, by rw [h9.1]; rfl, by rw [(mayQ_2 hs (bi_f (fun h => ck1 h.2)))]; rfl⟩))
theorem q_hangAll {l : Launch} {g : GC} (σ : AH) (x bf dq sv ou : Nat) (bd pe ep : Int32) (is : Int32) (nv : Value) (W : WA) (N : AF) (da hq u : Nat) (e : Nat → Nat) (hL : LD g σ is nv W N) (hX : σ.1 x = some (lauC bf bd pe ep nv dq sv ou)) (hQ : DQ σ dq da hq u e) (hu : u ≤ 8) : AMet l g mX1_hangAll 10 83 [.ref x] σ (A_mq g (mayT is 1 1) (.int (haC N (nF N))) bf bd pe ep dq sv ou x da u e W (haU N (nF N)) σ) (A_thr ["java/lang/IllegalStateException"] (mayT is 1 1) σ) := by
  rcases hL with ⟨h0, hn⟩ | ⟨hs, hn, hR, hD, hw, hh⟩
  · subst hn
    refine A_of rfl (by decide) (Nat.le_of_ble_eq_true rfl) (L0 := [(0, .ref x)]) rfl ?_
    refine A_wfh (fun wσ hgσ => ?_)
    have yσ : ext σ σ := ext.rf
    refine A_aload_n (i := 0) dX1_hangAll_0 rfl rfl ?_
    refine A_callV0 (b' := 0) (u_loaded σ x bf dq sv ou bd pe ep  hX) tX1_loaded q1383 hX rfl rfl dX1_hangAll_1 (by decide) (Nat.le_of_ble_eq_true rfl) (Nat.le_of_ble_eq_true rfl) (fun w9 τ9 h9 => h9.elim) (fun E9 q9 τ9 h9 => A_out rfl (⟨yσ.tr h9.2, 0, by rw [h9.1]; rfl, by rw [(mayQ_1 h0)]; rfl⟩))
  · subst hn
    have hW := hD.1
    have hR9 := hR
    obtain ⟨h1, ⟨fr, h2, h2p⟩, ⟨fm, h3, h3p⟩, ⟨mcn, fnA, h4, h4p, h4q⟩, ⟨mcf, ffA, h5, h5p, h5q⟩, ⟨fu, h6, h6p⟩, h7, h8, h9, h10, h11⟩ := hR
    have hF12 : nF N ≤ 12 := hW.2.2.2.2.2
    have hN4 : nN N ≤ 4 := hW.2.1.2
    have hC6 : nC N ≤ 6 := hW.1.2
    have hT3 : nT N ≤ 3 := hW.2.2.1.2
    have hP8 : nP N ≤ 8 := hW.2.2.2.1.2
    refine A_of rfl (by decide) (Nat.le_of_ble_eq_true rfl) (L0 := [(0, .ref x)]) rfl ?_
    refine A_wfh (fun wσ hgσ => ?_)
    have yσ : ext σ σ := ext.rf
    refine A_aload_n (i := 0) dX1_hangAll_0 rfl rfl ?_
    refine A_callV0E (b' := 83) (v := some (.ref (wW W))) (τ := σ) (c_loaded σ x bf dq sv ou bd pe ep W N hX hR9 hD) tX1_loaded q1383 hX rfl rfl dX1_hangAll_1 (by decide) (Nat.le_of_ble_eq_true rfl) (Nat.le_of_ble_eq_true rfl) ?_
    refine A_astore_n (i := 1) dX1_hangAll_4 rfl (Nat.le_of_ble_eq_true rfl) ?_
    refine A_aload_n (i := 0) dX1_hangAll_5 rfl rfl ?_
    refine A_callV0 (b' := 14) (c_changed σ x bf dq sv ou bd pe ep W N da hq u e hX hR9 hD (hQ.ex wσ yσ) hu) tX1_changed q2040 hX rfl rfl dX1_hangAll_6 (by decide) (Nat.le_of_ble_eq_true rfl) (Nat.le_of_ble_eq_true rfl) (fun w9 τ5 h5 => ?_) (fun E9 q9 τ9 h9 => h9.elim)
    obtain ⟨V, h5q, e5, fx5, hRV, hOW, hDQ5, fr5, n5⟩ := h5
    subst e5
    refine A_wfh (fun wτ5 hgτ5 => ?_)
    have fra0 : fra [x, dq, da] σ τ5 := (fra.rf.ex yσ).tr fr5
    have n0 : nw σ τ5 := (nw.rf.ex wσ yσ).tr n5
    have hOV : own σ.2 V N := hOW.le yσ.1
    have hl5 : σ.2 ≤ τ5.2 := fra0.1
    have hRo : RW g τ5 W N := hR9.nw n0
    have hRc := hRV
    obtain ⟨h1v, ⟨frv, h2v, h2pv⟩, ⟨fmv, h3v, h3pv⟩, ⟨mcnv, fnAv, h4v, h4pv, h4qv⟩, ⟨mcfv, ffAv, h5v, h5pv, h5qv⟩, ⟨fuv, h6v, h6pv⟩, h7v, h8v, h9v, h10v, h11v⟩ := hRc
    have fτ5v_0 : τ5.1 (wW V) = some (.inr (.inl (4, [.int (N 9), .ref (wR V), .ref (wM V), .ref (wNL V), .ref (wFL V), .ref (wUN V), .int (N 6), .int (N 8), .int (N 0), .int (N 1), .int (N 2), .int (N 3), .int (N 4), .int (N 5), .int (N 11)]))) := h1v
    have fτ5v_1 : τ5.1 (wFL V) = some (.inr (.inl (14, [.int mcfv, .ref (wFA V), .int (nI (nF N))]))) := h5v
    have fτ5v_2 : τ5.1 (wFA V) = some (.inl (.object "java/lang/Object", 12, .inr (.inr (.inr (.inr ffAv))))) := h5pv
    have fτ5v_3 : τ5.1 (wNL V) = some (.inr (.inl (14, [.int mcnv, .ref (wNA V), .int (nI (nN N))]))) := h4v
    have fτ5v_4 : τ5.1 (wNA V) = some (.inl (.object "java/lang/Object", 4, .inr (.inr (.inr (.inr fnAv))))) := h4pv
    have fτ5v_5 : τ5.1 (wR V) = some (.inl (.int, 6, .inl frv)) := h2v
    have fτ5v_6 : τ5.1 (wM V) = some (.inl (.int, 3, .inl fmv)) := h3v
    have fτ5v_7 : τ5.1 (wUN V) = some (.inl (.object "FlagLaundry$Test", 7, .inr (.inr (.inr (.inr fuv))))) := h6v
    refine A_astore_n (i := 2) dX1_hangAll_9 rfl (Nat.le_of_ble_eq_true rfl) ?_
    refine A_iconst (v := 0) dX1_hangAll_10 (by decide) ?_
    refine A_istore_n (i := 3) dX1_hangAll_11 rfl (Nat.le_of_ble_eq_true rfl) ?_
    refine A_iconst (v := 0) dX1_hangAll_12 (by decide) ?_
    refine A_istore dX1_hangAll_13 (Nat.le_of_ble_eq_true rfl) ?_
    refine A_less (b' := ((nF N) - 0) * 1 + 0) (by omega) ?_
    refine A_sub (L' := [(0, .ref x), (1, .ref (wW W)), (2, .ref (wW V)), (3, .int (haC N 0)), (4, .int (nI 0))]) ⟨rfl, rfl, rfl, rfl, rfl, trivial⟩ ?_
    refine A_forP (α := AH) (nF N) (fun i15 _ => ((nF N) - i15) * 1 + 0) (fun i15 _ => [(0, .ref x), (1, .ref (wW W)), (2, .ref (wW V)), (3, .int (haC N i15)), (4, .int (nI i15))]) (fun _ τ15 => τ15) (fun i15 τ15 => (∃ P, RW g τ15 (setP V P) (haU N i15)) ∧ kl σ.2 τ5 τ15) τ5 (⟨⟨_, hRV.sP⟩, kl.rf⟩) (fun i15 τ15 hi15 hI15 ih15 => ?_) (fun τ15 hI15 => ?_)
    · skip
      refine A_less (b' := ((nF N) - (i15 + 1)) * 1 + 0 + 1) (by omega) ?_
      obtain ⟨⟨P5, hR8⟩, k8⟩ := hI15
      refine A_wfh (fun wτ15 hgτ15 => ?_)
      have hD8 : WFd (haU N i15) := WFd_haU hD i15 (by first | exact Nat.le_refl _ | exact Nat.le_of_lt hi15)
      have en8 : nF (haU N i15) = nF N := (hdr_haU N i15).nFe
      have hi15' : i15 < nF (haU N i15) := by rw [en8]; exact hi15
      have hRc := hR8
      obtain ⟨h1t8, ⟨frt8, h2t8, h2pt8⟩, ⟨fmt8, h3t8, h3pt8⟩, ⟨mcnt8, fnAt8, h4t8, h4pt8, h4qt8⟩, ⟨mcft8, ffAt8, h5t8, h5pt8, h5qt8⟩, ⟨fut8, h6t8, h6pt8⟩, h7t8, h8t8, h9t8, h10t8, h11t8⟩ := hRc
      have fτ15t8_0 : τ15.1 (wW V) = some (.inr (.inl (4, [.int ((haU N i15) 9), .ref (wR V), .ref (wM V), .ref (wNL V), .ref (wFL V), .ref (wUN V), .int ((haU N i15) 6), .int ((haU N i15) 8), .int ((haU N i15) 0), .int ((haU N i15) 1), .int ((haU N i15) 2), .int ((haU N i15) 3), .int ((haU N i15) 4), .int ((haU N i15) 5), .int ((haU N i15) 11)]))) := h1t8
      have fτ15t8_1 : τ15.1 (wFL V) = some (.inr (.inl (14, [.int mcft8, .ref (wFA V), .int (nI (nF (haU N i15)))]))) := h5t8
      have fτ15t8_2 : τ15.1 (wFA V) = some (.inl (.object "java/lang/Object", 12, .inr (.inr (.inr (.inr ffAt8))))) := h5pt8
      have fτ15t8_3 : τ15.1 (wNL V) = some (.inr (.inl (14, [.int mcnt8, .ref (wNA V), .int (nI (nN (haU N i15)))]))) := h4t8
      have fτ15t8_4 : τ15.1 (wNA V) = some (.inl (.object "java/lang/Object", 4, .inr (.inr (.inr (.inr fnAt8))))) := h4pt8
      have fτ15t8_5 : τ15.1 (wR V) = some (.inl (.int, 6, .inl frt8)) := h2t8
      have fτ15t8_6 : τ15.1 (wM V) = some (.inl (.int, 3, .inl fmt8)) := h3t8
      have fτ15t8_7 : τ15.1 (wUN V) = some (.inl (.object "FlagLaundry$Test", 7, .inr (.inr (.inr (.inr fut8))))) := h6t8
      have zτ15 : kx (wF V i15) τ15 τ15 := kx.rf
      refine A_iload dX1_hangAll_15 rfl ?_
      refine A_aload_n (i := 2) dX1_hangAll_17 rfl rfl ?_
      refine A_callV0E (b' := ((nF N) - (i15 + 1)) * 1 + 0 + 1) (v := some (.int (nI (nF (haU N i15))))) (τ := τ15) (c_many τ15 (setP V P5) (haU N i15) hR8 hD8.1) tX5_many q1369 fτ15t8_0 rfl rfl dX1_hangAll_18 (by decide) (by omega) (Nat.le_of_ble_eq_true rfl) ?_
      refine A_icmp_ge_f (tgt := 90) dX1_hangAll_21 (by decide) (br_lt (by rw [en8]) hi15 (by omega)) ?_
      refine A_aload_n (i := 2) dX1_hangAll_24 rfl rfl ?_
      refine A_callV0E (b' := ((nF N) - (i15 + 1)) * 1 + 0 + 1) (v := some (.int (freeN (haU N i15)))) (τ := τ15) (c_freePeg5 τ15 (setP V P5) (haU N i15) hR8 hD8) tX5_freePeg q2096 fτ15t8_0 rfl rfl dX1_hangAll_25 (by decide) (by omega) (Nat.le_of_ble_eq_true rfl) ?_
      refine A_istore dX1_hangAll_28 (Nat.le_of_ble_eq_true rfl) ?_
      refine A_iload dX1_hangAll_30 rfl ?_
      refine A_iconst (v := (-1)) dX1_hangAll_32 (by decide) ?_
      refine A_icmp_eq (tgt := 84) dX1_hangAll_33 (by decide) (fun c1 => ?_) (fun c1 => ?_)
      · skip
        refine A_iinc (v := nI (i15 + 1)) dX1_hangAll_84 rfl (nI_inc _ _) (Nat.le_of_ble_eq_true rfl) ?_
        refine A_goto (tgt := 15) dX1_hangAll_87 (by decide) ?_
        have hR9 : RW g τ15 (setP V P5) (haU N (i15 + 1)) := by rw [haU_s, if_neg (fun q => q.2.2 c1)]; exact hR8
        refine A_less (b' := ((nF N) - (i15 + 1)) * 1 + 0) (by omega) ?_
        refine A_sub (L' := [(0, .ref x), (1, .ref (wW W)), (2, .ref (wW V)), (3, .int (haC N (i15 + 1))), (4, .int (nI (i15 + 1)))]) ⟨rfl, rfl, rfl, (by unfold haC; rw [sm_s, bi_f (fun q => q.2.2 c1), Int32.add_zero]; rfl), rfl, trivial⟩ ?_
        exact ih15 τ15 (⟨⟨_, hR9⟩, k8.tr (zτ15.kl (Nat.le_trans hl5 k8.1) (hOV.2.2.2.2.2.2.2.1 i15 hi15))⟩)
      · skip
        refine A_aload_n (i := 2) dX1_hangAll_36 rfl rfl ?_
        refine A_iload dX1_hangAll_37 rfl ?_
        refine A_callV1E (b' := ((nF N) - (i15 + 1)) * 1 + 0 + 1) (v := some (.ref (wF V i15))) (τ := τ15) (c_flagOf τ15 (setP V P5) (haU N i15) i15 hR8 hD8.1 hi15') tX5_flagOf q1153 fτ15t8_0 rfl rfl dX1_hangAll_39 (by decide) (by omega) (Nat.le_of_ble_eq_true rfl) ?_
        refine A_callV0E (b' := ((nF N) - (i15 + 1)) * 1 + 0 + 1) (v := some (.int (bi (inBasket (haU N i15) i15)))) (τ := τ15) (c_fHere τ15 (wF V i15) (wP (setP V P5) i15) (fl (haU N i15) i15) (hR8.2.2.2.2.2.2.1 i15 hi15') (hR8.2.2.2.2.2.2.2.1 i15 hi15') (flok_k hD8 hi15')) tX7_isHere q1178 (hR8.2.2.2.2.2.2.1 i15 hi15') rfl rfl dX1_hangAll_42 (by decide) (by omega) (Nat.le_of_ble_eq_true rfl) ?_
        refine A_if_eq (tgt := 84) dX1_hangAll_45 (by decide) (fun c2 => ?_) (fun c2 => ?_)
        · skip
          have c2 := bi_eq0.mp c2
          refine A_iinc (v := nI (i15 + 1)) dX1_hangAll_84 rfl (nI_inc _ _) (Nat.le_of_ble_eq_true rfl) ?_
          refine A_goto (tgt := 15) dX1_hangAll_87 (by decide) ?_
          have hR9 : RW g τ15 (setP V P5) (haU N (i15 + 1)) := by rw [haU_s, if_neg (fun q => c2 q.2.1)]; exact hR8
          refine A_less (b' := ((nF N) - (i15 + 1)) * 1 + 0) (by omega) ?_
          refine A_sub (L' := [(0, .ref x), (1, .ref (wW W)), (2, .ref (wW V)), (3, .int (haC N (i15 + 1))), (4, .int (nI (i15 + 1)))]) ⟨rfl, rfl, rfl, (by unfold haC; rw [sm_s, bi_f (fun q => c2 q.2.1), Int32.add_zero]; rfl), rfl, trivial⟩ ?_
          exact ih15 τ15 (⟨⟨_, hR9⟩, k8.tr (zτ15.kl (Nat.le_trans hl5 k8.1) (hOV.2.2.2.2.2.2.2.1 i15 hi15))⟩)
        · skip
          have c2 := bi_ne0.mp c2
          refine A_aload_n (i := 2) dX1_hangAll_48 rfl rfl ?_
          refine A_iload dX1_hangAll_49 rfl ?_
          refine A_callV1E (b' := ((nF N) - (i15 + 1)) * 1 + 0 + 1) (v := some (.ref (wF V i15))) (τ := τ15) (c_flagOf τ15 (setP V P5) (haU N i15) i15 hR8 hD8.1 hi15') tX5_flagOf q1153 fτ15t8_0 rfl rfl dX1_hangAll_51 (by decide) (by omega) (Nat.le_of_ble_eq_true rfl) ?_
          refine A_getfN cb_X7 (hR8.2.2.2.2.2.2.1 i15 hi15') 4 (Nat.le_of_ble_eq_true rfl) q1110 rfl (v := .int (fl (haU N i15) i15 4)) rfl dX1_hangAll_54 ?_
          refine A_if_ne (tgt := 63) dX1_hangAll_57 (by decide) (fun c3 => ?_) (fun c3 => ?_)
          · skip
            refine A_aload_n (i := 2) dX1_hangAll_63 rfl rfl ?_
            refine A_iload dX1_hangAll_64 rfl ?_
            refine A_callV1E (b' := ((nF N) - (i15 + 1)) * 1 + 0 + 1) (v := some (.ref (wF V i15))) (τ := τ15) (c_flagOf τ15 (setP V P5) (haU N i15) i15 hR8 hD8.1 hi15') tX5_flagOf q1153 fτ15t8_0 rfl rfl dX1_hangAll_66 (by decide) (by omega) (Nat.le_of_ble_eq_true rfl) ?_
            refine A_new (b' := ((nF N) - (i15 + 1)) * 1 + 0 + 0) (u := 1) cb_X11 q1422 q1336 q168 (fs := [.int 0]) (by intro j hj; rcases j with _ | j; exact rfl; omega) (by omega) ⟨Nat.le_of_ble_eq_true rfl, Nat.le_of_ble_eq_true rfl⟩ dX1_hangAll_69 ?_
            obtain ⟨σ1, eσ1⟩ : ∃ τ, τ = h_new τ15 (.inr (.inl (9, [.int 0]))) := ⟨_, rfl⟩
            refine A_st (σ' := σ1) eσ1.symm ?_
            have wσ1 : wfh σ1 := by rw [eσ1]; exact wτ15.new
            have fσ1_0 : σ1.1 (wW V) = some (.inr (.inl (4, [.int ((haU N i15) 9), .ref (wR V), .ref (wM V), .ref (wNL V), .ref (wFL V), .ref (wUN V), .int ((haU N i15) 6), .int ((haU N i15) 8), .int ((haU N i15) 0), .int ((haU N i15) 1), .int ((haU N i15) 2), .int ((haU N i15) 3), .int ((haU N i15) 4), .int ((haU N i15) 5), .int ((haU N i15) 11)]))) := by rw [eσ1]; exact (hn_ne (Nat.ne_of_lt (wτ15 _ _ fτ15t8_0))).trans fτ15t8_0
            have fσ1_1 : σ1.1 (wFL V) = some (.inr (.inl (14, [.int mcft8, .ref (wFA V), .int (nI (nF (haU N i15)))]))) := by rw [eσ1]; exact (hn_ne (Nat.ne_of_lt (wτ15 _ _ fτ15t8_1))).trans fτ15t8_1
            have fσ1_2 : σ1.1 (wFA V) = some (.inl (.object "java/lang/Object", 12, .inr (.inr (.inr (.inr ffAt8))))) := by rw [eσ1]; exact (hn_ne (Nat.ne_of_lt (wτ15 _ _ fτ15t8_2))).trans fτ15t8_2
            have fσ1_3 : σ1.1 (wNL V) = some (.inr (.inl (14, [.int mcnt8, .ref (wNA V), .int (nI (nN (haU N i15)))]))) := by rw [eσ1]; exact (hn_ne (Nat.ne_of_lt (wτ15 _ _ fτ15t8_3))).trans fτ15t8_3
            have fσ1_4 : σ1.1 (wNA V) = some (.inl (.object "java/lang/Object", 4, .inr (.inr (.inr (.inr fnAt8))))) := by rw [eσ1]; exact (hn_ne (Nat.ne_of_lt (wτ15 _ _ fτ15t8_4))).trans fτ15t8_4
            have fσ1_5 : σ1.1 (wR V) = some (.inl (.int, 6, .inl frt8)) := by rw [eσ1]; exact (hn_ne (Nat.ne_of_lt (wτ15 _ _ fτ15t8_5))).trans fτ15t8_5
            have fσ1_6 : σ1.1 (wM V) = some (.inl (.int, 3, .inl fmt8)) := by rw [eσ1]; exact (hn_ne (Nat.ne_of_lt (wτ15 _ _ fτ15t8_6))).trans fτ15t8_6
            have fσ1_7 : σ1.1 (wUN V) = some (.inl (.object "FlagLaundry$Test", 7, .inr (.inr (.inr (.inr fut8))))) := by rw [eσ1]; exact (hn_ne (Nat.ne_of_lt (wτ15 _ _ fτ15t8_7))).trans fτ15t8_7
            have fσ1_8 : σ1.1 (wF V i15) = some (.inr (.inl (6, [.int (fl (haU N i15) i15 0), .int (fl (haU N i15) i15 1), .int (fl (haU N i15) i15 2), .int (fl (haU N i15) i15 3), .int (fl (haU N i15) i15 4), .int (fl (haU N i15) i15 5), .int (fl (haU N i15) i15 6), .int (fl (haU N i15) i15 7), .ref (wP (setP V P5) i15)]))) := by rw [eσ1]; exact (hn_ne (Nat.ne_of_lt (wτ15 _ _ (hR8.2.2.2.2.2.2.1 i15 hi15')))).trans (hR8.2.2.2.2.2.2.1 i15 hi15')
            have fσ1_9 : σ1.1 τ15.2 = some (.inr (.inl (9, [.int 0]))) := by rw [eσ1]; exact if_pos rfl
            have xσ1 : ext τ15 σ1 := by rw [eσ1]; exact ext_new _ _
            have zσ1 : kx (wF V i15) τ15 σ1 := by rw [eσ1]; exact zτ15.new
            have hRσ1 : RW g σ1 (setP V P5) (haU N i15) := hR8.ext wτ15 xσ1
            refine A_dup dX1_hangAll_72 rfl ?_
            refine A_iload dX1_hangAll_73 rfl ?_
            refine A_callI1 (b' := ((nF N) - (i15 + 1)) * 1 + 0 + 0) (c_X11init σ1 τ15.2 (freeN (haU N i15)) fσ1_9) tX11_init q2097 dX1_hangAll_75 (by decide) (by omega) (Nat.le_of_ble_eq_true rfl) (fun w9 σ2 h9 => ?_) (fun E9 q9 τ9 h9 => h9.elim)
            obtain ⟨e9, fσ2_a, kσ2⟩ := h9
            subst e9
            refine A_wfh (fun wσ2 hgσ2 => ?_)
            have zσ2 : kx (wF V i15) τ15 σ2 := zσ1.trN (zτ15.1) kσ2
            have fσ2_0 : σ2.1 (wW V) = some (.inr (.inl (4, [.int ((haU N i15) 9), .ref (wR V), .ref (wM V), .ref (wNL V), .ref (wFL V), .ref (wUN V), .int ((haU N i15) 6), .int ((haU N i15) 8), .int ((haU N i15) 0), .int ((haU N i15) 1), .int ((haU N i15) 2), .int ((haU N i15) 3), .int ((haU N i15) 4), .int ((haU N i15) 5), .int ((haU N i15) 11)]))) := kσ2.at wσ1 fσ1_0 (ne_of (x := .inr (.inl (4, [.int ((haU N i15) 9), .ref (wR V), .ref (wM V), .ref (wNL V), .ref (wFL V), .ref (wUN V), .int ((haU N i15) 6), .int ((haU N i15) 8), .int ((haU N i15) 0), .int ((haU N i15) 1), .int ((haU N i15) 2), .int ((haU N i15) 3), .int ((haU N i15) 4), .int ((haU N i15) 5), .int ((haU N i15) 11)]))) (y := .inr (.inl (9, [.int 0]))) fσ1_0 fσ1_9 (fun e8 => by simp at e8))
            have fσ2_1 : σ2.1 (wFL V) = some (.inr (.inl (14, [.int mcft8, .ref (wFA V), .int (nI (nF (haU N i15)))]))) := kσ2.at wσ1 fσ1_1 (ne_of (x := .inr (.inl (14, [.int mcft8, .ref (wFA V), .int (nI (nF (haU N i15)))]))) (y := .inr (.inl (9, [.int 0]))) fσ1_1 fσ1_9 (fun e8 => by simp at e8))
            have fσ2_2 : σ2.1 (wFA V) = some (.inl (.object "java/lang/Object", 12, .inr (.inr (.inr (.inr ffAt8))))) := kσ2.at wσ1 fσ1_2 (ne_of (x := .inl (.object "java/lang/Object", 12, .inr (.inr (.inr (.inr ffAt8))))) (y := .inr (.inl (9, [.int 0]))) fσ1_2 fσ1_9 (fun e8 => by simp at e8))
            have fσ2_3 : σ2.1 (wNL V) = some (.inr (.inl (14, [.int mcnt8, .ref (wNA V), .int (nI (nN (haU N i15)))]))) := kσ2.at wσ1 fσ1_3 (ne_of (x := .inr (.inl (14, [.int mcnt8, .ref (wNA V), .int (nI (nN (haU N i15)))]))) (y := .inr (.inl (9, [.int 0]))) fσ1_3 fσ1_9 (fun e8 => by simp at e8))
            have fσ2_4 : σ2.1 (wNA V) = some (.inl (.object "java/lang/Object", 4, .inr (.inr (.inr (.inr fnAt8))))) := kσ2.at wσ1 fσ1_4 (ne_of (x := .inl (.object "java/lang/Object", 4, .inr (.inr (.inr (.inr fnAt8))))) (y := .inr (.inl (9, [.int 0]))) fσ1_4 fσ1_9 (fun e8 => by simp at e8))
            have fσ2_5 : σ2.1 (wR V) = some (.inl (.int, 6, .inl frt8)) := kσ2.at wσ1 fσ1_5 (ne_of (x := .inl (.int, 6, .inl frt8)) (y := .inr (.inl (9, [.int 0]))) fσ1_5 fσ1_9 (fun e8 => by simp at e8))
            have fσ2_6 : σ2.1 (wM V) = some (.inl (.int, 3, .inl fmt8)) := kσ2.at wσ1 fσ1_6 (ne_of (x := .inl (.int, 3, .inl fmt8)) (y := .inr (.inl (9, [.int 0]))) fσ1_6 fσ1_9 (fun e8 => by simp at e8))
            have fσ2_7 : σ2.1 (wUN V) = some (.inl (.object "FlagLaundry$Test", 7, .inr (.inr (.inr (.inr fut8))))) := kσ2.at wσ1 fσ1_7 (ne_of (x := .inl (.object "FlagLaundry$Test", 7, .inr (.inr (.inr (.inr fut8))))) (y := .inr (.inl (9, [.int 0]))) fσ1_7 fσ1_9 (fun e8 => by simp at e8))
            have fσ2_8 : σ2.1 (wF V i15) = some (.inr (.inl (6, [.int (fl (haU N i15) i15 0), .int (fl (haU N i15) i15 1), .int (fl (haU N i15) i15 2), .int (fl (haU N i15) i15 3), .int (fl (haU N i15) i15 4), .int (fl (haU N i15) i15 5), .int (fl (haU N i15) i15 6), .int (fl (haU N i15) i15 7), .ref (wP (setP V P5) i15)]))) := kσ2.at wσ1 fσ1_8 (ne_of (x := .inr (.inl (6, [.int (fl (haU N i15) i15 0), .int (fl (haU N i15) i15 1), .int (fl (haU N i15) i15 2), .int (fl (haU N i15) i15 3), .int (fl (haU N i15) i15 4), .int (fl (haU N i15) i15 5), .int (fl (haU N i15) i15 6), .int (fl (haU N i15) i15 7), .ref (wP (setP V P5) i15)]))) (y := .inr (.inl (9, [.int 0]))) fσ1_8 fσ1_9 (fun e8 => by simp at e8))
            refine A_putfN cb_X7 fσ2_8 8 (Nat.le_of_ble_eq_true rfl) q1122 rfl rfl rfl rfl (Nat.le_of_ble_eq_true rfl) dX1_hangAll_78 ?_
            obtain ⟨σ3, eσ3⟩ : ∃ τ, τ = h_put σ2 (wF V i15) (.inr (.inl (6, [.int (fl (haU N i15) i15 0), .int (fl (haU N i15) i15 1), .int (fl (haU N i15) i15 2), .int (fl (haU N i15) i15 3), .int (fl (haU N i15) i15 4), .int (fl (haU N i15) i15 5), .int (fl (haU N i15) i15 6), .int (fl (haU N i15) i15 7), .ref τ15.2]))) := ⟨_, rfl⟩
            refine A_st (σ' := σ3) eσ3.symm ?_
            have wσ3 : wfh σ3 := by rw [eσ3]; exact wσ2.put fσ2_8
            have fσ3_0 : σ3.1 (wW V) = some (.inr (.inl (4, [.int ((haU N i15) 9), .ref (wR V), .ref (wM V), .ref (wNL V), .ref (wFL V), .ref (wUN V), .int ((haU N i15) 6), .int ((haU N i15) 8), .int ((haU N i15) 0), .int ((haU N i15) 1), .int ((haU N i15) 2), .int ((haU N i15) 3), .int ((haU N i15) 4), .int ((haU N i15) 5), .int ((haU N i15) 11)]))) := by rw [eσ3]; exact (hp_ne (ne_of (x := .inr (.inl (4, [.int ((haU N i15) 9), .ref (wR V), .ref (wM V), .ref (wNL V), .ref (wFL V), .ref (wUN V), .int ((haU N i15) 6), .int ((haU N i15) 8), .int ((haU N i15) 0), .int ((haU N i15) 1), .int ((haU N i15) 2), .int ((haU N i15) 3), .int ((haU N i15) 4), .int ((haU N i15) 5), .int ((haU N i15) 11)]))) (y := .inr (.inl (6, [.int (fl (haU N i15) i15 0), .int (fl (haU N i15) i15 1), .int (fl (haU N i15) i15 2), .int (fl (haU N i15) i15 3), .int (fl (haU N i15) i15 4), .int (fl (haU N i15) i15 5), .int (fl (haU N i15) i15 6), .int (fl (haU N i15) i15 7), .ref (wP (setP V P5) i15)]))) fσ2_0 fσ2_8 (fun e8 => by simp at e8))).trans fσ2_0
            have fσ3_1 : σ3.1 (wFL V) = some (.inr (.inl (14, [.int mcft8, .ref (wFA V), .int (nI (nF (haU N i15)))]))) := by rw [eσ3]; exact (hp_ne (ne_of (x := .inr (.inl (14, [.int mcft8, .ref (wFA V), .int (nI (nF (haU N i15)))]))) (y := .inr (.inl (6, [.int (fl (haU N i15) i15 0), .int (fl (haU N i15) i15 1), .int (fl (haU N i15) i15 2), .int (fl (haU N i15) i15 3), .int (fl (haU N i15) i15 4), .int (fl (haU N i15) i15 5), .int (fl (haU N i15) i15 6), .int (fl (haU N i15) i15 7), .ref (wP (setP V P5) i15)]))) fσ2_1 fσ2_8 (fun e8 => by simp at e8))).trans fσ2_1
            have fσ3_2 : σ3.1 (wFA V) = some (.inl (.object "java/lang/Object", 12, .inr (.inr (.inr (.inr ffAt8))))) := by rw [eσ3]; exact (hp_ne (ne_of (x := .inl (.object "java/lang/Object", 12, .inr (.inr (.inr (.inr ffAt8))))) (y := .inr (.inl (6, [.int (fl (haU N i15) i15 0), .int (fl (haU N i15) i15 1), .int (fl (haU N i15) i15 2), .int (fl (haU N i15) i15 3), .int (fl (haU N i15) i15 4), .int (fl (haU N i15) i15 5), .int (fl (haU N i15) i15 6), .int (fl (haU N i15) i15 7), .ref (wP (setP V P5) i15)]))) fσ2_2 fσ2_8 (fun e8 => by simp at e8))).trans fσ2_2
            have fσ3_3 : σ3.1 (wNL V) = some (.inr (.inl (14, [.int mcnt8, .ref (wNA V), .int (nI (nN (haU N i15)))]))) := by rw [eσ3]; exact (hp_ne (ne_of (x := .inr (.inl (14, [.int mcnt8, .ref (wNA V), .int (nI (nN (haU N i15)))]))) (y := .inr (.inl (6, [.int (fl (haU N i15) i15 0), .int (fl (haU N i15) i15 1), .int (fl (haU N i15) i15 2), .int (fl (haU N i15) i15 3), .int (fl (haU N i15) i15 4), .int (fl (haU N i15) i15 5), .int (fl (haU N i15) i15 6), .int (fl (haU N i15) i15 7), .ref (wP (setP V P5) i15)]))) fσ2_3 fσ2_8 (fun e8 => by simp at e8))).trans fσ2_3
            have fσ3_4 : σ3.1 (wNA V) = some (.inl (.object "java/lang/Object", 4, .inr (.inr (.inr (.inr fnAt8))))) := by rw [eσ3]; exact (hp_ne (ne_of (x := .inl (.object "java/lang/Object", 4, .inr (.inr (.inr (.inr fnAt8))))) (y := .inr (.inl (6, [.int (fl (haU N i15) i15 0), .int (fl (haU N i15) i15 1), .int (fl (haU N i15) i15 2), .int (fl (haU N i15) i15 3), .int (fl (haU N i15) i15 4), .int (fl (haU N i15) i15 5), .int (fl (haU N i15) i15 6), .int (fl (haU N i15) i15 7), .ref (wP (setP V P5) i15)]))) fσ2_4 fσ2_8 (fun e8 => by simp at e8))).trans fσ2_4
            have fσ3_5 : σ3.1 (wR V) = some (.inl (.int, 6, .inl frt8)) := by rw [eσ3]; exact (hp_ne (ne_of (x := .inl (.int, 6, .inl frt8)) (y := .inr (.inl (6, [.int (fl (haU N i15) i15 0), .int (fl (haU N i15) i15 1), .int (fl (haU N i15) i15 2), .int (fl (haU N i15) i15 3), .int (fl (haU N i15) i15 4), .int (fl (haU N i15) i15 5), .int (fl (haU N i15) i15 6), .int (fl (haU N i15) i15 7), .ref (wP (setP V P5) i15)]))) fσ2_5 fσ2_8 (fun e8 => by simp at e8))).trans fσ2_5
            have fσ3_6 : σ3.1 (wM V) = some (.inl (.int, 3, .inl fmt8)) := by rw [eσ3]; exact (hp_ne (ne_of (x := .inl (.int, 3, .inl fmt8)) (y := .inr (.inl (6, [.int (fl (haU N i15) i15 0), .int (fl (haU N i15) i15 1), .int (fl (haU N i15) i15 2), .int (fl (haU N i15) i15 3), .int (fl (haU N i15) i15 4), .int (fl (haU N i15) i15 5), .int (fl (haU N i15) i15 6), .int (fl (haU N i15) i15 7), .ref (wP (setP V P5) i15)]))) fσ2_6 fσ2_8 (fun e8 => by simp at e8))).trans fσ2_6
            have fσ3_7 : σ3.1 (wUN V) = some (.inl (.object "FlagLaundry$Test", 7, .inr (.inr (.inr (.inr fut8))))) := by rw [eσ3]; exact (hp_ne (ne_of (x := .inl (.object "FlagLaundry$Test", 7, .inr (.inr (.inr (.inr fut8))))) (y := .inr (.inl (6, [.int (fl (haU N i15) i15 0), .int (fl (haU N i15) i15 1), .int (fl (haU N i15) i15 2), .int (fl (haU N i15) i15 3), .int (fl (haU N i15) i15 4), .int (fl (haU N i15) i15 5), .int (fl (haU N i15) i15 6), .int (fl (haU N i15) i15 7), .ref (wP (setP V P5) i15)]))) fσ2_7 fσ2_8 (fun e8 => by simp at e8))).trans fσ2_7
            have fσ3_8 : σ3.1 (wF V i15) = some (.inr (.inl (6, [.int (fl (haU N i15) i15 0), .int (fl (haU N i15) i15 1), .int (fl (haU N i15) i15 2), .int (fl (haU N i15) i15 3), .int (fl (haU N i15) i15 4), .int (fl (haU N i15) i15 5), .int (fl (haU N i15) i15 6), .int (fl (haU N i15) i15 7), .ref τ15.2]))) := by rw [eσ3]; exact if_pos rfl
            have fσ3_9 : σ3.1 τ15.2 = some (.inr (.inl (9, [.int (freeN (haU N i15))]))) := by rw [eσ3]; exact (hp_ne (ne_of (x := .inr (.inl (9, [.int (freeN (haU N i15))]))) (y := .inr (.inl (6, [.int (fl (haU N i15) i15 0), .int (fl (haU N i15) i15 1), .int (fl (haU N i15) i15 2), .int (fl (haU N i15) i15 3), .int (fl (haU N i15) i15 4), .int (fl (haU N i15) i15 5), .int (fl (haU N i15) i15 6), .int (fl (haU N i15) i15 7), .ref (wP (setP V P5) i15)]))) fσ2_a fσ2_8 (fun e8 => by simp at e8))).trans fσ2_a
            have zσ3 : kx (wF V i15) τ15 σ3 := by rw [eσ3]; exact zσ2.put
            refine A_iinc (v := (haC N i15 + 1)) dX1_hangAll_81 rfl (rfl) (Nat.le_of_ble_eq_true rfl) ?_
            refine A_iinc (v := nI (i15 + 1)) dX1_hangAll_84 rfl (nI_inc _ _) (Nat.le_of_ble_eq_true rfl) ?_
            refine A_goto (tgt := 15) dX1_hangAll_87 (by decide) ?_
            have hR9 : RW g σ3 (setP V (upP P5 i15 τ15.2)) (haU N (i15 + 1)) := by
              rw [haU_s, if_pos ⟨c3, c2, c1⟩]
              exact hR8.flag (F := plF (fl (haU N i15) i15) 2 (freeN (haU N i15)) (fl (haU N i15) i15 10)) wτ15 hD8.1 hi15' zσ3 fσ3_8 fσ3_9 (upF_goTo _ _ _ _)
            refine A_less (b' := ((nF N) - (i15 + 1)) * 1 + 0) (by omega) ?_
            refine A_sub (L' := [(0, .ref x), (1, .ref (wW W)), (2, .ref (wW V)), (3, .int (haC N (i15 + 1))), (4, .int (nI (i15 + 1)))]) ⟨rfl, rfl, rfl, (by unfold haC; rw [sm_s, bi_t ⟨c3, c2, c1⟩]; rfl), rfl, trivial⟩ ?_
            exact ih15 σ3 (⟨⟨_, hR9⟩, k8.tr (zσ3.kl (Nat.le_trans hl5 k8.1) (hOV.2.2.2.2.2.2.2.1 i15 hi15))⟩)
          · skip
            refine A_goto (tgt := 84) dX1_hangAll_60 (by decide) ?_
            refine A_iinc (v := nI (i15 + 1)) dX1_hangAll_84 rfl (nI_inc _ _) (Nat.le_of_ble_eq_true rfl) ?_
            refine A_goto (tgt := 15) dX1_hangAll_87 (by decide) ?_
            have hR9 : RW g τ15 (setP V P5) (haU N (i15 + 1)) := by rw [haU_s, if_neg (fun q => q.1 c3)]; exact hR8
            refine A_less (b' := ((nF N) - (i15 + 1)) * 1 + 0) (by omega) ?_
            refine A_sub (L' := [(0, .ref x), (1, .ref (wW W)), (2, .ref (wW V)), (3, .int (haC N (i15 + 1))), (4, .int (nI (i15 + 1)))]) ⟨rfl, rfl, rfl, (by unfold haC; rw [sm_s, bi_f (fun q => q.1 c3), Int32.add_zero]; rfl), rfl, trivial⟩ ?_
            exact ih15 τ15 (⟨⟨_, hR9⟩, k8.tr (zτ15.kl (Nat.le_trans hl5 k8.1) (hOV.2.2.2.2.2.2.2.1 i15 hi15))⟩)
    · skip
      refine A_less (b' := 0) (by omega) ?_
      obtain ⟨⟨P5, hR8⟩, k8⟩ := hI15
      refine A_wfh (fun wτ15 hgτ15 => ?_)
      have hD8 : WFd (haU N (nF N)) := WFd_haU hD (nF N) (by first | exact Nat.le_refl _ | exact Nat.le_of_lt hi15)
      have en8 : nF (haU N (nF N)) = nF N := (hdr_haU N (nF N)).nFe
      have hRc := hR8
      obtain ⟨h1t8, ⟨frt8, h2t8, h2pt8⟩, ⟨fmt8, h3t8, h3pt8⟩, ⟨mcnt8, fnAt8, h4t8, h4pt8, h4qt8⟩, ⟨mcft8, ffAt8, h5t8, h5pt8, h5qt8⟩, ⟨fut8, h6t8, h6pt8⟩, h7t8, h8t8, h9t8, h10t8, h11t8⟩ := hRc
      have fτ15t8_0 : τ15.1 (wW V) = some (.inr (.inl (4, [.int ((haU N (nF N)) 9), .ref (wR V), .ref (wM V), .ref (wNL V), .ref (wFL V), .ref (wUN V), .int ((haU N (nF N)) 6), .int ((haU N (nF N)) 8), .int ((haU N (nF N)) 0), .int ((haU N (nF N)) 1), .int ((haU N (nF N)) 2), .int ((haU N (nF N)) 3), .int ((haU N (nF N)) 4), .int ((haU N (nF N)) 5), .int ((haU N (nF N)) 11)]))) := h1t8
      have fτ15t8_1 : τ15.1 (wFL V) = some (.inr (.inl (14, [.int mcft8, .ref (wFA V), .int (nI (nF (haU N (nF N))))]))) := h5t8
      have fτ15t8_2 : τ15.1 (wFA V) = some (.inl (.object "java/lang/Object", 12, .inr (.inr (.inr (.inr ffAt8))))) := h5pt8
      have fτ15t8_3 : τ15.1 (wNL V) = some (.inr (.inl (14, [.int mcnt8, .ref (wNA V), .int (nI (nN (haU N (nF N))))]))) := h4t8
      have fτ15t8_4 : τ15.1 (wNA V) = some (.inl (.object "java/lang/Object", 4, .inr (.inr (.inr (.inr fnAt8))))) := h4pt8
      have fτ15t8_5 : τ15.1 (wR V) = some (.inl (.int, 6, .inl frt8)) := h2t8
      have fτ15t8_6 : τ15.1 (wM V) = some (.inl (.int, 3, .inl fmt8)) := h3t8
      have fτ15t8_7 : τ15.1 (wUN V) = some (.inl (.object "FlagLaundry$Test", 7, .inr (.inr (.inr (.inr fut8))))) := h6t8
      refine A_iload dX1_hangAll_15 rfl ?_
      refine A_aload_n (i := 2) dX1_hangAll_17 rfl rfl ?_
      refine A_callV0E (b' := 0) (v := some (.int (nI (nF (haU N (nF N)))))) (τ := τ15) (c_many τ15 (setP V P5) (haU N (nF N)) hR8 hD8.1) tX5_many q1369 fτ15t8_0 rfl rfl dX1_hangAll_18 (by decide) (Nat.le_of_ble_eq_true rfl) (Nat.le_of_ble_eq_true rfl) ?_
      refine A_icmp_ge_t (tgt := 90) dX1_hangAll_21 (by decide) (br_ge (by rw [en8])) ?_
      refine A_iload_n (i := 3) dX1_hangAll_90 rfl rfl ?_
      exact A_iret dX1_hangAll_91 rfl (⟨(mayQ_0 hs (by decide) (by decide)), rfl, (setP V P5), _, (k8.2 x (wσ _ _ hX)).trans fx5, hR8, hDQ5.kl k8 (hQ.lt wσ).1 (hQ.lt wσ).2, fra0.kl k8, n0.kl wσ (Nat.le_refl _) k8⟩)
theorem q_clearTub {l : Launch} {g : GC} (σ : AH) (x bf dq sv ou : Nat) (bd pe ep : Int32) (is : Int32) (nv : Value) (W : WA) (N : AF) (t : Int32) (da hq u : Nat) (e : Nat → Nat) (hL : LD g σ is nv W N) (hX : σ.1 x = some (lauC bf bd pe ep nv dq sv ou)) (hQ : DQ σ dq da hq u e) (hu : u ≤ 8) : AMet l g mX1_clearTub 34 84 [.ref x, .int t] σ (A_mq g (mayT is (bi (okT is N t)) 1) (.int (manyT N t)) bf bd pe ep dq sv ou x da u e W (clU N t (nF N)) σ) (A_thr ["java/lang/IllegalStateException", "java/lang/IndexOutOfBoundsException"] (mayT is (bi (okT is N t)) 1) σ) := by
  rcases hL with ⟨h0, hn⟩ | ⟨hs, hn, hR, hD, hw, hh⟩
  · subst hn
    refine A_of rfl (by decide) (Nat.le_of_ble_eq_true rfl) (L0 := [(0, .ref x), (1, .int t)]) rfl ?_
    refine A_wfh (fun wσ hgσ => ?_)
    have yσ : ext σ σ := ext.rf
    refine A_aload_n (i := 0) dX1_clearTub_0 rfl rfl ?_
    refine A_iload_n (i := 1) dX1_clearTub_1 rfl rfl ?_
    refine A_callV1 (b' := 0) (u_checkTub σ x bf dq sv ou bd pe ep t hX) tX1_checkTub q1505 hX rfl rfl dX1_clearTub_2 (by decide) (Nat.le_of_ble_eq_true rfl) (Nat.le_of_ble_eq_true rfl) (fun w9 τ9 h9 => h9.elim) (fun E9 q9 τ9 h9 => A_out rfl (⟨yσ.tr h9.2, 0, by rw [h9.1]; rfl, by rw [(mayQ_1 h0)]; rfl⟩))
  · subst hn
    have hW := hD.1
    have hR9 := hR
    obtain ⟨h1, ⟨fr, h2, h2p⟩, ⟨fm, h3, h3p⟩, ⟨mcn, fnA, h4, h4p, h4q⟩, ⟨mcf, ffA, h5, h5p, h5q⟩, ⟨fu, h6, h6p⟩, h7, h8, h9, h10, h11⟩ := hR
    have hF12 : nF N ≤ 12 := hW.2.2.2.2.2
    have hN4 : nN N ≤ 4 := hW.2.1.2
    have hC6 : nC N ≤ 6 := hW.1.2
    have hT3 : nT N ≤ 3 := hW.2.2.1.2
    have hP8 : nP N ≤ 8 := hW.2.2.2.1.2
    by_cases ck1 : inR t 0 (N 8 - 1)
    · skip
      obtain ⟨jt, hjt, rfl⟩ := in_ex hW.2.2.1.1 (Nat.le_trans hT3 (by decide)) ck1
      have bjt : jt < 2000 := Nat.lt_of_lt_of_le hjt (Nat.le_trans hT3 (by decide))
      refine A_of rfl (by decide) (Nat.le_of_ble_eq_true rfl) (L0 := [(0, .ref x), (1, .int (nI jt))]) rfl ?_
      refine A_wfh (fun wσ hgσ => ?_)
      have yσ : ext σ σ := ext.rf
      refine A_aload_n (i := 0) dX1_clearTub_0 rfl rfl ?_
      refine A_iload_n (i := 1) dX1_clearTub_1 rfl rfl ?_
      refine A_callV1E (b' := 84) (v := some (.ref (wW W))) (τ := σ) (c_checkTub σ x bf dq sv ou bd pe ep W N jt hX hR9 hD hjt) tX1_checkTub q1505 hX rfl rfl dX1_clearTub_2 (by decide) (Nat.le_of_ble_eq_true rfl) (Nat.le_of_ble_eq_true rfl) ?_
      refine A_iload_n (i := 1) dX1_clearTub_5 rfl rfl ?_
      refine A_callV1 (b' := 83) (c_within σ W N (nI jt) hR9 hD) tX5_within q1184 h1 rfl rfl dX1_clearTub_6 (by decide) (Nat.le_of_ble_eq_true rfl) (Nat.le_of_ble_eq_true rfl) (fun w9 σ1 h9 => ?_) (fun E9 q9 τ9 h9 => h9.elim)
      obtain ⟨e9, xσ1⟩ := h9
      subst e9
      refine A_wfh (fun wσ1 hgσ1 => ?_)
      have yσ1 : ext σ σ1 := yσ.tr (xσ1)
      have fσ1_0 : σ1.1 (wW W) = some (.inr (.inl (4, [.int (N 9), .ref (wR W), .ref (wM W), .ref (wNL W), .ref (wFL W), .ref (wUN W), .int (N 6), .int (N 8), .int (N 0), .int (N 1), .int (N 2), .int (N 3), .int (N 4), .int (N 5), .int (N 11)]))) := xσ1.at wσ h1
      have fσ1_1 : σ1.1 (wFL W) = some (.inr (.inl (14, [.int mcf, .ref (wFA W), .int (nI (nF N))]))) := xσ1.at wσ h5
      have fσ1_2 : σ1.1 (wFA W) = some (.inl (.object "java/lang/Object", 12, .inr (.inr (.inr (.inr ffA))))) := xσ1.at wσ h5p
      have fσ1_3 : σ1.1 (wNL W) = some (.inr (.inl (14, [.int mcn, .ref (wNA W), .int (nI (nN N))]))) := xσ1.at wσ h4
      have fσ1_4 : σ1.1 (wNA W) = some (.inl (.object "java/lang/Object", 4, .inr (.inr (.inr (.inr fnA))))) := xσ1.at wσ h4p
      have fσ1_5 : σ1.1 (wR W) = some (.inl (.int, 6, .inl fr)) := xσ1.at wσ h2
      have fσ1_6 : σ1.1 (wM W) = some (.inl (.int, 3, .inl fm)) := xσ1.at wσ h3
      have fσ1_7 : σ1.1 (wUN W) = some (.inl (.object "FlagLaundry$Test", 7, .inr (.inr (.inr (.inr fu))))) := xσ1.at wσ h6
      have fσ1_8 : σ1.1 x = some (.inr (.inl (0, [.ref bf, .int bd, .int pe, .int ep, .ref (wW W), .ref dq, .ref sv, .ref ou]))) := xσ1.at wσ hX
      have hRσ1 : RW g σ1 W N := hR9.ext wσ xσ1
      refine A_istore_n (i := 2) dX1_clearTub_9 rfl (Nat.le_of_ble_eq_true rfl) ?_
      refine A_aload_n (i := 0) dX1_clearTub_10 rfl rfl ?_
      refine A_callV0 (b' := 14) (c_changed σ1 x bf dq sv ou bd pe ep W N da hq u e fσ1_8 hRσ1 hD (hQ.ex wσ yσ1) hu) tX1_changed q2040 fσ1_8 rfl rfl dX1_clearTub_11 (by decide) (Nat.le_of_ble_eq_true rfl) (Nat.le_of_ble_eq_true rfl) (fun w9 τ5 h5 => ?_) (fun E9 q9 τ9 h9 => h9.elim)
      obtain ⟨V, h5q, e5, fx5, hRV, hOW, hDQ5, fr5, n5⟩ := h5
      subst e5
      refine A_wfh (fun wτ5 hgτ5 => ?_)
      have fra0 : fra [x, dq, da] σ τ5 := (fra.rf.ex yσ1).tr fr5
      have n0 : nw σ τ5 := (nw.rf.ex wσ yσ1).tr n5
      have hOV : own σ.2 V N := hOW.le yσ1.1
      have hl5 : σ.2 ≤ τ5.2 := fra0.1
      have hRo : RW g τ5 W N := hR9.nw n0
      have hRc := hRV
      obtain ⟨h1v, ⟨frv, h2v, h2pv⟩, ⟨fmv, h3v, h3pv⟩, ⟨mcnv, fnAv, h4v, h4pv, h4qv⟩, ⟨mcfv, ffAv, h5v, h5pv, h5qv⟩, ⟨fuv, h6v, h6pv⟩, h7v, h8v, h9v, h10v, h11v⟩ := hRc
      have fτ5v_0 : τ5.1 (wW V) = some (.inr (.inl (4, [.int (N 9), .ref (wR V), .ref (wM V), .ref (wNL V), .ref (wFL V), .ref (wUN V), .int (N 6), .int (N 8), .int (N 0), .int (N 1), .int (N 2), .int (N 3), .int (N 4), .int (N 5), .int (N 11)]))) := h1v
      have fτ5v_1 : τ5.1 (wFL V) = some (.inr (.inl (14, [.int mcfv, .ref (wFA V), .int (nI (nF N))]))) := h5v
      have fτ5v_2 : τ5.1 (wFA V) = some (.inl (.object "java/lang/Object", 12, .inr (.inr (.inr (.inr ffAv))))) := h5pv
      have fτ5v_3 : τ5.1 (wNL V) = some (.inr (.inl (14, [.int mcnv, .ref (wNA V), .int (nI (nN N))]))) := h4v
      have fτ5v_4 : τ5.1 (wNA V) = some (.inl (.object "java/lang/Object", 4, .inr (.inr (.inr (.inr fnAv))))) := h4pv
      have fτ5v_5 : τ5.1 (wR V) = some (.inl (.int, 6, .inl frv)) := h2v
      have fτ5v_6 : τ5.1 (wM V) = some (.inl (.int, 3, .inl fmv)) := h3v
      have fτ5v_7 : τ5.1 (wUN V) = some (.inl (.object "FlagLaundry$Test", 7, .inr (.inr (.inr (.inr fuv))))) := h6v
      refine A_astore_n (i := 3) dX1_clearTub_14 rfl (Nat.le_of_ble_eq_true rfl) ?_
      refine A_aload_n (i := 3) dX1_clearTub_15 rfl rfl ?_
      refine A_getfN cb_X5 fτ5v_0 4 (Nat.le_of_ble_eq_true rfl) q834 rfl (v := .ref (wFL V)) rfl dX1_clearTub_16 ?_
      refine A_callF0E (b' := 13) (v := some (.ref τ5.2)) (τ := h_put (h_put (h_put (h_new τ5 (.inr (.inl (15, [.int 0, .int 0, .int 0, .null])))) τ5.2 (.inr (.inl (15, [.int 0, .int 0, .int 0, .ref (wFL V)])))) τ5.2 (.inr (.inl (15, [.int 0, .int (-1), .int 0, .ref (wFL V)])))) τ5.2 (.inr (.inl (15, [.int 0, .int (-1), .int mcfv, .ref (wFL V)])))) (c_lIter τ5 (wFL V) (wFA V) (nF N) mcfv fτ5v_1) tF_iterator q1916 fτ5v_1 rfl dX1_clearTub_19 (by decide) (Nat.le_of_ble_eq_true rfl) (Nat.le_of_ble_eq_true rfl) ?_
      obtain ⟨σ2, eσ2⟩ : ∃ τ, τ = h_put (h_put (h_put (h_new τ5 (.inr (.inl (15, [.int 0, .int 0, .int 0, .null])))) τ5.2 (.inr (.inl (15, [.int 0, .int 0, .int 0, .ref (wFL V)])))) τ5.2 (.inr (.inl (15, [.int 0, .int (-1), .int 0, .ref (wFL V)])))) τ5.2 (.inr (.inl (15, [.int 0, .int (-1), .int mcfv, .ref (wFL V)]))) := ⟨_, rfl⟩
      refine A_st (σ' := σ2) eσ2.symm ?_
      have wσ2 : wfh σ2 := by rw [eσ2]; exact ((((wτ5.new).put (if_pos rfl)).put (if_pos rfl)).put (if_pos rfl))
      have xσ2 : ext τ5 σ2 := by rw [eσ2]; exact ((((ext_new _ _).putN (Nat.le_refl _)).putN (Nat.le_refl _)).putN (Nat.le_refl _))
      have hRσ2 : RW g σ2 V N := hRV.ext wτ5 xσ2
      have fσ2_0 : σ2.1 (wW V) = some (.inr (.inl (4, [.int (N 9), .ref (wR V), .ref (wM V), .ref (wNL V), .ref (wFL V), .ref (wUN V), .int (N 6), .int (N 8), .int (N 0), .int (N 1), .int (N 2), .int (N 3), .int (N 4), .int (N 5), .int (N 11)]))) := by rw [eσ2]; exact ((hp_ne (Nat.ne_of_lt (wτ5 _ _ fτ5v_0))).trans ((hp_ne (Nat.ne_of_lt (wτ5 _ _ fτ5v_0))).trans ((hp_ne (Nat.ne_of_lt (wτ5 _ _ fτ5v_0))).trans ((hn_ne (by exact Nat.ne_of_lt (wτ5 _ _ fτ5v_0))).trans fτ5v_0))))
      have fσ2_1 : σ2.1 (wFL V) = some (.inr (.inl (14, [.int mcfv, .ref (wFA V), .int (nI (nF N))]))) := by rw [eσ2]; exact ((hp_ne (Nat.ne_of_lt (wτ5 _ _ fτ5v_1))).trans ((hp_ne (Nat.ne_of_lt (wτ5 _ _ fτ5v_1))).trans ((hp_ne (Nat.ne_of_lt (wτ5 _ _ fτ5v_1))).trans ((hn_ne (by exact Nat.ne_of_lt (wτ5 _ _ fτ5v_1))).trans fτ5v_1))))
      have fσ2_2 : σ2.1 (wFA V) = some (.inl (.object "java/lang/Object", 12, .inr (.inr (.inr (.inr ffAv))))) := by rw [eσ2]; exact ((hp_ne (Nat.ne_of_lt (wτ5 _ _ fτ5v_2))).trans ((hp_ne (Nat.ne_of_lt (wτ5 _ _ fτ5v_2))).trans ((hp_ne (Nat.ne_of_lt (wτ5 _ _ fτ5v_2))).trans ((hn_ne (by exact Nat.ne_of_lt (wτ5 _ _ fτ5v_2))).trans fτ5v_2))))
      have fσ2_3 : σ2.1 (wNL V) = some (.inr (.inl (14, [.int mcnv, .ref (wNA V), .int (nI (nN N))]))) := by rw [eσ2]; exact ((hp_ne (Nat.ne_of_lt (wτ5 _ _ fτ5v_3))).trans ((hp_ne (Nat.ne_of_lt (wτ5 _ _ fτ5v_3))).trans ((hp_ne (Nat.ne_of_lt (wτ5 _ _ fτ5v_3))).trans ((hn_ne (by exact Nat.ne_of_lt (wτ5 _ _ fτ5v_3))).trans fτ5v_3))))
      have fσ2_4 : σ2.1 (wNA V) = some (.inl (.object "java/lang/Object", 4, .inr (.inr (.inr (.inr fnAv))))) := by rw [eσ2]; exact ((hp_ne (Nat.ne_of_lt (wτ5 _ _ fτ5v_4))).trans ((hp_ne (Nat.ne_of_lt (wτ5 _ _ fτ5v_4))).trans ((hp_ne (Nat.ne_of_lt (wτ5 _ _ fτ5v_4))).trans ((hn_ne (by exact Nat.ne_of_lt (wτ5 _ _ fτ5v_4))).trans fτ5v_4))))
      have fσ2_5 : σ2.1 (wR V) = some (.inl (.int, 6, .inl frv)) := by rw [eσ2]; exact ((hp_ne (Nat.ne_of_lt (wτ5 _ _ fτ5v_5))).trans ((hp_ne (Nat.ne_of_lt (wτ5 _ _ fτ5v_5))).trans ((hp_ne (Nat.ne_of_lt (wτ5 _ _ fτ5v_5))).trans ((hn_ne (by exact Nat.ne_of_lt (wτ5 _ _ fτ5v_5))).trans fτ5v_5))))
      have fσ2_6 : σ2.1 (wM V) = some (.inl (.int, 3, .inl fmv)) := by rw [eσ2]; exact ((hp_ne (Nat.ne_of_lt (wτ5 _ _ fτ5v_6))).trans ((hp_ne (Nat.ne_of_lt (wτ5 _ _ fτ5v_6))).trans ((hp_ne (Nat.ne_of_lt (wτ5 _ _ fτ5v_6))).trans ((hn_ne (by exact Nat.ne_of_lt (wτ5 _ _ fτ5v_6))).trans fτ5v_6))))
      have fσ2_7 : σ2.1 (wUN V) = some (.inl (.object "FlagLaundry$Test", 7, .inr (.inr (.inr (.inr fuv))))) := by rw [eσ2]; exact ((hp_ne (Nat.ne_of_lt (wτ5 _ _ fτ5v_7))).trans ((hp_ne (Nat.ne_of_lt (wτ5 _ _ fτ5v_7))).trans ((hp_ne (Nat.ne_of_lt (wτ5 _ _ fτ5v_7))).trans ((hn_ne (by exact Nat.ne_of_lt (wτ5 _ _ fτ5v_7))).trans fτ5v_7))))
      have fσ2_8 : σ2.1 x = some (.inr (.inl (0, [.ref bf, .int bd, .int pe, .int ep, .ref (wW V), .ref dq, .ref sv, .ref ou]))) := by rw [eσ2]; exact ((hp_ne (Nat.ne_of_lt (wτ5 _ _ fx5))).trans ((hp_ne (Nat.ne_of_lt (wτ5 _ _ fx5))).trans ((hp_ne (Nat.ne_of_lt (wτ5 _ _ fx5))).trans ((hn_ne (by exact Nat.ne_of_lt (wτ5 _ _ fx5))).trans fx5))))
      have fσ2_9 : σ2.1 τ5.2 = some (.inr (.inl (15, [.int 0, .int (-1), .int mcfv, .ref (wFL V)]))) := by rw [eσ2]; exact (if_pos rfl)
      refine A_astore dX1_clearTub_24 (Nat.le_of_ble_eq_true rfl) ?_
      obtain ⟨iθ, eθ⟩ : ∃ a, a = τ5.2 := ⟨_, rfl⟩
      rw [← eθ]
      have fθ := fσ2_9
      rw [← eθ] at fθ
      have hiθ : σ.2 ≤ iθ := by rw [eθ]; exact Nat.le_trans hl5 (Nat.le_refl _)
      have xit : ext τ5 σ2 := xσ2
      refine A_less (b' := ((nF N) - 0) * 1 + 0) (by omega) ?_
      refine A_sub (L' := [(0, .ref x), (1, .int (nI jt)), (2, .int (manyT N (nI jt))), (3, .ref (wW V)), (4, .ref iθ)]) ⟨rfl, rfl, rfl, rfl, rfl, trivial⟩ ?_
      refine A_forP (α := AH) (nF N) (fun i26 _ => ((nF N) - i26) * 1 + 0) (fun i26 _ => [(0, .ref x), (1, .int (nI jt)), (2, .int (manyT N (nI jt))), (3, .ref (wW V)), (4, .ref iθ)]) (fun _ τ26 => τ26) (fun i26 τ26 => (∃ P, RW g τ26 (setP V P) (clU N (nI jt) i26)) ∧ kl σ.2 τ5 τ26 ∧ ∃ lr, τ26.1 iθ = some (.inr (.inl (15, [.int (nI i26), .int lr, .int mcfv, .ref (wFL V)]))) ∧ τ26.1 (wFL V) = some (lstC mcfv (wFA V) (nF N))) σ2 (⟨⟨_, hRσ2⟩, xit.kl hl5, _, fθ, fσ2_1⟩) (fun i26 τ26 hi26 hI26 ih26 => ?_) (fun τ26 hI26 => ?_)
      · skip
        refine A_less (b' := ((nF N) - (i26 + 1)) * 1 + 0 + 1) (by omega) ?_
        obtain ⟨⟨P5, hR8⟩, k8, lr5, fi5, fl5⟩ := hI26
        refine A_wfh (fun wτ26 hgτ26 => ?_)
        have hD8 : WFd (clU N (nI jt) i26) := WFd_clU hD (nI jt) i26 (by first | exact Nat.le_refl _ | exact Nat.le_of_lt hi26)
        have en8 : nF (clU N (nI jt) i26) = nF N := (hdr_clU N (nI jt) i26).nFe
        have hi26' : i26 < nF (clU N (nI jt) i26) := by rw [en8]; exact hi26
        have hRc := hR8
        obtain ⟨h1t8, ⟨frt8, h2t8, h2pt8⟩, ⟨fmt8, h3t8, h3pt8⟩, ⟨mcnt8, fnAt8, h4t8, h4pt8, h4qt8⟩, ⟨mcft8, ffAt8, h5t8, h5pt8, h5qt8⟩, ⟨fut8, h6t8, h6pt8⟩, h7t8, h8t8, h9t8, h10t8, h11t8⟩ := hRc
        have fτ26t8_0 : τ26.1 (wW V) = some (.inr (.inl (4, [.int ((clU N (nI jt) i26) 9), .ref (wR V), .ref (wM V), .ref (wNL V), .ref (wFL V), .ref (wUN V), .int ((clU N (nI jt) i26) 6), .int ((clU N (nI jt) i26) 8), .int ((clU N (nI jt) i26) 0), .int ((clU N (nI jt) i26) 1), .int ((clU N (nI jt) i26) 2), .int ((clU N (nI jt) i26) 3), .int ((clU N (nI jt) i26) 4), .int ((clU N (nI jt) i26) 5), .int ((clU N (nI jt) i26) 11)]))) := h1t8
        have fτ26t8_1 : τ26.1 (wFL V) = some (.inr (.inl (14, [.int mcft8, .ref (wFA V), .int (nI (nF (clU N (nI jt) i26)))]))) := h5t8
        have fτ26t8_2 : τ26.1 (wFA V) = some (.inl (.object "java/lang/Object", 12, .inr (.inr (.inr (.inr ffAt8))))) := h5pt8
        have fτ26t8_3 : τ26.1 (wNL V) = some (.inr (.inl (14, [.int mcnt8, .ref (wNA V), .int (nI (nN (clU N (nI jt) i26)))]))) := h4t8
        have fτ26t8_4 : τ26.1 (wNA V) = some (.inl (.object "java/lang/Object", 4, .inr (.inr (.inr (.inr fnAt8))))) := h4pt8
        have fτ26t8_5 : τ26.1 (wR V) = some (.inl (.int, 6, .inl frt8)) := h2t8
        have fτ26t8_6 : τ26.1 (wM V) = some (.inl (.int, 3, .inl fmt8)) := h3t8
        have fτ26t8_7 : τ26.1 (wUN V) = some (.inl (.object "FlagLaundry$Test", 7, .inr (.inr (.inr (.inr fut8))))) := h6t8
        refine A_aload dX1_clearTub_26 rfl ?_
        refine A_callF0E (b' := ((nF N) - (i26 + 1)) * 1 + 0 + 1) (v := some (.int (bi (i26 < nF N)))) (τ := τ26) (c_iHas τ26 iθ (wFL V) (wFA V) (nF N) i26 mcfv lr5 fi5 fl5 (Nat.le_of_lt hi26) (by omega)) tF_hasNext q1918 fi5 rfl dX1_clearTub_28 (by decide) (by omega) (Nat.le_of_ble_eq_true rfl) ?_
        refine A_if_eq_f (tgt := 72) dX1_clearTub_33 (by decide) (by rw [bi_t hi26]; decide) ?_
        refine A_aload dX1_clearTub_36 rfl ?_
        refine A_callF0E (b' := ((nF N) - (i26 + 1)) * 1 + 0 + 1) (v := some (.ref (wF V i26))) (τ := h_put (h_put τ26 iθ (.inr (.inl (15, [.int (nI (i26 + 1)), .int lr5, .int mcfv, .ref (wFL V)])))) iθ (.inr (.inl (15, [.int (nI (i26 + 1)), .int (nI i26), .int mcfv, .ref (wFL V)])))) (c_iNext τ26 iθ (wFL V) (wFA V) (nF N) 12 i26 (wF V i26) mcfv lr5 ffAt8 fi5 fl5 fτ26t8_2 hi26 (by omega) (by decide) (h5qt8 i26 hi26')) tF_next q1920 fi5 rfl dX1_clearTub_38 (by decide) (by omega) (Nat.le_of_ble_eq_true rfl) ?_
        obtain ⟨σ3, eσ3⟩ : ∃ τ, τ = h_put (h_put τ26 iθ (.inr (.inl (15, [.int (nI (i26 + 1)), .int lr5, .int mcfv, .ref (wFL V)])))) iθ (.inr (.inl (15, [.int (nI (i26 + 1)), .int (nI i26), .int mcfv, .ref (wFL V)]))) := ⟨_, rfl⟩
        refine A_st (σ' := σ3) eσ3.symm ?_
        have wσ3 : wfh σ3 := by rw [eσ3]; exact ((wτ26.put fi5).put (if_pos rfl))
        have hRσ3 : RW g σ3 (setP V P5) (clU N (nI jt) i26) := hR8.oth wτ26 fi5 (isW_no (by decide)) (by rw [eσ3]; exact kx.rf.put.put)
        have fσ3_0 : σ3.1 (wW V) = some (.inr (.inl (4, [.int ((clU N (nI jt) i26) 9), .ref (wR V), .ref (wM V), .ref (wNL V), .ref (wFL V), .ref (wUN V), .int ((clU N (nI jt) i26) 6), .int ((clU N (nI jt) i26) 8), .int ((clU N (nI jt) i26) 0), .int ((clU N (nI jt) i26) 1), .int ((clU N (nI jt) i26) 2), .int ((clU N (nI jt) i26) 3), .int ((clU N (nI jt) i26) 4), .int ((clU N (nI jt) i26) 5), .int ((clU N (nI jt) i26) 11)]))) := by rw [eσ3]; exact ((hp_ne (ne_of (x := .inr (.inl (4, [.int ((clU N (nI jt) i26) 9), .ref (wR V), .ref (wM V), .ref (wNL V), .ref (wFL V), .ref (wUN V), .int ((clU N (nI jt) i26) 6), .int ((clU N (nI jt) i26) 8), .int ((clU N (nI jt) i26) 0), .int ((clU N (nI jt) i26) 1), .int ((clU N (nI jt) i26) 2), .int ((clU N (nI jt) i26) 3), .int ((clU N (nI jt) i26) 4), .int ((clU N (nI jt) i26) 5), .int ((clU N (nI jt) i26) 11)]))) (y := .inr (.inl (15, [.int (nI i26), .int lr5, .int mcfv, .ref (wFL V)]))) fτ26t8_0 fi5 (fun e8 => by simp at e8))).trans ((hp_ne (ne_of (x := .inr (.inl (4, [.int ((clU N (nI jt) i26) 9), .ref (wR V), .ref (wM V), .ref (wNL V), .ref (wFL V), .ref (wUN V), .int ((clU N (nI jt) i26) 6), .int ((clU N (nI jt) i26) 8), .int ((clU N (nI jt) i26) 0), .int ((clU N (nI jt) i26) 1), .int ((clU N (nI jt) i26) 2), .int ((clU N (nI jt) i26) 3), .int ((clU N (nI jt) i26) 4), .int ((clU N (nI jt) i26) 5), .int ((clU N (nI jt) i26) 11)]))) (y := .inr (.inl (15, [.int (nI i26), .int lr5, .int mcfv, .ref (wFL V)]))) fτ26t8_0 fi5 (fun e8 => by simp at e8))).trans fτ26t8_0))
        have fσ3_1 : σ3.1 (wFL V) = some (.inr (.inl (14, [.int mcfv, .ref (wFA V), .int (nI (nF N))]))) := by rw [eσ3]; exact ((hp_ne (ne_of (x := .inr (.inl (14, [.int mcfv, .ref (wFA V), .int (nI (nF N))]))) (y := .inr (.inl (15, [.int (nI i26), .int lr5, .int mcfv, .ref (wFL V)]))) fl5 fi5 (fun e8 => by simp at e8))).trans ((hp_ne (ne_of (x := .inr (.inl (14, [.int mcfv, .ref (wFA V), .int (nI (nF N))]))) (y := .inr (.inl (15, [.int (nI i26), .int lr5, .int mcfv, .ref (wFL V)]))) fl5 fi5 (fun e8 => by simp at e8))).trans fl5))
        have fσ3_2 : σ3.1 (wFA V) = some (.inl (.object "java/lang/Object", 12, .inr (.inr (.inr (.inr ffAt8))))) := by rw [eσ3]; exact ((hp_ne (ne_of (x := .inl (.object "java/lang/Object", 12, .inr (.inr (.inr (.inr ffAt8))))) (y := .inr (.inl (15, [.int (nI i26), .int lr5, .int mcfv, .ref (wFL V)]))) fτ26t8_2 fi5 (fun e8 => by simp at e8))).trans ((hp_ne (ne_of (x := .inl (.object "java/lang/Object", 12, .inr (.inr (.inr (.inr ffAt8))))) (y := .inr (.inl (15, [.int (nI i26), .int lr5, .int mcfv, .ref (wFL V)]))) fτ26t8_2 fi5 (fun e8 => by simp at e8))).trans fτ26t8_2))
        have fσ3_3 : σ3.1 (wNL V) = some (.inr (.inl (14, [.int mcnt8, .ref (wNA V), .int (nI (nN (clU N (nI jt) i26)))]))) := by rw [eσ3]; exact ((hp_ne (ne_of (x := .inr (.inl (14, [.int mcnt8, .ref (wNA V), .int (nI (nN (clU N (nI jt) i26)))]))) (y := .inr (.inl (15, [.int (nI i26), .int lr5, .int mcfv, .ref (wFL V)]))) fτ26t8_3 fi5 (fun e8 => by simp at e8))).trans ((hp_ne (ne_of (x := .inr (.inl (14, [.int mcnt8, .ref (wNA V), .int (nI (nN (clU N (nI jt) i26)))]))) (y := .inr (.inl (15, [.int (nI i26), .int lr5, .int mcfv, .ref (wFL V)]))) fτ26t8_3 fi5 (fun e8 => by simp at e8))).trans fτ26t8_3))
        have fσ3_4 : σ3.1 (wNA V) = some (.inl (.object "java/lang/Object", 4, .inr (.inr (.inr (.inr fnAt8))))) := by rw [eσ3]; exact ((hp_ne (ne_of (x := .inl (.object "java/lang/Object", 4, .inr (.inr (.inr (.inr fnAt8))))) (y := .inr (.inl (15, [.int (nI i26), .int lr5, .int mcfv, .ref (wFL V)]))) fτ26t8_4 fi5 (fun e8 => by simp at e8))).trans ((hp_ne (ne_of (x := .inl (.object "java/lang/Object", 4, .inr (.inr (.inr (.inr fnAt8))))) (y := .inr (.inl (15, [.int (nI i26), .int lr5, .int mcfv, .ref (wFL V)]))) fτ26t8_4 fi5 (fun e8 => by simp at e8))).trans fτ26t8_4))
        have fσ3_5 : σ3.1 (wR V) = some (.inl (.int, 6, .inl frt8)) := by rw [eσ3]; exact ((hp_ne (ne_of (x := .inl (.int, 6, .inl frt8)) (y := .inr (.inl (15, [.int (nI i26), .int lr5, .int mcfv, .ref (wFL V)]))) fτ26t8_5 fi5 (fun e8 => by simp at e8))).trans ((hp_ne (ne_of (x := .inl (.int, 6, .inl frt8)) (y := .inr (.inl (15, [.int (nI i26), .int lr5, .int mcfv, .ref (wFL V)]))) fτ26t8_5 fi5 (fun e8 => by simp at e8))).trans fτ26t8_5))
        have fσ3_6 : σ3.1 (wM V) = some (.inl (.int, 3, .inl fmt8)) := by rw [eσ3]; exact ((hp_ne (ne_of (x := .inl (.int, 3, .inl fmt8)) (y := .inr (.inl (15, [.int (nI i26), .int lr5, .int mcfv, .ref (wFL V)]))) fτ26t8_6 fi5 (fun e8 => by simp at e8))).trans ((hp_ne (ne_of (x := .inl (.int, 3, .inl fmt8)) (y := .inr (.inl (15, [.int (nI i26), .int lr5, .int mcfv, .ref (wFL V)]))) fτ26t8_6 fi5 (fun e8 => by simp at e8))).trans fτ26t8_6))
        have fσ3_7 : σ3.1 (wUN V) = some (.inl (.object "FlagLaundry$Test", 7, .inr (.inr (.inr (.inr fut8))))) := by rw [eσ3]; exact ((hp_ne (ne_of (x := .inl (.object "FlagLaundry$Test", 7, .inr (.inr (.inr (.inr fut8))))) (y := .inr (.inl (15, [.int (nI i26), .int lr5, .int mcfv, .ref (wFL V)]))) fτ26t8_7 fi5 (fun e8 => by simp at e8))).trans ((hp_ne (ne_of (x := .inl (.object "FlagLaundry$Test", 7, .inr (.inr (.inr (.inr fut8))))) (y := .inr (.inl (15, [.int (nI i26), .int lr5, .int mcfv, .ref (wFL V)]))) fτ26t8_7 fi5 (fun e8 => by simp at e8))).trans fτ26t8_7))
        have fσ3_8 : σ3.1 iθ = some (.inr (.inl (15, [.int (nI (i26 + 1)), .int (nI i26), .int mcfv, .ref (wFL V)]))) := by rw [eσ3]; exact (if_pos rfl)
        have fσ3_9 : σ3.1 (wF V i26) = some (.inr (.inl (6, [.int (fl (clU N (nI jt) i26) i26 0), .int (fl (clU N (nI jt) i26) i26 1), .int (fl (clU N (nI jt) i26) i26 2), .int (fl (clU N (nI jt) i26) i26 3), .int (fl (clU N (nI jt) i26) i26 4), .int (fl (clU N (nI jt) i26) i26 5), .int (fl (clU N (nI jt) i26) i26 6), .int (fl (clU N (nI jt) i26) i26 7), .ref (wP (setP V P5) i26)]))) := by rw [eσ3]; exact ((hp_ne (ne_of (x := .inr (.inl (6, [.int (fl (clU N (nI jt) i26) i26 0), .int (fl (clU N (nI jt) i26) i26 1), .int (fl (clU N (nI jt) i26) i26 2), .int (fl (clU N (nI jt) i26) i26 3), .int (fl (clU N (nI jt) i26) i26 4), .int (fl (clU N (nI jt) i26) i26 5), .int (fl (clU N (nI jt) i26) i26 6), .int (fl (clU N (nI jt) i26) i26 7), .ref (wP (setP V P5) i26)]))) (y := .inr (.inl (15, [.int (nI i26), .int lr5, .int mcfv, .ref (wFL V)]))) (hR8.2.2.2.2.2.2.1 i26 hi26') fi5 (fun e8 => by simp at e8))).trans ((hp_ne (ne_of (x := .inr (.inl (6, [.int (fl (clU N (nI jt) i26) i26 0), .int (fl (clU N (nI jt) i26) i26 1), .int (fl (clU N (nI jt) i26) i26 2), .int (fl (clU N (nI jt) i26) i26 3), .int (fl (clU N (nI jt) i26) i26 4), .int (fl (clU N (nI jt) i26) i26 5), .int (fl (clU N (nI jt) i26) i26 6), .int (fl (clU N (nI jt) i26) i26 7), .ref (wP (setP V P5) i26)]))) (y := .inr (.inl (15, [.int (nI i26), .int lr5, .int mcfv, .ref (wFL V)]))) (hR8.2.2.2.2.2.2.1 i26 hi26') fi5 (fun e8 => by simp at e8))).trans (hR8.2.2.2.2.2.2.1 i26 hi26')))
        refine A_castE fσ3_9 rfl q1886 dX1_clearTub_43 ?_
        refine A_astore dX1_clearTub_46 (Nat.le_of_ble_eq_true rfl) ?_
        refine A_aload dX1_clearTub_48 rfl ?_
        refine A_iload_n (i := 1) dX1_clearTub_50 rfl rfl ?_
        refine A_callV1E (b' := ((nF N) - (i26 + 1)) * 1 + 0 + 1) (v := some (.int (bi (inTub (clU N (nI jt) i26) i26 (nI jt))))) (τ := σ3) (c_fIn σ3 (wF V i26) (wP (setP V P5) i26) (fl (clU N (nI jt) i26) i26) (nI jt) (hRσ3.2.2.2.2.2.2.1 i26 hi26') (hRσ3.2.2.2.2.2.2.2.1 i26 hi26') (flok_k hD8 hi26')) tX7_isIn q2120 fσ3_9 rfl rfl dX1_clearTub_51 (by decide) (by omega) (Nat.le_of_ble_eq_true rfl) ?_
        refine A_if_eq (tgt := 69) dX1_clearTub_54 (by decide) (fun c1 => ?_) (fun c1 => ?_)
        · skip
          have c1 := bi_eq0.mp c1
          refine A_goto (tgt := 26) dX1_clearTub_69 (by decide) ?_
          have hR9 : RW g σ3 (setP V P5) (clU N (nI jt) (i26 + 1)) := by rw [clU_s, if_neg c1]; exact hRσ3
          have k9 : kl σ.2 τ26 σ3 := by rw [eσ3]; exact (kl.rf.put hiθ).put hiθ
          refine A_less (b' := ((nF N) - (i26 + 1)) * 1 + 0) (by omega) ?_
          refine A_sub (L' := [(0, .ref x), (1, .int (nI jt)), (2, .int (manyT N (nI jt))), (3, .ref (wW V)), (4, .ref iθ)]) ⟨rfl, rfl, rfl, rfl, rfl, trivial⟩ ?_
          exact ih26 σ3 (⟨⟨_, hR9⟩, k8.tr k9, _, fσ3_8, fσ3_1⟩)
        · skip
          have c1 := bi_ne0.mp c1
          refine A_aload dX1_clearTub_57 rfl ?_
          refine A_new (b' := ((nF N) - (i26 + 1)) * 1 + 0 + 0) (u := 1) cb_X8 q1420 q1090 q164 (fs := []) (fun j hj => absurd hj (Nat.not_lt_zero j)) (by omega) ⟨Nat.le_of_ble_eq_true rfl, Nat.le_of_ble_eq_true rfl⟩ dX1_clearTub_59 ?_
          obtain ⟨σ4, eσ4⟩ : ∃ τ, τ = h_new σ3 (.inr (.inl (7, []))) := ⟨_, rfl⟩
          refine A_st (σ' := σ4) eσ4.symm ?_
          have wσ4 : wfh σ4 := by rw [eσ4]; exact wσ3.new
          have fσ4_0 : σ4.1 (wW V) = some (.inr (.inl (4, [.int ((clU N (nI jt) i26) 9), .ref (wR V), .ref (wM V), .ref (wNL V), .ref (wFL V), .ref (wUN V), .int ((clU N (nI jt) i26) 6), .int ((clU N (nI jt) i26) 8), .int ((clU N (nI jt) i26) 0), .int ((clU N (nI jt) i26) 1), .int ((clU N (nI jt) i26) 2), .int ((clU N (nI jt) i26) 3), .int ((clU N (nI jt) i26) 4), .int ((clU N (nI jt) i26) 5), .int ((clU N (nI jt) i26) 11)]))) := by rw [eσ4]; exact (hn_ne (Nat.ne_of_lt (wσ3 _ _ fσ3_0))).trans fσ3_0
          have fσ4_1 : σ4.1 (wFL V) = some (.inr (.inl (14, [.int mcfv, .ref (wFA V), .int (nI (nF N))]))) := by rw [eσ4]; exact (hn_ne (Nat.ne_of_lt (wσ3 _ _ fσ3_1))).trans fσ3_1
          have fσ4_2 : σ4.1 (wFA V) = some (.inl (.object "java/lang/Object", 12, .inr (.inr (.inr (.inr ffAt8))))) := by rw [eσ4]; exact (hn_ne (Nat.ne_of_lt (wσ3 _ _ fσ3_2))).trans fσ3_2
          have fσ4_3 : σ4.1 (wNL V) = some (.inr (.inl (14, [.int mcnt8, .ref (wNA V), .int (nI (nN (clU N (nI jt) i26)))]))) := by rw [eσ4]; exact (hn_ne (Nat.ne_of_lt (wσ3 _ _ fσ3_3))).trans fσ3_3
          have fσ4_4 : σ4.1 (wNA V) = some (.inl (.object "java/lang/Object", 4, .inr (.inr (.inr (.inr fnAt8))))) := by rw [eσ4]; exact (hn_ne (Nat.ne_of_lt (wσ3 _ _ fσ3_4))).trans fσ3_4
          have fσ4_5 : σ4.1 (wR V) = some (.inl (.int, 6, .inl frt8)) := by rw [eσ4]; exact (hn_ne (Nat.ne_of_lt (wσ3 _ _ fσ3_5))).trans fσ3_5
          have fσ4_6 : σ4.1 (wM V) = some (.inl (.int, 3, .inl fmt8)) := by rw [eσ4]; exact (hn_ne (Nat.ne_of_lt (wσ3 _ _ fσ3_6))).trans fσ3_6
          have fσ4_7 : σ4.1 (wUN V) = some (.inl (.object "FlagLaundry$Test", 7, .inr (.inr (.inr (.inr fut8))))) := by rw [eσ4]; exact (hn_ne (Nat.ne_of_lt (wσ3 _ _ fσ3_7))).trans fσ3_7
          have fσ4_8 : σ4.1 iθ = some (.inr (.inl (15, [.int (nI (i26 + 1)), .int (nI i26), .int mcfv, .ref (wFL V)]))) := by rw [eσ4]; exact (hn_ne (Nat.ne_of_lt (wσ3 _ _ fσ3_8))).trans fσ3_8
          have fσ4_9 : σ4.1 (wF V i26) = some (.inr (.inl (6, [.int (fl (clU N (nI jt) i26) i26 0), .int (fl (clU N (nI jt) i26) i26 1), .int (fl (clU N (nI jt) i26) i26 2), .int (fl (clU N (nI jt) i26) i26 3), .int (fl (clU N (nI jt) i26) i26 4), .int (fl (clU N (nI jt) i26) i26 5), .int (fl (clU N (nI jt) i26) i26 6), .int (fl (clU N (nI jt) i26) i26 7), .ref (wP (setP V P5) i26)]))) := by rw [eσ4]; exact (hn_ne (Nat.ne_of_lt (wσ3 _ _ fσ3_9))).trans fσ3_9
          have fσ4_10 : σ4.1 σ3.2 = some (.inr (.inl (7, []))) := by rw [eσ4]; exact if_pos rfl
          have xσ4 : ext σ3 σ4 := by rw [eσ4]; exact ext_new _ _
          have hRσ4 : RW g σ4 (setP V P5) (clU N (nI jt) i26) := hRσ3.ext wσ3 xσ4
          refine A_dup dX1_clearTub_62 rfl ?_
          refine A_callIN0E (b' := ((nF N) - (i26 + 1)) * 1 + 0 + 0) (v := none) (τ := σ4) (c_X8init σ4 σ3.2) tX8_init q2112 dX1_clearTub_63 (by decide) (by omega) (Nat.le_of_ble_eq_true rfl) ?_
          refine A_putfN cb_X7 fσ4_9 8 (Nat.le_of_ble_eq_true rfl) q1122 rfl rfl rfl rfl (Nat.le_of_ble_eq_true rfl) dX1_clearTub_66 ?_
          obtain ⟨σ5, eσ5⟩ : ∃ τ, τ = h_put σ4 (wF V i26) (.inr (.inl (6, [.int (fl (clU N (nI jt) i26) i26 0), .int (fl (clU N (nI jt) i26) i26 1), .int (fl (clU N (nI jt) i26) i26 2), .int (fl (clU N (nI jt) i26) i26 3), .int (fl (clU N (nI jt) i26) i26 4), .int (fl (clU N (nI jt) i26) i26 5), .int (fl (clU N (nI jt) i26) i26 6), .int (fl (clU N (nI jt) i26) i26 7), .ref σ3.2]))) := ⟨_, rfl⟩
          refine A_st (σ' := σ5) eσ5.symm ?_
          have wσ5 : wfh σ5 := by rw [eσ5]; exact wσ4.put fσ4_9
          have fσ5_0 : σ5.1 (wW V) = some (.inr (.inl (4, [.int ((clU N (nI jt) i26) 9), .ref (wR V), .ref (wM V), .ref (wNL V), .ref (wFL V), .ref (wUN V), .int ((clU N (nI jt) i26) 6), .int ((clU N (nI jt) i26) 8), .int ((clU N (nI jt) i26) 0), .int ((clU N (nI jt) i26) 1), .int ((clU N (nI jt) i26) 2), .int ((clU N (nI jt) i26) 3), .int ((clU N (nI jt) i26) 4), .int ((clU N (nI jt) i26) 5), .int ((clU N (nI jt) i26) 11)]))) := by rw [eσ5]; exact (hp_ne (ne_of (x := .inr (.inl (4, [.int ((clU N (nI jt) i26) 9), .ref (wR V), .ref (wM V), .ref (wNL V), .ref (wFL V), .ref (wUN V), .int ((clU N (nI jt) i26) 6), .int ((clU N (nI jt) i26) 8), .int ((clU N (nI jt) i26) 0), .int ((clU N (nI jt) i26) 1), .int ((clU N (nI jt) i26) 2), .int ((clU N (nI jt) i26) 3), .int ((clU N (nI jt) i26) 4), .int ((clU N (nI jt) i26) 5), .int ((clU N (nI jt) i26) 11)]))) (y := .inr (.inl (6, [.int (fl (clU N (nI jt) i26) i26 0), .int (fl (clU N (nI jt) i26) i26 1), .int (fl (clU N (nI jt) i26) i26 2), .int (fl (clU N (nI jt) i26) i26 3), .int (fl (clU N (nI jt) i26) i26 4), .int (fl (clU N (nI jt) i26) i26 5), .int (fl (clU N (nI jt) i26) i26 6), .int (fl (clU N (nI jt) i26) i26 7), .ref (wP (setP V P5) i26)]))) fσ4_0 fσ4_9 (fun e8 => by simp at e8))).trans fσ4_0
          have fσ5_1 : σ5.1 (wFL V) = some (.inr (.inl (14, [.int mcfv, .ref (wFA V), .int (nI (nF N))]))) := by rw [eσ5]; exact (hp_ne (ne_of (x := .inr (.inl (14, [.int mcfv, .ref (wFA V), .int (nI (nF N))]))) (y := .inr (.inl (6, [.int (fl (clU N (nI jt) i26) i26 0), .int (fl (clU N (nI jt) i26) i26 1), .int (fl (clU N (nI jt) i26) i26 2), .int (fl (clU N (nI jt) i26) i26 3), .int (fl (clU N (nI jt) i26) i26 4), .int (fl (clU N (nI jt) i26) i26 5), .int (fl (clU N (nI jt) i26) i26 6), .int (fl (clU N (nI jt) i26) i26 7), .ref (wP (setP V P5) i26)]))) fσ4_1 fσ4_9 (fun e8 => by simp at e8))).trans fσ4_1
          have fσ5_2 : σ5.1 (wFA V) = some (.inl (.object "java/lang/Object", 12, .inr (.inr (.inr (.inr ffAt8))))) := by rw [eσ5]; exact (hp_ne (ne_of (x := .inl (.object "java/lang/Object", 12, .inr (.inr (.inr (.inr ffAt8))))) (y := .inr (.inl (6, [.int (fl (clU N (nI jt) i26) i26 0), .int (fl (clU N (nI jt) i26) i26 1), .int (fl (clU N (nI jt) i26) i26 2), .int (fl (clU N (nI jt) i26) i26 3), .int (fl (clU N (nI jt) i26) i26 4), .int (fl (clU N (nI jt) i26) i26 5), .int (fl (clU N (nI jt) i26) i26 6), .int (fl (clU N (nI jt) i26) i26 7), .ref (wP (setP V P5) i26)]))) fσ4_2 fσ4_9 (fun e8 => by simp at e8))).trans fσ4_2
          have fσ5_3 : σ5.1 (wNL V) = some (.inr (.inl (14, [.int mcnt8, .ref (wNA V), .int (nI (nN (clU N (nI jt) i26)))]))) := by rw [eσ5]; exact (hp_ne (ne_of (x := .inr (.inl (14, [.int mcnt8, .ref (wNA V), .int (nI (nN (clU N (nI jt) i26)))]))) (y := .inr (.inl (6, [.int (fl (clU N (nI jt) i26) i26 0), .int (fl (clU N (nI jt) i26) i26 1), .int (fl (clU N (nI jt) i26) i26 2), .int (fl (clU N (nI jt) i26) i26 3), .int (fl (clU N (nI jt) i26) i26 4), .int (fl (clU N (nI jt) i26) i26 5), .int (fl (clU N (nI jt) i26) i26 6), .int (fl (clU N (nI jt) i26) i26 7), .ref (wP (setP V P5) i26)]))) fσ4_3 fσ4_9 (fun e8 => by simp at e8))).trans fσ4_3
          have fσ5_4 : σ5.1 (wNA V) = some (.inl (.object "java/lang/Object", 4, .inr (.inr (.inr (.inr fnAt8))))) := by rw [eσ5]; exact (hp_ne (ne_of (x := .inl (.object "java/lang/Object", 4, .inr (.inr (.inr (.inr fnAt8))))) (y := .inr (.inl (6, [.int (fl (clU N (nI jt) i26) i26 0), .int (fl (clU N (nI jt) i26) i26 1), .int (fl (clU N (nI jt) i26) i26 2), .int (fl (clU N (nI jt) i26) i26 3), .int (fl (clU N (nI jt) i26) i26 4), .int (fl (clU N (nI jt) i26) i26 5), .int (fl (clU N (nI jt) i26) i26 6), .int (fl (clU N (nI jt) i26) i26 7), .ref (wP (setP V P5) i26)]))) fσ4_4 fσ4_9 (fun e8 => by simp at e8))).trans fσ4_4
          have fσ5_5 : σ5.1 (wR V) = some (.inl (.int, 6, .inl frt8)) := by rw [eσ5]; exact (hp_ne (ne_of (x := .inl (.int, 6, .inl frt8)) (y := .inr (.inl (6, [.int (fl (clU N (nI jt) i26) i26 0), .int (fl (clU N (nI jt) i26) i26 1), .int (fl (clU N (nI jt) i26) i26 2), .int (fl (clU N (nI jt) i26) i26 3), .int (fl (clU N (nI jt) i26) i26 4), .int (fl (clU N (nI jt) i26) i26 5), .int (fl (clU N (nI jt) i26) i26 6), .int (fl (clU N (nI jt) i26) i26 7), .ref (wP (setP V P5) i26)]))) fσ4_5 fσ4_9 (fun e8 => by simp at e8))).trans fσ4_5
          have fσ5_6 : σ5.1 (wM V) = some (.inl (.int, 3, .inl fmt8)) := by rw [eσ5]; exact (hp_ne (ne_of (x := .inl (.int, 3, .inl fmt8)) (y := .inr (.inl (6, [.int (fl (clU N (nI jt) i26) i26 0), .int (fl (clU N (nI jt) i26) i26 1), .int (fl (clU N (nI jt) i26) i26 2), .int (fl (clU N (nI jt) i26) i26 3), .int (fl (clU N (nI jt) i26) i26 4), .int (fl (clU N (nI jt) i26) i26 5), .int (fl (clU N (nI jt) i26) i26 6), .int (fl (clU N (nI jt) i26) i26 7), .ref (wP (setP V P5) i26)]))) fσ4_6 fσ4_9 (fun e8 => by simp at e8))).trans fσ4_6
          have fσ5_7 : σ5.1 (wUN V) = some (.inl (.object "FlagLaundry$Test", 7, .inr (.inr (.inr (.inr fut8))))) := by rw [eσ5]; exact (hp_ne (ne_of (x := .inl (.object "FlagLaundry$Test", 7, .inr (.inr (.inr (.inr fut8))))) (y := .inr (.inl (6, [.int (fl (clU N (nI jt) i26) i26 0), .int (fl (clU N (nI jt) i26) i26 1), .int (fl (clU N (nI jt) i26) i26 2), .int (fl (clU N (nI jt) i26) i26 3), .int (fl (clU N (nI jt) i26) i26 4), .int (fl (clU N (nI jt) i26) i26 5), .int (fl (clU N (nI jt) i26) i26 6), .int (fl (clU N (nI jt) i26) i26 7), .ref (wP (setP V P5) i26)]))) fσ4_7 fσ4_9 (fun e8 => by simp at e8))).trans fσ4_7
          have fσ5_8 : σ5.1 iθ = some (.inr (.inl (15, [.int (nI (i26 + 1)), .int (nI i26), .int mcfv, .ref (wFL V)]))) := by rw [eσ5]; exact (hp_ne (ne_of (x := .inr (.inl (15, [.int (nI (i26 + 1)), .int (nI i26), .int mcfv, .ref (wFL V)]))) (y := .inr (.inl (6, [.int (fl (clU N (nI jt) i26) i26 0), .int (fl (clU N (nI jt) i26) i26 1), .int (fl (clU N (nI jt) i26) i26 2), .int (fl (clU N (nI jt) i26) i26 3), .int (fl (clU N (nI jt) i26) i26 4), .int (fl (clU N (nI jt) i26) i26 5), .int (fl (clU N (nI jt) i26) i26 6), .int (fl (clU N (nI jt) i26) i26 7), .ref (wP (setP V P5) i26)]))) fσ4_8 fσ4_9 (fun e8 => by simp at e8))).trans fσ4_8
          have fσ5_9 : σ5.1 (wF V i26) = some (.inr (.inl (6, [.int (fl (clU N (nI jt) i26) i26 0), .int (fl (clU N (nI jt) i26) i26 1), .int (fl (clU N (nI jt) i26) i26 2), .int (fl (clU N (nI jt) i26) i26 3), .int (fl (clU N (nI jt) i26) i26 4), .int (fl (clU N (nI jt) i26) i26 5), .int (fl (clU N (nI jt) i26) i26 6), .int (fl (clU N (nI jt) i26) i26 7), .ref σ3.2]))) := by rw [eσ5]; exact if_pos rfl
          have fσ5_10 : σ5.1 σ3.2 = some (.inr (.inl (7, []))) := by rw [eσ5]; exact (hp_ne (ne_of (x := .inr (.inl (7, []))) (y := .inr (.inl (6, [.int (fl (clU N (nI jt) i26) i26 0), .int (fl (clU N (nI jt) i26) i26 1), .int (fl (clU N (nI jt) i26) i26 2), .int (fl (clU N (nI jt) i26) i26 3), .int (fl (clU N (nI jt) i26) i26 4), .int (fl (clU N (nI jt) i26) i26 5), .int (fl (clU N (nI jt) i26) i26 6), .int (fl (clU N (nI jt) i26) i26 7), .ref (wP (setP V P5) i26)]))) fσ4_10 fσ4_9 (fun e8 => by simp at e8))).trans fσ4_10
          refine A_goto (tgt := 26) dX1_clearTub_69 (by decide) ?_
          have hR9 : RW g σ5 (setP V (upP P5 i26 σ3.2)) (clU N (nI jt) (i26 + 1)) := by
            rw [clU_s, if_pos c1]
            exact hRσ4.flag (F := plF (fl (clU N (nI jt) i26) i26) 0 (-1) (fl (clU N (nI jt) i26) i26 10)) wσ4 hD8.1 hi26' (by rw [eσ5]; exact kx.rf.put) fσ5_9 fσ5_10 (upF_goTo _ _ _ _)
          have k9 : kl σ.2 τ26 σ5 := by rw [eσ5, eσ4, eσ3]; exact (((kl.rf.put hiθ).put hiθ).new (Nat.le_trans hl5 k8.1)).put (hOV.2.2.2.2.2.2.2.1 i26 hi26)
          refine A_less (b' := ((nF N) - (i26 + 1)) * 1 + 0) (by omega) ?_
          refine A_sub (L' := [(0, .ref x), (1, .int (nI jt)), (2, .int (manyT N (nI jt))), (3, .ref (wW V)), (4, .ref iθ)]) ⟨rfl, rfl, rfl, rfl, rfl, trivial⟩ ?_
          exact ih26 σ5 (⟨⟨_, hR9⟩, k8.tr k9, _, fσ5_8, fσ5_1⟩)
      · skip
        refine A_less (b' := 0) (by omega) ?_
        obtain ⟨⟨P5, hR8⟩, k8, lr5, fi5, fl5⟩ := hI26
        refine A_wfh (fun wτ26 hgτ26 => ?_)
        have hD8 : WFd (clU N (nI jt) (nF N)) := WFd_clU hD (nI jt) (nF N) (by first | exact Nat.le_refl _ | exact Nat.le_of_lt hi26)
        have en8 : nF (clU N (nI jt) (nF N)) = nF N := (hdr_clU N (nI jt) (nF N)).nFe
        have hRc := hR8
        obtain ⟨h1t8, ⟨frt8, h2t8, h2pt8⟩, ⟨fmt8, h3t8, h3pt8⟩, ⟨mcnt8, fnAt8, h4t8, h4pt8, h4qt8⟩, ⟨mcft8, ffAt8, h5t8, h5pt8, h5qt8⟩, ⟨fut8, h6t8, h6pt8⟩, h7t8, h8t8, h9t8, h10t8, h11t8⟩ := hRc
        have fτ26t8_0 : τ26.1 (wW V) = some (.inr (.inl (4, [.int ((clU N (nI jt) (nF N)) 9), .ref (wR V), .ref (wM V), .ref (wNL V), .ref (wFL V), .ref (wUN V), .int ((clU N (nI jt) (nF N)) 6), .int ((clU N (nI jt) (nF N)) 8), .int ((clU N (nI jt) (nF N)) 0), .int ((clU N (nI jt) (nF N)) 1), .int ((clU N (nI jt) (nF N)) 2), .int ((clU N (nI jt) (nF N)) 3), .int ((clU N (nI jt) (nF N)) 4), .int ((clU N (nI jt) (nF N)) 5), .int ((clU N (nI jt) (nF N)) 11)]))) := h1t8
        have fτ26t8_1 : τ26.1 (wFL V) = some (.inr (.inl (14, [.int mcft8, .ref (wFA V), .int (nI (nF (clU N (nI jt) (nF N))))]))) := h5t8
        have fτ26t8_2 : τ26.1 (wFA V) = some (.inl (.object "java/lang/Object", 12, .inr (.inr (.inr (.inr ffAt8))))) := h5pt8
        have fτ26t8_3 : τ26.1 (wNL V) = some (.inr (.inl (14, [.int mcnt8, .ref (wNA V), .int (nI (nN (clU N (nI jt) (nF N))))]))) := h4t8
        have fτ26t8_4 : τ26.1 (wNA V) = some (.inl (.object "java/lang/Object", 4, .inr (.inr (.inr (.inr fnAt8))))) := h4pt8
        have fτ26t8_5 : τ26.1 (wR V) = some (.inl (.int, 6, .inl frt8)) := h2t8
        have fτ26t8_6 : τ26.1 (wM V) = some (.inl (.int, 3, .inl fmt8)) := h3t8
        have fτ26t8_7 : τ26.1 (wUN V) = some (.inl (.object "FlagLaundry$Test", 7, .inr (.inr (.inr (.inr fut8))))) := h6t8
        refine A_aload dX1_clearTub_26 rfl ?_
        refine A_callF0E (b' := 0) (v := some (.int (bi ((nF N) < nF N)))) (τ := τ26) (c_iHas τ26 iθ (wFL V) (wFA V) (nF N) (nF N) mcfv lr5 fi5 fl5 (Nat.le_refl _) (by omega)) tF_hasNext q1918 fi5 rfl dX1_clearTub_28 (by decide) (Nat.le_of_ble_eq_true rfl) (Nat.le_of_ble_eq_true rfl) ?_
        refine A_if_eq_t (tgt := 72) dX1_clearTub_33 (by decide) (bi_f (Nat.lt_irrefl _)) ?_
        refine A_iload_n (i := 2) dX1_clearTub_72 rfl rfl ?_
        exact A_iret dX1_clearTub_73 rfl (⟨(mayQ_0 hs (bi_n ⟨hs, ck1⟩) (by decide)), rfl, (setP V P5), _, (k8.2 x (wσ _ _ hX)).trans fx5, hR8, hDQ5.kl k8 (hQ.lt wσ).1 (hQ.lt wσ).2, fra0.kl k8, n0.kl wσ (Nat.le_refl _) k8⟩)
    · skip
      refine A_of rfl (by decide) (Nat.le_of_ble_eq_true rfl) (L0 := [(0, .ref x), (1, .int t)]) rfl ?_
      refine A_wfh (fun wσ hgσ => ?_)
      have yσ : ext σ σ := ext.rf
      refine A_aload_n (i := 0) dX1_clearTub_0 rfl rfl ?_
      refine A_iload_n (i := 1) dX1_clearTub_1 rfl rfl ?_
      refine A_callV1 (b' := 0) (c_checkTub_no σ x bf dq sv ou bd pe ep W N t hX hR9 hD ck1) tX1_checkTub q1505 hX rfl rfl dX1_clearTub_2 (by decide) (Nat.le_of_ble_eq_true rfl) (Nat.le_of_ble_eq_true rfl) (fun w9 τ9 h9 => h9.elim) (fun E9 q9 τ9 h9 => A_out rfl (⟨yσ.tr h9.2, 1, by rw [h9.1]; rfl, by rw [(mayQ_2 hs (bi_f (fun h => ck1 h.2)))]; rfl⟩))
