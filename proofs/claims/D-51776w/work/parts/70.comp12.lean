/-! FLAGLAUNDRY 1: its checks -/
/-- the laundry's own object -/
abbrev lauC (bf : Nat) (bd pe ep : Int32) (nv : Value) (dq sv ou : Nat) : AE := .inr (.inl (0, [.ref bf, .int bd, .int pe, .int ep, nv, .ref dq, .ref sv, .ref ou]))
/-- an exception of this class, the heap has but grown -/
def A_exc (E : String) (σ : AH) : String → Nat → AH → Prop := fun e _ τ => e = E ∧ ext σ τ
def A_never : Option Value → AH → Prop := fun _ _ => False
/-- nothing is wrong: this answer -/
def A_val (c : Int32) (v : Value) (σ : AH) : Option Value → AH → Prop := fun w τ => c = 0 ∧ w = some v ∧ ext σ τ
/-- which of these exceptions -/
def A_thr (es : List String) (c : Int32) (σ : AH) : String → Nat → AH → Prop := fun E _ τ => ext σ τ ∧ ∃ i, es[i]? = some E ∧ c = nI (i + 1)
theorem ext_n {σ : AH} {n : Nat} (h : σ.2 ≤ n) : ext σ (σ.1, n) := ⟨h, fun _ _ => rfl⟩
theorem mayQ_1 {x y z : Int32} (h : x = 0) : mayT x y z = 1 := if_pos h
theorem mayQ_2 {x y z : Int32} (h : ¬ x = 0) (h2 : y = 0) : mayT x y z = 2 := (if_neg h).trans (if_pos h2)
theorem mayQ_3 {x y z : Int32} (h : ¬ x = 0) (h2 : ¬ y = 0) (h3 : z = 0) : mayT x y z = 3 := (if_neg h).trans ((if_neg h2).trans (if_pos h3))
theorem mayQ_0 {x y z : Int32} (h : ¬ x = 0) (h2 : ¬ y = 0) (h3 : ¬ z = 0) : mayT x y z = 0 := (if_neg h).trans ((if_neg h2).trans (if_neg h3))
theorem bi_n {p : Prop} [Decidable p] (h : p) : ¬ bi p = 0 := by rw [bi_t h]; decide
theorem lt64 {a b : Int64} {v w : Int32} (ha : v.toInt64 = a) (hb : w.toInt64 = b) : a < b ↔ v < w := by
  subst ha; subst hb
  rw [Int64.lt_iff_toInt_lt, Int32.lt_iff_toInt_lt, Int32.toInt_toInt64, Int32.toInt_toInt64]
theorem le64 {a b : Int64} {v w : Int32} (ha : v.toInt64 = a) (hb : w.toInt64 = b) : a ≤ b ↔ v ≤ w := by
  subst ha; subst hb
  rw [Int64.le_iff_toInt_le, Int32.le_iff_toInt_le, Int32.toInt_toInt64, Int32.toInt_toInt64]
theorem c_in1 {l : Launch} {g : GC} (σ : AH) (a b c : Int64) (v lo hi : Int32) (ha : v.toInt64 = a) (hb : lo.toInt64 = b) (hc : hi.toInt64 = c) : AMet l g mX1_in 1 0 [.long a, .long b, .long c] σ (A_eq (some (.int (bi (inR v lo hi)))) σ) (A_no) := by
  refine A_of rfl (by decide) (Nat.le_of_ble_eq_true rfl) (L0 := [(0, .long a), (2, .long b), (4, .long c)]) rfl ?_
  refine A_lload_n (i := 0) dX1_in_0 rfl rfl ?_
  refine A_lload_n (i := 2) dX1_in_1 rfl rfl ?_
  refine A_lcmp dX1_in_2 ?_
  refine A_if_lt (tgt := 17) dX1_in_3 (by decide) (fun c1 => ?_) (fun c1 => ?_)
  · skip
    refine A_iconst (v := 0) dX1_in_17 (by decide) ?_
    exact A_zret dX1_in_18 rfl (rfl) (⟨by rw [bi_f (fun h => h.1 ((lt64 ha hb).mp ((lg_cmp_lt _ _).mp c1)))], rfl⟩)
  · skip
    refine A_lload_n (i := 0) dX1_in_6 rfl rfl ?_
    refine A_lload dX1_in_7 rfl ?_
    refine A_lcmp dX1_in_9 ?_
    refine A_if_gt (tgt := 17) dX1_in_10 (by decide) (fun c2 => ?_) (fun c2 => ?_)
    · skip
      refine A_iconst (v := 0) dX1_in_17 (by decide) ?_
      exact A_zret dX1_in_18 rfl (rfl) (⟨by rw [bi_f (fun h => h.2 ((lt64 hc ha).mp ((lg_cmp_gt _ _).mp c2)))], rfl⟩)
    · skip
      refine A_iconst (v := 1) dX1_in_13 (by decide) ?_
      refine A_goto (tgt := 18) dX1_in_14 (by decide) ?_
      exact A_zret dX1_in_18 rfl (rfl) (⟨by rw [bi_t ⟨fun h => c1 ((lg_cmp_lt _ _).mpr ((lt64 ha hb).mpr h)), fun h => c2 ((lg_cmp_gt _ _).mpr ((lt64 hc ha).mpr h))⟩], rfl⟩)
theorem c_cArg {l : Launch} {g : GC} (σ : AH) (z : Int32) (h : ¬ z = 0) : AMet l g mX1_checkArgument 1 0 [.int z] σ (A_eq none σ) (A_no) := by
  refine A_of rfl (by decide) (Nat.le_of_ble_eq_true rfl) (L0 := [(0, .int z)]) rfl ?_
  refine A_iload_n (i := 0) dX1_checkArgument_0 rfl rfl ?_
  refine A_if_ne_t (tgt := 12) dX1_checkArgument_1 (by decide) (h) ?_
  exact A_vret dX1_checkArgument_12 rfl (⟨rfl, rfl⟩)
theorem c_cArg_no {l : Launch} {g : GC} (σ : AH) (z : Int32) (h : z = 0) : AMet l g mX1_checkArgument 6 2 [.int z] σ (A_never) (A_exc "java/lang/IllegalArgumentException" σ) := by
  refine A_of rfl (by decide) (Nat.le_of_ble_eq_true rfl) (L0 := [(0, .int z)]) rfl ?_
  refine A_iload_n (i := 0) dX1_checkArgument_0 rfl rfl ?_
  refine A_if_ne_f (tgt := 12) dX1_checkArgument_1 (by decide) (h) ?_
  refine A_throw0 (b' := 0) (by decide +kernel) dX1_checkArgument_4 dX1_checkArgument_7 dX1_checkArgument_8 dX1_checkArgument_11 (by decide) (Nat.le_of_ble_eq_true rfl) (by decide) (fun q9 n9 hq9 hn9 => A_out rfl (⟨rfl, ext_n hn9⟩))
theorem c_cSta {l : Launch} {g : GC} (σ : AH) (z : Int32) (h : ¬ z = 0) : AMet l g mX1_checkState 1 0 [.int z] σ (A_eq none σ) (A_no) := by
  refine A_of rfl (by decide) (Nat.le_of_ble_eq_true rfl) (L0 := [(0, .int z)]) rfl ?_
  refine A_iload_n (i := 0) dX1_checkState_0 rfl rfl ?_
  refine A_if_ne_t (tgt := 12) dX1_checkState_1 (by decide) (h) ?_
  exact A_vret dX1_checkState_12 rfl (⟨rfl, rfl⟩)
theorem c_cSta_no {l : Launch} {g : GC} (σ : AH) (z : Int32) (h : z = 0) : AMet l g mX1_checkState 6 2 [.int z] σ (A_never) (A_exc "java/lang/IllegalStateException" σ) := by
  refine A_of rfl (by decide) (Nat.le_of_ble_eq_true rfl) (L0 := [(0, .int z)]) rfl ?_
  refine A_iload_n (i := 0) dX1_checkState_0 rfl rfl ?_
  refine A_if_ne_f (tgt := 12) dX1_checkState_1 (by decide) (h) ?_
  refine A_throw0 (b' := 0) (by decide +kernel) dX1_checkState_4 dX1_checkState_7 dX1_checkState_8 dX1_checkState_11 (by decide) (Nat.le_of_ble_eq_true rfl) (by decide) (fun q9 n9 hq9 hn9 => A_out rfl (⟨rfl, ext_n hn9⟩))
theorem c_cIdx {l : Launch} {g : GC} (σ : AH) (i n : Int32) (h : inR i 0 (n - 1)) : AMet l g mX1_checkIndex 2 0 [.int i, .int n] σ (A_eq none σ) (A_no) := by
  refine A_of rfl (by decide) (Nat.le_of_ble_eq_true rfl) (L0 := [(0, .int i), (1, .int n)]) rfl ?_
  refine A_iload_n (i := 0) dX1_checkIndex_0 rfl rfl ?_
  refine A_i2l dX1_checkIndex_1 rfl ?_
  refine A_lconst (v := 0) dX1_checkIndex_2 rfl ?_
  refine A_iload_n (i := 1) dX1_checkIndex_3 rfl rfl ?_
  refine A_iconst (v := 1) dX1_checkIndex_4 (by decide) ?_
  refine A_isub dX1_checkIndex_5 ?_
  refine A_i2l dX1_checkIndex_6 rfl ?_
  refine A_callS3E (b' := 0) (v := some (.int (bi (inR i 0 (n - 1))))) (τ := σ) (c_in1 σ _ _ _ i 0 (n - 1) rfl (by decide) rfl) tX1_in q381 dX1_checkIndex_7 (by decide) (Nat.le_of_ble_eq_true rfl) (Nat.le_of_ble_eq_true rfl) ?_
  refine A_if_ne_t (tgt := 21) dX1_checkIndex_10 (by decide) (bi_n h) ?_
  exact A_vret dX1_checkIndex_21 rfl (⟨rfl, rfl⟩)
theorem c_cIdx_no {l : Launch} {g : GC} (σ : AH) (i n : Int32) (h : ¬ inR i 0 (n - 1)) : AMet l g mX1_checkIndex 6 2 [.int i, .int n] σ (A_never) (A_exc "java/lang/IndexOutOfBoundsException" σ) := by
  refine A_of rfl (by decide) (Nat.le_of_ble_eq_true rfl) (L0 := [(0, .int i), (1, .int n)]) rfl ?_
  refine A_iload_n (i := 0) dX1_checkIndex_0 rfl rfl ?_
  refine A_i2l dX1_checkIndex_1 rfl ?_
  refine A_lconst (v := 0) dX1_checkIndex_2 rfl ?_
  refine A_iload_n (i := 1) dX1_checkIndex_3 rfl rfl ?_
  refine A_iconst (v := 1) dX1_checkIndex_4 (by decide) ?_
  refine A_isub dX1_checkIndex_5 ?_
  refine A_i2l dX1_checkIndex_6 rfl ?_
  refine A_callS3E (b' := 2) (v := some (.int (bi (inR i 0 (n - 1))))) (τ := σ) (c_in1 σ _ _ _ i 0 (n - 1) rfl (by decide) rfl) tX1_in q381 dX1_checkIndex_7 (by decide) (Nat.le_of_ble_eq_true rfl) (Nat.le_of_ble_eq_true rfl) ?_
  refine A_if_ne_f (tgt := 21) dX1_checkIndex_10 (by decide) (bi_f h) ?_
  refine A_throw0 (b' := 0) (by decide +kernel) dX1_checkIndex_13 dX1_checkIndex_16 dX1_checkIndex_17 dX1_checkIndex_20 (by decide) (Nat.le_of_ble_eq_true rfl) (by decide) (fun q9 n9 hq9 hn9 => A_out rfl (⟨rfl, ext_n hn9⟩))
theorem in_hk {k : Nat} (h : k ≤ 3) : inR (nI k) 0 3 := by
  have := (by omega : k = 0 ∨ k = 1 ∨ k = 2 ∨ k = 3)
  rcases this with rfl | rfl | rfl | rfl <;> exact ⟨by decide, by decide⟩
theorem c_checkHeat {l : Launch} {g : GC} (σ : AH) (k : Nat) (h : k ≤ 3) : AMet l g mX1_checkHeat 2 0 [.int (nI k)] σ (A_eq none σ) (A_no) := by
  refine A_of rfl (by decide) (Nat.le_of_ble_eq_true rfl) (L0 := [(0, .int (nI k))]) rfl ?_
  have yσ : ext σ σ := ext.rf
  refine A_iload_n (i := 0) dX1_checkHeat_0 rfl rfl ?_
  refine A_i2l dX1_checkHeat_1 rfl ?_
  refine A_lconst (v := 0) dX1_checkHeat_2 rfl ?_
  refine A_ldc2 (v := 3) dX1_checkHeat_3 q1675 ?_
  refine A_callS3E (b' := 0) (v := some (.int (bi (inR (nI k) 0 3)))) (τ := σ) (c_in1 σ _ _ _ (nI k) 0 3 rfl (by decide) (by decide)) tX1_in q381 dX1_checkHeat_6 (by decide) (Nat.le_of_ble_eq_true rfl) (Nat.le_of_ble_eq_true rfl) ?_
  refine A_callS1E (b' := 0) (v := none) (τ := σ) (c_cArg σ (bi (inR (nI k) 0 3)) (bi_n (in_hk h))) tX1_checkArgument q1406 dX1_checkHeat_9 (by decide) (Nat.le_of_ble_eq_true rfl) (Nat.le_of_ble_eq_true rfl) ?_
  exact A_vret dX1_checkHeat_12 rfl (⟨rfl, rfl⟩)
theorem c_checkHeat_no {l : Launch} {g : GC} (σ : AH) (k : Int32) (h : ¬ inR k 0 3) : AMet l g mX1_checkHeat 7 2 [.int k] σ (A_never) (A_exc "java/lang/IllegalArgumentException" σ) := by
  refine A_of rfl (by decide) (Nat.le_of_ble_eq_true rfl) (L0 := [(0, .int k)]) rfl ?_
  have yσ : ext σ σ := ext.rf
  refine A_iload_n (i := 0) dX1_checkHeat_0 rfl rfl ?_
  refine A_i2l dX1_checkHeat_1 rfl ?_
  refine A_lconst (v := 0) dX1_checkHeat_2 rfl ?_
  refine A_ldc2 (v := 3) dX1_checkHeat_3 q1675 ?_
  refine A_callS3E (b' := 2) (v := some (.int (bi (inR k 0 3)))) (τ := σ) (c_in1 σ _ _ _ k 0 3 rfl (by decide) (by decide)) tX1_in q381 dX1_checkHeat_6 (by decide) (Nat.le_of_ble_eq_true rfl) (Nat.le_of_ble_eq_true rfl) ?_
  refine A_callS1 (b' := 0) (c_cArg_no σ (bi (inR k 0 3)) (bi_f h)) tX1_checkArgument q1406 dX1_checkHeat_9 (by decide) (Nat.le_of_ble_eq_true rfl) (Nat.le_of_ble_eq_true rfl) (fun w9 τ9 h9 => h9.elim) (fun E9 q9 τ9 h9 => A_out rfl (⟨by rw [h9.1], yσ.tr h9.2⟩))
theorem u_loaded {l : Launch} {g : GC} (σ : AH) (x bf dq sv ou : Nat) (bd pe ep : Int32) (hX : σ.1 x = some (lauC bf bd pe ep .null dq sv ou)) : AMet l g mX1_loaded 7 2 [.ref x] σ (A_never) (A_exc "java/lang/IllegalStateException" σ) := by
  refine A_of rfl (by decide) (Nat.le_of_ble_eq_true rfl) (L0 := [(0, .ref x)]) rfl ?_
  have yσ : ext σ σ := ext.rf
  refine A_aload_n (i := 0) dX1_loaded_0 rfl rfl ?_
  refine A_getf cb_X1 hX 4 (Nat.le_of_ble_eq_true rfl) q242 rfl (v := .null) rfl dX1_loaded_1 ?_
  refine A_ifnullN (tgt := 11) dX1_loaded_4 (by decide) ?_
  refine A_iconst (v := 0) dX1_loaded_11 (by decide) ?_
  refine A_callS1 (b' := 0) (c_cSta_no σ 0 rfl) tX1_checkState q1387 dX1_loaded_12 (by decide) (Nat.le_of_ble_eq_true rfl) (Nat.le_of_ble_eq_true rfl) (fun w9 τ9 h9 => h9.elim) (fun E9 q9 τ9 h9 => A_out rfl (⟨by rw [h9.1], yσ.tr h9.2⟩))
theorem u_checkFlag {l : Launch} {g : GC} (σ : AH) (x bf dq sv ou : Nat) (bd pe ep : Int32) (i : Int32) (hX : σ.1 x = some (lauC bf bd pe ep .null dq sv ou)) : AMet l g mX1_checkFlag 9 2 [.ref x, .int i] σ (A_never) (A_exc "java/lang/IllegalStateException" σ) := by
  refine A_of rfl (by decide) (Nat.le_of_ble_eq_true rfl) (L0 := [(0, .ref x), (1, .int i)]) rfl ?_
  have yσ : ext σ σ := ext.rf
  refine A_aload_n (i := 0) dX1_checkFlag_0 rfl rfl ?_
  refine A_callV0 (b' := 0) (u_loaded σ x bf dq sv ou bd pe ep  hX) tX1_loaded q1383 hX rfl rfl dX1_checkFlag_1 (by decide) (Nat.le_of_ble_eq_true rfl) (Nat.le_of_ble_eq_true rfl) (fun w9 τ9 h9 => h9.elim) (fun E9 q9 τ9 h9 => A_out rfl (⟨by rw [h9.1], yσ.tr h9.2⟩))
theorem u_checkTub {l : Launch} {g : GC} (σ : AH) (x bf dq sv ou : Nat) (bd pe ep : Int32) (i : Int32) (hX : σ.1 x = some (lauC bf bd pe ep .null dq sv ou)) : AMet l g mX1_checkTub 9 2 [.ref x, .int i] σ (A_never) (A_exc "java/lang/IllegalStateException" σ) := by
  refine A_of rfl (by decide) (Nat.le_of_ble_eq_true rfl) (L0 := [(0, .ref x), (1, .int i)]) rfl ?_
  have yσ : ext σ σ := ext.rf
  refine A_aload_n (i := 0) dX1_checkTub_0 rfl rfl ?_
  refine A_callV0 (b' := 0) (u_loaded σ x bf dq sv ou bd pe ep  hX) tX1_loaded q1383 hX rfl rfl dX1_checkTub_1 (by decide) (Nat.le_of_ble_eq_true rfl) (Nat.le_of_ble_eq_true rfl) (fun w9 τ9 h9 => h9.elim) (fun E9 q9 τ9 h9 => A_out rfl (⟨by rw [h9.1], yσ.tr h9.2⟩))
theorem u_checkNation {l : Launch} {g : GC} (σ : AH) (x bf dq sv ou : Nat) (bd pe ep : Int32) (i : Int32) (hX : σ.1 x = some (lauC bf bd pe ep .null dq sv ou)) : AMet l g mX1_checkNation 9 2 [.ref x, .int i] σ (A_never) (A_exc "java/lang/IllegalStateException" σ) := by
  refine A_of rfl (by decide) (Nat.le_of_ble_eq_true rfl) (L0 := [(0, .ref x), (1, .int i)]) rfl ?_
  have yσ : ext σ σ := ext.rf
  refine A_aload_n (i := 0) dX1_checkNation_0 rfl rfl ?_
  refine A_callV0 (b' := 0) (u_loaded σ x bf dq sv ou bd pe ep  hX) tX1_loaded q1383 hX rfl rfl dX1_checkNation_1 (by decide) (Nat.le_of_ble_eq_true rfl) (Nat.le_of_ble_eq_true rfl) (fun w9 τ9 h9 => h9.elim) (fun E9 q9 τ9 h9 => A_out rfl (⟨by rw [h9.1], yσ.tr h9.2⟩))
theorem u_checkBoth {l : Launch} {g : GC} (σ : AH) (x bf dq sv ou : Nat) (bd pe ep : Int32) (i j : Int32) (hX : σ.1 x = some (lauC bf bd pe ep .null dq sv ou)) : AMet l g mX1_checkBoth 10 2 [.ref x, .int i, .int j] σ (A_never) (A_exc "java/lang/IllegalStateException" σ) := by
  refine A_of rfl (by decide) (Nat.le_of_ble_eq_true rfl) (L0 := [(0, .ref x), (1, .int i), (2, .int j)]) rfl ?_
  have yσ : ext σ σ := ext.rf
  refine A_aload_n (i := 0) dX1_checkBoth_0 rfl rfl ?_
  refine A_iload_n (i := 1) dX1_checkBoth_1 rfl rfl ?_
  refine A_callV1 (b' := 0) (u_checkFlag σ x bf dq sv ou bd pe ep i hX) tX1_checkFlag q1490 hX rfl rfl dX1_checkBoth_2 (by decide) (Nat.le_of_ble_eq_true rfl) (Nat.le_of_ble_eq_true rfl) (fun w9 τ9 h9 => h9.elim) (fun E9 q9 τ9 h9 => A_out rfl (⟨by rw [h9.1], yσ.tr h9.2⟩))
theorem u_checkWash {l : Launch} {g : GC} (σ : AH) (x bf dq sv ou : Nat) (bd pe ep : Int32) (i j : Int32) (hX : σ.1 x = some (lauC bf bd pe ep .null dq sv ou)) : AMet l g mX1_checkWash 10 2 [.ref x, .int i, .int j] σ (A_never) (A_exc "java/lang/IllegalStateException" σ) := by
  refine A_of rfl (by decide) (Nat.le_of_ble_eq_true rfl) (L0 := [(0, .ref x), (1, .int i), (2, .int j)]) rfl ?_
  have yσ : ext σ σ := ext.rf
  refine A_aload_n (i := 0) dX1_checkWash_0 rfl rfl ?_
  refine A_iload_n (i := 1) dX1_checkWash_1 rfl rfl ?_
  refine A_callV1 (b' := 0) (u_checkTub σ x bf dq sv ou bd pe ep i hX) tX1_checkTub q1505 hX rfl rfl dX1_checkWash_2 (by decide) (Nat.le_of_ble_eq_true rfl) (Nat.le_of_ble_eq_true rfl) (fun w9 τ9 h9 => h9.elim) (fun E9 q9 τ9 h9 => A_out rfl (⟨by rw [h9.1], yσ.tr h9.2⟩))
theorem u_checkIron {l : Launch} {g : GC} (σ : AH) (x bf dq sv ou : Nat) (bd pe ep : Int32) (i j : Int32) (hX : σ.1 x = some (lauC bf bd pe ep .null dq sv ou)) : AMet l g mX1_checkIron 10 2 [.ref x, .int i, .int j] σ (A_never) (A_exc "java/lang/IllegalStateException" σ) := by
  refine A_of rfl (by decide) (Nat.le_of_ble_eq_true rfl) (L0 := [(0, .ref x), (1, .int i), (2, .int j)]) rfl ?_
  have yσ : ext σ σ := ext.rf
  refine A_aload_n (i := 0) dX1_checkIron_0 rfl rfl ?_
  refine A_iload_n (i := 1) dX1_checkIron_1 rfl rfl ?_
  refine A_callV1 (b' := 0) (u_checkFlag σ x bf dq sv ou bd pe ep i hX) tX1_checkFlag q1490 hX rfl rfl dX1_checkIron_2 (by decide) (Nat.le_of_ble_eq_true rfl) (Nat.le_of_ble_eq_true rfl) (fun w9 τ9 h9 => h9.elim) (fun E9 q9 τ9 h9 => A_out rfl (⟨by rw [h9.1], yσ.tr h9.2⟩))
theorem c_loaded {l : Launch} {g : GC} (σ : AH) (x bf dq sv ou : Nat) (bd pe ep : Int32) (W : WA) (N : AF) (hX : σ.1 x = some (lauC bf bd pe ep (.ref (wW W)) dq sv ou)) (hR : RW g σ W N) (hD : WFd N) : AMet l g mX1_loaded 2 0 [.ref x] σ (A_eq (some (.ref (wW W))) σ) (A_no) := by
  refine A_of rfl (by decide) (Nat.le_of_ble_eq_true rfl) (L0 := [(0, .ref x)]) rfl ?_
  refine A_wfh (fun wσ hgσ => ?_)
  have yσ : ext σ σ := ext.rf
  have hW := hD.1
  have hR9 := hR
  obtain ⟨h1, ⟨fr, h2, h2p⟩, ⟨fm, h3, h3p⟩, ⟨mcn, fnA, h4, h4p, h4q⟩, ⟨mcf, ffA, h5, h5p, h5q⟩, ⟨fu, h6, h6p⟩, h7, h8, h9, h10, h11⟩ := hR
  have hF12 : nF N ≤ 12 := hW.2.2.2.2.2
  have hN4 : nN N ≤ 4 := hW.2.1.2
  have hC6 : nC N ≤ 6 := hW.1.2
  have hT3 : nT N ≤ 3 := hW.2.2.1.2
  have hP8 : nP N ≤ 8 := hW.2.2.2.1.2
  refine A_aload_n (i := 0) dX1_loaded_0 rfl rfl ?_
  refine A_getf cb_X1 hX 4 (Nat.le_of_ble_eq_true rfl) q242 rfl (v := .ref (wW W)) rfl dX1_loaded_1 ?_
  refine A_ifnull dX1_loaded_4 ?_
  refine A_iconst (v := 1) dX1_loaded_7 (by decide) ?_
  refine A_goto (tgt := 12) dX1_loaded_8 (by decide) ?_
  refine A_callS1E (b' := 0) (v := none) (τ := σ) (c_cSta σ 1 (by decide)) tX1_checkState q1387 dX1_loaded_12 (by decide) (Nat.le_of_ble_eq_true rfl) (Nat.le_of_ble_eq_true rfl) ?_
  refine A_aload_n (i := 0) dX1_loaded_15 rfl rfl ?_
  refine A_getf cb_X1 hX 4 (Nat.le_of_ble_eq_true rfl) q242 rfl (v := .ref (wW W)) rfl dX1_loaded_16 ?_
  exact A_aret dX1_loaded_19 rfl (Or.inl ⟨_, rfl⟩) (Or.inr ⟨_, rfl⟩) (⟨rfl, rfl⟩)
theorem c_checkFlag {l : Launch} {g : GC} (σ : AH) (x bf dq sv ou : Nat) (bd pe ep : Int32) (W : WA) (N : AF) (j : Nat) (hX : σ.1 x = some (lauC bf bd pe ep (.ref (wW W)) dq sv ou)) (hR : RW g σ W N) (hD : WFd N) (hj : j < nF N) : AMet l g mX1_checkFlag 5 0 [.ref x, .int (nI j)] σ (A_eq (some (.ref (wF W j))) σ) (A_no) := by
  refine A_of rfl (by decide) (Nat.le_of_ble_eq_true rfl) (L0 := [(0, .ref x), (1, .int (nI j))]) rfl ?_
  refine A_wfh (fun wσ hgσ => ?_)
  have yσ : ext σ σ := ext.rf
  have hW := hD.1
  have hR9 := hR
  obtain ⟨h1, ⟨fr, h2, h2p⟩, ⟨fm, h3, h3p⟩, ⟨mcn, fnA, h4, h4p, h4q⟩, ⟨mcf, ffA, h5, h5p, h5q⟩, ⟨fu, h6, h6p⟩, h7, h8, h9, h10, h11⟩ := hR
  have hF12 : nF N ≤ 12 := hW.2.2.2.2.2
  have hN4 : nN N ≤ 4 := hW.2.1.2
  have hC6 : nC N ≤ 6 := hW.1.2
  have hT3 : nT N ≤ 3 := hW.2.2.1.2
  have hP8 : nP N ≤ 8 := hW.2.2.2.1.2
  refine A_aload_n (i := 0) dX1_checkFlag_0 rfl rfl ?_
  refine A_callV0E (b' := 0) (v := some (.ref (wW W))) (τ := σ) (c_loaded σ x bf dq sv ou bd pe ep W N hX hR9 hD) tX1_loaded q1383 hX rfl rfl dX1_checkFlag_1 (by decide) (Nat.le_of_ble_eq_true rfl) (Nat.le_of_ble_eq_true rfl) ?_
  refine A_astore_n (i := 2) dX1_checkFlag_4 rfl (Nat.le_of_ble_eq_true rfl) ?_
  refine A_iload_n (i := 1) dX1_checkFlag_5 rfl rfl ?_
  refine A_aload_n (i := 2) dX1_checkFlag_6 rfl rfl ?_
  refine A_callV0E (b' := 0) (v := some (.int (nI (nF N)))) (τ := σ) (c_many σ W N hR9 hW) tX5_many q1369 h1 rfl rfl dX1_checkFlag_7 (by decide) (Nat.le_of_ble_eq_true rfl) (Nat.le_of_ble_eq_true rfl) ?_
  refine A_callS2E (b' := 0) (v := none) (τ := σ) (c_cIdx σ (nI j) (nI (nF N)) (in_of rfl (Nat.le_trans hF12 (by decide)) hj)) tX1_checkIndex q378 dX1_checkFlag_10 (by decide) (Nat.le_of_ble_eq_true rfl) (Nat.le_of_ble_eq_true rfl) ?_
  refine A_aload_n (i := 2) dX1_checkFlag_13 rfl rfl ?_
  refine A_iload_n (i := 1) dX1_checkFlag_14 rfl rfl ?_
  refine A_callV1E (b' := 0) (v := some (.ref (wF W j))) (τ := σ) (c_flagOf σ W N j hR9 hW hj) tX5_flagOf q1153 h1 rfl rfl dX1_checkFlag_15 (by decide) (Nat.le_of_ble_eq_true rfl) (Nat.le_of_ble_eq_true rfl) ?_
  exact A_aret dX1_checkFlag_18 rfl (Or.inl ⟨_, rfl⟩) (Or.inr ⟨_, rfl⟩) (⟨rfl, rfl⟩)
theorem c_checkFlag_no {l : Launch} {g : GC} (σ : AH) (x bf dq sv ou : Nat) (bd pe ep : Int32) (W : WA) (N : AF) (i : Int32) (hX : σ.1 x = some (lauC bf bd pe ep (.ref (wW W)) dq sv ou)) (hR : RW g σ W N) (hD : WFd N) (h : ¬ inR i 0 (N 10 - 1)) : AMet l g mX1_checkFlag 8 2 [.ref x, .int i] σ (A_never) (A_exc "java/lang/IndexOutOfBoundsException" σ) := by
  refine A_of rfl (by decide) (Nat.le_of_ble_eq_true rfl) (L0 := [(0, .ref x), (1, .int i)]) rfl ?_
  refine A_wfh (fun wσ hgσ => ?_)
  have yσ : ext σ σ := ext.rf
  have hW := hD.1
  have hR9 := hR
  obtain ⟨h1, ⟨fr, h2, h2p⟩, ⟨fm, h3, h3p⟩, ⟨mcn, fnA, h4, h4p, h4q⟩, ⟨mcf, ffA, h5, h5p, h5q⟩, ⟨fu, h6, h6p⟩, h7, h8, h9, h10, h11⟩ := hR
  have hF12 : nF N ≤ 12 := hW.2.2.2.2.2
  have hN4 : nN N ≤ 4 := hW.2.1.2
  have hC6 : nC N ≤ 6 := hW.1.2
  have hT3 : nT N ≤ 3 := hW.2.2.1.2
  have hP8 : nP N ≤ 8 := hW.2.2.2.1.2
  refine A_aload_n (i := 0) dX1_checkFlag_0 rfl rfl ?_
  refine A_callV0E (b' := 2) (v := some (.ref (wW W))) (τ := σ) (c_loaded σ x bf dq sv ou bd pe ep W N hX hR9 hD) tX1_loaded q1383 hX rfl rfl dX1_checkFlag_1 (by decide) (Nat.le_of_ble_eq_true rfl) (Nat.le_of_ble_eq_true rfl) ?_
  refine A_astore_n (i := 2) dX1_checkFlag_4 rfl (Nat.le_of_ble_eq_true rfl) ?_
  refine A_iload_n (i := 1) dX1_checkFlag_5 rfl rfl ?_
  refine A_aload_n (i := 2) dX1_checkFlag_6 rfl rfl ?_
  refine A_callV0E (b' := 2) (v := some (.int (nI (nF N)))) (τ := σ) (c_many σ W N hR9 hW) tX5_many q1369 h1 rfl rfl dX1_checkFlag_7 (by decide) (Nat.le_of_ble_eq_true rfl) (Nat.le_of_ble_eq_true rfl) ?_
  refine A_callS2 (b' := 0) (c_cIdx_no σ i (nI (nF N)) (by rw [← hW.2.2.2.2.1]; exact h)) tX1_checkIndex q378 dX1_checkFlag_10 (by decide) (Nat.le_of_ble_eq_true rfl) (Nat.le_of_ble_eq_true rfl) (fun w9 τ9 h9 => h9.elim) (fun E9 q9 τ9 h9 => A_out rfl (⟨by rw [h9.1], yσ.tr h9.2⟩))
theorem c_checkTub {l : Launch} {g : GC} (σ : AH) (x bf dq sv ou : Nat) (bd pe ep : Int32) (W : WA) (N : AF) (j : Nat) (hX : σ.1 x = some (lauC bf bd pe ep (.ref (wW W)) dq sv ou)) (hR : RW g σ W N) (hD : WFd N) (hj : j < nT N) : AMet l g mX1_checkTub 4 0 [.ref x, .int (nI j)] σ (A_eq (some (.ref (wW W))) σ) (A_no) := by
  refine A_of rfl (by decide) (Nat.le_of_ble_eq_true rfl) (L0 := [(0, .ref x), (1, .int (nI j))]) rfl ?_
  refine A_wfh (fun wσ hgσ => ?_)
  have yσ : ext σ σ := ext.rf
  have hW := hD.1
  have hR9 := hR
  obtain ⟨h1, ⟨fr, h2, h2p⟩, ⟨fm, h3, h3p⟩, ⟨mcn, fnA, h4, h4p, h4q⟩, ⟨mcf, ffA, h5, h5p, h5q⟩, ⟨fu, h6, h6p⟩, h7, h8, h9, h10, h11⟩ := hR
  have hF12 : nF N ≤ 12 := hW.2.2.2.2.2
  have hN4 : nN N ≤ 4 := hW.2.1.2
  have hC6 : nC N ≤ 6 := hW.1.2
  have hT3 : nT N ≤ 3 := hW.2.2.1.2
  have hP8 : nP N ≤ 8 := hW.2.2.2.1.2
  refine A_aload_n (i := 0) dX1_checkTub_0 rfl rfl ?_
  refine A_callV0E (b' := 0) (v := some (.ref (wW W))) (τ := σ) (c_loaded σ x bf dq sv ou bd pe ep W N hX hR9 hD) tX1_loaded q1383 hX rfl rfl dX1_checkTub_1 (by decide) (Nat.le_of_ble_eq_true rfl) (Nat.le_of_ble_eq_true rfl) ?_
  refine A_astore_n (i := 2) dX1_checkTub_4 rfl (Nat.le_of_ble_eq_true rfl) ?_
  refine A_iload_n (i := 1) dX1_checkTub_5 rfl rfl ?_
  refine A_aload_n (i := 2) dX1_checkTub_6 rfl rfl ?_
  refine A_getfN cb_X5 h1 7 (Nat.le_of_ble_eq_true rfl) q842 rfl (v := .int (N 8)) rfl dX1_checkTub_7 ?_
  refine A_callS2E (b' := 0) (v := none) (τ := σ) (c_cIdx σ (nI j) (N 8) (in_of hW.2.2.1.1 (Nat.le_trans hT3 (by decide)) hj)) tX1_checkIndex q378 dX1_checkTub_10 (by decide) (Nat.le_of_ble_eq_true rfl) (Nat.le_of_ble_eq_true rfl) ?_
  refine A_aload_n (i := 2) dX1_checkTub_13 rfl rfl ?_
  exact A_aret dX1_checkTub_14 rfl (Or.inl ⟨_, rfl⟩) (Or.inr ⟨_, rfl⟩) (⟨rfl, rfl⟩)
theorem c_checkTub_no {l : Launch} {g : GC} (σ : AH) (x bf dq sv ou : Nat) (bd pe ep : Int32) (W : WA) (N : AF) (i : Int32) (hX : σ.1 x = some (lauC bf bd pe ep (.ref (wW W)) dq sv ou)) (hR : RW g σ W N) (hD : WFd N) (h : ¬ inR i 0 (N 8 - 1)) : AMet l g mX1_checkTub 8 2 [.ref x, .int i] σ (A_never) (A_exc "java/lang/IndexOutOfBoundsException" σ) := by
  refine A_of rfl (by decide) (Nat.le_of_ble_eq_true rfl) (L0 := [(0, .ref x), (1, .int i)]) rfl ?_
  refine A_wfh (fun wσ hgσ => ?_)
  have yσ : ext σ σ := ext.rf
  have hW := hD.1
  have hR9 := hR
  obtain ⟨h1, ⟨fr, h2, h2p⟩, ⟨fm, h3, h3p⟩, ⟨mcn, fnA, h4, h4p, h4q⟩, ⟨mcf, ffA, h5, h5p, h5q⟩, ⟨fu, h6, h6p⟩, h7, h8, h9, h10, h11⟩ := hR
  have hF12 : nF N ≤ 12 := hW.2.2.2.2.2
  have hN4 : nN N ≤ 4 := hW.2.1.2
  have hC6 : nC N ≤ 6 := hW.1.2
  have hT3 : nT N ≤ 3 := hW.2.2.1.2
  have hP8 : nP N ≤ 8 := hW.2.2.2.1.2
  refine A_aload_n (i := 0) dX1_checkTub_0 rfl rfl ?_
  refine A_callV0E (b' := 2) (v := some (.ref (wW W))) (τ := σ) (c_loaded σ x bf dq sv ou bd pe ep W N hX hR9 hD) tX1_loaded q1383 hX rfl rfl dX1_checkTub_1 (by decide) (Nat.le_of_ble_eq_true rfl) (Nat.le_of_ble_eq_true rfl) ?_
  refine A_astore_n (i := 2) dX1_checkTub_4 rfl (Nat.le_of_ble_eq_true rfl) ?_
  refine A_iload_n (i := 1) dX1_checkTub_5 rfl rfl ?_
  refine A_aload_n (i := 2) dX1_checkTub_6 rfl rfl ?_
  refine A_getfN cb_X5 h1 7 (Nat.le_of_ble_eq_true rfl) q842 rfl (v := .int (N 8)) rfl dX1_checkTub_7 ?_
  refine A_callS2 (b' := 0) (c_cIdx_no σ i (N 8) h) tX1_checkIndex q378 dX1_checkTub_10 (by decide) (Nat.le_of_ble_eq_true rfl) (Nat.le_of_ble_eq_true rfl) (fun w9 τ9 h9 => h9.elim) (fun E9 q9 τ9 h9 => A_out rfl (⟨by rw [h9.1], yσ.tr h9.2⟩))
theorem c_checkNation {l : Launch} {g : GC} (σ : AH) (x bf dq sv ou : Nat) (bd pe ep : Int32) (W : WA) (N : AF) (j : Nat) (hX : σ.1 x = some (lauC bf bd pe ep (.ref (wW W)) dq sv ou)) (hR : RW g σ W N) (hD : WFd N) (hj : j < nN N) : AMet l g mX1_checkNation 6 0 [.ref x, .int (nI j)] σ (A_eq (some (.ref (wN W j))) σ) (A_no) := by
  refine A_of rfl (by decide) (Nat.le_of_ble_eq_true rfl) (L0 := [(0, .ref x), (1, .int (nI j))]) rfl ?_
  refine A_wfh (fun wσ hgσ => ?_)
  have yσ : ext σ σ := ext.rf
  have hW := hD.1
  have hR9 := hR
  obtain ⟨h1, ⟨fr, h2, h2p⟩, ⟨fm, h3, h3p⟩, ⟨mcn, fnA, h4, h4p, h4q⟩, ⟨mcf, ffA, h5, h5p, h5q⟩, ⟨fu, h6, h6p⟩, h7, h8, h9, h10, h11⟩ := hR
  have hF12 : nF N ≤ 12 := hW.2.2.2.2.2
  have hN4 : nN N ≤ 4 := hW.2.1.2
  have hC6 : nC N ≤ 6 := hW.1.2
  have hT3 : nT N ≤ 3 := hW.2.2.1.2
  have hP8 : nP N ≤ 8 := hW.2.2.2.1.2
  refine A_aload_n (i := 0) dX1_checkNation_0 rfl rfl ?_
  refine A_callV0E (b' := 0) (v := some (.ref (wW W))) (τ := σ) (c_loaded σ x bf dq sv ou bd pe ep W N hX hR9 hD) tX1_loaded q1383 hX rfl rfl dX1_checkNation_1 (by decide) (Nat.le_of_ble_eq_true rfl) (Nat.le_of_ble_eq_true rfl) ?_
  refine A_astore_n (i := 2) dX1_checkNation_4 rfl (Nat.le_of_ble_eq_true rfl) ?_
  refine A_iload_n (i := 1) dX1_checkNation_5 rfl rfl ?_
  refine A_aload_n (i := 2) dX1_checkNation_6 rfl rfl ?_
  refine A_getfN cb_X5 h1 3 (Nat.le_of_ble_eq_true rfl) q832 rfl (v := .ref (wNL W)) rfl dX1_checkNation_7 ?_
  refine A_callF0E (b' := 0) (v := some (.int (nI (nN N)))) (τ := σ) (c_lSize σ (wNL W) (wNA W) (nN N) mcn h4) tF_size q1410 h4 rfl dX1_checkNation_10 (by decide) (Nat.le_of_ble_eq_true rfl) (Nat.le_of_ble_eq_true rfl) ?_
  refine A_callS2E (b' := 0) (v := none) (τ := σ) (c_cIdx σ (nI j) (nI (nN N)) (in_of rfl (Nat.le_trans hN4 (by decide)) hj)) tX1_checkIndex q378 dX1_checkNation_15 (by decide) (Nat.le_of_ble_eq_true rfl) (Nat.le_of_ble_eq_true rfl) ?_
  refine A_aload_n (i := 2) dX1_checkNation_18 rfl rfl ?_
  refine A_iload_n (i := 1) dX1_checkNation_19 rfl rfl ?_
  refine A_callV1E (b' := 0) (v := some (.ref (wN W j))) (τ := σ) (c_nation5 σ W N j hR9 hD hj) tX5_nation q1459 h1 rfl rfl dX1_checkNation_20 (by decide) (Nat.le_of_ble_eq_true rfl) (Nat.le_of_ble_eq_true rfl) ?_
  exact A_aret dX1_checkNation_23 rfl (Or.inl ⟨_, rfl⟩) (Or.inr ⟨_, rfl⟩) (⟨rfl, rfl⟩)
theorem c_checkNation_no {l : Launch} {g : GC} (σ : AH) (x bf dq sv ou : Nat) (bd pe ep : Int32) (W : WA) (N : AF) (i : Int32) (hX : σ.1 x = some (lauC bf bd pe ep (.ref (wW W)) dq sv ou)) (hR : RW g σ W N) (hD : WFd N) (h : ¬ inR i 0 (N 7 - 1)) : AMet l g mX1_checkNation 8 2 [.ref x, .int i] σ (A_never) (A_exc "java/lang/IndexOutOfBoundsException" σ) := by
  refine A_of rfl (by decide) (Nat.le_of_ble_eq_true rfl) (L0 := [(0, .ref x), (1, .int i)]) rfl ?_
  refine A_wfh (fun wσ hgσ => ?_)
  have yσ : ext σ σ := ext.rf
  have hW := hD.1
  have hR9 := hR
  obtain ⟨h1, ⟨fr, h2, h2p⟩, ⟨fm, h3, h3p⟩, ⟨mcn, fnA, h4, h4p, h4q⟩, ⟨mcf, ffA, h5, h5p, h5q⟩, ⟨fu, h6, h6p⟩, h7, h8, h9, h10, h11⟩ := hR
  have hF12 : nF N ≤ 12 := hW.2.2.2.2.2
  have hN4 : nN N ≤ 4 := hW.2.1.2
  have hC6 : nC N ≤ 6 := hW.1.2
  have hT3 : nT N ≤ 3 := hW.2.2.1.2
  have hP8 : nP N ≤ 8 := hW.2.2.2.1.2
  refine A_aload_n (i := 0) dX1_checkNation_0 rfl rfl ?_
  refine A_callV0E (b' := 2) (v := some (.ref (wW W))) (τ := σ) (c_loaded σ x bf dq sv ou bd pe ep W N hX hR9 hD) tX1_loaded q1383 hX rfl rfl dX1_checkNation_1 (by decide) (Nat.le_of_ble_eq_true rfl) (Nat.le_of_ble_eq_true rfl) ?_
  refine A_astore_n (i := 2) dX1_checkNation_4 rfl (Nat.le_of_ble_eq_true rfl) ?_
  refine A_iload_n (i := 1) dX1_checkNation_5 rfl rfl ?_
  refine A_aload_n (i := 2) dX1_checkNation_6 rfl rfl ?_
  refine A_getfN cb_X5 h1 3 (Nat.le_of_ble_eq_true rfl) q832 rfl (v := .ref (wNL W)) rfl dX1_checkNation_7 ?_
  refine A_callF0E (b' := 2) (v := some (.int (nI (nN N)))) (τ := σ) (c_lSize σ (wNL W) (wNA W) (nN N) mcn h4) tF_size q1410 h4 rfl dX1_checkNation_10 (by decide) (Nat.le_of_ble_eq_true rfl) (Nat.le_of_ble_eq_true rfl) ?_
  refine A_callS2 (b' := 0) (c_cIdx_no σ i (nI (nN N)) (by rw [← hW.2.1.1]; exact h)) tX1_checkIndex q378 dX1_checkNation_15 (by decide) (Nat.le_of_ble_eq_true rfl) (Nat.le_of_ble_eq_true rfl) (fun w9 τ9 h9 => h9.elim) (fun E9 q9 τ9 h9 => A_out rfl (⟨by rw [h9.1], yσ.tr h9.2⟩))
theorem c_checkBoth {l : Launch} {g : GC} (σ : AH) (x bf dq sv ou : Nat) (bd pe ep : Int32) (W : WA) (N : AF) (f t : Nat) (hX : σ.1 x = some (lauC bf bd pe ep (.ref (wW W)) dq sv ou)) (hR : RW g σ W N) (hD : WFd N) (hf : f < nF N) (ht : t < nT N) : AMet l g mX1_checkBoth 10 0 [.ref x, .int (nI f), .int (nI t)] σ (A_eq (some (.ref (wF W f))) σ) (A_no) := by
  refine A_of rfl (by decide) (Nat.le_of_ble_eq_true rfl) (L0 := [(0, .ref x), (1, .int (nI f)), (2, .int (nI t))]) rfl ?_
  refine A_wfh (fun wσ hgσ => ?_)
  have yσ : ext σ σ := ext.rf
  have hW := hD.1
  have hR9 := hR
  obtain ⟨h1, ⟨fr, h2, h2p⟩, ⟨fm, h3, h3p⟩, ⟨mcn, fnA, h4, h4p, h4q⟩, ⟨mcf, ffA, h5, h5p, h5q⟩, ⟨fu, h6, h6p⟩, h7, h8, h9, h10, h11⟩ := hR
  have hF12 : nF N ≤ 12 := hW.2.2.2.2.2
  have hN4 : nN N ≤ 4 := hW.2.1.2
  have hC6 : nC N ≤ 6 := hW.1.2
  have hT3 : nT N ≤ 3 := hW.2.2.1.2
  have hP8 : nP N ≤ 8 := hW.2.2.2.1.2
  refine A_aload_n (i := 0) dX1_checkBoth_0 rfl rfl ?_
  refine A_iload_n (i := 1) dX1_checkBoth_1 rfl rfl ?_
  refine A_callV1E (b' := 0) (v := some (.ref (wF W f))) (τ := σ) (c_checkFlag σ x bf dq sv ou bd pe ep W N f hX hR9 hD hf) tX1_checkFlag q1490 hX rfl rfl dX1_checkBoth_2 (by decide) (Nat.le_of_ble_eq_true rfl) (Nat.le_of_ble_eq_true rfl) ?_
  refine A_astore_n (i := 3) dX1_checkBoth_5 rfl (Nat.le_of_ble_eq_true rfl) ?_
  refine A_iload_n (i := 2) dX1_checkBoth_6 rfl rfl ?_
  refine A_aload_n (i := 0) dX1_checkBoth_7 rfl rfl ?_
  refine A_getf cb_X1 hX 4 (Nat.le_of_ble_eq_true rfl) q242 rfl (v := .ref (wW W)) rfl dX1_checkBoth_8 ?_
  refine A_getfN cb_X5 h1 7 (Nat.le_of_ble_eq_true rfl) q842 rfl (v := .int (N 8)) rfl dX1_checkBoth_11 ?_
  refine A_callS2E (b' := 0) (v := none) (τ := σ) (c_cIdx σ (nI t) (N 8) (in_of hW.2.2.1.1 (Nat.le_trans hT3 (by decide)) ht)) tX1_checkIndex q378 dX1_checkBoth_14 (by decide) (Nat.le_of_ble_eq_true rfl) (Nat.le_of_ble_eq_true rfl) ?_
  refine A_aload_n (i := 3) dX1_checkBoth_17 rfl rfl ?_
  exact A_aret dX1_checkBoth_18 rfl (Or.inl ⟨_, rfl⟩) (Or.inr ⟨_, rfl⟩) (⟨rfl, rfl⟩)
theorem c_checkBoth_no {l : Launch} {g : GC} (σ : AH) (x bf dq sv ou : Nat) (bd pe ep : Int32) (W : WA) (N : AF) (i j : Int32) (hX : σ.1 x = some (lauC bf bd pe ep (.ref (wW W)) dq sv ou)) (hR : RW g σ W N) (hD : WFd N) (h : ¬ inR i 0 (N 10 - 1)) : AMet l g mX1_checkBoth 10 2 [.ref x, .int i, .int j] σ (A_never) (A_exc "java/lang/IndexOutOfBoundsException" σ) := by
  refine A_of rfl (by decide) (Nat.le_of_ble_eq_true rfl) (L0 := [(0, .ref x), (1, .int i), (2, .int j)]) rfl ?_
  refine A_wfh (fun wσ hgσ => ?_)
  have yσ : ext σ σ := ext.rf
  have hW := hD.1
  have hR9 := hR
  obtain ⟨h1, ⟨fr, h2, h2p⟩, ⟨fm, h3, h3p⟩, ⟨mcn, fnA, h4, h4p, h4q⟩, ⟨mcf, ffA, h5, h5p, h5q⟩, ⟨fu, h6, h6p⟩, h7, h8, h9, h10, h11⟩ := hR
  have hF12 : nF N ≤ 12 := hW.2.2.2.2.2
  have hN4 : nN N ≤ 4 := hW.2.1.2
  have hC6 : nC N ≤ 6 := hW.1.2
  have hT3 : nT N ≤ 3 := hW.2.2.1.2
  have hP8 : nP N ≤ 8 := hW.2.2.2.1.2
  refine A_aload_n (i := 0) dX1_checkBoth_0 rfl rfl ?_
  refine A_iload_n (i := 1) dX1_checkBoth_1 rfl rfl ?_
  refine A_callV1 (b' := 0) (c_checkFlag_no σ x bf dq sv ou bd pe ep W N i hX hR9 hD h) tX1_checkFlag q1490 hX rfl rfl dX1_checkBoth_2 (by decide) (Nat.le_of_ble_eq_true rfl) (Nat.le_of_ble_eq_true rfl) (fun w9 τ9 h9 => h9.elim) (fun E9 q9 τ9 h9 => A_out rfl (⟨by rw [h9.1], yσ.tr h9.2⟩))
theorem c_checkBoth_no2 {l : Launch} {g : GC} (σ : AH) (x bf dq sv ou : Nat) (bd pe ep : Int32) (W : WA) (N : AF) (f : Nat) (i : Int32) (hX : σ.1 x = some (lauC bf bd pe ep (.ref (wW W)) dq sv ou)) (hR : RW g σ W N) (hD : WFd N) (hf : f < nF N) (h : ¬ inR i 0 (N 8 - 1)) : AMet l g mX1_checkBoth 10 2 [.ref x, .int (nI f), .int i] σ (A_never) (A_exc "java/lang/IndexOutOfBoundsException" σ) := by
  refine A_of rfl (by decide) (Nat.le_of_ble_eq_true rfl) (L0 := [(0, .ref x), (1, .int (nI f)), (2, .int i)]) rfl ?_
  refine A_wfh (fun wσ hgσ => ?_)
  have yσ : ext σ σ := ext.rf
  have hW := hD.1
  have hR9 := hR
  obtain ⟨h1, ⟨fr, h2, h2p⟩, ⟨fm, h3, h3p⟩, ⟨mcn, fnA, h4, h4p, h4q⟩, ⟨mcf, ffA, h5, h5p, h5q⟩, ⟨fu, h6, h6p⟩, h7, h8, h9, h10, h11⟩ := hR
  have hF12 : nF N ≤ 12 := hW.2.2.2.2.2
  have hN4 : nN N ≤ 4 := hW.2.1.2
  have hC6 : nC N ≤ 6 := hW.1.2
  have hT3 : nT N ≤ 3 := hW.2.2.1.2
  have hP8 : nP N ≤ 8 := hW.2.2.2.1.2
  refine A_aload_n (i := 0) dX1_checkBoth_0 rfl rfl ?_
  refine A_iload_n (i := 1) dX1_checkBoth_1 rfl rfl ?_
  refine A_callV1E (b' := 2) (v := some (.ref (wF W f))) (τ := σ) (c_checkFlag σ x bf dq sv ou bd pe ep W N f hX hR9 hD hf) tX1_checkFlag q1490 hX rfl rfl dX1_checkBoth_2 (by decide) (Nat.le_of_ble_eq_true rfl) (Nat.le_of_ble_eq_true rfl) ?_
  refine A_astore_n (i := 3) dX1_checkBoth_5 rfl (Nat.le_of_ble_eq_true rfl) ?_
  refine A_iload_n (i := 2) dX1_checkBoth_6 rfl rfl ?_
  refine A_aload_n (i := 0) dX1_checkBoth_7 rfl rfl ?_
  refine A_getf cb_X1 hX 4 (Nat.le_of_ble_eq_true rfl) q242 rfl (v := .ref (wW W)) rfl dX1_checkBoth_8 ?_
  refine A_getfN cb_X5 h1 7 (Nat.le_of_ble_eq_true rfl) q842 rfl (v := .int (N 8)) rfl dX1_checkBoth_11 ?_
  refine A_callS2 (b' := 0) (c_cIdx_no σ i (N 8) h) tX1_checkIndex q378 dX1_checkBoth_14 (by decide) (Nat.le_of_ble_eq_true rfl) (Nat.le_of_ble_eq_true rfl) (fun w9 τ9 h9 => h9.elim) (fun E9 q9 τ9 h9 => A_out rfl (⟨by rw [h9.1], yσ.tr h9.2⟩))
theorem c_checkWash {l : Launch} {g : GC} (σ : AH) (x bf dq sv ou : Nat) (bd pe ep : Int32) (W : WA) (N : AF) (t k : Nat) (hX : σ.1 x = some (lauC bf bd pe ep (.ref (wW W)) dq sv ou)) (hR : RW g σ W N) (hD : WFd N) (ht : t < nT N) (hk : k ≤ 3) : AMet l g mX1_checkWash 10 0 [.ref x, .int (nI t), .int (nI k)] σ (A_eq (some (.ref (wW W))) σ) (A_no) := by
  refine A_of rfl (by decide) (Nat.le_of_ble_eq_true rfl) (L0 := [(0, .ref x), (1, .int (nI t)), (2, .int (nI k))]) rfl ?_
  refine A_wfh (fun wσ hgσ => ?_)
  have yσ : ext σ σ := ext.rf
  have hW := hD.1
  have hR9 := hR
  obtain ⟨h1, ⟨fr, h2, h2p⟩, ⟨fm, h3, h3p⟩, ⟨mcn, fnA, h4, h4p, h4q⟩, ⟨mcf, ffA, h5, h5p, h5q⟩, ⟨fu, h6, h6p⟩, h7, h8, h9, h10, h11⟩ := hR
  have hF12 : nF N ≤ 12 := hW.2.2.2.2.2
  have hN4 : nN N ≤ 4 := hW.2.1.2
  have hC6 : nC N ≤ 6 := hW.1.2
  have hT3 : nT N ≤ 3 := hW.2.2.1.2
  have hP8 : nP N ≤ 8 := hW.2.2.2.1.2
  refine A_aload_n (i := 0) dX1_checkWash_0 rfl rfl ?_
  refine A_iload_n (i := 1) dX1_checkWash_1 rfl rfl ?_
  refine A_callV1E (b' := 0) (v := some (.ref (wW W))) (τ := σ) (c_checkTub σ x bf dq sv ou bd pe ep W N t hX hR9 hD ht) tX1_checkTub q1505 hX rfl rfl dX1_checkWash_2 (by decide) (Nat.le_of_ble_eq_true rfl) (Nat.le_of_ble_eq_true rfl) ?_
  refine A_astore_n (i := 3) dX1_checkWash_5 rfl (Nat.le_of_ble_eq_true rfl) ?_
  refine A_iload_n (i := 2) dX1_checkWash_6 rfl rfl ?_
  refine A_callS1E (b' := 0) (v := none) (τ := σ) (c_checkHeat σ k hk) tX1_checkHeat q1672 dX1_checkWash_7 (by decide) (Nat.le_of_ble_eq_true rfl) (Nat.le_of_ble_eq_true rfl) ?_
  refine A_aload_n (i := 3) dX1_checkWash_10 rfl rfl ?_
  exact A_aret dX1_checkWash_11 rfl (Or.inl ⟨_, rfl⟩) (Or.inr ⟨_, rfl⟩) (⟨rfl, rfl⟩)
theorem c_checkWash_no {l : Launch} {g : GC} (σ : AH) (x bf dq sv ou : Nat) (bd pe ep : Int32) (W : WA) (N : AF) (i j : Int32) (hX : σ.1 x = some (lauC bf bd pe ep (.ref (wW W)) dq sv ou)) (hR : RW g σ W N) (hD : WFd N) (h : ¬ inR i 0 (N 8 - 1)) : AMet l g mX1_checkWash 10 2 [.ref x, .int i, .int j] σ (A_never) (A_exc "java/lang/IndexOutOfBoundsException" σ) := by
  refine A_of rfl (by decide) (Nat.le_of_ble_eq_true rfl) (L0 := [(0, .ref x), (1, .int i), (2, .int j)]) rfl ?_
  refine A_wfh (fun wσ hgσ => ?_)
  have yσ : ext σ σ := ext.rf
  have hW := hD.1
  have hR9 := hR
  obtain ⟨h1, ⟨fr, h2, h2p⟩, ⟨fm, h3, h3p⟩, ⟨mcn, fnA, h4, h4p, h4q⟩, ⟨mcf, ffA, h5, h5p, h5q⟩, ⟨fu, h6, h6p⟩, h7, h8, h9, h10, h11⟩ := hR
  have hF12 : nF N ≤ 12 := hW.2.2.2.2.2
  have hN4 : nN N ≤ 4 := hW.2.1.2
  have hC6 : nC N ≤ 6 := hW.1.2
  have hT3 : nT N ≤ 3 := hW.2.2.1.2
  have hP8 : nP N ≤ 8 := hW.2.2.2.1.2
  refine A_aload_n (i := 0) dX1_checkWash_0 rfl rfl ?_
  refine A_iload_n (i := 1) dX1_checkWash_1 rfl rfl ?_
  refine A_callV1 (b' := 0) (c_checkTub_no σ x bf dq sv ou bd pe ep W N i hX hR9 hD h) tX1_checkTub q1505 hX rfl rfl dX1_checkWash_2 (by decide) (Nat.le_of_ble_eq_true rfl) (Nat.le_of_ble_eq_true rfl) (fun w9 τ9 h9 => h9.elim) (fun E9 q9 τ9 h9 => A_out rfl (⟨by rw [h9.1], yσ.tr h9.2⟩))
theorem c_checkWash_no2 {l : Launch} {g : GC} (σ : AH) (x bf dq sv ou : Nat) (bd pe ep : Int32) (W : WA) (N : AF) (t : Nat) (i : Int32) (hX : σ.1 x = some (lauC bf bd pe ep (.ref (wW W)) dq sv ou)) (hR : RW g σ W N) (hD : WFd N) (ht : t < nT N) (h : ¬ inR i 0 3) : AMet l g mX1_checkWash 10 2 [.ref x, .int (nI t), .int i] σ (A_never) (A_exc "java/lang/IllegalArgumentException" σ) := by
  refine A_of rfl (by decide) (Nat.le_of_ble_eq_true rfl) (L0 := [(0, .ref x), (1, .int (nI t)), (2, .int i)]) rfl ?_
  refine A_wfh (fun wσ hgσ => ?_)
  have yσ : ext σ σ := ext.rf
  have hW := hD.1
  have hR9 := hR
  obtain ⟨h1, ⟨fr, h2, h2p⟩, ⟨fm, h3, h3p⟩, ⟨mcn, fnA, h4, h4p, h4q⟩, ⟨mcf, ffA, h5, h5p, h5q⟩, ⟨fu, h6, h6p⟩, h7, h8, h9, h10, h11⟩ := hR
  have hF12 : nF N ≤ 12 := hW.2.2.2.2.2
  have hN4 : nN N ≤ 4 := hW.2.1.2
  have hC6 : nC N ≤ 6 := hW.1.2
  have hT3 : nT N ≤ 3 := hW.2.2.1.2
  have hP8 : nP N ≤ 8 := hW.2.2.2.1.2
  refine A_aload_n (i := 0) dX1_checkWash_0 rfl rfl ?_
  refine A_iload_n (i := 1) dX1_checkWash_1 rfl rfl ?_
  refine A_callV1E (b' := 2) (v := some (.ref (wW W))) (τ := σ) (c_checkTub σ x bf dq sv ou bd pe ep W N t hX hR9 hD ht) tX1_checkTub q1505 hX rfl rfl dX1_checkWash_2 (by decide) (Nat.le_of_ble_eq_true rfl) (Nat.le_of_ble_eq_true rfl) ?_
  refine A_astore_n (i := 3) dX1_checkWash_5 rfl (Nat.le_of_ble_eq_true rfl) ?_
  refine A_iload_n (i := 2) dX1_checkWash_6 rfl rfl ?_
  refine A_callS1 (b' := 0) (c_checkHeat_no σ i h) tX1_checkHeat q1672 dX1_checkWash_7 (by decide) (Nat.le_of_ble_eq_true rfl) (Nat.le_of_ble_eq_true rfl) (fun w9 τ9 h9 => h9.elim) (fun E9 q9 τ9 h9 => A_out rfl (⟨by rw [h9.1], yσ.tr h9.2⟩))
theorem c_checkIron {l : Launch} {g : GC} (σ : AH) (x bf dq sv ou : Nat) (bd pe ep : Int32) (W : WA) (N : AF) (f k : Nat) (hX : σ.1 x = some (lauC bf bd pe ep (.ref (wW W)) dq sv ou)) (hR : RW g σ W N) (hD : WFd N) (hf : f < nF N) (hk : k ≤ 3) : AMet l g mX1_checkIron 10 0 [.ref x, .int (nI f), .int (nI k)] σ (A_eq (some (.ref (wF W f))) σ) (A_no) := by
  refine A_of rfl (by decide) (Nat.le_of_ble_eq_true rfl) (L0 := [(0, .ref x), (1, .int (nI f)), (2, .int (nI k))]) rfl ?_
  refine A_wfh (fun wσ hgσ => ?_)
  have yσ : ext σ σ := ext.rf
  have hW := hD.1
  have hR9 := hR
  obtain ⟨h1, ⟨fr, h2, h2p⟩, ⟨fm, h3, h3p⟩, ⟨mcn, fnA, h4, h4p, h4q⟩, ⟨mcf, ffA, h5, h5p, h5q⟩, ⟨fu, h6, h6p⟩, h7, h8, h9, h10, h11⟩ := hR
  have hF12 : nF N ≤ 12 := hW.2.2.2.2.2
  have hN4 : nN N ≤ 4 := hW.2.1.2
  have hC6 : nC N ≤ 6 := hW.1.2
  have hT3 : nT N ≤ 3 := hW.2.2.1.2
  have hP8 : nP N ≤ 8 := hW.2.2.2.1.2
  refine A_aload_n (i := 0) dX1_checkIron_0 rfl rfl ?_
  refine A_iload_n (i := 1) dX1_checkIron_1 rfl rfl ?_
  refine A_callV1E (b' := 0) (v := some (.ref (wF W f))) (τ := σ) (c_checkFlag σ x bf dq sv ou bd pe ep W N f hX hR9 hD hf) tX1_checkFlag q1490 hX rfl rfl dX1_checkIron_2 (by decide) (Nat.le_of_ble_eq_true rfl) (Nat.le_of_ble_eq_true rfl) ?_
  refine A_astore_n (i := 3) dX1_checkIron_5 rfl (Nat.le_of_ble_eq_true rfl) ?_
  refine A_iload_n (i := 2) dX1_checkIron_6 rfl rfl ?_
  refine A_callS1E (b' := 0) (v := none) (τ := σ) (c_checkHeat σ k hk) tX1_checkHeat q1672 dX1_checkIron_7 (by decide) (Nat.le_of_ble_eq_true rfl) (Nat.le_of_ble_eq_true rfl) ?_
  refine A_aload_n (i := 3) dX1_checkIron_10 rfl rfl ?_
  exact A_aret dX1_checkIron_11 rfl (Or.inl ⟨_, rfl⟩) (Or.inr ⟨_, rfl⟩) (⟨rfl, rfl⟩)
theorem c_checkIron_no {l : Launch} {g : GC} (σ : AH) (x bf dq sv ou : Nat) (bd pe ep : Int32) (W : WA) (N : AF) (i j : Int32) (hX : σ.1 x = some (lauC bf bd pe ep (.ref (wW W)) dq sv ou)) (hR : RW g σ W N) (hD : WFd N) (h : ¬ inR i 0 (N 10 - 1)) : AMet l g mX1_checkIron 10 2 [.ref x, .int i, .int j] σ (A_never) (A_exc "java/lang/IndexOutOfBoundsException" σ) := by
  refine A_of rfl (by decide) (Nat.le_of_ble_eq_true rfl) (L0 := [(0, .ref x), (1, .int i), (2, .int j)]) rfl ?_
  refine A_wfh (fun wσ hgσ => ?_)
  have yσ : ext σ σ := ext.rf
  have hW := hD.1
  have hR9 := hR
  obtain ⟨h1, ⟨fr, h2, h2p⟩, ⟨fm, h3, h3p⟩, ⟨mcn, fnA, h4, h4p, h4q⟩, ⟨mcf, ffA, h5, h5p, h5q⟩, ⟨fu, h6, h6p⟩, h7, h8, h9, h10, h11⟩ := hR
  have hF12 : nF N ≤ 12 := hW.2.2.2.2.2
  have hN4 : nN N ≤ 4 := hW.2.1.2
  have hC6 : nC N ≤ 6 := hW.1.2
  have hT3 : nT N ≤ 3 := hW.2.2.1.2
  have hP8 : nP N ≤ 8 := hW.2.2.2.1.2
  refine A_aload_n (i := 0) dX1_checkIron_0 rfl rfl ?_
  refine A_iload_n (i := 1) dX1_checkIron_1 rfl rfl ?_
  refine A_callV1 (b' := 0) (c_checkFlag_no σ x bf dq sv ou bd pe ep W N i hX hR9 hD h) tX1_checkFlag q1490 hX rfl rfl dX1_checkIron_2 (by decide) (Nat.le_of_ble_eq_true rfl) (Nat.le_of_ble_eq_true rfl) (fun w9 τ9 h9 => h9.elim) (fun E9 q9 τ9 h9 => A_out rfl (⟨by rw [h9.1], yσ.tr h9.2⟩))
theorem c_checkIron_no2 {l : Launch} {g : GC} (σ : AH) (x bf dq sv ou : Nat) (bd pe ep : Int32) (W : WA) (N : AF) (f : Nat) (i : Int32) (hX : σ.1 x = some (lauC bf bd pe ep (.ref (wW W)) dq sv ou)) (hR : RW g σ W N) (hD : WFd N) (hf : f < nF N) (h : ¬ inR i 0 3) : AMet l g mX1_checkIron 10 2 [.ref x, .int (nI f), .int i] σ (A_never) (A_exc "java/lang/IllegalArgumentException" σ) := by
  refine A_of rfl (by decide) (Nat.le_of_ble_eq_true rfl) (L0 := [(0, .ref x), (1, .int (nI f)), (2, .int i)]) rfl ?_
  refine A_wfh (fun wσ hgσ => ?_)
  have yσ : ext σ σ := ext.rf
  have hW := hD.1
  have hR9 := hR
  obtain ⟨h1, ⟨fr, h2, h2p⟩, ⟨fm, h3, h3p⟩, ⟨mcn, fnA, h4, h4p, h4q⟩, ⟨mcf, ffA, h5, h5p, h5q⟩, ⟨fu, h6, h6p⟩, h7, h8, h9, h10, h11⟩ := hR
  have hF12 : nF N ≤ 12 := hW.2.2.2.2.2
  have hN4 : nN N ≤ 4 := hW.2.1.2
  have hC6 : nC N ≤ 6 := hW.1.2
  have hT3 : nT N ≤ 3 := hW.2.2.1.2
  have hP8 : nP N ≤ 8 := hW.2.2.2.1.2
  refine A_aload_n (i := 0) dX1_checkIron_0 rfl rfl ?_
  refine A_iload_n (i := 1) dX1_checkIron_1 rfl rfl ?_
  refine A_callV1E (b' := 2) (v := some (.ref (wF W f))) (τ := σ) (c_checkFlag σ x bf dq sv ou bd pe ep W N f hX hR9 hD hf) tX1_checkFlag q1490 hX rfl rfl dX1_checkIron_2 (by decide) (Nat.le_of_ble_eq_true rfl) (Nat.le_of_ble_eq_true rfl) ?_
  refine A_astore_n (i := 3) dX1_checkIron_5 rfl (Nat.le_of_ble_eq_true rfl) ?_
  refine A_iload_n (i := 2) dX1_checkIron_6 rfl rfl ?_
  refine A_callS1 (b' := 0) (c_checkHeat_no σ i h) tX1_checkHeat q1672 dX1_checkIron_7 (by decide) (Nat.le_of_ble_eq_true rfl) (Nat.le_of_ble_eq_true rfl) (fun w9 τ9 h9 => h9.elim) (fun E9 q9 τ9 h9 => A_out rfl (⟨by rw [h9.1], yσ.tr h9.2⟩))
