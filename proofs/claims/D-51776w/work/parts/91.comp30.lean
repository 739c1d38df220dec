/-! LOAD -/
/-- but for the cells of l (and Strings, which keep their hash) all is as it was -/
def frS (l : List Nat) (σ τ : AH) : Prop := σ.2 ≤ τ.2 ∧ ∀ a, a < σ.2 → ¬ a ∈ l → (∀ va h z, ¬ σ.1 a = some (strC va h z)) → τ.1 a = σ.1 a
theorem fra.S {l : List Nat} {σ τ : AH} (h : fra l σ τ) : frS l σ τ := ⟨h.1, fun a ha hl _ => h.2 a ha hl⟩
theorem frS.tr {l : List Nat} {σ τ ρ : AH} (h : frS l σ τ) (k : frS l τ ρ) : frS l σ ρ := ⟨Nat.le_trans h.1 k.1, fun a ha hl hs => by
  have e := h.2 a ha hl hs
  exact (k.2 a (Nat.lt_of_lt_of_le ha h.1) hl (fun va h9 z q => hs va h9 z (by rw [← e]; exact q))).trans e⟩
theorem frS.ex {l : List Nat} {σ τ ρ : AH} (h : frS l σ τ) (k : ext τ ρ) : frS l σ ρ := h.tr (fra.rf.ex k).S
theorem frS.sub {l l' : List Nat} {σ τ : AH} (h : frS l σ τ) (hs : ∀ a, a ∈ l → a ∈ l') : frS l' σ τ := ⟨h.1, fun a ha hl => h.2 a ha (fun q => hl (hs a q))⟩
theorem frS.put {l : List Nat} {σ τ : AH} {a : Nat} {c : AE} (h : frS l σ τ) (ha : a ∈ l) : frS l σ (h_put τ a c) := h.tr (fra.rf.put ha).S
theorem frS.k2 {l : List Nat} {σ τ ρ : AH} {a b : Nat} (h : frS l σ τ) (ha : a ∈ l) (hb : b ∈ l) (k : _root_.Jvm.Pilot.CFlagLaundryLaw_law_r9784_83ea13.k2 a b τ ρ) : frS l σ ρ := h.tr (fra.rf.k2 ha hb k).S
theorem frS.kxF {l : List Nat} {σ τ ρ : AH} {a : Nat} (h : frS l σ τ) (ha : σ.2 ≤ a) (k : kx a τ ρ) : frS l σ ρ := ⟨Nat.le_trans h.1 k.1, fun b hb hl hs => (k.2 b (Nat.lt_of_lt_of_le hb h.1) (Nat.ne_of_lt (Nat.lt_of_lt_of_le hb ha))).trans (h.2 b hb hl hs)⟩
theorem frS.ky {l : List Nat} {σ τ ρ : AH} {y lo : Nat} (h : frS l σ τ) (k : ky y lo τ ρ) (hl : σ.2 ≤ lo) (hy : σ.2 ≤ y) : frS l σ ρ := ⟨Nat.le_trans h.1 k.1, fun b hb hn hs => by
  have e := h.2 b hb hn hs
  exact (k.2 b (Nat.lt_of_lt_of_le hb hl) (Nat.ne_of_lt (Nat.lt_of_lt_of_le hb hy)) (fun va h9 z q => hs va h9 z (by rw [← e]; exact q))).trans e⟩
theorem frS.sz {l : List Nat} {σ τ : AH} {n : Nat} (h : frS l σ τ) (hn : τ.2 ≤ n) : frS l σ (τ.1, n) := ⟨Nat.le_trans h.1 hn, h.2⟩
theorem frS.cell {l : List Nat} {σ τ : AH} (h : frS l σ τ) (w : wfh σ) {a c : Nat} {vs : List Value} (k : σ.1 a = some (.inr (.inl (c, vs)))) (hc : ¬ c = 13) (hl : ¬ a ∈ l) : τ.1 a = some (.inr (.inl (c, vs))) := (h.2 a (w _ _ k) hl (fun va h9 z q => by
  have e := Option.some.inj (k.symm.trans q)
  injection e with e
  injection e with e
  injection e with e1 e2
  exact hc e1)).trans k
theorem frS.arr {l : List Nat} {σ τ : AH} (h : frS l σ τ) (w : wfh σ) {a : Nat} {t : FieldType × vp_A} (k : σ.1 a = some (.inl t)) (hl : ¬ a ∈ l) : τ.1 a = some (.inl t) := (h.2 a (w _ _ k) hl (fun va h9 z q => by
  have e := Option.some.inj (k.symm.trans q)
  injection e)).trans k
theorem DQ.S {l : List Nat} {σ τ : AH} {dq da h u : Nat} {e : Nat → Nat} (hd : DQ σ dq da h u e) (k : frS l σ τ) (w : wfh σ) (h1 : ¬ dq ∈ l) (h2 : ¬ da ∈ l) : DQ τ dq da h u e := by
  obtain ⟨a, b, c, f, d, i⟩ := hd
  exact ⟨a, b, k.cell w c (by decide) h1, f, k.arr w d h2, i⟩
theorem ky.ob {y lo : Nat} {σ τ : AH} (h : ky y lo σ τ) {a c : Nat} {vs : List Value} (k : σ.1 a = some (.inr (.inl (c, vs)))) (hc : ¬ c = 13) (ha : a < lo) (hy : ¬ a = y) : τ.1 a = some (.inr (.inl (c, vs))) := (h.2 a ha hy (fun va h9 z q => by
  have e := Option.some.inj (k.symm.trans q)
  injection e with e
  injection e with e
  injection e with e1 e2
  exact hc e1)).trans k
theorem ky.ar {y lo : Nat} {σ τ : AH} (h : ky y lo σ τ) {a : Nat} {t : FieldType × vp_A} (k : σ.1 a = some (.inl t)) (ha : a < lo) (hy : ¬ a = y) : τ.1 a = some (.inl t) := (h.2 a ha hy (fun va h9 z q => by
  have e := Option.some.inj (k.symm.trans q)
  injection e)).trans k
def LDQ (g : GC) (σ : AH) (x bf dq da sv ou k : Nat) (fs : Nat → Option Nat) (e : Nat → Nat) (i : Int32) (R : PT) : Option Value → AH → Prop := fun w τ => inR i 0 (nI k) ∧ pcd R = 0 ∧ w = some (.int (nI (nF R.1))) ∧ ∃ W' h9, τ.1 x = some (lauC bf 0 0 (-1) (.ref (wW W')) dq sv ou) ∧ RW g τ W' R.1 ∧ GN R.1 ∧ DQ τ dq da h9 0 e ∧ τ.1 sv = some (objA "FlagLaundry$World" 2 (va_up (va_up fs 0 none) 1 none)) ∧ frS [x, dq, da, sv] σ τ
def LDX (σ : AH) (x bf dq sv ou k : Nat) (nv : Value) (i : Int32) (R : PT) : String → Nat → AH → Prop := fun E _ τ => (E = "java/lang/IndexOutOfBoundsException" ∧ ¬ inR i 0 (nI k) ∧ ext σ τ) ∨ (E = "java/lang/IllegalArgumentException" ∧ inR i 0 (nI k) ∧ ¬ pcd R ≤ 0 ∧ τ.1 x = some (lauC bf 0 (pcd R) R.2.2.2.2.2.2 nv dq sv ou) ∧ frS [x] σ τ)
theorem c_ldNo {l : Launch} {g : GC} (σ : AH) (x bf dq da sv ou k hq u : Nat) (pe ep : Int32) (nv : Value) (fs : Nat → Option Nat) (e : Nat → Nat) (B N0 : AF) (s0 : Nat) (tk to i : Int32) (hX : σ.1 x = some (lauC bf (nI k) pe ep nv dq sv ou)) (hk : k ≤ 500) (hBf : σ.1 bf = some (bytA 500 B)) (hby : byt B) (hQ : DQ σ dq da hq u e) (hSv : σ.1 sv = some (objA "FlagLaundry$World" 2 fs)) (ck : ¬ inR i 0 (nI k)) : AMet l g mX1_load 49 40500 [.ref x, .int i] σ (LDQ g σ x bf dq da sv ou k fs e i (ldR B N0 s0 tk to (ix i))) (LDX σ x bf dq sv ou k nv i (ldR B N0 s0 tk to (ix i))) := by
  refine A_ofH rfl (by decide) (Nat.le_of_ble_eq_true rfl) (L0 := [(0, .ref x), (1, .int i)]) rfl ?_
  refine A_wfh (fun wσ hgσ => ?_)
  refine A_iload_n (i := 1) dX1_load_0 rfl rfl ?_
  refine A_aload_n (i := 0) dX1_load_1 rfl rfl ?_
  refine A_getf cb_X1 hX 1 (Nat.le_of_ble_eq_true rfl) q239 rfl (v := .int (nI k)) rfl dX1_load_2 ?_
  refine A_iconst (v := 1) dX1_load_5 (by decide) ?_
  refine A_iadd dX1_load_6 ?_
  refine A_int (w := nI (k + 1)) (nI_add k 1) ?_
  refine A_callS2 (b' := 0) (c_cIdx_no σ i (nI (k + 1)) (by rw [sub1]; exact ck)) tX1_checkIndex q378 dX1_load_7 (by decide) (Nat.le_of_ble_eq_true rfl) (Nat.le_of_ble_eq_true rfl) (fun w9 τ9 h9 => h9.elim) (fun E9 q9 τ9 h9 => A_outH (by decide) (Or.inl ⟨h9.1, ck, h9.2⟩))
theorem c_ldOk {l : Launch} {g : GC} (σ : AH) (x bf dq da sv ou k hq u : Nat) (pe ep : Int32) (nv : Value) (fs : Nat → Option Nat) (e : Nat → Nat) (B N0 : AF) (s0 : Nat) (tk to : Int32) (n : Nat) (hX : σ.1 x = some (lauC bf (nI k) pe ep nv dq sv ou)) (hk : k ≤ 500) (hBf : σ.1 bf = some (bytA 500 B)) (hby : byt B) (hQ : DQ σ dq da hq u e) (hSv : σ.1 sv = some (objA "FlagLaundry$World" 2 fs)) (hn : n ≤ k) (ck : inR (nI n) 0 (nI k)) : AMet l g mX1_load 49 40500 [.ref x, .int (nI n)] σ (LDQ g σ x bf dq da sv ou k fs e (nI n) (ldR B N0 s0 tk to (ix (nI n)))) (LDX σ x bf dq sv ou k nv (nI n) (ldR B N0 s0 tk to (ix (nI n)))) := by
  refine A_ofH rfl (by decide) (Nat.le_of_ble_eq_true rfl) (L0 := [(0, .ref x), (1, .int (nI n))]) rfl ?_
  refine A_wfh (fun wσ hgσ => ?_)
  have hn2 : n < 2000 := Nat.lt_of_le_of_lt (Nat.le_trans hn hk) (by decide)
  refine A_gok (fun hgk => ?_)
  obtain ⟨S, hS⟩ := srt_ex hgk
  refine A_iload_n (i := 1) dX1_load_0 rfl rfl ?_
  refine A_aload_n (i := 0) dX1_load_1 rfl rfl ?_
  refine A_getf cb_X1 hX 1 (Nat.le_of_ble_eq_true rfl) q239 rfl (v := .int (nI k)) rfl dX1_load_2 ?_
  refine A_iconst (v := 1) dX1_load_5 (by decide) ?_
  refine A_iadd dX1_load_6 ?_
  refine A_int (w := nI (k + 1)) (nI_add k 1) ?_
  refine A_callS2E (b' := 40500) (v := none) (τ := σ) (c_cIdx σ (nI n) (nI (k + 1)) (by rw [sub1]; exact ck)) tX1_checkIndex q378 dX1_load_7 (by decide) (Nat.le_of_ble_eq_true rfl) (Nat.le_of_ble_eq_true rfl) ?_
  refine A_aload_n (i := 0) dX1_load_10 rfl rfl ?_
  refine A_iconst (v := 0) dX1_load_11 (by decide) ?_
  refine A_putf cb_X1 hX 2 (Nat.le_of_ble_eq_true rfl) q240 rfl rfl rfl rfl (Nat.le_of_ble_eq_true rfl) dX1_load_12 ?_
  obtain ⟨σ1, eσ1⟩ : ∃ τ, τ = h_put σ x (.inr (.inl (0, [.ref bf, .int (nI k), .int 0, .int ep, nv, .ref dq, .ref sv, .ref ou]))) := ⟨_, rfl⟩
  refine A_st (σ' := σ1) eσ1.symm ?_
  have wσ1 : wfh σ1 := by rw [eσ1]; exact wσ.put hX
  have fσ1_0 : σ1.1 x = some (.inr (.inl (0, [.ref bf, .int (nI k), .int 0, .int ep, nv, .ref dq, .ref sv, .ref ou]))) := by rw [eσ1]; exact if_pos rfl
  have fσ1_1 : σ1.1 bf = some (.inl (.byte, 500, .inl B)) := by rw [eσ1]; exact (hp_ne (ne_of (x := .inl (.byte, 500, .inl B)) (y := .inr (.inl (0, [.ref bf, .int (nI k), .int pe, .int ep, nv, .ref dq, .ref sv, .ref ou]))) hBf hX (fun e8 => by simp at e8))).trans hBf
  have fσ1_2 : σ1.1 sv = some (.inl (.object "FlagLaundry$World", 2, .inr (.inr (.inr (.inr fs))))) := by rw [eσ1]; exact (hp_ne (ne_of (x := .inl (.object "FlagLaundry$World", 2, .inr (.inr (.inr (.inr fs))))) (y := .inr (.inl (0, [.ref bf, .int (nI k), .int pe, .int ep, nv, .ref dq, .ref sv, .ref ou]))) hSv hX (fun e8 => by simp at e8))).trans hSv
  refine A_aload_n (i := 0) dX1_load_15 rfl rfl ?_
  refine A_iconst (v := (-1)) dX1_load_16 (by decide) ?_
  refine A_putf cb_X1 fσ1_0 3 (Nat.le_of_ble_eq_true rfl) q241 rfl rfl rfl rfl (Nat.le_of_ble_eq_true rfl) dX1_load_17 ?_
  obtain ⟨σ2, eσ2⟩ : ∃ τ, τ = h_put σ1 x (.inr (.inl (0, [.ref bf, .int (nI k), .int 0, .int (-1), nv, .ref dq, .ref sv, .ref ou]))) := ⟨_, rfl⟩
  refine A_st (σ' := σ2) eσ2.symm ?_
  have wσ2 : wfh σ2 := by rw [eσ2]; exact wσ1.put fσ1_0
  have fσ2_0 : σ2.1 x = some (.inr (.inl (0, [.ref bf, .int (nI k), .int 0, .int (-1), nv, .ref dq, .ref sv, .ref ou]))) := by rw [eσ2]; exact if_pos rfl
  have fσ2_1 : σ2.1 bf = some (.inl (.byte, 500, .inl B)) := by rw [eσ2]; exact (hp_ne (ne_of (x := .inl (.byte, 500, .inl B)) (y := .inr (.inl (0, [.ref bf, .int (nI k), .int 0, .int ep, nv, .ref dq, .ref sv, .ref ou]))) fσ1_1 fσ1_0 (fun e8 => by simp at e8))).trans fσ1_1
  have fσ2_2 : σ2.1 sv = some (.inl (.object "FlagLaundry$World", 2, .inr (.inr (.inr (.inr fs))))) := by rw [eσ2]; exact (hp_ne (ne_of (x := .inl (.object "FlagLaundry$World", 2, .inr (.inr (.inr (.inr fs))))) (y := .inr (.inl (0, [.ref bf, .int (nI k), .int 0, .int ep, nv, .ref dq, .ref sv, .ref ou]))) fσ1_2 fσ1_0 (fun e8 => by simp at e8))).trans fσ1_2
  refine A_aload_n (i := 0) dX1_load_20 rfl rfl ?_
  refine A_new (b' := 40498) (u := 2) cb_X3 q405 q406 q146 (fs := [.int 0, .int 0, .int 0, .int 0, .null, .null, .null, .null]) (by intro j hj; rcases j with _ | j; exact rfl; rcases j with _ | j; exact rfl; rcases j with _ | j; exact rfl; rcases j with _ | j; exact rfl; rcases j with _ | j; exact rfl; rcases j with _ | j; exact rfl; rcases j with _ | j; exact rfl; rcases j with _ | j; exact rfl; omega) (Nat.le_of_ble_eq_true rfl) ⟨Nat.le_of_ble_eq_true rfl, Nat.le_of_ble_eq_true rfl⟩ dX1_load_21 ?_
  obtain ⟨σ3, eσ3⟩ : ∃ τ, τ = h_new σ2 (.inr (.inl (2, [.int 0, .int 0, .int 0, .int 0, .null, .null, .null, .null]))) := ⟨_, rfl⟩
  refine A_st (σ' := σ3) eσ3.symm ?_
  have wσ3 : wfh σ3 := by rw [eσ3]; exact wσ2.new
  have fσ3_0 : σ3.1 x = some (.inr (.inl (0, [.ref bf, .int (nI k), .int 0, .int (-1), nv, .ref dq, .ref sv, .ref ou]))) := by rw [eσ3]; exact (hn_ne (Nat.ne_of_lt (wσ2 _ _ fσ2_0))).trans fσ2_0
  have fσ3_1 : σ3.1 bf = some (.inl (.byte, 500, .inl B)) := by rw [eσ3]; exact (hn_ne (Nat.ne_of_lt (wσ2 _ _ fσ2_1))).trans fσ2_1
  have fσ3_2 : σ3.1 sv = some (.inl (.object "FlagLaundry$World", 2, .inr (.inr (.inr (.inr fs))))) := by rw [eσ3]; exact (hn_ne (Nat.ne_of_lt (wσ2 _ _ fσ2_2))).trans fσ2_2
  have fσ3_3 : σ3.1 σ2.2 = some (.inr (.inl (2, [.int 0, .int 0, .int 0, .int 0, .null, .null, .null, .null]))) := by rw [eσ3]; exact if_pos rfl
  have xσ3 : ext σ2 σ3 := by rw [eσ3]; exact ext_new _ _
  refine A_dup dX1_load_24 rfl ?_
  refine A_aload_n (i := 0) dX1_load_25 rfl rfl ?_
  refine A_iload_n (i := 1) dX1_load_26 rfl rfl ?_
  refine A_callI2 (b' := 40490) (c_pInit σ3 (σ2.2) x bf n S B (zrU N0 173) to fσ3_3 ⟨⟨_, _, _, _, _, _, _, fσ3_0⟩, fσ3_1, Nat.le_trans hn hk, hby⟩ hS) tX3_init q407 dX1_load_27 (by decide) (Nat.le_of_ble_eq_true rfl) (Nat.le_of_ble_eq_true rfl) (fun w9 τi9 hi9 => ?_) (fun E9 q9 τ9 h9 => h9.elim)
  obtain ⟨e9, hPi, ki⟩ := hi9
  subst e9
  refine A_wfh (fun wi9 hgi9 => ?_)
  have hyy : σ.2 ≤ σ2.2 := by rw [eσ2, eσ1]; exact Nat.le_refl _
  have gxi : τi9.1 x = some (.inr (.inl (0, [.ref bf, .int (nI k), .int 0, .int (-1), nv, .ref dq, .ref sv, .ref ou]))) := ki.at wσ3 fσ3_0 (ne_of fσ3_0 fσ3_3 (fun q => by simp at q))
  have gbfi : τi9.1 bf = some (.inl (.byte, 500, .inl B)) := ki.at wσ3 fσ3_1 (ne_of fσ3_1 fσ3_3 (fun q => by simp at q))
  have gsvi : τi9.1 sv = some (.inl (.object "FlagLaundry$World", 2, .inr (.inr (.inr (.inr fs))))) := ki.at wσ3 fσ3_2 (ne_of fσ3_2 fσ3_3 (fun q => by simp at q))
  have f2 : frS [x] σ σ2 := by rw [eσ2, eσ1]; exact ((fra.rf.put (by simp)).put (by simp)).S
  have fi : frS [x] σ τi9 := (f2.ex xσ3).kxF hyy ki
  have hxl : x < σ.2 := wσ _ _ hX
  have hyl : ¬ x = σ2.2 := Nat.ne_of_lt (Nat.lt_of_lt_of_le hxl hyy)
  have wτi9 := wi9
  obtain ⟨q0, eq0⟩ : ∃ q9, q9 = goesS B n ((zrU N0 173), 0, 0, 1, to, 0, -1) := ⟨_, rfl⟩
  rw [← eq0] at hPi
  obtain ⟨vy, wdy, ⟨hCy, _⟩, _⟩ := id hPi
  refine A_callV0 (b' := 90) (c_pParse τi9 (σ2.2) x bf n σ.2 S B ((zrU N0 173), 0, s0, tk, to, 0, -1) q0 hPi hS (eq0.trans (goes_any _ _ _ _ _ _ _ _)) rfl (fun j hj => if_pos hj) fi.1) tX3_parse q709 hCy rfl rfl dX1_load_30 (by decide) (Nat.le_of_ble_eq_true rfl) (Nat.le_of_ble_eq_true rfl) (fun w9 τp9 hp9 => ?_) (fun E9 q9 τ9 h9 => ?_)
  · skip
    obtain ⟨hz9, ⟨W, e9, hRp, hOp⟩, hGp, kyp⟩ := hp9
    subst e9
    refine A_wfh (fun wτp9 hgτp9 => ?_)
    obtain ⟨R, eR⟩ : ∃ q, q = ldR B N0 s0 tk to n := ⟨_, rfl⟩
    have eR2 : teS B n ((zrU N0 173), 0, s0, tk, to, 0, -1) = R := eR.symm
    rw [eR2] at hz9 hRp hOp hGp
    have fp : frS [x] σ τp9 := fi.ky kyp (Nat.le_refl _) hyy
    have gxτp9 : τp9.1 x = some (.inr (.inl (0, [.ref bf, .int (nI k), .int 0, .int (-1), nv, .ref dq, .ref sv, .ref ou]))) := kyp.ob gxi (by decide) (wσ _ _ hX) (Nat.ne_of_lt (Nat.lt_of_lt_of_le (wσ _ _ hX) hyy))
    have gsvτp9 : τp9.1 sv = some (.inl (.object "FlagLaundry$World", 2, .inr (.inr (.inr (.inr fs))))) := kyp.ar gsvi (wσ _ _ hSv) (Nat.ne_of_lt (Nat.lt_of_lt_of_le (wσ _ _ hSv) hyy))
    have gbfτp9 : τp9.1 bf = some (.inl (.byte, 500, .inl B)) := kyp.ar gbfi (wσ _ _ hBf) (Nat.ne_of_lt (Nat.lt_of_lt_of_le (wσ _ _ hBf) hyy))
    have hD := hGp.1
    have hW := hD.1
    refine A_putf cb_X1 gxτp9 4 (Nat.le_of_ble_eq_true rfl) q242 rfl rfl rfl rfl (Nat.le_of_ble_eq_true rfl) dX1_load_33 ?_
    obtain ⟨σ4, eσ4⟩ : ∃ τ, τ = h_put τp9 x (.inr (.inl (0, [.ref bf, .int (nI k), .int 0, .int (-1), .ref (wW W), .ref dq, .ref sv, .ref ou]))) := ⟨_, rfl⟩
    refine A_st (σ' := σ4) eσ4.symm ?_
    have wσ4 : wfh σ4 := by rw [eσ4]; exact wτp9.put gxτp9
    have fσ4_0 : σ4.1 x = some (.inr (.inl (0, [.ref bf, .int (nI k), .int 0, .int (-1), .ref (wW W), .ref dq, .ref sv, .ref ou]))) := by rw [eσ4]; exact if_pos rfl
    have fσ4_1 : σ4.1 sv = some (.inl (.object "FlagLaundry$World", 2, .inr (.inr (.inr (.inr fs))))) := by rw [eσ4]; exact (hp_ne (ne_of (x := .inl (.object "FlagLaundry$World", 2, .inr (.inr (.inr (.inr fs))))) (y := .inr (.inl (0, [.ref bf, .int (nI k), .int 0, .int (-1), nv, .ref dq, .ref sv, .ref ou]))) gsvτp9 gxτp9 (fun e8 => by simp at e8))).trans gsvτp9
    have fσ4_2 : σ4.1 bf = some (.inl (.byte, 500, .inl B)) := by rw [eσ4]; exact (hp_ne (ne_of (x := .inl (.byte, 500, .inl B)) (y := .inr (.inl (0, [.ref bf, .int (nI k), .int 0, .int (-1), nv, .ref dq, .ref sv, .ref ou]))) gbfτp9 gxτp9 (fun e8 => by simp at e8))).trans gbfτp9
    have hDp : DQ τp9 dq da hq u e := hQ.S fp wσ (fun q => by rw [List.mem_singleton] at q; rw [q] at hQ; have e8 := hX.symm.trans hQ.2.2.1; simp at e8) (fun q => by rw [List.mem_singleton] at q; obtain ⟨_, _, _, f8, h8, _⟩ := hQ; rw [q] at h8; have e8 := hX.symm.trans h8; simp at e8)
    have hRk : RW g σ4 W R.1 := hRp.oth wτp9 gxτp9 (isW_no (by decide)) (by rw [eσ4]; exact kx.rf.put)
    have hDk : DQ σ4 dq da hq u e := hDp.kx wτp9 gxτp9 (fun vs q => by simp at q) (fun v q => by simp at q) (by rw [eσ4]; exact kx.rf.put)
    refine A_aload_n (i := 0) dX1_load_36 rfl rfl ?_
    refine A_getf cb_X1 fσ4_0 5 (Nat.le_of_ble_eq_true rfl) q243 rfl (v := .ref dq) rfl dX1_load_37 ?_
    refine A_callV0 (b' := 90) (c_dqClear σ4 dq da hq u e hDk) tJ1_clear q1362 hDk.2.2.1 rfl rfl dX1_load_40 (by decide) (Nat.le_of_ble_eq_true rfl) (Nat.le_of_ble_eq_true rfl) (fun w9 τc99 hc99 => ?_) (fun E9 q9 τ9 h9 => h9.elim)
    obtain ⟨e9, hDc, kc⟩ := hc99
    subst e9
    refine A_wfh (fun wτc99 hgτc99 => ?_)
    have wτc := wτc99
    have nc : nw σ4 τc99 := hDk.nw nw.rf wσ4 kc
    have hRc : RW g τc99 W R.1 := hRk.nw nc
    obtain ⟨_, _, hdqc, fda, hdac, _⟩ := hDk
    have gxc : τc99.1 x = some (.inr (.inl (0, [.ref bf, .int (nI k), .int 0, .int (-1), .ref (wW W), .ref dq, .ref sv, .ref ou]))) := kc.at wσ4 fσ4_0 (ne_of fσ4_0 hdqc (fun q => by simp at q)) (ne_of fσ4_0 hdac (fun q => by simp at q))
    have gsvc : τc99.1 sv = some (.inl (.object "FlagLaundry$World", 2, .inr (.inr (.inr (.inr fs))))) := kc.at wσ4 fσ4_1 (ne_of fσ4_1 hdqc (fun q => by simp at q)) (ne_of fσ4_1 hdac (fun q => by simp at q))
    have fc : frS [x, dq, da, sv] σ τc99 := ((fp.sub (by simp)).tr (by rw [eσ4]; exact (fra.rf.put (by simp)).S)).k2 (by simp) (by simp) kc
    refine A_iconst (v := 0) dX1_load_43 (by decide) ?_
    refine A_istore_n (i := 2) dX1_load_44 rfl (Nat.le_of_ble_eq_true rfl) ?_
    refine A_iload_n (i := 2) dX1_load_45 rfl rfl ?_
    refine A_iconst (v := 2) dX1_load_46 (by decide) ?_
    refine A_icmp_ge_f (tgt := 63) dX1_load_47 (by decide) (by decide) ?_
    skip
    refine A_aload_n (i := 0) dX1_load_50 rfl rfl ?_
    refine A_getf cb_X1 gxc 6 (Nat.le_of_ble_eq_true rfl) q244 rfl (v := .ref sv) rfl dX1_load_51 ?_
    refine A_iload_n (i := 2) dX1_load_54 rfl rfl ?_
    refine A_null dX1_load_55 ?_
    refine A_aastN gsvc (by decide) (by unfold vp_in; decide) dX1_load_56 ?_
    refine A_st (σ' := h_put τc99 sv (.inl (.object "FlagLaundry$World", 2, .inr (.inr (.inr (.inr (va_up fs 0 none))))))) (rfl) ?_
    obtain ⟨σ5, eσ5⟩ : ∃ τ, τ = h_put τc99 sv (.inl (.object "FlagLaundry$World", 2, .inr (.inr (.inr (.inr (va_up fs 0 none)))))) := ⟨_, rfl⟩
    refine A_st (σ' := σ5) eσ5.symm ?_
    have wσ5 : wfh σ5 := by rw [eσ5]; exact wτc99.put gsvc
    have fσ5_0 : σ5.1 x = some (.inr (.inl (0, [.ref bf, .int (nI k), .int 0, .int (-1), .ref (wW W), .ref dq, .ref sv, .ref ou]))) := by rw [eσ5]; exact (hp_ne (ne_of (x := .inr (.inl (0, [.ref bf, .int (nI k), .int 0, .int (-1), .ref (wW W), .ref dq, .ref sv, .ref ou]))) (y := .inl (.object "FlagLaundry$World", 2, .inr (.inr (.inr (.inr fs))))) gxc gsvc (fun e8 => by simp at e8))).trans gxc
    have fσ5_1 : σ5.1 sv = some (.inl (.object "FlagLaundry$World", 2, .inr (.inr (.inr (.inr (va_up fs 0 none)))))) := by rw [eσ5]; exact if_pos rfl
    refine A_iinc (v := 1) dX1_load_57 rfl (by decide) (Nat.le_of_ble_eq_true rfl) ?_
    refine A_goto (tgt := 45) dX1_load_60 (by decide) ?_
    refine A_sub (L' := [(0, .ref x), (1, .int (nI n)), (2, .int 1)]) ⟨rfl, rfl, rfl, trivial⟩ ?_
    refine A_iload_n (i := 2) dX1_load_45 rfl rfl ?_
    refine A_iconst (v := 2) dX1_load_46 (by decide) ?_
    refine A_icmp_ge_f (tgt := 63) dX1_load_47 (by decide) (by decide) ?_
    skip
    refine A_aload_n (i := 0) dX1_load_50 rfl rfl ?_
    refine A_getf cb_X1 fσ5_0 6 (Nat.le_of_ble_eq_true rfl) q244 rfl (v := .ref sv) rfl dX1_load_51 ?_
    refine A_iload_n (i := 2) dX1_load_54 rfl rfl ?_
    refine A_null dX1_load_55 ?_
    refine A_aastN fσ5_1 (by decide) (by unfold vp_in; decide) dX1_load_56 ?_
    refine A_st (σ' := h_put σ5 sv (.inl (.object "FlagLaundry$World", 2, .inr (.inr (.inr (.inr (va_up (va_up fs 0 none) 1 none))))))) (rfl) ?_
    obtain ⟨σ6, eσ6⟩ : ∃ τ, τ = h_put σ5 sv (.inl (.object "FlagLaundry$World", 2, .inr (.inr (.inr (.inr (va_up (va_up fs 0 none) 1 none)))))) := ⟨_, rfl⟩
    refine A_st (σ' := σ6) eσ6.symm ?_
    have wσ6 : wfh σ6 := by rw [eσ6]; exact wσ5.put fσ5_1
    have fσ6_0 : σ6.1 x = some (.inr (.inl (0, [.ref bf, .int (nI k), .int 0, .int (-1), .ref (wW W), .ref dq, .ref sv, .ref ou]))) := by rw [eσ6]; exact (hp_ne (ne_of (x := .inr (.inl (0, [.ref bf, .int (nI k), .int 0, .int (-1), .ref (wW W), .ref dq, .ref sv, .ref ou]))) (y := .inl (.object "FlagLaundry$World", 2, .inr (.inr (.inr (.inr (va_up fs 0 none)))))) fσ5_0 fσ5_1 (fun e8 => by simp at e8))).trans fσ5_0
    have fσ6_1 : σ6.1 sv = some (.inl (.object "FlagLaundry$World", 2, .inr (.inr (.inr (.inr (va_up (va_up fs 0 none) 1 none)))))) := by rw [eσ6]; exact if_pos rfl
    refine A_iinc (v := 2) dX1_load_57 rfl (by decide) (Nat.le_of_ble_eq_true rfl) ?_
    refine A_goto (tgt := 45) dX1_load_60 (by decide) ?_
    refine A_sub (L' := [(0, .ref x), (1, .int (nI n)), (2, .int 2)]) ⟨rfl, rfl, rfl, trivial⟩ ?_
    refine A_iload_n (i := 2) dX1_load_45 rfl rfl ?_
    refine A_iconst (v := 2) dX1_load_46 (by decide) ?_
    refine A_icmp_ge_t (tgt := 63) dX1_load_47 (by decide) (by decide) ?_
    have hRv0 : RW g σ5 W R.1 := hRc.oth wτc99 gsvc (isW_ty ⟨by decide, by decide, by decide⟩) (by rw [eσ5]; exact kx.rf.put)
    have hRv : RW g σ6 W R.1 := hRv0.oth wσ5 fσ5_1 (isW_ty ⟨by decide, by decide, by decide⟩) (by rw [eσ6]; exact kx.rf.put)
    have hDv0 : DQ σ5 dq da 0 0 e := hDc.kx wτc99 gsvc (fun vs q => by simp at q) (fun v q => by simp at q) (by rw [eσ5]; exact kx.rf.put)
    have hDv : DQ σ6 dq da 0 0 e := hDv0.kx wσ5 fσ5_1 (fun vs q => by simp at q) (fun v q => by simp at q) (by rw [eσ6]; exact kx.rf.put)
    refine A_aload_n (i := 0) dX1_load_63 rfl rfl ?_
    refine A_getf cb_X1 fσ6_0 4 (Nat.le_of_ble_eq_true rfl) q242 rfl (v := .ref (wW W)) rfl dX1_load_64 ?_
    refine A_callV0E (b' := 90) (v := some (.int (nI (nF R.1)))) (τ := σ6) (c_many σ6 W R.1 hRv hW) tX5_many q1369 hRv.1 rfl rfl dX1_load_67 (by decide) (Nat.le_of_ble_eq_true rfl) (Nat.le_of_ble_eq_true rfl) ?_
    refine A_istore_n (i := 2) dX1_load_70 rfl (Nat.le_of_ble_eq_true rfl) ?_
    skip
    refine A_aload_n (i := 0) dX1_load_71 rfl rfl ?_
    refine A_iconst (v := 0) dX1_load_72 (by decide) ?_
    refine A_putf cb_X1 fσ6_0 1 (Nat.le_of_ble_eq_true rfl) q239 rfl rfl rfl rfl (Nat.le_of_ble_eq_true rfl) dX1_load_73 ?_
    obtain ⟨σ7, eσ7⟩ : ∃ τ, τ = h_put σ6 x (.inr (.inl (0, [.ref bf, .int 0, .int 0, .int (-1), .ref (wW W), .ref dq, .ref sv, .ref ou]))) := ⟨_, rfl⟩
    refine A_st (σ' := σ7) eσ7.symm ?_
    have wσ7 : wfh σ7 := by rw [eσ7]; exact wσ6.put fσ6_0
    have fσ7_0 : σ7.1 x = some (.inr (.inl (0, [.ref bf, .int 0, .int 0, .int (-1), .ref (wW W), .ref dq, .ref sv, .ref ou]))) := by rw [eσ7]; exact if_pos rfl
    have fσ7_1 : σ7.1 sv = some (.inl (.object "FlagLaundry$World", 2, .inr (.inr (.inr (.inr (va_up (va_up fs 0 none) 1 none)))))) := by rw [eσ7]; exact (hp_ne (ne_of (x := .inl (.object "FlagLaundry$World", 2, .inr (.inr (.inr (.inr (va_up (va_up fs 0 none) 1 none)))))) (y := .inr (.inl (0, [.ref bf, .int (nI k), .int 0, .int (-1), .ref (wW W), .ref dq, .ref sv, .ref ou]))) fσ6_1 fσ6_0 (fun e8 => by simp at e8))).trans fσ6_1
    have fσ7_2 : σ7.1 (wW W) = some (.inr (.inl (4, [.int (R.1 9), .ref (wR W), .ref (wM W), .ref (wNL W), .ref (wFL W), .ref (wUN W), .int (R.1 6), .int (R.1 8), .int (R.1 0), .int (R.1 1), .int (R.1 2), .int (R.1 3), .int (R.1 4), .int (R.1 5), .int (R.1 11)]))) := by rw [eσ7]; exact (hp_ne (ne_of (x := .inr (.inl (4, [.int (R.1 9), .ref (wR W), .ref (wM W), .ref (wNL W), .ref (wFL W), .ref (wUN W), .int (R.1 6), .int (R.1 8), .int (R.1 0), .int (R.1 1), .int (R.1 2), .int (R.1 3), .int (R.1 4), .int (R.1 5), .int (R.1 11)]))) (y := .inr (.inl (0, [.ref bf, .int (nI k), .int 0, .int (-1), .ref (wW W), .ref dq, .ref sv, .ref ou]))) hRv.1 fσ6_0 (fun e8 => by simp at e8))).trans hRv.1
    refine A_iload_n (i := 2) dX1_load_76 rfl rfl ?_
    exact A_iret dX1_load_77 rfl (by rw [show ldR B N0 s0 tk to (ix (nI n)) = R by rw [ixn hn2, ← eR]]; exact ⟨ck, hz9, rfl, W, 0, fσ7_0, hRv.oth wσ6 fσ6_0 (isW_no (by decide)) (by rw [eσ7]; exact kx.rf.put), hGp, hDv.kx wσ6 fσ6_0 (fun vs q => by simp at q) (fun v q => by simp at q) (by rw [eσ7]; exact kx.rf.put), fσ7_1, by rw [eσ7, eσ6, eσ5]; exact ((fc.put (by simp)).put (by simp)).put (by simp)⟩)
  · skip
    obtain ⟨hE9, hc9, hq9, ky9⟩ := h9
    subst hE9
    refine A_catch (pre := []) (suf := [(20, 71, 103, 0), (78, 104, 103, 0)]) (s9 := 20) (e9 := 71) (h9 := 78) (t9 := 184) rfl (fun z hz => by simp at hz) ⟨by decide, by decide⟩ (by decide) q377 q728 ?_
    refine A_wfh (fun wτ9 hgτ9 => ?_)
    obtain ⟨R, eR⟩ : ∃ q, q = ldR B N0 s0 tk to n := ⟨_, rfl⟩
    have eR2 : teS B n ((zrU N0 173), 0, s0, tk, to, 0, -1) = R := eR.symm
    rw [eR2] at hc9 hq9
    have f9 : frS [x] σ τ9 := fi.ky ky9 (Nat.le_refl _) hyy
    have gxτ9 : τ9.1 x = some (.inr (.inl (0, [.ref bf, .int (nI k), .int 0, .int (-1), nv, .ref dq, .ref sv, .ref ou]))) := ky9.ob gxi (by decide) (wσ _ _ hX) (Nat.ne_of_lt (Nat.lt_of_lt_of_le (wσ _ _ hX) hyy))
    have gsvτ9 : τ9.1 sv = some (.inl (.object "FlagLaundry$World", 2, .inr (.inr (.inr (.inr fs))))) := ky9.ar gsvi (wσ _ _ hSv) (Nat.ne_of_lt (Nat.lt_of_lt_of_le (wσ _ _ hSv) hyy))
    have gbfτ9 : τ9.1 bf = some (.inl (.byte, 500, .inl B)) := ky9.ar gbfi (wσ _ _ hBf) (Nat.ne_of_lt (Nat.lt_of_lt_of_le (wσ _ _ hBf) hyy))
    refine A_astore_n (i := 2) dX1_load_78 rfl (Nat.le_of_ble_eq_true rfl) ?_
    refine A_aload_n (i := 0) dX1_load_79 rfl rfl ?_
    refine A_aload_n (i := 2) dX1_load_80 rfl rfl ?_
    refine A_getfN cb_X4 hq9 6 (Nat.le_of_ble_eq_true rfl) q745 rfl (v := .int (pcd R)) rfl dX1_load_81 ?_
    refine A_putf cb_X1 gxτ9 2 (Nat.le_of_ble_eq_true rfl) q240 rfl rfl rfl rfl (Nat.le_of_ble_eq_true rfl) dX1_load_84 ?_
    obtain ⟨σ8, eσ8⟩ : ∃ τ, τ = h_put τ9 x (.inr (.inl (0, [.ref bf, .int (nI k), .int (pcd R), .int (-1), nv, .ref dq, .ref sv, .ref ou]))) := ⟨_, rfl⟩
    refine A_st (σ' := σ8) eσ8.symm ?_
    have wσ8 : wfh σ8 := by rw [eσ8]; exact wτ9.put gxτ9
    have fσ8_0 : σ8.1 x = some (.inr (.inl (0, [.ref bf, .int (nI k), .int (pcd R), .int (-1), nv, .ref dq, .ref sv, .ref ou]))) := by rw [eσ8]; exact if_pos rfl
    have fσ8_1 : σ8.1 sv = some (.inl (.object "FlagLaundry$World", 2, .inr (.inr (.inr (.inr fs))))) := by rw [eσ8]; exact (hp_ne (ne_of (x := .inl (.object "FlagLaundry$World", 2, .inr (.inr (.inr (.inr fs))))) (y := .inr (.inl (0, [.ref bf, .int (nI k), .int 0, .int (-1), nv, .ref dq, .ref sv, .ref ou]))) gsvτ9 gxτ9 (fun e8 => by simp at e8))).trans gsvτ9
    have fσ8_2 : σ8.1 bf = some (.inl (.byte, 500, .inl B)) := by rw [eσ8]; exact (hp_ne (ne_of (x := .inl (.byte, 500, .inl B)) (y := .inr (.inl (0, [.ref bf, .int (nI k), .int 0, .int (-1), nv, .ref dq, .ref sv, .ref ou]))) gbfτ9 gxτ9 (fun e8 => by simp at e8))).trans gbfτ9
    have fσ8_3 : σ8.1 q9 = some (.inr (.inl (3, [.null, .null, .null, .null, .null, .int 0, .int (pcd R), .int R.2.2.2.2.2.2]))) := by rw [eσ8]; exact (hp_ne (ne_of (x := .inr (.inl (3, [.null, .null, .null, .null, .null, .int 0, .int (pcd R), .int R.2.2.2.2.2.2]))) (y := .inr (.inl (0, [.ref bf, .int (nI k), .int 0, .int (-1), nv, .ref dq, .ref sv, .ref ou]))) hq9 gxτ9 (fun e8 => by simp at e8))).trans hq9
    refine A_aload_n (i := 0) dX1_load_87 rfl rfl ?_
    refine A_aload_n (i := 2) dX1_load_88 rfl rfl ?_
    refine A_getfN cb_X4 fσ8_3 7 (Nat.le_of_ble_eq_true rfl) q747 rfl (v := .int R.2.2.2.2.2.2) rfl dX1_load_89 ?_
    refine A_putf cb_X1 fσ8_0 3 (Nat.le_of_ble_eq_true rfl) q241 rfl rfl rfl rfl (Nat.le_of_ble_eq_true rfl) dX1_load_92 ?_
    obtain ⟨σ9, eσ9⟩ : ∃ τ, τ = h_put σ8 x (.inr (.inl (0, [.ref bf, .int (nI k), .int (pcd R), .int R.2.2.2.2.2.2, nv, .ref dq, .ref sv, .ref ou]))) := ⟨_, rfl⟩
    refine A_st (σ' := σ9) eσ9.symm ?_
    have wσ9 : wfh σ9 := by rw [eσ9]; exact wσ8.put fσ8_0
    have fσ9_0 : σ9.1 x = some (.inr (.inl (0, [.ref bf, .int (nI k), .int (pcd R), .int R.2.2.2.2.2.2, nv, .ref dq, .ref sv, .ref ou]))) := by rw [eσ9]; exact if_pos rfl
    have fσ9_1 : σ9.1 sv = some (.inl (.object "FlagLaundry$World", 2, .inr (.inr (.inr (.inr fs))))) := by rw [eσ9]; exact (hp_ne (ne_of (x := .inl (.object "FlagLaundry$World", 2, .inr (.inr (.inr (.inr fs))))) (y := .inr (.inl (0, [.ref bf, .int (nI k), .int (pcd R), .int (-1), nv, .ref dq, .ref sv, .ref ou]))) fσ8_1 fσ8_0 (fun e8 => by simp at e8))).trans fσ8_1
    have fσ9_2 : σ9.1 bf = some (.inl (.byte, 500, .inl B)) := by rw [eσ9]; exact (hp_ne (ne_of (x := .inl (.byte, 500, .inl B)) (y := .inr (.inl (0, [.ref bf, .int (nI k), .int (pcd R), .int (-1), nv, .ref dq, .ref sv, .ref ou]))) fσ8_2 fσ8_0 (fun e8 => by simp at e8))).trans fσ8_2
    have fσ9_3 : σ9.1 q9 = some (.inr (.inl (3, [.null, .null, .null, .null, .null, .int 0, .int (pcd R), .int R.2.2.2.2.2.2]))) := by rw [eσ9]; exact (hp_ne (ne_of (x := .inr (.inl (3, [.null, .null, .null, .null, .null, .int 0, .int (pcd R), .int R.2.2.2.2.2.2]))) (y := .inr (.inl (0, [.ref bf, .int (nI k), .int (pcd R), .int (-1), nv, .ref dq, .ref sv, .ref ou]))) fσ8_3 fσ8_0 (fun e8 => by simp at e8))).trans fσ8_3
    refine A_throw0 (b' := 0) (cls := "java/lang/IllegalArgumentException") (by decide +kernel) dX1_load_95 dX1_load_98 dX1_load_99 dX1_load_102 (by decide) (Nat.le_of_ble_eq_true rfl) (by decide) (fun q8 n8 hq8 hn8 => ?_)
    refine A_fin cb_X1 (pre := [(20, 71, 78, 184), (20, 71, 103, 0)]) (suf := []) (s9 := 78) (e9 := 104) (h9 := 103) rfl (by intro z hz; simp at hz; rcases hz with rfl | rfl <;> exact Or.inl (by decide)) ⟨by decide, by decide⟩ (a := x) (Nat.ne_of_gt (Nat.lt_of_lt_of_le (wσ9 _ _ fσ9_0) hq8)) (w := 0) rfl fσ9_0 1 (Nat.le_of_ble_eq_true rfl) q239 rfl rfl rfl rfl (Nat.le_of_ble_eq_true rfl) dX1_load_103 dX1_load_104 dX1_load_105 dX1_load_106 dX1_load_109 dX1_load_110 (by decide) rfl rfl ?_
    refine A_outH (by decide) ?_
    rw [show ldR B N0 s0 tk to (ix (nI n)) = R by rw [ixn hn2, ← eR]]
    exact Or.inr ⟨rfl, ck, hc9, if_pos rfl, (((show frS [x] σ σ9 by rw [eσ9, eσ8]; exact (f9.put (by simp)).put (by simp)).sz hn8).put (by simp))⟩
theorem c_loadC {l : Launch} {g : GC} (σ : AH) (x bf dq da sv ou k hq u : Nat) (pe ep : Int32) (nv : Value) (fs : Nat → Option Nat) (e : Nat → Nat) (B N0 : AF) (s0 : Nat) (tk to i : Int32) (hX : σ.1 x = some (lauC bf (nI k) pe ep nv dq sv ou)) (hk : k ≤ 500) (hBf : σ.1 bf = some (bytA 500 B)) (hby : byt B) (hQ : DQ σ dq da hq u e) (hSv : σ.1 sv = some (objA "FlagLaundry$World" 2 fs)) : AMet l g mX1_load 49 40500 [.ref x, .int i] σ (LDQ g σ x bf dq da sv ou k fs e i (ldR B N0 s0 tk to (ix i))) (LDX σ x bf dq sv ou k nv i (ldR B N0 s0 tk to (ix i))) := by
  by_cases ck : inR i 0 (nI k)
  · obtain ⟨n, hn, rfl⟩ := in6_ex (Nat.le_trans hk (by decide)) ck
    exact c_ldOk σ x bf dq da sv ou k hq u pe ep nv fs e B N0 s0 tk to n hX hk hBf hby hQ hSv hn ck
  · exact c_ldNo σ x bf dq da sv ou k hq u pe ep nv fs e B N0 s0 tk to i hX hk hBf hby hQ hSv ck
