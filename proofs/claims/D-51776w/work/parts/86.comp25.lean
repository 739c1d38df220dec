/-! THE PARSER 1 -/
def atV (B : AF) (n k : Nat) : Int32 := if k < n then B k &&& 255 else -1
/-- all are bytes -/
def byt (B : AF) : Prop := ∀ k, ∃ i, i < 256 ∧ B k = b8 (nI i)
theorem byT : ∀ i, i < 256 → (b8 (nI i) &&& 255 = 32 ↔ b8 (nI i) = 32) ∧ (inR (b8 (nI i) &&& 255) 97 122 ↔ inR (b8 (nI i)) 97 122) ∧ (inR (b8 (nI i) &&& 255) 48 57 ↔ inR (b8 (nI i)) 48 57) ∧ (b8 (nI i) &&& 255 = 59 ↔ b8 (nI i) = 59) ∧ (¬ b8 (nI i) &&& 255 = -1) ∧ (inR (b8 (nI i)) 97 122 → b8 (nI i) &&& 255 = b8 (nI i) ∧ b8 (nI i) = nI i ∧ i < 128) ∧ (inR (b8 (nI i)) 48 57 → b8 (nI i) &&& 255 = b8 (nI i)) := by decide +kernel
theorem at_in {B : AF} {n k : Nat} (h : k < n) : atV B n k = B k &&& 255 := if_pos h
theorem at_no {B : AF} {n k : Nat} (h : ¬ k < n) : atV B n k = -1 := if_neg h
theorem at_sp {B : AF} (hb : byt B) {n k : Nat} : atV B n k = 32 ↔ spP B n k := by
  by_cases c : k < n
  · obtain ⟨i, hi, e⟩ := hb k
    rw [at_in c, e, (byT i hi).1]
    exact ⟨fun h => ⟨c, by rw [e]; exact h⟩, fun h => by rw [← e]; exact h.2⟩
  · rw [at_no c]
    exact ⟨fun h => absurd h (by decide), fun h => absurd h.1 c⟩
theorem at_le {B : AF} (hb : byt B) {n k : Nat} : inR (atV B n k) 97 122 ↔ leP B n k := by
  by_cases c : k < n
  · obtain ⟨i, hi, e⟩ := hb k
    rw [at_in c, e, (byT i hi).2.1]
    exact ⟨fun h => ⟨c, by rw [e]; exact h⟩, fun h => by rw [← e]; exact h.2⟩
  · rw [at_no c]
    exact ⟨fun h => absurd h (by decide), fun h => absurd h.1 c⟩
theorem at_di {B : AF} (hb : byt B) {n k : Nat} : inR (atV B n k) 48 57 ↔ diP B n k := by
  by_cases c : k < n
  · obtain ⟨i, hi, e⟩ := hb k
    rw [at_in c, e, (byT i hi).2.2.1]
    exact ⟨fun h => ⟨c, by rw [e]; exact h⟩, fun h => by rw [← e]; exact h.2⟩
  · rw [at_no c]
    exact ⟨fun h => absurd h (by decide), fun h => absurd h.1 c⟩
theorem at_end {B : AF} (hb : byt B) {n k : Nat} : atV B n k = -1 ↔ ¬ k < n := by
  by_cases c : k < n
  · obtain ⟨i, hi, e⟩ := hb k
    rw [at_in c, e]
    exact ⟨fun h => absurd h (byT i hi).2.2.2.2.1, fun h => absurd c h⟩
  · rw [at_no c]
    exact ⟨fun _ => c, fun _ => rfl⟩
theorem at_se {B : AF} (hb : byt B) {n k : Nat} (c : k < n) : atV B n k = 59 ↔ B k = 59 := by
  obtain ⟨i, hi, e⟩ := hb k
  rw [at_in c, e, (byT i hi).2.2.2.1]
theorem at_lv {B : AF} (hb : byt B) {n k : Nat} (h : leP B n k) : atV B n k = B k ∧ ∃ j, j < 128 ∧ B k = nI j := by
  obtain ⟨i, hi, e⟩ := hb k
  obtain ⟨e1, e2, e3⟩ := (byT i hi).2.2.2.2.2.1 (by rw [← e]; exact h.2)
  rw [at_in h.1, e]
  exact ⟨e1, i, e3, e2⟩
theorem at_dv {B : AF} (hb : byt B) {n k : Nat} (h : diP B n k) : atV B n k = B k := by
  obtain ⟨i, hi, e⟩ := hb k
  rw [at_in h.1, e]
  exact (byT i hi).2.2.2.2.2.2 (by rw [← e]; exact h.2)
theorem at_ch {B : AF} (hb : byt B) {n k : Nat} (h : leP B n k) : ((atV B n k).toUInt32 % 65536).toInt32 = B k := by
  obtain ⟨e, j, hj, e2⟩ := at_lv hb h
  rw [e, e2]
  exact (chT j hj).2.1
def wls (B : AF) (s k : Nat) : List Int32 := (List.range k).map (fun j => B (s + j))
theorem wls_s (B : AF) (s k : Nat) : wls B s (k + 1) = wls B s k ++ [B (s + k)] := by
  unfold wls
  rw [List.range_succ, List.map_append]
  rfl
theorem wls_len (B : AF) (s k : Nat) : (wls B s k).length = k := by
  unfold wls
  rw [List.length_map, List.length_range]
theorem wls_at {B : AF} {s k i : Nat} (h : i < k) : (wls B s k).getD i 0 = B (s + i) := by
  unfold wls
  rw [List.getD_eq_getElem?_getD, List.getElem?_map, List.getElem?_range h]
  rfl
abbrev tk5 (a : Int32) : Prop := a = 0 ∨ a = 1 ∨ a = 2 ∨ a = 3 ∨ a = 4
/-- the sorts of tokens: the start's own constants -/
def SRT (g : GC) (S : Int32 → Nat) : Prop := o_st g "FlagLaundry$Sort" "BAD" "LFlagLaundry$Sort;" (.ref (S 0)) ∧ o_st g "FlagLaundry$Sort" "END" "LFlagLaundry$Sort;" (.ref (S 1)) ∧ o_st g "FlagLaundry$Sort" "WORD" "LFlagLaundry$Sort;" (.ref (S 2)) ∧ o_st g "FlagLaundry$Sort" "NUMBER" "LFlagLaundry$Sort;" (.ref (S 3)) ∧ o_st g "FlagLaundry$Sort" "SEMICOLON" "LFlagLaundry$Sort;" (.ref (S 4)) ∧ ∀ a b, tk5 a → tk5 b → S a = S b → a = b
theorem SRT.ne {g : GC} {S : Int32 → Nat} (h : SRT g S) {a b : Int32} (ha : tk5 a) (hb : tk5 b) (hn : ¬ a = b) : ¬ some (S a) = some (S b) := fun e => hn (h.2.2.2.2.2 a b ha hb (Option.some.inj e))
theorem SRT.iff {g : GC} {S : Int32 → Nat} (h : SRT g S) {a b : Int32} (ha : tk5 a) (hb : tk5 b) : some (S a) = some (S b) ↔ a = b := ⟨fun e => h.2.2.2.2.2 a b ha hb (Option.some.inj e), fun e => by rw [e]⟩
theorem srt_ex {l : Launch} {g : GC} (hg : g_ok l g) : ∃ S, SRT g S := by
  obtain ⟨q0, h0, -, k0⟩ := en_of hg q432 (lw_all_tbl q148) (n := "BAD") (E := "FlagLaundry$Sort") (k := 4) (by decide +kernel) (by decide +kernel)
  obtain ⟨q1, h1, -, k1⟩ := en_of hg q412 (lw_all_tbl q148) (n := "END") (E := "FlagLaundry$Sort") (k := 3) (by decide +kernel) (by decide +kernel)
  obtain ⟨q2, h2, -, k2⟩ := en_of hg q430 (lw_all_tbl q148) (n := "WORD") (E := "FlagLaundry$Sort") (k := 0) (by decide +kernel) (by decide +kernel)
  obtain ⟨q3, h3, -, k3⟩ := en_of hg q681 (lw_all_tbl q148) (n := "NUMBER") (E := "FlagLaundry$Sort") (k := 1) (by decide +kernel) (by decide +kernel)
  obtain ⟨q4, h4, -, k4⟩ := en_of hg q683 (lw_all_tbl q148) (n := "SEMICOLON") (E := "FlagLaundry$Sort") (k := 2) (by decide +kernel) (by decide +kernel)
  have u : ∀ {q q' : Nat} {a b : Int32}, o_fld g "java/lang/Enum" "ordinal" "I" (.int a) q → o_fld g "java/lang/Enum" "ordinal" "I" (.int b) q' → ¬ a = b → ¬ q = q' := fun {q q' a b} h k n e => n (by
    rw [e] at h
    have z := o_fld_u h k
    cases z
    rfl)
  have e : ∀ a b, tk5 a → tk5 b → (fun a : Int32 => if a = 0 then q0 else if a = 1 then q1 else if a = 2 then q2 else if a = 3 then q3 else q4) a = (fun a : Int32 => if a = 0 then q0 else if a = 1 then q1 else if a = 2 then q2 else if a = 3 then q3 else q4) b → a = b := by
    intro a b ha hb h9
    rcases ha with rfl | rfl | rfl | rfl | rfl <;> rcases hb with rfl | rfl | rfl | rfl | rfl <;> first | rfl | (exfalso; revert h9; first | exact u k0 k1 (by decide) | exact u k0 k2 (by decide) | exact u k0 k3 (by decide) | exact u k0 k4 (by decide) | exact u k1 k0 (by decide) | exact u k1 k2 (by decide) | exact u k1 k3 (by decide) | exact u k1 k4 (by decide) | exact u k2 k0 (by decide) | exact u k2 k1 (by decide) | exact u k2 k3 (by decide) | exact u k2 k4 (by decide) | exact u k3 k0 (by decide) | exact u k3 k1 (by decide) | exact u k3 k2 (by decide) | exact u k3 k4 (by decide) | exact u k4 k0 (by decide) | exact u k4 k1 (by decide) | exact u k4 k2 (by decide) | exact u k4 k3 (by decide))
  exact ⟨_, h0, h1, h2, h3, h4, e⟩
abbrev prsC (n c s : Nat) (v : Int32) (sr wd : Nat) (mv : Value) (x : Nat) : AE := .inr (.inl (2, [.int (nI n), .int (nI c), .int (nI s), .int v, .ref sr, .ref wd, mv, .ref x]))
/-- what the parser reads: FlagLaundry's buffer -/
def PB (σ : AH) (x bf : Nat) (B : AF) (n : Nat) : Prop := (∃ bd pe ep nv dq sv ou, σ.1 x = some (lauC bf bd pe ep nv dq sv ou)) ∧ σ.1 bf = some (bytA 500 B) ∧ n ≤ 500 ∧ byt B
theorem PB.kx {σ τ : AH} {x bf n A : Nat} {B : AF} {vs : List Value} (h : PB σ x bf B n) (w : wfh σ) (hA : σ.1 A = some (.inr (.inl (2, vs)))) (k : kx A σ τ) : PB τ x bf B n := by
  obtain ⟨⟨bd, pe, ep, nv, dq, sv, ou, h1⟩, h2, h3⟩ := h
  exact ⟨⟨bd, pe, ep, nv, dq, sv, ou, k.at w h1 (ne_of h1 hA (fun q => by simp at q))⟩, k.at w h2 (ne_of h2 hA (fun q => by simp at q)), h3⟩
theorem PB.ex {σ τ : AH} {x bf n : Nat} {B : AF} (h : PB σ x bf B n) (w : wfh σ) (k : ext σ τ) : PB τ x bf B n := by
  obtain ⟨⟨bd, pe, ep, nv, dq, sv, ou, h1⟩, h2, h3⟩ := h
  exact ⟨⟨bd, pe, ep, nv, dq, sv, ou, k.at w h1⟩, k.at w h2, h3⟩
/-- the parser y stands as p says -/
def PR (σ : AH) (y x bf : Nat) (S : Int32 → Nat) (B : AF) (n : Nat) (mv : Value) (p : PT) : Prop := ∃ v wd, σ.1 y = some (prsC n p.2.1 p.2.2.1 v (S p.2.2.2.1) wd mv x) ∧ PB σ x bf B n ∧ (p.2.2.2.1 = 3 → v = p.2.2.2.2.1) ∧ tk5 p.2.2.2.1 ∧ p.2.1 ≤ n ∧ p.2.2.1 ≤ p.2.1
/-- the word that was read -/
def PWd (g : GC) (σ : AH) (wd : Nat) (B : AF) (p : PT) : Prop := (p.2.2.2.1 = 2 ∧ p.2.1 - p.2.2.1 ≤ 6 ∧ 0 < p.2.1 - p.2.2.1 ∧ ∃ va, NST σ wd va 0 0 (wls B p.2.2.1 (p.2.1 - p.2.2.1))) ∨ (¬ p.2.2.2.1 = 2 ∧ (o_str g wd [] ∨ ∃ va, NST σ wd va 0 0 []))
def PRW (g : GC) (σ : AH) (y x bf : Nat) (S : Int32 → Nat) (B : AF) (n : Nat) (mv : Value) (p : PT) : Prop := ∃ v wd, (σ.1 y = some (prsC n p.2.1 p.2.2.1 v (S p.2.2.2.1) wd mv x) ∧ PB σ x bf B n ∧ (p.2.2.2.1 = 3 → v = p.2.2.2.2.1) ∧ tk5 p.2.2.2.1 ∧ p.2.1 ≤ n ∧ p.2.2.1 ≤ p.2.1) ∧ PWd g σ wd B p
theorem PRW.pr {g : GC} {σ : AH} {y x bf : Nat} {S : Int32 → Nat} {B : AF} {n : Nat} {mv : Value} {p : PT} (h : PRW g σ y x bf S B n mv p) : PR σ y x bf S B n mv p := by
  obtain ⟨v, wd, h, -⟩ := h
  exact ⟨v, wd, h⟩
/-- a flaw is thrown -/
def A_fl (c : Int32) (p : Int32) (y : Nat) (σ : AH) : String → Nat → AH → Prop := fun E q τ => E = "FlagLaundry$Flaw" ∧ τ.1 q = some (flwC c p) ∧ kx y σ τ
theorem fra2.ext {a b : Nat} {σ5 τ0 τ : AH} (h : fra [a, b] τ0 τ) (k : ext σ5 τ0) (ha : σ5.2 ≤ a) (hb : σ5.2 ≤ b) : ext σ5 τ := ⟨Nat.le_trans k.1 h.1, fun q hq => (h.2 q (Nat.lt_of_lt_of_le hq k.1) (fun m => by
  simp only [List.mem_cons, List.not_mem_nil, or_false] at m
  omega)).trans (k.2 q hq)⟩
set_option maxHeartbeats 400000 in
theorem c_pAt {l : Launch} {g : GC} (σ : AH) (y x bf n c s : Nat) (v : Int32) (sr wd : Nat) (mv : Value) (B : AF) (k : Nat) (hC : σ.1 y = some (prsC n c s v sr wd mv x)) (hP : PB σ x bf B n) (hk : k ≤ 600) : AMet l g mX3_at 1 0 [.ref y, .int (nI k)] σ (A_eq (some (.int (atV B n k))) σ) (A_no) := by
  refine A_of rfl (by decide) (Nat.le_of_ble_eq_true rfl) (L0 := [(0, .ref y), (1, .int (nI k))]) rfl ?_
  obtain ⟨⟨bd, pe, ep, nv, dq, sv, ou, hX⟩, hBf, hn5, hby⟩ := id hP
  refine A_iload_n (i := 1) dX3_at_0 rfl rfl ?_
  refine A_aload_n (i := 0) dX3_at_1 rfl rfl ?_
  refine A_getf cb_X3 hC 0 (Nat.le_of_ble_eq_true rfl) q684 rfl (v := .int (nI n)) rfl dX3_at_2 ?_
  refine A_icmp_ge (tgt := 24) dX3_at_5 (by decide) (fun c1 => ?_) (fun c1 => ?_)
  · skip
    refine A_iconst (v := (-1)) dX3_at_24 (by decide) ?_
    exact A_iret dX3_at_25 rfl (⟨by rw [at_no (fun q => absurd ((nI_lei (by omega) (by omega)).mp c1) (by omega))], rfl⟩)
  · skip
    refine A_aload_n (i := 0) dX3_at_8 rfl rfl ?_
    refine A_getf cb_X3 hC 7 (Nat.le_of_ble_eq_true rfl) q691 rfl (v := .ref x) rfl dX3_at_9 ?_
    refine A_getfN cb_X1 hX 0 (Nat.le_of_ble_eq_true rfl) q237 rfl (v := .ref bf) rfl dX3_at_12 ?_
    refine A_iload_n (i := 1) dX3_at_15 rfl rfl ?_
    refine A_bald hBf (vp_in_nI (by have q : k < n := Classical.byContradiction (fun q => c1 (nI_lei (by omega) (by omega) |>.mpr (by omega))); omega) (by decide)) dX3_at_16 ?_
    refine A_int (w := (B k)) (by rw [nI_clamp (by omega)]) ?_
    refine A_sipush (v := 255) dX3_at_17 (by decide) ?_
    refine A_iand dX3_at_20 ?_
    refine A_goto (tgt := 25) dX3_at_21 (by decide) ?_
    exact A_iret dX3_at_25 rfl (⟨by rw [at_in (Classical.byContradiction (fun q => c1 ((nI_lei (by omega) (by omega)).mpr (by omega))))], rfl⟩)
set_option maxHeartbeats 400000 in
theorem c_pRunL {l : Launch} {g : GC} (σ : AH) (y x bf n c s : Nat) (v : Int32) (sr wd : Nat) (mv : Value) (B : AF) (hC : σ.1 y = some (prsC n c s v sr wd mv x)) (hP : PB σ x bf B n) (hs : s ≤ n) : AMet l g mX3_run 2 0 [.ref y, .int 97, .int 122] σ (A_eq (some (.int (nI (leN B n s)))) σ) (A_no) := by
  refine A_of rfl (by decide) (Nat.le_of_ble_eq_true rfl) (L0 := [(0, .ref y), (1, .int 97), (2, .int 122)]) rfl ?_
  obtain ⟨⟨bd, pe, ep, nv, dq, sv, ou, hX⟩, hBf, hn5, hby⟩ := id hP
  have hge := leN_ge B n s
  have hle := leN_le (B := B) hs
  refine A_aload_n (i := 0) dX3_run_0 rfl rfl ?_
  refine A_getf cb_X3 hC 2 (Nat.le_of_ble_eq_true rfl) q686 rfl (v := .int (nI s)) rfl dX3_run_1 ?_
  refine A_istore_n (i := 3) dX3_run_4 rfl (Nat.le_of_ble_eq_true rfl) ?_
  refine A_sub (L' := [(0, .ref y), (1, .int 97), (2, .int 122), (3, .int (nI (s + 0)))]) ⟨rfl, rfl, rfl, rfl, trivial⟩ ?_
  refine A_for (leN B n s - s) (fun i5 => 0) (fun i5 => [(0, .ref y), (1, .int 97), (2, .int 122), (3, .int (nI (s + i5)))]) (fun i5 => σ) (fun i5 => True) trivial (fun i5 hi5 hI5 ih5 => ?_) (fun hI5 => ?_)
  · skip
    refine A_aload_n (i := 0) dX3_run_5 rfl rfl ?_
    refine A_iload_n (i := 3) dX3_run_6 rfl rfl ?_
    refine A_callV1E (b' := 0) (v := some (.int (atV B n (s + i5)))) (τ := σ) (c_pAt σ y x bf n c s v sr wd mv B (s + i5) hC hP (by omega)) tX3_at q418 hC rfl rfl dX3_run_7 (by decide) (Nat.le_of_ble_eq_true rfl) (Nat.le_of_ble_eq_true rfl) ?_
    refine A_i2l dX3_run_10 rfl ?_
    refine A_iload_n (i := 1) dX3_run_11 rfl rfl ?_
    refine A_i2l dX3_run_12 rfl ?_
    refine A_iload_n (i := 2) dX3_run_13 rfl rfl ?_
    refine A_i2l dX3_run_14 rfl ?_
    refine A_callSN3E (b' := 0) (v := some (.int (bi (inR (atV B n (s + i5)) 97 122)))) (τ := σ) (c_in1 σ _ _ _ (atV B n (s + i5)) 97 122 rfl rfl rfl) tX1_in q424 dX3_run_15 (by decide) (Nat.le_of_ble_eq_true rfl) (Nat.le_of_ble_eq_true rfl) ?_
    refine A_if_eq_f (tgt := 27) dX3_run_18 (by decide) (bi_n ((at_le hby).mpr (leN_in (Nat.le_add_right _ _) (by omega)))) ?_
    refine A_iinc (v := nI ((s + i5) + 1)) dX3_run_21 rfl (nI_inc _ _) (Nat.le_of_ble_eq_true rfl) ?_
    refine A_goto (tgt := 5) dX3_run_24 (by decide) ?_
    refine A_sub (L' := [(0, .ref y), (1, .int 97), (2, .int 122), (3, .int (nI (s + (i5 + 1))))]) ⟨rfl, rfl, rfl, rfl, trivial⟩ ?_
    exact ih5 trivial
  · skip
    refine A_aload_n (i := 0) dX3_run_5 rfl rfl ?_
    refine A_iload_n (i := 3) dX3_run_6 rfl rfl ?_
    refine A_callV1E (b' := 0) (v := some (.int (atV B n (s + (leN B n s - s))))) (τ := σ) (c_pAt σ y x bf n c s v sr wd mv B (s + (leN B n s - s)) hC hP (by omega)) tX3_at q418 hC rfl rfl dX3_run_7 (by decide) (Nat.le_of_ble_eq_true rfl) (Nat.le_of_ble_eq_true rfl) ?_
    refine A_i2l dX3_run_10 rfl ?_
    refine A_iload_n (i := 1) dX3_run_11 rfl rfl ?_
    refine A_i2l dX3_run_12 rfl ?_
    refine A_iload_n (i := 2) dX3_run_13 rfl rfl ?_
    refine A_i2l dX3_run_14 rfl ?_
    refine A_callSN3E (b' := 0) (v := some (.int (bi (inR (atV B n (s + (leN B n s - s))) 97 122)))) (τ := σ) (c_in1 σ _ _ _ (atV B n (s + (leN B n s - s))) 97 122 rfl rfl rfl) tX1_in q424 dX3_run_15 (by decide) (Nat.le_of_ble_eq_true rfl) (Nat.le_of_ble_eq_true rfl) ?_
    refine A_if_eq_t (tgt := 27) dX3_run_18 (by decide) (bi_f (fun q => by rw [show s + (leN B n s - s) = leN B n s by omega] at q; exact leN_out B n s ((at_le hby).mp q))) ?_
    refine A_iload_n (i := 3) dX3_run_27 rfl rfl ?_
    exact A_iret dX3_run_28 rfl (⟨by rw [show s + (leN B n s - s) = leN B n s by omega], rfl⟩)
set_option maxHeartbeats 400000 in
theorem c_pRunD {l : Launch} {g : GC} (σ : AH) (y x bf n c s : Nat) (v : Int32) (sr wd : Nat) (mv : Value) (B : AF) (hC : σ.1 y = some (prsC n c s v sr wd mv x)) (hP : PB σ x bf B n) (hs : s ≤ n) : AMet l g mX3_run 2 0 [.ref y, .int 48, .int 57] σ (A_eq (some (.int (nI (diN B n s)))) σ) (A_no) := by
  refine A_of rfl (by decide) (Nat.le_of_ble_eq_true rfl) (L0 := [(0, .ref y), (1, .int 48), (2, .int 57)]) rfl ?_
  obtain ⟨⟨bd, pe, ep, nv, dq, sv, ou, hX⟩, hBf, hn5, hby⟩ := id hP
  have hge := diN_ge B n s
  have hle := diN_le (B := B) hs
  refine A_aload_n (i := 0) dX3_run_0 rfl rfl ?_
  refine A_getf cb_X3 hC 2 (Nat.le_of_ble_eq_true rfl) q686 rfl (v := .int (nI s)) rfl dX3_run_1 ?_
  refine A_istore_n (i := 3) dX3_run_4 rfl (Nat.le_of_ble_eq_true rfl) ?_
  refine A_sub (L' := [(0, .ref y), (1, .int 48), (2, .int 57), (3, .int (nI (s + 0)))]) ⟨rfl, rfl, rfl, rfl, trivial⟩ ?_
  refine A_for (diN B n s - s) (fun i5 => 0) (fun i5 => [(0, .ref y), (1, .int 48), (2, .int 57), (3, .int (nI (s + i5)))]) (fun i5 => σ) (fun i5 => True) trivial (fun i5 hi5 hI5 ih5 => ?_) (fun hI5 => ?_)
  · skip
    refine A_aload_n (i := 0) dX3_run_5 rfl rfl ?_
    refine A_iload_n (i := 3) dX3_run_6 rfl rfl ?_
    refine A_callV1E (b' := 0) (v := some (.int (atV B n (s + i5)))) (τ := σ) (c_pAt σ y x bf n c s v sr wd mv B (s + i5) hC hP (by omega)) tX3_at q418 hC rfl rfl dX3_run_7 (by decide) (Nat.le_of_ble_eq_true rfl) (Nat.le_of_ble_eq_true rfl) ?_
    refine A_i2l dX3_run_10 rfl ?_
    refine A_iload_n (i := 1) dX3_run_11 rfl rfl ?_
    refine A_i2l dX3_run_12 rfl ?_
    refine A_iload_n (i := 2) dX3_run_13 rfl rfl ?_
    refine A_i2l dX3_run_14 rfl ?_
    refine A_callSN3E (b' := 0) (v := some (.int (bi (inR (atV B n (s + i5)) 48 57)))) (τ := σ) (c_in1 σ _ _ _ (atV B n (s + i5)) 48 57 rfl rfl rfl) tX1_in q424 dX3_run_15 (by decide) (Nat.le_of_ble_eq_true rfl) (Nat.le_of_ble_eq_true rfl) ?_
    refine A_if_eq_f (tgt := 27) dX3_run_18 (by decide) (bi_n ((at_di hby).mpr (diN_in (Nat.le_add_right _ _) (by omega)))) ?_
    refine A_iinc (v := nI ((s + i5) + 1)) dX3_run_21 rfl (nI_inc _ _) (Nat.le_of_ble_eq_true rfl) ?_
    refine A_goto (tgt := 5) dX3_run_24 (by decide) ?_
    refine A_sub (L' := [(0, .ref y), (1, .int 48), (2, .int 57), (3, .int (nI (s + (i5 + 1))))]) ⟨rfl, rfl, rfl, rfl, trivial⟩ ?_
    exact ih5 trivial
  · skip
    refine A_aload_n (i := 0) dX3_run_5 rfl rfl ?_
    refine A_iload_n (i := 3) dX3_run_6 rfl rfl ?_
    refine A_callV1E (b' := 0) (v := some (.int (atV B n (s + (diN B n s - s))))) (τ := σ) (c_pAt σ y x bf n c s v sr wd mv B (s + (diN B n s - s)) hC hP (by omega)) tX3_at q418 hC rfl rfl dX3_run_7 (by decide) (Nat.le_of_ble_eq_true rfl) (Nat.le_of_ble_eq_true rfl) ?_
    refine A_i2l dX3_run_10 rfl ?_
    refine A_iload_n (i := 1) dX3_run_11 rfl rfl ?_
    refine A_i2l dX3_run_12 rfl ?_
    refine A_iload_n (i := 2) dX3_run_13 rfl rfl ?_
    refine A_i2l dX3_run_14 rfl ?_
    refine A_callSN3E (b' := 0) (v := some (.int (bi (inR (atV B n (s + (diN B n s - s))) 48 57)))) (τ := σ) (c_in1 σ _ _ _ (atV B n (s + (diN B n s - s))) 48 57 rfl rfl rfl) tX1_in q424 dX3_run_15 (by decide) (Nat.le_of_ble_eq_true rfl) (Nat.le_of_ble_eq_true rfl) ?_
    refine A_if_eq_t (tgt := 27) dX3_run_18 (by decide) (bi_f (fun q => by rw [show s + (diN B n s - s) = diN B n s by omega] at q; exact diN_out B n s ((at_di hby).mp q))) ?_
    refine A_iload_n (i := 3) dX3_run_27 rfl rfl ?_
    exact A_iret dX3_run_28 rfl (⟨by rw [show s + (diN B n s - s) = diN B n s by omega], rfl⟩)
set_option maxHeartbeats 400000 in
theorem c_pChk {l : Launch} {g : GC} (σ : AH) (y : Nat) (c : Int32)  : AMet l g mX3_check 1 0 [.ref y, .int 1, .int c] σ (A_eq none σ) (A_no) := by
  refine A_of rfl (by decide) (Nat.le_of_ble_eq_true rfl) (L0 := [(0, .ref y), (1, .int 1), (2, .int c)]) rfl ?_
  refine A_iload_n (i := 1) dX3_check_0 rfl rfl ?_
  refine A_if_ne_t (tgt := 17) dX3_check_1 (by decide) (by decide) ?_
  exact A_vret dX3_check_17 rfl (⟨rfl, rfl⟩)
set_option maxHeartbeats 400000 in
theorem c_pChkNo {l : Launch} {g : GC} (σ : AH) (y n c s x : Nat) (v : Int32) (sr wd : Nat) (mv : Value) (code : Int32) (hC : σ.1 y = some (prsC n c s v sr wd mv x)) : AMet l g mX3_check 4 2 [.ref y, .int 0, .int code] σ (A_never) (A_fl code (nI s) y σ) := by
  refine A_of rfl (by decide) (Nat.le_of_ble_eq_true rfl) (L0 := [(0, .ref y), (1, .int 0), (2, .int code)]) rfl ?_
  refine A_wfh (fun wσ hgσ => ?_)
  have zσ : kx y σ σ := kx.rf
  refine A_iload_n (i := 1) dX3_check_0 rfl rfl ?_
  refine A_if_ne_f (tgt := 17) dX3_check_1 (by decide) (by decide) ?_
  refine A_new (b' := 0) (u := 2) cb_X4 q726 q727 q158 (fs := [.null, .null, .null, .null, .null, .int 0, .int 0, .int 0]) (by intro j hj; rcases j with _ | j; exact rfl; rcases j with _ | j; exact rfl; rcases j with _ | j; exact rfl; rcases j with _ | j; exact rfl; rcases j with _ | j; exact rfl; rcases j with _ | j; exact rfl; rcases j with _ | j; exact rfl; rcases j with _ | j; exact rfl; omega) (Nat.le_of_ble_eq_true rfl) ⟨Nat.le_of_ble_eq_true rfl, Nat.le_of_ble_eq_true rfl⟩ dX3_check_4 ?_
  obtain ⟨σ1, eσ1⟩ : ∃ τ, τ = h_new σ (.inr (.inl (3, [.null, .null, .null, .null, .null, .int 0, .int 0, .int 0]))) := ⟨_, rfl⟩
  refine A_st (σ' := σ1) eσ1.symm ?_
  have wσ1 : wfh σ1 := by rw [eσ1]; exact wσ.new
  have fσ1_0 : σ1.1 y = some (.inr (.inl (2, [.int (nI n), .int (nI c), .int (nI s), .int v, .ref sr, .ref wd, mv, .ref x]))) := by rw [eσ1]; exact (hn_ne (Nat.ne_of_lt (wσ _ _ hC))).trans hC
  have fσ1_1 : σ1.1 σ.2 = some (.inr (.inl (3, [.null, .null, .null, .null, .null, .int 0, .int 0, .int 0]))) := by rw [eσ1]; exact if_pos rfl
  have xσ1 : ext σ σ1 := by rw [eσ1]; exact ext_new _ _
  have zσ1 : kx y σ σ1 := by rw [eσ1]; exact zσ.new
  refine A_dup dX3_check_7 rfl ?_
  refine A_iload_n (i := 2) dX3_check_8 rfl rfl ?_
  refine A_aload_n (i := 0) dX3_check_9 rfl rfl ?_
  refine A_getf cb_X3 fσ1_0 2 (Nat.le_of_ble_eq_true rfl) q686 rfl (v := .int (nI s)) rfl dX3_check_10 ?_
  refine A_callI2 (b' := 0) (c_flwInit σ1 σ.2 code (nI s) fσ1_1) tX4_init q735 dX3_check_13 (by decide) (Nat.le_of_ble_eq_true rfl) (Nat.le_of_ble_eq_true rfl) (fun w9 σ2 h9 => ?_) (fun E9 q9 τ9 h9 => h9.elim)
  obtain ⟨e9, fσ2_a, kσ2⟩ := h9
  subst e9
  refine A_wfh (fun wσ2 hgσ2 => ?_)
  have zσ2 : kx y σ σ2 := zσ1.trN (zσ.1) kσ2
  have fσ2_0 : σ2.1 y = some (.inr (.inl (2, [.int (nI n), .int (nI c), .int (nI s), .int v, .ref sr, .ref wd, mv, .ref x]))) := kσ2.at wσ1 fσ1_0 (ne_of (x := .inr (.inl (2, [.int (nI n), .int (nI c), .int (nI s), .int v, .ref sr, .ref wd, mv, .ref x]))) (y := .inr (.inl (3, [.null, .null, .null, .null, .null, .int 0, .int 0, .int 0]))) fσ1_0 fσ1_1 (fun e8 => by simp at e8))
  refine A_athrow fσ2_a rfl dX3_check_16 (obj_vm fσ2_a) (A_out rfl (⟨rfl, fσ2_a, zσ2⟩))
set_option maxHeartbeats 400000 in
theorem c_pStep0 {l : Launch} {g : GC} (σ : AH) (y x bf n c s sp : Nat) (v tk to cd at9 : Int32) (S : Int32 → Nat) (wd : Nat) (mv : Value) (B N : AF) (hC : σ.1 y = some (prsC n c s v (S tk) wd mv x)) (hP : PB σ x bf B n) (h1 : c ≤ sp) (h2 : sp ≤ n) (hin : ∀ k, c ≤ k → k < sp → spP B n k) (hout : ¬ spP B n sp) (hS : SRT g S) : AMet l g mX3_step 8 8 [.ref y] σ (fun w τ => w = none ∧ PRW g τ y x bf S B n mv (tok B n sp (N, c, s, tk, to, cd, at9)) ∧ kx y σ τ) (A_no) := by
  obtain ⟨⟨bd, pe, ep, nv, dq, sv, ou, hX⟩, hBf, hn5, hby⟩ := id hP
  by_cases h3 : sp = n
  · skip
    · skip
      refine A_of rfl (by decide) (Nat.le_of_ble_eq_true rfl) (L0 := [(0, .ref y)]) rfl ?_
      refine A_wfh (fun wσ hgσ => ?_)
      have zσ : kx y σ σ := kx.rf
      refine A_gok (fun hgk => ?_)
      obtain ⟨ae, hae, hes⟩ := litP24 hgk
      refine A_less (b' := ((sp - c) - 0) * 0 + 8) (by omega) ?_
      refine A_sub (L' := [(0, .ref y)]) ⟨rfl, trivial⟩ ?_
      refine A_forP (α := AH) (sp - c) (fun i0 _ => ((sp - c) - i0) * 0 + 8) (fun i0 _ => [(0, .ref y)]) (fun _ τ0 => τ0) (fun i0 τ0 => τ0.1 y = some (.inr (.inl (2, [.int (nI n), .int (nI (c + i0)), .int (nI s), .int v, .ref (S tk), .ref wd, mv, .ref x]))) ∧ kx y σ τ0) σ (⟨hC, kx.rf⟩) (fun i0 τ0 hi0 hI0 ih0 => ?_) (fun τ0 hI0 => ?_)
      · skip
        obtain ⟨fyτ0, kτ0⟩ := hI0
        refine A_wfh (fun wτ0 hgτ0 => ?_)
        have fxτ0 : τ0.1 x = some (.inr (.inl (0, [.ref bf, .int bd, .int pe, .int ep, nv, .ref dq, .ref sv, .ref ou]))) := kτ0.at wσ hX (ne_of hX hC (fun q => by simp at q))
        have fbτ0 : τ0.1 bf = some (.inl (.byte, 500, .inl B)) := kτ0.at wσ hBf (ne_of hBf hC (fun q => by simp at q))
        have zτ0 : kx y σ τ0 := kτ0
        refine A_aload_n (i := 0) dX3_step_0 rfl rfl ?_
        refine A_aload_n (i := 0) dX3_step_1 rfl rfl ?_
        refine A_getf cb_X3 fyτ0 1 (Nat.le_of_ble_eq_true rfl) q685 rfl (v := .int (nI (c + i0))) rfl dX3_step_2 ?_
        refine A_callV1E (b' := ((sp - c) - i0) * 0 + 8 + 0) (v := some (.int (atV B n (c + i0)))) (τ := τ0) (c_pAt τ0 y x bf n (c + i0) s v (S tk) wd mv B (c + i0) fyτ0 ⟨⟨bd, pe, ep, nv, dq, sv, ou, fxτ0⟩, fbτ0, hn5, hby⟩ (by omega)) tX3_at q418 fyτ0 rfl rfl dX3_step_5 (by decide) (by omega) (Nat.le_of_ble_eq_true rfl) ?_
        refine A_bipush (v := 32) dX3_step_8 (by decide) ?_
        refine A_icmp_ne_f (tgt := 26) dX3_step_10 (by decide) ((at_sp hby).mpr (hin _ (Nat.le_add_right _ _) (by omega))) ?_
        refine A_aload_n (i := 0) dX3_step_13 rfl rfl ?_
        refine A_dup dX3_step_14 rfl ?_
        refine A_getf cb_X3 fyτ0 1 (Nat.le_of_ble_eq_true rfl) q685 rfl (v := .int (nI (c + i0))) rfl dX3_step_15 ?_
        refine A_iconst (v := 1) dX3_step_18 (by decide) ?_
        refine A_iadd dX3_step_19 ?_
        refine A_int (w := nI ((c + i0) + 1)) (nI_add (c + i0) 1) ?_
        refine A_putf cb_X3 fyτ0 1 (Nat.le_of_ble_eq_true rfl) q685 rfl rfl rfl rfl (Nat.le_of_ble_eq_true rfl) dX3_step_20 ?_
        obtain ⟨σ1, eσ1⟩ : ∃ τ, τ = h_put τ0 y (.inr (.inl (2, [.int (nI n), .int (nI ((c + i0) + 1)), .int (nI s), .int v, .ref (S tk), .ref wd, mv, .ref x]))) := ⟨_, rfl⟩
        refine A_st (σ' := σ1) eσ1.symm ?_
        have wσ1 : wfh σ1 := by rw [eσ1]; exact wτ0.put fyτ0
        have fσ1_0 : σ1.1 y = some (.inr (.inl (2, [.int (nI n), .int (nI ((c + i0) + 1)), .int (nI s), .int v, .ref (S tk), .ref wd, mv, .ref x]))) := by rw [eσ1]; exact if_pos rfl
        have fσ1_1 : σ1.1 x = some (.inr (.inl (0, [.ref bf, .int bd, .int pe, .int ep, nv, .ref dq, .ref sv, .ref ou]))) := by rw [eσ1]; exact (hp_ne (ne_of (x := .inr (.inl (0, [.ref bf, .int bd, .int pe, .int ep, nv, .ref dq, .ref sv, .ref ou]))) (y := .inr (.inl (2, [.int (nI n), .int (nI (c + i0)), .int (nI s), .int v, .ref (S tk), .ref wd, mv, .ref x]))) fxτ0 fyτ0 (fun e8 => by simp at e8))).trans fxτ0
        have fσ1_2 : σ1.1 bf = some (.inl (.byte, 500, .inl B)) := by rw [eσ1]; exact (hp_ne (ne_of (x := .inl (.byte, 500, .inl B)) (y := .inr (.inl (2, [.int (nI n), .int (nI (c + i0)), .int (nI s), .int v, .ref (S tk), .ref wd, mv, .ref x]))) fbτ0 fyτ0 (fun e8 => by simp at e8))).trans fbτ0
        have zσ1 : kx y σ σ1 := by rw [eσ1]; exact zτ0.put
        refine A_goto (tgt := 0) dX3_step_23 (by decide) ?_
        refine A_less (b' := ((sp - c) - (i0 + 1)) * 0 + 8) (by omega) ?_
        refine A_sub (L' := [(0, .ref y)]) ⟨rfl, trivial⟩ ?_
        exact ih0 σ1 (⟨fσ1_0, zσ1⟩)
      · skip
        refine A_less (b' := 8) (by omega) ?_
        obtain ⟨fyτ0, kτ0⟩ := hI0
        refine A_wfh (fun wτ0 hgτ0 => ?_)
        rw [show c + (sp - c) = sp by omega] at fyτ0
        have fxτ0 : τ0.1 x = some (.inr (.inl (0, [.ref bf, .int bd, .int pe, .int ep, nv, .ref dq, .ref sv, .ref ou]))) := kτ0.at wσ hX (ne_of hX hC (fun q => by simp at q))
        have fbτ0 : τ0.1 bf = some (.inl (.byte, 500, .inl B)) := kτ0.at wσ hBf (ne_of hBf hC (fun q => by simp at q))
        have zτ0 : kx y σ τ0 := kτ0
        refine A_aload_n (i := 0) dX3_step_0 rfl rfl ?_
        refine A_aload_n (i := 0) dX3_step_1 rfl rfl ?_
        refine A_getf cb_X3 fyτ0 1 (Nat.le_of_ble_eq_true rfl) q685 rfl (v := .int (nI sp)) rfl dX3_step_2 ?_
        refine A_callV1E (b' := 8) (v := some (.int (atV B n sp))) (τ := τ0) (c_pAt τ0 y x bf n sp s v (S tk) wd mv B sp fyτ0 ⟨⟨bd, pe, ep, nv, dq, sv, ou, fxτ0⟩, fbτ0, hn5, hby⟩ (by omega)) tX3_at q418 fyτ0 rfl rfl dX3_step_5 (by decide) (Nat.le_of_ble_eq_true rfl) (Nat.le_of_ble_eq_true rfl) ?_
        refine A_bipush (v := 32) dX3_step_8 (by decide) ?_
        refine A_icmp_ne_t (tgt := 26) dX3_step_10 (by decide) ((fun q => hout ((at_sp hby).mp q))) ?_
        refine A_aload_n (i := 0) dX3_step_26 rfl rfl ?_
        refine A_aload_n (i := 0) dX3_step_27 rfl rfl ?_
        refine A_getf cb_X3 fyτ0 1 (Nat.le_of_ble_eq_true rfl) q685 rfl (v := .int (nI sp)) rfl dX3_step_28 ?_
        refine A_putf cb_X3 fyτ0 2 (Nat.le_of_ble_eq_true rfl) q686 rfl rfl rfl rfl (Nat.le_of_ble_eq_true rfl) dX3_step_31 ?_
        obtain ⟨σ2, eσ2⟩ : ∃ τ, τ = h_put τ0 y (.inr (.inl (2, [.int (nI n), .int (nI sp), .int (nI sp), .int v, .ref (S tk), .ref wd, mv, .ref x]))) := ⟨_, rfl⟩
        refine A_st (σ' := σ2) eσ2.symm ?_
        have wσ2 : wfh σ2 := by rw [eσ2]; exact wτ0.put fyτ0
        have fσ2_0 : σ2.1 y = some (.inr (.inl (2, [.int (nI n), .int (nI sp), .int (nI sp), .int v, .ref (S tk), .ref wd, mv, .ref x]))) := by rw [eσ2]; exact if_pos rfl
        have fσ2_1 : σ2.1 x = some (.inr (.inl (0, [.ref bf, .int bd, .int pe, .int ep, nv, .ref dq, .ref sv, .ref ou]))) := by rw [eσ2]; exact (hp_ne (ne_of (x := .inr (.inl (0, [.ref bf, .int bd, .int pe, .int ep, nv, .ref dq, .ref sv, .ref ou]))) (y := .inr (.inl (2, [.int (nI n), .int (nI sp), .int (nI s), .int v, .ref (S tk), .ref wd, mv, .ref x]))) fxτ0 fyτ0 (fun e8 => by simp at e8))).trans fxτ0
        have fσ2_2 : σ2.1 bf = some (.inl (.byte, 500, .inl B)) := by rw [eσ2]; exact (hp_ne (ne_of (x := .inl (.byte, 500, .inl B)) (y := .inr (.inl (2, [.int (nI n), .int (nI sp), .int (nI s), .int v, .ref (S tk), .ref wd, mv, .ref x]))) fbτ0 fyτ0 (fun e8 => by simp at e8))).trans fbτ0
        have zσ2 : kx y σ σ2 := by rw [eσ2]; exact zτ0.put
        refine A_aload_n (i := 0) dX3_step_34 rfl rfl ?_
        refine A_ldcO hae dX3_step_35 ?_
        refine A_putf cb_X3 fσ2_0 5 (Nat.le_of_ble_eq_true rfl) q689 rfl rfl rfl rfl (Nat.le_of_ble_eq_true rfl) dX3_step_37 ?_
        obtain ⟨σ3, eσ3⟩ : ∃ τ, τ = h_put σ2 y (.inr (.inl (2, [.int (nI n), .int (nI sp), .int (nI sp), .int v, .ref (S tk), .ref ae, mv, .ref x]))) := ⟨_, rfl⟩
        refine A_st (σ' := σ3) eσ3.symm ?_
        have wσ3 : wfh σ3 := by rw [eσ3]; exact wσ2.put fσ2_0
        have fσ3_0 : σ3.1 y = some (.inr (.inl (2, [.int (nI n), .int (nI sp), .int (nI sp), .int v, .ref (S tk), .ref ae, mv, .ref x]))) := by rw [eσ3]; exact if_pos rfl
        have fσ3_1 : σ3.1 x = some (.inr (.inl (0, [.ref bf, .int bd, .int pe, .int ep, nv, .ref dq, .ref sv, .ref ou]))) := by rw [eσ3]; exact (hp_ne (ne_of (x := .inr (.inl (0, [.ref bf, .int bd, .int pe, .int ep, nv, .ref dq, .ref sv, .ref ou]))) (y := .inr (.inl (2, [.int (nI n), .int (nI sp), .int (nI sp), .int v, .ref (S tk), .ref wd, mv, .ref x]))) fσ2_1 fσ2_0 (fun e8 => by simp at e8))).trans fσ2_1
        have fσ3_2 : σ3.1 bf = some (.inl (.byte, 500, .inl B)) := by rw [eσ3]; exact (hp_ne (ne_of (x := .inl (.byte, 500, .inl B)) (y := .inr (.inl (2, [.int (nI n), .int (nI sp), .int (nI sp), .int v, .ref (S tk), .ref wd, mv, .ref x]))) fσ2_2 fσ2_0 (fun e8 => by simp at e8))).trans fσ2_2
        have zσ3 : kx y σ σ3 := by rw [eσ3]; exact zσ2.put
        refine A_aload_n (i := 0) dX3_step_40 rfl rfl ?_
        refine A_aload_n (i := 0) dX3_step_41 rfl rfl ?_
        refine A_getf cb_X3 fσ3_0 2 (Nat.le_of_ble_eq_true rfl) q686 rfl (v := .int (nI sp)) rfl dX3_step_42 ?_
        refine A_callV1E (b' := 8) (v := some (.int (atV B n sp))) (τ := σ3) (c_pAt σ3 y x bf n sp sp v (S tk) ae mv B sp fσ3_0 ⟨⟨bd, pe, ep, nv, dq, sv, ou, fσ3_1⟩, fσ3_2, hn5, hby⟩ (by omega)) tX3_at q418 fσ3_0 rfl rfl dX3_step_45 (by decide) (Nat.le_of_ble_eq_true rfl) (Nat.le_of_ble_eq_true rfl) ?_
        refine A_istore_n (i := 1) dX3_step_48 rfl (Nat.le_of_ble_eq_true rfl) ?_
        refine A_iload_n (i := 1) dX3_step_49 rfl rfl ?_
        refine A_iconst (v := (-1)) dX3_step_50 (by decide) ?_
        refine A_icmp_ne_f (tgt := 64) dX3_step_51 (by decide) ((at_end hby).mpr (by omega)) ?_
        refine A_aload_n (i := 0) dX3_step_54 rfl rfl ?_
        refine A_getsO hS.2.1 q411 rfl dX3_step_55 ?_
        refine A_putf cb_X3 fσ3_0 4 (Nat.le_of_ble_eq_true rfl) q688 rfl rfl rfl rfl (Nat.le_of_ble_eq_true rfl) dX3_step_58 ?_
        obtain ⟨σ4, eσ4⟩ : ∃ τ, τ = h_put σ3 y (.inr (.inl (2, [.int (nI n), .int (nI sp), .int (nI sp), .int v, .ref (S 1), .ref ae, mv, .ref x]))) := ⟨_, rfl⟩
        refine A_st (σ' := σ4) eσ4.symm ?_
        have wσ4 : wfh σ4 := by rw [eσ4]; exact wσ3.put fσ3_0
        have fσ4_0 : σ4.1 y = some (.inr (.inl (2, [.int (nI n), .int (nI sp), .int (nI sp), .int v, .ref (S 1), .ref ae, mv, .ref x]))) := by rw [eσ4]; exact if_pos rfl
        have fσ4_1 : σ4.1 x = some (.inr (.inl (0, [.ref bf, .int bd, .int pe, .int ep, nv, .ref dq, .ref sv, .ref ou]))) := by rw [eσ4]; exact (hp_ne (ne_of (x := .inr (.inl (0, [.ref bf, .int bd, .int pe, .int ep, nv, .ref dq, .ref sv, .ref ou]))) (y := .inr (.inl (2, [.int (nI n), .int (nI sp), .int (nI sp), .int v, .ref (S tk), .ref ae, mv, .ref x]))) fσ3_1 fσ3_0 (fun e8 => by simp at e8))).trans fσ3_1
        have fσ4_2 : σ4.1 bf = some (.inl (.byte, 500, .inl B)) := by rw [eσ4]; exact (hp_ne (ne_of (x := .inl (.byte, 500, .inl B)) (y := .inr (.inl (2, [.int (nI n), .int (nI sp), .int (nI sp), .int v, .ref (S tk), .ref ae, mv, .ref x]))) fσ3_2 fσ3_0 (fun e8 => by simp at e8))).trans fσ3_2
        have zσ4 : kx y σ σ4 := by rw [eσ4]; exact zσ3.put
        refine A_goto (tgt := 314) dX3_step_61 (by decide) ?_
        exact A_vret dX3_step_314 rfl (⟨rfl, by rw [tok_e h3]; show PRW g σ4 y x bf S B n mv (N, sp, sp, 1, to, cd, at9); exact ⟨_, _, ⟨fσ4_0, ⟨⟨bd, pe, ep, nv, dq, sv, ou, fσ4_1⟩, fσ4_2, hn5, hby⟩, (fun q => absurd (show (1 : Int32) = 3 from q) (by decide)), Or.inr (Or.inl rfl), (by show sp ≤ n; omega), (by show sp ≤ sp; omega)⟩, Or.inr ⟨(show ¬ (1 : Int32) = 2 by decide), Or.inl hes⟩⟩, zσ4⟩)
  by_cases hL : leP B n sp
  · skip
    have hlg := leN_gt hL
    have hll := leN_le (B := B) h2
    by_cases h6 : leN B n sp - sp ≤ 6
    · skip
      refine A_of rfl (by decide) (Nat.le_of_ble_eq_true rfl) (L0 := [(0, .ref y)]) rfl ?_
      refine A_wfh (fun wσ hgσ => ?_)
      have zσ : kx y σ σ := kx.rf
      refine A_gok (fun hgk => ?_)
      obtain ⟨ae, hae, hes⟩ := litP24 hgk
      refine A_less (b' := ((sp - c) - 0) * 0 + 8) (by omega) ?_
      refine A_sub (L' := [(0, .ref y)]) ⟨rfl, trivial⟩ ?_
      refine A_forP (α := AH) (sp - c) (fun i0 _ => ((sp - c) - i0) * 0 + 8) (fun i0 _ => [(0, .ref y)]) (fun _ τ0 => τ0) (fun i0 τ0 => τ0.1 y = some (.inr (.inl (2, [.int (nI n), .int (nI (c + i0)), .int (nI s), .int v, .ref (S tk), .ref wd, mv, .ref x]))) ∧ kx y σ τ0) σ (⟨hC, kx.rf⟩) (fun i0 τ0 hi0 hI0 ih0 => ?_) (fun τ0 hI0 => ?_)
      · skip
        obtain ⟨fyτ0, kτ0⟩ := hI0
        refine A_wfh (fun wτ0 hgτ0 => ?_)
        have fxτ0 : τ0.1 x = some (.inr (.inl (0, [.ref bf, .int bd, .int pe, .int ep, nv, .ref dq, .ref sv, .ref ou]))) := kτ0.at wσ hX (ne_of hX hC (fun q => by simp at q))
        have fbτ0 : τ0.1 bf = some (.inl (.byte, 500, .inl B)) := kτ0.at wσ hBf (ne_of hBf hC (fun q => by simp at q))
        have zτ0 : kx y σ τ0 := kτ0
        refine A_aload_n (i := 0) dX3_step_0 rfl rfl ?_
        refine A_aload_n (i := 0) dX3_step_1 rfl rfl ?_
        refine A_getf cb_X3 fyτ0 1 (Nat.le_of_ble_eq_true rfl) q685 rfl (v := .int (nI (c + i0))) rfl dX3_step_2 ?_
        refine A_callV1E (b' := ((sp - c) - i0) * 0 + 8 + 0) (v := some (.int (atV B n (c + i0)))) (τ := τ0) (c_pAt τ0 y x bf n (c + i0) s v (S tk) wd mv B (c + i0) fyτ0 ⟨⟨bd, pe, ep, nv, dq, sv, ou, fxτ0⟩, fbτ0, hn5, hby⟩ (by omega)) tX3_at q418 fyτ0 rfl rfl dX3_step_5 (by decide) (by omega) (Nat.le_of_ble_eq_true rfl) ?_
        refine A_bipush (v := 32) dX3_step_8 (by decide) ?_
        refine A_icmp_ne_f (tgt := 26) dX3_step_10 (by decide) ((at_sp hby).mpr (hin _ (Nat.le_add_right _ _) (by omega))) ?_
        refine A_aload_n (i := 0) dX3_step_13 rfl rfl ?_
        refine A_dup dX3_step_14 rfl ?_
        refine A_getf cb_X3 fyτ0 1 (Nat.le_of_ble_eq_true rfl) q685 rfl (v := .int (nI (c + i0))) rfl dX3_step_15 ?_
        refine A_iconst (v := 1) dX3_step_18 (by decide) ?_
        refine A_iadd dX3_step_19 ?_
        refine A_int (w := nI ((c + i0) + 1)) (nI_add (c + i0) 1) ?_
        refine A_putf cb_X3 fyτ0 1 (Nat.le_of_ble_eq_true rfl) q685 rfl rfl rfl rfl (Nat.le_of_ble_eq_true rfl) dX3_step_20 ?_
        obtain ⟨σ1, eσ1⟩ : ∃ τ, τ = h_put τ0 y (.inr (.inl (2, [.int (nI n), .int (nI ((c + i0) + 1)), .int (nI s), .int v, .ref (S tk), .ref wd, mv, .ref x]))) := ⟨_, rfl⟩
        refine A_st (σ' := σ1) eσ1.symm ?_
        have wσ1 : wfh σ1 := by rw [eσ1]; exact wτ0.put fyτ0
        have fσ1_0 : σ1.1 y = some (.inr (.inl (2, [.int (nI n), .int (nI ((c + i0) + 1)), .int (nI s), .int v, .ref (S tk), .ref wd, mv, .ref x]))) := by rw [eσ1]; exact if_pos rfl
        have fσ1_1 : σ1.1 x = some (.inr (.inl (0, [.ref bf, .int bd, .int pe, .int ep, nv, .ref dq, .ref sv, .ref ou]))) := by rw [eσ1]; exact (hp_ne (ne_of (x := .inr (.inl (0, [.ref bf, .int bd, .int pe, .int ep, nv, .ref dq, .ref sv, .ref ou]))) (y := .inr (.inl (2, [.int (nI n), .int (nI (c + i0)), .int (nI s), .int v, .ref (S tk), .ref wd, mv, .ref x]))) fxτ0 fyτ0 (fun e8 => by simp at e8))).trans fxτ0
        have fσ1_2 : σ1.1 bf = some (.inl (.byte, 500, .inl B)) := by rw [eσ1]; exact (hp_ne (ne_of (x := .inl (.byte, 500, .inl B)) (y := .inr (.inl (2, [.int (nI n), .int (nI (c + i0)), .int (nI s), .int v, .ref (S tk), .ref wd, mv, .ref x]))) fbτ0 fyτ0 (fun e8 => by simp at e8))).trans fbτ0
        have zσ1 : kx y σ σ1 := by rw [eσ1]; exact zτ0.put
        refine A_goto (tgt := 0) dX3_step_23 (by decide) ?_
        refine A_less (b' := ((sp - c) - (i0 + 1)) * 0 + 8) (by omega) ?_
        refine A_sub (L' := [(0, .ref y)]) ⟨rfl, trivial⟩ ?_
        exact ih0 σ1 (⟨fσ1_0, zσ1⟩)
      · skip
        refine A_less (b' := 8) (by omega) ?_
        obtain ⟨fyτ0, kτ0⟩ := hI0
        refine A_wfh (fun wτ0 hgτ0 => ?_)
        rw [show c + (sp - c) = sp by omega] at fyτ0
        have fxτ0 : τ0.1 x = some (.inr (.inl (0, [.ref bf, .int bd, .int pe, .int ep, nv, .ref dq, .ref sv, .ref ou]))) := kτ0.at wσ hX (ne_of hX hC (fun q => by simp at q))
        have fbτ0 : τ0.1 bf = some (.inl (.byte, 500, .inl B)) := kτ0.at wσ hBf (ne_of hBf hC (fun q => by simp at q))
        have zτ0 : kx y σ τ0 := kτ0
        refine A_aload_n (i := 0) dX3_step_0 rfl rfl ?_
        refine A_aload_n (i := 0) dX3_step_1 rfl rfl ?_
        refine A_getf cb_X3 fyτ0 1 (Nat.le_of_ble_eq_true rfl) q685 rfl (v := .int (nI sp)) rfl dX3_step_2 ?_
        refine A_callV1E (b' := 8) (v := some (.int (atV B n sp))) (τ := τ0) (c_pAt τ0 y x bf n sp s v (S tk) wd mv B sp fyτ0 ⟨⟨bd, pe, ep, nv, dq, sv, ou, fxτ0⟩, fbτ0, hn5, hby⟩ (by omega)) tX3_at q418 fyτ0 rfl rfl dX3_step_5 (by decide) (Nat.le_of_ble_eq_true rfl) (Nat.le_of_ble_eq_true rfl) ?_
        refine A_bipush (v := 32) dX3_step_8 (by decide) ?_
        refine A_icmp_ne_t (tgt := 26) dX3_step_10 (by decide) ((fun q => hout ((at_sp hby).mp q))) ?_
        refine A_aload_n (i := 0) dX3_step_26 rfl rfl ?_
        refine A_aload_n (i := 0) dX3_step_27 rfl rfl ?_
        refine A_getf cb_X3 fyτ0 1 (Nat.le_of_ble_eq_true rfl) q685 rfl (v := .int (nI sp)) rfl dX3_step_28 ?_
        refine A_putf cb_X3 fyτ0 2 (Nat.le_of_ble_eq_true rfl) q686 rfl rfl rfl rfl (Nat.le_of_ble_eq_true rfl) dX3_step_31 ?_
        obtain ⟨σ2, eσ2⟩ : ∃ τ, τ = h_put τ0 y (.inr (.inl (2, [.int (nI n), .int (nI sp), .int (nI sp), .int v, .ref (S tk), .ref wd, mv, .ref x]))) := ⟨_, rfl⟩
        refine A_st (σ' := σ2) eσ2.symm ?_
        have wσ2 : wfh σ2 := by rw [eσ2]; exact wτ0.put fyτ0
        have fσ2_0 : σ2.1 y = some (.inr (.inl (2, [.int (nI n), .int (nI sp), .int (nI sp), .int v, .ref (S tk), .ref wd, mv, .ref x]))) := by rw [eσ2]; exact if_pos rfl
        have fσ2_1 : σ2.1 x = some (.inr (.inl (0, [.ref bf, .int bd, .int pe, .int ep, nv, .ref dq, .ref sv, .ref ou]))) := by rw [eσ2]; exact (hp_ne (ne_of (x := .inr (.inl (0, [.ref bf, .int bd, .int pe, .int ep, nv, .ref dq, .ref sv, .ref ou]))) (y := .inr (.inl (2, [.int (nI n), .int (nI sp), .int (nI s), .int v, .ref (S tk), .ref wd, mv, .ref x]))) fxτ0 fyτ0 (fun e8 => by simp at e8))).trans fxτ0
        have fσ2_2 : σ2.1 bf = some (.inl (.byte, 500, .inl B)) := by rw [eσ2]; exact (hp_ne (ne_of (x := .inl (.byte, 500, .inl B)) (y := .inr (.inl (2, [.int (nI n), .int (nI sp), .int (nI s), .int v, .ref (S tk), .ref wd, mv, .ref x]))) fbτ0 fyτ0 (fun e8 => by simp at e8))).trans fbτ0
        have zσ2 : kx y σ σ2 := by rw [eσ2]; exact zτ0.put
        refine A_aload_n (i := 0) dX3_step_34 rfl rfl ?_
        refine A_ldcO hae dX3_step_35 ?_
        refine A_putf cb_X3 fσ2_0 5 (Nat.le_of_ble_eq_true rfl) q689 rfl rfl rfl rfl (Nat.le_of_ble_eq_true rfl) dX3_step_37 ?_
        obtain ⟨σ3, eσ3⟩ : ∃ τ, τ = h_put σ2 y (.inr (.inl (2, [.int (nI n), .int (nI sp), .int (nI sp), .int v, .ref (S tk), .ref ae, mv, .ref x]))) := ⟨_, rfl⟩
        refine A_st (σ' := σ3) eσ3.symm ?_
        have wσ3 : wfh σ3 := by rw [eσ3]; exact wσ2.put fσ2_0
        have fσ3_0 : σ3.1 y = some (.inr (.inl (2, [.int (nI n), .int (nI sp), .int (nI sp), .int v, .ref (S tk), .ref ae, mv, .ref x]))) := by rw [eσ3]; exact if_pos rfl
        have fσ3_1 : σ3.1 x = some (.inr (.inl (0, [.ref bf, .int bd, .int pe, .int ep, nv, .ref dq, .ref sv, .ref ou]))) := by rw [eσ3]; exact (hp_ne (ne_of (x := .inr (.inl (0, [.ref bf, .int bd, .int pe, .int ep, nv, .ref dq, .ref sv, .ref ou]))) (y := .inr (.inl (2, [.int (nI n), .int (nI sp), .int (nI sp), .int v, .ref (S tk), .ref wd, mv, .ref x]))) fσ2_1 fσ2_0 (fun e8 => by simp at e8))).trans fσ2_1
        have fσ3_2 : σ3.1 bf = some (.inl (.byte, 500, .inl B)) := by rw [eσ3]; exact (hp_ne (ne_of (x := .inl (.byte, 500, .inl B)) (y := .inr (.inl (2, [.int (nI n), .int (nI sp), .int (nI sp), .int v, .ref (S tk), .ref wd, mv, .ref x]))) fσ2_2 fσ2_0 (fun e8 => by simp at e8))).trans fσ2_2
        have zσ3 : kx y σ σ3 := by rw [eσ3]; exact zσ2.put
        refine A_aload_n (i := 0) dX3_step_40 rfl rfl ?_
        refine A_aload_n (i := 0) dX3_step_41 rfl rfl ?_
        refine A_getf cb_X3 fσ3_0 2 (Nat.le_of_ble_eq_true rfl) q686 rfl (v := .int (nI sp)) rfl dX3_step_42 ?_
        refine A_callV1E (b' := 8) (v := some (.int (atV B n sp))) (τ := σ3) (c_pAt σ3 y x bf n sp sp v (S tk) ae mv B sp fσ3_0 ⟨⟨bd, pe, ep, nv, dq, sv, ou, fσ3_1⟩, fσ3_2, hn5, hby⟩ (by omega)) tX3_at q418 fσ3_0 rfl rfl dX3_step_45 (by decide) (Nat.le_of_ble_eq_true rfl) (Nat.le_of_ble_eq_true rfl) ?_
        refine A_istore_n (i := 1) dX3_step_48 rfl (Nat.le_of_ble_eq_true rfl) ?_
        refine A_iload_n (i := 1) dX3_step_49 rfl rfl ?_
        refine A_iconst (v := (-1)) dX3_step_50 (by decide) ?_
        refine A_icmp_ne_t (tgt := 64) dX3_step_51 (by decide) ((fun q => (at_end hby).mp q (by omega))) ?_
        refine A_iload_n (i := 1) dX3_step_64 rfl rfl ?_
        refine A_i2l dX3_step_65 rfl ?_
        refine A_ldc2 (v := 97) dX3_step_66 q422 ?_
        refine A_ldc2 (v := 122) dX3_step_69 q423 ?_
        refine A_callSN3E (b' := 8) (v := some (.int (bi (inR (atV B n sp) 97 122)))) (τ := σ3) (c_in1 σ3 _ _ _ (atV B n sp) 97 122 rfl (by decide) (by decide)) tX1_in q424 dX3_step_72 (by decide) (Nat.le_of_ble_eq_true rfl) (Nat.le_of_ble_eq_true rfl) ?_
        refine A_if_eq_f (tgt := 176) dX3_step_75 (by decide) (bi_n ((at_le hby).mpr hL)) ?_
        refine A_aload_n (i := 0) dX3_step_78 rfl rfl ?_
        refine A_aload_n (i := 0) dX3_step_79 rfl rfl ?_
        refine A_bipush (v := 97) dX3_step_80 (by decide) ?_
        refine A_bipush (v := 122) dX3_step_82 (by decide) ?_
        refine A_callV2E (b' := 8) (v := some (.int (nI (leN B n sp)))) (τ := σ3) (c_pRunL σ3 y x bf n sp sp v (S tk) ae mv B fσ3_0 ⟨⟨bd, pe, ep, nv, dq, sv, ou, fσ3_1⟩, fσ3_2, hn5, hby⟩ h2) tX3_run q425 fσ3_0 rfl rfl dX3_step_84 (by decide) (Nat.le_of_ble_eq_true rfl) (Nat.le_of_ble_eq_true rfl) ?_
        refine A_putf cb_X3 fσ3_0 1 (Nat.le_of_ble_eq_true rfl) q685 rfl rfl rfl rfl (Nat.le_of_ble_eq_true rfl) dX3_step_87 ?_
        obtain ⟨σ4, eσ4⟩ : ∃ τ, τ = h_put σ3 y (.inr (.inl (2, [.int (nI n), .int (nI (leN B n sp)), .int (nI sp), .int v, .ref (S tk), .ref ae, mv, .ref x]))) := ⟨_, rfl⟩
        refine A_st (σ' := σ4) eσ4.symm ?_
        have wσ4 : wfh σ4 := by rw [eσ4]; exact wσ3.put fσ3_0
        have fσ4_0 : σ4.1 y = some (.inr (.inl (2, [.int (nI n), .int (nI (leN B n sp)), .int (nI sp), .int v, .ref (S tk), .ref ae, mv, .ref x]))) := by rw [eσ4]; exact if_pos rfl
        have fσ4_1 : σ4.1 x = some (.inr (.inl (0, [.ref bf, .int bd, .int pe, .int ep, nv, .ref dq, .ref sv, .ref ou]))) := by rw [eσ4]; exact (hp_ne (ne_of (x := .inr (.inl (0, [.ref bf, .int bd, .int pe, .int ep, nv, .ref dq, .ref sv, .ref ou]))) (y := .inr (.inl (2, [.int (nI n), .int (nI sp), .int (nI sp), .int v, .ref (S tk), .ref ae, mv, .ref x]))) fσ3_1 fσ3_0 (fun e8 => by simp at e8))).trans fσ3_1
        have fσ4_2 : σ4.1 bf = some (.inl (.byte, 500, .inl B)) := by rw [eσ4]; exact (hp_ne (ne_of (x := .inl (.byte, 500, .inl B)) (y := .inr (.inl (2, [.int (nI n), .int (nI sp), .int (nI sp), .int v, .ref (S tk), .ref ae, mv, .ref x]))) fσ3_2 fσ3_0 (fun e8 => by simp at e8))).trans fσ3_2
        have zσ4 : kx y σ σ4 := by rw [eσ4]; exact zσ3.put
        refine A_aload_n (i := 0) dX3_step_90 rfl rfl ?_
        refine A_aload_n (i := 0) dX3_step_91 rfl rfl ?_
        refine A_getf cb_X3 fσ4_0 1 (Nat.le_of_ble_eq_true rfl) q685 rfl (v := .int (nI (leN B n sp))) rfl dX3_step_92 ?_
        refine A_aload_n (i := 0) dX3_step_95 rfl rfl ?_
        refine A_getf cb_X3 fσ4_0 2 (Nat.le_of_ble_eq_true rfl) q686 rfl (v := .int (nI sp)) rfl dX3_step_96 ?_
        refine A_isub dX3_step_99 ?_
        refine A_int (w := (nI (leN B n sp - sp))) (nI_sub (by omega)) ?_
        refine A_bipush (v := 6) dX3_step_100 (by decide) ?_
        refine A_icmp_gt_f (tgt := 111) dX3_step_102 (by decide) ((fun q => by have k := (nI_lti (by decide : 6 < 2 ^ 31) (by omega)).mp q; omega)) ?_
        refine A_getsO hS.2.2.1 q429 rfl dX3_step_105 ?_
        refine A_goto (tgt := 114) dX3_step_108 (by decide) ?_
        refine A_putf cb_X3 fσ4_0 4 (Nat.le_of_ble_eq_true rfl) q688 rfl rfl rfl rfl (Nat.le_of_ble_eq_true rfl) dX3_step_114 ?_
        obtain ⟨σ5, eσ5⟩ : ∃ τ, τ = h_put σ4 y (.inr (.inl (2, [.int (nI n), .int (nI (leN B n sp)), .int (nI sp), .int v, .ref (S 2), .ref ae, mv, .ref x]))) := ⟨_, rfl⟩
        refine A_st (σ' := σ5) eσ5.symm ?_
        have wσ5 : wfh σ5 := by rw [eσ5]; exact wσ4.put fσ4_0
        have fσ5_0 : σ5.1 y = some (.inr (.inl (2, [.int (nI n), .int (nI (leN B n sp)), .int (nI sp), .int v, .ref (S 2), .ref ae, mv, .ref x]))) := by rw [eσ5]; exact if_pos rfl
        have fσ5_1 : σ5.1 x = some (.inr (.inl (0, [.ref bf, .int bd, .int pe, .int ep, nv, .ref dq, .ref sv, .ref ou]))) := by rw [eσ5]; exact (hp_ne (ne_of (x := .inr (.inl (0, [.ref bf, .int bd, .int pe, .int ep, nv, .ref dq, .ref sv, .ref ou]))) (y := .inr (.inl (2, [.int (nI n), .int (nI (leN B n sp)), .int (nI sp), .int v, .ref (S tk), .ref ae, mv, .ref x]))) fσ4_1 fσ4_0 (fun e8 => by simp at e8))).trans fσ4_1
        have fσ5_2 : σ5.1 bf = some (.inl (.byte, 500, .inl B)) := by rw [eσ5]; exact (hp_ne (ne_of (x := .inl (.byte, 500, .inl B)) (y := .inr (.inl (2, [.int (nI n), .int (nI (leN B n sp)), .int (nI sp), .int v, .ref (S tk), .ref ae, mv, .ref x]))) fσ4_2 fσ4_0 (fun e8 => by simp at e8))).trans fσ4_2
        have zσ5 : kx y σ σ5 := by rw [eσ5]; exact zσ4.put
        skip
        refine A_new (b' := 7) (u := 1) cb_J3 q433 q206 q137 (fs := [.null, .int 0, .int 0, .int 0]) (by intro j hj; rcases j with _ | j; exact rfl; rcases j with _ | j; exact rfl; rcases j with _ | j; exact rfl; rcases j with _ | j; exact rfl; omega) (Nat.le_of_ble_eq_true rfl) ⟨Nat.le_of_ble_eq_true rfl, Nat.le_of_ble_eq_true rfl⟩ dX3_step_117 ?_
        obtain ⟨σ6, eσ6⟩ : ∃ τ, τ = h_new σ5 (.inr (.inl (12, [.null, .int 0, .int 0, .int 0]))) := ⟨_, rfl⟩
        refine A_st (σ' := σ6) eσ6.symm ?_
        have wσ6 : wfh σ6 := by rw [eσ6]; exact wσ5.new
        have fσ6_0 : σ6.1 y = some (.inr (.inl (2, [.int (nI n), .int (nI (leN B n sp)), .int (nI sp), .int v, .ref (S 2), .ref ae, mv, .ref x]))) := by rw [eσ6]; exact (hn_ne (Nat.ne_of_lt (wσ5 _ _ fσ5_0))).trans fσ5_0
        have fσ6_1 : σ6.1 x = some (.inr (.inl (0, [.ref bf, .int bd, .int pe, .int ep, nv, .ref dq, .ref sv, .ref ou]))) := by rw [eσ6]; exact (hn_ne (Nat.ne_of_lt (wσ5 _ _ fσ5_1))).trans fσ5_1
        have fσ6_2 : σ6.1 bf = some (.inl (.byte, 500, .inl B)) := by rw [eσ6]; exact (hn_ne (Nat.ne_of_lt (wσ5 _ _ fσ5_2))).trans fσ5_2
        have fσ6_3 : σ6.1 σ5.2 = some (.inr (.inl (12, [.null, .int 0, .int 0, .int 0]))) := by rw [eσ6]; exact if_pos rfl
        have xσ6 : ext σ5 σ6 := by rw [eσ6]; exact ext_new _ _
        have zσ6 : kx y σ σ6 := by rw [eσ6]; exact zσ5.new
        refine A_dup dX3_step_120 rfl ?_
        refine A_callI0 (b' := 3) (c_sbNew σ6 σ5.2 fσ6_3) tJ3_init q434 dX3_step_121 (by decide) (Nat.le_of_ble_eq_true rfl) (Nat.le_of_ble_eq_true rfl) (fun w9 τ8 h8 => ?_) (fun E9 q9 τ9 h9 => h9.elim)
        obtain ⟨e9, hd8, k8⟩ := h8
        subst e9
        refine A_wfh (fun wτ8 hgτ8 => ?_)
        have x8 : ext σ5 τ8 := xσ6.kxF k8 (Nat.le_refl _)
        have hlsa : σ5.2 ≤ σ6.2 := xσ6.1
        have s8 := hd8.sx
        have gyτ8 : τ8.1 y = some (.inr (.inl (2, [.int (nI n), .int (nI (leN B n sp)), .int (nI sp), .int v, .ref (S 2), .ref ae, mv, .ref x]))) := x8.at wσ5 fσ5_0
        have gxτ8 : τ8.1 x = some (.inr (.inl (0, [.ref bf, .int bd, .int pe, .int ep, nv, .ref dq, .ref sv, .ref ou]))) := x8.at wσ5 fσ5_1
        have gbfτ8 : τ8.1 bf = some (.inl (.byte, 500, .inl B)) := x8.at wσ5 fσ5_2
        obtain ⟨sbτ8, mlτ8, foτ8⟩ := s8.cell
        have zτ8 : kx y σ τ8 := zσ5.ex x8
        refine A_astore_n (i := 2) dX3_step_124 rfl (Nat.le_of_ble_eq_true rfl) ?_
        refine A_aload_n (i := 0) dX3_step_125 rfl rfl ?_
        refine A_getf cb_X3 gyτ8 2 (Nat.le_of_ble_eq_true rfl) q686 rfl (v := .int (nI sp)) rfl dX3_step_126 ?_
        refine A_istore_n (i := 3) dX3_step_129 rfl (Nat.le_of_ble_eq_true rfl) ?_
        refine A_less (b' := ((leN B n sp - sp) - 0) * 0 + 3) (by omega) ?_
        refine A_sub (L' := [(0, .ref y), (1, .int (atV B n sp)), (2, .ref σ5.2), (3, .int (nI (sp + 0)))]) ⟨rfl, rfl, rfl, rfl, trivial⟩ ?_
        refine A_forP (α := AH) (leN B n sp - sp) (fun i130 _ => ((leN B n sp - sp) - i130) * 0 + 3) (fun i130 _ => [(0, .ref y), (1, .int (atV B n sp)), (2, .ref σ5.2), (3, .int (nI (sp + i130)))]) (fun _ τ130 => τ130) (fun i130 τ130 => SX τ8 σ5.2 σ6.2 τ130 (wls B sp i130) (wls B sp i130).length) τ8 s8 (fun i130 τ130 hi130 hI130 ih130 => ?_) (fun τ130 hI130 => ?_)
        · skip
          have sτ130 := hI130
          refine A_wfh (fun wτ130 hgτ130 => ?_)
          have xτ130 : ext σ5 τ130 := fra2.ext sτ130.fr x8 (Nat.le_refl _) hlsa
          have gyτ130 : τ130.1 y = some (.inr (.inl (2, [.int (nI n), .int (nI (leN B n sp)), .int (nI sp), .int v, .ref (S 2), .ref ae, mv, .ref x]))) := xτ130.at wσ5 fσ5_0
          have gxτ130 : τ130.1 x = some (.inr (.inl (0, [.ref bf, .int bd, .int pe, .int ep, nv, .ref dq, .ref sv, .ref ou]))) := xτ130.at wσ5 fσ5_1
          have gbfτ130 : τ130.1 bf = some (.inl (.byte, 500, .inl B)) := xτ130.at wσ5 fσ5_2
          obtain ⟨sbτ130, mlτ130, foτ130⟩ := sτ130.cell
          have zτ130 : kx y σ τ130 := zσ5.ex xτ130
          refine A_iload_n (i := 3) dX3_step_130 rfl rfl ?_
          refine A_aload_n (i := 0) dX3_step_131 rfl rfl ?_
          refine A_getf cb_X3 gyτ130 1 (Nat.le_of_ble_eq_true rfl) q685 rfl (v := .int (nI (leN B n sp))) rfl dX3_step_132 ?_
          refine A_icmp_ge_f (tgt := 165) dX3_step_135 (by decide) ((fun q => by have k := (nI_lei (by omega) (by omega)).mp q; omega)) ?_
          refine A_aload_n (i := 0) dX3_step_138 rfl rfl ?_
          refine A_getf cb_X3 gyτ130 4 (Nat.le_of_ble_eq_true rfl) q688 rfl (v := .ref (S 2)) rfl dX3_step_139 ?_
          refine A_getsO hS.2.2.1 q429 rfl dX3_step_142 ?_
          refine A_acmp_ne_f (tgt := 165) (x := (some (S 2))) (y := (some (S 2))) dX3_step_145 (by decide) (rfl) ?_
          refine A_aload_n (i := 2) dX3_step_148 rfl rfl ?_
          refine A_aload_n (i := 0) dX3_step_149 rfl rfl ?_
          refine A_iload_n (i := 3) dX3_step_150 rfl rfl ?_
          refine A_callV1E (b' := ((leN B n sp - sp) - i130) * 0 + 3 + 0) (v := some (.int (atV B n (sp + i130)))) (τ := τ130) (c_pAt τ130 y x bf n (leN B n sp) sp v (S 2) ae mv B (sp + i130) gyτ130 ⟨⟨bd, pe, ep, nv, dq, sv, ou, gxτ130⟩, gbfτ130, hn5, hby⟩ (by omega)) tX3_at q418 gyτ130 rfl rfl dX3_step_151 (by decide) (by omega) (Nat.le_of_ble_eq_true rfl) ?_
          refine A_i2c (v := (B (sp + i130))) dX3_step_154 (at_ch hby (leN_in (Nat.le_add_right sp i130) (by omega))) ?_
          refine A_callV1 (b' := ((leN B n sp - sp) - i130) * 0 + 3 + 0) (c_sbAp16 τ130 τ8 σ5.2 σ6.2 (B (sp + i130)) (wls B sp i130) sτ130 (at_lv hby (leN_in (n := n) (Nat.le_add_right sp i130) (by omega))).2 (by rw [wls_len]; omega)) tJ3_append q435 foτ130 rfl rfl dX3_step_155 (by decide) (by omega) (Nat.le_of_ble_eq_true rfl) (fun w9 τ7 h7 => ?_) (fun E9 q9 τ9 h9 => h9.elim)
          obtain ⟨e9, s7⟩ := h7
          subst e9
          refine A_pop dX3_step_158 rfl ?_
          refine A_iinc (v := nI ((sp + i130) + 1)) dX3_step_159 rfl (nI_inc _ _) (Nat.le_of_ble_eq_true rfl) ?_
          refine A_goto (tgt := 130) dX3_step_162 (by decide) ?_
          refine A_less (b' := ((leN B n sp - sp) - (i130 + 1)) * 0 + 3) (by omega) ?_
          refine A_sub (L' := [(0, .ref y), (1, .int (atV B n sp)), (2, .ref σ5.2), (3, .int (nI (sp + (i130 + 1))))]) ⟨rfl, rfl, rfl, rfl, trivial⟩ ?_
          exact ih130 τ7 (by rw [wls_s]; exact s7)
        · skip
          refine A_less (b' := 3) (by omega) ?_
          have sτ130 := hI130
          refine A_wfh (fun wτ130 hgτ130 => ?_)
          have xτ130 : ext σ5 τ130 := fra2.ext sτ130.fr x8 (Nat.le_refl _) hlsa
          have gyτ130 : τ130.1 y = some (.inr (.inl (2, [.int (nI n), .int (nI (leN B n sp)), .int (nI sp), .int v, .ref (S 2), .ref ae, mv, .ref x]))) := xτ130.at wσ5 fσ5_0
          have gxτ130 : τ130.1 x = some (.inr (.inl (0, [.ref bf, .int bd, .int pe, .int ep, nv, .ref dq, .ref sv, .ref ou]))) := xτ130.at wσ5 fσ5_1
          have gbfτ130 : τ130.1 bf = some (.inl (.byte, 500, .inl B)) := xτ130.at wσ5 fσ5_2
          obtain ⟨sbτ130, mlτ130, foτ130⟩ := sτ130.cell
          have zτ130 : kx y σ τ130 := zσ5.ex xτ130
          refine A_iload_n (i := 3) dX3_step_130 rfl rfl ?_
          refine A_aload_n (i := 0) dX3_step_131 rfl rfl ?_
          refine A_getf cb_X3 gyτ130 1 (Nat.le_of_ble_eq_true rfl) q685 rfl (v := .int (nI (leN B n sp))) rfl dX3_step_132 ?_
          refine A_icmp_ge_t (tgt := 165) dX3_step_135 (by decide) (((nI_lei (by omega) (by omega)).mpr (by omega))) ?_
          refine A_aload_n (i := 0) dX3_step_165 rfl rfl ?_
          refine A_aload_n (i := 2) dX3_step_166 rfl rfl ?_
          refine A_callV0 (b' := 0) (c_sbStr τ130 τ8 σ5.2 σ6.2 (wls B sp (leN B n sp - sp)) sτ130.room (by rw [wls_len]; omega)) tJ3_toString q530 foτ130 rfl rfl dX3_step_167 (by decide) (Nat.le_of_ble_eq_true rfl) (Nat.le_of_ble_eq_true rfl) (fun w9 τ6x h6x => ?_) (fun E9 q9 τ9 h9 => h9.elim)
          obtain ⟨e9, ⟨va, hN6, hva⟩, x6⟩ := h6x
          subst e9
          refine A_wfh (fun wτ6x hgτ6x => ?_)
          have gy6 : τ6x.1 y = some (.inr (.inl (2, [.int (nI n), .int (nI (leN B n sp)), .int (nI sp), .int v, .ref (S 2), .ref ae, mv, .ref x]))) := x6.at wτ130 gyτ130
          have gx6 : τ6x.1 x = some (.inr (.inl (0, [.ref bf, .int bd, .int pe, .int ep, nv, .ref dq, .ref sv, .ref ou]))) := x6.at wτ130 gxτ130
          have gbf6 : τ6x.1 bf = some (.inl (.byte, 500, .inl B)) := x6.at wτ130 gbfτ130
          have zτ6x : kx y σ τ6x := zτ130.ex x6
          have hyo : y < τ130.2 := wτ130 _ _ gyτ130
          refine A_putf cb_X3 gy6 5 (Nat.le_of_ble_eq_true rfl) q689 rfl rfl rfl rfl (Nat.le_of_ble_eq_true rfl) dX3_step_170 ?_
          obtain ⟨σ7, eσ7⟩ : ∃ τ, τ = h_put τ6x y (.inr (.inl (2, [.int (nI n), .int (nI (leN B n sp)), .int (nI sp), .int v, .ref (S 2), .ref τ130.2, mv, .ref x]))) := ⟨_, rfl⟩
          refine A_st (σ' := σ7) eσ7.symm ?_
          have wσ7 : wfh σ7 := by rw [eσ7]; exact wτ6x.put gy6
          have fσ7_0 : σ7.1 y = some (.inr (.inl (2, [.int (nI n), .int (nI (leN B n sp)), .int (nI sp), .int v, .ref (S 2), .ref τ130.2, mv, .ref x]))) := by rw [eσ7]; exact if_pos rfl
          have fσ7_1 : σ7.1 x = some (.inr (.inl (0, [.ref bf, .int bd, .int pe, .int ep, nv, .ref dq, .ref sv, .ref ou]))) := by rw [eσ7]; exact (hp_ne (ne_of (x := .inr (.inl (0, [.ref bf, .int bd, .int pe, .int ep, nv, .ref dq, .ref sv, .ref ou]))) (y := .inr (.inl (2, [.int (nI n), .int (nI (leN B n sp)), .int (nI sp), .int v, .ref (S 2), .ref ae, mv, .ref x]))) gx6 gy6 (fun e8 => by simp at e8))).trans gx6
          have fσ7_2 : σ7.1 bf = some (.inl (.byte, 500, .inl B)) := by rw [eσ7]; exact (hp_ne (ne_of (x := .inl (.byte, 500, .inl B)) (y := .inr (.inl (2, [.int (nI n), .int (nI (leN B n sp)), .int (nI sp), .int v, .ref (S 2), .ref ae, mv, .ref x]))) gbf6 gy6 (fun e8 => by simp at e8))).trans gbf6
          have zσ7 : kx y σ σ7 := by rw [eσ7]; exact zτ6x.put
          refine A_goto (tgt := 314) dX3_step_173 (by decide) ?_
          exact A_vret dX3_step_314 rfl (⟨rfl, by rw [tok_l h3 hL, if_pos h6]; show PRW g σ7 y x bf S B n mv (N, leN B n sp, sp, 2, to, cd, at9); exact ⟨_, _, ⟨fσ7_0, ⟨⟨bd, pe, ep, nv, dq, sv, ou, fσ7_1⟩, fσ7_2, hn5, hby⟩, (fun q => absurd (show (2 : Int32) = 3 from q) (by decide)), Or.inr (Or.inr (Or.inl rfl)), (by show leN B n sp ≤ n; omega), (by show sp ≤ leN B n sp; omega)⟩, Or.inl ⟨rfl, h6, (by show 0 < leN B n sp - sp; omega), va, hN6.kx wτ6x (Nat.ne_of_gt hyo) (Nat.ne_of_gt (Nat.lt_of_lt_of_le hyo hva)) (show kx y τ6x σ7 by rw [eσ7]; exact kx.rf.put)⟩⟩, zσ7⟩)
    · skip
      refine A_of rfl (by decide) (Nat.le_of_ble_eq_true rfl) (L0 := [(0, .ref y)]) rfl ?_
      refine A_wfh (fun wσ hgσ => ?_)
      have zσ : kx y σ σ := kx.rf
      refine A_gok (fun hgk => ?_)
      obtain ⟨ae, hae, hes⟩ := litP24 hgk
      refine A_less (b' := ((sp - c) - 0) * 0 + 8) (by omega) ?_
      refine A_sub (L' := [(0, .ref y)]) ⟨rfl, trivial⟩ ?_
      refine A_forP (α := AH) (sp - c) (fun i0 _ => ((sp - c) - i0) * 0 + 8) (fun i0 _ => [(0, .ref y)]) (fun _ τ0 => τ0) (fun i0 τ0 => τ0.1 y = some (.inr (.inl (2, [.int (nI n), .int (nI (c + i0)), .int (nI s), .int v, .ref (S tk), .ref wd, mv, .ref x]))) ∧ kx y σ τ0) σ (⟨hC, kx.rf⟩) (fun i0 τ0 hi0 hI0 ih0 => ?_) (fun τ0 hI0 => ?_)
      · skip
        obtain ⟨fyτ0, kτ0⟩ := hI0
        refine A_wfh (fun wτ0 hgτ0 => ?_)
        have fxτ0 : τ0.1 x = some (.inr (.inl (0, [.ref bf, .int bd, .int pe, .int ep, nv, .ref dq, .ref sv, .ref ou]))) := kτ0.at wσ hX (ne_of hX hC (fun q => by simp at q))
        have fbτ0 : τ0.1 bf = some (.inl (.byte, 500, .inl B)) := kτ0.at wσ hBf (ne_of hBf hC (fun q => by simp at q))
        have zτ0 : kx y σ τ0 := kτ0
        refine A_aload_n (i := 0) dX3_step_0 rfl rfl ?_
        refine A_aload_n (i := 0) dX3_step_1 rfl rfl ?_
        refine A_getf cb_X3 fyτ0 1 (Nat.le_of_ble_eq_true rfl) q685 rfl (v := .int (nI (c + i0))) rfl dX3_step_2 ?_
        refine A_callV1E (b' := ((sp - c) - i0) * 0 + 8 + 0) (v := some (.int (atV B n (c + i0)))) (τ := τ0) (c_pAt τ0 y x bf n (c + i0) s v (S tk) wd mv B (c + i0) fyτ0 ⟨⟨bd, pe, ep, nv, dq, sv, ou, fxτ0⟩, fbτ0, hn5, hby⟩ (by omega)) tX3_at q418 fyτ0 rfl rfl dX3_step_5 (by decide) (by omega) (Nat.le_of_ble_eq_true rfl) ?_
        refine A_bipush (v := 32) dX3_step_8 (by decide) ?_
        refine A_icmp_ne_f (tgt := 26) dX3_step_10 (by decide) ((at_sp hby).mpr (hin _ (Nat.le_add_right _ _) (by omega))) ?_
        refine A_aload_n (i := 0) dX3_step_13 rfl rfl ?_
        refine A_dup dX3_step_14 rfl ?_
        refine A_getf cb_X3 fyτ0 1 (Nat.le_of_ble_eq_true rfl) q685 rfl (v := .int (nI (c + i0))) rfl dX3_step_15 ?_
        refine A_iconst (v := 1) dX3_step_18 (by decide) ?_
        refine A_iadd dX3_step_19 ?_
        refine A_int (w := nI ((c + i0) + 1)) (nI_add (c + i0) 1) ?_
        refine A_putf cb_X3 fyτ0 1 (Nat.le_of_ble_eq_true rfl) q685 rfl rfl rfl rfl (Nat.le_of_ble_eq_true rfl) dX3_step_20 ?_
        obtain ⟨σ1, eσ1⟩ : ∃ τ, τ = h_put τ0 y (.inr (.inl (2, [.int (nI n), .int (nI ((c + i0) + 1)), .int (nI s), .int v, .ref (S tk), .ref wd, mv, .ref x]))) := ⟨_, rfl⟩
        refine A_st (σ' := σ1) eσ1.symm ?_
        have wσ1 : wfh σ1 := by rw [eσ1]; exact wτ0.put fyτ0
        have fσ1_0 : σ1.1 y = some (.inr (.inl (2, [.int (nI n), .int (nI ((c + i0) + 1)), .int (nI s), .int v, .ref (S tk), .ref wd, mv, .ref x]))) := by rw [eσ1]; exact if_pos rfl
        have fσ1_1 : σ1.1 x = some (.inr (.inl (0, [.ref bf, .int bd, .int pe, .int ep, nv, .ref dq, .ref sv, .ref ou]))) := by rw [eσ1]; exact (hp_ne (ne_of (x := .inr (.inl (0, [.ref bf, .int bd, .int pe, .int ep, nv, .ref dq, .ref sv, .ref ou]))) (y := .inr (.inl (2, [.int (nI n), .int (nI (c + i0)), .int (nI s), .int v, .ref (S tk), .ref wd, mv, .ref x]))) fxτ0 fyτ0 (fun e8 => by simp at e8))).trans fxτ0
        have fσ1_2 : σ1.1 bf = some (.inl (.byte, 500, .inl B)) := by rw [eσ1]; exact (hp_ne (ne_of (x := .inl (.byte, 500, .inl B)) (y := .inr (.inl (2, [.int (nI n), .int (nI (c + i0)), .int (nI s), .int v, .ref (S tk), .ref wd, mv, .ref x]))) fbτ0 fyτ0 (fun e8 => by simp at e8))).trans fbτ0
        have zσ1 : kx y σ σ1 := by rw [eσ1]; exact zτ0.put
        refine A_goto (tgt := 0) dX3_step_23 (by decide) ?_
        refine A_less (b' := ((sp - c) - (i0 + 1)) * 0 + 8) (by omega) ?_
        refine A_sub (L' := [(0, .ref y)]) ⟨rfl, trivial⟩ ?_
        exact ih0 σ1 (⟨fσ1_0, zσ1⟩)
      · skip
        refine A_less (b' := 8) (by omega) ?_
        obtain ⟨fyτ0, kτ0⟩ := hI0
        refine A_wfh (fun wτ0 hgτ0 => ?_)
        rw [show c + (sp - c) = sp by omega] at fyτ0
        have fxτ0 : τ0.1 x = some (.inr (.inl (0, [.ref bf, .int bd, .int pe, .int ep, nv, .ref dq, .ref sv, .ref ou]))) := kτ0.at wσ hX (ne_of hX hC (fun q => by simp at q))
        have fbτ0 : τ0.1 bf = some (.inl (.byte, 500, .inl B)) := kτ0.at wσ hBf (ne_of hBf hC (fun q => by simp at q))
        have zτ0 : kx y σ τ0 := kτ0
        refine A_aload_n (i := 0) dX3_step_0 rfl rfl ?_
        refine A_aload_n (i := 0) dX3_step_1 rfl rfl ?_
        refine A_getf cb_X3 fyτ0 1 (Nat.le_of_ble_eq_true rfl) q685 rfl (v := .int (nI sp)) rfl dX3_step_2 ?_
        refine A_callV1E (b' := 8) (v := some (.int (atV B n sp))) (τ := τ0) (c_pAt τ0 y x bf n sp s v (S tk) wd mv B sp fyτ0 ⟨⟨bd, pe, ep, nv, dq, sv, ou, fxτ0⟩, fbτ0, hn5, hby⟩ (by omega)) tX3_at q418 fyτ0 rfl rfl dX3_step_5 (by decide) (Nat.le_of_ble_eq_true rfl) (Nat.le_of_ble_eq_true rfl) ?_
        refine A_bipush (v := 32) dX3_step_8 (by decide) ?_
        refine A_icmp_ne_t (tgt := 26) dX3_step_10 (by decide) ((fun q => hout ((at_sp hby).mp q))) ?_
        refine A_aload_n (i := 0) dX3_step_26 rfl rfl ?_
        refine A_aload_n (i := 0) dX3_step_27 rfl rfl ?_
        refine A_getf cb_X3 fyτ0 1 (Nat.le_of_ble_eq_true rfl) q685 rfl (v := .int (nI sp)) rfl dX3_step_28 ?_
        refine A_putf cb_X3 fyτ0 2 (Nat.le_of_ble_eq_true rfl) q686 rfl rfl rfl rfl (Nat.le_of_ble_eq_true rfl) dX3_step_31 ?_
        obtain ⟨σ2, eσ2⟩ : ∃ τ, τ = h_put τ0 y (.inr (.inl (2, [.int (nI n), .int (nI sp), .int (nI sp), .int v, .ref (S tk), .ref wd, mv, .ref x]))) := ⟨_, rfl⟩
        refine A_st (σ' := σ2) eσ2.symm ?_
        have wσ2 : wfh σ2 := by rw [eσ2]; exact wτ0.put fyτ0
        have fσ2_0 : σ2.1 y = some (.inr (.inl (2, [.int (nI n), .int (nI sp), .int (nI sp), .int v, .ref (S tk), .ref wd, mv, .ref x]))) := by rw [eσ2]; exact if_pos rfl
        have fσ2_1 : σ2.1 x = some (.inr (.inl (0, [.ref bf, .int bd, .int pe, .int ep, nv, .ref dq, .ref sv, .ref ou]))) := by rw [eσ2]; exact (hp_ne (ne_of (x := .inr (.inl (0, [.ref bf, .int bd, .int pe, .int ep, nv, .ref dq, .ref sv, .ref ou]))) (y := .inr (.inl (2, [.int (nI n), .int (nI sp), .int (nI s), .int v, .ref (S tk), .ref wd, mv, .ref x]))) fxτ0 fyτ0 (fun e8 => by simp at e8))).trans fxτ0
        have fσ2_2 : σ2.1 bf = some (.inl (.byte, 500, .inl B)) := by rw [eσ2]; exact (hp_ne (ne_of (x := .inl (.byte, 500, .inl B)) (y := .inr (.inl (2, [.int (nI n), .int (nI sp), .int (nI s), .int v, .ref (S tk), .ref wd, mv, .ref x]))) fbτ0 fyτ0 (fun e8 => by simp at e8))).trans fbτ0
        have zσ2 : kx y σ σ2 := by rw [eσ2]; exact zτ0.put
        refine A_aload_n (i := 0) dX3_step_34 rfl rfl ?_
        refine A_ldcO hae dX3_step_35 ?_
        refine A_putf cb_X3 fσ2_0 5 (Nat.le_of_ble_eq_true rfl) q689 rfl rfl rfl rfl (Nat.le_of_ble_eq_true rfl) dX3_step_37 ?_
        obtain ⟨σ3, eσ3⟩ : ∃ τ, τ = h_put σ2 y (.inr (.inl (2, [.int (nI n), .int (nI sp), .int (nI sp), .int v, .ref (S tk), .ref ae, mv, .ref x]))) := ⟨_, rfl⟩
        refine A_st (σ' := σ3) eσ3.symm ?_
        have wσ3 : wfh σ3 := by rw [eσ3]; exact wσ2.put fσ2_0
        have fσ3_0 : σ3.1 y = some (.inr (.inl (2, [.int (nI n), .int (nI sp), .int (nI sp), .int v, .ref (S tk), .ref ae, mv, .ref x]))) := by rw [eσ3]; exact if_pos rfl
        have fσ3_1 : σ3.1 x = some (.inr (.inl (0, [.ref bf, .int bd, .int pe, .int ep, nv, .ref dq, .ref sv, .ref ou]))) := by rw [eσ3]; exact (hp_ne (ne_of (x := .inr (.inl (0, [.ref bf, .int bd, .int pe, .int ep, nv, .ref dq, .ref sv, .ref ou]))) (y := .inr (.inl (2, [.int (nI n), .int (nI sp), .int (nI sp), .int v, .ref (S tk), .ref wd, mv, .ref x]))) fσ2_1 fσ2_0 (fun e8 => by simp at e8))).trans fσ2_1
        have fσ3_2 : σ3.1 bf = some (.inl (.byte, 500, .inl B)) := by rw [eσ3]; exact (hp_ne (ne_of (x := .inl (.byte, 500, .inl B)) (y := .inr (.inl (2, [.int (nI n), .int (nI sp), .int (nI sp), .int v, .ref (S tk), .ref wd, mv, .ref x]))) fσ2_2 fσ2_0 (fun e8 => by simp at e8))).trans fσ2_2
        have zσ3 : kx y σ σ3 := by rw [eσ3]; exact zσ2.put
        refine A_aload_n (i := 0) dX3_step_40 rfl rfl ?_
        refine A_aload_n (i := 0) dX3_step_41 rfl rfl ?_
        refine A_getf cb_X3 fσ3_0 2 (Nat.le_of_ble_eq_true rfl) q686 rfl (v := .int (nI sp)) rfl dX3_step_42 ?_
        refine A_callV1E (b' := 8) (v := some (.int (atV B n sp))) (τ := σ3) (c_pAt σ3 y x bf n sp sp v (S tk) ae mv B sp fσ3_0 ⟨⟨bd, pe, ep, nv, dq, sv, ou, fσ3_1⟩, fσ3_2, hn5, hby⟩ (by omega)) tX3_at q418 fσ3_0 rfl rfl dX3_step_45 (by decide) (Nat.le_of_ble_eq_true rfl) (Nat.le_of_ble_eq_true rfl) ?_
        refine A_istore_n (i := 1) dX3_step_48 rfl (Nat.le_of_ble_eq_true rfl) ?_
        refine A_iload_n (i := 1) dX3_step_49 rfl rfl ?_
        refine A_iconst (v := (-1)) dX3_step_50 (by decide) ?_
        refine A_icmp_ne_t (tgt := 64) dX3_step_51 (by decide) ((fun q => (at_end hby).mp q (by omega))) ?_
        refine A_iload_n (i := 1) dX3_step_64 rfl rfl ?_
        refine A_i2l dX3_step_65 rfl ?_
        refine A_ldc2 (v := 97) dX3_step_66 q422 ?_
        refine A_ldc2 (v := 122) dX3_step_69 q423 ?_
        refine A_callSN3E (b' := 8) (v := some (.int (bi (inR (atV B n sp) 97 122)))) (τ := σ3) (c_in1 σ3 _ _ _ (atV B n sp) 97 122 rfl (by decide) (by decide)) tX1_in q424 dX3_step_72 (by decide) (Nat.le_of_ble_eq_true rfl) (Nat.le_of_ble_eq_true rfl) ?_
        refine A_if_eq_f (tgt := 176) dX3_step_75 (by decide) (bi_n ((at_le hby).mpr hL)) ?_
        refine A_aload_n (i := 0) dX3_step_78 rfl rfl ?_
        refine A_aload_n (i := 0) dX3_step_79 rfl rfl ?_
        refine A_bipush (v := 97) dX3_step_80 (by decide) ?_
        refine A_bipush (v := 122) dX3_step_82 (by decide) ?_
        refine A_callV2E (b' := 8) (v := some (.int (nI (leN B n sp)))) (τ := σ3) (c_pRunL σ3 y x bf n sp sp v (S tk) ae mv B fσ3_0 ⟨⟨bd, pe, ep, nv, dq, sv, ou, fσ3_1⟩, fσ3_2, hn5, hby⟩ h2) tX3_run q425 fσ3_0 rfl rfl dX3_step_84 (by decide) (Nat.le_of_ble_eq_true rfl) (Nat.le_of_ble_eq_true rfl) ?_
        refine A_putf cb_X3 fσ3_0 1 (Nat.le_of_ble_eq_true rfl) q685 rfl rfl rfl rfl (Nat.le_of_ble_eq_true rfl) dX3_step_87 ?_
        obtain ⟨σ4, eσ4⟩ : ∃ τ, τ = h_put σ3 y (.inr (.inl (2, [.int (nI n), .int (nI (leN B n sp)), .int (nI sp), .int v, .ref (S tk), .ref ae, mv, .ref x]))) := ⟨_, rfl⟩
        refine A_st (σ' := σ4) eσ4.symm ?_
        have wσ4 : wfh σ4 := by rw [eσ4]; exact wσ3.put fσ3_0
        have fσ4_0 : σ4.1 y = some (.inr (.inl (2, [.int (nI n), .int (nI (leN B n sp)), .int (nI sp), .int v, .ref (S tk), .ref ae, mv, .ref x]))) := by rw [eσ4]; exact if_pos rfl
        have fσ4_1 : σ4.1 x = some (.inr (.inl (0, [.ref bf, .int bd, .int pe, .int ep, nv, .ref dq, .ref sv, .ref ou]))) := by rw [eσ4]; exact (hp_ne (ne_of (x := .inr (.inl (0, [.ref bf, .int bd, .int pe, .int ep, nv, .ref dq, .ref sv, .ref ou]))) (y := .inr (.inl (2, [.int (nI n), .int (nI sp), .int (nI sp), .int v, .ref (S tk), .ref ae, mv, .ref x]))) fσ3_1 fσ3_0 (fun e8 => by simp at e8))).trans fσ3_1
        have fσ4_2 : σ4.1 bf = some (.inl (.byte, 500, .inl B)) := by rw [eσ4]; exact (hp_ne (ne_of (x := .inl (.byte, 500, .inl B)) (y := .inr (.inl (2, [.int (nI n), .int (nI sp), .int (nI sp), .int v, .ref (S tk), .ref ae, mv, .ref x]))) fσ3_2 fσ3_0 (fun e8 => by simp at e8))).trans fσ3_2
        have zσ4 : kx y σ σ4 := by rw [eσ4]; exact zσ3.put
        refine A_aload_n (i := 0) dX3_step_90 rfl rfl ?_
        refine A_aload_n (i := 0) dX3_step_91 rfl rfl ?_
        refine A_getf cb_X3 fσ4_0 1 (Nat.le_of_ble_eq_true rfl) q685 rfl (v := .int (nI (leN B n sp))) rfl dX3_step_92 ?_
        refine A_aload_n (i := 0) dX3_step_95 rfl rfl ?_
        refine A_getf cb_X3 fσ4_0 2 (Nat.le_of_ble_eq_true rfl) q686 rfl (v := .int (nI sp)) rfl dX3_step_96 ?_
        refine A_isub dX3_step_99 ?_
        refine A_int (w := (nI (leN B n sp - sp))) (nI_sub (by omega)) ?_
        refine A_bipush (v := 6) dX3_step_100 (by decide) ?_
        refine A_icmp_gt_t (tgt := 111) dX3_step_102 (by decide) (((nI_lti (by decide : 6 < 2 ^ 31) (by omega)).mpr (by omega))) ?_
        refine A_getsO hS.1 q431 rfl dX3_step_111 ?_
        refine A_putf cb_X3 fσ4_0 4 (Nat.le_of_ble_eq_true rfl) q688 rfl rfl rfl rfl (Nat.le_of_ble_eq_true rfl) dX3_step_114 ?_
        obtain ⟨σ5, eσ5⟩ : ∃ τ, τ = h_put σ4 y (.inr (.inl (2, [.int (nI n), .int (nI (leN B n sp)), .int (nI sp), .int v, .ref (S 0), .ref ae, mv, .ref x]))) := ⟨_, rfl⟩
        refine A_st (σ' := σ5) eσ5.symm ?_
        have wσ5 : wfh σ5 := by rw [eσ5]; exact wσ4.put fσ4_0
        have fσ5_0 : σ5.1 y = some (.inr (.inl (2, [.int (nI n), .int (nI (leN B n sp)), .int (nI sp), .int v, .ref (S 0), .ref ae, mv, .ref x]))) := by rw [eσ5]; exact if_pos rfl
        have fσ5_1 : σ5.1 x = some (.inr (.inl (0, [.ref bf, .int bd, .int pe, .int ep, nv, .ref dq, .ref sv, .ref ou]))) := by rw [eσ5]; exact (hp_ne (ne_of (x := .inr (.inl (0, [.ref bf, .int bd, .int pe, .int ep, nv, .ref dq, .ref sv, .ref ou]))) (y := .inr (.inl (2, [.int (nI n), .int (nI (leN B n sp)), .int (nI sp), .int v, .ref (S tk), .ref ae, mv, .ref x]))) fσ4_1 fσ4_0 (fun e8 => by simp at e8))).trans fσ4_1
        have fσ5_2 : σ5.1 bf = some (.inl (.byte, 500, .inl B)) := by rw [eσ5]; exact (hp_ne (ne_of (x := .inl (.byte, 500, .inl B)) (y := .inr (.inl (2, [.int (nI n), .int (nI (leN B n sp)), .int (nI sp), .int v, .ref (S tk), .ref ae, mv, .ref x]))) fσ4_2 fσ4_0 (fun e8 => by simp at e8))).trans fσ4_2
        have zσ5 : kx y σ σ5 := by rw [eσ5]; exact zσ4.put
        skip
        refine A_new (b' := 7) (u := 1) cb_J3 q433 q206 q137 (fs := [.null, .int 0, .int 0, .int 0]) (by intro j hj; rcases j with _ | j; exact rfl; rcases j with _ | j; exact rfl; rcases j with _ | j; exact rfl; rcases j with _ | j; exact rfl; omega) (Nat.le_of_ble_eq_true rfl) ⟨Nat.le_of_ble_eq_true rfl, Nat.le_of_ble_eq_true rfl⟩ dX3_step_117 ?_
        obtain ⟨σ6, eσ6⟩ : ∃ τ, τ = h_new σ5 (.inr (.inl (12, [.null, .int 0, .int 0, .int 0]))) := ⟨_, rfl⟩
        refine A_st (σ' := σ6) eσ6.symm ?_
        have wσ6 : wfh σ6 := by rw [eσ6]; exact wσ5.new
        have fσ6_0 : σ6.1 y = some (.inr (.inl (2, [.int (nI n), .int (nI (leN B n sp)), .int (nI sp), .int v, .ref (S 0), .ref ae, mv, .ref x]))) := by rw [eσ6]; exact (hn_ne (Nat.ne_of_lt (wσ5 _ _ fσ5_0))).trans fσ5_0
        have fσ6_1 : σ6.1 x = some (.inr (.inl (0, [.ref bf, .int bd, .int pe, .int ep, nv, .ref dq, .ref sv, .ref ou]))) := by rw [eσ6]; exact (hn_ne (Nat.ne_of_lt (wσ5 _ _ fσ5_1))).trans fσ5_1
        have fσ6_2 : σ6.1 bf = some (.inl (.byte, 500, .inl B)) := by rw [eσ6]; exact (hn_ne (Nat.ne_of_lt (wσ5 _ _ fσ5_2))).trans fσ5_2
        have fσ6_3 : σ6.1 σ5.2 = some (.inr (.inl (12, [.null, .int 0, .int 0, .int 0]))) := by rw [eσ6]; exact if_pos rfl
        have xσ6 : ext σ5 σ6 := by rw [eσ6]; exact ext_new _ _
        have zσ6 : kx y σ σ6 := by rw [eσ6]; exact zσ5.new
        refine A_dup dX3_step_120 rfl ?_
        refine A_callI0 (b' := 3) (c_sbNew σ6 σ5.2 fσ6_3) tJ3_init q434 dX3_step_121 (by decide) (Nat.le_of_ble_eq_true rfl) (Nat.le_of_ble_eq_true rfl) (fun w9 τ8 h8 => ?_) (fun E9 q9 τ9 h9 => h9.elim)
        obtain ⟨e9, hd8, k8⟩ := h8
        subst e9
        refine A_wfh (fun wτ8 hgτ8 => ?_)
        have x8 : ext σ5 τ8 := xσ6.kxF k8 (Nat.le_refl _)
        have hlsa : σ5.2 ≤ σ6.2 := xσ6.1
        have s8 := hd8.sx
        have gyτ8 : τ8.1 y = some (.inr (.inl (2, [.int (nI n), .int (nI (leN B n sp)), .int (nI sp), .int v, .ref (S 0), .ref ae, mv, .ref x]))) := x8.at wσ5 fσ5_0
        have gxτ8 : τ8.1 x = some (.inr (.inl (0, [.ref bf, .int bd, .int pe, .int ep, nv, .ref dq, .ref sv, .ref ou]))) := x8.at wσ5 fσ5_1
        have gbfτ8 : τ8.1 bf = some (.inl (.byte, 500, .inl B)) := x8.at wσ5 fσ5_2
        obtain ⟨sbτ8, mlτ8, foτ8⟩ := s8.cell
        have zτ8 : kx y σ τ8 := zσ5.ex x8
        refine A_astore_n (i := 2) dX3_step_124 rfl (Nat.le_of_ble_eq_true rfl) ?_
        refine A_aload_n (i := 0) dX3_step_125 rfl rfl ?_
        refine A_getf cb_X3 gyτ8 2 (Nat.le_of_ble_eq_true rfl) q686 rfl (v := .int (nI sp)) rfl dX3_step_126 ?_
        refine A_istore_n (i := 3) dX3_step_129 rfl (Nat.le_of_ble_eq_true rfl) ?_
        refine A_iload_n (i := 3) dX3_step_130 rfl rfl ?_
        refine A_aload_n (i := 0) dX3_step_131 rfl rfl ?_
        refine A_getf cb_X3 gyτ8 1 (Nat.le_of_ble_eq_true rfl) q685 rfl (v := .int (nI (leN B n sp))) rfl dX3_step_132 ?_
        refine A_icmp_ge_f (tgt := 165) dX3_step_135 (by decide) ((fun q => by have k := (nI_lei (by omega) (by omega)).mp q; omega)) ?_
        refine A_aload_n (i := 0) dX3_step_138 rfl rfl ?_
        refine A_getf cb_X3 gyτ8 4 (Nat.le_of_ble_eq_true rfl) q688 rfl (v := .ref (S 0)) rfl dX3_step_139 ?_
        refine A_getsO hS.2.2.1 q429 rfl dX3_step_142 ?_
        refine A_acmp_ne_t (tgt := 165) (x := (some (S 0))) (y := (some (S 2))) dX3_step_145 (by decide) ((hS.ne (Or.inl rfl) (Or.inr (Or.inr (Or.inl rfl))) (by decide))) ?_
        refine A_aload_n (i := 0) dX3_step_165 rfl rfl ?_
        refine A_aload_n (i := 2) dX3_step_166 rfl rfl ?_
        refine A_callV0 (b' := 0) (c_sbStr τ8 τ8 σ5.2 σ6.2 (nl) s8.room (by decide)) tJ3_toString q530 foτ8 rfl rfl dX3_step_167 (by decide) (Nat.le_of_ble_eq_true rfl) (Nat.le_of_ble_eq_true rfl) (fun w9 τ6x h6x => ?_) (fun E9 q9 τ9 h9 => h9.elim)
        obtain ⟨e9, ⟨va, hN6, hva⟩, x6⟩ := h6x
        subst e9
        refine A_wfh (fun wτ6x hgτ6x => ?_)
        have gy6 : τ6x.1 y = some (.inr (.inl (2, [.int (nI n), .int (nI (leN B n sp)), .int (nI sp), .int v, .ref (S 0), .ref ae, mv, .ref x]))) := x6.at wτ8 gyτ8
        have gx6 : τ6x.1 x = some (.inr (.inl (0, [.ref bf, .int bd, .int pe, .int ep, nv, .ref dq, .ref sv, .ref ou]))) := x6.at wτ8 gxτ8
        have gbf6 : τ6x.1 bf = some (.inl (.byte, 500, .inl B)) := x6.at wτ8 gbfτ8
        have zτ6x : kx y σ τ6x := zτ8.ex x6
        have hyo : y < τ8.2 := wτ8 _ _ gyτ8
        refine A_putf cb_X3 gy6 5 (Nat.le_of_ble_eq_true rfl) q689 rfl rfl rfl rfl (Nat.le_of_ble_eq_true rfl) dX3_step_170 ?_
        obtain ⟨σ7, eσ7⟩ : ∃ τ, τ = h_put τ6x y (.inr (.inl (2, [.int (nI n), .int (nI (leN B n sp)), .int (nI sp), .int v, .ref (S 0), .ref τ8.2, mv, .ref x]))) := ⟨_, rfl⟩
        refine A_st (σ' := σ7) eσ7.symm ?_
        have wσ7 : wfh σ7 := by rw [eσ7]; exact wτ6x.put gy6
        have fσ7_0 : σ7.1 y = some (.inr (.inl (2, [.int (nI n), .int (nI (leN B n sp)), .int (nI sp), .int v, .ref (S 0), .ref τ8.2, mv, .ref x]))) := by rw [eσ7]; exact if_pos rfl
        have fσ7_1 : σ7.1 x = some (.inr (.inl (0, [.ref bf, .int bd, .int pe, .int ep, nv, .ref dq, .ref sv, .ref ou]))) := by rw [eσ7]; exact (hp_ne (ne_of (x := .inr (.inl (0, [.ref bf, .int bd, .int pe, .int ep, nv, .ref dq, .ref sv, .ref ou]))) (y := .inr (.inl (2, [.int (nI n), .int (nI (leN B n sp)), .int (nI sp), .int v, .ref (S 0), .ref ae, mv, .ref x]))) gx6 gy6 (fun e8 => by simp at e8))).trans gx6
        have fσ7_2 : σ7.1 bf = some (.inl (.byte, 500, .inl B)) := by rw [eσ7]; exact (hp_ne (ne_of (x := .inl (.byte, 500, .inl B)) (y := .inr (.inl (2, [.int (nI n), .int (nI (leN B n sp)), .int (nI sp), .int v, .ref (S 0), .ref ae, mv, .ref x]))) gbf6 gy6 (fun e8 => by simp at e8))).trans gbf6
        have zσ7 : kx y σ σ7 := by rw [eσ7]; exact zτ6x.put
        refine A_goto (tgt := 314) dX3_step_173 (by decide) ?_
        exact A_vret dX3_step_314 rfl (⟨rfl, by rw [tok_l h3 hL, if_neg h6]; show PRW g σ7 y x bf S B n mv (N, leN B n sp, sp, 0, to, cd, at9); exact ⟨_, _, ⟨fσ7_0, ⟨⟨bd, pe, ep, nv, dq, sv, ou, fσ7_1⟩, fσ7_2, hn5, hby⟩, (fun q => absurd (show (0 : Int32) = 3 from q) (by decide)), Or.inl rfl, (by show leN B n sp ≤ n; omega), (by show sp ≤ leN B n sp; omega)⟩, Or.inr ⟨(show ¬ (0 : Int32) = 2 by decide), Or.inr ⟨va, hN6.kx wτ6x (Nat.ne_of_gt hyo) (Nat.ne_of_gt (Nat.lt_of_lt_of_le hyo hva)) (show kx y τ6x σ7 by rw [eσ7]; exact kx.rf.put)⟩⟩⟩, zσ7⟩)
  by_cases hD : diP B n sp
  · skip
    have hlg := diN_gt hD
    have hll := diN_le (B := B) h2
    by_cases h6 : diN B n sp - sp ≤ 2
    · skip
      refine A_of rfl (by decide) (Nat.le_of_ble_eq_true rfl) (L0 := [(0, .ref y)]) rfl ?_
      refine A_wfh (fun wσ hgσ => ?_)
      have zσ : kx y σ σ := kx.rf
      refine A_gok (fun hgk => ?_)
      obtain ⟨ae, hae, hes⟩ := litP24 hgk
      refine A_less (b' := ((sp - c) - 0) * 0 + 8) (by omega) ?_
      refine A_sub (L' := [(0, .ref y)]) ⟨rfl, trivial⟩ ?_
      refine A_forP (α := AH) (sp - c) (fun i0 _ => ((sp - c) - i0) * 0 + 8) (fun i0 _ => [(0, .ref y)]) (fun _ τ0 => τ0) (fun i0 τ0 => τ0.1 y = some (.inr (.inl (2, [.int (nI n), .int (nI (c + i0)), .int (nI s), .int v, .ref (S tk), .ref wd, mv, .ref x]))) ∧ kx y σ τ0) σ (⟨hC, kx.rf⟩) (fun i0 τ0 hi0 hI0 ih0 => ?_) (fun τ0 hI0 => ?_)
      · skip
        obtain ⟨fyτ0, kτ0⟩ := hI0
        refine A_wfh (fun wτ0 hgτ0 => ?_)
        have fxτ0 : τ0.1 x = some (.inr (.inl (0, [.ref bf, .int bd, .int pe, .int ep, nv, .ref dq, .ref sv, .ref ou]))) := kτ0.at wσ hX (ne_of hX hC (fun q => by simp at q))
        have fbτ0 : τ0.1 bf = some (.inl (.byte, 500, .inl B)) := kτ0.at wσ hBf (ne_of hBf hC (fun q => by simp at q))
        have zτ0 : kx y σ τ0 := kτ0
        refine A_aload_n (i := 0) dX3_step_0 rfl rfl ?_
        refine A_aload_n (i := 0) dX3_step_1 rfl rfl ?_
        refine A_getf cb_X3 fyτ0 1 (Nat.le_of_ble_eq_true rfl) q685 rfl (v := .int (nI (c + i0))) rfl dX3_step_2 ?_
        refine A_callV1E (b' := ((sp - c) - i0) * 0 + 8 + 0) (v := some (.int (atV B n (c + i0)))) (τ := τ0) (c_pAt τ0 y x bf n (c + i0) s v (S tk) wd mv B (c + i0) fyτ0 ⟨⟨bd, pe, ep, nv, dq, sv, ou, fxτ0⟩, fbτ0, hn5, hby⟩ (by omega)) tX3_at q418 fyτ0 rfl rfl dX3_step_5 (by decide) (by omega) (Nat.le_of_ble_eq_true rfl) ?_
        refine A_bipush (v := 32) dX3_step_8 (by decide) ?_
        refine A_icmp_ne_f (tgt := 26) dX3_step_10 (by decide) ((at_sp hby).mpr (hin _ (Nat.le_add_right _ _) (by omega))) ?_
        refine A_aload_n (i := 0) dX3_step_13 rfl rfl ?_
        refine A_dup dX3_step_14 rfl ?_
        refine A_getf cb_X3 fyτ0 1 (Nat.le_of_ble_eq_true rfl) q685 rfl (v := .int (nI (c + i0))) rfl dX3_step_15 ?_
        refine A_iconst (v := 1) dX3_step_18 (by decide) ?_
        refine A_iadd dX3_step_19 ?_
        refine A_int (w := nI ((c + i0) + 1)) (nI_add (c + i0) 1) ?_
        refine A_putf cb_X3 fyτ0 1 (Nat.le_of_ble_eq_true rfl) q685 rfl rfl rfl rfl (Nat.le_of_ble_eq_true rfl) dX3_step_20 ?_
        obtain ⟨σ1, eσ1⟩ : ∃ τ, τ = h_put τ0 y (.inr (.inl (2, [.int (nI n), .int (nI ((c + i0) + 1)), .int (nI s), .int v, .ref (S tk), .ref wd, mv, .ref x]))) := ⟨_, rfl⟩
        refine A_st (σ' := σ1) eσ1.symm ?_
        have wσ1 : wfh σ1 := by rw [eσ1]; exact wτ0.put fyτ0
        have fσ1_0 : σ1.1 y = some (.inr (.inl (2, [.int (nI n), .int (nI ((c + i0) + 1)), .int (nI s), .int v, .ref (S tk), .ref wd, mv, .ref x]))) := by rw [eσ1]; exact if_pos rfl
        have fσ1_1 : σ1.1 x = some (.inr (.inl (0, [.ref bf, .int bd, .int pe, .int ep, nv, .ref dq, .ref sv, .ref ou]))) := by rw [eσ1]; exact (hp_ne (ne_of (x := .inr (.inl (0, [.ref bf, .int bd, .int pe, .int ep, nv, .ref dq, .ref sv, .ref ou]))) (y := .inr (.inl (2, [.int (nI n), .int (nI (c + i0)), .int (nI s), .int v, .ref (S tk), .ref wd, mv, .ref x]))) fxτ0 fyτ0 (fun e8 => by simp at e8))).trans fxτ0
        have fσ1_2 : σ1.1 bf = some (.inl (.byte, 500, .inl B)) := by rw [eσ1]; exact (hp_ne (ne_of (x := .inl (.byte, 500, .inl B)) (y := .inr (.inl (2, [.int (nI n), .int (nI (c + i0)), .int (nI s), .int v, .ref (S tk), .ref wd, mv, .ref x]))) fbτ0 fyτ0 (fun e8 => by simp at e8))).trans fbτ0
        have zσ1 : kx y σ σ1 := by rw [eσ1]; exact zτ0.put
        refine A_goto (tgt := 0) dX3_step_23 (by decide) ?_
        refine A_less (b' := ((sp - c) - (i0 + 1)) * 0 + 8) (by omega) ?_
        refine A_sub (L' := [(0, .ref y)]) ⟨rfl, trivial⟩ ?_
        exact ih0 σ1 (⟨fσ1_0, zσ1⟩)
      · skip
        refine A_less (b' := 8) (by omega) ?_
        obtain ⟨fyτ0, kτ0⟩ := hI0
        refine A_wfh (fun wτ0 hgτ0 => ?_)
        rw [show c + (sp - c) = sp by omega] at fyτ0
        have fxτ0 : τ0.1 x = some (.inr (.inl (0, [.ref bf, .int bd, .int pe, .int ep, nv, .ref dq, .ref sv, .ref ou]))) := kτ0.at wσ hX (ne_of hX hC (fun q => by simp at q))
        have fbτ0 : τ0.1 bf = some (.inl (.byte, 500, .inl B)) := kτ0.at wσ hBf (ne_of hBf hC (fun q => by simp at q))
        have zτ0 : kx y σ τ0 := kτ0
        refine A_aload_n (i := 0) dX3_step_0 rfl rfl ?_
        refine A_aload_n (i := 0) dX3_step_1 rfl rfl ?_
        refine A_getf cb_X3 fyτ0 1 (Nat.le_of_ble_eq_true rfl) q685 rfl (v := .int (nI sp)) rfl dX3_step_2 ?_
        refine A_callV1E (b' := 8) (v := some (.int (atV B n sp))) (τ := τ0) (c_pAt τ0 y x bf n sp s v (S tk) wd mv B sp fyτ0 ⟨⟨bd, pe, ep, nv, dq, sv, ou, fxτ0⟩, fbτ0, hn5, hby⟩ (by omega)) tX3_at q418 fyτ0 rfl rfl dX3_step_5 (by decide) (Nat.le_of_ble_eq_true rfl) (Nat.le_of_ble_eq_true rfl) ?_
        refine A_bipush (v := 32) dX3_step_8 (by decide) ?_
        refine A_icmp_ne_t (tgt := 26) dX3_step_10 (by decide) ((fun q => hout ((at_sp hby).mp q))) ?_
        refine A_aload_n (i := 0) dX3_step_26 rfl rfl ?_
        refine A_aload_n (i := 0) dX3_step_27 rfl rfl ?_
        refine A_getf cb_X3 fyτ0 1 (Nat.le_of_ble_eq_true rfl) q685 rfl (v := .int (nI sp)) rfl dX3_step_28 ?_
        refine A_putf cb_X3 fyτ0 2 (Nat.le_of_ble_eq_true rfl) q686 rfl rfl rfl rfl (Nat.le_of_ble_eq_true rfl) dX3_step_31 ?_
        obtain ⟨σ2, eσ2⟩ : ∃ τ, τ = h_put τ0 y (.inr (.inl (2, [.int (nI n), .int (nI sp), .int (nI sp), .int v, .ref (S tk), .ref wd, mv, .ref x]))) := ⟨_, rfl⟩
        refine A_st (σ' := σ2) eσ2.symm ?_
        have wσ2 : wfh σ2 := by rw [eσ2]; exact wτ0.put fyτ0
        have fσ2_0 : σ2.1 y = some (.inr (.inl (2, [.int (nI n), .int (nI sp), .int (nI sp), .int v, .ref (S tk), .ref wd, mv, .ref x]))) := by rw [eσ2]; exact if_pos rfl
        have fσ2_1 : σ2.1 x = some (.inr (.inl (0, [.ref bf, .int bd, .int pe, .int ep, nv, .ref dq, .ref sv, .ref ou]))) := by rw [eσ2]; exact (hp_ne (ne_of (x := .inr (.inl (0, [.ref bf, .int bd, .int pe, .int ep, nv, .ref dq, .ref sv, .ref ou]))) (y := .inr (.inl (2, [.int (nI n), .int (nI sp), .int (nI s), .int v, .ref (S tk), .ref wd, mv, .ref x]))) fxτ0 fyτ0 (fun e8 => by simp at e8))).trans fxτ0
        have fσ2_2 : σ2.1 bf = some (.inl (.byte, 500, .inl B)) := by rw [eσ2]; exact (hp_ne (ne_of (x := .inl (.byte, 500, .inl B)) (y := .inr (.inl (2, [.int (nI n), .int (nI sp), .int (nI s), .int v, .ref (S tk), .ref wd, mv, .ref x]))) fbτ0 fyτ0 (fun e8 => by simp at e8))).trans fbτ0
        have zσ2 : kx y σ σ2 := by rw [eσ2]; exact zτ0.put
        refine A_aload_n (i := 0) dX3_step_34 rfl rfl ?_
        refine A_ldcO hae dX3_step_35 ?_
        refine A_putf cb_X3 fσ2_0 5 (Nat.le_of_ble_eq_true rfl) q689 rfl rfl rfl rfl (Nat.le_of_ble_eq_true rfl) dX3_step_37 ?_
        obtain ⟨σ3, eσ3⟩ : ∃ τ, τ = h_put σ2 y (.inr (.inl (2, [.int (nI n), .int (nI sp), .int (nI sp), .int v, .ref (S tk), .ref ae, mv, .ref x]))) := ⟨_, rfl⟩
        refine A_st (σ' := σ3) eσ3.symm ?_
        have wσ3 : wfh σ3 := by rw [eσ3]; exact wσ2.put fσ2_0
        have fσ3_0 : σ3.1 y = some (.inr (.inl (2, [.int (nI n), .int (nI sp), .int (nI sp), .int v, .ref (S tk), .ref ae, mv, .ref x]))) := by rw [eσ3]; exact if_pos rfl
        have fσ3_1 : σ3.1 x = some (.inr (.inl (0, [.ref bf, .int bd, .int pe, .int ep, nv, .ref dq, .ref sv, .ref ou]))) := by rw [eσ3]; exact (hp_ne (ne_of (x := .inr (.inl (0, [.ref bf, .int bd, .int pe, .int ep, nv, .ref dq, .ref sv, .ref ou]))) (y := .inr (.inl (2, [.int (nI n), .int (nI sp), .int (nI sp), .int v, .ref (S tk), .ref wd, mv, .ref x]))) fσ2_1 fσ2_0 (fun e8 => by simp at e8))).trans fσ2_1
        have fσ3_2 : σ3.1 bf = some (.inl (.byte, 500, .inl B)) := by rw [eσ3]; exact (hp_ne (ne_of (x := .inl (.byte, 500, .inl B)) (y := .inr (.inl (2, [.int (nI n), .int (nI sp), .int (nI sp), .int v, .ref (S tk), .ref wd, mv, .ref x]))) fσ2_2 fσ2_0 (fun e8 => by simp at e8))).trans fσ2_2
        have zσ3 : kx y σ σ3 := by rw [eσ3]; exact zσ2.put
        refine A_aload_n (i := 0) dX3_step_40 rfl rfl ?_
        refine A_aload_n (i := 0) dX3_step_41 rfl rfl ?_
        refine A_getf cb_X3 fσ3_0 2 (Nat.le_of_ble_eq_true rfl) q686 rfl (v := .int (nI sp)) rfl dX3_step_42 ?_
        refine A_callV1E (b' := 8) (v := some (.int (atV B n sp))) (τ := σ3) (c_pAt σ3 y x bf n sp sp v (S tk) ae mv B sp fσ3_0 ⟨⟨bd, pe, ep, nv, dq, sv, ou, fσ3_1⟩, fσ3_2, hn5, hby⟩ (by omega)) tX3_at q418 fσ3_0 rfl rfl dX3_step_45 (by decide) (Nat.le_of_ble_eq_true rfl) (Nat.le_of_ble_eq_true rfl) ?_
        refine A_istore_n (i := 1) dX3_step_48 rfl (Nat.le_of_ble_eq_true rfl) ?_
        refine A_iload_n (i := 1) dX3_step_49 rfl rfl ?_
        refine A_iconst (v := (-1)) dX3_step_50 (by decide) ?_
        refine A_icmp_ne_t (tgt := 64) dX3_step_51 (by decide) ((fun q => (at_end hby).mp q (by omega))) ?_
        refine A_iload_n (i := 1) dX3_step_64 rfl rfl ?_
        refine A_i2l dX3_step_65 rfl ?_
        refine A_ldc2 (v := 97) dX3_step_66 q422 ?_
        refine A_ldc2 (v := 122) dX3_step_69 q423 ?_
        refine A_callSN3E (b' := 8) (v := some (.int (bi (inR (atV B n sp) 97 122)))) (τ := σ3) (c_in1 σ3 _ _ _ (atV B n sp) 97 122 rfl (by decide) (by decide)) tX1_in q424 dX3_step_72 (by decide) (Nat.le_of_ble_eq_true rfl) (Nat.le_of_ble_eq_true rfl) ?_
        refine A_if_eq_t (tgt := 176) dX3_step_75 (by decide) (bi_f (fun q => hL ((at_le hby).mp q))) ?_
        refine A_iload_n (i := 1) dX3_step_176 rfl rfl ?_
        refine A_i2l dX3_step_177 rfl ?_
        refine A_ldc2 (v := 48) dX3_step_178 q678 ?_
        refine A_ldc2 (v := 57) dX3_step_181 q679 ?_
        refine A_callSN3E (b' := 8) (v := some (.int (bi (inR (atV B n sp) 48 57)))) (τ := σ3) (c_in1 σ3 _ _ _ (atV B n sp) 48 57 rfl (by decide) (by decide)) tX1_in q424 dX3_step_184 (by decide) (Nat.le_of_ble_eq_true rfl) (Nat.le_of_ble_eq_true rfl) ?_
        refine A_if_eq_f (tgt := 285) dX3_step_187 (by decide) (bi_n ((at_di hby).mpr hD)) ?_
        refine A_aload_n (i := 0) dX3_step_190 rfl rfl ?_
        refine A_aload_n (i := 0) dX3_step_191 rfl rfl ?_
        refine A_bipush (v := 48) dX3_step_192 (by decide) ?_
        refine A_bipush (v := 57) dX3_step_194 (by decide) ?_
        refine A_callV2E (b' := 8) (v := some (.int (nI (diN B n sp)))) (τ := σ3) (c_pRunD σ3 y x bf n sp sp v (S tk) ae mv B fσ3_0 ⟨⟨bd, pe, ep, nv, dq, sv, ou, fσ3_1⟩, fσ3_2, hn5, hby⟩ h2) tX3_run q425 fσ3_0 rfl rfl dX3_step_196 (by decide) (Nat.le_of_ble_eq_true rfl) (Nat.le_of_ble_eq_true rfl) ?_
        refine A_putf cb_X3 fσ3_0 1 (Nat.le_of_ble_eq_true rfl) q685 rfl rfl rfl rfl (Nat.le_of_ble_eq_true rfl) dX3_step_199 ?_
        obtain ⟨σ4, eσ4⟩ : ∃ τ, τ = h_put σ3 y (.inr (.inl (2, [.int (nI n), .int (nI (diN B n sp)), .int (nI sp), .int v, .ref (S tk), .ref ae, mv, .ref x]))) := ⟨_, rfl⟩
        refine A_st (σ' := σ4) eσ4.symm ?_
        have wσ4 : wfh σ4 := by rw [eσ4]; exact wσ3.put fσ3_0
        have fσ4_0 : σ4.1 y = some (.inr (.inl (2, [.int (nI n), .int (nI (diN B n sp)), .int (nI sp), .int v, .ref (S tk), .ref ae, mv, .ref x]))) := by rw [eσ4]; exact if_pos rfl
        have fσ4_1 : σ4.1 x = some (.inr (.inl (0, [.ref bf, .int bd, .int pe, .int ep, nv, .ref dq, .ref sv, .ref ou]))) := by rw [eσ4]; exact (hp_ne (ne_of (x := .inr (.inl (0, [.ref bf, .int bd, .int pe, .int ep, nv, .ref dq, .ref sv, .ref ou]))) (y := .inr (.inl (2, [.int (nI n), .int (nI sp), .int (nI sp), .int v, .ref (S tk), .ref ae, mv, .ref x]))) fσ3_1 fσ3_0 (fun e8 => by simp at e8))).trans fσ3_1
        have fσ4_2 : σ4.1 bf = some (.inl (.byte, 500, .inl B)) := by rw [eσ4]; exact (hp_ne (ne_of (x := .inl (.byte, 500, .inl B)) (y := .inr (.inl (2, [.int (nI n), .int (nI sp), .int (nI sp), .int v, .ref (S tk), .ref ae, mv, .ref x]))) fσ3_2 fσ3_0 (fun e8 => by simp at e8))).trans fσ3_2
        have zσ4 : kx y σ σ4 := by rw [eσ4]; exact zσ3.put
        refine A_aload_n (i := 0) dX3_step_202 rfl rfl ?_
        refine A_aload_n (i := 0) dX3_step_203 rfl rfl ?_
        refine A_getf cb_X3 fσ4_0 1 (Nat.le_of_ble_eq_true rfl) q685 rfl (v := .int (nI (diN B n sp))) rfl dX3_step_204 ?_
        refine A_aload_n (i := 0) dX3_step_207 rfl rfl ?_
        refine A_getf cb_X3 fσ4_0 2 (Nat.le_of_ble_eq_true rfl) q686 rfl (v := .int (nI sp)) rfl dX3_step_208 ?_
        refine A_isub dX3_step_211 ?_
        refine A_int (w := (nI (diN B n sp - sp))) (nI_sub (by omega)) ?_
        refine A_iconst (v := 2) dX3_step_212 (by decide) ?_
        refine A_icmp_gt_f (tgt := 222) dX3_step_213 (by decide) ((fun q => by have k := (nI_lti (by decide : 2 < 2 ^ 31) (by omega)).mp q; omega)) ?_
        refine A_getsO hS.2.2.2.1 q680 rfl dX3_step_216 ?_
        refine A_goto (tgt := 225) dX3_step_219 (by decide) ?_
        refine A_putf cb_X3 fσ4_0 4 (Nat.le_of_ble_eq_true rfl) q688 rfl rfl rfl rfl (Nat.le_of_ble_eq_true rfl) dX3_step_225 ?_
        obtain ⟨σ5, eσ5⟩ : ∃ τ, τ = h_put σ4 y (.inr (.inl (2, [.int (nI n), .int (nI (diN B n sp)), .int (nI sp), .int v, .ref (S 3), .ref ae, mv, .ref x]))) := ⟨_, rfl⟩
        refine A_st (σ' := σ5) eσ5.symm ?_
        have wσ5 : wfh σ5 := by rw [eσ5]; exact wσ4.put fσ4_0
        have fσ5_0 : σ5.1 y = some (.inr (.inl (2, [.int (nI n), .int (nI (diN B n sp)), .int (nI sp), .int v, .ref (S 3), .ref ae, mv, .ref x]))) := by rw [eσ5]; exact if_pos rfl
        have fσ5_1 : σ5.1 x = some (.inr (.inl (0, [.ref bf, .int bd, .int pe, .int ep, nv, .ref dq, .ref sv, .ref ou]))) := by rw [eσ5]; exact (hp_ne (ne_of (x := .inr (.inl (0, [.ref bf, .int bd, .int pe, .int ep, nv, .ref dq, .ref sv, .ref ou]))) (y := .inr (.inl (2, [.int (nI n), .int (nI (diN B n sp)), .int (nI sp), .int v, .ref (S tk), .ref ae, mv, .ref x]))) fσ4_1 fσ4_0 (fun e8 => by simp at e8))).trans fσ4_1
        have fσ5_2 : σ5.1 bf = some (.inl (.byte, 500, .inl B)) := by rw [eσ5]; exact (hp_ne (ne_of (x := .inl (.byte, 500, .inl B)) (y := .inr (.inl (2, [.int (nI n), .int (nI (diN B n sp)), .int (nI sp), .int v, .ref (S tk), .ref ae, mv, .ref x]))) fσ4_2 fσ4_0 (fun e8 => by simp at e8))).trans fσ4_2
        have zσ5 : kx y σ σ5 := by rw [eσ5]; exact zσ4.put
        refine A_aload_n (i := 0) dX3_step_228 rfl rfl ?_
        refine A_iconst (v := 0) dX3_step_229 (by decide) ?_
        refine A_putf cb_X3 fσ5_0 3 (Nat.le_of_ble_eq_true rfl) q687 rfl rfl rfl rfl (Nat.le_of_ble_eq_true rfl) dX3_step_230 ?_
        obtain ⟨σ6, eσ6⟩ : ∃ τ, τ = h_put σ5 y (.inr (.inl (2, [.int (nI n), .int (nI (diN B n sp)), .int (nI sp), .int 0, .ref (S 3), .ref ae, mv, .ref x]))) := ⟨_, rfl⟩
        refine A_st (σ' := σ6) eσ6.symm ?_
        have wσ6 : wfh σ6 := by rw [eσ6]; exact wσ5.put fσ5_0
        have fσ6_0 : σ6.1 y = some (.inr (.inl (2, [.int (nI n), .int (nI (diN B n sp)), .int (nI sp), .int 0, .ref (S 3), .ref ae, mv, .ref x]))) := by rw [eσ6]; exact if_pos rfl
        have fσ6_1 : σ6.1 x = some (.inr (.inl (0, [.ref bf, .int bd, .int pe, .int ep, nv, .ref dq, .ref sv, .ref ou]))) := by rw [eσ6]; exact (hp_ne (ne_of (x := .inr (.inl (0, [.ref bf, .int bd, .int pe, .int ep, nv, .ref dq, .ref sv, .ref ou]))) (y := .inr (.inl (2, [.int (nI n), .int (nI (diN B n sp)), .int (nI sp), .int v, .ref (S 3), .ref ae, mv, .ref x]))) fσ5_1 fσ5_0 (fun e8 => by simp at e8))).trans fσ5_1
        have fσ6_2 : σ6.1 bf = some (.inl (.byte, 500, .inl B)) := by rw [eσ6]; exact (hp_ne (ne_of (x := .inl (.byte, 500, .inl B)) (y := .inr (.inl (2, [.int (nI n), .int (nI (diN B n sp)), .int (nI sp), .int v, .ref (S 3), .ref ae, mv, .ref x]))) fσ5_2 fσ5_0 (fun e8 => by simp at e8))).trans fσ5_2
        have zσ6 : kx y σ σ6 := by rw [eσ6]; exact zσ5.put
        skip
        refine A_aload_n (i := 0) dX3_step_233 rfl rfl ?_
        refine A_getf cb_X3 fσ6_0 2 (Nat.le_of_ble_eq_true rfl) q686 rfl (v := .int (nI sp)) rfl dX3_step_234 ?_
        refine A_istore_n (i := 2) dX3_step_237 rfl (Nat.le_of_ble_eq_true rfl) ?_
        refine A_less (b' := ((diN B n sp - sp) - 0) * 0 + 0) (by omega) ?_
        refine A_sub (L' := [(0, .ref y), (1, .int (atV B n sp)), (2, .int (nI (sp + 0)))]) ⟨rfl, rfl, rfl, trivial⟩ ?_
        refine A_forP (α := AH) (diN B n sp - sp) (fun i238 _ => ((diN B n sp - sp) - i238) * 0 + 0) (fun i238 _ => [(0, .ref y), (1, .int (atV B n sp)), (2, .int (nI (sp + i238)))]) (fun _ τ238 => τ238) (fun i238 τ238 => τ238.1 y = some (.inr (.inl (2, [.int (nI n), .int (nI (diN B n sp)), .int (nI sp), .int (tv B sp i238), .ref (S 3), .ref ae, mv, .ref x]))) ∧ kx y σ6 τ238) σ6 (⟨fσ6_0, kx.rf⟩) (fun i238 τ238 hi238 hI238 ih238 => ?_) (fun τ238 hI238 => ?_)
        · skip
          obtain ⟨fyτ238, kτ238⟩ := hI238
          refine A_wfh (fun wτ238 hgτ238 => ?_)
          have fxτ238 : τ238.1 x = some (.inr (.inl (0, [.ref bf, .int bd, .int pe, .int ep, nv, .ref dq, .ref sv, .ref ou]))) := kτ238.at wσ6 fσ6_1 (ne_of fσ6_1 fσ6_0 (fun q => by simp at q))
          have fbfτ238 : τ238.1 bf = some (.inl (.byte, 500, .inl B)) := kτ238.at wσ6 fσ6_2 (ne_of fσ6_2 fσ6_0 (fun q => by simp at q))
          have zτ238 : kx y σ τ238 := zσ6.trx kτ238
          refine A_iload_n (i := 2) dX3_step_238 rfl rfl ?_
          refine A_aload_n (i := 0) dX3_step_239 rfl rfl ?_
          refine A_getf cb_X3 fyτ238 1 (Nat.le_of_ble_eq_true rfl) q685 rfl (v := .int (nI (diN B n sp))) rfl dX3_step_240 ?_
          refine A_icmp_ge_f (tgt := 282) dX3_step_243 (by decide) ((fun q => by have k := (nI_lei (by omega) (by omega)).mp q; omega)) ?_
          refine A_aload_n (i := 0) dX3_step_246 rfl rfl ?_
          refine A_getf cb_X3 fyτ238 4 (Nat.le_of_ble_eq_true rfl) q688 rfl (v := .ref (S 3)) rfl dX3_step_247 ?_
          refine A_getsO hS.2.2.2.1 q680 rfl dX3_step_250 ?_
          refine A_acmp_ne_f (tgt := 282) (x := (some (S 3))) (y := (some (S 3))) dX3_step_253 (by decide) (rfl) ?_
          refine A_aload_n (i := 0) dX3_step_256 rfl rfl ?_
          refine A_bipush (v := 10) dX3_step_257 (by decide) ?_
          refine A_aload_n (i := 0) dX3_step_259 rfl rfl ?_
          refine A_getf cb_X3 fyτ238 3 (Nat.le_of_ble_eq_true rfl) q687 rfl (v := .int (tv B sp i238)) rfl dX3_step_260 ?_
          refine A_imul dX3_step_263 ?_
          refine A_aload_n (i := 0) dX3_step_264 rfl rfl ?_
          refine A_iload_n (i := 2) dX3_step_265 rfl rfl ?_
          refine A_callV1E (b' := ((diN B n sp - sp) - i238) * 0 + 0 + 0) (v := some (.int (atV B n (sp + i238)))) (τ := τ238) (c_pAt τ238 y x bf n (diN B n sp) sp (tv B sp i238) (S 3) ae mv B (sp + i238) fyτ238 ⟨⟨bd, pe, ep, nv, dq, sv, ou, fxτ238⟩, fbfτ238, hn5, hby⟩ (by omega)) tX3_at q418 fyτ238 rfl rfl dX3_step_266 (by decide) (by omega) (Nat.le_of_ble_eq_true rfl) ?_
          refine A_int (w := (B (sp + i238))) (at_dv hby (diN_in (Nat.le_add_right sp i238) (by omega))) ?_
          refine A_iadd dX3_step_269 ?_
          refine A_bipush (v := 48) dX3_step_270 (by decide) ?_
          refine A_isub dX3_step_272 ?_
          refine A_putf cb_X3 fyτ238 3 (Nat.le_of_ble_eq_true rfl) q687 rfl rfl rfl rfl (Nat.le_of_ble_eq_true rfl) dX3_step_273 ?_
          obtain ⟨σ7, eσ7⟩ : ∃ τ, τ = h_put τ238 y (.inr (.inl (2, [.int (nI n), .int (nI (diN B n sp)), .int (nI sp), .int (((10 * (tv B sp i238)) + (B (sp + i238))) - 48), .ref (S 3), .ref ae, mv, .ref x]))) := ⟨_, rfl⟩
          refine A_st (σ' := σ7) eσ7.symm ?_
          have wσ7 : wfh σ7 := by rw [eσ7]; exact wτ238.put fyτ238
          have fσ7_0 : σ7.1 y = some (.inr (.inl (2, [.int (nI n), .int (nI (diN B n sp)), .int (nI sp), .int (((10 * (tv B sp i238)) + (B (sp + i238))) - 48), .ref (S 3), .ref ae, mv, .ref x]))) := by rw [eσ7]; exact if_pos rfl
          have fσ7_1 : σ7.1 x = some (.inr (.inl (0, [.ref bf, .int bd, .int pe, .int ep, nv, .ref dq, .ref sv, .ref ou]))) := by rw [eσ7]; exact (hp_ne (ne_of (x := .inr (.inl (0, [.ref bf, .int bd, .int pe, .int ep, nv, .ref dq, .ref sv, .ref ou]))) (y := .inr (.inl (2, [.int (nI n), .int (nI (diN B n sp)), .int (nI sp), .int (tv B sp i238), .ref (S 3), .ref ae, mv, .ref x]))) fxτ238 fyτ238 (fun e8 => by simp at e8))).trans fxτ238
          have fσ7_2 : σ7.1 bf = some (.inl (.byte, 500, .inl B)) := by rw [eσ7]; exact (hp_ne (ne_of (x := .inl (.byte, 500, .inl B)) (y := .inr (.inl (2, [.int (nI n), .int (nI (diN B n sp)), .int (nI sp), .int (tv B sp i238), .ref (S 3), .ref ae, mv, .ref x]))) fbfτ238 fyτ238 (fun e8 => by simp at e8))).trans fbfτ238
          have zσ7 : kx y σ σ7 := by rw [eσ7]; exact zτ238.put
          refine A_iinc (v := nI ((sp + i238) + 1)) dX3_step_276 rfl (nI_inc _ _) (Nat.le_of_ble_eq_true rfl) ?_
          refine A_goto (tgt := 238) dX3_step_279 (by decide) ?_
          refine A_less (b' := ((diN B n sp - sp) - (i238 + 1)) * 0 + 0) (by omega) ?_
          refine A_sub (L' := [(0, .ref y), (1, .int (atV B n sp)), (2, .int (nI (sp + (i238 + 1))))]) ⟨rfl, rfl, rfl, trivial⟩ ?_
          exact ih238 σ7 (⟨by rw [tv_s, if_pos (by omega)]; exact fσ7_0, kτ238.trx (by rw [eσ7]; exact kx.rf.put)⟩)
        · skip
          refine A_less (b' := 0) (by omega) ?_
          obtain ⟨fyτ238, kτ238⟩ := hI238
          refine A_wfh (fun wτ238 hgτ238 => ?_)
          have fxτ238 : τ238.1 x = some (.inr (.inl (0, [.ref bf, .int bd, .int pe, .int ep, nv, .ref dq, .ref sv, .ref ou]))) := kτ238.at wσ6 fσ6_1 (ne_of fσ6_1 fσ6_0 (fun q => by simp at q))
          have fbfτ238 : τ238.1 bf = some (.inl (.byte, 500, .inl B)) := kτ238.at wσ6 fσ6_2 (ne_of fσ6_2 fσ6_0 (fun q => by simp at q))
          have zτ238 : kx y σ τ238 := zσ6.trx kτ238
          refine A_iload_n (i := 2) dX3_step_238 rfl rfl ?_
          refine A_aload_n (i := 0) dX3_step_239 rfl rfl ?_
          refine A_getf cb_X3 fyτ238 1 (Nat.le_of_ble_eq_true rfl) q685 rfl (v := .int (nI (diN B n sp))) rfl dX3_step_240 ?_
          refine A_icmp_ge_t (tgt := 282) dX3_step_243 (by decide) (((nI_lei (by omega) (by omega)).mpr (by omega))) ?_
          refine A_goto (tgt := 314) dX3_step_282 (by decide) ?_
          exact A_vret dX3_step_314 rfl (⟨rfl, by rw [tok_d h3 hL hD, if_pos h6]; show PRW g τ238 y x bf S B n mv (N, diN B n sp, sp, 3, tv B sp (diN B n sp - sp), cd, at9); exact ⟨_, _, ⟨fyτ238, ⟨⟨bd, pe, ep, nv, dq, sv, ou, fxτ238⟩, fbfτ238, hn5, hby⟩, (fun _ => rfl), Or.inr (Or.inr (Or.inr (Or.inl rfl))), (by show diN B n sp ≤ n; omega), (by show sp ≤ diN B n sp; omega)⟩, Or.inr ⟨(show ¬ (3 : Int32) = 2 by decide), Or.inl hes⟩⟩, zτ238⟩)
    · skip
      refine A_of rfl (by decide) (Nat.le_of_ble_eq_true rfl) (L0 := [(0, .ref y)]) rfl ?_
      refine A_wfh (fun wσ hgσ => ?_)
      have zσ : kx y σ σ := kx.rf
      refine A_gok (fun hgk => ?_)
      obtain ⟨ae, hae, hes⟩ := litP24 hgk
      refine A_less (b' := ((sp - c) - 0) * 0 + 8) (by omega) ?_
      refine A_sub (L' := [(0, .ref y)]) ⟨rfl, trivial⟩ ?_
      refine A_forP (α := AH) (sp - c) (fun i0 _ => ((sp - c) - i0) * 0 + 8) (fun i0 _ => [(0, .ref y)]) (fun _ τ0 => τ0) (fun i0 τ0 => τ0.1 y = some (.inr (.inl (2, [.int (nI n), .int (nI (c + i0)), .int (nI s), .int v, .ref (S tk), .ref wd, mv, .ref x]))) ∧ kx y σ τ0) σ (⟨hC, kx.rf⟩) (fun i0 τ0 hi0 hI0 ih0 => ?_) (fun τ0 hI0 => ?_)
      · skip
        obtain ⟨fyτ0, kτ0⟩ := hI0
        refine A_wfh (fun wτ0 hgτ0 => ?_)
        have fxτ0 : τ0.1 x = some (.inr (.inl (0, [.ref bf, .int bd, .int pe, .int ep, nv, .ref dq, .ref sv, .ref ou]))) := kτ0.at wσ hX (ne_of hX hC (fun q => by simp at q))
        have fbτ0 : τ0.1 bf = some (.inl (.byte, 500, .inl B)) := kτ0.at wσ hBf (ne_of hBf hC (fun q => by simp at q))
        have zτ0 : kx y σ τ0 := kτ0
        refine A_aload_n (i := 0) dX3_step_0 rfl rfl ?_
        refine A_aload_n (i := 0) dX3_step_1 rfl rfl ?_
        refine A_getf cb_X3 fyτ0 1 (Nat.le_of_ble_eq_true rfl) q685 rfl (v := .int (nI (c + i0))) rfl dX3_step_2 ?_
        refine A_callV1E (b' := ((sp - c) - i0) * 0 + 8 + 0) (v := some (.int (atV B n (c + i0)))) (τ := τ0) (c_pAt τ0 y x bf n (c + i0) s v (S tk) wd mv B (c + i0) fyτ0 ⟨⟨bd, pe, ep, nv, dq, sv, ou, fxτ0⟩, fbτ0, hn5, hby⟩ (by omega)) tX3_at q418 fyτ0 rfl rfl dX3_step_5 (by decide) (by omega) (Nat.le_of_ble_eq_true rfl) ?_
        refine A_bipush (v := 32) dX3_step_8 (by decide) ?_
        refine A_icmp_ne_f (tgt := 26) dX3_step_10 (by decide) ((at_sp hby).mpr (hin _ (Nat.le_add_right _ _) (by omega))) ?_
        refine A_aload_n (i := 0) dX3_step_13 rfl rfl ?_
        refine A_dup dX3_step_14 rfl ?_
        refine A_getf cb_X3 fyτ0 1 (Nat.le_of_ble_eq_true rfl) q685 rfl (v := .int (nI (c + i0))) rfl dX3_step_15 ?_
        refine A_iconst (v := 1) dX3_step_18 (by decide) ?_
        refine A_iadd dX3_step_19 ?_
        refine A_int (w := nI ((c + i0) + 1)) (nI_add (c + i0) 1) ?_
        refine A_putf cb_X3 fyτ0 1 (Nat.le_of_ble_eq_true rfl) q685 rfl rfl rfl rfl (Nat.le_of_ble_eq_true rfl) dX3_step_20 ?_
        obtain ⟨σ1, eσ1⟩ : ∃ τ, τ = h_put τ0 y (.inr (.inl (2, [.int (nI n), .int (nI ((c + i0) + 1)), .int (nI s), .int v, .ref (S tk), .ref wd, mv, .ref x]))) := ⟨_, rfl⟩
        refine A_st (σ' := σ1) eσ1.symm ?_
        have wσ1 : wfh σ1 := by rw [eσ1]; exact wτ0.put fyτ0
        have fσ1_0 : σ1.1 y = some (.inr (.inl (2, [.int (nI n), .int (nI ((c + i0) + 1)), .int (nI s), .int v, .ref (S tk), .ref wd, mv, .ref x]))) := by rw [eσ1]; exact if_pos rfl
        have fσ1_1 : σ1.1 x = some (.inr (.inl (0, [.ref bf, .int bd, .int pe, .int ep, nv, .ref dq, .ref sv, .ref ou]))) := by rw [eσ1]; exact (hp_ne (ne_of (x := .inr (.inl (0, [.ref bf, .int bd, .int pe, .int ep, nv, .ref dq, .ref sv, .ref ou]))) (y := .inr (.inl (2, [.int (nI n), .int (nI (c + i0)), .int (nI s), .int v, .ref (S tk), .ref wd, mv, .ref x]))) fxτ0 fyτ0 (fun e8 => by simp at e8))).trans fxτ0
        have fσ1_2 : σ1.1 bf = some (.inl (.byte, 500, .inl B)) := by rw [eσ1]; exact (hp_ne (ne_of (x := .inl (.byte, 500, .inl B)) (y := .inr (.inl (2, [.int (nI n), .int (nI (c + i0)), .int (nI s), .int v, .ref (S tk), .ref wd, mv, .ref x]))) fbτ0 fyτ0 (fun e8 => by simp at e8))).trans fbτ0
        have zσ1 : kx y σ σ1 := by rw [eσ1]; exact zτ0.put
        refine A_goto (tgt := 0) dX3_step_23 (by decide) ?_
        refine A_less (b' := ((sp - c) - (i0 + 1)) * 0 + 8) (by omega) ?_
        refine A_sub (L' := [(0, .ref y)]) ⟨rfl, trivial⟩ ?_
        exact ih0 σ1 (⟨fσ1_0, zσ1⟩)
      · skip
        refine A_less (b' := 8) (by omega) ?_
        obtain ⟨fyτ0, kτ0⟩ := hI0
        refine A_wfh (fun wτ0 hgτ0 => ?_)
        rw [show c + (sp - c) = sp by omega] at fyτ0
        have fxτ0 : τ0.1 x = some (.inr (.inl (0, [.ref bf, .int bd, .int pe, .int ep, nv, .ref dq, .ref sv, .ref ou]))) := kτ0.at wσ hX (ne_of hX hC (fun q => by simp at q))
        have fbτ0 : τ0.1 bf = some (.inl (.byte, 500, .inl B)) := kτ0.at wσ hBf (ne_of hBf hC (fun q => by simp at q))
        have zτ0 : kx y σ τ0 := kτ0
        refine A_aload_n (i := 0) dX3_step_0 rfl rfl ?_
        refine A_aload_n (i := 0) dX3_step_1 rfl rfl ?_
        refine A_getf cb_X3 fyτ0 1 (Nat.le_of_ble_eq_true rfl) q685 rfl (v := .int (nI sp)) rfl dX3_step_2 ?_
        refine A_callV1E (b' := 8) (v := some (.int (atV B n sp))) (τ := τ0) (c_pAt τ0 y x bf n sp s v (S tk) wd mv B sp fyτ0 ⟨⟨bd, pe, ep, nv, dq, sv, ou, fxτ0⟩, fbτ0, hn5, hby⟩ (by omega)) tX3_at q418 fyτ0 rfl rfl dX3_step_5 (by decide) (Nat.le_of_ble_eq_true rfl) (Nat.le_of_ble_eq_true rfl) ?_
        refine A_bipush (v := 32) dX3_step_8 (by decide) ?_
        refine A_icmp_ne_t (tgt := 26) dX3_step_10 (by decide) ((fun q => hout ((at_sp hby).mp q))) ?_
        refine A_aload_n (i := 0) dX3_step_26 rfl rfl ?_
        refine A_aload_n (i := 0) dX3_step_27 rfl rfl ?_
        refine A_getf cb_X3 fyτ0 1 (Nat.le_of_ble_eq_true rfl) q685 rfl (v := .int (nI sp)) rfl dX3_step_28 ?_
        refine A_putf cb_X3 fyτ0 2 (Nat.le_of_ble_eq_true rfl) q686 rfl rfl rfl rfl (Nat.le_of_ble_eq_true rfl) dX3_step_31 ?_
        obtain ⟨σ2, eσ2⟩ : ∃ τ, τ = h_put τ0 y (.inr (.inl (2, [.int (nI n), .int (nI sp), .int (nI sp), .int v, .ref (S tk), .ref wd, mv, .ref x]))) := ⟨_, rfl⟩
        refine A_st (σ' := σ2) eσ2.symm ?_
        have wσ2 : wfh σ2 := by rw [eσ2]; exact wτ0.put fyτ0
        have fσ2_0 : σ2.1 y = some (.inr (.inl (2, [.int (nI n), .int (nI sp), .int (nI sp), .int v, .ref (S tk), .ref wd, mv, .ref x]))) := by rw [eσ2]; exact if_pos rfl
        have fσ2_1 : σ2.1 x = some (.inr (.inl (0, [.ref bf, .int bd, .int pe, .int ep, nv, .ref dq, .ref sv, .ref ou]))) := by rw [eσ2]; exact (hp_ne (ne_of (x := .inr (.inl (0, [.ref bf, .int bd, .int pe, .int ep, nv, .ref dq, .ref sv, .ref ou]))) (y := .inr (.inl (2, [.int (nI n), .int (nI sp), .int (nI s), .int v, .ref (S tk), .ref wd, mv, .ref x]))) fxτ0 fyτ0 (fun e8 => by simp at e8))).trans fxτ0
        have fσ2_2 : σ2.1 bf = some (.inl (.byte, 500, .inl B)) := by rw [eσ2]; exact (hp_ne (ne_of (x := .inl (.byte, 500, .inl B)) (y := .inr (.inl (2, [.int (nI n), .int (nI sp), .int (nI s), .int v, .ref (S tk), .ref wd, mv, .ref x]))) fbτ0 fyτ0 (fun e8 => by simp at e8))).trans fbτ0
        have zσ2 : kx y σ σ2 := by rw [eσ2]; exact zτ0.put
        refine A_aload_n (i := 0) dX3_step_34 rfl rfl ?_
        refine A_ldcO hae dX3_step_35 ?_
        refine A_putf cb_X3 fσ2_0 5 (Nat.le_of_ble_eq_true rfl) q689 rfl rfl rfl rfl (Nat.le_of_ble_eq_true rfl) dX3_step_37 ?_
        obtain ⟨σ3, eσ3⟩ : ∃ τ, τ = h_put σ2 y (.inr (.inl (2, [.int (nI n), .int (nI sp), .int (nI sp), .int v, .ref (S tk), .ref ae, mv, .ref x]))) := ⟨_, rfl⟩
        refine A_st (σ' := σ3) eσ3.symm ?_
        have wσ3 : wfh σ3 := by rw [eσ3]; exact wσ2.put fσ2_0
        have fσ3_0 : σ3.1 y = some (.inr (.inl (2, [.int (nI n), .int (nI sp), .int (nI sp), .int v, .ref (S tk), .ref ae, mv, .ref x]))) := by rw [eσ3]; exact if_pos rfl
        have fσ3_1 : σ3.1 x = some (.inr (.inl (0, [.ref bf, .int bd, .int pe, .int ep, nv, .ref dq, .ref sv, .ref ou]))) := by rw [eσ3]; exact (hp_ne (ne_of (x := .inr (.inl (0, [.ref bf, .int bd, .int pe, .int ep, nv, .ref dq, .ref sv, .ref ou]))) (y := .inr (.inl (2, [.int (nI n), .int (nI sp), .int (nI sp), .int v, .ref (S tk), .ref wd, mv, .ref x]))) fσ2_1 fσ2_0 (fun e8 => by simp at e8))).trans fσ2_1
        have fσ3_2 : σ3.1 bf = some (.inl (.byte, 500, .inl B)) := by rw [eσ3]; exact (hp_ne (ne_of (x := .inl (.byte, 500, .inl B)) (y := .inr (.inl (2, [.int (nI n), .int (nI sp), .int (nI sp), .int v, .ref (S tk), .ref wd, mv, .ref x]))) fσ2_2 fσ2_0 (fun e8 => by simp at e8))).trans fσ2_2
        have zσ3 : kx y σ σ3 := by rw [eσ3]; exact zσ2.put
        refine A_aload_n (i := 0) dX3_step_40 rfl rfl ?_
        refine A_aload_n (i := 0) dX3_step_41 rfl rfl ?_
        refine A_getf cb_X3 fσ3_0 2 (Nat.le_of_ble_eq_true rfl) q686 rfl (v := .int (nI sp)) rfl dX3_step_42 ?_
        refine A_callV1E (b' := 8) (v := some (.int (atV B n sp))) (τ := σ3) (c_pAt σ3 y x bf n sp sp v (S tk) ae mv B sp fσ3_0 ⟨⟨bd, pe, ep, nv, dq, sv, ou, fσ3_1⟩, fσ3_2, hn5, hby⟩ (by omega)) tX3_at q418 fσ3_0 rfl rfl dX3_step_45 (by decide) (Nat.le_of_ble_eq_true rfl) (Nat.le_of_ble_eq_true rfl) ?_
        refine A_istore_n (i := 1) dX3_step_48 rfl (Nat.le_of_ble_eq_true rfl) ?_
        refine A_iload_n (i := 1) dX3_step_49 rfl rfl ?_
        refine A_iconst (v := (-1)) dX3_step_50 (by decide) ?_
        refine A_icmp_ne_t (tgt := 64) dX3_step_51 (by decide) ((fun q => (at_end hby).mp q (by omega))) ?_
        refine A_iload_n (i := 1) dX3_step_64 rfl rfl ?_
        refine A_i2l dX3_step_65 rfl ?_
        refine A_ldc2 (v := 97) dX3_step_66 q422 ?_
        refine A_ldc2 (v := 122) dX3_step_69 q423 ?_
        refine A_callSN3E (b' := 8) (v := some (.int (bi (inR (atV B n sp) 97 122)))) (τ := σ3) (c_in1 σ3 _ _ _ (atV B n sp) 97 122 rfl (by decide) (by decide)) tX1_in q424 dX3_step_72 (by decide) (Nat.le_of_ble_eq_true rfl) (Nat.le_of_ble_eq_true rfl) ?_
        refine A_if_eq_t (tgt := 176) dX3_step_75 (by decide) (bi_f (fun q => hL ((at_le hby).mp q))) ?_
        refine A_iload_n (i := 1) dX3_step_176 rfl rfl ?_
        refine A_i2l dX3_step_177 rfl ?_
        refine A_ldc2 (v := 48) dX3_step_178 q678 ?_
        refine A_ldc2 (v := 57) dX3_step_181 q679 ?_
        refine A_callSN3E (b' := 8) (v := some (.int (bi (inR (atV B n sp) 48 57)))) (τ := σ3) (c_in1 σ3 _ _ _ (atV B n sp) 48 57 rfl (by decide) (by decide)) tX1_in q424 dX3_step_184 (by decide) (Nat.le_of_ble_eq_true rfl) (Nat.le_of_ble_eq_true rfl) ?_
        refine A_if_eq_f (tgt := 285) dX3_step_187 (by decide) (bi_n ((at_di hby).mpr hD)) ?_
        refine A_aload_n (i := 0) dX3_step_190 rfl rfl ?_
        refine A_aload_n (i := 0) dX3_step_191 rfl rfl ?_
        refine A_bipush (v := 48) dX3_step_192 (by decide) ?_
        refine A_bipush (v := 57) dX3_step_194 (by decide) ?_
        refine A_callV2E (b' := 8) (v := some (.int (nI (diN B n sp)))) (τ := σ3) (c_pRunD σ3 y x bf n sp sp v (S tk) ae mv B fσ3_0 ⟨⟨bd, pe, ep, nv, dq, sv, ou, fσ3_1⟩, fσ3_2, hn5, hby⟩ h2) tX3_run q425 fσ3_0 rfl rfl dX3_step_196 (by decide) (Nat.le_of_ble_eq_true rfl) (Nat.le_of_ble_eq_true rfl) ?_
        refine A_putf cb_X3 fσ3_0 1 (Nat.le_of_ble_eq_true rfl) q685 rfl rfl rfl rfl (Nat.le_of_ble_eq_true rfl) dX3_step_199 ?_
        obtain ⟨σ4, eσ4⟩ : ∃ τ, τ = h_put σ3 y (.inr (.inl (2, [.int (nI n), .int (nI (diN B n sp)), .int (nI sp), .int v, .ref (S tk), .ref ae, mv, .ref x]))) := ⟨_, rfl⟩
        refine A_st (σ' := σ4) eσ4.symm ?_
        have wσ4 : wfh σ4 := by rw [eσ4]; exact wσ3.put fσ3_0
        have fσ4_0 : σ4.1 y = some (.inr (.inl (2, [.int (nI n), .int (nI (diN B n sp)), .int (nI sp), .int v, .ref (S tk), .ref ae, mv, .ref x]))) := by rw [eσ4]; exact if_pos rfl
        have fσ4_1 : σ4.1 x = some (.inr (.inl (0, [.ref bf, .int bd, .int pe, .int ep, nv, .ref dq, .ref sv, .ref ou]))) := by rw [eσ4]; exact (hp_ne (ne_of (x := .inr (.inl (0, [.ref bf, .int bd, .int pe, .int ep, nv, .ref dq, .ref sv, .ref ou]))) (y := .inr (.inl (2, [.int (nI n), .int (nI sp), .int (nI sp), .int v, .ref (S tk), .ref ae, mv, .ref x]))) fσ3_1 fσ3_0 (fun e8 => by simp at e8))).trans fσ3_1
        have fσ4_2 : σ4.1 bf = some (.inl (.byte, 500, .inl B)) := by rw [eσ4]; exact (hp_ne (ne_of (x := .inl (.byte, 500, .inl B)) (y := .inr (.inl (2, [.int (nI n), .int (nI sp), .int (nI sp), .int v, .ref (S tk), .ref ae, mv, .ref x]))) fσ3_2 fσ3_0 (fun e8 => by simp at e8))).trans fσ3_2
        have zσ4 : kx y σ σ4 := by rw [eσ4]; exact zσ3.put
        refine A_aload_n (i := 0) dX3_step_202 rfl rfl ?_
        refine A_aload_n (i := 0) dX3_step_203 rfl rfl ?_
        refine A_getf cb_X3 fσ4_0 1 (Nat.le_of_ble_eq_true rfl) q685 rfl (v := .int (nI (diN B n sp))) rfl dX3_step_204 ?_
        refine A_aload_n (i := 0) dX3_step_207 rfl rfl ?_
        refine A_getf cb_X3 fσ4_0 2 (Nat.le_of_ble_eq_true rfl) q686 rfl (v := .int (nI sp)) rfl dX3_step_208 ?_
        refine A_isub dX3_step_211 ?_
        refine A_int (w := (nI (diN B n sp - sp))) (nI_sub (by omega)) ?_
        refine A_iconst (v := 2) dX3_step_212 (by decide) ?_
        refine A_icmp_gt_t (tgt := 222) dX3_step_213 (by decide) (((nI_lti (by decide : 2 < 2 ^ 31) (by omega)).mpr (by omega))) ?_
        refine A_getsO hS.1 q431 rfl dX3_step_222 ?_
        refine A_putf cb_X3 fσ4_0 4 (Nat.le_of_ble_eq_true rfl) q688 rfl rfl rfl rfl (Nat.le_of_ble_eq_true rfl) dX3_step_225 ?_
        obtain ⟨σ5, eσ5⟩ : ∃ τ, τ = h_put σ4 y (.inr (.inl (2, [.int (nI n), .int (nI (diN B n sp)), .int (nI sp), .int v, .ref (S 0), .ref ae, mv, .ref x]))) := ⟨_, rfl⟩
        refine A_st (σ' := σ5) eσ5.symm ?_
        have wσ5 : wfh σ5 := by rw [eσ5]; exact wσ4.put fσ4_0
        have fσ5_0 : σ5.1 y = some (.inr (.inl (2, [.int (nI n), .int (nI (diN B n sp)), .int (nI sp), .int v, .ref (S 0), .ref ae, mv, .ref x]))) := by rw [eσ5]; exact if_pos rfl
        have fσ5_1 : σ5.1 x = some (.inr (.inl (0, [.ref bf, .int bd, .int pe, .int ep, nv, .ref dq, .ref sv, .ref ou]))) := by rw [eσ5]; exact (hp_ne (ne_of (x := .inr (.inl (0, [.ref bf, .int bd, .int pe, .int ep, nv, .ref dq, .ref sv, .ref ou]))) (y := .inr (.inl (2, [.int (nI n), .int (nI (diN B n sp)), .int (nI sp), .int v, .ref (S tk), .ref ae, mv, .ref x]))) fσ4_1 fσ4_0 (fun e8 => by simp at e8))).trans fσ4_1
        have fσ5_2 : σ5.1 bf = some (.inl (.byte, 500, .inl B)) := by rw [eσ5]; exact (hp_ne (ne_of (x := .inl (.byte, 500, .inl B)) (y := .inr (.inl (2, [.int (nI n), .int (nI (diN B n sp)), .int (nI sp), .int v, .ref (S tk), .ref ae, mv, .ref x]))) fσ4_2 fσ4_0 (fun e8 => by simp at e8))).trans fσ4_2
        have zσ5 : kx y σ σ5 := by rw [eσ5]; exact zσ4.put
        refine A_aload_n (i := 0) dX3_step_228 rfl rfl ?_
        refine A_iconst (v := 0) dX3_step_229 (by decide) ?_
        refine A_putf cb_X3 fσ5_0 3 (Nat.le_of_ble_eq_true rfl) q687 rfl rfl rfl rfl (Nat.le_of_ble_eq_true rfl) dX3_step_230 ?_
        obtain ⟨σ6, eσ6⟩ : ∃ τ, τ = h_put σ5 y (.inr (.inl (2, [.int (nI n), .int (nI (diN B n sp)), .int (nI sp), .int 0, .ref (S 0), .ref ae, mv, .ref x]))) := ⟨_, rfl⟩
        refine A_st (σ' := σ6) eσ6.symm ?_
        have wσ6 : wfh σ6 := by rw [eσ6]; exact wσ5.put fσ5_0
        have fσ6_0 : σ6.1 y = some (.inr (.inl (2, [.int (nI n), .int (nI (diN B n sp)), .int (nI sp), .int 0, .ref (S 0), .ref ae, mv, .ref x]))) := by rw [eσ6]; exact if_pos rfl
        have fσ6_1 : σ6.1 x = some (.inr (.inl (0, [.ref bf, .int bd, .int pe, .int ep, nv, .ref dq, .ref sv, .ref ou]))) := by rw [eσ6]; exact (hp_ne (ne_of (x := .inr (.inl (0, [.ref bf, .int bd, .int pe, .int ep, nv, .ref dq, .ref sv, .ref ou]))) (y := .inr (.inl (2, [.int (nI n), .int (nI (diN B n sp)), .int (nI sp), .int v, .ref (S 0), .ref ae, mv, .ref x]))) fσ5_1 fσ5_0 (fun e8 => by simp at e8))).trans fσ5_1
        have fσ6_2 : σ6.1 bf = some (.inl (.byte, 500, .inl B)) := by rw [eσ6]; exact (hp_ne (ne_of (x := .inl (.byte, 500, .inl B)) (y := .inr (.inl (2, [.int (nI n), .int (nI (diN B n sp)), .int (nI sp), .int v, .ref (S 0), .ref ae, mv, .ref x]))) fσ5_2 fσ5_0 (fun e8 => by simp at e8))).trans fσ5_2
        have zσ6 : kx y σ σ6 := by rw [eσ6]; exact zσ5.put
        refine A_aload_n (i := 0) dX3_step_233 rfl rfl ?_
        refine A_getf cb_X3 fσ6_0 2 (Nat.le_of_ble_eq_true rfl) q686 rfl (v := .int (nI sp)) rfl dX3_step_234 ?_
        refine A_istore_n (i := 2) dX3_step_237 rfl (Nat.le_of_ble_eq_true rfl) ?_
        refine A_iload_n (i := 2) dX3_step_238 rfl rfl ?_
        refine A_aload_n (i := 0) dX3_step_239 rfl rfl ?_
        refine A_getf cb_X3 fσ6_0 1 (Nat.le_of_ble_eq_true rfl) q685 rfl (v := .int (nI (diN B n sp))) rfl dX3_step_240 ?_
        refine A_icmp_ge_f (tgt := 282) dX3_step_243 (by decide) ((fun q => by have k := (nI_lei (by omega) (by omega)).mp q; omega)) ?_
        refine A_aload_n (i := 0) dX3_step_246 rfl rfl ?_
        refine A_getf cb_X3 fσ6_0 4 (Nat.le_of_ble_eq_true rfl) q688 rfl (v := .ref (S 0)) rfl dX3_step_247 ?_
        refine A_getsO hS.2.2.2.1 q680 rfl dX3_step_250 ?_
        refine A_acmp_ne_t (tgt := 282) (x := (some (S 0))) (y := (some (S 3))) dX3_step_253 (by decide) ((hS.ne (Or.inl rfl) (Or.inr (Or.inr (Or.inr (Or.inl rfl)))) (by decide))) ?_
        refine A_goto (tgt := 314) dX3_step_282 (by decide) ?_
        exact A_vret dX3_step_314 rfl (⟨rfl, by rw [tok_d h3 hL hD, if_neg h6]; show PRW g σ6 y x bf S B n mv (N, diN B n sp, sp, 0, tv B sp (diN B n sp - sp), cd, at9); exact ⟨_, _, ⟨fσ6_0, ⟨⟨bd, pe, ep, nv, dq, sv, ou, fσ6_1⟩, fσ6_2, hn5, hby⟩, (fun q => absurd (show (0 : Int32) = 3 from q) (by decide)), Or.inl rfl, (by show diN B n sp ≤ n; omega), (by show sp ≤ diN B n sp; omega)⟩, Or.inr ⟨(show ¬ (0 : Int32) = 2 by decide), Or.inl hes⟩⟩, zσ6⟩)
  by_cases h59 : B sp = 59
  · skip
    · skip
      refine A_of rfl (by decide) (Nat.le_of_ble_eq_true rfl) (L0 := [(0, .ref y)]) rfl ?_
      refine A_wfh (fun wσ hgσ => ?_)
      have zσ : kx y σ σ := kx.rf
      refine A_gok (fun hgk => ?_)
      obtain ⟨ae, hae, hes⟩ := litP24 hgk
      refine A_less (b' := ((sp - c) - 0) * 0 + 8) (by omega) ?_
      refine A_sub (L' := [(0, .ref y)]) ⟨rfl, trivial⟩ ?_
      refine A_forP (α := AH) (sp - c) (fun i0 _ => ((sp - c) - i0) * 0 + 8) (fun i0 _ => [(0, .ref y)]) (fun _ τ0 => τ0) (fun i0 τ0 => τ0.1 y = some (.inr (.inl (2, [.int (nI n), .int (nI (c + i0)), .int (nI s), .int v, .ref (S tk), .ref wd, mv, .ref x]))) ∧ kx y σ τ0) σ (⟨hC, kx.rf⟩) (fun i0 τ0 hi0 hI0 ih0 => ?_) (fun τ0 hI0 => ?_)
      · skip
        obtain ⟨fyτ0, kτ0⟩ := hI0
        refine A_wfh (fun wτ0 hgτ0 => ?_)
        have fxτ0 : τ0.1 x = some (.inr (.inl (0, [.ref bf, .int bd, .int pe, .int ep, nv, .ref dq, .ref sv, .ref ou]))) := kτ0.at wσ hX (ne_of hX hC (fun q => by simp at q))
        have fbτ0 : τ0.1 bf = some (.inl (.byte, 500, .inl B)) := kτ0.at wσ hBf (ne_of hBf hC (fun q => by simp at q))
        have zτ0 : kx y σ τ0 := kτ0
        refine A_aload_n (i := 0) dX3_step_0 rfl rfl ?_
        refine A_aload_n (i := 0) dX3_step_1 rfl rfl ?_
        refine A_getf cb_X3 fyτ0 1 (Nat.le_of_ble_eq_true rfl) q685 rfl (v := .int (nI (c + i0))) rfl dX3_step_2 ?_
        refine A_callV1E (b' := ((sp - c) - i0) * 0 + 8 + 0) (v := some (.int (atV B n (c + i0)))) (τ := τ0) (c_pAt τ0 y x bf n (c + i0) s v (S tk) wd mv B (c + i0) fyτ0 ⟨⟨bd, pe, ep, nv, dq, sv, ou, fxτ0⟩, fbτ0, hn5, hby⟩ (by omega)) tX3_at q418 fyτ0 rfl rfl dX3_step_5 (by decide) (by omega) (Nat.le_of_ble_eq_true rfl) ?_
        refine A_bipush (v := 32) dX3_step_8 (by decide) ?_
        refine A_icmp_ne_f (tgt := 26) dX3_step_10 (by decide) ((at_sp hby).mpr (hin _ (Nat.le_add_right _ _) (by omega))) ?_
        refine A_aload_n (i := 0) dX3_step_13 rfl rfl ?_
        refine A_dup dX3_step_14 rfl ?_
        refine A_getf cb_X3 fyτ0 1 (Nat.le_of_ble_eq_true rfl) q685 rfl (v := .int (nI (c + i0))) rfl dX3_step_15 ?_
        refine A_iconst (v := 1) dX3_step_18 (by decide) ?_
        refine A_iadd dX3_step_19 ?_
        refine A_int (w := nI ((c + i0) + 1)) (nI_add (c + i0) 1) ?_
        refine A_putf cb_X3 fyτ0 1 (Nat.le_of_ble_eq_true rfl) q685 rfl rfl rfl rfl (Nat.le_of_ble_eq_true rfl) dX3_step_20 ?_
        obtain ⟨σ1, eσ1⟩ : ∃ τ, τ = h_put τ0 y (.inr (.inl (2, [.int (nI n), .int (nI ((c + i0) + 1)), .int (nI s), .int v, .ref (S tk), .ref wd, mv, .ref x]))) := ⟨_, rfl⟩
        refine A_st (σ' := σ1) eσ1.symm ?_
        have wσ1 : wfh σ1 := by rw [eσ1]; exact wτ0.put fyτ0
        have fσ1_0 : σ1.1 y = some (.inr (.inl (2, [.int (nI n), .int (nI ((c + i0) + 1)), .int (nI s), .int v, .ref (S tk), .ref wd, mv, .ref x]))) := by rw [eσ1]; exact if_pos rfl
        have fσ1_1 : σ1.1 x = some (.inr (.inl (0, [.ref bf, .int bd, .int pe, .int ep, nv, .ref dq, .ref sv, .ref ou]))) := by rw [eσ1]; exact (hp_ne (ne_of (x := .inr (.inl (0, [.ref bf, .int bd, .int pe, .int ep, nv, .ref dq, .ref sv, .ref ou]))) (y := .inr (.inl (2, [.int (nI n), .int (nI (c + i0)), .int (nI s), .int v, .ref (S tk), .ref wd, mv, .ref x]))) fxτ0 fyτ0 (fun e8 => by simp at e8))).trans fxτ0
        have fσ1_2 : σ1.1 bf = some (.inl (.byte, 500, .inl B)) := by rw [eσ1]; exact (hp_ne (ne_of (x := .inl (.byte, 500, .inl B)) (y := .inr (.inl (2, [.int (nI n), .int (nI (c + i0)), .int (nI s), .int v, .ref (S tk), .ref wd, mv, .ref x]))) fbτ0 fyτ0 (fun e8 => by simp at e8))).trans fbτ0
        have zσ1 : kx y σ σ1 := by rw [eσ1]; exact zτ0.put
        refine A_goto (tgt := 0) dX3_step_23 (by decide) ?_
        refine A_less (b' := ((sp - c) - (i0 + 1)) * 0 + 8) (by omega) ?_
        refine A_sub (L' := [(0, .ref y)]) ⟨rfl, trivial⟩ ?_
        exact ih0 σ1 (⟨fσ1_0, zσ1⟩)
      · skip
        refine A_less (b' := 8) (by omega) ?_
        obtain ⟨fyτ0, kτ0⟩ := hI0
        refine A_wfh (fun wτ0 hgτ0 => ?_)
        rw [show c + (sp - c) = sp by omega] at fyτ0
        have fxτ0 : τ0.1 x = some (.inr (.inl (0, [.ref bf, .int bd, .int pe, .int ep, nv, .ref dq, .ref sv, .ref ou]))) := kτ0.at wσ hX (ne_of hX hC (fun q => by simp at q))
        have fbτ0 : τ0.1 bf = some (.inl (.byte, 500, .inl B)) := kτ0.at wσ hBf (ne_of hBf hC (fun q => by simp at q))
        have zτ0 : kx y σ τ0 := kτ0
        refine A_aload_n (i := 0) dX3_step_0 rfl rfl ?_
        refine A_aload_n (i := 0) dX3_step_1 rfl rfl ?_
        refine A_getf cb_X3 fyτ0 1 (Nat.le_of_ble_eq_true rfl) q685 rfl (v := .int (nI sp)) rfl dX3_step_2 ?_
        refine A_callV1E (b' := 8) (v := some (.int (atV B n sp))) (τ := τ0) (c_pAt τ0 y x bf n sp s v (S tk) wd mv B sp fyτ0 ⟨⟨bd, pe, ep, nv, dq, sv, ou, fxτ0⟩, fbτ0, hn5, hby⟩ (by omega)) tX3_at q418 fyτ0 rfl rfl dX3_step_5 (by decide) (Nat.le_of_ble_eq_true rfl) (Nat.le_of_ble_eq_true rfl) ?_
        refine A_bipush (v := 32) dX3_step_8 (by decide) ?_
        refine A_icmp_ne_t (tgt := 26) dX3_step_10 (by decide) ((fun q => hout ((at_sp hby).mp q))) ?_
        refine A_aload_n (i := 0) dX3_step_26 rfl rfl ?_
        refine A_aload_n (i := 0) dX3_step_27 rfl rfl ?_
        refine A_getf cb_X3 fyτ0 1 (Nat.le_of_ble_eq_true rfl) q685 rfl (v := .int (nI sp)) rfl dX3_step_28 ?_
        refine A_putf cb_X3 fyτ0 2 (Nat.le_of_ble_eq_true rfl) q686 rfl rfl rfl rfl (Nat.le_of_ble_eq_true rfl) dX3_step_31 ?_
        obtain ⟨σ2, eσ2⟩ : ∃ τ, τ = h_put τ0 y (.inr (.inl (2, [.int (nI n), .int (nI sp), .int (nI sp), .int v, .ref (S tk), .ref wd, mv, .ref x]))) := ⟨_, rfl⟩
        refine A_st (σ' := σ2) eσ2.symm ?_
        have wσ2 : wfh σ2 := by rw [eσ2]; exact wτ0.put fyτ0
        have fσ2_0 : σ2.1 y = some (.inr (.inl (2, [.int (nI n), .int (nI sp), .int (nI sp), .int v, .ref (S tk), .ref wd, mv, .ref x]))) := by rw [eσ2]; exact if_pos rfl
        have fσ2_1 : σ2.1 x = some (.inr (.inl (0, [.ref bf, .int bd, .int pe, .int ep, nv, .ref dq, .ref sv, .ref ou]))) := by rw [eσ2]; exact (hp_ne (ne_of (x := .inr (.inl (0, [.ref bf, .int bd, .int pe, .int ep, nv, .ref dq, .ref sv, .ref ou]))) (y := .inr (.inl (2, [.int (nI n), .int (nI sp), .int (nI s), .int v, .ref (S tk), .ref wd, mv, .ref x]))) fxτ0 fyτ0 (fun e8 => by simp at e8))).trans fxτ0
        have fσ2_2 : σ2.1 bf = some (.inl (.byte, 500, .inl B)) := by rw [eσ2]; exact (hp_ne (ne_of (x := .inl (.byte, 500, .inl B)) (y := .inr (.inl (2, [.int (nI n), .int (nI sp), .int (nI s), .int v, .ref (S tk), .ref wd, mv, .ref x]))) fbτ0 fyτ0 (fun e8 => by simp at e8))).trans fbτ0
        have zσ2 : kx y σ σ2 := by rw [eσ2]; exact zτ0.put
        refine A_aload_n (i := 0) dX3_step_34 rfl rfl ?_
        refine A_ldcO hae dX3_step_35 ?_
        refine A_putf cb_X3 fσ2_0 5 (Nat.le_of_ble_eq_true rfl) q689 rfl rfl rfl rfl (Nat.le_of_ble_eq_true rfl) dX3_step_37 ?_
        obtain ⟨σ3, eσ3⟩ : ∃ τ, τ = h_put σ2 y (.inr (.inl (2, [.int (nI n), .int (nI sp), .int (nI sp), .int v, .ref (S tk), .ref ae, mv, .ref x]))) := ⟨_, rfl⟩
        refine A_st (σ' := σ3) eσ3.symm ?_
        have wσ3 : wfh σ3 := by rw [eσ3]; exact wσ2.put fσ2_0
        have fσ3_0 : σ3.1 y = some (.inr (.inl (2, [.int (nI n), .int (nI sp), .int (nI sp), .int v, .ref (S tk), .ref ae, mv, .ref x]))) := by rw [eσ3]; exact if_pos rfl
        have fσ3_1 : σ3.1 x = some (.inr (.inl (0, [.ref bf, .int bd, .int pe, .int ep, nv, .ref dq, .ref sv, .ref ou]))) := by rw [eσ3]; exact (hp_ne (ne_of (x := .inr (.inl (0, [.ref bf, .int bd, .int pe, .int ep, nv, .ref dq, .ref sv, .ref ou]))) (y := .inr (.inl (2, [.int (nI n), .int (nI sp), .int (nI sp), .int v, .ref (S tk), .ref wd, mv, .ref x]))) fσ2_1 fσ2_0 (fun e8 => by simp at e8))).trans fσ2_1
        have fσ3_2 : σ3.1 bf = some (.inl (.byte, 500, .inl B)) := by rw [eσ3]; exact (hp_ne (ne_of (x := .inl (.byte, 500, .inl B)) (y := .inr (.inl (2, [.int (nI n), .int (nI sp), .int (nI sp), .int v, .ref (S tk), .ref wd, mv, .ref x]))) fσ2_2 fσ2_0 (fun e8 => by simp at e8))).trans fσ2_2
        have zσ3 : kx y σ σ3 := by rw [eσ3]; exact zσ2.put
        refine A_aload_n (i := 0) dX3_step_40 rfl rfl ?_
        refine A_aload_n (i := 0) dX3_step_41 rfl rfl ?_
        refine A_getf cb_X3 fσ3_0 2 (Nat.le_of_ble_eq_true rfl) q686 rfl (v := .int (nI sp)) rfl dX3_step_42 ?_
        refine A_callV1E (b' := 8) (v := some (.int (atV B n sp))) (τ := σ3) (c_pAt σ3 y x bf n sp sp v (S tk) ae mv B sp fσ3_0 ⟨⟨bd, pe, ep, nv, dq, sv, ou, fσ3_1⟩, fσ3_2, hn5, hby⟩ (by omega)) tX3_at q418 fσ3_0 rfl rfl dX3_step_45 (by decide) (Nat.le_of_ble_eq_true rfl) (Nat.le_of_ble_eq_true rfl) ?_
        refine A_istore_n (i := 1) dX3_step_48 rfl (Nat.le_of_ble_eq_true rfl) ?_
        refine A_iload_n (i := 1) dX3_step_49 rfl rfl ?_
        refine A_iconst (v := (-1)) dX3_step_50 (by decide) ?_
        refine A_icmp_ne_t (tgt := 64) dX3_step_51 (by decide) ((fun q => (at_end hby).mp q (by omega))) ?_
        refine A_iload_n (i := 1) dX3_step_64 rfl rfl ?_
        refine A_i2l dX3_step_65 rfl ?_
        refine A_ldc2 (v := 97) dX3_step_66 q422 ?_
        refine A_ldc2 (v := 122) dX3_step_69 q423 ?_
        refine A_callSN3E (b' := 8) (v := some (.int (bi (inR (atV B n sp) 97 122)))) (τ := σ3) (c_in1 σ3 _ _ _ (atV B n sp) 97 122 rfl (by decide) (by decide)) tX1_in q424 dX3_step_72 (by decide) (Nat.le_of_ble_eq_true rfl) (Nat.le_of_ble_eq_true rfl) ?_
        refine A_if_eq_t (tgt := 176) dX3_step_75 (by decide) (bi_f (fun q => hL ((at_le hby).mp q))) ?_
        refine A_iload_n (i := 1) dX3_step_176 rfl rfl ?_
        refine A_i2l dX3_step_177 rfl ?_
        refine A_ldc2 (v := 48) dX3_step_178 q678 ?_
        refine A_ldc2 (v := 57) dX3_step_181 q679 ?_
        refine A_callSN3E (b' := 8) (v := some (.int (bi (inR (atV B n sp) 48 57)))) (τ := σ3) (c_in1 σ3 _ _ _ (atV B n sp) 48 57 rfl (by decide) (by decide)) tX1_in q424 dX3_step_184 (by decide) (Nat.le_of_ble_eq_true rfl) (Nat.le_of_ble_eq_true rfl) ?_
        refine A_if_eq_t (tgt := 285) dX3_step_187 (by decide) (bi_f (fun q => hD ((at_di hby).mp q))) ?_
        refine A_aload_n (i := 0) dX3_step_285 rfl rfl ?_
        refine A_iload_n (i := 1) dX3_step_286 rfl rfl ?_
        refine A_bipush (v := 59) dX3_step_287 (by decide) ?_
        refine A_icmp_ne_f (tgt := 298) dX3_step_289 (by decide) ((at_se hby (by omega)).mpr h59) ?_
        refine A_getsO hS.2.2.2.2.1 q682 rfl dX3_step_292 ?_
        refine A_goto (tgt := 301) dX3_step_295 (by decide) ?_
        refine A_putf cb_X3 fσ3_0 4 (Nat.le_of_ble_eq_true rfl) q688 rfl rfl rfl rfl (Nat.le_of_ble_eq_true rfl) dX3_step_301 ?_
        obtain ⟨σ4, eσ4⟩ : ∃ τ, τ = h_put σ3 y (.inr (.inl (2, [.int (nI n), .int (nI sp), .int (nI sp), .int v, .ref (S 4), .ref ae, mv, .ref x]))) := ⟨_, rfl⟩
        refine A_st (σ' := σ4) eσ4.symm ?_
        have wσ4 : wfh σ4 := by rw [eσ4]; exact wσ3.put fσ3_0
        have fσ4_0 : σ4.1 y = some (.inr (.inl (2, [.int (nI n), .int (nI sp), .int (nI sp), .int v, .ref (S 4), .ref ae, mv, .ref x]))) := by rw [eσ4]; exact if_pos rfl
        have fσ4_1 : σ4.1 x = some (.inr (.inl (0, [.ref bf, .int bd, .int pe, .int ep, nv, .ref dq, .ref sv, .ref ou]))) := by rw [eσ4]; exact (hp_ne (ne_of (x := .inr (.inl (0, [.ref bf, .int bd, .int pe, .int ep, nv, .ref dq, .ref sv, .ref ou]))) (y := .inr (.inl (2, [.int (nI n), .int (nI sp), .int (nI sp), .int v, .ref (S tk), .ref ae, mv, .ref x]))) fσ3_1 fσ3_0 (fun e8 => by simp at e8))).trans fσ3_1
        have fσ4_2 : σ4.1 bf = some (.inl (.byte, 500, .inl B)) := by rw [eσ4]; exact (hp_ne (ne_of (x := .inl (.byte, 500, .inl B)) (y := .inr (.inl (2, [.int (nI n), .int (nI sp), .int (nI sp), .int v, .ref (S tk), .ref ae, mv, .ref x]))) fσ3_2 fσ3_0 (fun e8 => by simp at e8))).trans fσ3_2
        have zσ4 : kx y σ σ4 := by rw [eσ4]; exact zσ3.put
        refine A_aload_n (i := 0) dX3_step_304 rfl rfl ?_
        refine A_dup dX3_step_305 rfl ?_
        refine A_getf cb_X3 fσ4_0 1 (Nat.le_of_ble_eq_true rfl) q685 rfl (v := .int (nI sp)) rfl dX3_step_306 ?_
        refine A_iconst (v := 1) dX3_step_309 (by decide) ?_
        refine A_iadd dX3_step_310 ?_
        refine A_int (w := nI (sp + 1)) (nI_add sp 1) ?_
        refine A_putf cb_X3 fσ4_0 1 (Nat.le_of_ble_eq_true rfl) q685 rfl rfl rfl rfl (Nat.le_of_ble_eq_true rfl) dX3_step_311 ?_
        obtain ⟨σ5, eσ5⟩ : ∃ τ, τ = h_put σ4 y (.inr (.inl (2, [.int (nI n), .int (nI (sp + 1)), .int (nI sp), .int v, .ref (S 4), .ref ae, mv, .ref x]))) := ⟨_, rfl⟩
        refine A_st (σ' := σ5) eσ5.symm ?_
        have wσ5 : wfh σ5 := by rw [eσ5]; exact wσ4.put fσ4_0
        have fσ5_0 : σ5.1 y = some (.inr (.inl (2, [.int (nI n), .int (nI (sp + 1)), .int (nI sp), .int v, .ref (S 4), .ref ae, mv, .ref x]))) := by rw [eσ5]; exact if_pos rfl
        have fσ5_1 : σ5.1 x = some (.inr (.inl (0, [.ref bf, .int bd, .int pe, .int ep, nv, .ref dq, .ref sv, .ref ou]))) := by rw [eσ5]; exact (hp_ne (ne_of (x := .inr (.inl (0, [.ref bf, .int bd, .int pe, .int ep, nv, .ref dq, .ref sv, .ref ou]))) (y := .inr (.inl (2, [.int (nI n), .int (nI sp), .int (nI sp), .int v, .ref (S 4), .ref ae, mv, .ref x]))) fσ4_1 fσ4_0 (fun e8 => by simp at e8))).trans fσ4_1
        have fσ5_2 : σ5.1 bf = some (.inl (.byte, 500, .inl B)) := by rw [eσ5]; exact (hp_ne (ne_of (x := .inl (.byte, 500, .inl B)) (y := .inr (.inl (2, [.int (nI n), .int (nI sp), .int (nI sp), .int v, .ref (S 4), .ref ae, mv, .ref x]))) fσ4_2 fσ4_0 (fun e8 => by simp at e8))).trans fσ4_2
        have zσ5 : kx y σ σ5 := by rw [eσ5]; exact zσ4.put
        exact A_vret dX3_step_314 rfl (⟨rfl, by rw [tok_o h3 hL hD, if_pos h59]; show PRW g σ5 y x bf S B n mv (N, sp + 1, sp, 4, to, cd, at9); exact ⟨_, _, ⟨fσ5_0, ⟨⟨bd, pe, ep, nv, dq, sv, ou, fσ5_1⟩, fσ5_2, hn5, hby⟩, (fun q => absurd (show (4 : Int32) = 3 from q) (by decide)), Or.inr (Or.inr (Or.inr (Or.inr rfl))), (by show sp + 1 ≤ n; omega), (by show sp ≤ sp + 1; omega)⟩, Or.inr ⟨(show ¬ (4 : Int32) = 2 by decide), Or.inl hes⟩⟩, zσ5⟩)
  · skip
    · skip
      refine A_of rfl (by decide) (Nat.le_of_ble_eq_true rfl) (L0 := [(0, .ref y)]) rfl ?_
      refine A_wfh (fun wσ hgσ => ?_)
      have zσ : kx y σ σ := kx.rf
      refine A_gok (fun hgk => ?_)
      obtain ⟨ae, hae, hes⟩ := litP24 hgk
      refine A_less (b' := ((sp - c) - 0) * 0 + 8) (by omega) ?_
      refine A_sub (L' := [(0, .ref y)]) ⟨rfl, trivial⟩ ?_
      refine A_forP (α := AH) (sp - c) (fun i0 _ => ((sp - c) - i0) * 0 + 8) (fun i0 _ => [(0, .ref y)]) (fun _ τ0 => τ0) (fun i0 τ0 => τ0.1 y = some (.inr (.inl (2, [.int (nI n), .int (nI (c + i0)), .int (nI s), .int v, .ref (S tk), .ref wd, mv, .ref x]))) ∧ kx y σ τ0) σ (⟨hC, kx.rf⟩) (fun i0 τ0 hi0 hI0 ih0 => ?_) (fun τ0 hI0 => ?_)
      · skip
        obtain ⟨fyτ0, kτ0⟩ := hI0
        refine A_wfh (fun wτ0 hgτ0 => ?_)
        have fxτ0 : τ0.1 x = some (.inr (.inl (0, [.ref bf, .int bd, .int pe, .int ep, nv, .ref dq, .ref sv, .ref ou]))) := kτ0.at wσ hX (ne_of hX hC (fun q => by simp at q))
        have fbτ0 : τ0.1 bf = some (.inl (.byte, 500, .inl B)) := kτ0.at wσ hBf (ne_of hBf hC (fun q => by simp at q))
        have zτ0 : kx y σ τ0 := kτ0
        refine A_aload_n (i := 0) dX3_step_0 rfl rfl ?_
        refine A_aload_n (i := 0) dX3_step_1 rfl rfl ?_
        refine A_getf cb_X3 fyτ0 1 (Nat.le_of_ble_eq_true rfl) q685 rfl (v := .int (nI (c + i0))) rfl dX3_step_2 ?_
        refine A_callV1E (b' := ((sp - c) - i0) * 0 + 8 + 0) (v := some (.int (atV B n (c + i0)))) (τ := τ0) (c_pAt τ0 y x bf n (c + i0) s v (S tk) wd mv B (c + i0) fyτ0 ⟨⟨bd, pe, ep, nv, dq, sv, ou, fxτ0⟩, fbτ0, hn5, hby⟩ (by omega)) tX3_at q418 fyτ0 rfl rfl dX3_step_5 (by decide) (by omega) (Nat.le_of_ble_eq_true rfl) ?_
        refine A_bipush (v := 32) dX3_step_8 (by decide) ?_
        refine A_icmp_ne_f (tgt := 26) dX3_step_10 (by decide) ((at_sp hby).mpr (hin _ (Nat.le_add_right _ _) (by omega))) ?_
        refine A_aload_n (i := 0) dX3_step_13 rfl rfl ?_
        refine A_dup dX3_step_14 rfl ?_
        refine A_getf cb_X3 fyτ0 1 (Nat.le_of_ble_eq_true rfl) q685 rfl (v := .int (nI (c + i0))) rfl dX3_step_15 ?_
        refine A_iconst (v := 1) dX3_step_18 (by decide) ?_
        refine A_iadd dX3_step_19 ?_
        refine A_int (w := nI ((c + i0) + 1)) (nI_add (c + i0) 1) ?_
        refine A_putf cb_X3 fyτ0 1 (Nat.le_of_ble_eq_true rfl) q685 rfl rfl rfl rfl (Nat.le_of_ble_eq_true rfl) dX3_step_20 ?_
        obtain ⟨σ1, eσ1⟩ : ∃ τ, τ = h_put τ0 y (.inr (.inl (2, [.int (nI n), .int (nI ((c + i0) + 1)), .int (nI s), .int v, .ref (S tk), .ref wd, mv, .ref x]))) := ⟨_, rfl⟩
        refine A_st (σ' := σ1) eσ1.symm ?_
        have wσ1 : wfh σ1 := by rw [eσ1]; exact wτ0.put fyτ0
        have fσ1_0 : σ1.1 y = some (.inr (.inl (2, [.int (nI n), .int (nI ((c + i0) + 1)), .int (nI s), .int v, .ref (S tk), .ref wd, mv, .ref x]))) := by rw [eσ1]; exact if_pos rfl
        have fσ1_1 : σ1.1 x = some (.inr (.inl (0, [.ref bf, .int bd, .int pe, .int ep, nv, .ref dq, .ref sv, .ref ou]))) := by rw [eσ1]; exact (hp_ne (ne_of (x := .inr (.inl (0, [.ref bf, .int bd, .int pe, .int ep, nv, .ref dq, .ref sv, .ref ou]))) (y := .inr (.inl (2, [.int (nI n), .int (nI (c + i0)), .int (nI s), .int v, .ref (S tk), .ref wd, mv, .ref x]))) fxτ0 fyτ0 (fun e8 => by simp at e8))).trans fxτ0
        have fσ1_2 : σ1.1 bf = some (.inl (.byte, 500, .inl B)) := by rw [eσ1]; exact (hp_ne (ne_of (x := .inl (.byte, 500, .inl B)) (y := .inr (.inl (2, [.int (nI n), .int (nI (c + i0)), .int (nI s), .int v, .ref (S tk), .ref wd, mv, .ref x]))) fbτ0 fyτ0 (fun e8 => by simp at e8))).trans fbτ0
        have zσ1 : kx y σ σ1 := by rw [eσ1]; exact zτ0.put
        refine A_goto (tgt := 0) dX3_step_23 (by decide) ?_
        refine A_less (b' := ((sp - c) - (i0 + 1)) * 0 + 8) (by omega) ?_
        refine A_sub (L' := [(0, .ref y)]) ⟨rfl, trivial⟩ ?_
        exact ih0 σ1 (⟨fσ1_0, zσ1⟩)
      · skip
        refine A_less (b' := 8) (by omega) ?_
        obtain ⟨fyτ0, kτ0⟩ := hI0
        refine A_wfh (fun wτ0 hgτ0 => ?_)
        rw [show c + (sp - c) = sp by omega] at fyτ0
        have fxτ0 : τ0.1 x = some (.inr (.inl (0, [.ref bf, .int bd, .int pe, .int ep, nv, .ref dq, .ref sv, .ref ou]))) := kτ0.at wσ hX (ne_of hX hC (fun q => by simp at q))
        have fbτ0 : τ0.1 bf = some (.inl (.byte, 500, .inl B)) := kτ0.at wσ hBf (ne_of hBf hC (fun q => by simp at q))
        have zτ0 : kx y σ τ0 := kτ0
        refine A_aload_n (i := 0) dX3_step_0 rfl rfl ?_
        refine A_aload_n (i := 0) dX3_step_1 rfl rfl ?_
        refine A_getf cb_X3 fyτ0 1 (Nat.le_of_ble_eq_true rfl) q685 rfl (v := .int (nI sp)) rfl dX3_step_2 ?_
        refine A_callV1E (b' := 8) (v := some (.int (atV B n sp))) (τ := τ0) (c_pAt τ0 y x bf n sp s v (S tk) wd mv B sp fyτ0 ⟨⟨bd, pe, ep, nv, dq, sv, ou, fxτ0⟩, fbτ0, hn5, hby⟩ (by omega)) tX3_at q418 fyτ0 rfl rfl dX3_step_5 (by decide) (Nat.le_of_ble_eq_true rfl) (Nat.le_of_ble_eq_true rfl) ?_
        refine A_bipush (v := 32) dX3_step_8 (by decide) ?_
        refine A_icmp_ne_t (tgt := 26) dX3_step_10 (by decide) ((fun q => hout ((at_sp hby).mp q))) ?_
        refine A_aload_n (i := 0) dX3_step_26 rfl rfl ?_
        refine A_aload_n (i := 0) dX3_step_27 rfl rfl ?_
        refine A_getf cb_X3 fyτ0 1 (Nat.le_of_ble_eq_true rfl) q685 rfl (v := .int (nI sp)) rfl dX3_step_28 ?_
        refine A_putf cb_X3 fyτ0 2 (Nat.le_of_ble_eq_true rfl) q686 rfl rfl rfl rfl (Nat.le_of_ble_eq_true rfl) dX3_step_31 ?_
        obtain ⟨σ2, eσ2⟩ : ∃ τ, τ = h_put τ0 y (.inr (.inl (2, [.int (nI n), .int (nI sp), .int (nI sp), .int v, .ref (S tk), .ref wd, mv, .ref x]))) := ⟨_, rfl⟩
        refine A_st (σ' := σ2) eσ2.symm ?_
        have wσ2 : wfh σ2 := by rw [eσ2]; exact wτ0.put fyτ0
        have fσ2_0 : σ2.1 y = some (.inr (.inl (2, [.int (nI n), .int (nI sp), .int (nI sp), .int v, .ref (S tk), .ref wd, mv, .ref x]))) := by rw [eσ2]; exact if_pos rfl
        have fσ2_1 : σ2.1 x = some (.inr (.inl (0, [.ref bf, .int bd, .int pe, .int ep, nv, .ref dq, .ref sv, .ref ou]))) := by rw [eσ2]; exact (hp_ne (ne_of (x := .inr (.inl (0, [.ref bf, .int bd, .int pe, .int ep, nv, .ref dq, .ref sv, .ref ou]))) (y := .inr (.inl (2, [.int (nI n), .int (nI sp), .int (nI s), .int v, .ref (S tk), .ref wd, mv, .ref x]))) fxτ0 fyτ0 (fun e8 => by simp at e8))).trans fxτ0
        have fσ2_2 : σ2.1 bf = some (.inl (.byte, 500, .inl B)) := by rw [eσ2]; exact (hp_ne (ne_of (x := .inl (.byte, 500, .inl B)) (y := .inr (.inl (2, [.int (nI n), .int (nI sp), .int (nI s), .int v, .ref (S tk), .ref wd, mv, .ref x]))) fbτ0 fyτ0 (fun e8 => by simp at e8))).trans fbτ0
        have zσ2 : kx y σ σ2 := by rw [eσ2]; exact zτ0.put
        refine A_aload_n (i := 0) dX3_step_34 rfl rfl ?_
        refine A_ldcO hae dX3_step_35 ?_
        refine A_putf cb_X3 fσ2_0 5 (Nat.le_of_ble_eq_true rfl) q689 rfl rfl rfl rfl (Nat.le_of_ble_eq_true rfl) dX3_step_37 ?_
        obtain ⟨σ3, eσ3⟩ : ∃ τ, τ = h_put σ2 y (.inr (.inl (2, [.int (nI n), .int (nI sp), .int (nI sp), .int v, .ref (S tk), .ref ae, mv, .ref x]))) := ⟨_, rfl⟩
        refine A_st (σ' := σ3) eσ3.symm ?_
        have wσ3 : wfh σ3 := by rw [eσ3]; exact wσ2.put fσ2_0
        have fσ3_0 : σ3.1 y = some (.inr (.inl (2, [.int (nI n), .int (nI sp), .int (nI sp), .int v, .ref (S tk), .ref ae, mv, .ref x]))) := by rw [eσ3]; exact if_pos rfl
        have fσ3_1 : σ3.1 x = some (.inr (.inl (0, [.ref bf, .int bd, .int pe, .int ep, nv, .ref dq, .ref sv, .ref ou]))) := by rw [eσ3]; exact (hp_ne (ne_of (x := .inr (.inl (0, [.ref bf, .int bd, .int pe, .int ep, nv, .ref dq, .ref sv, .ref ou]))) (y := .inr (.inl (2, [.int (nI n), .int (nI sp), .int (nI sp), .int v, .ref (S tk), .ref wd, mv, .ref x]))) fσ2_1 fσ2_0 (fun e8 => by simp at e8))).trans fσ2_1
        have fσ3_2 : σ3.1 bf = some (.inl (.byte, 500, .inl B)) := by rw [eσ3]; exact (hp_ne (ne_of (x := .inl (.byte, 500, .inl B)) (y := .inr (.inl (2, [.int (nI n), .int (nI sp), .int (nI sp), .int v, .ref (S tk), .ref wd, mv, .ref x]))) fσ2_2 fσ2_0 (fun e8 => by simp at e8))).trans fσ2_2
        have zσ3 : kx y σ σ3 := by rw [eσ3]; exact zσ2.put
        refine A_aload_n (i := 0) dX3_step_40 rfl rfl ?_
        refine A_aload_n (i := 0) dX3_step_41 rfl rfl ?_
        refine A_getf cb_X3 fσ3_0 2 (Nat.le_of_ble_eq_true rfl) q686 rfl (v := .int (nI sp)) rfl dX3_step_42 ?_
        refine A_callV1E (b' := 8) (v := some (.int (atV B n sp))) (τ := σ3) (c_pAt σ3 y x bf n sp sp v (S tk) ae mv B sp fσ3_0 ⟨⟨bd, pe, ep, nv, dq, sv, ou, fσ3_1⟩, fσ3_2, hn5, hby⟩ (by omega)) tX3_at q418 fσ3_0 rfl rfl dX3_step_45 (by decide) (Nat.le_of_ble_eq_true rfl) (Nat.le_of_ble_eq_true rfl) ?_
        refine A_istore_n (i := 1) dX3_step_48 rfl (Nat.le_of_ble_eq_true rfl) ?_
        refine A_iload_n (i := 1) dX3_step_49 rfl rfl ?_
        refine A_iconst (v := (-1)) dX3_step_50 (by decide) ?_
        refine A_icmp_ne_t (tgt := 64) dX3_step_51 (by decide) ((fun q => (at_end hby).mp q (by omega))) ?_
        refine A_iload_n (i := 1) dX3_step_64 rfl rfl ?_
        refine A_i2l dX3_step_65 rfl ?_
        refine A_ldc2 (v := 97) dX3_step_66 q422 ?_
        refine A_ldc2 (v := 122) dX3_step_69 q423 ?_
        refine A_callSN3E (b' := 8) (v := some (.int (bi (inR (atV B n sp) 97 122)))) (τ := σ3) (c_in1 σ3 _ _ _ (atV B n sp) 97 122 rfl (by decide) (by decide)) tX1_in q424 dX3_step_72 (by decide) (Nat.le_of_ble_eq_true rfl) (Nat.le_of_ble_eq_true rfl) ?_
        refine A_if_eq_t (tgt := 176) dX3_step_75 (by decide) (bi_f (fun q => hL ((at_le hby).mp q))) ?_
        refine A_iload_n (i := 1) dX3_step_176 rfl rfl ?_
        refine A_i2l dX3_step_177 rfl ?_
        refine A_ldc2 (v := 48) dX3_step_178 q678 ?_
        refine A_ldc2 (v := 57) dX3_step_181 q679 ?_
        refine A_callSN3E (b' := 8) (v := some (.int (bi (inR (atV B n sp) 48 57)))) (τ := σ3) (c_in1 σ3 _ _ _ (atV B n sp) 48 57 rfl (by decide) (by decide)) tX1_in q424 dX3_step_184 (by decide) (Nat.le_of_ble_eq_true rfl) (Nat.le_of_ble_eq_true rfl) ?_
        refine A_if_eq_t (tgt := 285) dX3_step_187 (by decide) (bi_f (fun q => hD ((at_di hby).mp q))) ?_
        refine A_aload_n (i := 0) dX3_step_285 rfl rfl ?_
        refine A_iload_n (i := 1) dX3_step_286 rfl rfl ?_
        refine A_bipush (v := 59) dX3_step_287 (by decide) ?_
        refine A_icmp_ne_t (tgt := 298) dX3_step_289 (by decide) ((fun q => h59 ((at_se hby (by omega)).mp q))) ?_
        refine A_getsO hS.1 q431 rfl dX3_step_298 ?_
        refine A_putf cb_X3 fσ3_0 4 (Nat.le_of_ble_eq_true rfl) q688 rfl rfl rfl rfl (Nat.le_of_ble_eq_true rfl) dX3_step_301 ?_
        obtain ⟨σ4, eσ4⟩ : ∃ τ, τ = h_put σ3 y (.inr (.inl (2, [.int (nI n), .int (nI sp), .int (nI sp), .int v, .ref (S 0), .ref ae, mv, .ref x]))) := ⟨_, rfl⟩
        refine A_st (σ' := σ4) eσ4.symm ?_
        have wσ4 : wfh σ4 := by rw [eσ4]; exact wσ3.put fσ3_0
        have fσ4_0 : σ4.1 y = some (.inr (.inl (2, [.int (nI n), .int (nI sp), .int (nI sp), .int v, .ref (S 0), .ref ae, mv, .ref x]))) := by rw [eσ4]; exact if_pos rfl
        have fσ4_1 : σ4.1 x = some (.inr (.inl (0, [.ref bf, .int bd, .int pe, .int ep, nv, .ref dq, .ref sv, .ref ou]))) := by rw [eσ4]; exact (hp_ne (ne_of (x := .inr (.inl (0, [.ref bf, .int bd, .int pe, .int ep, nv, .ref dq, .ref sv, .ref ou]))) (y := .inr (.inl (2, [.int (nI n), .int (nI sp), .int (nI sp), .int v, .ref (S tk), .ref ae, mv, .ref x]))) fσ3_1 fσ3_0 (fun e8 => by simp at e8))).trans fσ3_1
        have fσ4_2 : σ4.1 bf = some (.inl (.byte, 500, .inl B)) := by rw [eσ4]; exact (hp_ne (ne_of (x := .inl (.byte, 500, .inl B)) (y := .inr (.inl (2, [.int (nI n), .int (nI sp), .int (nI sp), .int v, .ref (S tk), .ref ae, mv, .ref x]))) fσ3_2 fσ3_0 (fun e8 => by simp at e8))).trans fσ3_2
        have zσ4 : kx y σ σ4 := by rw [eσ4]; exact zσ3.put
        refine A_aload_n (i := 0) dX3_step_304 rfl rfl ?_
        refine A_dup dX3_step_305 rfl ?_
        refine A_getf cb_X3 fσ4_0 1 (Nat.le_of_ble_eq_true rfl) q685 rfl (v := .int (nI sp)) rfl dX3_step_306 ?_
        refine A_iconst (v := 1) dX3_step_309 (by decide) ?_
        refine A_iadd dX3_step_310 ?_
        refine A_int (w := nI (sp + 1)) (nI_add sp 1) ?_
        refine A_putf cb_X3 fσ4_0 1 (Nat.le_of_ble_eq_true rfl) q685 rfl rfl rfl rfl (Nat.le_of_ble_eq_true rfl) dX3_step_311 ?_
        obtain ⟨σ5, eσ5⟩ : ∃ τ, τ = h_put σ4 y (.inr (.inl (2, [.int (nI n), .int (nI (sp + 1)), .int (nI sp), .int v, .ref (S 0), .ref ae, mv, .ref x]))) := ⟨_, rfl⟩
        refine A_st (σ' := σ5) eσ5.symm ?_
        have wσ5 : wfh σ5 := by rw [eσ5]; exact wσ4.put fσ4_0
        have fσ5_0 : σ5.1 y = some (.inr (.inl (2, [.int (nI n), .int (nI (sp + 1)), .int (nI sp), .int v, .ref (S 0), .ref ae, mv, .ref x]))) := by rw [eσ5]; exact if_pos rfl
        have fσ5_1 : σ5.1 x = some (.inr (.inl (0, [.ref bf, .int bd, .int pe, .int ep, nv, .ref dq, .ref sv, .ref ou]))) := by rw [eσ5]; exact (hp_ne (ne_of (x := .inr (.inl (0, [.ref bf, .int bd, .int pe, .int ep, nv, .ref dq, .ref sv, .ref ou]))) (y := .inr (.inl (2, [.int (nI n), .int (nI sp), .int (nI sp), .int v, .ref (S 0), .ref ae, mv, .ref x]))) fσ4_1 fσ4_0 (fun e8 => by simp at e8))).trans fσ4_1
        have fσ5_2 : σ5.1 bf = some (.inl (.byte, 500, .inl B)) := by rw [eσ5]; exact (hp_ne (ne_of (x := .inl (.byte, 500, .inl B)) (y := .inr (.inl (2, [.int (nI n), .int (nI sp), .int (nI sp), .int v, .ref (S 0), .ref ae, mv, .ref x]))) fσ4_2 fσ4_0 (fun e8 => by simp at e8))).trans fσ4_2
        have zσ5 : kx y σ σ5 := by rw [eσ5]; exact zσ4.put
        exact A_vret dX3_step_314 rfl (⟨rfl, by rw [tok_o h3 hL hD, if_neg h59]; show PRW g σ5 y x bf S B n mv (N, sp + 1, sp, 0, to, cd, at9); exact ⟨_, _, ⟨fσ5_0, ⟨⟨bd, pe, ep, nv, dq, sv, ou, fσ5_1⟩, fσ5_2, hn5, hby⟩, (fun q => absurd (show (0 : Int32) = 3 from q) (by decide)), Or.inl rfl, (by show sp + 1 ≤ n; omega), (by show sp ≤ sp + 1; omega)⟩, Or.inr ⟨(show ¬ (0 : Int32) = 2 by decide), Or.inl hes⟩⟩, zσ5⟩)
