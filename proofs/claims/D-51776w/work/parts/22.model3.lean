/-! THE MODEL 3: the line, the iron, pay, counts, questions -/
/-- a count or an index out of an Int32 -/
def ix (x : Int32) : Nat := x.toNatClampNeg
theorem ixn {n : Nat} (h : n < 2000) : ix (nI n) = n := nI_clamp (by omega)
def gd (t v : Int32) : Int32 := if t = 0 then v else 0
theorem mayT_x {x y z : Int32} (h : mayT x y z = 0) : ¬ x = 0 := by
  intro e
  simp [mayT, e] at h
theorem mayT_y {x z : Int32} {p : Prop} [Decidable p] (h : mayT x (bi p) z = 0) : p := by
  unfold mayT at h
  by_cases hp : p
  · exact hp
  · simp [bi_f hp] at h
    split at h
    · exact absurd h (by decide)
    · exact absurd h (by decide)
theorem mayT_z {x y : Int32} {p : Prop} [Decidable p] (h : mayT x y (bi p) = 0) : p := by
  unfold mayT at h
  by_cases hp : p
  · exact hp
  · simp [bi_f hp] at h
    split at h
    · exact absurd h (by decide)
    · split at h <;> exact absurd h (by decide)
theorem mayT_0 {x y z : Int32} : mayT x y z = 0 ↔ (¬ x = 0 ∧ ¬ y = 0 ∧ ¬ z = 0) := by
  unfold mayT
  constructor
  · intro h
    split at h
    · exact absurd h (by decide)
    · split at h
      · exact absurd h (by decide)
      · split at h
        · exact absurd h (by decide)
        · exact ⟨by assumption, by assumption, by assumption⟩
  · intro ⟨a, b, c⟩
    rw [if_neg a, if_neg b, if_neg c]
theorem in_ex {x M : Int32} {n : Nat} (hM : M = nI n) (hn : n ≤ 1000) (h : inR x 0 (M - 1)) : ∃ j, j < n ∧ x = nI j := by
  obtain ⟨h1, h2⟩ := h
  obtain ⟨j, hj, rfl⟩ := nI_of h1
  refine ⟨j, ?_, rfl⟩
  rcases Nat.lt_or_ge j n with q | q
  · exact q
  · exfalso
    apply h2
    subst hM
    rcases n with _ | n
    · rw [Int32.lt_iff_toInt_lt, nI_toInt hj]
      have : (nI 0 - 1).toInt = -1 := by decide
      omega
    · rw [nI_pred]
      exact nI_lt (by omega) hj
theorem in_of {M : Int32} {n j : Nat} (hM : M = nI n) (hn : n ≤ 1000) (h : j < n) : inR (nI j) 0 (M - 1) := by
  subst hM
  refine ⟨nI_pos (by omega), ?_⟩
  rcases n with _ | n
  · omega
  · rw [nI_pred]
    exact nI_nlt (by omega) (by omega)
abbrev okF (is : Int32) (N : AF) (x : Int32) : Prop := ¬ is = 0 ∧ inR x 0 (N 10 - 1)
abbrev okT (is : Int32) (N : AF) (x : Int32) : Prop := ¬ is = 0 ∧ inR x 0 (N 8 - 1)
abbrev okN (is : Int32) (N : AF) (x : Int32) : Prop := ¬ is = 0 ∧ inR x 0 (N 7 - 1)
abbrev okC (is : Int32) (N : AF) (x : Int32) : Prop := ¬ is = 0 ∧ inR x 0 (N 6 - 1)
theorem okF_ex {is : Int32} {N : AF} {x : Int32} (w : WFc N) (h : okF is N x) : ∃ j, j < nF N ∧ x = nI j := in_ex w.2.2.2.2.1 (by have := w.2.2.2.2.2; omega) h.2
theorem okT_ex {is : Int32} {N : AF} {x : Int32} (w : WFc N) (h : okT is N x) : ∃ j, j < nT N ∧ x = nI j := in_ex w.2.2.1.1 (by have := w.2.2.1.2; omega) h.2
theorem okN_ex {is : Int32} {N : AF} {x : Int32} (w : WFc N) (h : okN is N x) : ∃ j, j < nN N ∧ x = nI j := in_ex w.2.1.1 (by have := w.2.1.2; omega) h.2
theorem okC_ex {is : Int32} {N : AF} {x : Int32} (w : WFc N) (h : okC is N x) : ∃ j, j < nC N ∧ x = nI j := in_ex w.1.1 (by have := w.1.2; omega) h.2
theorem dn_e {n i : Nat} (h : i < n) : nI (n - i) - 1 = nI (n - (i + 1)) := by
  rw [show n - i = (n - (i + 1)) + 1 by omega, nI_pred]
theorem inc_m1 (x : Int32) : x + Int32.ofInt (-1) = x - 1 := by
  rw [show Int32.ofInt (-1) = -1 by decide, Int32.sub_eq_add_neg]
/-- where a flag is -/
def PLok (N : AF) (f : Nat) : Prop := (fl N f 8 = 0 ∧ fl N f 9 = -1) ∨ (fl N f 8 = 1 ∧ ∃ t, t < nT N ∧ fl N f 9 = nI t) ∨ (fl N f 8 = 2 ∧ ∃ p, p < nP N ∧ fl N f 9 = nI p) ∨ (fl N f 8 = 3 ∧ fl N f 9 = -1)
def FLok (N : AF) (f : Nat) : Prop := (∃ n, n < nN N ∧ fl N f 0 = nI n) ∧ (∃ c, c < 64 ∧ fl N f 1 = nI c) ∧ (∃ c, c ≤ 3 ∧ fl N f 2 = nI c) ∧ (∃ x, x ≤ 9 ∧ fl N f 3 = nI x) ∧ (∃ x, x ≤ 9 ∧ fl N f 4 = nI x) ∧ (∃ x, x ≤ 9 ∧ fl N f 5 = nI x) ∧ (∃ x, x < 2 ^ nC N ∧ fl N f 6 = nI x) ∧ PLok N f
def WFd (N : AF) : Prop := WFc N ∧ ∀ f, f < nF N → FLok N f
def dry1 (N : AF) (f : Nat) : AF := if fl N f 8 = 2 then setFl N f 4 (mx 0 ((fl N f 4 - 1) - (N 1 / 3))) else N
def dryU (N : AF) : Nat → AF
  | 0 => N
  | n + 1 => dry1 (dryU N n) n
theorem dryU_s (N : AF) (n : Nat) : dryU N (n + 1) = dry1 (dryU N n) n := rfl
def dryN (N : AF) : AF := dryU N (nF N)
theorem hdr_dry1 (N : AF) (f : Nat) : hdr (dry1 N f) N := by
  unfold dry1
  split
  · exact hdr_set _ _ _ _
  · exact hdr.rf
theorem hdr_dryU (N : AF) : ∀ n, hdr (dryU N n) N
  | 0 => hdr.rf
  | n + 1 => (hdr_dry1 _ _).tr (hdr_dryU N n)
theorem hdr_dry (N : AF) : hdr (dryN N) N := hdr_dryU N _
def fallAt (N : AF) (f : Nat) : AF := va_up (setFl (goTo N f 0 (-1)) f 3 (mn 9 (fl (goTo N f 0 (-1)) f 3 + 1))) 5 (setFl (goTo N f 0 (-1)) f 3 (mn 9 (fl (goTo N f 0 (-1)) f 3 + 1)) 5 + 1)
def fallN (N : AF) : AF := if N 1 < 7 then N else if lastN N = -1 then N else fallAt N (ix (lastN N))
/-- the counts are the same -/
def cts (A N : AF) : Prop := ∀ j, 6 ≤ j → j < 11 → A j = N j
theorem cts.rf {N : AF} : cts N N := fun _ _ _ => rfl
theorem cts.tr {A B N : AF} (h : cts A B) (k : cts B N) : cts A N := fun j h1 h2 => (h j h1 h2).trans (k j h1 h2)
theorem hdr.cts {A N : AF} (h : hdr A N) : cts A N := fun j _ h2 => h j (by omega)
theorem cts_up (N : AF) (k : Nat) (v : Int32) (h : k < 6 ∨ 11 ≤ k) : cts (va_up N k v) N := fun j h1 h2 => by
  unfold va_up
  exact if_neg (by omega)
theorem cts.wf {A N : AF} (h : cts A N) (w : WFc N) : WFc A := by
  unfold WFc nC nN nT nP nF at *
  rw [h 6 (by omega) (by omega), h 7 (by omega) (by omega), h 8 (by omega) (by omega), h 9 (by omega) (by omega), h 10 (by omega) (by omega)]
  exact w
theorem cts.nFe {A N : AF} (h : cts A N) : nF A = nF N := by unfold nF; rw [h 10 (by omega) (by omega)]
theorem cts.eqF {A N : AF} (h : cts A N) (w : WFc N) : A 10 = nI (nF N) := by rw [h 10 (by omega) (by omega)]; exact w.2.2.2.2.1
theorem cts_fall (N : AF) : cts (fallN N) N := by
  unfold fallN
  split
  · exact cts.rf
  · split
    · exact cts.rf
    · exact (cts_up _ _ _ (by omega)).tr (((hdr_set _ _ _ _).tr (hdr_goTo _ _ _ _)).cts)
def passN (N : AF) : AF := va_up (fallN (dryN N)) 0 (fallN (dryN N) 0 + 1)
theorem cts_pass (N : AF) : cts (passN N) N := (cts_up _ _ _ (by omega)).tr ((cts_fall _).tr (hdr_dry N).cts)
def whyIronN (N : AF) (f : Nat) (h : Int32) : Int32 := if inBasket N f then (if h ≤ fl N f 2 then (if fl N f 4 ≤ 3 then (if fl N f 6 = 0 then 0 else 4) else 3) else 2) else 1
def iron1 (N : AF) (f : Nat) (h : Int32) : AF := setFl N f 5 (mx 0 (((fl N f 5 - 1) - h) - bi (¬ fl N f 4 ≤ 0)))
def ironN (N : AF) (f : Nat) (h : Int32) : AF := setFl (iron1 N f h) f 4 (mx 0 (fl (iron1 N f h) f 4 - h))
def flagsN (N : AF) (n : Int32) : Int32 := sm (fun f => bi (fl N f 0 = n)) (nF N)
def lateN (N : AF) (n : Nat) (h : Int32) : Int32 := mx 0 (h - na N n 0)
def payN (N : AF) (n : Nat) (h : Int32) : Int32 := flagsN N (nI n) * mx 0 (na N n 1 - (na N n 2 * lateN N n h))
def culpN (N : AF) (n : Int32) : Int32 := fsr (fun f => fl N f 0 = n ∧ ¬ whyN N f = 0) 0 (nF N)
def atN (N : AF) (w : Int32) : Int32 := sm (fun f => bi (fl N f 8 = w)) (nF N)
def readyN (N : AF) : Int32 := sm (fun f => bi (whyN N f = 0)) (nF N)
def countN (N : AF) (x : Int32) : Int32 := if x = 0 then N 6 else if x = 1 then N 7 else if x = 2 then N 8 else if x = 3 then N 9 else if x = 4 then N 10 else if x = 5 then N 0 else if x = 6 then N 1 else if x = 11 then N 2 else if x = 12 then N 3 else if x = 13 then N 4 else if x = 14 then N 5 else if x = 15 then readyN N else atN N (x - 7)
def withN (N : AF) (c : Int32) (k : Nat) : Int32 := sm (fun f => bi (hasB (fl N f k) c)) (nF N)
def rdyOf (N : AF) (n : Int32) : Int32 := sm (fun f => bi (fl N f 0 = n ∧ whyN N f = 0)) (nF N)
theorem c_lastHung {l : Launch} {g : GC} (b9 : Nat) (ms : MM) (σ0 : AH)  (h1 : WFc (m_now ms)) : AMet l g mX2_lastHung 4 0 [.ref b9] (mc b9 ms σ0) (A_eq (some (.int (lastN (m_now ms)))) (mc b9 ms σ0)) A_no := by
  refine A_of rfl (by decide) (Nat.le_of_ble_eq_true rfl) (L0 := [(0, .ref b9)]) rfl ?_
  have hF := h1.2.2.2.2.2
  have hC := h1.1.2
  have hP := h1.2.2.2.1.2
  refine A_aload_n (i := 0) dX2_lastHung_0 rfl rfl ?_
  refine M_get 1 (v := .ref (b9 + 1)) (Nat.le_of_ble_eq_true rfl) q2230 rfl dX2_lastHung_1 ?_
  refine A_bipush (v := 9) dX2_lastHung_4 (by decide) ?_
  refine M_ald1 (n := 9) (v := m_now ms 9) (rfl) (by decide) (rfl) dX2_lastHung_6 ?_
  refine A_iconst (v := 1) dX2_lastHung_7 (by decide) ?_
  refine A_isub dX2_lastHung_8 ?_
  refine A_int (w := (nI (nP (m_now ms) - 0) - 1)) (by rw [h1.2.2.2.1.1]; rfl) ?_
  refine A_istore_n (i := 1) dX2_lastHung_9 rfl (Nat.le_of_ble_eq_true rfl) ?_
  refine A_sub (L' := [(0, .ref b9), (1, .int (nI (nP (m_now ms) - 0) - 1))]) ⟨rfl, rfl, trivial⟩ ?_
  refine A_for (nP (m_now ms)) (fun i10 => 0) (fun i10 => [(0, .ref b9), (1, .int (nI (nP (m_now ms) - i10) - 1))]) (fun i10 => mc b9 ms σ0) (fun i10 => lastN (m_now ms) = lastF (m_now ms) (nP (m_now ms) - i10)) rfl (fun i10 hi10 hI10 ih10 => ?_) (fun hI10 => ?_)
  · skip
    rw [dn_e hi10]
    refine A_iload_n (i := 1) dX2_lastHung_10 rfl rfl ?_
    refine A_if_lt_f (tgt := 35) dX2_lastHung_11 (by decide) (nI_pos (by omega)) ?_
    refine A_aload_n (i := 0) dX2_lastHung_14 rfl rfl ?_
    refine A_iload_n (i := 1) dX2_lastHung_15 rfl rfl ?_
    refine A_callV1E (v := some (.int (flagOnN (m_now ms) (nI (nP (m_now ms) - (i10 + 1)))))) (τ := mc b9 ms σ0) (c_flagOn b9 ms σ0 (nI (nP (m_now ms) - (i10 + 1))) (by first | assumption | omega)) tX2_flagOn q2523 (mc_0 _ _ _) rfl rfl dX2_lastHung_16 (by decide) (Nat.le_of_eq (Nat.zero_add _)) (Nat.le_of_ble_eq_true rfl) ?_
    refine A_iconst (v := (-1)) dX2_lastHung_19 (by decide) ?_
    refine A_icmp_eq (tgt := 29) dX2_lastHung_20 (by decide) (fun c1 => ?_) (fun c1 => ?_)
    · skip
      refine A_iinc (v := (nI (nP (m_now ms) - (i10 + 1)) - 1)) dX2_lastHung_29 rfl (inc_m1 _) (Nat.le_of_ble_eq_true rfl) ?_
      refine A_goto (tgt := 10) dX2_lastHung_32 (by decide) ?_
      refine A_sub (L' := [(0, .ref b9), (1, .int (nI (nP (m_now ms) - (i10 + 1)) - 1))]) ⟨rfl, rfl, trivial⟩ ?_
      exact ih10 (by rw [hI10, show nP (m_now ms) - i10 = (nP (m_now ms) - (i10 + 1)) + 1 by omega, lastF_s, if_pos c1])
    · skip
      refine A_aload_n (i := 0) dX2_lastHung_23 rfl rfl ?_
      refine A_iload_n (i := 1) dX2_lastHung_24 rfl rfl ?_
      refine A_callV1E (v := some (.int (flagOnN (m_now ms) (nI (nP (m_now ms) - (i10 + 1)))))) (τ := mc b9 ms σ0) (c_flagOn b9 ms σ0 (nI (nP (m_now ms) - (i10 + 1))) (by first | assumption | omega)) tX2_flagOn q2523 (mc_0 _ _ _) rfl rfl dX2_lastHung_25 (by decide) (Nat.le_of_eq (Nat.zero_add _)) (Nat.le_of_ble_eq_true rfl) ?_
      exact A_iret dX2_lastHung_28 rfl ⟨by rw [hI10, show nP (m_now ms) - i10 = (nP (m_now ms) - (i10 + 1)) + 1 by omega, lastF_s, if_neg c1], rfl⟩
  · skip
    refine A_iload_n (i := 1) dX2_lastHung_10 rfl rfl ?_
    refine A_if_lt_t (tgt := 35) dX2_lastHung_11 (by decide) (by rw [Nat.sub_self]; decide) ?_
    refine A_iconst (v := (-1)) dX2_lastHung_35 (by decide) ?_
    exact A_iret dX2_lastHung_36 rfl ⟨by rw [hI10, Nat.sub_self] <;> rfl, rfl⟩
theorem c_dries {l : Launch} {g : GC} (b9 : Nat) (ms : MM) (σ0 : AH)  (h1 : WFc (m_now ms)) : AMet l g mX2_dries 3 0 [.ref b9] (mc b9 ms σ0) (A_eq (none) (mc b9 (⟨m_thr ms, m_is ms, m_um ms, m_bd ms, m_pc ms, m_pa ms, m_sz ms, m_cu ms, m_st ms, m_tk ms, m_to ms, m_ps ms, dryN (m_now ms), m_asd ms, m_und ms, m_sav ms, m_isv ms, m_buf ms, m_grp ms, m_pag ms⟩ : MM) σ0)) A_no := by
  refine A_of rfl (by decide) (Nat.le_of_ble_eq_true rfl) (L0 := [(0, .ref b9)]) rfl ?_
  have hF := h1.2.2.2.2.2
  have hC := h1.1.2
  refine A_iconst (v := 0) dX2_dries_0 (by decide) ?_
  refine A_istore_n (i := 1) dX2_dries_1 rfl (Nat.le_of_ble_eq_true rfl) ?_
  refine A_sub (L' := [(0, .ref b9), (1, .int (nI 0))]) ⟨rfl, rfl, trivial⟩ ?_
  refine A_for (nF (m_now ms)) (fun i2 => 0) (fun i2 => [(0, .ref b9), (1, .int (nI i2))]) (fun i2 => mc b9 (⟨m_thr ms, m_is ms, m_um ms, m_bd ms, m_pc ms, m_pa ms, m_sz ms, m_cu ms, m_st ms, m_tk ms, m_to ms, m_ps ms, dryU (m_now ms) i2, m_asd ms, m_und ms, m_sav ms, m_isv ms, m_buf ms, m_grp ms, m_pag ms⟩ : MM) σ0) (fun i2 => True) trivial (fun i2 hi2 hI2 ih2 => ?_) (fun hI2 => ?_)
  · skip
    refine A_iload_n (i := 1) dX2_dries_2 rfl rfl ?_
    refine A_aload_n (i := 0) dX2_dries_3 rfl rfl ?_
    refine M_get 1 (v := .ref (b9 + 1)) (Nat.le_of_ble_eq_true rfl) q2230 rfl dX2_dries_4 ?_
    refine A_bipush (v := 10) dX2_dries_7 (by decide) ?_
    refine M_ald1 (n := 10) (v := (dryU (m_now ms) i2) 10) (rfl) (by decide) (rfl) dX2_dries_9 ?_
    refine A_icmp_ge_f (tgt := 55) dX2_dries_10 (by decide) (br_lt ((hdr_dryU _ _).eqF h1) hi2 (by omega)) ?_
    refine A_aload_n (i := 0) dX2_dries_13 rfl rfl ?_
    refine A_iload_n (i := 1) dX2_dries_14 rfl rfl ?_
    refine A_callV1E (v := some (.int (fl (dryU (m_now ms) i2) i2 8))) (τ := mc b9 (⟨m_thr ms, m_is ms, m_um ms, m_bd ms, m_pc ms, m_pa ms, m_sz ms, m_cu ms, m_st ms, m_tk ms, m_to ms, m_ps ms, dryU (m_now ms) i2, m_asd ms, m_und ms, m_sav ms, m_isv ms, m_buf ms, m_grp ms, m_pag ms⟩ : MM) σ0) (c_where b9 (⟨m_thr ms, m_is ms, m_um ms, m_bd ms, m_pc ms, m_pa ms, m_sz ms, m_cu ms, m_st ms, m_tk ms, m_to ms, m_ps ms, dryU (m_now ms) i2, m_asd ms, m_und ms, m_sav ms, m_isv ms, m_buf ms, m_grp ms, m_pag ms⟩ : MM) σ0 i2 (by first | assumption | omega)) tX2_where q2440 (mc_0 _ _ _) rfl rfl dX2_dries_15 (by decide) (Nat.le_of_eq (Nat.zero_add _)) (Nat.le_of_ble_eq_true rfl) ?_
    refine A_iconst (v := 2) dX2_dries_18 (by decide) ?_
    refine A_icmp_ne (tgt := 49) dX2_dries_19 (by decide) (fun c1 => ?_) (fun c1 => ?_)
    · skip
      refine A_iinc (v := nI (i2 + 1)) dX2_dries_49 rfl (nI_inc _ _) (Nat.le_of_ble_eq_true rfl) ?_
      refine A_goto (tgt := 2) dX2_dries_52 (by decide) ?_
      refine A_sub (L' := [(0, .ref b9), (1, .int (nI (i2 + 1)))]) ⟨rfl, rfl, trivial⟩ ?_
      rw [show mc b9 (⟨m_thr ms, m_is ms, m_um ms, m_bd ms, m_pc ms, m_pa ms, m_sz ms, m_cu ms, m_st ms, m_tk ms, m_to ms, m_ps ms, dryU (m_now ms) i2, m_asd ms, m_und ms, m_sav ms, m_isv ms, m_buf ms, m_grp ms, m_pag ms⟩ : MM) σ0 = mc b9 (s_now (dryU (m_now ms) (i2 + 1)) ms) σ0 by rw [dryU_s]; unfold dry1; rw [if_neg c1] <;> rfl]
      exact ih2 trivial
    · skip
      refine A_aload_n (i := 0) dX2_dries_22 rfl rfl ?_
      refine A_iload_n (i := 1) dX2_dries_23 rfl rfl ?_
      refine A_iconst (v := 4) dX2_dries_24 (by decide) ?_
      refine A_iconst (v := 0) dX2_dries_25 (by decide) ?_
      refine A_aload_n (i := 0) dX2_dries_26 rfl rfl ?_
      refine A_iload_n (i := 1) dX2_dries_27 rfl rfl ?_
      refine A_iconst (v := 4) dX2_dries_28 (by decide) ?_
      refine A_callV2E (v := some (.int (fl (dryU (m_now ms) i2) i2 4))) (τ := mc b9 (⟨m_thr ms, m_is ms, m_um ms, m_bd ms, m_pc ms, m_pa ms, m_sz ms, m_cu ms, m_st ms, m_tk ms, m_to ms, m_ps ms, dryU (m_now ms) i2, m_asd ms, m_und ms, m_sav ms, m_isv ms, m_buf ms, m_grp ms, m_pag ms⟩ : MM) σ0) (c_ofFlag b9 (⟨m_thr ms, m_is ms, m_um ms, m_bd ms, m_pc ms, m_pa ms, m_sz ms, m_cu ms, m_st ms, m_tk ms, m_to ms, m_ps ms, dryU (m_now ms) i2, m_asd ms, m_und ms, m_sav ms, m_isv ms, m_buf ms, m_grp ms, m_pag ms⟩ : MM) σ0 i2 4 (by first | assumption | omega) (by first | assumption | omega)) tX2_ofFlag q2444 (mc_0 _ _ _) rfl rfl dX2_dries_29 (by decide) (Nat.le_of_eq (Nat.zero_add _)) (Nat.le_of_ble_eq_true rfl) ?_
      refine A_iconst (v := 1) dX2_dries_32 (by decide) ?_
      refine A_isub dX2_dries_33 ?_
      refine A_aload_n (i := 0) dX2_dries_34 rfl rfl ?_
      refine M_get 1 (v := .ref (b9 + 1)) (Nat.le_of_ble_eq_true rfl) q2230 rfl dX2_dries_35 ?_
      refine A_iconst (v := 1) dX2_dries_38 (by decide) ?_
      refine M_ald1 (n := 1) (v := (dryU (m_now ms) i2) 1) (rfl) (by decide) (rfl) dX2_dries_39 ?_
      refine A_iconst (v := 3) dX2_dries_40 (by decide) ?_
      refine A_idiv dX2_dries_41 (by decide) ?_
      refine A_isub dX2_dries_42 ?_
      refine A_mmax q2509 q454 q150 q455 dX2_dries_43 (by decide) (Nat.le_of_ble_eq_true rfl) ?_
      refine A_int (w := (mx 0 (((fl (dryU (m_now ms) i2) i2 4) - 1) - ((dryU (m_now ms) i2) 1 / 3)))) rfl ?_
      refine A_callV3E (v := none) (τ := mc b9 (⟨m_thr ms, m_is ms, m_um ms, m_bd ms, m_pc ms, m_pa ms, m_sz ms, m_cu ms, m_st ms, m_tk ms, m_to ms, m_ps ms, setFl (dryU (m_now ms) i2) i2 4 (mx 0 (((fl (dryU (m_now ms) i2) i2 4) - 1) - ((dryU (m_now ms) i2) 1 / 3))), m_asd ms, m_und ms, m_sav ms, m_isv ms, m_buf ms, m_grp ms, m_pag ms⟩ : MM) σ0) (c_putsFlag b9 (⟨m_thr ms, m_is ms, m_um ms, m_bd ms, m_pc ms, m_pa ms, m_sz ms, m_cu ms, m_st ms, m_tk ms, m_to ms, m_ps ms, dryU (m_now ms) i2, m_asd ms, m_und ms, m_sav ms, m_isv ms, m_buf ms, m_grp ms, m_pag ms⟩ : MM) σ0 i2 4 (mx 0 (((fl (dryU (m_now ms) i2) i2 4) - 1) - ((dryU (m_now ms) i2) 1 / 3))) (by first | assumption | omega) (by first | assumption | omega)) tX2_putsFlag q2415 (mc_0 _ _ _) rfl rfl dX2_dries_46 (by decide) (Nat.le_of_eq (Nat.zero_add _)) (Nat.le_of_ble_eq_true rfl) ?_
      refine A_iinc (v := nI (i2 + 1)) dX2_dries_49 rfl (nI_inc _ _) (Nat.le_of_ble_eq_true rfl) ?_
      refine A_goto (tgt := 2) dX2_dries_52 (by decide) ?_
      refine A_sub (L' := [(0, .ref b9), (1, .int (nI (i2 + 1)))]) ⟨rfl, rfl, trivial⟩ ?_
      rw [show mc b9 (⟨m_thr ms, m_is ms, m_um ms, m_bd ms, m_pc ms, m_pa ms, m_sz ms, m_cu ms, m_st ms, m_tk ms, m_to ms, m_ps ms, setFl (dryU (m_now ms) i2) i2 4 (mx 0 (((fl (dryU (m_now ms) i2) i2 4) - 1) - ((dryU (m_now ms) i2) 1 / 3))), m_asd ms, m_und ms, m_sav ms, m_isv ms, m_buf ms, m_grp ms, m_pag ms⟩ : MM) σ0 = mc b9 (s_now (dryU (m_now ms) (i2 + 1)) ms) σ0 by rw [dryU_s]; unfold dry1; rw [if_pos c1] <;> rfl]
      exact ih2 trivial
  · skip
    refine A_iload_n (i := 1) dX2_dries_2 rfl rfl ?_
    refine A_aload_n (i := 0) dX2_dries_3 rfl rfl ?_
    refine M_get 1 (v := .ref (b9 + 1)) (Nat.le_of_ble_eq_true rfl) q2230 rfl dX2_dries_4 ?_
    refine A_bipush (v := 10) dX2_dries_7 (by decide) ?_
    refine M_ald1 (n := 10) (v := (dryU (m_now ms) (nF (m_now ms))) 10) (rfl) (by decide) (rfl) dX2_dries_9 ?_
    refine A_icmp_ge_t (tgt := 55) dX2_dries_10 (by decide) (br_ge ((hdr_dryU _ _).eqF h1)) ?_
    exact A_vret dX2_dries_55 rfl ⟨rfl, rfl⟩
theorem c_falls {l : Launch} {g : GC} (b9 : Nat) (ms : MM) (σ0 : AH)  (h1 : WFc (m_now ms)) : AMet l g mX2_falls 5 0 [.ref b9] (mc b9 ms σ0) (A_eq (none) (mc b9 (⟨m_thr ms, m_is ms, m_um ms, m_bd ms, m_pc ms, m_pa ms, m_sz ms, m_cu ms, m_st ms, m_tk ms, m_to ms, m_ps ms, fallN (m_now ms), m_asd ms, m_und ms, m_sav ms, m_isv ms, m_buf ms, m_grp ms, m_pag ms⟩ : MM) σ0)) A_no := by
  refine A_of rfl (by decide) (Nat.le_of_ble_eq_true rfl) (L0 := [(0, .ref b9)]) rfl ?_
  have hF := h1.2.2.2.2.2
  have hC := h1.1.2
  refine A_aload_n (i := 0) dX2_falls_0 rfl rfl ?_
  refine M_get 1 (v := .ref (b9 + 1)) (Nat.le_of_ble_eq_true rfl) q2230 rfl dX2_falls_1 ?_
  refine A_iconst (v := 1) dX2_falls_4 (by decide) ?_
  refine M_ald1 (n := 1) (v := m_now ms 1) (rfl) (by decide) (rfl) dX2_falls_5 ?_
  refine A_bipush (v := 7) dX2_falls_6 (by decide) ?_
  refine A_icmp_lt (tgt := 18) dX2_falls_8 (by decide) (fun c1 => ?_) (fun c1 => ?_)
  · skip
    refine A_iconst (v := (-1)) dX2_falls_18 (by decide) ?_
    refine A_istore_n (i := 1) dX2_falls_19 rfl (Nat.le_of_ble_eq_true rfl) ?_
    refine A_iload_n (i := 1) dX2_falls_20 rfl rfl ?_
    refine A_iconst (v := (-1)) dX2_falls_21 (by decide) ?_
    refine A_icmp_ne_f (tgt := 26) dX2_falls_22 (by decide) (by decide) ?_
    exact A_vret dX2_falls_25 rfl ⟨rfl, by unfold fallN; simp [-Int32.not_lt, c1]; try rfl⟩
  · skip
    refine A_aload_n (i := 0) dX2_falls_11 rfl rfl ?_
    refine A_callV0E (v := some (.int (lastN (m_now ms)))) (τ := mc b9 ms σ0) (c_lastHung b9 ms σ0  (by first | assumption | omega)) tX2_lastHung q2553 (mc_0 _ _ _) rfl rfl dX2_falls_12 (by decide) (Nat.le_of_eq (Nat.zero_add _)) (Nat.le_of_ble_eq_true rfl) ?_
    refine A_goto (tgt := 19) dX2_falls_15 (by decide) ?_
    refine A_istore_n (i := 1) dX2_falls_19 rfl (Nat.le_of_ble_eq_true rfl) ?_
    refine A_iload_n (i := 1) dX2_falls_20 rfl rfl ?_
    refine A_iconst (v := (-1)) dX2_falls_21 (by decide) ?_
    refine A_icmp_ne (tgt := 26) dX2_falls_22 (by decide) (fun c2 => ?_) (fun c2 => ?_)
    · skip
      obtain ⟨j, hj, ej⟩ := (lastF_in (m_now ms) (nP (m_now ms))).resolve_left c2
      rw [show lastN (m_now ms) = nI j from ej]
      refine A_aload_n (i := 0) dX2_falls_26 rfl rfl ?_
      refine A_iload_n (i := 1) dX2_falls_27 rfl rfl ?_
      refine A_iconst (v := 0) dX2_falls_28 (by decide) ?_
      refine A_iconst (v := (-1)) dX2_falls_29 (by decide) ?_
      refine A_callV3E (v := none) (τ := mc b9 (⟨m_thr ms, m_is ms, m_um ms, m_bd ms, m_pc ms, m_pa ms, m_sz ms, m_cu ms, m_st ms, m_tk ms, m_to ms, m_ps ms, goTo (m_now ms) j 0 (-1), m_asd ms, m_und ms, m_sav ms, m_isv ms, m_buf ms, m_grp ms, m_pag ms⟩ : MM) σ0) (c_goesTo b9 ms σ0 j 0 (-1) (by first | assumption | omega)) tX2_goesTo q2419 (mc_0 _ _ _) rfl rfl dX2_falls_30 (by decide) (Nat.le_of_eq (Nat.zero_add _)) (Nat.le_of_ble_eq_true rfl) ?_
      refine A_aload_n (i := 0) dX2_falls_33 rfl rfl ?_
      refine A_iload_n (i := 1) dX2_falls_34 rfl rfl ?_
      refine A_iconst (v := 3) dX2_falls_35 (by decide) ?_
      refine A_bipush (v := 9) dX2_falls_36 (by decide) ?_
      refine A_aload_n (i := 0) dX2_falls_38 rfl rfl ?_
      refine A_iload_n (i := 1) dX2_falls_39 rfl rfl ?_
      refine A_iconst (v := 3) dX2_falls_40 (by decide) ?_
      refine A_callV2E (v := some (.int (fl (goTo (m_now ms) j 0 (-1)) j 3))) (τ := mc b9 (⟨m_thr ms, m_is ms, m_um ms, m_bd ms, m_pc ms, m_pa ms, m_sz ms, m_cu ms, m_st ms, m_tk ms, m_to ms, m_ps ms, goTo (m_now ms) j 0 (-1), m_asd ms, m_und ms, m_sav ms, m_isv ms, m_buf ms, m_grp ms, m_pag ms⟩ : MM) σ0) (c_ofFlag b9 (⟨m_thr ms, m_is ms, m_um ms, m_bd ms, m_pc ms, m_pa ms, m_sz ms, m_cu ms, m_st ms, m_tk ms, m_to ms, m_ps ms, goTo (m_now ms) j 0 (-1), m_asd ms, m_und ms, m_sav ms, m_isv ms, m_buf ms, m_grp ms, m_pag ms⟩ : MM) σ0 j 3 (by first | assumption | omega) (by first | assumption | omega)) tX2_ofFlag q2444 (mc_0 _ _ _) rfl rfl dX2_falls_41 (by decide) (Nat.le_of_eq (Nat.zero_add _)) (Nat.le_of_ble_eq_true rfl) ?_
      refine A_iconst (v := 1) dX2_falls_44 (by decide) ?_
      refine A_iadd dX2_falls_45 ?_
      refine A_mmin q2476 q472 q150 q473 dX2_falls_46 (by decide) (Nat.le_of_ble_eq_true rfl) ?_
      refine A_int (w := (mn 9 ((fl (goTo (m_now ms) j 0 (-1)) j 3) + 1))) rfl ?_
      refine A_callV3E (v := none) (τ := mc b9 (⟨m_thr ms, m_is ms, m_um ms, m_bd ms, m_pc ms, m_pa ms, m_sz ms, m_cu ms, m_st ms, m_tk ms, m_to ms, m_ps ms, setFl (goTo (m_now ms) j 0 (-1)) j 3 (mn 9 ((fl (goTo (m_now ms) j 0 (-1)) j 3) + 1)), m_asd ms, m_und ms, m_sav ms, m_isv ms, m_buf ms, m_grp ms, m_pag ms⟩ : MM) σ0) (c_putsFlag b9 (⟨m_thr ms, m_is ms, m_um ms, m_bd ms, m_pc ms, m_pa ms, m_sz ms, m_cu ms, m_st ms, m_tk ms, m_to ms, m_ps ms, goTo (m_now ms) j 0 (-1), m_asd ms, m_und ms, m_sav ms, m_isv ms, m_buf ms, m_grp ms, m_pag ms⟩ : MM) σ0 j 3 (mn 9 ((fl (goTo (m_now ms) j 0 (-1)) j 3) + 1)) (by first | assumption | omega) (by first | assumption | omega)) tX2_putsFlag q2415 (mc_0 _ _ _) rfl rfl dX2_falls_49 (by decide) (Nat.le_of_eq (Nat.zero_add _)) (Nat.le_of_ble_eq_true rfl) ?_
      refine A_aload_n (i := 0) dX2_falls_52 rfl rfl ?_
      refine M_get 1 (v := .ref (b9 + 1)) (Nat.le_of_ble_eq_true rfl) q2230 rfl dX2_falls_53 ?_
      refine A_iconst (v := 5) dX2_falls_56 (by decide) ?_
      refine A_dup2 dX2_falls_57 rfl rfl ?_
      refine M_ald1 (n := 5) (v := (setFl (goTo (m_now ms) j 0 (-1)) j 3 (mn 9 ((fl (goTo (m_now ms) j 0 (-1)) j 3) + 1))) 5) (rfl) (by decide) (rfl) dX2_falls_58 ?_
      refine A_iconst (v := 1) dX2_falls_59 (by decide) ?_
      refine A_iadd dX2_falls_60 ?_
      refine M_ast1 (n := 5) (na := va_up (setFl (goTo (m_now ms) j 0 (-1)) j 3 (mn 9 ((fl (goTo (m_now ms) j 0 (-1)) j 3) + 1))) 5 ((setFl (goTo (m_now ms) j 0 (-1)) j 3 (mn 9 ((fl (goTo (m_now ms) j 0 (-1)) j 3) + 1))) 5 + 1)) (rfl) (by decide) (rfl) dX2_falls_61 ?_
      exact A_vret dX2_falls_62 rfl ⟨rfl, by rw [show fallN (m_now ms) = fallAt (m_now ms) j by unfold fallN; rw [if_neg c1, if_neg c2, show lastN (m_now ms) = nI j from ej, ixn (by omega)]]; rfl⟩
    · skip
      exact A_vret dX2_falls_25 rfl ⟨rfl, by unfold fallN; simp [-Int32.not_lt, c1, c2]; try rfl⟩
theorem c_passes {l : Launch} {g : GC} (b9 : Nat) (ms : MM) (σ0 : AH)  (h1 : WFc (m_now ms)) : AMet l g mX2_passes 6 0 [.ref b9] (mc b9 ms σ0) (A_eq (none) (mc b9 (⟨m_thr ms, m_is ms, m_um ms, m_bd ms, m_pc ms, m_pa ms, m_sz ms, m_cu ms, m_st ms, m_tk ms, m_to ms, m_ps ms, passN (m_now ms), m_asd ms, m_und ms, m_sav ms, m_isv ms, m_buf ms, m_grp ms, m_pag ms⟩ : MM) σ0)) A_no := by
  refine A_of rfl (by decide) (Nat.le_of_ble_eq_true rfl) (L0 := [(0, .ref b9)]) rfl ?_
  have w2 : WFc (dryN (m_now ms)) := (hdr_dry _).wf h1
  refine A_aload_n (i := 0) dX2_passes_0 rfl rfl ?_
  refine A_callV0E (v := none) (τ := mc b9 (⟨m_thr ms, m_is ms, m_um ms, m_bd ms, m_pc ms, m_pa ms, m_sz ms, m_cu ms, m_st ms, m_tk ms, m_to ms, m_ps ms, dryN (m_now ms), m_asd ms, m_und ms, m_sav ms, m_isv ms, m_buf ms, m_grp ms, m_pag ms⟩ : MM) σ0) (c_dries b9 ms σ0  (by first | assumption | omega)) tX2_dries q2545 (mc_0 _ _ _) rfl rfl dX2_passes_1 (by decide) (Nat.le_of_eq (Nat.zero_add _)) (Nat.le_of_ble_eq_true rfl) ?_
  refine A_aload_n (i := 0) dX2_passes_4 rfl rfl ?_
  refine A_callV0E (v := none) (τ := mc b9 (⟨m_thr ms, m_is ms, m_um ms, m_bd ms, m_pc ms, m_pa ms, m_sz ms, m_cu ms, m_st ms, m_tk ms, m_to ms, m_ps ms, fallN (dryN (m_now ms)), m_asd ms, m_und ms, m_sav ms, m_isv ms, m_buf ms, m_grp ms, m_pag ms⟩ : MM) σ0) (c_falls b9 (⟨m_thr ms, m_is ms, m_um ms, m_bd ms, m_pc ms, m_pa ms, m_sz ms, m_cu ms, m_st ms, m_tk ms, m_to ms, m_ps ms, dryN (m_now ms), m_asd ms, m_und ms, m_sav ms, m_isv ms, m_buf ms, m_grp ms, m_pag ms⟩ : MM) σ0  (by first | assumption | omega)) tX2_falls q2549 (mc_0 _ _ _) rfl rfl dX2_passes_5 (by decide) (Nat.le_of_eq (Nat.zero_add _)) (Nat.le_of_ble_eq_true rfl) ?_
  refine A_aload_n (i := 0) dX2_passes_8 rfl rfl ?_
  refine M_get 1 (v := .ref (b9 + 1)) (Nat.le_of_ble_eq_true rfl) q2230 rfl dX2_passes_9 ?_
  refine A_iconst (v := 0) dX2_passes_12 (by decide) ?_
  refine A_dup2 dX2_passes_13 rfl rfl ?_
  refine M_ald1 (n := 0) (v := (fallN (dryN (m_now ms))) 0) (rfl) (by decide) (rfl) dX2_passes_14 ?_
  refine A_iconst (v := 1) dX2_passes_15 (by decide) ?_
  refine A_iadd dX2_passes_16 ?_
  refine M_ast1 (n := 0) (na := passN (m_now ms)) (rfl) (by decide) (rfl) dX2_passes_17 ?_
  exact A_vret dX2_passes_18 rfl ⟨rfl, rfl⟩
theorem c_whyIron {l : Launch} {g : GC} (b9 : Nat) (ms : MM) (σ0 : AH) (f : Nat) (h : Int32) (h1 : f < 12) : AMet l g mX2_whyIron 4 0 [.ref b9, .int (nI f), .int h] (mc b9 ms σ0) (A_eq (some (.int (whyIronN (m_now ms) f h))) (mc b9 ms σ0)) A_no := by
  refine A_of rfl (by decide) (Nat.le_of_ble_eq_true rfl) (L0 := [(0, .ref b9), (1, .int (nI f)), (2, .int h)]) rfl ?_
  refine A_aload_n (i := 0) dX2_whyIron_0 rfl rfl ?_
  refine A_iload_n (i := 1) dX2_whyIron_1 rfl rfl ?_
  refine A_callV1E (v := some (.int (bi (inBasket (m_now ms) f)))) (τ := mc b9 ms σ0) (c_isInBasket b9 ms σ0 f (by first | assumption | omega)) tX2_isInBasket q2436 (mc_0 _ _ _) rfl rfl dX2_whyIron_2 (by decide) (Nat.le_of_eq (Nat.zero_add _)) (Nat.le_of_ble_eq_true rfl) ?_
  refine A_if_ne (tgt := 10) dX2_whyIron_5 (by decide) (fun c1 => ?_) (fun c1 => ?_)
  · skip
    have c1 := bi_ne0.mp c1
    refine A_iload_n (i := 2) dX2_whyIron_10 rfl rfl ?_
    refine A_aload_n (i := 0) dX2_whyIron_11 rfl rfl ?_
    refine A_iload_n (i := 1) dX2_whyIron_12 rfl rfl ?_
    refine A_iconst (v := 2) dX2_whyIron_13 (by decide) ?_
    refine A_callV2E (v := some (.int (fl (m_now ms) f 2))) (τ := mc b9 ms σ0) (c_ofFlag b9 ms σ0 f 2 (by first | assumption | omega) (by first | assumption | omega)) tX2_ofFlag q2444 (mc_0 _ _ _) rfl rfl dX2_whyIron_14 (by decide) (Nat.le_of_eq (Nat.zero_add _)) (Nat.le_of_ble_eq_true rfl) ?_
    refine A_icmp_le (tgt := 22) dX2_whyIron_17 (by decide) (fun c2 => ?_) (fun c2 => ?_)
    · skip
      refine A_aload_n (i := 0) dX2_whyIron_22 rfl rfl ?_
      refine A_iload_n (i := 1) dX2_whyIron_23 rfl rfl ?_
      refine A_iconst (v := 4) dX2_whyIron_24 (by decide) ?_
      refine A_callV2E (v := some (.int (fl (m_now ms) f 4))) (τ := mc b9 ms σ0) (c_ofFlag b9 ms σ0 f 4 (by first | assumption | omega) (by first | assumption | omega)) tX2_ofFlag q2444 (mc_0 _ _ _) rfl rfl dX2_whyIron_25 (by decide) (Nat.le_of_eq (Nat.zero_add _)) (Nat.le_of_ble_eq_true rfl) ?_
      refine A_iconst (v := 3) dX2_whyIron_28 (by decide) ?_
      refine A_icmp_le (tgt := 34) dX2_whyIron_29 (by decide) (fun c3 => ?_) (fun c3 => ?_)
      · skip
        refine A_aload_n (i := 0) dX2_whyIron_34 rfl rfl ?_
        refine A_iload_n (i := 1) dX2_whyIron_35 rfl rfl ?_
        refine A_bipush (v := 6) dX2_whyIron_36 (by decide) ?_
        refine A_callV2E (v := some (.int (fl (m_now ms) f 6))) (τ := mc b9 ms σ0) (c_ofFlag b9 ms σ0 f 6 (by first | assumption | omega) (by first | assumption | omega)) tX2_ofFlag q2444 (mc_0 _ _ _) rfl rfl dX2_whyIron_38 (by decide) (Nat.le_of_eq (Nat.zero_add _)) (Nat.le_of_ble_eq_true rfl) ?_
        refine A_if_ne (tgt := 48) dX2_whyIron_41 (by decide) (fun c4 => ?_) (fun c4 => ?_)
        · skip
          refine A_iconst (v := 4) dX2_whyIron_48 (by decide) ?_
          exact A_iret dX2_whyIron_49 rfl ⟨by simp [-Int32.not_lt, -Int32.not_le, whyIronN, c1, c2, c3, c4], rfl⟩
        · skip
          refine A_iconst (v := 0) dX2_whyIron_44 (by decide) ?_
          refine A_goto (tgt := 49) dX2_whyIron_45 (by decide) ?_
          exact A_iret dX2_whyIron_49 rfl ⟨by simp [-Int32.not_lt, -Int32.not_le, whyIronN, c1, c2, c3, c4], rfl⟩
      · skip
        refine A_iconst (v := 3) dX2_whyIron_32 (by decide) ?_
        exact A_iret dX2_whyIron_33 rfl ⟨by simp [-Int32.not_lt, -Int32.not_le, whyIronN, c1, c2, c3], rfl⟩
    · skip
      refine A_iconst (v := 2) dX2_whyIron_20 (by decide) ?_
      exact A_iret dX2_whyIron_21 rfl ⟨by simp [-Int32.not_lt, -Int32.not_le, whyIronN, c1, c2], rfl⟩
  · skip
    have c1 := bi_eq0.mp c1
    refine A_iconst (v := 1) dX2_whyIron_8 (by decide) ?_
    exact A_iret dX2_whyIron_9 rfl ⟨by simp [-Int32.not_lt, -Int32.not_le, whyIronN, c1], rfl⟩
theorem c_flagsOf {l : Launch} {g : GC} (b9 : Nat) (ms : MM) (σ0 : AH) (n : Int32) (h1 : WFc (m_now ms)) : AMet l g mX2_flagsOf 2 0 [.ref b9, .int n] (mc b9 ms σ0) (A_eq (some (.int (flagsN (m_now ms) n))) (mc b9 ms σ0)) A_no := by
  refine A_of rfl (by decide) (Nat.le_of_ble_eq_true rfl) (L0 := [(0, .ref b9), (1, .int n)]) rfl ?_
  have hF := h1.2.2.2.2.2
  have hC := h1.1.2
  refine A_iconst (v := 0) dX2_flagsOf_0 (by decide) ?_
  refine A_istore_n (i := 2) dX2_flagsOf_1 rfl (Nat.le_of_ble_eq_true rfl) ?_
  refine A_iconst (v := 0) dX2_flagsOf_2 (by decide) ?_
  refine A_istore_n (i := 3) dX2_flagsOf_3 rfl (Nat.le_of_ble_eq_true rfl) ?_
  refine A_sub (L' := [(0, .ref b9), (1, .int n), (2, .int (sm (fun f => bi (fl (m_now ms) f 0 = n)) 0)), (3, .int (nI 0))]) ⟨rfl, rfl, rfl, rfl, trivial⟩ ?_
  refine A_for (nF (m_now ms)) (fun i4 => 0) (fun i4 => [(0, .ref b9), (1, .int n), (2, .int (sm (fun f => bi (fl (m_now ms) f 0 = n)) i4)), (3, .int (nI i4))]) (fun i4 => mc b9 ms σ0) (fun i4 => True) trivial (fun i4 hi4 hI4 ih4 => ?_) (fun hI4 => ?_)
  · skip
    refine A_iload_n (i := 3) dX2_flagsOf_4 rfl rfl ?_
    refine A_aload_n (i := 0) dX2_flagsOf_5 rfl rfl ?_
    refine M_get 1 (v := .ref (b9 + 1)) (Nat.le_of_ble_eq_true rfl) q2230 rfl dX2_flagsOf_6 ?_
    refine A_bipush (v := 10) dX2_flagsOf_9 (by decide) ?_
    refine M_ald1 (n := 10) (v := m_now ms 10) (rfl) (by decide) (rfl) dX2_flagsOf_11 ?_
    refine A_icmp_ge_f (tgt := 42) dX2_flagsOf_12 (by decide) (br_lt h1.2.2.2.2.1 hi4 (by omega)) ?_
    refine A_iload_n (i := 2) dX2_flagsOf_15 rfl rfl ?_
    refine A_aload_n (i := 0) dX2_flagsOf_16 rfl rfl ?_
    refine A_iload_n (i := 3) dX2_flagsOf_17 rfl rfl ?_
    refine A_iconst (v := 0) dX2_flagsOf_18 (by decide) ?_
    refine A_callV2E (v := some (.int (fl (m_now ms) i4 0))) (τ := mc b9 ms σ0) (c_ofFlag b9 ms σ0 i4 0 (by first | assumption | omega) (by first | assumption | omega)) tX2_ofFlag q2444 (mc_0 _ _ _) rfl rfl dX2_flagsOf_19 (by decide) (Nat.le_of_eq (Nat.zero_add _)) (Nat.le_of_ble_eq_true rfl) ?_
    refine A_iload_n (i := 1) dX2_flagsOf_22 rfl rfl ?_
    refine A_icmp_ne (tgt := 30) dX2_flagsOf_23 (by decide) (fun c1 => ?_) (fun c1 => ?_)
    · skip
      refine A_iconst (v := 0) dX2_flagsOf_30 (by decide) ?_
      refine A_callS1E (v := some (.int (oneI 0))) (τ := mc b9 ms σ0) (c_one b9 ms σ0 0) tX2_one q2456 dX2_flagsOf_31 (by decide) (Nat.le_of_eq (Nat.zero_add _)) (Nat.le_of_ble_eq_true rfl) ?_
      refine A_int (w := 0) (by decide) ?_
      refine A_iadd dX2_flagsOf_34 ?_
      refine A_int (w := sm (fun f => bi (fl (m_now ms) f 0 = n)) (i4 + 1)) (by rw [sm_s] <;> simp [bi, inTub, inBasket, hasB, inR, -Int32.not_lt, -Int32.not_le, c1]) ?_
      refine A_istore_n (i := 2) dX2_flagsOf_35 rfl (Nat.le_of_ble_eq_true rfl) ?_
      refine A_iinc (v := nI (i4 + 1)) dX2_flagsOf_36 rfl (nI_inc _ _) (Nat.le_of_ble_eq_true rfl) ?_
      refine A_goto (tgt := 4) dX2_flagsOf_39 (by decide) ?_
      refine A_sub (L' := [(0, .ref b9), (1, .int n), (2, .int (sm (fun f => bi (fl (m_now ms) f 0 = n)) (i4 + 1))), (3, .int (nI (i4 + 1)))]) ⟨rfl, rfl, rfl, rfl, trivial⟩ ?_
      exact ih4 trivial
    · skip
      refine A_iconst (v := 1) dX2_flagsOf_26 (by decide) ?_
      refine A_goto (tgt := 31) dX2_flagsOf_27 (by decide) ?_
      refine A_callS1E (v := some (.int (oneI 1))) (τ := mc b9 ms σ0) (c_one b9 ms σ0 1) tX2_one q2456 dX2_flagsOf_31 (by decide) (Nat.le_of_eq (Nat.zero_add _)) (Nat.le_of_ble_eq_true rfl) ?_
      refine A_int (w := 1) (by decide) ?_
      refine A_iadd dX2_flagsOf_34 ?_
      refine A_int (w := sm (fun f => bi (fl (m_now ms) f 0 = n)) (i4 + 1)) (by rw [sm_s] <;> simp [bi, inTub, inBasket, hasB, inR, -Int32.not_lt, -Int32.not_le, c1]) ?_
      refine A_istore_n (i := 2) dX2_flagsOf_35 rfl (Nat.le_of_ble_eq_true rfl) ?_
      refine A_iinc (v := nI (i4 + 1)) dX2_flagsOf_36 rfl (nI_inc _ _) (Nat.le_of_ble_eq_true rfl) ?_
      refine A_goto (tgt := 4) dX2_flagsOf_39 (by decide) ?_
      refine A_sub (L' := [(0, .ref b9), (1, .int n), (2, .int (sm (fun f => bi (fl (m_now ms) f 0 = n)) (i4 + 1))), (3, .int (nI (i4 + 1)))]) ⟨rfl, rfl, rfl, rfl, trivial⟩ ?_
      exact ih4 trivial
  · skip
    refine A_iload_n (i := 3) dX2_flagsOf_4 rfl rfl ?_
    refine A_aload_n (i := 0) dX2_flagsOf_5 rfl rfl ?_
    refine M_get 1 (v := .ref (b9 + 1)) (Nat.le_of_ble_eq_true rfl) q2230 rfl dX2_flagsOf_6 ?_
    refine A_bipush (v := 10) dX2_flagsOf_9 (by decide) ?_
    refine M_ald1 (n := 10) (v := m_now ms 10) (rfl) (by decide) (rfl) dX2_flagsOf_11 ?_
    refine A_icmp_ge_t (tgt := 42) dX2_flagsOf_12 (by decide) (br_ge h1.2.2.2.2.1) ?_
    refine A_iload_n (i := 2) dX2_flagsOf_42 rfl rfl ?_
    exact A_iret dX2_flagsOf_43 rfl ⟨rfl, rfl⟩
theorem c_lateAt {l : Launch} {g : GC} (b9 : Nat) (ms : MM) (σ0 : AH) (n : Nat) (h : Int32) (h1 : n < 4) : AMet l g mX2_lateAt 2 0 [.ref b9, .int (nI n), .int h] (mc b9 ms σ0) (A_eq (some (.int (lateN (m_now ms) n h))) (mc b9 ms σ0)) A_no := by
  refine A_of rfl (by decide) (Nat.le_of_ble_eq_true rfl) (L0 := [(0, .ref b9), (1, .int (nI n)), (2, .int h)]) rfl ?_
  refine A_iconst (v := 0) dX2_lateAt_0 (by decide) ?_
  refine A_iload_n (i := 2) dX2_lateAt_1 rfl rfl ?_
  refine A_aload_n (i := 0) dX2_lateAt_2 rfl rfl ?_
  refine A_iload_n (i := 1) dX2_lateAt_3 rfl rfl ?_
  refine A_iconst (v := 0) dX2_lateAt_4 (by decide) ?_
  refine A_callV2E (v := some (.int (na (m_now ms) n 0))) (τ := mc b9 ms σ0) (c_ofNation b9 ms σ0 n 0 (by first | assumption | omega) (by first | assumption | omega)) tX2_ofNation q2613 (mc_0 _ _ _) rfl rfl dX2_lateAt_5 (by decide) (Nat.le_of_eq (Nat.zero_add _)) (Nat.le_of_ble_eq_true rfl) ?_
  refine A_isub dX2_lateAt_8 ?_
  refine A_mmax q2509 q454 q150 q455 dX2_lateAt_9 (by decide) (Nat.le_of_ble_eq_true rfl) ?_
  refine A_int (w := (mx 0 (h - (na (m_now ms) n 0)))) rfl ?_
  exact A_iret dX2_lateAt_12 rfl ⟨rfl, rfl⟩
theorem c_payAt {l : Launch} {g : GC} (b9 : Nat) (ms : MM) (σ0 : AH) (n : Nat) (h : Int32) (h1 : WFc (m_now ms)) (h2 : n < 4) : AMet l g mX2_payAt 3 0 [.ref b9, .int (nI n), .int h] (mc b9 ms σ0) (A_eq (some (.int (payN (m_now ms) n h))) (mc b9 ms σ0)) A_no := by
  refine A_of rfl (by decide) (Nat.le_of_ble_eq_true rfl) (L0 := [(0, .ref b9), (1, .int (nI n)), (2, .int h)]) rfl ?_
  refine A_aload_n (i := 0) dX2_payAt_0 rfl rfl ?_
  refine A_iload_n (i := 1) dX2_payAt_1 rfl rfl ?_
  refine A_callV1E (v := some (.int (flagsN (m_now ms) (nI n)))) (τ := mc b9 ms σ0) (c_flagsOf b9 ms σ0 (nI n) (by first | assumption | omega)) tX2_flagsOf q2605 (mc_0 _ _ _) rfl rfl dX2_payAt_2 (by decide) (Nat.le_of_eq (Nat.zero_add _)) (Nat.le_of_ble_eq_true rfl) ?_
  refine A_iconst (v := 0) dX2_payAt_5 (by decide) ?_
  refine A_aload_n (i := 0) dX2_payAt_6 rfl rfl ?_
  refine A_iload_n (i := 1) dX2_payAt_7 rfl rfl ?_
  refine A_iconst (v := 1) dX2_payAt_8 (by decide) ?_
  refine A_callV2E (v := some (.int (na (m_now ms) n 1))) (τ := mc b9 ms σ0) (c_ofNation b9 ms σ0 n 1 (by first | assumption | omega) (by first | assumption | omega)) tX2_ofNation q2613 (mc_0 _ _ _) rfl rfl dX2_payAt_9 (by decide) (Nat.le_of_eq (Nat.zero_add _)) (Nat.le_of_ble_eq_true rfl) ?_
  refine A_aload_n (i := 0) dX2_payAt_12 rfl rfl ?_
  refine A_iload_n (i := 1) dX2_payAt_13 rfl rfl ?_
  refine A_iconst (v := 2) dX2_payAt_14 (by decide) ?_
  refine A_callV2E (v := some (.int (na (m_now ms) n 2))) (τ := mc b9 ms σ0) (c_ofNation b9 ms σ0 n 2 (by first | assumption | omega) (by first | assumption | omega)) tX2_ofNation q2613 (mc_0 _ _ _) rfl rfl dX2_payAt_15 (by decide) (Nat.le_of_eq (Nat.zero_add _)) (Nat.le_of_ble_eq_true rfl) ?_
  refine A_aload_n (i := 0) dX2_payAt_18 rfl rfl ?_
  refine A_iload_n (i := 1) dX2_payAt_19 rfl rfl ?_
  refine A_iload_n (i := 2) dX2_payAt_20 rfl rfl ?_
  refine A_callV2E (v := some (.int (lateN (m_now ms) n h))) (τ := mc b9 ms σ0) (c_lateAt b9 ms σ0 n h (by first | assumption | omega)) tX2_lateAt q2621 (mc_0 _ _ _) rfl rfl dX2_payAt_21 (by decide) (Nat.le_of_eq (Nat.zero_add _)) (Nat.le_of_ble_eq_true rfl) ?_
  refine A_imul dX2_payAt_24 ?_
  refine A_isub dX2_payAt_25 ?_
  refine A_mmax q2509 q454 q150 q455 dX2_payAt_26 (by decide) (Nat.le_of_ble_eq_true rfl) ?_
  refine A_int (w := (mx 0 ((na (m_now ms) n 1) - ((na (m_now ms) n 2) * (lateN (m_now ms) n h))))) rfl ?_
  refine A_imul dX2_payAt_29 ?_
  exact A_iret dX2_payAt_30 rfl ⟨rfl, rfl⟩
theorem c_isHanded {l : Launch} {g : GC} (b9 : Nat) (ms : MM) (σ0 : AH) (n : Nat) (h1 : n < 4) : AMet l g mX2_isHanded 2 0 [.ref b9, .int (nI n)] (mc b9 ms σ0) (A_eq (some (.int (bi (na (m_now ms) n 3 = 1)))) (mc b9 ms σ0)) A_no := by
  refine A_of rfl (by decide) (Nat.le_of_ble_eq_true rfl) (L0 := [(0, .ref b9), (1, .int (nI n))]) rfl ?_
  refine A_aload_n (i := 0) dX2_isHanded_0 rfl rfl ?_
  refine A_iload_n (i := 1) dX2_isHanded_1 rfl rfl ?_
  refine A_iconst (v := 3) dX2_isHanded_2 (by decide) ?_
  refine A_callV2E (v := some (.int (na (m_now ms) n 3))) (τ := mc b9 ms σ0) (c_ofNation b9 ms σ0 n 3 (by first | assumption | omega) (by first | assumption | omega)) tX2_ofNation q2613 (mc_0 _ _ _) rfl rfl dX2_isHanded_3 (by decide) (Nat.le_of_eq (Nat.zero_add _)) (Nat.le_of_ble_eq_true rfl) ?_
  refine A_iconst (v := 1) dX2_isHanded_6 (by decide) ?_
  refine A_icmp_ne (tgt := 14) dX2_isHanded_7 (by decide) (fun c1 => ?_) (fun c1 => ?_)
  · skip
    refine A_iconst (v := 0) dX2_isHanded_14 (by decide) ?_
    exact A_zret dX2_isHanded_15 rfl (rfl) ⟨by simp [-Int32.not_lt, -Int32.not_le, bi, c1], rfl⟩
  · skip
    refine A_iconst (v := 1) dX2_isHanded_10 (by decide) ?_
    refine A_goto (tgt := 15) dX2_isHanded_11 (by decide) ?_
    exact A_zret dX2_isHanded_15 rfl (rfl) ⟨by simp [-Int32.not_lt, -Int32.not_le, bi, c1], rfl⟩
theorem c_culpritOf {l : Launch} {g : GC} (b9 : Nat) (ms : MM) (σ0 : AH) (n : Int32) (h1 : WFc (m_now ms)) : AMet l g mX2_culpritOf 5 0 [.ref b9, .int n] (mc b9 ms σ0) (A_eq (some (.int (culpN (m_now ms) n))) (mc b9 ms σ0)) A_no := by
  refine A_of rfl (by decide) (Nat.le_of_ble_eq_true rfl) (L0 := [(0, .ref b9), (1, .int n)]) rfl ?_
  have hF := h1.2.2.2.2.2
  have hC := h1.1.2
  refine A_iconst (v := 0) dX2_culpritOf_0 (by decide) ?_
  refine A_istore_n (i := 2) dX2_culpritOf_1 rfl (Nat.le_of_ble_eq_true rfl) ?_
  refine A_sub (L' := [(0, .ref b9), (1, .int n), (2, .int (nI 0))]) ⟨rfl, rfl, rfl, trivial⟩ ?_
  refine A_for (nF (m_now ms)) (fun i2 => 0) (fun i2 => [(0, .ref b9), (1, .int n), (2, .int (nI i2))]) (fun i2 => mc b9 ms σ0) (fun i2 => culpN (m_now ms) n = fsr (fun f => fl (m_now ms) f 0 = n ∧ ¬ whyN (m_now ms) f = 0) i2 (nF (m_now ms) - i2)) rfl (fun i2 hi2 hI2 ih2 => ?_) (fun hI2 => ?_)
  · skip
    refine A_iload_n (i := 2) dX2_culpritOf_2 rfl rfl ?_
    refine A_aload_n (i := 0) dX2_culpritOf_3 rfl rfl ?_
    refine M_get 1 (v := .ref (b9 + 1)) (Nat.le_of_ble_eq_true rfl) q2230 rfl dX2_culpritOf_4 ?_
    refine A_bipush (v := 10) dX2_culpritOf_7 (by decide) ?_
    refine M_ald1 (n := 10) (v := m_now ms 10) (rfl) (by decide) (rfl) dX2_culpritOf_9 ?_
    refine A_icmp_ge_f (tgt := 39) dX2_culpritOf_10 (by decide) (br_lt h1.2.2.2.2.1 hi2 (by omega)) ?_
    refine A_aload_n (i := 0) dX2_culpritOf_13 rfl rfl ?_
    refine A_iload_n (i := 2) dX2_culpritOf_14 rfl rfl ?_
    refine A_iconst (v := 0) dX2_culpritOf_15 (by decide) ?_
    refine A_callV2E (v := some (.int (fl (m_now ms) i2 0))) (τ := mc b9 ms σ0) (c_ofFlag b9 ms σ0 i2 0 (by first | assumption | omega) (by first | assumption | omega)) tX2_ofFlag q2444 (mc_0 _ _ _) rfl rfl dX2_culpritOf_16 (by decide) (Nat.le_of_eq (Nat.zero_add _)) (Nat.le_of_ble_eq_true rfl) ?_
    refine A_iload_n (i := 1) dX2_culpritOf_19 rfl rfl ?_
    refine A_icmp_ne (tgt := 33) dX2_culpritOf_20 (by decide) (fun c1 => ?_) (fun c1 => ?_)
    · skip
      refine A_iinc (v := nI (i2 + 1)) dX2_culpritOf_33 rfl (nI_inc _ _) (Nat.le_of_ble_eq_true rfl) ?_
      refine A_goto (tgt := 2) dX2_culpritOf_36 (by decide) ?_
      refine A_sub (L' := [(0, .ref b9), (1, .int n), (2, .int (nI (i2 + 1)))]) ⟨rfl, rfl, rfl, trivial⟩ ?_
      exact ih2 (by rw [hI2, fsr_s _ hi2, if_neg (by simp [c1])])
    · skip
      refine A_aload_n (i := 0) dX2_culpritOf_23 rfl rfl ?_
      refine A_iload_n (i := 2) dX2_culpritOf_24 rfl rfl ?_
      refine A_callV1E (v := some (.int (whyN (m_now ms) i2))) (τ := mc b9 ms σ0) (c_whyNotReady b9 ms σ0 i2 (by first | assumption | omega)) tX2_whyNotReady q2573 (mc_0 _ _ _) rfl rfl dX2_culpritOf_25 (by decide) (Nat.le_of_eq (Nat.zero_add _)) (Nat.le_of_ble_eq_true rfl) ?_
      refine A_if_eq (tgt := 33) dX2_culpritOf_28 (by decide) (fun c2 => ?_) (fun c2 => ?_)
      · skip
        refine A_iinc (v := nI (i2 + 1)) dX2_culpritOf_33 rfl (nI_inc _ _) (Nat.le_of_ble_eq_true rfl) ?_
        refine A_goto (tgt := 2) dX2_culpritOf_36 (by decide) ?_
        refine A_sub (L' := [(0, .ref b9), (1, .int n), (2, .int (nI (i2 + 1)))]) ⟨rfl, rfl, rfl, trivial⟩ ?_
        exact ih2 (by rw [hI2, fsr_s _ hi2, if_neg (by simp [c1, c2])])
      · skip
        refine A_iload_n (i := 2) dX2_culpritOf_31 rfl rfl ?_
        exact A_iret dX2_culpritOf_32 rfl ⟨by rw [hI2, fsr_s _ hi2, if_pos ⟨c1, c2⟩], rfl⟩
  · skip
    refine A_iload_n (i := 2) dX2_culpritOf_2 rfl rfl ?_
    refine A_aload_n (i := 0) dX2_culpritOf_3 rfl rfl ?_
    refine M_get 1 (v := .ref (b9 + 1)) (Nat.le_of_ble_eq_true rfl) q2230 rfl dX2_culpritOf_4 ?_
    refine A_bipush (v := 10) dX2_culpritOf_7 (by decide) ?_
    refine M_ald1 (n := 10) (v := m_now ms 10) (rfl) (by decide) (rfl) dX2_culpritOf_9 ?_
    refine A_icmp_ge_t (tgt := 39) dX2_culpritOf_10 (by decide) (br_ge h1.2.2.2.2.1) ?_
    refine A_iconst (v := (-1)) dX2_culpritOf_39 (by decide) ?_
    exact A_iret dX2_culpritOf_40 rfl ⟨by rw [hI2, fsr_e], rfl⟩
theorem c_flagsAt {l : Launch} {g : GC} (b9 : Nat) (ms : MM) (σ0 : AH) (w : Int32) (h1 : WFc (m_now ms)) : AMet l g mX2_flagsAt 3 0 [.ref b9, .int w] (mc b9 ms σ0) (A_eq (some (.int (atN (m_now ms) w))) (mc b9 ms σ0)) A_no := by
  refine A_of rfl (by decide) (Nat.le_of_ble_eq_true rfl) (L0 := [(0, .ref b9), (1, .int w)]) rfl ?_
  have hF := h1.2.2.2.2.2
  have hC := h1.1.2
  refine A_iconst (v := 0) dX2_flagsAt_0 (by decide) ?_
  refine A_istore_n (i := 2) dX2_flagsAt_1 rfl (Nat.le_of_ble_eq_true rfl) ?_
  refine A_iconst (v := 0) dX2_flagsAt_2 (by decide) ?_
  refine A_istore_n (i := 3) dX2_flagsAt_3 rfl (Nat.le_of_ble_eq_true rfl) ?_
  refine A_sub (L' := [(0, .ref b9), (1, .int w), (2, .int (sm (fun f => bi (fl (m_now ms) f 8 = w)) 0)), (3, .int (nI 0))]) ⟨rfl, rfl, rfl, rfl, trivial⟩ ?_
  refine A_for (nF (m_now ms)) (fun i4 => 0) (fun i4 => [(0, .ref b9), (1, .int w), (2, .int (sm (fun f => bi (fl (m_now ms) f 8 = w)) i4)), (3, .int (nI i4))]) (fun i4 => mc b9 ms σ0) (fun i4 => True) trivial (fun i4 hi4 hI4 ih4 => ?_) (fun hI4 => ?_)
  · skip
    refine A_iload_n (i := 3) dX2_flagsAt_4 rfl rfl ?_
    refine A_aload_n (i := 0) dX2_flagsAt_5 rfl rfl ?_
    refine M_get 1 (v := .ref (b9 + 1)) (Nat.le_of_ble_eq_true rfl) q2230 rfl dX2_flagsAt_6 ?_
    refine A_bipush (v := 10) dX2_flagsAt_9 (by decide) ?_
    refine M_ald1 (n := 10) (v := m_now ms 10) (rfl) (by decide) (rfl) dX2_flagsAt_11 ?_
    refine A_icmp_ge_f (tgt := 41) dX2_flagsAt_12 (by decide) (br_lt h1.2.2.2.2.1 hi4 (by omega)) ?_
    refine A_iload_n (i := 2) dX2_flagsAt_15 rfl rfl ?_
    refine A_aload_n (i := 0) dX2_flagsAt_16 rfl rfl ?_
    refine A_iload_n (i := 3) dX2_flagsAt_17 rfl rfl ?_
    refine A_callV1E (v := some (.int (fl (m_now ms) i4 8))) (τ := mc b9 ms σ0) (c_where b9 ms σ0 i4 (by first | assumption | omega)) tX2_where q2440 (mc_0 _ _ _) rfl rfl dX2_flagsAt_18 (by decide) (Nat.le_of_eq (Nat.zero_add _)) (Nat.le_of_ble_eq_true rfl) ?_
    refine A_iload_n (i := 1) dX2_flagsAt_21 rfl rfl ?_
    refine A_icmp_ne (tgt := 29) dX2_flagsAt_22 (by decide) (fun c1 => ?_) (fun c1 => ?_)
    · skip
      refine A_iconst (v := 0) dX2_flagsAt_29 (by decide) ?_
      refine A_callS1E (v := some (.int (oneI 0))) (τ := mc b9 ms σ0) (c_one b9 ms σ0 0) tX2_one q2456 dX2_flagsAt_30 (by decide) (Nat.le_of_eq (Nat.zero_add _)) (Nat.le_of_ble_eq_true rfl) ?_
      refine A_int (w := 0) (by decide) ?_
      refine A_iadd dX2_flagsAt_33 ?_
      refine A_int (w := sm (fun f => bi (fl (m_now ms) f 8 = w)) (i4 + 1)) (by rw [sm_s] <;> simp [bi, inTub, inBasket, hasB, inR, -Int32.not_lt, -Int32.not_le, c1]) ?_
      refine A_istore_n (i := 2) dX2_flagsAt_34 rfl (Nat.le_of_ble_eq_true rfl) ?_
      refine A_iinc (v := nI (i4 + 1)) dX2_flagsAt_35 rfl (nI_inc _ _) (Nat.le_of_ble_eq_true rfl) ?_
      refine A_goto (tgt := 4) dX2_flagsAt_38 (by decide) ?_
      refine A_sub (L' := [(0, .ref b9), (1, .int w), (2, .int (sm (fun f => bi (fl (m_now ms) f 8 = w)) (i4 + 1))), (3, .int (nI (i4 + 1)))]) ⟨rfl, rfl, rfl, rfl, trivial⟩ ?_
      exact ih4 trivial
    · skip
      refine A_iconst (v := 1) dX2_flagsAt_25 (by decide) ?_
      refine A_goto (tgt := 30) dX2_flagsAt_26 (by decide) ?_
      refine A_callS1E (v := some (.int (oneI 1))) (τ := mc b9 ms σ0) (c_one b9 ms σ0 1) tX2_one q2456 dX2_flagsAt_30 (by decide) (Nat.le_of_eq (Nat.zero_add _)) (Nat.le_of_ble_eq_true rfl) ?_
      refine A_int (w := 1) (by decide) ?_
      refine A_iadd dX2_flagsAt_33 ?_
      refine A_int (w := sm (fun f => bi (fl (m_now ms) f 8 = w)) (i4 + 1)) (by rw [sm_s] <;> simp [bi, inTub, inBasket, hasB, inR, -Int32.not_lt, -Int32.not_le, c1]) ?_
      refine A_istore_n (i := 2) dX2_flagsAt_34 rfl (Nat.le_of_ble_eq_true rfl) ?_
      refine A_iinc (v := nI (i4 + 1)) dX2_flagsAt_35 rfl (nI_inc _ _) (Nat.le_of_ble_eq_true rfl) ?_
      refine A_goto (tgt := 4) dX2_flagsAt_38 (by decide) ?_
      refine A_sub (L' := [(0, .ref b9), (1, .int w), (2, .int (sm (fun f => bi (fl (m_now ms) f 8 = w)) (i4 + 1))), (3, .int (nI (i4 + 1)))]) ⟨rfl, rfl, rfl, rfl, trivial⟩ ?_
      exact ih4 trivial
  · skip
    refine A_iload_n (i := 3) dX2_flagsAt_4 rfl rfl ?_
    refine A_aload_n (i := 0) dX2_flagsAt_5 rfl rfl ?_
    refine M_get 1 (v := .ref (b9 + 1)) (Nat.le_of_ble_eq_true rfl) q2230 rfl dX2_flagsAt_6 ?_
    refine A_bipush (v := 10) dX2_flagsAt_9 (by decide) ?_
    refine M_ald1 (n := 10) (v := m_now ms 10) (rfl) (by decide) (rfl) dX2_flagsAt_11 ?_
    refine A_icmp_ge_t (tgt := 41) dX2_flagsAt_12 (by decide) (br_ge h1.2.2.2.2.1) ?_
    refine A_iload_n (i := 2) dX2_flagsAt_41 rfl rfl ?_
    exact A_iret dX2_flagsAt_42 rfl ⟨rfl, rfl⟩
theorem c_readyMany {l : Launch} {g : GC} (b9 : Nat) (ms : MM) (σ0 : AH)  (h1 : WFc (m_now ms)) : AMet l g mX2_readyMany 5 0 [.ref b9] (mc b9 ms σ0) (A_eq (some (.int (readyN (m_now ms)))) (mc b9 ms σ0)) A_no := by
  refine A_of rfl (by decide) (Nat.le_of_ble_eq_true rfl) (L0 := [(0, .ref b9)]) rfl ?_
  have hF := h1.2.2.2.2.2
  have hC := h1.1.2
  refine A_iconst (v := 0) dX2_readyMany_0 (by decide) ?_
  refine A_istore_n (i := 1) dX2_readyMany_1 rfl (Nat.le_of_ble_eq_true rfl) ?_
  refine A_iconst (v := 0) dX2_readyMany_2 (by decide) ?_
  refine A_istore_n (i := 2) dX2_readyMany_3 rfl (Nat.le_of_ble_eq_true rfl) ?_
  refine A_sub (L' := [(0, .ref b9), (1, .int (sm (fun f => bi (whyN (m_now ms) f = 0)) 0)), (2, .int (nI 0))]) ⟨rfl, rfl, rfl, trivial⟩ ?_
  refine A_for (nF (m_now ms)) (fun i4 => 0) (fun i4 => [(0, .ref b9), (1, .int (sm (fun f => bi (whyN (m_now ms) f = 0)) i4)), (2, .int (nI i4))]) (fun i4 => mc b9 ms σ0) (fun i4 => True) trivial (fun i4 hi4 hI4 ih4 => ?_) (fun hI4 => ?_)
  · skip
    refine A_iload_n (i := 2) dX2_readyMany_4 rfl rfl ?_
    refine A_aload_n (i := 0) dX2_readyMany_5 rfl rfl ?_
    refine M_get 1 (v := .ref (b9 + 1)) (Nat.le_of_ble_eq_true rfl) q2230 rfl dX2_readyMany_6 ?_
    refine A_bipush (v := 10) dX2_readyMany_9 (by decide) ?_
    refine M_ald1 (n := 10) (v := m_now ms 10) (rfl) (by decide) (rfl) dX2_readyMany_11 ?_
    refine A_icmp_ge_f (tgt := 40) dX2_readyMany_12 (by decide) (br_lt h1.2.2.2.2.1 hi4 (by omega)) ?_
    refine A_iload_n (i := 1) dX2_readyMany_15 rfl rfl ?_
    refine A_aload_n (i := 0) dX2_readyMany_16 rfl rfl ?_
    refine A_iload_n (i := 2) dX2_readyMany_17 rfl rfl ?_
    refine A_callV1E (v := some (.int (whyN (m_now ms) i4))) (τ := mc b9 ms σ0) (c_whyNotReady b9 ms σ0 i4 (by first | assumption | omega)) tX2_whyNotReady q2573 (mc_0 _ _ _) rfl rfl dX2_readyMany_18 (by decide) (Nat.le_of_eq (Nat.zero_add _)) (Nat.le_of_ble_eq_true rfl) ?_
    refine A_if_ne (tgt := 28) dX2_readyMany_21 (by decide) (fun c1 => ?_) (fun c1 => ?_)
    · skip
      refine A_iconst (v := 0) dX2_readyMany_28 (by decide) ?_
      refine A_callS1E (v := some (.int (oneI 0))) (τ := mc b9 ms σ0) (c_one b9 ms σ0 0) tX2_one q2456 dX2_readyMany_29 (by decide) (Nat.le_of_eq (Nat.zero_add _)) (Nat.le_of_ble_eq_true rfl) ?_
      refine A_int (w := 0) (by decide) ?_
      refine A_iadd dX2_readyMany_32 ?_
      refine A_int (w := sm (fun f => bi (whyN (m_now ms) f = 0)) (i4 + 1)) (by rw [sm_s] <;> simp [bi, inTub, inBasket, hasB, inR, -Int32.not_lt, -Int32.not_le, c1]) ?_
      refine A_istore_n (i := 1) dX2_readyMany_33 rfl (Nat.le_of_ble_eq_true rfl) ?_
      refine A_iinc (v := nI (i4 + 1)) dX2_readyMany_34 rfl (nI_inc _ _) (Nat.le_of_ble_eq_true rfl) ?_
      refine A_goto (tgt := 4) dX2_readyMany_37 (by decide) ?_
      refine A_sub (L' := [(0, .ref b9), (1, .int (sm (fun f => bi (whyN (m_now ms) f = 0)) (i4 + 1))), (2, .int (nI (i4 + 1)))]) ⟨rfl, rfl, rfl, trivial⟩ ?_
      exact ih4 trivial
    · skip
      refine A_iconst (v := 1) dX2_readyMany_24 (by decide) ?_
      refine A_goto (tgt := 29) dX2_readyMany_25 (by decide) ?_
      refine A_callS1E (v := some (.int (oneI 1))) (τ := mc b9 ms σ0) (c_one b9 ms σ0 1) tX2_one q2456 dX2_readyMany_29 (by decide) (Nat.le_of_eq (Nat.zero_add _)) (Nat.le_of_ble_eq_true rfl) ?_
      refine A_int (w := 1) (by decide) ?_
      refine A_iadd dX2_readyMany_32 ?_
      refine A_int (w := sm (fun f => bi (whyN (m_now ms) f = 0)) (i4 + 1)) (by rw [sm_s] <;> simp [bi, inTub, inBasket, hasB, inR, -Int32.not_lt, -Int32.not_le, c1]) ?_
      refine A_istore_n (i := 1) dX2_readyMany_33 rfl (Nat.le_of_ble_eq_true rfl) ?_
      refine A_iinc (v := nI (i4 + 1)) dX2_readyMany_34 rfl (nI_inc _ _) (Nat.le_of_ble_eq_true rfl) ?_
      refine A_goto (tgt := 4) dX2_readyMany_37 (by decide) ?_
      refine A_sub (L' := [(0, .ref b9), (1, .int (sm (fun f => bi (whyN (m_now ms) f = 0)) (i4 + 1))), (2, .int (nI (i4 + 1)))]) ⟨rfl, rfl, rfl, trivial⟩ ?_
      exact ih4 trivial
  · skip
    refine A_iload_n (i := 2) dX2_readyMany_4 rfl rfl ?_
    refine A_aload_n (i := 0) dX2_readyMany_5 rfl rfl ?_
    refine M_get 1 (v := .ref (b9 + 1)) (Nat.le_of_ble_eq_true rfl) q2230 rfl dX2_readyMany_6 ?_
    refine A_bipush (v := 10) dX2_readyMany_9 (by decide) ?_
    refine M_ald1 (n := 10) (v := m_now ms 10) (rfl) (by decide) (rfl) dX2_readyMany_11 ?_
    refine A_icmp_ge_t (tgt := 40) dX2_readyMany_12 (by decide) (br_ge h1.2.2.2.2.1) ?_
    refine A_iload_n (i := 1) dX2_readyMany_40 rfl rfl ?_
    exact A_iret dX2_readyMany_41 rfl ⟨rfl, rfl⟩
theorem c_readyOf {l : Launch} {g : GC} (b9 : Nat) (ms : MM) (σ0 : AH) (n : Int32) (h1 : WFc (m_now ms)) : AMet l g mX2_readyOf 5 0 [.ref b9, .int n] (mc b9 ms σ0) (A_eq (some (.int (rdyOf (m_now ms) n))) (mc b9 ms σ0)) A_no := by
  refine A_of rfl (by decide) (Nat.le_of_ble_eq_true rfl) (L0 := [(0, .ref b9), (1, .int n)]) rfl ?_
  have hF := h1.2.2.2.2.2
  have hC := h1.1.2
  refine A_iconst (v := 0) dX2_readyOf_0 (by decide) ?_
  refine A_istore_n (i := 2) dX2_readyOf_1 rfl (Nat.le_of_ble_eq_true rfl) ?_
  refine A_iconst (v := 0) dX2_readyOf_2 (by decide) ?_
  refine A_istore_n (i := 3) dX2_readyOf_3 rfl (Nat.le_of_ble_eq_true rfl) ?_
  refine A_sub (L' := [(0, .ref b9), (1, .int n), (2, .int (sm (fun f => bi (fl (m_now ms) f 0 = n ∧ whyN (m_now ms) f = 0)) 0)), (3, .int (nI 0))]) ⟨rfl, rfl, rfl, rfl, trivial⟩ ?_
  refine A_for (nF (m_now ms)) (fun i4 => 0) (fun i4 => [(0, .ref b9), (1, .int n), (2, .int (sm (fun f => bi (fl (m_now ms) f 0 = n ∧ whyN (m_now ms) f = 0)) i4)), (3, .int (nI i4))]) (fun i4 => mc b9 ms σ0) (fun i4 => True) trivial (fun i4 hi4 hI4 ih4 => ?_) (fun hI4 => ?_)
  · skip
    refine A_iload_n (i := 3) dX2_readyOf_4 rfl rfl ?_
    refine A_aload_n (i := 0) dX2_readyOf_5 rfl rfl ?_
    refine M_get 1 (v := .ref (b9 + 1)) (Nat.le_of_ble_eq_true rfl) q2230 rfl dX2_readyOf_6 ?_
    refine A_bipush (v := 10) dX2_readyOf_9 (by decide) ?_
    refine M_ald1 (n := 10) (v := m_now ms 10) (rfl) (by decide) (rfl) dX2_readyOf_11 ?_
    refine A_icmp_ge_f (tgt := 50) dX2_readyOf_12 (by decide) (br_lt h1.2.2.2.2.1 hi4 (by omega)) ?_
    refine A_iload_n (i := 2) dX2_readyOf_15 rfl rfl ?_
    refine A_aload_n (i := 0) dX2_readyOf_16 rfl rfl ?_
    refine A_iload_n (i := 3) dX2_readyOf_17 rfl rfl ?_
    refine A_iconst (v := 0) dX2_readyOf_18 (by decide) ?_
    refine A_callV2E (v := some (.int (fl (m_now ms) i4 0))) (τ := mc b9 ms σ0) (c_ofFlag b9 ms σ0 i4 0 (by first | assumption | omega) (by first | assumption | omega)) tX2_ofFlag q2444 (mc_0 _ _ _) rfl rfl dX2_readyOf_19 (by decide) (Nat.le_of_eq (Nat.zero_add _)) (Nat.le_of_ble_eq_true rfl) ?_
    refine A_iload_n (i := 1) dX2_readyOf_22 rfl rfl ?_
    refine A_icmp_ne (tgt := 38) dX2_readyOf_23 (by decide) (fun c1 => ?_) (fun c1 => ?_)
    · skip
      refine A_iconst (v := 0) dX2_readyOf_38 (by decide) ?_
      refine A_callS1E (v := some (.int (oneI 0))) (τ := mc b9 ms σ0) (c_one b9 ms σ0 0) tX2_one q2456 dX2_readyOf_39 (by decide) (Nat.le_of_eq (Nat.zero_add _)) (Nat.le_of_ble_eq_true rfl) ?_
      refine A_int (w := 0) (by decide) ?_
      refine A_iadd dX2_readyOf_42 ?_
      refine A_int (w := sm (fun f => bi (fl (m_now ms) f 0 = n ∧ whyN (m_now ms) f = 0)) (i4 + 1)) (by rw [sm_s] <;> simp [bi, inTub, inBasket, hasB, inR, -Int32.not_lt, -Int32.not_le, c1]) ?_
      refine A_istore_n (i := 2) dX2_readyOf_43 rfl (Nat.le_of_ble_eq_true rfl) ?_
      refine A_iinc (v := nI (i4 + 1)) dX2_readyOf_44 rfl (nI_inc _ _) (Nat.le_of_ble_eq_true rfl) ?_
      refine A_goto (tgt := 4) dX2_readyOf_47 (by decide) ?_
      refine A_sub (L' := [(0, .ref b9), (1, .int n), (2, .int (sm (fun f => bi (fl (m_now ms) f 0 = n ∧ whyN (m_now ms) f = 0)) (i4 + 1))), (3, .int (nI (i4 + 1)))]) ⟨rfl, rfl, rfl, rfl, trivial⟩ ?_
      exact ih4 trivial
    · skip
      refine A_aload_n (i := 0) dX2_readyOf_26 rfl rfl ?_
      refine A_iload_n (i := 3) dX2_readyOf_27 rfl rfl ?_
      refine A_callV1E (v := some (.int (whyN (m_now ms) i4))) (τ := mc b9 ms σ0) (c_whyNotReady b9 ms σ0 i4 (by first | assumption | omega)) tX2_whyNotReady q2573 (mc_0 _ _ _) rfl rfl dX2_readyOf_28 (by decide) (Nat.le_of_eq (Nat.zero_add _)) (Nat.le_of_ble_eq_true rfl) ?_
      refine A_if_ne (tgt := 38) dX2_readyOf_31 (by decide) (fun c2 => ?_) (fun c2 => ?_)
      · skip
        refine A_iconst (v := 0) dX2_readyOf_38 (by decide) ?_
        refine A_callS1E (v := some (.int (oneI 0))) (τ := mc b9 ms σ0) (c_one b9 ms σ0 0) tX2_one q2456 dX2_readyOf_39 (by decide) (Nat.le_of_eq (Nat.zero_add _)) (Nat.le_of_ble_eq_true rfl) ?_
        refine A_int (w := 0) (by decide) ?_
        refine A_iadd dX2_readyOf_42 ?_
        refine A_int (w := sm (fun f => bi (fl (m_now ms) f 0 = n ∧ whyN (m_now ms) f = 0)) (i4 + 1)) (by rw [sm_s] <;> simp [bi, inTub, inBasket, hasB, inR, -Int32.not_lt, -Int32.not_le, c1, c2]) ?_
        refine A_istore_n (i := 2) dX2_readyOf_43 rfl (Nat.le_of_ble_eq_true rfl) ?_
        refine A_iinc (v := nI (i4 + 1)) dX2_readyOf_44 rfl (nI_inc _ _) (Nat.le_of_ble_eq_true rfl) ?_
        refine A_goto (tgt := 4) dX2_readyOf_47 (by decide) ?_
        refine A_sub (L' := [(0, .ref b9), (1, .int n), (2, .int (sm (fun f => bi (fl (m_now ms) f 0 = n ∧ whyN (m_now ms) f = 0)) (i4 + 1))), (3, .int (nI (i4 + 1)))]) ⟨rfl, rfl, rfl, rfl, trivial⟩ ?_
        exact ih4 trivial
      · skip
        refine A_iconst (v := 1) dX2_readyOf_34 (by decide) ?_
        refine A_goto (tgt := 39) dX2_readyOf_35 (by decide) ?_
        refine A_callS1E (v := some (.int (oneI 1))) (τ := mc b9 ms σ0) (c_one b9 ms σ0 1) tX2_one q2456 dX2_readyOf_39 (by decide) (Nat.le_of_eq (Nat.zero_add _)) (Nat.le_of_ble_eq_true rfl) ?_
        refine A_int (w := 1) (by decide) ?_
        refine A_iadd dX2_readyOf_42 ?_
        refine A_int (w := sm (fun f => bi (fl (m_now ms) f 0 = n ∧ whyN (m_now ms) f = 0)) (i4 + 1)) (by rw [sm_s] <;> simp [bi, inTub, inBasket, hasB, inR, -Int32.not_lt, -Int32.not_le, c1, c2]) ?_
        refine A_istore_n (i := 2) dX2_readyOf_43 rfl (Nat.le_of_ble_eq_true rfl) ?_
        refine A_iinc (v := nI (i4 + 1)) dX2_readyOf_44 rfl (nI_inc _ _) (Nat.le_of_ble_eq_true rfl) ?_
        refine A_goto (tgt := 4) dX2_readyOf_47 (by decide) ?_
        refine A_sub (L' := [(0, .ref b9), (1, .int n), (2, .int (sm (fun f => bi (fl (m_now ms) f 0 = n ∧ whyN (m_now ms) f = 0)) (i4 + 1))), (3, .int (nI (i4 + 1)))]) ⟨rfl, rfl, rfl, rfl, trivial⟩ ?_
        exact ih4 trivial
  · skip
    refine A_iload_n (i := 3) dX2_readyOf_4 rfl rfl ?_
    refine A_aload_n (i := 0) dX2_readyOf_5 rfl rfl ?_
    refine M_get 1 (v := .ref (b9 + 1)) (Nat.le_of_ble_eq_true rfl) q2230 rfl dX2_readyOf_6 ?_
    refine A_bipush (v := 10) dX2_readyOf_9 (by decide) ?_
    refine M_ald1 (n := 10) (v := m_now ms 10) (rfl) (by decide) (rfl) dX2_readyOf_11 ?_
    refine A_icmp_ge_t (tgt := 50) dX2_readyOf_12 (by decide) (br_ge h1.2.2.2.2.1) ?_
    refine A_iload_n (i := 2) dX2_readyOf_50 rfl rfl ?_
    exact A_iret dX2_readyOf_51 rfl ⟨rfl, rfl⟩
theorem c_flagsWith {l : Launch} {g : GC} (b9 : Nat) (ms : MM) (σ0 : AH) (c : Int32) (k : Nat) (h1 : WFc (m_now ms)) (h2 : k < 11) : AMet l g mX2_flagsWith 2 0 [.ref b9, .int c, .int (nI k)] (mc b9 ms σ0) (A_eq (some (.int (withN (m_now ms) c k))) (mc b9 ms σ0)) A_no := by
  refine A_of rfl (by decide) (Nat.le_of_ble_eq_true rfl) (L0 := [(0, .ref b9), (1, .int c), (2, .int (nI k))]) rfl ?_
  have hF := h1.2.2.2.2.2
  have hC := h1.1.2
  refine A_iconst (v := 0) dX2_flagsWith_0 (by decide) ?_
  refine A_istore_n (i := 3) dX2_flagsWith_1 rfl (Nat.le_of_ble_eq_true rfl) ?_
  refine A_iconst (v := 0) dX2_flagsWith_2 (by decide) ?_
  refine A_istore dX2_flagsWith_3 (Nat.le_of_ble_eq_true rfl) ?_
  refine A_sub (L' := [(0, .ref b9), (1, .int c), (2, .int (nI k)), (3, .int (sm (fun f => bi (hasB (fl (m_now ms) f k) c)) 0)), (4, .int (nI 0))]) ⟨rfl, rfl, rfl, rfl, rfl, trivial⟩ ?_
  refine A_for (nF (m_now ms)) (fun i5 => 0) (fun i5 => [(0, .ref b9), (1, .int c), (2, .int (nI k)), (3, .int (sm (fun f => bi (hasB (fl (m_now ms) f k) c)) i5)), (4, .int (nI i5))]) (fun i5 => mc b9 ms σ0) (fun i5 => True) trivial (fun i5 hi5 hI5 ih5 => ?_) (fun hI5 => ?_)
  · skip
    refine A_iload dX2_flagsWith_5 rfl ?_
    refine A_aload_n (i := 0) dX2_flagsWith_7 rfl rfl ?_
    refine M_get 1 (v := .ref (b9 + 1)) (Nat.le_of_ble_eq_true rfl) q2230 rfl dX2_flagsWith_8 ?_
    refine A_bipush (v := 10) dX2_flagsWith_11 (by decide) ?_
    refine M_ald1 (n := 10) (v := m_now ms 10) (rfl) (by decide) (rfl) dX2_flagsWith_13 ?_
    refine A_icmp_ge_f (tgt := 40) dX2_flagsWith_14 (by decide) (br_lt h1.2.2.2.2.1 hi5 (by omega)) ?_
    refine A_iload_n (i := 3) dX2_flagsWith_17 rfl rfl ?_
    refine A_aload_n (i := 0) dX2_flagsWith_18 rfl rfl ?_
    refine A_iload dX2_flagsWith_19 rfl ?_
    refine A_iload_n (i := 2) dX2_flagsWith_21 rfl rfl ?_
    refine A_callV2E (v := some (.int (fl (m_now ms) i5 k))) (τ := mc b9 ms σ0) (c_ofFlag b9 ms σ0 i5 k (by first | assumption | omega) (by first | assumption | omega)) tX2_ofFlag q2444 (mc_0 _ _ _) rfl rfl dX2_flagsWith_22 (by decide) (Nat.le_of_eq (Nat.zero_add _)) (Nat.le_of_ble_eq_true rfl) ?_
    refine A_iload_n (i := 1) dX2_flagsWith_25 rfl rfl ?_
    refine A_callS2E (v := some (.int (bi (hasB (fl (m_now ms) i5 k) c)))) (τ := mc b9 ms σ0) (c_has b9 ms σ0 (fl (m_now ms) i5 k) c) tX2_has q2408 dX2_flagsWith_26 (by decide) (Nat.le_of_eq (Nat.zero_add _)) (Nat.le_of_ble_eq_true rfl) ?_
    refine A_callS1E (v := some (.int (oneI (bi (hasB (fl (m_now ms) i5 k) c))))) (τ := mc b9 ms σ0) (c_one b9 ms σ0 (bi (hasB (fl (m_now ms) i5 k) c))) tX2_one q2456 dX2_flagsWith_29 (by decide) (Nat.le_of_eq (Nat.zero_add _)) (Nat.le_of_ble_eq_true rfl) ?_
    refine A_int (w := (bi (hasB (fl (m_now ms) i5 k) c))) (oneI_bi _) ?_
    refine A_iadd dX2_flagsWith_32 ?_
    refine A_int (w := sm (fun f => bi (hasB (fl (m_now ms) f k) c)) (i5 + 1)) (by rw [sm_s] <;> simp [bi, inTub, inBasket, hasB, inR, -Int32.not_lt, -Int32.not_le]) ?_
    refine A_istore_n (i := 3) dX2_flagsWith_33 rfl (Nat.le_of_ble_eq_true rfl) ?_
    refine A_iinc (v := nI (i5 + 1)) dX2_flagsWith_34 rfl (nI_inc _ _) (Nat.le_of_ble_eq_true rfl) ?_
    refine A_goto (tgt := 5) dX2_flagsWith_37 (by decide) ?_
    refine A_sub (L' := [(0, .ref b9), (1, .int c), (2, .int (nI k)), (3, .int (sm (fun f => bi (hasB (fl (m_now ms) f k) c)) (i5 + 1))), (4, .int (nI (i5 + 1)))]) ⟨rfl, rfl, rfl, rfl, rfl, trivial⟩ ?_
    exact ih5 trivial
  · skip
    refine A_iload dX2_flagsWith_5 rfl ?_
    refine A_aload_n (i := 0) dX2_flagsWith_7 rfl rfl ?_
    refine M_get 1 (v := .ref (b9 + 1)) (Nat.le_of_ble_eq_true rfl) q2230 rfl dX2_flagsWith_8 ?_
    refine A_bipush (v := 10) dX2_flagsWith_11 (by decide) ?_
    refine M_ald1 (n := 10) (v := m_now ms 10) (rfl) (by decide) (rfl) dX2_flagsWith_13 ?_
    refine A_icmp_ge_t (tgt := 40) dX2_flagsWith_14 (by decide) (br_ge h1.2.2.2.2.1) ?_
    refine A_iload_n (i := 3) dX2_flagsWith_40 rfl rfl ?_
    exact A_iret dX2_flagsWith_41 rfl ⟨rfl, rfl⟩
theorem c_isColour {l : Launch} {g : GC} (b9 : Nat) (ms : MM) (σ0 : AH) (x : Int32)  : AMet l g mX2_isColour 2 0 [.ref b9, .int x] (mc b9 ms σ0) (A_eq (some (.int (bi (okC (m_is ms) (m_now ms) x)))) (mc b9 ms σ0)) A_no := by
  refine A_of rfl (by decide) (Nat.le_of_ble_eq_true rfl) (L0 := [(0, .ref b9), (1, .int x)]) rfl ?_
  refine A_aload_n (i := 0) dX2_isColour_0 rfl rfl ?_
  refine M_get 6 (v := .int (m_is ms)) (Nat.le_of_ble_eq_true rfl) q2235 rfl dX2_isColour_1 ?_
  refine A_if_eq (tgt := 28) dX2_isColour_4 (by decide) (fun c1 => ?_) (fun c1 => ?_)
  · skip
    refine A_iconst (v := 0) dX2_isColour_28 (by decide) ?_
    exact A_zret dX2_isColour_29 rfl (rfl) ⟨by simp [-Int32.not_lt, -Int32.not_le, bi, inR, okC, c1], rfl⟩
  · skip
    refine A_iload_n (i := 1) dX2_isColour_7 rfl rfl ?_
    refine A_iconst (v := 0) dX2_isColour_8 (by decide) ?_
    refine A_aload_n (i := 0) dX2_isColour_9 rfl rfl ?_
    refine M_get 1 (v := .ref (b9 + 1)) (Nat.le_of_ble_eq_true rfl) q2230 rfl dX2_isColour_10 ?_
    refine A_bipush (v := 6) dX2_isColour_13 (by decide) ?_
    refine M_ald1 (n := 6) (v := m_now ms 6) (rfl) (by decide) (rfl) dX2_isColour_15 ?_
    refine A_iconst (v := 1) dX2_isColour_16 (by decide) ?_
    refine A_isub dX2_isColour_17 ?_
    refine A_callS3E (v := some (.int (bi (inR x 0 ((m_now ms 6) - 1))))) (τ := mc b9 ms σ0) (c_in b9 ms σ0 x 0 ((m_now ms 6) - 1)) tX2_in q2319 dX2_isColour_18 (by decide) (Nat.le_of_eq (Nat.zero_add _)) (Nat.le_of_ble_eq_true rfl) ?_
    refine A_if_eq (tgt := 28) dX2_isColour_21 (by decide) (fun c2 => ?_) (fun c2 => ?_)
    · skip
      have c2 := bi_eq0.mp c2
      refine A_iconst (v := 0) dX2_isColour_28 (by decide) ?_
      exact A_zret dX2_isColour_29 rfl (rfl) ⟨by simp [-Int32.not_lt, -Int32.not_le, bi, inR, okC, c1, c2], rfl⟩
    · skip
      have c2 := bi_ne0.mp c2
      refine A_iconst (v := 1) dX2_isColour_24 (by decide) ?_
      refine A_goto (tgt := 29) dX2_isColour_25 (by decide) ?_
      exact A_zret dX2_isColour_29 rfl (rfl) ⟨by simp [-Int32.not_lt, -Int32.not_le, bi, inR, okC, c1, c2], rfl⟩
theorem c_isNation {l : Launch} {g : GC} (b9 : Nat) (ms : MM) (σ0 : AH) (x : Int32)  : AMet l g mX2_isNation 2 0 [.ref b9, .int x] (mc b9 ms σ0) (A_eq (some (.int (bi (okN (m_is ms) (m_now ms) x)))) (mc b9 ms σ0)) A_no := by
  refine A_of rfl (by decide) (Nat.le_of_ble_eq_true rfl) (L0 := [(0, .ref b9), (1, .int x)]) rfl ?_
  refine A_aload_n (i := 0) dX2_isNation_0 rfl rfl ?_
  refine M_get 6 (v := .int (m_is ms)) (Nat.le_of_ble_eq_true rfl) q2235 rfl dX2_isNation_1 ?_
  refine A_if_eq (tgt := 28) dX2_isNation_4 (by decide) (fun c1 => ?_) (fun c1 => ?_)
  · skip
    refine A_iconst (v := 0) dX2_isNation_28 (by decide) ?_
    exact A_zret dX2_isNation_29 rfl (rfl) ⟨by simp [-Int32.not_lt, -Int32.not_le, bi, inR, okN, c1], rfl⟩
  · skip
    refine A_iload_n (i := 1) dX2_isNation_7 rfl rfl ?_
    refine A_iconst (v := 0) dX2_isNation_8 (by decide) ?_
    refine A_aload_n (i := 0) dX2_isNation_9 rfl rfl ?_
    refine M_get 1 (v := .ref (b9 + 1)) (Nat.le_of_ble_eq_true rfl) q2230 rfl dX2_isNation_10 ?_
    refine A_bipush (v := 7) dX2_isNation_13 (by decide) ?_
    refine M_ald1 (n := 7) (v := m_now ms 7) (rfl) (by decide) (rfl) dX2_isNation_15 ?_
    refine A_iconst (v := 1) dX2_isNation_16 (by decide) ?_
    refine A_isub dX2_isNation_17 ?_
    refine A_callS3E (v := some (.int (bi (inR x 0 ((m_now ms 7) - 1))))) (τ := mc b9 ms σ0) (c_in b9 ms σ0 x 0 ((m_now ms 7) - 1)) tX2_in q2319 dX2_isNation_18 (by decide) (Nat.le_of_eq (Nat.zero_add _)) (Nat.le_of_ble_eq_true rfl) ?_
    refine A_if_eq (tgt := 28) dX2_isNation_21 (by decide) (fun c2 => ?_) (fun c2 => ?_)
    · skip
      have c2 := bi_eq0.mp c2
      refine A_iconst (v := 0) dX2_isNation_28 (by decide) ?_
      exact A_zret dX2_isNation_29 rfl (rfl) ⟨by simp [-Int32.not_lt, -Int32.not_le, bi, inR, okN, c1, c2], rfl⟩
    · skip
      have c2 := bi_ne0.mp c2
      refine A_iconst (v := 1) dX2_isNation_24 (by decide) ?_
      refine A_goto (tgt := 29) dX2_isNation_25 (by decide) ?_
      exact A_zret dX2_isNation_29 rfl (rfl) ⟨by simp [-Int32.not_lt, -Int32.not_le, bi, inR, okN, c1, c2], rfl⟩
theorem c_isFlag {l : Launch} {g : GC} (b9 : Nat) (ms : MM) (σ0 : AH) (x : Int32)  : AMet l g mX2_isFlag 2 0 [.ref b9, .int x] (mc b9 ms σ0) (A_eq (some (.int (bi (okF (m_is ms) (m_now ms) x)))) (mc b9 ms σ0)) A_no := by
  refine A_of rfl (by decide) (Nat.le_of_ble_eq_true rfl) (L0 := [(0, .ref b9), (1, .int x)]) rfl ?_
  refine A_aload_n (i := 0) dX2_isFlag_0 rfl rfl ?_
  refine M_get 6 (v := .int (m_is ms)) (Nat.le_of_ble_eq_true rfl) q2235 rfl dX2_isFlag_1 ?_
  refine A_if_eq (tgt := 28) dX2_isFlag_4 (by decide) (fun c1 => ?_) (fun c1 => ?_)
  · skip
    refine A_iconst (v := 0) dX2_isFlag_28 (by decide) ?_
    exact A_zret dX2_isFlag_29 rfl (rfl) ⟨by simp [-Int32.not_lt, -Int32.not_le, bi, inR, okF, c1], rfl⟩
  · skip
    refine A_iload_n (i := 1) dX2_isFlag_7 rfl rfl ?_
    refine A_iconst (v := 0) dX2_isFlag_8 (by decide) ?_
    refine A_aload_n (i := 0) dX2_isFlag_9 rfl rfl ?_
    refine M_get 1 (v := .ref (b9 + 1)) (Nat.le_of_ble_eq_true rfl) q2230 rfl dX2_isFlag_10 ?_
    refine A_bipush (v := 10) dX2_isFlag_13 (by decide) ?_
    refine M_ald1 (n := 10) (v := m_now ms 10) (rfl) (by decide) (rfl) dX2_isFlag_15 ?_
    refine A_iconst (v := 1) dX2_isFlag_16 (by decide) ?_
    refine A_isub dX2_isFlag_17 ?_
    refine A_callS3E (v := some (.int (bi (inR x 0 ((m_now ms 10) - 1))))) (τ := mc b9 ms σ0) (c_in b9 ms σ0 x 0 ((m_now ms 10) - 1)) tX2_in q2319 dX2_isFlag_18 (by decide) (Nat.le_of_eq (Nat.zero_add _)) (Nat.le_of_ble_eq_true rfl) ?_
    refine A_if_eq (tgt := 28) dX2_isFlag_21 (by decide) (fun c2 => ?_) (fun c2 => ?_)
    · skip
      have c2 := bi_eq0.mp c2
      refine A_iconst (v := 0) dX2_isFlag_28 (by decide) ?_
      exact A_zret dX2_isFlag_29 rfl (rfl) ⟨by simp [-Int32.not_lt, -Int32.not_le, bi, inR, okF, c1, c2], rfl⟩
    · skip
      have c2 := bi_ne0.mp c2
      refine A_iconst (v := 1) dX2_isFlag_24 (by decide) ?_
      refine A_goto (tgt := 29) dX2_isFlag_25 (by decide) ?_
      exact A_zret dX2_isFlag_29 rfl (rfl) ⟨by simp [-Int32.not_lt, -Int32.not_le, bi, inR, okF, c1, c2], rfl⟩
theorem c_isTub {l : Launch} {g : GC} (b9 : Nat) (ms : MM) (σ0 : AH) (x : Int32)  : AMet l g mX2_isTub 2 0 [.ref b9, .int x] (mc b9 ms σ0) (A_eq (some (.int (bi (okT (m_is ms) (m_now ms) x)))) (mc b9 ms σ0)) A_no := by
  refine A_of rfl (by decide) (Nat.le_of_ble_eq_true rfl) (L0 := [(0, .ref b9), (1, .int x)]) rfl ?_
  refine A_aload_n (i := 0) dX2_isTub_0 rfl rfl ?_
  refine M_get 6 (v := .int (m_is ms)) (Nat.le_of_ble_eq_true rfl) q2235 rfl dX2_isTub_1 ?_
  refine A_if_eq (tgt := 28) dX2_isTub_4 (by decide) (fun c1 => ?_) (fun c1 => ?_)
  · skip
    refine A_iconst (v := 0) dX2_isTub_28 (by decide) ?_
    exact A_zret dX2_isTub_29 rfl (rfl) ⟨by simp [-Int32.not_lt, -Int32.not_le, bi, inR, okT, c1], rfl⟩
  · skip
    refine A_iload_n (i := 1) dX2_isTub_7 rfl rfl ?_
    refine A_iconst (v := 0) dX2_isTub_8 (by decide) ?_
    refine A_aload_n (i := 0) dX2_isTub_9 rfl rfl ?_
    refine M_get 1 (v := .ref (b9 + 1)) (Nat.le_of_ble_eq_true rfl) q2230 rfl dX2_isTub_10 ?_
    refine A_bipush (v := 8) dX2_isTub_13 (by decide) ?_
    refine M_ald1 (n := 8) (v := m_now ms 8) (rfl) (by decide) (rfl) dX2_isTub_15 ?_
    refine A_iconst (v := 1) dX2_isTub_16 (by decide) ?_
    refine A_isub dX2_isTub_17 ?_
    refine A_callS3E (v := some (.int (bi (inR x 0 ((m_now ms 8) - 1))))) (τ := mc b9 ms σ0) (c_in b9 ms σ0 x 0 ((m_now ms 8) - 1)) tX2_in q2319 dX2_isTub_18 (by decide) (Nat.le_of_eq (Nat.zero_add _)) (Nat.le_of_ble_eq_true rfl) ?_
    refine A_if_eq (tgt := 28) dX2_isTub_21 (by decide) (fun c2 => ?_) (fun c2 => ?_)
    · skip
      have c2 := bi_eq0.mp c2
      refine A_iconst (v := 0) dX2_isTub_28 (by decide) ?_
      exact A_zret dX2_isTub_29 rfl (rfl) ⟨by simp [-Int32.not_lt, -Int32.not_le, bi, inR, okT, c1, c2], rfl⟩
    · skip
      have c2 := bi_ne0.mp c2
      refine A_iconst (v := 1) dX2_isTub_24 (by decide) ?_
      refine A_goto (tgt := 29) dX2_isTub_25 (by decide) ?_
      exact A_zret dX2_isTub_29 rfl (rfl) ⟨by simp [-Int32.not_lt, -Int32.not_le, bi, inR, okT, c1, c2], rfl⟩
theorem c_isHeat {l : Launch} {g : GC} (b9 : Nat) (ms : MM) (σ0 : AH) (h : Int32)  : AMet l g mX2_isHeat 2 0 [.int h] (mc b9 ms σ0) (A_eq (some (.int (bi (inR h 0 3)))) (mc b9 ms σ0)) A_no := by
  refine A_of rfl (by decide) (Nat.le_of_ble_eq_true rfl) (L0 := [(0, .int h)]) rfl ?_
  refine A_iload_n (i := 0) dX2_isHeat_0 rfl rfl ?_
  refine A_iconst (v := 0) dX2_isHeat_1 (by decide) ?_
  refine A_iconst (v := 3) dX2_isHeat_2 (by decide) ?_
  refine A_callS3E (v := some (.int (bi (inR h 0 3)))) (τ := mc b9 ms σ0) (c_in b9 ms σ0 h 0 3) tX2_in q2319 dX2_isHeat_3 (by decide) (Nat.le_of_eq (Nat.zero_add _)) (Nat.le_of_ble_eq_true rfl) ?_
  exact A_zret dX2_isHeat_6 rfl (nar_bi _) ⟨rfl, rfl⟩
theorem c_isWind {l : Launch} {g : GC} (b9 : Nat) (ms : MM) (σ0 : AH) (h : Int32)  : AMet l g mX2_isWind 2 0 [.int h] (mc b9 ms σ0) (A_eq (some (.int (bi (inR h 0 9)))) (mc b9 ms σ0)) A_no := by
  refine A_of rfl (by decide) (Nat.le_of_ble_eq_true rfl) (L0 := [(0, .int h)]) rfl ?_
  refine A_iload_n (i := 0) dX2_isWind_0 rfl rfl ?_
  refine A_iconst (v := 0) dX2_isWind_1 (by decide) ?_
  refine A_bipush (v := 9) dX2_isWind_2 (by decide) ?_
  refine A_callS3E (v := some (.int (bi (inR h 0 9)))) (τ := mc b9 ms σ0) (c_in b9 ms σ0 h 0 9) tX2_in q2319 dX2_isWind_4 (by decide) (Nat.le_of_eq (Nat.zero_add _)) (Nat.le_of_ble_eq_true rfl) ?_
  exact A_zret dX2_isWind_7 rfl (nar_bi _) ⟨rfl, rfl⟩
theorem c_isSlot {l : Launch} {g : GC} (b9 : Nat) (ms : MM) (σ0 : AH) (h : Int32)  : AMet l g mX2_isSlot 2 0 [.int h] (mc b9 ms σ0) (A_eq (some (.int (bi (inR h 0 1)))) (mc b9 ms σ0)) A_no := by
  refine A_of rfl (by decide) (Nat.le_of_ble_eq_true rfl) (L0 := [(0, .int h)]) rfl ?_
  refine A_iload_n (i := 0) dX2_isSlot_0 rfl rfl ?_
  refine A_iconst (v := 0) dX2_isSlot_1 (by decide) ?_
  refine A_iconst (v := 1) dX2_isSlot_2 (by decide) ?_
  refine A_callS3E (v := some (.int (bi (inR h 0 1)))) (τ := mc b9 ms σ0) (c_in b9 ms σ0 h 0 1) tX2_in q2319 dX2_isSlot_3 (by decide) (Nat.le_of_eq (Nat.zero_add _)) (Nat.le_of_ble_eq_true rfl) ?_
  exact A_zret dX2_isSlot_6 rfl (nar_bi _) ⟨rfl, rfl⟩
theorem c_mayFlag {l : Launch} {g : GC} (b9 : Nat) (ms : MM) (σ0 : AH) (f : Int32)  : AMet l g mX2_mayFlag 3 0 [.ref b9, .int f] (mc b9 ms σ0) (A_eq (some (.int (bi (mayT (m_is ms) (bi (okF (m_is ms) (m_now ms) f)) 1 = 0)))) (mc b9 (⟨mayT (m_is ms) (bi (okF (m_is ms) (m_now ms) f)) 1, m_is ms, m_um ms, m_bd ms, m_pc ms, m_pa ms, m_sz ms, m_cu ms, m_st ms, m_tk ms, m_to ms, m_ps ms, m_now ms, m_asd ms, m_und ms, m_sav ms, m_isv ms, m_buf ms, m_grp ms, m_pag ms⟩ : MM) σ0)) A_no := by
  refine A_of rfl (by decide) (Nat.le_of_ble_eq_true rfl) (L0 := [(0, .ref b9), (1, .int f)]) rfl ?_
  refine A_aload_n (i := 0) dX2_mayFlag_0 rfl rfl ?_
  refine A_aload_n (i := 0) dX2_mayFlag_1 rfl rfl ?_
  refine M_get 6 (v := .int (m_is ms)) (Nat.le_of_ble_eq_true rfl) q2235 rfl dX2_mayFlag_2 ?_
  refine A_aload_n (i := 0) dX2_mayFlag_5 rfl rfl ?_
  refine A_iload_n (i := 1) dX2_mayFlag_6 rfl rfl ?_
  refine A_callV1E (v := some (.int (bi (okF (m_is ms) (m_now ms) f)))) (τ := mc b9 ms σ0) (c_isFlag b9 ms σ0 f) tX2_isFlag q2629 (mc_0 _ _ _) rfl rfl dX2_mayFlag_7 (by decide) (Nat.le_of_eq (Nat.zero_add _)) (Nat.le_of_ble_eq_true rfl) ?_
  refine A_callV2E (v := some (.int (bi (mayT (m_is ms) (bi (okF (m_is ms) (m_now ms) f)) 1 = 0)))) (τ := mc b9 (⟨mayT (m_is ms) (bi (okF (m_is ms) (m_now ms) f)) 1, m_is ms, m_um ms, m_bd ms, m_pc ms, m_pa ms, m_sz ms, m_cu ms, m_st ms, m_tk ms, m_to ms, m_ps ms, m_now ms, m_asd ms, m_und ms, m_sav ms, m_isv ms, m_buf ms, m_grp ms, m_pag ms⟩ : MM) σ0) (c_mayTwo b9 ms σ0 (m_is ms) (bi (okF (m_is ms) (m_now ms) f))) tX2_mayTwo q2565 (mc_0 _ _ _) rfl rfl dX2_mayFlag_10 (by decide) (Nat.le_of_eq (Nat.zero_add _)) (Nat.le_of_ble_eq_true rfl) ?_
  exact A_zret dX2_mayFlag_13 rfl (nar_bi _) ⟨rfl, rfl⟩
theorem c_mayTub {l : Launch} {g : GC} (b9 : Nat) (ms : MM) (σ0 : AH) (t : Int32)  : AMet l g mX2_mayTub 3 0 [.ref b9, .int t] (mc b9 ms σ0) (A_eq (some (.int (bi (mayT (m_is ms) (bi (okT (m_is ms) (m_now ms) t)) 1 = 0)))) (mc b9 (⟨mayT (m_is ms) (bi (okT (m_is ms) (m_now ms) t)) 1, m_is ms, m_um ms, m_bd ms, m_pc ms, m_pa ms, m_sz ms, m_cu ms, m_st ms, m_tk ms, m_to ms, m_ps ms, m_now ms, m_asd ms, m_und ms, m_sav ms, m_isv ms, m_buf ms, m_grp ms, m_pag ms⟩ : MM) σ0)) A_no := by
  refine A_of rfl (by decide) (Nat.le_of_ble_eq_true rfl) (L0 := [(0, .ref b9), (1, .int t)]) rfl ?_
  refine A_aload_n (i := 0) dX2_mayTub_0 rfl rfl ?_
  refine A_aload_n (i := 0) dX2_mayTub_1 rfl rfl ?_
  refine M_get 6 (v := .int (m_is ms)) (Nat.le_of_ble_eq_true rfl) q2235 rfl dX2_mayTub_2 ?_
  refine A_aload_n (i := 0) dX2_mayTub_5 rfl rfl ?_
  refine A_iload_n (i := 1) dX2_mayTub_6 rfl rfl ?_
  refine A_callV1E (v := some (.int (bi (okT (m_is ms) (m_now ms) t)))) (τ := mc b9 ms σ0) (c_isTub b9 ms σ0 t) tX2_isTub q2637 (mc_0 _ _ _) rfl rfl dX2_mayTub_7 (by decide) (Nat.le_of_eq (Nat.zero_add _)) (Nat.le_of_ble_eq_true rfl) ?_
  refine A_callV2E (v := some (.int (bi (mayT (m_is ms) (bi (okT (m_is ms) (m_now ms) t)) 1 = 0)))) (τ := mc b9 (⟨mayT (m_is ms) (bi (okT (m_is ms) (m_now ms) t)) 1, m_is ms, m_um ms, m_bd ms, m_pc ms, m_pa ms, m_sz ms, m_cu ms, m_st ms, m_tk ms, m_to ms, m_ps ms, m_now ms, m_asd ms, m_und ms, m_sav ms, m_isv ms, m_buf ms, m_grp ms, m_pag ms⟩ : MM) σ0) (c_mayTwo b9 ms σ0 (m_is ms) (bi (okT (m_is ms) (m_now ms) t))) tX2_mayTwo q2565 (mc_0 _ _ _) rfl rfl dX2_mayTub_10 (by decide) (Nat.le_of_eq (Nat.zero_add _)) (Nat.le_of_ble_eq_true rfl) ?_
  exact A_zret dX2_mayTub_13 rfl (nar_bi _) ⟨rfl, rfl⟩
theorem c_mayHeat {l : Launch} {g : GC} (b9 : Nat) (ms : MM) (σ0 : AH) (t : Int32) (h : Int32)  : AMet l g mX2_mayHeat 3 0 [.ref b9, .int t, .int h] (mc b9 ms σ0) (A_eq (some (.int (bi (mayT (m_is ms) (bi (okT (m_is ms) (m_now ms) t)) (bi (inR h 0 3)) = 0)))) (mc b9 (⟨mayT (m_is ms) (bi (okT (m_is ms) (m_now ms) t)) (bi (inR h 0 3)), m_is ms, m_um ms, m_bd ms, m_pc ms, m_pa ms, m_sz ms, m_cu ms, m_st ms, m_tk ms, m_to ms, m_ps ms, m_now ms, m_asd ms, m_und ms, m_sav ms, m_isv ms, m_buf ms, m_grp ms, m_pag ms⟩ : MM) σ0)) A_no := by
  refine A_of rfl (by decide) (Nat.le_of_ble_eq_true rfl) (L0 := [(0, .ref b9), (1, .int t), (2, .int h)]) rfl ?_
  refine A_aload_n (i := 0) dX2_mayHeat_0 rfl rfl ?_
  refine A_aload_n (i := 0) dX2_mayHeat_1 rfl rfl ?_
  refine M_get 6 (v := .int (m_is ms)) (Nat.le_of_ble_eq_true rfl) q2235 rfl dX2_mayHeat_2 ?_
  refine A_aload_n (i := 0) dX2_mayHeat_5 rfl rfl ?_
  refine A_iload_n (i := 1) dX2_mayHeat_6 rfl rfl ?_
  refine A_callV1E (v := some (.int (bi (okT (m_is ms) (m_now ms) t)))) (τ := mc b9 ms σ0) (c_isTub b9 ms σ0 t) tX2_isTub q2637 (mc_0 _ _ _) rfl rfl dX2_mayHeat_7 (by decide) (Nat.le_of_eq (Nat.zero_add _)) (Nat.le_of_ble_eq_true rfl) ?_
  refine A_iload_n (i := 2) dX2_mayHeat_10 rfl rfl ?_
  refine A_callS1E (v := some (.int (bi (inR h 0 3)))) (τ := mc b9 ms σ0) (c_isHeat b9 ms σ0 h) tX2_isHeat q2714 dX2_mayHeat_11 (by decide) (Nat.le_of_eq (Nat.zero_add _)) (Nat.le_of_ble_eq_true rfl) ?_
  refine A_callV3E (v := some (.int (bi (mayT (m_is ms) (bi (okT (m_is ms) (m_now ms) t)) (bi (inR h 0 3)) = 0)))) (τ := mc b9 (⟨mayT (m_is ms) (bi (okT (m_is ms) (m_now ms) t)) (bi (inR h 0 3)), m_is ms, m_um ms, m_bd ms, m_pc ms, m_pa ms, m_sz ms, m_cu ms, m_st ms, m_tk ms, m_to ms, m_ps ms, m_now ms, m_asd ms, m_und ms, m_sav ms, m_isv ms, m_buf ms, m_grp ms, m_pag ms⟩ : MM) σ0) (c_may b9 ms σ0 (m_is ms) (bi (okT (m_is ms) (m_now ms) t)) (bi (inR h 0 3))) tX2_may q2322 (mc_0 _ _ _) rfl rfl dX2_mayHeat_14 (by decide) (Nat.le_of_eq (Nat.zero_add _)) (Nat.le_of_ble_eq_true rfl) ?_
  exact A_zret dX2_mayHeat_17 rfl (nar_bi _) ⟨rfl, rfl⟩
