/-! THE MODEL 2: sums, searches, what the methods answer -/
theorem i_ne {x k : Int32} {z : Int} (h : ¬ x = k) (hz : k.toInt = z) : x.toInt ≠ z := fun e => h (Int32.toInt_inj.mp (e.trans hz.symm))
def mx (x y : Int32) : Int32 := if x < y then y else x
def mn (x y : Int32) : Int32 := if y < x then y else x
def ab (x : Int32) : Int32 := if 0 ≤ x then x else 0 - x
def sm (g : Nat → Int32) : Nat → Int32
  | 0 => 0
  | n + 1 => sm g n + g n
def orF (g : Nat → Int32) : Nat → Int32
  | 0 => 0
  | n + 1 => orF g n ||| g n
theorem sm_s (g : Nat → Int32) (n : Nat) : sm g (n + 1) = sm g n + g n := rfl
theorem or_s (g : Nat → Int32) (n : Nat) : orF g (n + 1) = orF g n ||| g n := rfl
/-- the first of k places from i on where p holds, or -1 -/
def fsr (p : Nat → Prop) [DecidablePred p] (i : Nat) : Nat → Int32
  | 0 => -1
  | k + 1 => if p i then nI i else fsr p (i + 1) k
theorem fsr_s (p : Nat → Prop) [DecidablePred p] {i n : Nat} (h : i < n) : fsr p i (n - i) = if p i then nI i else fsr p (i + 1) (n - (i + 1)) := by
  rw [show n - i = (n - (i + 1)) + 1 by omega]
  rfl
theorem fsr_e (p : Nat → Prop) [DecidablePred p] (n : Nat) : fsr p n (n - n) = -1 := by
  rw [Nat.sub_self]
  rfl
theorem ix_nI {n : Nat} (h : n < 12) : (nI n).toNatClampNeg = n := nI_clamp (by omega)
def apI (N : AF) (f r : Nat) : Int32 := if r = 1 then bi (fl N f 8 = 3) else if r = 2 then bi (fl N f 8 = 1) else if r = 3 then bi (fl N f 8 = 2) else if r = 4 then bi (¬ fl N f 3 ≤ 0) else if r = 5 then bi (¬ fl N f 6 = 0) else if r = 6 then bi (¬ fl N f 4 ≤ 0) else bi (¬ fl N f 5 ≤ 0)
def whyN (N : AF) (f : Nat) : Int32 := if fl N f 8 = 3 then 1 else if fl N f 8 = 1 then 2 else if fl N f 8 = 2 then 3 else if ¬ fl N f 3 ≤ 0 then 4 else if ¬ fl N f 6 = 0 then 5 else if ¬ fl N f 4 ≤ 0 then 6 else if ¬ fl N f 5 ≤ 0 then 7 else 0
def manyT (N : AF) (t : Int32) : Int32 := sm (fun f => bi (inTub N f t)) (nF N)
def whyPutN (N : AF) (f t : Nat) : Int32 := if inBasket N f then (if N (38 + t) ≤ manyT N (nI t) then 2 else 0) else 1
def putIn (N : AF) (f : Nat) (t : Int32) : AF := va_up (setFl (goTo N f 1 t) f 10 (goTo N f 1 t 11)) 11 (setFl (goTo N f 1 t) f 10 (goTo N f 1 t 11) 11 + 1)
def lcF (N : AF) (t : Int32) : Nat → Int32
  | 0 => 3
  | n + 1 => if inTub N n t then mn (lcF N t n) (fl N n 2) else lcF N t n
theorem lcF_s (N : AF) (t : Int32) (n : Nat) : lcF N t (n + 1) = if inTub N n t then mn (lcF N t n) (fl N n 2) else lcF N t n := rfl
def leastN (N : AF) (t : Int32) : Int32 := lcF N t (nF N)
def whyWashN (N : AF) (t h : Int32) : Int32 := if manyT N t = 0 then 1 else if leastN N t < h then 2 else 0
def runOf (N : AF) (c h : Int32) : Int32 := orF (fun k => bi (hasB c (nI k) ∧ ¬ h < N (12 + k)) <<< (nI k &&& 31)) (nC N)
def runFrom (N : AF) (f : Nat) (h : Int32) : Int32 := runOf N (fl N f 1 ||| fl N f 6) h
def runIn (N : AF) (t h : Int32) : Int32 := orF (fun f => if inTub N f t then runFrom N f h else 0) (nF N)
def newS (N : AF) (f : Nat) (r : Int32) : Int32 := ((r &&& (fl N f 1 ^^^ (-1))) &&& (fl N f 6 ^^^ (-1)))
def stainBy (N : AF) (t h : Int32) : Int32 := sm (fun f => bi (inTub N f t ∧ ¬ newS N f (runIn N t h) = 0)) (nF N)
def dirtB (N : AF) (f : Nat) (h : Int32) : Int32 := mx 0 ((fl N f 3 - 1) - (2 * h))
def dirtBy (N : AF) (t h : Int32) : Int32 := sm (fun f => if inTub N f t then dirtB N f h else 0) (nF N)
def wa1 (N : AF) (f : Nat) (r : Int32) : AF := setFl N f 6 (fl N f 6 ||| newS N f r)
def wa2 (N : AF) (f : Nat) (r h : Int32) : AF := setFl (wa1 N f r) f 3 (dirtB (wa1 N f r) f h)
def wa3 (N : AF) (f : Nat) (r h : Int32) : AF := setFl (wa2 N f r h) f 4 9
def wa4 (N : AF) (f : Nat) (r h : Int32) : AF := setFl (wa3 N f r h) f 5 (mn 9 ((fl (wa3 N f r h) f 5 + 1) + h))
def washF (N : AF) (f : Nat) (r h : Int32) : AF := goTo (wa4 N f r h) f 0 (-1)
def wsh (N : AF) (t r h : Int32) : Nat → AF
  | 0 => N
  | n + 1 => if inTub (wsh N t r h n) n t then washF (wsh N t r h n) n r h else wsh N t r h n
theorem wsh_s (N : AF) (t r h : Int32) (n : Nat) : wsh N t r h (n + 1) = if inTub (wsh N t r h n) n t then washF (wsh N t r h n) n r h else wsh N t r h n := rfl
def washN (N : AF) (t h : Int32) : AF := va_up (wsh N t (runIn N t h) h (nF N)) 4 (wsh N t (runIn N t h) h (nF N) 4 + 1)
/-- the numbers below the flags are as they were -/
def hdr (A N : AF) : Prop := ∀ j, j < 41 → A j = N j
theorem hdr.rf {N : AF} : hdr N N := fun _ _ => rfl
theorem hdr.tr {A B N : AF} (h : hdr A B) (k : hdr B N) : hdr A N := fun j hj => (h j hj).trans (k j hj)
theorem hdr_set (N : AF) (f k : Nat) (v : Int32) : hdr (setFl N f k v) N := fun j hj => by
  unfold setFl va_up
  exact if_neg (by omega)
theorem hdr_goTo (N : AF) (f : Nat) (w a : Int32) : hdr (goTo N f w a) N := (hdr_set _ _ _ _).tr (hdr_set _ _ _ _)
theorem hdr_wash (N : AF) (f : Nat) (r h : Int32) : hdr (washF N f r h) N := (hdr_goTo _ _ _ _).tr ((hdr_set _ _ _ _).tr ((hdr_set _ _ _ _).tr ((hdr_set _ _ _ _).tr (hdr_set _ _ _ _))))
theorem hdr_wsh (N : AF) (t r h : Int32) : ∀ n, hdr (wsh N t r h n) N
  | 0 => hdr.rf
  | n + 1 => by
    rw [wsh_s]
    split
    · exact (hdr_wash _ _ _ _).tr (hdr_wsh N t r h n)
    · exact hdr_wsh N t r h n
theorem hdr.wf {A N : AF} (h : hdr A N) (w : WFc N) : WFc A := by
  unfold WFc nC nN nT nP nF at *
  rw [h 6 (by omega), h 7 (by omega), h 8 (by omega), h 9 (by omega), h 10 (by omega)]
  exact w
theorem hdr.nFe {A N : AF} (h : hdr A N) : nF A = nF N := by unfold nF; rw [h 10 (by omega)]
theorem hdr.eqF {A N : AF} (h : hdr A N) (w : WFc N) : A 10 = nI (nF N) := by rw [h 10 (by omega)]; exact w.2.2.2.2.1
def flagOnN (N : AF) (p : Int32) : Int32 := fsr (fun f => fl N f 8 = 2 ∧ fl N f 9 = p) 0 (nF N)
def freeN (N : AF) : Int32 := fsr (fun p => flagOnN N (nI p) = -1) 0 (nP N)
abbrev canHangN (N : AF) (f : Nat) : Prop := inBasket N f ∧ ¬ freeN N = -1
def lastF (N : AF) : Nat → Int32
  | 0 => -1
  | k + 1 => if flagOnN N (nI k) = -1 then lastF N k else flagOnN N (nI k)
theorem lastF_s (N : AF) (k : Nat) : lastF N (k + 1) = if flagOnN N (nI k) = -1 then lastF N k else flagOnN N (nI k) := rfl
def lastN (N : AF) : Int32 := lastF N (nP N)
theorem fsr_in {p : Nat → Prop} [DecidablePred p] : ∀ (k i : Nat), fsr p i k = -1 ∨ ∃ j, i ≤ j ∧ j < i + k ∧ fsr p i k = nI j ∧ p j
  | 0, i => Or.inl rfl
  | k + 1, i => by
    unfold fsr
    split
    · exact Or.inr ⟨i, Nat.le_refl _, by omega, rfl, by assumption⟩
    · rcases fsr_in (p := p) k (i + 1) with h | ⟨j, a, b, c, d⟩
      · exact Or.inl h
      · exact Or.inr ⟨j, by omega, by omega, c, d⟩
theorem flagOn_in (N : AF) (p : Int32) : flagOnN N p = -1 ∨ ∃ j, j < nF N ∧ flagOnN N p = nI j := by
  rcases fsr_in (p := fun f => fl N f 8 = 2 ∧ fl N f 9 = p) (nF N) 0 with h | ⟨j, a, b, c, d⟩
  · exact Or.inl h
  · exact Or.inr ⟨j, by omega, c⟩
theorem lastF_in (N : AF) : ∀ k, lastF N k = -1 ∨ ∃ j, j < nF N ∧ lastF N k = nI j
  | 0 => Or.inl rfl
  | k + 1 => by
    rw [lastF_s]
    split
    · exact lastF_in N k
    · rcases flagOn_in N (nI k) with h | h
      · contradiction
      · exact Or.inr h
theorem c_applies {l : Launch} {g : GC} (b9 : Nat) (ms : MM) (σ0 : AH) (r f : Nat) (h1 : f < 12) (h2 : 1 ≤ r ∧ r ≤ 7) : AMet l g mX2_applies 3 0 [.ref b9, .int (nI r), .int (nI f)] (mc b9 ms σ0) (A_eq (some (.int (apI (m_now ms) f r))) (mc b9 ms σ0)) A_no := by
  refine A_of rfl (by decide) (Nat.le_of_ble_eq_true rfl) (L0 := [(0, .ref b9), (1, .int (nI r)), (2, .int (nI f))]) rfl ?_
  rcases (show r = 1 ∨ r = 2 ∨ r = 3 ∨ r = 4 ∨ r = 5 ∨ r = 6 ∨ r = 7 by omega) with rfl | rfl | rfl | rfl | rfl | rfl | rfl
  · refine A_iload_n (i := 1) dX2_applies_0 rfl rfl ?_
    refine A_tableIn (tgt := 40) dX2_applies_1 (by decide) (by decide) rfl (by decide) ?_
    refine A_aload_n (i := 0) dX2_applies_40 rfl rfl ?_
    refine A_iload_n (i := 2) dX2_applies_41 rfl rfl ?_
    refine A_callV1E (v := some (.int (fl (m_now ms) f 8))) (τ := mc b9 ms σ0) (c_where b9 ms σ0 f (by first | assumption | omega)) tX2_where q2440 (mc_0 _ _ _) rfl rfl dX2_applies_42 (by decide) (Nat.le_of_eq (Nat.zero_add _)) (Nat.le_of_ble_eq_true rfl) ?_
    refine A_iconst (v := 3) dX2_applies_45 (by decide) ?_
    refine A_icmp_ne (tgt := 53) dX2_applies_46 (by decide) (fun c1 => ?_) (fun c1 => ?_)
    · skip
      refine A_iconst (v := 0) dX2_applies_53 (by decide) ?_
      exact A_zret dX2_applies_54 rfl (rfl) ⟨by simp [-Int32.not_lt, -Int32.not_le, apI, bi, c1], rfl⟩
    · skip
      refine A_iconst (v := 1) dX2_applies_49 (by decide) ?_
      refine A_goto (tgt := 54) dX2_applies_50 (by decide) ?_
      exact A_zret dX2_applies_54 rfl (rfl) ⟨by simp [-Int32.not_lt, -Int32.not_le, apI, bi, c1], rfl⟩
  · refine A_iload_n (i := 1) dX2_applies_0 rfl rfl ?_
    refine A_tableIn (tgt := 55) dX2_applies_1 (by decide) (by decide) rfl (by decide) ?_
    refine A_aload_n (i := 0) dX2_applies_55 rfl rfl ?_
    refine A_iload_n (i := 2) dX2_applies_56 rfl rfl ?_
    refine A_callV1E (v := some (.int (fl (m_now ms) f 8))) (τ := mc b9 ms σ0) (c_where b9 ms σ0 f (by first | assumption | omega)) tX2_where q2440 (mc_0 _ _ _) rfl rfl dX2_applies_57 (by decide) (Nat.le_of_eq (Nat.zero_add _)) (Nat.le_of_ble_eq_true rfl) ?_
    refine A_iconst (v := 1) dX2_applies_60 (by decide) ?_
    refine A_icmp_ne (tgt := 68) dX2_applies_61 (by decide) (fun c1 => ?_) (fun c1 => ?_)
    · skip
      refine A_iconst (v := 0) dX2_applies_68 (by decide) ?_
      exact A_zret dX2_applies_69 rfl (rfl) ⟨by simp [-Int32.not_lt, -Int32.not_le, apI, bi, c1], rfl⟩
    · skip
      refine A_iconst (v := 1) dX2_applies_64 (by decide) ?_
      refine A_goto (tgt := 69) dX2_applies_65 (by decide) ?_
      exact A_zret dX2_applies_69 rfl (rfl) ⟨by simp [-Int32.not_lt, -Int32.not_le, apI, bi, c1], rfl⟩
  · refine A_iload_n (i := 1) dX2_applies_0 rfl rfl ?_
    refine A_tableIn (tgt := 70) dX2_applies_1 (by decide) (by decide) rfl (by decide) ?_
    refine A_aload_n (i := 0) dX2_applies_70 rfl rfl ?_
    refine A_iload_n (i := 2) dX2_applies_71 rfl rfl ?_
    refine A_callV1E (v := some (.int (fl (m_now ms) f 8))) (τ := mc b9 ms σ0) (c_where b9 ms σ0 f (by first | assumption | omega)) tX2_where q2440 (mc_0 _ _ _) rfl rfl dX2_applies_72 (by decide) (Nat.le_of_eq (Nat.zero_add _)) (Nat.le_of_ble_eq_true rfl) ?_
    refine A_iconst (v := 2) dX2_applies_75 (by decide) ?_
    refine A_icmp_ne (tgt := 83) dX2_applies_76 (by decide) (fun c1 => ?_) (fun c1 => ?_)
    · skip
      refine A_iconst (v := 0) dX2_applies_83 (by decide) ?_
      exact A_zret dX2_applies_84 rfl (rfl) ⟨by simp [-Int32.not_lt, -Int32.not_le, apI, bi, c1], rfl⟩
    · skip
      refine A_iconst (v := 1) dX2_applies_79 (by decide) ?_
      refine A_goto (tgt := 84) dX2_applies_80 (by decide) ?_
      exact A_zret dX2_applies_84 rfl (rfl) ⟨by simp [-Int32.not_lt, -Int32.not_le, apI, bi, c1], rfl⟩
  · refine A_iload_n (i := 1) dX2_applies_0 rfl rfl ?_
    refine A_tableIn (tgt := 85) dX2_applies_1 (by decide) (by decide) rfl (by decide) ?_
    refine A_aload_n (i := 0) dX2_applies_85 rfl rfl ?_
    refine A_iload_n (i := 2) dX2_applies_86 rfl rfl ?_
    refine A_iconst (v := 3) dX2_applies_87 (by decide) ?_
    refine A_callV2E (v := some (.int (fl (m_now ms) f 3))) (τ := mc b9 ms σ0) (c_ofFlag b9 ms σ0 f 3 (by first | assumption | omega) (by first | assumption | omega)) tX2_ofFlag q2444 (mc_0 _ _ _) rfl rfl dX2_applies_88 (by decide) (Nat.le_of_eq (Nat.zero_add _)) (Nat.le_of_ble_eq_true rfl) ?_
    refine A_if_le (tgt := 98) dX2_applies_91 (by decide) (fun c1 => ?_) (fun c1 => ?_)
    · skip
      refine A_iconst (v := 0) dX2_applies_98 (by decide) ?_
      exact A_zret dX2_applies_99 rfl (rfl) ⟨by simp [-Int32.not_lt, -Int32.not_le, apI, bi, c1], rfl⟩
    · skip
      refine A_iconst (v := 1) dX2_applies_94 (by decide) ?_
      refine A_goto (tgt := 99) dX2_applies_95 (by decide) ?_
      exact A_zret dX2_applies_99 rfl (rfl) ⟨by simp [-Int32.not_lt, -Int32.not_le, apI, bi, c1], rfl⟩
  · refine A_iload_n (i := 1) dX2_applies_0 rfl rfl ?_
    refine A_tableIn (tgt := 100) dX2_applies_1 (by decide) (by decide) rfl (by decide) ?_
    refine A_aload_n (i := 0) dX2_applies_100 rfl rfl ?_
    refine A_iload_n (i := 2) dX2_applies_101 rfl rfl ?_
    refine A_bipush (v := 6) dX2_applies_102 (by decide) ?_
    refine A_callV2E (v := some (.int (fl (m_now ms) f 6))) (τ := mc b9 ms σ0) (c_ofFlag b9 ms σ0 f 6 (by first | assumption | omega) (by first | assumption | omega)) tX2_ofFlag q2444 (mc_0 _ _ _) rfl rfl dX2_applies_104 (by decide) (Nat.le_of_eq (Nat.zero_add _)) (Nat.le_of_ble_eq_true rfl) ?_
    refine A_if_eq (tgt := 114) dX2_applies_107 (by decide) (fun c1 => ?_) (fun c1 => ?_)
    · skip
      refine A_iconst (v := 0) dX2_applies_114 (by decide) ?_
      exact A_zret dX2_applies_115 rfl (rfl) ⟨by simp [-Int32.not_lt, -Int32.not_le, apI, bi, c1], rfl⟩
    · skip
      refine A_iconst (v := 1) dX2_applies_110 (by decide) ?_
      refine A_goto (tgt := 115) dX2_applies_111 (by decide) ?_
      exact A_zret dX2_applies_115 rfl (rfl) ⟨by simp [-Int32.not_lt, -Int32.not_le, apI, bi, c1], rfl⟩
  · refine A_iload_n (i := 1) dX2_applies_0 rfl rfl ?_
    refine A_tableIn (tgt := 116) dX2_applies_1 (by decide) (by decide) rfl (by decide) ?_
    refine A_aload_n (i := 0) dX2_applies_116 rfl rfl ?_
    refine A_iload_n (i := 2) dX2_applies_117 rfl rfl ?_
    refine A_iconst (v := 4) dX2_applies_118 (by decide) ?_
    refine A_callV2E (v := some (.int (fl (m_now ms) f 4))) (τ := mc b9 ms σ0) (c_ofFlag b9 ms σ0 f 4 (by first | assumption | omega) (by first | assumption | omega)) tX2_ofFlag q2444 (mc_0 _ _ _) rfl rfl dX2_applies_119 (by decide) (Nat.le_of_eq (Nat.zero_add _)) (Nat.le_of_ble_eq_true rfl) ?_
    refine A_if_le (tgt := 129) dX2_applies_122 (by decide) (fun c1 => ?_) (fun c1 => ?_)
    · skip
      refine A_iconst (v := 0) dX2_applies_129 (by decide) ?_
      exact A_zret dX2_applies_130 rfl (rfl) ⟨by simp [-Int32.not_lt, -Int32.not_le, apI, bi, c1], rfl⟩
    · skip
      refine A_iconst (v := 1) dX2_applies_125 (by decide) ?_
      refine A_goto (tgt := 130) dX2_applies_126 (by decide) ?_
      exact A_zret dX2_applies_130 rfl (rfl) ⟨by simp [-Int32.not_lt, -Int32.not_le, apI, bi, c1], rfl⟩
  · refine A_iload_n (i := 1) dX2_applies_0 rfl rfl ?_
    refine A_tableOut (tgt := 131) dX2_applies_1 (by decide) (by decide) ?_
    refine A_aload_n (i := 0) dX2_applies_131 rfl rfl ?_
    refine A_iload_n (i := 2) dX2_applies_132 rfl rfl ?_
    refine A_iconst (v := 5) dX2_applies_133 (by decide) ?_
    refine A_callV2E (v := some (.int (fl (m_now ms) f 5))) (τ := mc b9 ms σ0) (c_ofFlag b9 ms σ0 f 5 (by first | assumption | omega) (by first | assumption | omega)) tX2_ofFlag q2444 (mc_0 _ _ _) rfl rfl dX2_applies_134 (by decide) (Nat.le_of_eq (Nat.zero_add _)) (Nat.le_of_ble_eq_true rfl) ?_
    refine A_if_le (tgt := 144) dX2_applies_137 (by decide) (fun c1 => ?_) (fun c1 => ?_)
    · skip
      refine A_iconst (v := 0) dX2_applies_144 (by decide) ?_
      exact A_zret dX2_applies_145 rfl (rfl) ⟨by simp [-Int32.not_lt, -Int32.not_le, apI, bi, c1], rfl⟩
    · skip
      refine A_iconst (v := 1) dX2_applies_140 (by decide) ?_
      refine A_goto (tgt := 145) dX2_applies_141 (by decide) ?_
      exact A_zret dX2_applies_145 rfl (rfl) ⟨by simp [-Int32.not_lt, -Int32.not_le, apI, bi, c1], rfl⟩
theorem c_whyNotReady {l : Launch} {g : GC} (b9 : Nat) (ms : MM) (σ0 : AH) (f : Nat) (h1 : f < 12) : AMet l g mX2_whyNotReady 4 0 [.ref b9, .int (nI f)] (mc b9 ms σ0) (A_eq (some (.int (whyN (m_now ms) f))) (mc b9 ms σ0)) A_no := by
  refine A_of rfl (by decide) (Nat.le_of_ble_eq_true rfl) (L0 := [(0, .ref b9), (1, .int (nI f))]) rfl ?_
  refine A_iconst (v := 1) dX2_whyNotReady_0 (by decide) ?_
  refine A_istore_n (i := 2) dX2_whyNotReady_1 rfl (Nat.le_of_ble_eq_true rfl) ?_
  refine A_iload_n (i := 2) dX2_whyNotReady_2 rfl rfl ?_
  refine A_bipush (v := 7) dX2_whyNotReady_3 (by decide) ?_
  refine A_icmp_gt_f (tgt := 25) dX2_whyNotReady_5 (by decide) (by decide) ?_
  refine A_aload_n (i := 0) dX2_whyNotReady_8 rfl rfl ?_
  refine A_iload_n (i := 2) dX2_whyNotReady_9 rfl rfl ?_
  refine A_iload_n (i := 1) dX2_whyNotReady_10 rfl rfl ?_
  refine A_callV2E (v := some (.int (apI (m_now ms) f 1))) (τ := mc b9 ms σ0) (c_applies b9 ms σ0 1 f (by first | assumption | omega) (by decide)) tX2_applies q2577 (mc_0 _ _ _) rfl rfl dX2_whyNotReady_11 (by decide) (Nat.le_of_eq (Nat.zero_add _)) (Nat.le_of_ble_eq_true rfl) ?_
  refine A_if_eq (tgt := 19) dX2_whyNotReady_14 (by decide) (fun c1 => ?_) (fun c1 => ?_)
  · skip
    refine A_iinc (v := 2) dX2_whyNotReady_19 rfl (by decide) (Nat.le_of_ble_eq_true rfl) ?_
    refine A_goto (tgt := 2) dX2_whyNotReady_22 (by decide) ?_
    refine A_sub (L' := [(0, .ref b9), (1, .int (nI f)), (2, .int 2)]) ⟨rfl, rfl, rfl, trivial⟩ ?_
    refine A_iload_n (i := 2) dX2_whyNotReady_2 rfl rfl ?_
    refine A_bipush (v := 7) dX2_whyNotReady_3 (by decide) ?_
    refine A_icmp_gt_f (tgt := 25) dX2_whyNotReady_5 (by decide) (by decide) ?_
    refine A_aload_n (i := 0) dX2_whyNotReady_8 rfl rfl ?_
    refine A_iload_n (i := 2) dX2_whyNotReady_9 rfl rfl ?_
    refine A_iload_n (i := 1) dX2_whyNotReady_10 rfl rfl ?_
    refine A_callV2E (v := some (.int (apI (m_now ms) f 2))) (τ := mc b9 ms σ0) (c_applies b9 ms σ0 2 f (by first | assumption | omega) (by decide)) tX2_applies q2577 (mc_0 _ _ _) rfl rfl dX2_whyNotReady_11 (by decide) (Nat.le_of_eq (Nat.zero_add _)) (Nat.le_of_ble_eq_true rfl) ?_
    refine A_if_eq (tgt := 19) dX2_whyNotReady_14 (by decide) (fun c2 => ?_) (fun c2 => ?_)
    · skip
      refine A_iinc (v := 3) dX2_whyNotReady_19 rfl (by decide) (Nat.le_of_ble_eq_true rfl) ?_
      refine A_goto (tgt := 2) dX2_whyNotReady_22 (by decide) ?_
      refine A_sub (L' := [(0, .ref b9), (1, .int (nI f)), (2, .int 3)]) ⟨rfl, rfl, rfl, trivial⟩ ?_
      refine A_iload_n (i := 2) dX2_whyNotReady_2 rfl rfl ?_
      refine A_bipush (v := 7) dX2_whyNotReady_3 (by decide) ?_
      refine A_icmp_gt_f (tgt := 25) dX2_whyNotReady_5 (by decide) (by decide) ?_
      refine A_aload_n (i := 0) dX2_whyNotReady_8 rfl rfl ?_
      refine A_iload_n (i := 2) dX2_whyNotReady_9 rfl rfl ?_
      refine A_iload_n (i := 1) dX2_whyNotReady_10 rfl rfl ?_
      refine A_callV2E (v := some (.int (apI (m_now ms) f 3))) (τ := mc b9 ms σ0) (c_applies b9 ms σ0 3 f (by first | assumption | omega) (by decide)) tX2_applies q2577 (mc_0 _ _ _) rfl rfl dX2_whyNotReady_11 (by decide) (Nat.le_of_eq (Nat.zero_add _)) (Nat.le_of_ble_eq_true rfl) ?_
      refine A_if_eq (tgt := 19) dX2_whyNotReady_14 (by decide) (fun c3 => ?_) (fun c3 => ?_)
      · skip
        refine A_iinc (v := 4) dX2_whyNotReady_19 rfl (by decide) (Nat.le_of_ble_eq_true rfl) ?_
        refine A_goto (tgt := 2) dX2_whyNotReady_22 (by decide) ?_
        refine A_sub (L' := [(0, .ref b9), (1, .int (nI f)), (2, .int 4)]) ⟨rfl, rfl, rfl, trivial⟩ ?_
        refine A_iload_n (i := 2) dX2_whyNotReady_2 rfl rfl ?_
        refine A_bipush (v := 7) dX2_whyNotReady_3 (by decide) ?_
        refine A_icmp_gt_f (tgt := 25) dX2_whyNotReady_5 (by decide) (by decide) ?_
        refine A_aload_n (i := 0) dX2_whyNotReady_8 rfl rfl ?_
        refine A_iload_n (i := 2) dX2_whyNotReady_9 rfl rfl ?_
        refine A_iload_n (i := 1) dX2_whyNotReady_10 rfl rfl ?_
        refine A_callV2E (v := some (.int (apI (m_now ms) f 4))) (τ := mc b9 ms σ0) (c_applies b9 ms σ0 4 f (by first | assumption | omega) (by decide)) tX2_applies q2577 (mc_0 _ _ _) rfl rfl dX2_whyNotReady_11 (by decide) (Nat.le_of_eq (Nat.zero_add _)) (Nat.le_of_ble_eq_true rfl) ?_
        refine A_if_eq (tgt := 19) dX2_whyNotReady_14 (by decide) (fun c4 => ?_) (fun c4 => ?_)
        · skip
          refine A_iinc (v := 5) dX2_whyNotReady_19 rfl (by decide) (Nat.le_of_ble_eq_true rfl) ?_
          refine A_goto (tgt := 2) dX2_whyNotReady_22 (by decide) ?_
          refine A_sub (L' := [(0, .ref b9), (1, .int (nI f)), (2, .int 5)]) ⟨rfl, rfl, rfl, trivial⟩ ?_
          refine A_iload_n (i := 2) dX2_whyNotReady_2 rfl rfl ?_
          refine A_bipush (v := 7) dX2_whyNotReady_3 (by decide) ?_
          refine A_icmp_gt_f (tgt := 25) dX2_whyNotReady_5 (by decide) (by decide) ?_
          refine A_aload_n (i := 0) dX2_whyNotReady_8 rfl rfl ?_
          refine A_iload_n (i := 2) dX2_whyNotReady_9 rfl rfl ?_
          refine A_iload_n (i := 1) dX2_whyNotReady_10 rfl rfl ?_
          refine A_callV2E (v := some (.int (apI (m_now ms) f 5))) (τ := mc b9 ms σ0) (c_applies b9 ms σ0 5 f (by first | assumption | omega) (by decide)) tX2_applies q2577 (mc_0 _ _ _) rfl rfl dX2_whyNotReady_11 (by decide) (Nat.le_of_eq (Nat.zero_add _)) (Nat.le_of_ble_eq_true rfl) ?_
          refine A_if_eq (tgt := 19) dX2_whyNotReady_14 (by decide) (fun c5 => ?_) (fun c5 => ?_)
          · skip
            refine A_iinc (v := 6) dX2_whyNotReady_19 rfl (by decide) (Nat.le_of_ble_eq_true rfl) ?_
            refine A_goto (tgt := 2) dX2_whyNotReady_22 (by decide) ?_
            refine A_sub (L' := [(0, .ref b9), (1, .int (nI f)), (2, .int 6)]) ⟨rfl, rfl, rfl, trivial⟩ ?_
            refine A_iload_n (i := 2) dX2_whyNotReady_2 rfl rfl ?_
            refine A_bipush (v := 7) dX2_whyNotReady_3 (by decide) ?_
            refine A_icmp_gt_f (tgt := 25) dX2_whyNotReady_5 (by decide) (by decide) ?_
            refine A_aload_n (i := 0) dX2_whyNotReady_8 rfl rfl ?_
            refine A_iload_n (i := 2) dX2_whyNotReady_9 rfl rfl ?_
            refine A_iload_n (i := 1) dX2_whyNotReady_10 rfl rfl ?_
            refine A_callV2E (v := some (.int (apI (m_now ms) f 6))) (τ := mc b9 ms σ0) (c_applies b9 ms σ0 6 f (by first | assumption | omega) (by decide)) tX2_applies q2577 (mc_0 _ _ _) rfl rfl dX2_whyNotReady_11 (by decide) (Nat.le_of_eq (Nat.zero_add _)) (Nat.le_of_ble_eq_true rfl) ?_
            refine A_if_eq (tgt := 19) dX2_whyNotReady_14 (by decide) (fun c6 => ?_) (fun c6 => ?_)
            · skip
              refine A_iinc (v := 7) dX2_whyNotReady_19 rfl (by decide) (Nat.le_of_ble_eq_true rfl) ?_
              refine A_goto (tgt := 2) dX2_whyNotReady_22 (by decide) ?_
              refine A_sub (L' := [(0, .ref b9), (1, .int (nI f)), (2, .int 7)]) ⟨rfl, rfl, rfl, trivial⟩ ?_
              refine A_iload_n (i := 2) dX2_whyNotReady_2 rfl rfl ?_
              refine A_bipush (v := 7) dX2_whyNotReady_3 (by decide) ?_
              refine A_icmp_gt_f (tgt := 25) dX2_whyNotReady_5 (by decide) (by decide) ?_
              refine A_aload_n (i := 0) dX2_whyNotReady_8 rfl rfl ?_
              refine A_iload_n (i := 2) dX2_whyNotReady_9 rfl rfl ?_
              refine A_iload_n (i := 1) dX2_whyNotReady_10 rfl rfl ?_
              refine A_callV2E (v := some (.int (apI (m_now ms) f 7))) (τ := mc b9 ms σ0) (c_applies b9 ms σ0 7 f (by first | assumption | omega) (by decide)) tX2_applies q2577 (mc_0 _ _ _) rfl rfl dX2_whyNotReady_11 (by decide) (Nat.le_of_eq (Nat.zero_add _)) (Nat.le_of_ble_eq_true rfl) ?_
              refine A_if_eq (tgt := 19) dX2_whyNotReady_14 (by decide) (fun c7 => ?_) (fun c7 => ?_)
              · skip
                refine A_iinc (v := 8) dX2_whyNotReady_19 rfl (by decide) (Nat.le_of_ble_eq_true rfl) ?_
                refine A_goto (tgt := 2) dX2_whyNotReady_22 (by decide) ?_
                refine A_sub (L' := [(0, .ref b9), (1, .int (nI f)), (2, .int 8)]) ⟨rfl, rfl, rfl, trivial⟩ ?_
                refine A_iload_n (i := 2) dX2_whyNotReady_2 rfl rfl ?_
                refine A_bipush (v := 7) dX2_whyNotReady_3 (by decide) ?_
                refine A_icmp_gt_t (tgt := 25) dX2_whyNotReady_5 (by decide) (by decide) ?_
                refine A_iconst (v := 0) dX2_whyNotReady_25 (by decide) ?_
                exact A_iret dX2_whyNotReady_26 rfl ⟨by simp [apI, bi, -Int32.not_lt, -Int32.not_le] at c1 c2 c3 c4 c5 c6 c7; simp [whyN, -Int32.not_lt, -Int32.not_le, *], rfl⟩
              · skip
                refine A_iload_n (i := 2) dX2_whyNotReady_17 rfl rfl ?_
                exact A_iret dX2_whyNotReady_18 rfl ⟨by simp [apI, bi, -Int32.not_lt, -Int32.not_le] at c1 c2 c3 c4 c5 c6 c7; simp [whyN, -Int32.not_lt, -Int32.not_le, *], rfl⟩
            · skip
              refine A_iload_n (i := 2) dX2_whyNotReady_17 rfl rfl ?_
              exact A_iret dX2_whyNotReady_18 rfl ⟨by simp [apI, bi, -Int32.not_lt, -Int32.not_le] at c1 c2 c3 c4 c5 c6; simp [whyN, -Int32.not_lt, -Int32.not_le, *], rfl⟩
          · skip
            refine A_iload_n (i := 2) dX2_whyNotReady_17 rfl rfl ?_
            exact A_iret dX2_whyNotReady_18 rfl ⟨by simp [apI, bi, -Int32.not_lt, -Int32.not_le] at c1 c2 c3 c4 c5; simp [whyN, -Int32.not_lt, -Int32.not_le, *], rfl⟩
        · skip
          refine A_iload_n (i := 2) dX2_whyNotReady_17 rfl rfl ?_
          exact A_iret dX2_whyNotReady_18 rfl ⟨by simp [apI, bi, -Int32.not_lt, -Int32.not_le] at c1 c2 c3 c4; simp [whyN, -Int32.not_lt, -Int32.not_le, *], rfl⟩
      · skip
        refine A_iload_n (i := 2) dX2_whyNotReady_17 rfl rfl ?_
        exact A_iret dX2_whyNotReady_18 rfl ⟨by simp [apI, bi, -Int32.not_lt, -Int32.not_le] at c1 c2 c3; simp [whyN, -Int32.not_lt, -Int32.not_le, *], rfl⟩
    · skip
      refine A_iload_n (i := 2) dX2_whyNotReady_17 rfl rfl ?_
      exact A_iret dX2_whyNotReady_18 rfl ⟨by simp [apI, bi, -Int32.not_lt, -Int32.not_le] at c1 c2; simp [whyN, -Int32.not_lt, -Int32.not_le, *], rfl⟩
  · skip
    refine A_iload_n (i := 2) dX2_whyNotReady_17 rfl rfl ?_
    exact A_iret dX2_whyNotReady_18 rfl ⟨by simp [apI, bi, -Int32.not_lt, -Int32.not_le] at c1; simp [whyN, -Int32.not_lt, -Int32.not_le, *], rfl⟩
theorem c_manyIn {l : Launch} {g : GC} (b9 : Nat) (ms : MM) (σ0 : AH) (t : Int32) (h1 : WFc (m_now ms)) : AMet l g mX2_manyIn 4 0 [.ref b9, .int t] (mc b9 ms σ0) (A_eq (some (.int (manyT (m_now ms) t))) (mc b9 ms σ0)) A_no := by
  refine A_of rfl (by decide) (Nat.le_of_ble_eq_true rfl) (L0 := [(0, .ref b9), (1, .int t)]) rfl ?_
  have hF := h1.2.2.2.2.2
  have hC := h1.1.2
  refine A_iconst (v := 0) dX2_manyIn_0 (by decide) ?_
  refine A_istore_n (i := 2) dX2_manyIn_1 rfl (Nat.le_of_ble_eq_true rfl) ?_
  refine A_iconst (v := 0) dX2_manyIn_2 (by decide) ?_
  refine A_istore_n (i := 3) dX2_manyIn_3 rfl (Nat.le_of_ble_eq_true rfl) ?_
  refine A_sub (L' := [(0, .ref b9), (1, .int t), (2, .int (sm (fun f => bi (inTub (m_now ms) f t)) 0)), (3, .int (nI 0))]) ⟨rfl, rfl, rfl, rfl, trivial⟩ ?_
  refine A_for (nF (m_now ms)) (fun i4 => 0) (fun i4 => [(0, .ref b9), (1, .int t), (2, .int (sm (fun f => bi (inTub (m_now ms) f t)) i4)), (3, .int (nI i4))]) (fun i4 => mc b9 ms σ0) (fun i4 => True) trivial (fun i4 hi4 hI4 ih4 => ?_) (fun hI4 => ?_)
  · skip
    refine A_iload_n (i := 3) dX2_manyIn_4 rfl rfl ?_
    refine A_aload_n (i := 0) dX2_manyIn_5 rfl rfl ?_
    refine M_get 1 (v := .ref (b9 + 1)) (Nat.le_of_ble_eq_true rfl) q2230 rfl dX2_manyIn_6 ?_
    refine A_bipush (v := 10) dX2_manyIn_9 (by decide) ?_
    refine M_ald1 (n := 10) (v := m_now ms 10) (rfl) (by decide) (rfl) dX2_manyIn_11 ?_
    refine A_icmp_ge_f (tgt := 33) dX2_manyIn_12 (by decide) (br_lt h1.2.2.2.2.1 hi4 (by omega)) ?_
    refine A_iload_n (i := 2) dX2_manyIn_15 rfl rfl ?_
    refine A_aload_n (i := 0) dX2_manyIn_16 rfl rfl ?_
    refine A_iload_n (i := 3) dX2_manyIn_17 rfl rfl ?_
    refine A_iload_n (i := 1) dX2_manyIn_18 rfl rfl ?_
    refine A_callV2E (v := some (.int (bi (inTub (m_now ms) i4 t)))) (τ := mc b9 ms σ0) (c_isInTub b9 ms σ0 i4 t (by first | assumption | omega)) tX2_isInTub q2452 (mc_0 _ _ _) rfl rfl dX2_manyIn_19 (by decide) (Nat.le_of_eq (Nat.zero_add _)) (Nat.le_of_ble_eq_true rfl) ?_
    refine A_callS1E (v := some (.int (oneI (bi (inTub (m_now ms) i4 t))))) (τ := mc b9 ms σ0) (c_one b9 ms σ0 (bi (inTub (m_now ms) i4 t))) tX2_one q2456 dX2_manyIn_22 (by decide) (Nat.le_of_eq (Nat.zero_add _)) (Nat.le_of_ble_eq_true rfl) ?_
    refine A_int (w := (bi (inTub (m_now ms) i4 t))) (oneI_bi _) ?_
    refine A_iadd dX2_manyIn_25 ?_
    refine A_istore_n (i := 2) dX2_manyIn_26 rfl (Nat.le_of_ble_eq_true rfl) ?_
    refine A_iinc (v := nI (i4 + 1)) dX2_manyIn_27 rfl (nI_inc _ _) (Nat.le_of_ble_eq_true rfl) ?_
    refine A_goto (tgt := 4) dX2_manyIn_30 (by decide) ?_
    refine A_sub (L' := [(0, .ref b9), (1, .int t), (2, .int (sm (fun f => bi (inTub (m_now ms) f t)) (i4 + 1))), (3, .int (nI (i4 + 1)))]) ⟨rfl, rfl, rfl, rfl, trivial⟩ ?_
    exact ih4 trivial
  · skip
    refine A_iload_n (i := 3) dX2_manyIn_4 rfl rfl ?_
    refine A_aload_n (i := 0) dX2_manyIn_5 rfl rfl ?_
    refine M_get 1 (v := .ref (b9 + 1)) (Nat.le_of_ble_eq_true rfl) q2230 rfl dX2_manyIn_6 ?_
    refine A_bipush (v := 10) dX2_manyIn_9 (by decide) ?_
    refine M_ald1 (n := 10) (v := m_now ms 10) (rfl) (by decide) (rfl) dX2_manyIn_11 ?_
    refine A_icmp_ge_t (tgt := 33) dX2_manyIn_12 (by decide) (br_ge h1.2.2.2.2.1) ?_
    refine A_iload_n (i := 2) dX2_manyIn_33 rfl rfl ?_
    exact A_iret dX2_manyIn_34 rfl ⟨rfl, rfl⟩
theorem c_whyPut {l : Launch} {g : GC} (b9 : Nat) (ms : MM) (σ0 : AH) (f : Nat) (t : Nat) (h1 : WFc (m_now ms)) (h2 : f < 12) (h3 : t < 3) : AMet l g mX2_whyPut 5 0 [.ref b9, .int (nI f), .int (nI t)] (mc b9 ms σ0) (A_eq (some (.int (whyPutN (m_now ms) f t))) (mc b9 ms σ0)) A_no := by
  refine A_of rfl (by decide) (Nat.le_of_ble_eq_true rfl) (L0 := [(0, .ref b9), (1, .int (nI f)), (2, .int (nI t))]) rfl ?_
  refine A_aload_n (i := 0) dX2_whyPut_0 rfl rfl ?_
  refine A_iload_n (i := 1) dX2_whyPut_1 rfl rfl ?_
  refine A_callV1E (v := some (.int (bi (inBasket (m_now ms) f)))) (τ := mc b9 ms σ0) (c_isInBasket b9 ms σ0 f (by first | assumption | omega)) tX2_isInBasket q2436 (mc_0 _ _ _) rfl rfl dX2_whyPut_2 (by decide) (Nat.le_of_eq (Nat.zero_add _)) (Nat.le_of_ble_eq_true rfl) ?_
  refine A_if_ne (tgt := 10) dX2_whyPut_5 (by decide) (fun c1 => ?_) (fun c1 => ?_)
  · skip
    have c1 := bi_ne0.mp c1
    refine A_aload_n (i := 0) dX2_whyPut_10 rfl rfl ?_
    refine A_iload_n (i := 2) dX2_whyPut_11 rfl rfl ?_
    refine A_callV1E (v := some (.int (manyT (m_now ms) (nI t)))) (τ := mc b9 ms σ0) (c_manyIn b9 ms σ0 (nI t) (by first | assumption | omega)) tX2_manyIn q2448 (mc_0 _ _ _) rfl rfl dX2_whyPut_12 (by decide) (Nat.le_of_eq (Nat.zero_add _)) (Nat.le_of_ble_eq_true rfl) ?_
    refine A_aload_n (i := 0) dX2_whyPut_15 rfl rfl ?_
    refine M_get 1 (v := .ref (b9 + 1)) (Nat.le_of_ble_eq_true rfl) q2230 rfl dX2_whyPut_16 ?_
    refine A_bipush (v := 38) dX2_whyPut_19 (by decide) ?_
    refine A_iload_n (i := 2) dX2_whyPut_21 rfl rfl ?_
    refine A_iadd dX2_whyPut_22 ?_
    refine A_int (w := nI (38 + t)) (nI_add 38 t) ?_
    refine M_ald1 (n := 38 + t) (v := m_now ms (38 + t)) (rfl) (by omega) (rfl) dX2_whyPut_23 ?_
    refine A_icmp_ge (tgt := 31) dX2_whyPut_24 (by decide) (fun c2 => ?_) (fun c2 => ?_)
    · skip
      refine A_iconst (v := 2) dX2_whyPut_31 (by decide) ?_
      exact A_iret dX2_whyPut_32 rfl ⟨by simp [-Int32.not_lt, -Int32.not_le, whyPutN, c1, c2], rfl⟩
    · skip
      refine A_iconst (v := 0) dX2_whyPut_27 (by decide) ?_
      refine A_goto (tgt := 32) dX2_whyPut_28 (by decide) ?_
      exact A_iret dX2_whyPut_32 rfl ⟨by simp [-Int32.not_lt, -Int32.not_le, whyPutN, c1, c2], rfl⟩
  · skip
    have c1 := bi_eq0.mp c1
    refine A_iconst (v := 1) dX2_whyPut_8 (by decide) ?_
    exact A_iret dX2_whyPut_9 rfl ⟨by simp [-Int32.not_lt, -Int32.not_le, whyPutN, c1], rfl⟩
theorem c_putsInto {l : Launch} {g : GC} (b9 : Nat) (ms : MM) (σ0 : AH) (f : Nat) (t : Int32) (h1 : f < 12) : AMet l g mX2_putsInto 3 0 [.ref b9, .int (nI f), .int t] (mc b9 ms σ0) (A_eq (none) (mc b9 (⟨m_thr ms, m_is ms, m_um ms, m_bd ms, m_pc ms, m_pa ms, m_sz ms, m_cu ms, m_st ms, m_tk ms, m_to ms, m_ps ms, putIn (m_now ms) f t, m_asd ms, m_und ms, m_sav ms, m_isv ms, m_buf ms, m_grp ms, m_pag ms⟩ : MM) σ0)) A_no := by
  refine A_of rfl (by decide) (Nat.le_of_ble_eq_true rfl) (L0 := [(0, .ref b9), (1, .int (nI f)), (2, .int t)]) rfl ?_
  refine A_aload_n (i := 0) dX2_putsInto_0 rfl rfl ?_
  refine A_iload_n (i := 1) dX2_putsInto_1 rfl rfl ?_
  refine A_iconst (v := 1) dX2_putsInto_2 (by decide) ?_
  refine A_iload_n (i := 2) dX2_putsInto_3 rfl rfl ?_
  refine A_callV3E (v := none) (τ := mc b9 (⟨m_thr ms, m_is ms, m_um ms, m_bd ms, m_pc ms, m_pa ms, m_sz ms, m_cu ms, m_st ms, m_tk ms, m_to ms, m_ps ms, goTo (m_now ms) f 1 t, m_asd ms, m_und ms, m_sav ms, m_isv ms, m_buf ms, m_grp ms, m_pag ms⟩ : MM) σ0) (c_goesTo b9 ms σ0 f 1 t (by first | assumption | omega)) tX2_goesTo q2419 (mc_0 _ _ _) rfl rfl dX2_putsInto_4 (by decide) (Nat.le_of_eq (Nat.zero_add _)) (Nat.le_of_ble_eq_true rfl) ?_
  refine A_aload_n (i := 0) dX2_putsInto_7 rfl rfl ?_
  refine A_iload_n (i := 1) dX2_putsInto_8 rfl rfl ?_
  refine A_bipush (v := 10) dX2_putsInto_9 (by decide) ?_
  refine A_aload_n (i := 0) dX2_putsInto_11 rfl rfl ?_
  refine M_get 1 (v := .ref (b9 + 1)) (Nat.le_of_ble_eq_true rfl) q2230 rfl dX2_putsInto_12 ?_
  refine A_bipush (v := 11) dX2_putsInto_15 (by decide) ?_
  refine M_ald1 (n := 11) (v := (goTo (m_now ms) f 1 t) 11) (rfl) (by decide) (rfl) dX2_putsInto_17 ?_
  refine A_callV3E (v := none) (τ := mc b9 (⟨m_thr ms, m_is ms, m_um ms, m_bd ms, m_pc ms, m_pa ms, m_sz ms, m_cu ms, m_st ms, m_tk ms, m_to ms, m_ps ms, setFl (goTo (m_now ms) f 1 t) f 10 ((goTo (m_now ms) f 1 t) 11), m_asd ms, m_und ms, m_sav ms, m_isv ms, m_buf ms, m_grp ms, m_pag ms⟩ : MM) σ0) (c_putsFlag b9 (⟨m_thr ms, m_is ms, m_um ms, m_bd ms, m_pc ms, m_pa ms, m_sz ms, m_cu ms, m_st ms, m_tk ms, m_to ms, m_ps ms, goTo (m_now ms) f 1 t, m_asd ms, m_und ms, m_sav ms, m_isv ms, m_buf ms, m_grp ms, m_pag ms⟩ : MM) σ0 f 10 ((goTo (m_now ms) f 1 t) 11) (by first | assumption | omega) (by first | assumption | omega)) tX2_putsFlag q2415 (mc_0 _ _ _) rfl rfl dX2_putsInto_18 (by decide) (Nat.le_of_eq (Nat.zero_add _)) (Nat.le_of_ble_eq_true rfl) ?_
  refine A_aload_n (i := 0) dX2_putsInto_21 rfl rfl ?_
  refine M_get 1 (v := .ref (b9 + 1)) (Nat.le_of_ble_eq_true rfl) q2230 rfl dX2_putsInto_22 ?_
  refine A_bipush (v := 11) dX2_putsInto_25 (by decide) ?_
  refine A_dup2 dX2_putsInto_27 rfl rfl ?_
  refine M_ald1 (n := 11) (v := (setFl (goTo (m_now ms) f 1 t) f 10 ((goTo (m_now ms) f 1 t) 11)) 11) (rfl) (by decide) (rfl) dX2_putsInto_28 ?_
  refine A_iconst (v := 1) dX2_putsInto_29 (by decide) ?_
  refine A_iadd dX2_putsInto_30 ?_
  refine M_ast1 (n := 11) (na := va_up (setFl (goTo (m_now ms) f 1 t) f 10 ((goTo (m_now ms) f 1 t) 11)) 11 ((setFl (goTo (m_now ms) f 1 t) f 10 ((goTo (m_now ms) f 1 t) 11)) 11 + 1)) (rfl) (by decide) (rfl) dX2_putsInto_31 ?_
  exact A_vret dX2_putsInto_32 rfl ⟨rfl, rfl⟩
theorem c_leastCare {l : Launch} {g : GC} (b9 : Nat) (ms : MM) (σ0 : AH) (t : Int32) (h1 : WFc (m_now ms)) : AMet l g mX2_leastCare 4 0 [.ref b9, .int t] (mc b9 ms σ0) (A_eq (some (.int (leastN (m_now ms) t))) (mc b9 ms σ0)) A_no := by
  refine A_of rfl (by decide) (Nat.le_of_ble_eq_true rfl) (L0 := [(0, .ref b9), (1, .int t)]) rfl ?_
  have hF := h1.2.2.2.2.2
  have hC := h1.1.2
  refine A_iconst (v := 3) dX2_leastCare_0 (by decide) ?_
  refine A_istore_n (i := 2) dX2_leastCare_1 rfl (Nat.le_of_ble_eq_true rfl) ?_
  refine A_iconst (v := 0) dX2_leastCare_2 (by decide) ?_
  refine A_istore_n (i := 3) dX2_leastCare_3 rfl (Nat.le_of_ble_eq_true rfl) ?_
  refine A_sub (L' := [(0, .ref b9), (1, .int t), (2, .int (lcF (m_now ms) t 0)), (3, .int (nI 0))]) ⟨rfl, rfl, rfl, rfl, trivial⟩ ?_
  refine A_for (nF (m_now ms)) (fun i4 => 0) (fun i4 => [(0, .ref b9), (1, .int t), (2, .int (lcF (m_now ms) t i4)), (3, .int (nI i4))]) (fun i4 => mc b9 ms σ0) (fun i4 => True) trivial (fun i4 hi4 hI4 ih4 => ?_) (fun hI4 => ?_)
  · skip
    refine A_iload_n (i := 3) dX2_leastCare_4 rfl rfl ?_
    refine A_aload_n (i := 0) dX2_leastCare_5 rfl rfl ?_
    refine M_get 1 (v := .ref (b9 + 1)) (Nat.le_of_ble_eq_true rfl) q2230 rfl dX2_leastCare_6 ?_
    refine A_bipush (v := 10) dX2_leastCare_9 (by decide) ?_
    refine M_ald1 (n := 10) (v := m_now ms 10) (rfl) (by decide) (rfl) dX2_leastCare_11 ?_
    refine A_icmp_ge_f (tgt := 41) dX2_leastCare_12 (by decide) (br_lt h1.2.2.2.2.1 hi4 (by omega)) ?_
    refine A_aload_n (i := 0) dX2_leastCare_15 rfl rfl ?_
    refine A_iload_n (i := 3) dX2_leastCare_16 rfl rfl ?_
    refine A_iload_n (i := 1) dX2_leastCare_17 rfl rfl ?_
    refine A_callV2E (v := some (.int (bi (inTub (m_now ms) i4 t)))) (τ := mc b9 ms σ0) (c_isInTub b9 ms σ0 i4 t (by first | assumption | omega)) tX2_isInTub q2452 (mc_0 _ _ _) rfl rfl dX2_leastCare_18 (by decide) (Nat.le_of_eq (Nat.zero_add _)) (Nat.le_of_ble_eq_true rfl) ?_
    refine A_if_eq (tgt := 35) dX2_leastCare_21 (by decide) (fun c1 => ?_) (fun c1 => ?_)
    · skip
      have c1 := bi_eq0.mp c1
      refine A_iinc (v := nI (i4 + 1)) dX2_leastCare_35 rfl (nI_inc _ _) (Nat.le_of_ble_eq_true rfl) ?_
      refine A_goto (tgt := 4) dX2_leastCare_38 (by decide) ?_
      refine A_sub (L' := [(0, .ref b9), (1, .int t), (2, .int (lcF (m_now ms) t (i4 + 1))), (3, .int (nI (i4 + 1)))]) ⟨rfl, rfl, (by rw [lcF_s, if_neg c1]; rfl), rfl, trivial⟩ ?_
      exact ih4 trivial
    · skip
      have c1 := bi_ne0.mp c1
      refine A_iload_n (i := 2) dX2_leastCare_24 rfl rfl ?_
      refine A_aload_n (i := 0) dX2_leastCare_25 rfl rfl ?_
      refine A_iload_n (i := 3) dX2_leastCare_26 rfl rfl ?_
      refine A_iconst (v := 2) dX2_leastCare_27 (by decide) ?_
      refine A_callV2E (v := some (.int (fl (m_now ms) i4 2))) (τ := mc b9 ms σ0) (c_ofFlag b9 ms σ0 i4 2 (by first | assumption | omega) (by first | assumption | omega)) tX2_ofFlag q2444 (mc_0 _ _ _) rfl rfl dX2_leastCare_28 (by decide) (Nat.le_of_eq (Nat.zero_add _)) (Nat.le_of_ble_eq_true rfl) ?_
      refine A_mmin q2476 q472 q150 q473 dX2_leastCare_31 (by decide) (Nat.le_of_ble_eq_true rfl) ?_
      refine A_int (w := (mn (lcF (m_now ms) t i4) (fl (m_now ms) i4 2))) rfl ?_
      refine A_istore_n (i := 2) dX2_leastCare_34 rfl (Nat.le_of_ble_eq_true rfl) ?_
      refine A_iinc (v := nI (i4 + 1)) dX2_leastCare_35 rfl (nI_inc _ _) (Nat.le_of_ble_eq_true rfl) ?_
      refine A_goto (tgt := 4) dX2_leastCare_38 (by decide) ?_
      refine A_sub (L' := [(0, .ref b9), (1, .int t), (2, .int (lcF (m_now ms) t (i4 + 1))), (3, .int (nI (i4 + 1)))]) ⟨rfl, rfl, (by rw [lcF_s, if_pos c1]; rfl), rfl, trivial⟩ ?_
      exact ih4 trivial
  · skip
    refine A_iload_n (i := 3) dX2_leastCare_4 rfl rfl ?_
    refine A_aload_n (i := 0) dX2_leastCare_5 rfl rfl ?_
    refine M_get 1 (v := .ref (b9 + 1)) (Nat.le_of_ble_eq_true rfl) q2230 rfl dX2_leastCare_6 ?_
    refine A_bipush (v := 10) dX2_leastCare_9 (by decide) ?_
    refine M_ald1 (n := 10) (v := m_now ms 10) (rfl) (by decide) (rfl) dX2_leastCare_11 ?_
    refine A_icmp_ge_t (tgt := 41) dX2_leastCare_12 (by decide) (br_ge h1.2.2.2.2.1) ?_
    refine A_iload_n (i := 2) dX2_leastCare_41 rfl rfl ?_
    exact A_iret dX2_leastCare_42 rfl ⟨rfl, rfl⟩
theorem c_whyWash {l : Launch} {g : GC} (b9 : Nat) (ms : MM) (σ0 : AH) (t : Int32) (h : Int32) (h1 : WFc (m_now ms)) : AMet l g mX2_whyWash 5 0 [.ref b9, .int t, .int h] (mc b9 ms σ0) (A_eq (some (.int (whyWashN (m_now ms) t h))) (mc b9 ms σ0)) A_no := by
  refine A_of rfl (by decide) (Nat.le_of_ble_eq_true rfl) (L0 := [(0, .ref b9), (1, .int t), (2, .int h)]) rfl ?_
  refine A_aload_n (i := 0) dX2_whyWash_0 rfl rfl ?_
  refine A_iload_n (i := 1) dX2_whyWash_1 rfl rfl ?_
  refine A_callV1E (v := some (.int (manyT (m_now ms) t))) (τ := mc b9 ms σ0) (c_manyIn b9 ms σ0 t (by first | assumption | omega)) tX2_manyIn q2448 (mc_0 _ _ _) rfl rfl dX2_whyWash_2 (by decide) (Nat.le_of_eq (Nat.zero_add _)) (Nat.le_of_ble_eq_true rfl) ?_
  refine A_if_ne (tgt := 10) dX2_whyWash_5 (by decide) (fun c1 => ?_) (fun c1 => ?_)
  · skip
    refine A_iload_n (i := 2) dX2_whyWash_10 rfl rfl ?_
    refine A_aload_n (i := 0) dX2_whyWash_11 rfl rfl ?_
    refine A_iload_n (i := 1) dX2_whyWash_12 rfl rfl ?_
    refine A_callV1E (v := some (.int (leastN (m_now ms) t))) (τ := mc b9 ms σ0) (c_leastCare b9 ms σ0 t (by first | assumption | omega)) tX2_leastCare q2472 (mc_0 _ _ _) rfl rfl dX2_whyWash_13 (by decide) (Nat.le_of_eq (Nat.zero_add _)) (Nat.le_of_ble_eq_true rfl) ?_
    refine A_icmp_gt (tgt := 23) dX2_whyWash_16 (by decide) (fun c2 => ?_) (fun c2 => ?_)
    · skip
      refine A_iconst (v := 2) dX2_whyWash_23 (by decide) ?_
      exact A_iret dX2_whyWash_24 rfl ⟨by simp [-Int32.not_lt, -Int32.not_le, whyWashN, c1, c2], rfl⟩
    · skip
      refine A_iconst (v := 0) dX2_whyWash_19 (by decide) ?_
      refine A_goto (tgt := 24) dX2_whyWash_20 (by decide) ?_
      exact A_iret dX2_whyWash_24 rfl ⟨by simp [-Int32.not_lt, -Int32.not_le, whyWashN, c1, c2], rfl⟩
  · skip
    refine A_iconst (v := 1) dX2_whyWash_8 (by decide) ?_
    exact A_iret dX2_whyWash_9 rfl ⟨by simp [-Int32.not_lt, -Int32.not_le, whyWashN, c1], rfl⟩
theorem c_runningOf {l : Launch} {g : GC} (b9 : Nat) (ms : MM) (σ0 : AH) (c : Int32) (h : Int32) (h1 : WFc (m_now ms)) : AMet l g mX2_runningOf 2 0 [.ref b9, .int c, .int h] (mc b9 ms σ0) (A_eq (some (.int (runOf (m_now ms) c h))) (mc b9 ms σ0)) A_no := by
  refine A_of rfl (by decide) (Nat.le_of_ble_eq_true rfl) (L0 := [(0, .ref b9), (1, .int c), (2, .int h)]) rfl ?_
  have hF := h1.2.2.2.2.2
  have hC := h1.1.2
  refine A_iconst (v := 0) dX2_runningOf_0 (by decide) ?_
  refine A_istore_n (i := 3) dX2_runningOf_1 rfl (Nat.le_of_ble_eq_true rfl) ?_
  refine A_iconst (v := 0) dX2_runningOf_2 (by decide) ?_
  refine A_istore dX2_runningOf_3 (Nat.le_of_ble_eq_true rfl) ?_
  refine A_sub (L' := [(0, .ref b9), (1, .int c), (2, .int h), (3, .int (orF (fun k => bi (hasB c (nI k) ∧ ¬ h < m_now ms (12 + k)) <<< (nI k &&& 31)) 0)), (4, .int (nI 0))]) ⟨rfl, rfl, rfl, rfl, rfl, trivial⟩ ?_
  refine A_for (nC (m_now ms)) (fun i5 => 0) (fun i5 => [(0, .ref b9), (1, .int c), (2, .int h), (3, .int (orF (fun k => bi (hasB c (nI k) ∧ ¬ h < m_now ms (12 + k)) <<< (nI k &&& 31)) i5)), (4, .int (nI i5))]) (fun i5 => mc b9 ms σ0) (fun i5 => True) trivial (fun i5 hi5 hI5 ih5 => ?_) (fun hI5 => ?_)
  · skip
    refine A_iload dX2_runningOf_5 rfl ?_
    refine A_aload_n (i := 0) dX2_runningOf_7 rfl rfl ?_
    refine M_get 1 (v := .ref (b9 + 1)) (Nat.le_of_ble_eq_true rfl) q2230 rfl dX2_runningOf_8 ?_
    refine A_bipush (v := 6) dX2_runningOf_11 (by decide) ?_
    refine M_ald1 (n := 6) (v := m_now ms 6) (rfl) (by decide) (rfl) dX2_runningOf_13 ?_
    refine A_icmp_ge_f (tgt := 60) dX2_runningOf_14 (by decide) (br_lt h1.1.1 hi5 (by omega)) ?_
    refine A_iload_n (i := 3) dX2_runningOf_17 rfl rfl ?_
    refine A_iload_n (i := 1) dX2_runningOf_18 rfl rfl ?_
    refine A_iload dX2_runningOf_19 rfl ?_
    refine A_callS2E (v := some (.int (bi (hasB c (nI i5))))) (τ := mc b9 ms σ0) (c_has b9 ms σ0 c (nI i5)) tX2_has q2408 dX2_runningOf_21 (by decide) (Nat.le_of_eq (Nat.zero_add _)) (Nat.le_of_ble_eq_true rfl) ?_
    refine A_if_eq (tgt := 45) dX2_runningOf_24 (by decide) (fun c1 => ?_) (fun c1 => ?_)
    · skip
      have c1 := bi_eq0.mp c1
      refine A_iconst (v := 0) dX2_runningOf_45 (by decide) ?_
      refine A_callS1E (v := some (.int (oneI 0))) (τ := mc b9 ms σ0) (c_one b9 ms σ0 0) tX2_one q2456 dX2_runningOf_46 (by decide) (Nat.le_of_eq (Nat.zero_add _)) (Nat.le_of_ble_eq_true rfl) ?_
      refine A_int (w := 0) (by decide) ?_
      refine A_iload dX2_runningOf_49 rfl ?_
      refine A_ishl dX2_runningOf_51 ?_
      refine A_ior dX2_runningOf_52 ?_
      refine A_int (w := orF (fun k => bi (hasB c (nI k) ∧ ¬ h < m_now ms (12 + k)) <<< (nI k &&& 31)) (i5 + 1)) (by rw [or_s] <;> simp [bi, inTub, inBasket, hasB, inR, -Int32.not_lt, -Int32.not_le, c1]) ?_
      refine A_istore_n (i := 3) dX2_runningOf_53 rfl (Nat.le_of_ble_eq_true rfl) ?_
      refine A_iinc (v := nI (i5 + 1)) dX2_runningOf_54 rfl (nI_inc _ _) (Nat.le_of_ble_eq_true rfl) ?_
      refine A_goto (tgt := 5) dX2_runningOf_57 (by decide) ?_
      refine A_sub (L' := [(0, .ref b9), (1, .int c), (2, .int h), (3, .int (orF (fun k => bi (hasB c (nI k) ∧ ¬ h < m_now ms (12 + k)) <<< (nI k &&& 31)) (i5 + 1))), (4, .int (nI (i5 + 1)))]) ⟨rfl, rfl, rfl, rfl, rfl, trivial⟩ ?_
      exact ih5 trivial
    · skip
      have c1 := bi_ne0.mp c1
      refine A_aload_n (i := 0) dX2_runningOf_27 rfl rfl ?_
      refine M_get 1 (v := .ref (b9 + 1)) (Nat.le_of_ble_eq_true rfl) q2230 rfl dX2_runningOf_28 ?_
      refine A_bipush (v := 12) dX2_runningOf_31 (by decide) ?_
      refine A_iload dX2_runningOf_33 rfl ?_
      refine A_iadd dX2_runningOf_35 ?_
      refine A_int (w := nI (12 + i5)) (nI_add 12 i5) ?_
      refine M_ald1 (n := 12 + i5) (v := m_now ms (12 + i5)) (rfl) (by omega) (rfl) dX2_runningOf_36 ?_
      refine A_iload_n (i := 2) dX2_runningOf_37 rfl rfl ?_
      refine A_icmp_gt (tgt := 45) dX2_runningOf_38 (by decide) (fun c2 => ?_) (fun c2 => ?_)
      · skip
        refine A_iconst (v := 0) dX2_runningOf_45 (by decide) ?_
        refine A_callS1E (v := some (.int (oneI 0))) (τ := mc b9 ms σ0) (c_one b9 ms σ0 0) tX2_one q2456 dX2_runningOf_46 (by decide) (Nat.le_of_eq (Nat.zero_add _)) (Nat.le_of_ble_eq_true rfl) ?_
        refine A_int (w := 0) (by decide) ?_
        refine A_iload dX2_runningOf_49 rfl ?_
        refine A_ishl dX2_runningOf_51 ?_
        refine A_ior dX2_runningOf_52 ?_
        refine A_int (w := orF (fun k => bi (hasB c (nI k) ∧ ¬ h < m_now ms (12 + k)) <<< (nI k &&& 31)) (i5 + 1)) (by rw [or_s] <;> simp [bi, inTub, inBasket, hasB, inR, -Int32.not_lt, -Int32.not_le, c1, c2]) ?_
        refine A_istore_n (i := 3) dX2_runningOf_53 rfl (Nat.le_of_ble_eq_true rfl) ?_
        refine A_iinc (v := nI (i5 + 1)) dX2_runningOf_54 rfl (nI_inc _ _) (Nat.le_of_ble_eq_true rfl) ?_
        refine A_goto (tgt := 5) dX2_runningOf_57 (by decide) ?_
        refine A_sub (L' := [(0, .ref b9), (1, .int c), (2, .int h), (3, .int (orF (fun k => bi (hasB c (nI k) ∧ ¬ h < m_now ms (12 + k)) <<< (nI k &&& 31)) (i5 + 1))), (4, .int (nI (i5 + 1)))]) ⟨rfl, rfl, rfl, rfl, rfl, trivial⟩ ?_
        exact ih5 trivial
      · skip
        refine A_iconst (v := 1) dX2_runningOf_41 (by decide) ?_
        refine A_goto (tgt := 46) dX2_runningOf_42 (by decide) ?_
        refine A_callS1E (v := some (.int (oneI 1))) (τ := mc b9 ms σ0) (c_one b9 ms σ0 1) tX2_one q2456 dX2_runningOf_46 (by decide) (Nat.le_of_eq (Nat.zero_add _)) (Nat.le_of_ble_eq_true rfl) ?_
        refine A_int (w := 1) (by decide) ?_
        refine A_iload dX2_runningOf_49 rfl ?_
        refine A_ishl dX2_runningOf_51 ?_
        refine A_ior dX2_runningOf_52 ?_
        refine A_int (w := orF (fun k => bi (hasB c (nI k) ∧ ¬ h < m_now ms (12 + k)) <<< (nI k &&& 31)) (i5 + 1)) (by rw [or_s] <;> simp [bi, inTub, inBasket, hasB, inR, -Int32.not_lt, -Int32.not_le, c1, c2]) ?_
        refine A_istore_n (i := 3) dX2_runningOf_53 rfl (Nat.le_of_ble_eq_true rfl) ?_
        refine A_iinc (v := nI (i5 + 1)) dX2_runningOf_54 rfl (nI_inc _ _) (Nat.le_of_ble_eq_true rfl) ?_
        refine A_goto (tgt := 5) dX2_runningOf_57 (by decide) ?_
        refine A_sub (L' := [(0, .ref b9), (1, .int c), (2, .int h), (3, .int (orF (fun k => bi (hasB c (nI k) ∧ ¬ h < m_now ms (12 + k)) <<< (nI k &&& 31)) (i5 + 1))), (4, .int (nI (i5 + 1)))]) ⟨rfl, rfl, rfl, rfl, rfl, trivial⟩ ?_
        exact ih5 trivial
  · skip
    refine A_iload dX2_runningOf_5 rfl ?_
    refine A_aload_n (i := 0) dX2_runningOf_7 rfl rfl ?_
    refine M_get 1 (v := .ref (b9 + 1)) (Nat.le_of_ble_eq_true rfl) q2230 rfl dX2_runningOf_8 ?_
    refine A_bipush (v := 6) dX2_runningOf_11 (by decide) ?_
    refine M_ald1 (n := 6) (v := m_now ms 6) (rfl) (by decide) (rfl) dX2_runningOf_13 ?_
    refine A_icmp_ge_t (tgt := 60) dX2_runningOf_14 (by decide) (br_ge h1.1.1) ?_
    refine A_iload_n (i := 3) dX2_runningOf_60 rfl rfl ?_
    exact A_iret dX2_runningOf_61 rfl ⟨rfl, rfl⟩
theorem c_runningFrom {l : Launch} {g : GC} (b9 : Nat) (ms : MM) (σ0 : AH) (f : Nat) (h : Int32) (h1 : WFc (m_now ms)) (h2 : f < 12) : AMet l g mX2_runningFrom 3 0 [.ref b9, .int (nI f), .int h] (mc b9 ms σ0) (A_eq (some (.int (runFrom (m_now ms) f h))) (mc b9 ms σ0)) A_no := by
  refine A_of rfl (by decide) (Nat.le_of_ble_eq_true rfl) (L0 := [(0, .ref b9), (1, .int (nI f)), (2, .int h)]) rfl ?_
  refine A_aload_n (i := 0) dX2_runningFrom_0 rfl rfl ?_
  refine A_aload_n (i := 0) dX2_runningFrom_1 rfl rfl ?_
  refine A_iload_n (i := 1) dX2_runningFrom_2 rfl rfl ?_
  refine A_iconst (v := 1) dX2_runningFrom_3 (by decide) ?_
  refine A_callV2E (v := some (.int (fl (m_now ms) f 1))) (τ := mc b9 ms σ0) (c_ofFlag b9 ms σ0 f 1 (by first | assumption | omega) (by first | assumption | omega)) tX2_ofFlag q2444 (mc_0 _ _ _) rfl rfl dX2_runningFrom_4 (by decide) (Nat.le_of_eq (Nat.zero_add _)) (Nat.le_of_ble_eq_true rfl) ?_
  refine A_aload_n (i := 0) dX2_runningFrom_7 rfl rfl ?_
  refine A_iload_n (i := 1) dX2_runningFrom_8 rfl rfl ?_
  refine A_bipush (v := 6) dX2_runningFrom_9 (by decide) ?_
  refine A_callV2E (v := some (.int (fl (m_now ms) f 6))) (τ := mc b9 ms σ0) (c_ofFlag b9 ms σ0 f 6 (by first | assumption | omega) (by first | assumption | omega)) tX2_ofFlag q2444 (mc_0 _ _ _) rfl rfl dX2_runningFrom_11 (by decide) (Nat.le_of_eq (Nat.zero_add _)) (Nat.le_of_ble_eq_true rfl) ?_
  refine A_ior dX2_runningFrom_14 ?_
  refine A_iload_n (i := 2) dX2_runningFrom_15 rfl rfl ?_
  refine A_callV2E (v := some (.int (runOf (m_now ms) ((fl (m_now ms) f 1) ||| (fl (m_now ms) f 6)) h))) (τ := mc b9 ms σ0) (c_runningOf b9 ms σ0 ((fl (m_now ms) f 1) ||| (fl (m_now ms) f 6)) h (by first | assumption | omega)) tX2_runningOf q2489 (mc_0 _ _ _) rfl rfl dX2_runningFrom_16 (by decide) (Nat.le_of_eq (Nat.zero_add _)) (Nat.le_of_ble_eq_true rfl) ?_
  exact A_iret dX2_runningFrom_19 rfl ⟨rfl, rfl⟩
theorem c_runningIn {l : Launch} {g : GC} (b9 : Nat) (ms : MM) (σ0 : AH) (t : Int32) (h : Int32) (h1 : WFc (m_now ms)) : AMet l g mX2_runningIn 4 0 [.ref b9, .int t, .int h] (mc b9 ms σ0) (A_eq (some (.int (runIn (m_now ms) t h))) (mc b9 ms σ0)) A_no := by
  refine A_of rfl (by decide) (Nat.le_of_ble_eq_true rfl) (L0 := [(0, .ref b9), (1, .int t), (2, .int h)]) rfl ?_
  have hF := h1.2.2.2.2.2
  have hC := h1.1.2
  refine A_iconst (v := 0) dX2_runningIn_0 (by decide) ?_
  refine A_istore_n (i := 3) dX2_runningIn_1 rfl (Nat.le_of_ble_eq_true rfl) ?_
  refine A_iconst (v := 0) dX2_runningIn_2 (by decide) ?_
  refine A_istore dX2_runningIn_3 (Nat.le_of_ble_eq_true rfl) ?_
  refine A_sub (L' := [(0, .ref b9), (1, .int t), (2, .int h), (3, .int (orF (fun f => if inTub (m_now ms) f t then runFrom (m_now ms) f h else 0) 0)), (4, .int (nI 0))]) ⟨rfl, rfl, rfl, rfl, rfl, trivial⟩ ?_
  refine A_for (nF (m_now ms)) (fun i5 => 0) (fun i5 => [(0, .ref b9), (1, .int t), (2, .int h), (3, .int (orF (fun f => if inTub (m_now ms) f t then runFrom (m_now ms) f h else 0) i5)), (4, .int (nI i5))]) (fun i5 => mc b9 ms σ0) (fun i5 => True) trivial (fun i5 hi5 hI5 ih5 => ?_) (fun hI5 => ?_)
  · skip
    refine A_iload dX2_runningIn_5 rfl ?_
    refine A_aload_n (i := 0) dX2_runningIn_7 rfl rfl ?_
    refine M_get 1 (v := .ref (b9 + 1)) (Nat.le_of_ble_eq_true rfl) q2230 rfl dX2_runningIn_8 ?_
    refine A_bipush (v := 10) dX2_runningIn_11 (by decide) ?_
    refine M_ald1 (n := 10) (v := m_now ms 10) (rfl) (by decide) (rfl) dX2_runningIn_13 ?_
    refine A_icmp_ge_f (tgt := 47) dX2_runningIn_14 (by decide) (br_lt h1.2.2.2.2.1 hi5 (by omega)) ?_
    refine A_iload_n (i := 3) dX2_runningIn_17 rfl rfl ?_
    refine A_aload_n (i := 0) dX2_runningIn_18 rfl rfl ?_
    refine A_iload dX2_runningIn_19 rfl ?_
    refine A_iload_n (i := 1) dX2_runningIn_21 rfl rfl ?_
    refine A_callV2E (v := some (.int (bi (inTub (m_now ms) i5 t)))) (τ := mc b9 ms σ0) (c_isInTub b9 ms σ0 i5 t (by first | assumption | omega)) tX2_isInTub q2452 (mc_0 _ _ _) rfl rfl dX2_runningIn_22 (by decide) (Nat.le_of_eq (Nat.zero_add _)) (Nat.le_of_ble_eq_true rfl) ?_
    refine A_if_eq (tgt := 38) dX2_runningIn_25 (by decide) (fun c1 => ?_) (fun c1 => ?_)
    · skip
      have c1 := bi_eq0.mp c1
      refine A_iconst (v := 0) dX2_runningIn_38 (by decide) ?_
      refine A_ior dX2_runningIn_39 ?_
      refine A_int (w := orF (fun f => if inTub (m_now ms) f t then runFrom (m_now ms) f h else 0) (i5 + 1)) (by rw [or_s] <;> simp [bi, inTub, inBasket, hasB, inR, -Int32.not_lt, -Int32.not_le, c1]) ?_
      refine A_istore_n (i := 3) dX2_runningIn_40 rfl (Nat.le_of_ble_eq_true rfl) ?_
      refine A_iinc (v := nI (i5 + 1)) dX2_runningIn_41 rfl (nI_inc _ _) (Nat.le_of_ble_eq_true rfl) ?_
      refine A_goto (tgt := 5) dX2_runningIn_44 (by decide) ?_
      refine A_sub (L' := [(0, .ref b9), (1, .int t), (2, .int h), (3, .int (orF (fun f => if inTub (m_now ms) f t then runFrom (m_now ms) f h else 0) (i5 + 1))), (4, .int (nI (i5 + 1)))]) ⟨rfl, rfl, rfl, rfl, rfl, trivial⟩ ?_
      exact ih5 trivial
    · skip
      have c1 := bi_ne0.mp c1
      refine A_aload_n (i := 0) dX2_runningIn_28 rfl rfl ?_
      refine A_iload dX2_runningIn_29 rfl ?_
      refine A_iload_n (i := 2) dX2_runningIn_31 rfl rfl ?_
      refine A_callV2E (v := some (.int (runFrom (m_now ms) i5 h))) (τ := mc b9 ms σ0) (c_runningFrom b9 ms σ0 i5 h (by first | assumption | omega) (by first | assumption | omega)) tX2_runningFrom q2485 (mc_0 _ _ _) rfl rfl dX2_runningIn_32 (by decide) (Nat.le_of_eq (Nat.zero_add _)) (Nat.le_of_ble_eq_true rfl) ?_
      refine A_goto (tgt := 39) dX2_runningIn_35 (by decide) ?_
      refine A_ior dX2_runningIn_39 ?_
      refine A_int (w := orF (fun f => if inTub (m_now ms) f t then runFrom (m_now ms) f h else 0) (i5 + 1)) (by rw [or_s] <;> simp [bi, inTub, inBasket, hasB, inR, -Int32.not_lt, -Int32.not_le, c1]) ?_
      refine A_istore_n (i := 3) dX2_runningIn_40 rfl (Nat.le_of_ble_eq_true rfl) ?_
      refine A_iinc (v := nI (i5 + 1)) dX2_runningIn_41 rfl (nI_inc _ _) (Nat.le_of_ble_eq_true rfl) ?_
      refine A_goto (tgt := 5) dX2_runningIn_44 (by decide) ?_
      refine A_sub (L' := [(0, .ref b9), (1, .int t), (2, .int h), (3, .int (orF (fun f => if inTub (m_now ms) f t then runFrom (m_now ms) f h else 0) (i5 + 1))), (4, .int (nI (i5 + 1)))]) ⟨rfl, rfl, rfl, rfl, rfl, trivial⟩ ?_
      exact ih5 trivial
  · skip
    refine A_iload dX2_runningIn_5 rfl ?_
    refine A_aload_n (i := 0) dX2_runningIn_7 rfl rfl ?_
    refine M_get 1 (v := .ref (b9 + 1)) (Nat.le_of_ble_eq_true rfl) q2230 rfl dX2_runningIn_8 ?_
    refine A_bipush (v := 10) dX2_runningIn_11 (by decide) ?_
    refine M_ald1 (n := 10) (v := m_now ms 10) (rfl) (by decide) (rfl) dX2_runningIn_13 ?_
    refine A_icmp_ge_t (tgt := 47) dX2_runningIn_14 (by decide) (br_ge h1.2.2.2.2.1) ?_
    refine A_iload_n (i := 3) dX2_runningIn_47 rfl rfl ?_
    exact A_iret dX2_runningIn_48 rfl ⟨rfl, rfl⟩
theorem c_newStains {l : Launch} {g : GC} (b9 : Nat) (ms : MM) (σ0 : AH) (f : Nat) (r : Int32) (h1 : f < 12) : AMet l g mX2_newStains 2 0 [.ref b9, .int (nI f), .int r] (mc b9 ms σ0) (A_eq (some (.int (newS (m_now ms) f r))) (mc b9 ms σ0)) A_no := by
  refine A_of rfl (by decide) (Nat.le_of_ble_eq_true rfl) (L0 := [(0, .ref b9), (1, .int (nI f)), (2, .int r)]) rfl ?_
  refine A_iload_n (i := 2) dX2_newStains_0 rfl rfl ?_
  refine A_aload_n (i := 0) dX2_newStains_1 rfl rfl ?_
  refine A_iload_n (i := 1) dX2_newStains_2 rfl rfl ?_
  refine A_iconst (v := 1) dX2_newStains_3 (by decide) ?_
  refine A_callV2E (v := some (.int (fl (m_now ms) f 1))) (τ := mc b9 ms σ0) (c_ofFlag b9 ms σ0 f 1 (by first | assumption | omega) (by first | assumption | omega)) tX2_ofFlag q2444 (mc_0 _ _ _) rfl rfl dX2_newStains_4 (by decide) (Nat.le_of_eq (Nat.zero_add _)) (Nat.le_of_ble_eq_true rfl) ?_
  refine A_iconst (v := (-1)) dX2_newStains_7 (by decide) ?_
  refine A_ixor dX2_newStains_8 ?_
  refine A_iand dX2_newStains_9 ?_
  refine A_aload_n (i := 0) dX2_newStains_10 rfl rfl ?_
  refine A_iload_n (i := 1) dX2_newStains_11 rfl rfl ?_
  refine A_bipush (v := 6) dX2_newStains_12 (by decide) ?_
  refine A_callV2E (v := some (.int (fl (m_now ms) f 6))) (τ := mc b9 ms σ0) (c_ofFlag b9 ms σ0 f 6 (by first | assumption | omega) (by first | assumption | omega)) tX2_ofFlag q2444 (mc_0 _ _ _) rfl rfl dX2_newStains_14 (by decide) (Nat.le_of_eq (Nat.zero_add _)) (Nat.le_of_ble_eq_true rfl) ?_
  refine A_iconst (v := (-1)) dX2_newStains_17 (by decide) ?_
  refine A_ixor dX2_newStains_18 ?_
  refine A_iand dX2_newStains_19 ?_
  exact A_iret dX2_newStains_20 rfl ⟨rfl, rfl⟩
theorem c_stainedBy {l : Launch} {g : GC} (b9 : Nat) (ms : MM) (σ0 : AH) (t : Int32) (h : Int32) (h1 : WFc (m_now ms)) : AMet l g mX2_stainedBy 5 0 [.ref b9, .int t, .int h] (mc b9 ms σ0) (A_eq (some (.int (stainBy (m_now ms) t h))) (mc b9 ms σ0)) A_no := by
  refine A_of rfl (by decide) (Nat.le_of_ble_eq_true rfl) (L0 := [(0, .ref b9), (1, .int t), (2, .int h)]) rfl ?_
  have hF := h1.2.2.2.2.2
  have hC := h1.1.2
  refine A_aload_n (i := 0) dX2_stainedBy_0 rfl rfl ?_
  refine A_iload_n (i := 1) dX2_stainedBy_1 rfl rfl ?_
  refine A_iload_n (i := 2) dX2_stainedBy_2 rfl rfl ?_
  refine A_callV2E (v := some (.int (runIn (m_now ms) t h))) (τ := mc b9 ms σ0) (c_runningIn b9 ms σ0 t h (by first | assumption | omega)) tX2_runningIn q2481 (mc_0 _ _ _) rfl rfl dX2_stainedBy_3 (by decide) (Nat.le_of_eq (Nat.zero_add _)) (Nat.le_of_ble_eq_true rfl) ?_
  refine A_istore_n (i := 3) dX2_stainedBy_6 rfl (Nat.le_of_ble_eq_true rfl) ?_
  refine A_iconst (v := 0) dX2_stainedBy_7 (by decide) ?_
  refine A_istore dX2_stainedBy_8 (Nat.le_of_ble_eq_true rfl) ?_
  refine A_iconst (v := 0) dX2_stainedBy_10 (by decide) ?_
  refine A_istore dX2_stainedBy_11 (Nat.le_of_ble_eq_true rfl) ?_
  refine A_sub (L' := [(0, .ref b9), (1, .int t), (2, .int h), (3, .int (runIn (m_now ms) t h)), (4, .int (sm (fun f => bi (inTub (m_now ms) f t ∧ ¬ newS (m_now ms) f (runIn (m_now ms) t h) = 0)) 0)), (5, .int (nI 0))]) ⟨rfl, rfl, rfl, rfl, rfl, rfl, trivial⟩ ?_
  refine A_for (nF (m_now ms)) (fun i13 => 0) (fun i13 => [(0, .ref b9), (1, .int t), (2, .int h), (3, .int (runIn (m_now ms) t h)), (4, .int (sm (fun f => bi (inTub (m_now ms) f t ∧ ¬ newS (m_now ms) f (runIn (m_now ms) t h) = 0)) i13)), (5, .int (nI i13))]) (fun i13 => mc b9 ms σ0) (fun i13 => True) trivial (fun i13 hi13 hI13 ih13 => ?_) (fun hI13 => ?_)
  · skip
    refine A_iload dX2_stainedBy_13 rfl ?_
    refine A_aload_n (i := 0) dX2_stainedBy_15 rfl rfl ?_
    refine M_get 1 (v := .ref (b9 + 1)) (Nat.le_of_ble_eq_true rfl) q2230 rfl dX2_stainedBy_16 ?_
    refine A_bipush (v := 10) dX2_stainedBy_19 (by decide) ?_
    refine M_ald1 (n := 10) (v := m_now ms 10) (rfl) (by decide) (rfl) dX2_stainedBy_21 ?_
    refine A_icmp_ge_f (tgt := 64) dX2_stainedBy_22 (by decide) (br_lt h1.2.2.2.2.1 hi13 (by omega)) ?_
    refine A_iload dX2_stainedBy_25 rfl ?_
    refine A_aload_n (i := 0) dX2_stainedBy_27 rfl rfl ?_
    refine A_iload dX2_stainedBy_28 rfl ?_
    refine A_iload_n (i := 1) dX2_stainedBy_30 rfl rfl ?_
    refine A_callV2E (v := some (.int (bi (inTub (m_now ms) i13 t)))) (τ := mc b9 ms σ0) (c_isInTub b9 ms σ0 i13 t (by first | assumption | omega)) tX2_isInTub q2452 (mc_0 _ _ _) rfl rfl dX2_stainedBy_31 (by decide) (Nat.le_of_eq (Nat.zero_add _)) (Nat.le_of_ble_eq_true rfl) ?_
    refine A_if_eq (tgt := 51) dX2_stainedBy_34 (by decide) (fun c1 => ?_) (fun c1 => ?_)
    · skip
      have c1 := bi_eq0.mp c1
      refine A_iconst (v := 0) dX2_stainedBy_51 (by decide) ?_
      refine A_callS1E (v := some (.int (oneI 0))) (τ := mc b9 ms σ0) (c_one b9 ms σ0 0) tX2_one q2456 dX2_stainedBy_52 (by decide) (Nat.le_of_eq (Nat.zero_add _)) (Nat.le_of_ble_eq_true rfl) ?_
      refine A_int (w := 0) (by decide) ?_
      refine A_iadd dX2_stainedBy_55 ?_
      refine A_int (w := sm (fun f => bi (inTub (m_now ms) f t ∧ ¬ newS (m_now ms) f (runIn (m_now ms) t h) = 0)) (i13 + 1)) (by rw [sm_s] <;> simp [bi, inTub, inBasket, hasB, inR, -Int32.not_lt, -Int32.not_le, c1]) ?_
      refine A_istore dX2_stainedBy_56 (Nat.le_of_ble_eq_true rfl) ?_
      refine A_iinc (v := nI (i13 + 1)) dX2_stainedBy_58 rfl (nI_inc _ _) (Nat.le_of_ble_eq_true rfl) ?_
      refine A_goto (tgt := 13) dX2_stainedBy_61 (by decide) ?_
      refine A_sub (L' := [(0, .ref b9), (1, .int t), (2, .int h), (3, .int (runIn (m_now ms) t h)), (4, .int (sm (fun f => bi (inTub (m_now ms) f t ∧ ¬ newS (m_now ms) f (runIn (m_now ms) t h) = 0)) (i13 + 1))), (5, .int (nI (i13 + 1)))]) ⟨rfl, rfl, rfl, rfl, rfl, rfl, trivial⟩ ?_
      exact ih13 trivial
    · skip
      have c1 := bi_ne0.mp c1
      refine A_aload_n (i := 0) dX2_stainedBy_37 rfl rfl ?_
      refine A_iload dX2_stainedBy_38 rfl ?_
      refine A_iload_n (i := 3) dX2_stainedBy_40 rfl rfl ?_
      refine A_callV2E (v := some (.int (newS (m_now ms) i13 (runIn (m_now ms) t h)))) (τ := mc b9 ms σ0) (c_newStains b9 ms σ0 i13 (runIn (m_now ms) t h) (by first | assumption | omega)) tX2_newStains q2497 (mc_0 _ _ _) rfl rfl dX2_stainedBy_41 (by decide) (Nat.le_of_eq (Nat.zero_add _)) (Nat.le_of_ble_eq_true rfl) ?_
      refine A_if_eq (tgt := 51) dX2_stainedBy_44 (by decide) (fun c2 => ?_) (fun c2 => ?_)
      · skip
        refine A_iconst (v := 0) dX2_stainedBy_51 (by decide) ?_
        refine A_callS1E (v := some (.int (oneI 0))) (τ := mc b9 ms σ0) (c_one b9 ms σ0 0) tX2_one q2456 dX2_stainedBy_52 (by decide) (Nat.le_of_eq (Nat.zero_add _)) (Nat.le_of_ble_eq_true rfl) ?_
        refine A_int (w := 0) (by decide) ?_
        refine A_iadd dX2_stainedBy_55 ?_
        refine A_int (w := sm (fun f => bi (inTub (m_now ms) f t ∧ ¬ newS (m_now ms) f (runIn (m_now ms) t h) = 0)) (i13 + 1)) (by rw [sm_s] <;> simp [bi, inTub, inBasket, hasB, inR, -Int32.not_lt, -Int32.not_le, c1, c2]) ?_
        refine A_istore dX2_stainedBy_56 (Nat.le_of_ble_eq_true rfl) ?_
        refine A_iinc (v := nI (i13 + 1)) dX2_stainedBy_58 rfl (nI_inc _ _) (Nat.le_of_ble_eq_true rfl) ?_
        refine A_goto (tgt := 13) dX2_stainedBy_61 (by decide) ?_
        refine A_sub (L' := [(0, .ref b9), (1, .int t), (2, .int h), (3, .int (runIn (m_now ms) t h)), (4, .int (sm (fun f => bi (inTub (m_now ms) f t ∧ ¬ newS (m_now ms) f (runIn (m_now ms) t h) = 0)) (i13 + 1))), (5, .int (nI (i13 + 1)))]) ⟨rfl, rfl, rfl, rfl, rfl, rfl, trivial⟩ ?_
        exact ih13 trivial
      · skip
        refine A_iconst (v := 1) dX2_stainedBy_47 (by decide) ?_
        refine A_goto (tgt := 52) dX2_stainedBy_48 (by decide) ?_
        refine A_callS1E (v := some (.int (oneI 1))) (τ := mc b9 ms σ0) (c_one b9 ms σ0 1) tX2_one q2456 dX2_stainedBy_52 (by decide) (Nat.le_of_eq (Nat.zero_add _)) (Nat.le_of_ble_eq_true rfl) ?_
        refine A_int (w := 1) (by decide) ?_
        refine A_iadd dX2_stainedBy_55 ?_
        refine A_int (w := sm (fun f => bi (inTub (m_now ms) f t ∧ ¬ newS (m_now ms) f (runIn (m_now ms) t h) = 0)) (i13 + 1)) (by rw [sm_s] <;> simp [bi, inTub, inBasket, hasB, inR, -Int32.not_lt, -Int32.not_le, c1, c2]) ?_
        refine A_istore dX2_stainedBy_56 (Nat.le_of_ble_eq_true rfl) ?_
        refine A_iinc (v := nI (i13 + 1)) dX2_stainedBy_58 rfl (nI_inc _ _) (Nat.le_of_ble_eq_true rfl) ?_
        refine A_goto (tgt := 13) dX2_stainedBy_61 (by decide) ?_
        refine A_sub (L' := [(0, .ref b9), (1, .int t), (2, .int h), (3, .int (runIn (m_now ms) t h)), (4, .int (sm (fun f => bi (inTub (m_now ms) f t ∧ ¬ newS (m_now ms) f (runIn (m_now ms) t h) = 0)) (i13 + 1))), (5, .int (nI (i13 + 1)))]) ⟨rfl, rfl, rfl, rfl, rfl, rfl, trivial⟩ ?_
        exact ih13 trivial
  · skip
    refine A_iload dX2_stainedBy_13 rfl ?_
    refine A_aload_n (i := 0) dX2_stainedBy_15 rfl rfl ?_
    refine M_get 1 (v := .ref (b9 + 1)) (Nat.le_of_ble_eq_true rfl) q2230 rfl dX2_stainedBy_16 ?_
    refine A_bipush (v := 10) dX2_stainedBy_19 (by decide) ?_
    refine M_ald1 (n := 10) (v := m_now ms 10) (rfl) (by decide) (rfl) dX2_stainedBy_21 ?_
    refine A_icmp_ge_t (tgt := 64) dX2_stainedBy_22 (by decide) (br_ge h1.2.2.2.2.1) ?_
    refine A_iload dX2_stainedBy_64 rfl ?_
    exact A_iret dX2_stainedBy_66 rfl ⟨rfl, rfl⟩
theorem c_dirtBehind {l : Launch} {g : GC} (b9 : Nat) (ms : MM) (σ0 : AH) (f : Nat) (h : Int32) (h1 : f < 12) : AMet l g mX2_dirtBehind 2 0 [.ref b9, .int (nI f), .int h] (mc b9 ms σ0) (A_eq (some (.int (dirtB (m_now ms) f h))) (mc b9 ms σ0)) A_no := by
  refine A_of rfl (by decide) (Nat.le_of_ble_eq_true rfl) (L0 := [(0, .ref b9), (1, .int (nI f)), (2, .int h)]) rfl ?_
  refine A_iconst (v := 0) dX2_dirtBehind_0 (by decide) ?_
  refine A_aload_n (i := 0) dX2_dirtBehind_1 rfl rfl ?_
  refine A_iload_n (i := 1) dX2_dirtBehind_2 rfl rfl ?_
  refine A_iconst (v := 3) dX2_dirtBehind_3 (by decide) ?_
  refine A_callV2E (v := some (.int (fl (m_now ms) f 3))) (τ := mc b9 ms σ0) (c_ofFlag b9 ms σ0 f 3 (by first | assumption | omega) (by first | assumption | omega)) tX2_ofFlag q2444 (mc_0 _ _ _) rfl rfl dX2_dirtBehind_4 (by decide) (Nat.le_of_eq (Nat.zero_add _)) (Nat.le_of_ble_eq_true rfl) ?_
  refine A_iconst (v := 1) dX2_dirtBehind_7 (by decide) ?_
  refine A_isub dX2_dirtBehind_8 ?_
  refine A_iconst (v := 2) dX2_dirtBehind_9 (by decide) ?_
  refine A_iload_n (i := 2) dX2_dirtBehind_10 rfl rfl ?_
  refine A_imul dX2_dirtBehind_11 ?_
  refine A_isub dX2_dirtBehind_12 ?_
  refine A_mmax q2509 q454 q150 q455 dX2_dirtBehind_13 (by decide) (Nat.le_of_ble_eq_true rfl) ?_
  refine A_int (w := (mx 0 (((fl (m_now ms) f 3) - 1) - (2 * h)))) rfl ?_
  exact A_iret dX2_dirtBehind_16 rfl ⟨rfl, rfl⟩
theorem c_dirtBy {l : Launch} {g : GC} (b9 : Nat) (ms : MM) (σ0 : AH) (t : Int32) (h : Int32) (h1 : WFc (m_now ms)) : AMet l g mX2_dirtBy 4 0 [.ref b9, .int t, .int h] (mc b9 ms σ0) (A_eq (some (.int (dirtBy (m_now ms) t h))) (mc b9 ms σ0)) A_no := by
  refine A_of rfl (by decide) (Nat.le_of_ble_eq_true rfl) (L0 := [(0, .ref b9), (1, .int t), (2, .int h)]) rfl ?_
  have hF := h1.2.2.2.2.2
  have hC := h1.1.2
  refine A_iconst (v := 0) dX2_dirtBy_0 (by decide) ?_
  refine A_istore_n (i := 3) dX2_dirtBy_1 rfl (Nat.le_of_ble_eq_true rfl) ?_
  refine A_iconst (v := 0) dX2_dirtBy_2 (by decide) ?_
  refine A_istore dX2_dirtBy_3 (Nat.le_of_ble_eq_true rfl) ?_
  refine A_sub (L' := [(0, .ref b9), (1, .int t), (2, .int h), (3, .int (sm (fun f => if inTub (m_now ms) f t then dirtB (m_now ms) f h else 0) 0)), (4, .int (nI 0))]) ⟨rfl, rfl, rfl, rfl, rfl, trivial⟩ ?_
  refine A_for (nF (m_now ms)) (fun i5 => 0) (fun i5 => [(0, .ref b9), (1, .int t), (2, .int h), (3, .int (sm (fun f => if inTub (m_now ms) f t then dirtB (m_now ms) f h else 0) i5)), (4, .int (nI i5))]) (fun i5 => mc b9 ms σ0) (fun i5 => True) trivial (fun i5 hi5 hI5 ih5 => ?_) (fun hI5 => ?_)
  · skip
    refine A_iload dX2_dirtBy_5 rfl ?_
    refine A_aload_n (i := 0) dX2_dirtBy_7 rfl rfl ?_
    refine M_get 1 (v := .ref (b9 + 1)) (Nat.le_of_ble_eq_true rfl) q2230 rfl dX2_dirtBy_8 ?_
    refine A_bipush (v := 10) dX2_dirtBy_11 (by decide) ?_
    refine M_ald1 (n := 10) (v := m_now ms 10) (rfl) (by decide) (rfl) dX2_dirtBy_13 ?_
    refine A_icmp_ge_f (tgt := 47) dX2_dirtBy_14 (by decide) (br_lt h1.2.2.2.2.1 hi5 (by omega)) ?_
    refine A_iload_n (i := 3) dX2_dirtBy_17 rfl rfl ?_
    refine A_aload_n (i := 0) dX2_dirtBy_18 rfl rfl ?_
    refine A_iload dX2_dirtBy_19 rfl ?_
    refine A_iload_n (i := 1) dX2_dirtBy_21 rfl rfl ?_
    refine A_callV2E (v := some (.int (bi (inTub (m_now ms) i5 t)))) (τ := mc b9 ms σ0) (c_isInTub b9 ms σ0 i5 t (by first | assumption | omega)) tX2_isInTub q2452 (mc_0 _ _ _) rfl rfl dX2_dirtBy_22 (by decide) (Nat.le_of_eq (Nat.zero_add _)) (Nat.le_of_ble_eq_true rfl) ?_
    refine A_if_eq (tgt := 38) dX2_dirtBy_25 (by decide) (fun c1 => ?_) (fun c1 => ?_)
    · skip
      have c1 := bi_eq0.mp c1
      refine A_iconst (v := 0) dX2_dirtBy_38 (by decide) ?_
      refine A_iadd dX2_dirtBy_39 ?_
      refine A_int (w := sm (fun f => if inTub (m_now ms) f t then dirtB (m_now ms) f h else 0) (i5 + 1)) (by rw [sm_s] <;> simp [bi, inTub, inBasket, hasB, inR, -Int32.not_lt, -Int32.not_le, c1]) ?_
      refine A_istore_n (i := 3) dX2_dirtBy_40 rfl (Nat.le_of_ble_eq_true rfl) ?_
      refine A_iinc (v := nI (i5 + 1)) dX2_dirtBy_41 rfl (nI_inc _ _) (Nat.le_of_ble_eq_true rfl) ?_
      refine A_goto (tgt := 5) dX2_dirtBy_44 (by decide) ?_
      refine A_sub (L' := [(0, .ref b9), (1, .int t), (2, .int h), (3, .int (sm (fun f => if inTub (m_now ms) f t then dirtB (m_now ms) f h else 0) (i5 + 1))), (4, .int (nI (i5 + 1)))]) ⟨rfl, rfl, rfl, rfl, rfl, trivial⟩ ?_
      exact ih5 trivial
    · skip
      have c1 := bi_ne0.mp c1
      refine A_aload_n (i := 0) dX2_dirtBy_28 rfl rfl ?_
      refine A_iload dX2_dirtBy_29 rfl ?_
      refine A_iload_n (i := 2) dX2_dirtBy_31 rfl rfl ?_
      refine A_callV2E (v := some (.int (dirtB (m_now ms) i5 h))) (τ := mc b9 ms σ0) (c_dirtBehind b9 ms σ0 i5 h (by first | assumption | omega)) tX2_dirtBehind q2505 (mc_0 _ _ _) rfl rfl dX2_dirtBy_32 (by decide) (Nat.le_of_eq (Nat.zero_add _)) (Nat.le_of_ble_eq_true rfl) ?_
      refine A_goto (tgt := 39) dX2_dirtBy_35 (by decide) ?_
      refine A_iadd dX2_dirtBy_39 ?_
      refine A_int (w := sm (fun f => if inTub (m_now ms) f t then dirtB (m_now ms) f h else 0) (i5 + 1)) (by rw [sm_s] <;> simp [bi, inTub, inBasket, hasB, inR, -Int32.not_lt, -Int32.not_le, c1]) ?_
      refine A_istore_n (i := 3) dX2_dirtBy_40 rfl (Nat.le_of_ble_eq_true rfl) ?_
      refine A_iinc (v := nI (i5 + 1)) dX2_dirtBy_41 rfl (nI_inc _ _) (Nat.le_of_ble_eq_true rfl) ?_
      refine A_goto (tgt := 5) dX2_dirtBy_44 (by decide) ?_
      refine A_sub (L' := [(0, .ref b9), (1, .int t), (2, .int h), (3, .int (sm (fun f => if inTub (m_now ms) f t then dirtB (m_now ms) f h else 0) (i5 + 1))), (4, .int (nI (i5 + 1)))]) ⟨rfl, rfl, rfl, rfl, rfl, trivial⟩ ?_
      exact ih5 trivial
  · skip
    refine A_iload dX2_dirtBy_5 rfl ?_
    refine A_aload_n (i := 0) dX2_dirtBy_7 rfl rfl ?_
    refine M_get 1 (v := .ref (b9 + 1)) (Nat.le_of_ble_eq_true rfl) q2230 rfl dX2_dirtBy_8 ?_
    refine A_bipush (v := 10) dX2_dirtBy_11 (by decide) ?_
    refine M_ald1 (n := 10) (v := m_now ms 10) (rfl) (by decide) (rfl) dX2_dirtBy_13 ?_
    refine A_icmp_ge_t (tgt := 47) dX2_dirtBy_14 (by decide) (br_ge h1.2.2.2.2.1) ?_
    refine A_iload_n (i := 3) dX2_dirtBy_47 rfl rfl ?_
    exact A_iret dX2_dirtBy_48 rfl ⟨rfl, rfl⟩
theorem c_isWashed {l : Launch} {g : GC} (b9 : Nat) (ms : MM) (σ0 : AH) (f : Nat) (r : Int32) (h : Int32) (h1 : f < 12) : AMet l g mX2_isWashed 3 0 [.ref b9, .int (nI f), .int r, .int h] (mc b9 ms σ0) (A_eq (none) (mc b9 (⟨m_thr ms, m_is ms, m_um ms, m_bd ms, m_pc ms, m_pa ms, m_sz ms, m_cu ms, m_st ms, m_tk ms, m_to ms, m_ps ms, washF (m_now ms) f r h, m_asd ms, m_und ms, m_sav ms, m_isv ms, m_buf ms, m_grp ms, m_pag ms⟩ : MM) σ0)) A_no := by
  refine A_of rfl (by decide) (Nat.le_of_ble_eq_true rfl) (L0 := [(0, .ref b9), (1, .int (nI f)), (2, .int r), (3, .int h)]) rfl ?_
  refine A_aload_n (i := 0) dX2_isWashed_0 rfl rfl ?_
  refine A_iload_n (i := 1) dX2_isWashed_1 rfl rfl ?_
  refine A_bipush (v := 6) dX2_isWashed_2 (by decide) ?_
  refine A_aload_n (i := 0) dX2_isWashed_4 rfl rfl ?_
  refine A_iload_n (i := 1) dX2_isWashed_5 rfl rfl ?_
  refine A_bipush (v := 6) dX2_isWashed_6 (by decide) ?_
  refine A_callV2E (v := some (.int (fl (m_now ms) f 6))) (τ := mc b9 ms σ0) (c_ofFlag b9 ms σ0 f 6 (by first | assumption | omega) (by first | assumption | omega)) tX2_ofFlag q2444 (mc_0 _ _ _) rfl rfl dX2_isWashed_8 (by decide) (Nat.le_of_eq (Nat.zero_add _)) (Nat.le_of_ble_eq_true rfl) ?_
  refine A_aload_n (i := 0) dX2_isWashed_11 rfl rfl ?_
  refine A_iload_n (i := 1) dX2_isWashed_12 rfl rfl ?_
  refine A_iload_n (i := 2) dX2_isWashed_13 rfl rfl ?_
  refine A_callV2E (v := some (.int (newS (m_now ms) f r))) (τ := mc b9 ms σ0) (c_newStains b9 ms σ0 f r (by first | assumption | omega)) tX2_newStains q2497 (mc_0 _ _ _) rfl rfl dX2_isWashed_14 (by decide) (Nat.le_of_eq (Nat.zero_add _)) (Nat.le_of_ble_eq_true rfl) ?_
  refine A_ior dX2_isWashed_17 ?_
  refine A_callV3E (v := none) (τ := mc b9 (⟨m_thr ms, m_is ms, m_um ms, m_bd ms, m_pc ms, m_pa ms, m_sz ms, m_cu ms, m_st ms, m_tk ms, m_to ms, m_ps ms, wa1 (m_now ms) f r, m_asd ms, m_und ms, m_sav ms, m_isv ms, m_buf ms, m_grp ms, m_pag ms⟩ : MM) σ0) (c_putsFlag b9 ms σ0 f 6 ((fl (m_now ms) f 6) ||| (newS (m_now ms) f r)) (by first | assumption | omega) (by first | assumption | omega)) tX2_putsFlag q2415 (mc_0 _ _ _) rfl rfl dX2_isWashed_18 (by decide) (Nat.le_of_eq (Nat.zero_add _)) (Nat.le_of_ble_eq_true rfl) ?_
  refine A_aload_n (i := 0) dX2_isWashed_21 rfl rfl ?_
  refine A_iload_n (i := 1) dX2_isWashed_22 rfl rfl ?_
  refine A_iconst (v := 3) dX2_isWashed_23 (by decide) ?_
  refine A_aload_n (i := 0) dX2_isWashed_24 rfl rfl ?_
  refine A_iload_n (i := 1) dX2_isWashed_25 rfl rfl ?_
  refine A_iload_n (i := 3) dX2_isWashed_26 rfl rfl ?_
  refine A_callV2E (v := some (.int (dirtB (wa1 (m_now ms) f r) f h))) (τ := mc b9 (⟨m_thr ms, m_is ms, m_um ms, m_bd ms, m_pc ms, m_pa ms, m_sz ms, m_cu ms, m_st ms, m_tk ms, m_to ms, m_ps ms, wa1 (m_now ms) f r, m_asd ms, m_und ms, m_sav ms, m_isv ms, m_buf ms, m_grp ms, m_pag ms⟩ : MM) σ0) (c_dirtBehind b9 (⟨m_thr ms, m_is ms, m_um ms, m_bd ms, m_pc ms, m_pa ms, m_sz ms, m_cu ms, m_st ms, m_tk ms, m_to ms, m_ps ms, wa1 (m_now ms) f r, m_asd ms, m_und ms, m_sav ms, m_isv ms, m_buf ms, m_grp ms, m_pag ms⟩ : MM) σ0 f h (by first | assumption | omega)) tX2_dirtBehind q2505 (mc_0 _ _ _) rfl rfl dX2_isWashed_27 (by decide) (Nat.le_of_eq (Nat.zero_add _)) (Nat.le_of_ble_eq_true rfl) ?_
  refine A_callV3E (v := none) (τ := mc b9 (⟨m_thr ms, m_is ms, m_um ms, m_bd ms, m_pc ms, m_pa ms, m_sz ms, m_cu ms, m_st ms, m_tk ms, m_to ms, m_ps ms, wa2 (m_now ms) f r h, m_asd ms, m_und ms, m_sav ms, m_isv ms, m_buf ms, m_grp ms, m_pag ms⟩ : MM) σ0) (c_putsFlag b9 (⟨m_thr ms, m_is ms, m_um ms, m_bd ms, m_pc ms, m_pa ms, m_sz ms, m_cu ms, m_st ms, m_tk ms, m_to ms, m_ps ms, wa1 (m_now ms) f r, m_asd ms, m_und ms, m_sav ms, m_isv ms, m_buf ms, m_grp ms, m_pag ms⟩ : MM) σ0 f 3 (dirtB (wa1 (m_now ms) f r) f h) (by first | assumption | omega) (by first | assumption | omega)) tX2_putsFlag q2415 (mc_0 _ _ _) rfl rfl dX2_isWashed_30 (by decide) (Nat.le_of_eq (Nat.zero_add _)) (Nat.le_of_ble_eq_true rfl) ?_
  refine A_aload_n (i := 0) dX2_isWashed_33 rfl rfl ?_
  refine A_iload_n (i := 1) dX2_isWashed_34 rfl rfl ?_
  refine A_iconst (v := 4) dX2_isWashed_35 (by decide) ?_
  refine A_bipush (v := 9) dX2_isWashed_36 (by decide) ?_
  refine A_callV3E (v := none) (τ := mc b9 (⟨m_thr ms, m_is ms, m_um ms, m_bd ms, m_pc ms, m_pa ms, m_sz ms, m_cu ms, m_st ms, m_tk ms, m_to ms, m_ps ms, wa3 (m_now ms) f r h, m_asd ms, m_und ms, m_sav ms, m_isv ms, m_buf ms, m_grp ms, m_pag ms⟩ : MM) σ0) (c_putsFlag b9 (⟨m_thr ms, m_is ms, m_um ms, m_bd ms, m_pc ms, m_pa ms, m_sz ms, m_cu ms, m_st ms, m_tk ms, m_to ms, m_ps ms, wa2 (m_now ms) f r h, m_asd ms, m_und ms, m_sav ms, m_isv ms, m_buf ms, m_grp ms, m_pag ms⟩ : MM) σ0 f 4 9 (by first | assumption | omega) (by first | assumption | omega)) tX2_putsFlag q2415 (mc_0 _ _ _) rfl rfl dX2_isWashed_38 (by decide) (Nat.le_of_eq (Nat.zero_add _)) (Nat.le_of_ble_eq_true rfl) ?_
  refine A_aload_n (i := 0) dX2_isWashed_41 rfl rfl ?_
  refine A_iload_n (i := 1) dX2_isWashed_42 rfl rfl ?_
  refine A_iconst (v := 5) dX2_isWashed_43 (by decide) ?_
  refine A_bipush (v := 9) dX2_isWashed_44 (by decide) ?_
  refine A_aload_n (i := 0) dX2_isWashed_46 rfl rfl ?_
  refine A_iload_n (i := 1) dX2_isWashed_47 rfl rfl ?_
  refine A_iconst (v := 5) dX2_isWashed_48 (by decide) ?_
  refine A_callV2E (v := some (.int (fl (wa3 (m_now ms) f r h) f 5))) (τ := mc b9 (⟨m_thr ms, m_is ms, m_um ms, m_bd ms, m_pc ms, m_pa ms, m_sz ms, m_cu ms, m_st ms, m_tk ms, m_to ms, m_ps ms, wa3 (m_now ms) f r h, m_asd ms, m_und ms, m_sav ms, m_isv ms, m_buf ms, m_grp ms, m_pag ms⟩ : MM) σ0) (c_ofFlag b9 (⟨m_thr ms, m_is ms, m_um ms, m_bd ms, m_pc ms, m_pa ms, m_sz ms, m_cu ms, m_st ms, m_tk ms, m_to ms, m_ps ms, wa3 (m_now ms) f r h, m_asd ms, m_und ms, m_sav ms, m_isv ms, m_buf ms, m_grp ms, m_pag ms⟩ : MM) σ0 f 5 (by first | assumption | omega) (by first | assumption | omega)) tX2_ofFlag q2444 (mc_0 _ _ _) rfl rfl dX2_isWashed_49 (by decide) (Nat.le_of_eq (Nat.zero_add _)) (Nat.le_of_ble_eq_true rfl) ?_
  refine A_iconst (v := 1) dX2_isWashed_52 (by decide) ?_
  refine A_iadd dX2_isWashed_53 ?_
  refine A_iload_n (i := 3) dX2_isWashed_54 rfl rfl ?_
  refine A_iadd dX2_isWashed_55 ?_
  refine A_mmin q2476 q472 q150 q473 dX2_isWashed_56 (by decide) (Nat.le_of_ble_eq_true rfl) ?_
  refine A_int (w := (mn 9 (((fl (wa3 (m_now ms) f r h) f 5) + 1) + h))) rfl ?_
  refine A_callV3E (v := none) (τ := mc b9 (⟨m_thr ms, m_is ms, m_um ms, m_bd ms, m_pc ms, m_pa ms, m_sz ms, m_cu ms, m_st ms, m_tk ms, m_to ms, m_ps ms, wa4 (m_now ms) f r h, m_asd ms, m_und ms, m_sav ms, m_isv ms, m_buf ms, m_grp ms, m_pag ms⟩ : MM) σ0) (c_putsFlag b9 (⟨m_thr ms, m_is ms, m_um ms, m_bd ms, m_pc ms, m_pa ms, m_sz ms, m_cu ms, m_st ms, m_tk ms, m_to ms, m_ps ms, wa3 (m_now ms) f r h, m_asd ms, m_und ms, m_sav ms, m_isv ms, m_buf ms, m_grp ms, m_pag ms⟩ : MM) σ0 f 5 (mn 9 (((fl (wa3 (m_now ms) f r h) f 5) + 1) + h)) (by first | assumption | omega) (by first | assumption | omega)) tX2_putsFlag q2415 (mc_0 _ _ _) rfl rfl dX2_isWashed_59 (by decide) (Nat.le_of_eq (Nat.zero_add _)) (Nat.le_of_ble_eq_true rfl) ?_
  refine A_aload_n (i := 0) dX2_isWashed_62 rfl rfl ?_
  refine A_iload_n (i := 1) dX2_isWashed_63 rfl rfl ?_
  refine A_iconst (v := 0) dX2_isWashed_64 (by decide) ?_
  refine A_iconst (v := (-1)) dX2_isWashed_65 (by decide) ?_
  refine A_callV3E (v := none) (τ := mc b9 (⟨m_thr ms, m_is ms, m_um ms, m_bd ms, m_pc ms, m_pa ms, m_sz ms, m_cu ms, m_st ms, m_tk ms, m_to ms, m_ps ms, washF (m_now ms) f r h, m_asd ms, m_und ms, m_sav ms, m_isv ms, m_buf ms, m_grp ms, m_pag ms⟩ : MM) σ0) (c_goesTo b9 (⟨m_thr ms, m_is ms, m_um ms, m_bd ms, m_pc ms, m_pa ms, m_sz ms, m_cu ms, m_st ms, m_tk ms, m_to ms, m_ps ms, wa4 (m_now ms) f r h, m_asd ms, m_und ms, m_sav ms, m_isv ms, m_buf ms, m_grp ms, m_pag ms⟩ : MM) σ0 f 0 (-1) (by first | assumption | omega)) tX2_goesTo q2419 (mc_0 _ _ _) rfl rfl dX2_isWashed_66 (by decide) (Nat.le_of_eq (Nat.zero_add _)) (Nat.le_of_ble_eq_true rfl) ?_
  exact A_vret dX2_isWashed_69 rfl ⟨rfl, rfl⟩
theorem c_washes {l : Launch} {g : GC} (b9 : Nat) (ms : MM) (σ0 : AH) (t : Int32) (h : Int32) (h1 : WFc (m_now ms)) : AMet l g mX2_washes 6 0 [.ref b9, .int t, .int h] (mc b9 ms σ0) (A_eq (some (.int (stainBy (m_now ms) t h))) (mc b9 (⟨m_thr ms, m_is ms, m_um ms, m_bd ms, m_pc ms, m_pa ms, m_sz ms, m_cu ms, m_st ms, m_tk ms, m_to ms, m_ps ms, washN (m_now ms) t h, m_asd ms, m_und ms, m_sav ms, m_isv ms, m_buf ms, m_grp ms, m_pag ms⟩ : MM) σ0)) A_no := by
  refine A_of rfl (by decide) (Nat.le_of_ble_eq_true rfl) (L0 := [(0, .ref b9), (1, .int t), (2, .int h)]) rfl ?_
  have hF := h1.2.2.2.2.2
  have hC := h1.1.2
  refine A_aload_n (i := 0) dX2_washes_0 rfl rfl ?_
  refine A_iload_n (i := 1) dX2_washes_1 rfl rfl ?_
  refine A_iload_n (i := 2) dX2_washes_2 rfl rfl ?_
  refine A_callV2E (v := some (.int (runIn (m_now ms) t h))) (τ := mc b9 ms σ0) (c_runningIn b9 ms σ0 t h (by first | assumption | omega)) tX2_runningIn q2481 (mc_0 _ _ _) rfl rfl dX2_washes_3 (by decide) (Nat.le_of_eq (Nat.zero_add _)) (Nat.le_of_ble_eq_true rfl) ?_
  refine A_istore_n (i := 3) dX2_washes_6 rfl (Nat.le_of_ble_eq_true rfl) ?_
  refine A_aload_n (i := 0) dX2_washes_7 rfl rfl ?_
  refine A_iload_n (i := 1) dX2_washes_8 rfl rfl ?_
  refine A_iload_n (i := 2) dX2_washes_9 rfl rfl ?_
  refine A_callV2E (v := some (.int (stainBy (m_now ms) t h))) (τ := mc b9 ms σ0) (c_stainedBy b9 ms σ0 t h (by first | assumption | omega)) tX2_stainedBy q2493 (mc_0 _ _ _) rfl rfl dX2_washes_10 (by decide) (Nat.le_of_eq (Nat.zero_add _)) (Nat.le_of_ble_eq_true rfl) ?_
  refine A_istore dX2_washes_13 (Nat.le_of_ble_eq_true rfl) ?_
  refine A_iconst (v := 0) dX2_washes_15 (by decide) ?_
  refine A_istore dX2_washes_16 (Nat.le_of_ble_eq_true rfl) ?_
  refine A_sub (L' := [(0, .ref b9), (1, .int t), (2, .int h), (3, .int (runIn (m_now ms) t h)), (4, .int (stainBy (m_now ms) t h)), (5, .int (nI 0))]) ⟨rfl, rfl, rfl, rfl, rfl, rfl, trivial⟩ ?_
  refine A_for (nF (m_now ms)) (fun i18 => 0) (fun i18 => [(0, .ref b9), (1, .int t), (2, .int h), (3, .int (runIn (m_now ms) t h)), (4, .int (stainBy (m_now ms) t h)), (5, .int (nI i18))]) (fun i18 => mc b9 (⟨m_thr ms, m_is ms, m_um ms, m_bd ms, m_pc ms, m_pa ms, m_sz ms, m_cu ms, m_st ms, m_tk ms, m_to ms, m_ps ms, wsh (m_now ms) t (runIn (m_now ms) t h) h i18, m_asd ms, m_und ms, m_sav ms, m_isv ms, m_buf ms, m_grp ms, m_pag ms⟩ : MM) σ0) (fun i18 => True) trivial (fun i18 hi18 hI18 ih18 => ?_) (fun hI18 => ?_)
  · skip
    refine A_iload dX2_washes_18 rfl ?_
    refine A_aload_n (i := 0) dX2_washes_20 rfl rfl ?_
    refine M_get 1 (v := .ref (b9 + 1)) (Nat.le_of_ble_eq_true rfl) q2230 rfl dX2_washes_21 ?_
    refine A_bipush (v := 10) dX2_washes_24 (by decide) ?_
    refine M_ald1 (n := 10) (v := (wsh (m_now ms) t (runIn (m_now ms) t h) h i18) 10) (rfl) (by decide) (rfl) dX2_washes_26 ?_
    refine A_icmp_ge_f (tgt := 54) dX2_washes_27 (by decide) (br_lt ((hdr_wsh _ _ _ _ _).eqF h1) hi18 (by omega)) ?_
    refine A_aload_n (i := 0) dX2_washes_30 rfl rfl ?_
    refine A_iload dX2_washes_31 rfl ?_
    refine A_iload_n (i := 1) dX2_washes_33 rfl rfl ?_
    refine A_callV2E (v := some (.int (bi (inTub (wsh (m_now ms) t (runIn (m_now ms) t h) h i18) i18 t)))) (τ := mc b9 (⟨m_thr ms, m_is ms, m_um ms, m_bd ms, m_pc ms, m_pa ms, m_sz ms, m_cu ms, m_st ms, m_tk ms, m_to ms, m_ps ms, wsh (m_now ms) t (runIn (m_now ms) t h) h i18, m_asd ms, m_und ms, m_sav ms, m_isv ms, m_buf ms, m_grp ms, m_pag ms⟩ : MM) σ0) (c_isInTub b9 (⟨m_thr ms, m_is ms, m_um ms, m_bd ms, m_pc ms, m_pa ms, m_sz ms, m_cu ms, m_st ms, m_tk ms, m_to ms, m_ps ms, wsh (m_now ms) t (runIn (m_now ms) t h) h i18, m_asd ms, m_und ms, m_sav ms, m_isv ms, m_buf ms, m_grp ms, m_pag ms⟩ : MM) σ0 i18 t (by first | assumption | omega)) tX2_isInTub q2452 (mc_0 _ _ _) rfl rfl dX2_washes_34 (by decide) (Nat.le_of_eq (Nat.zero_add _)) (Nat.le_of_ble_eq_true rfl) ?_
    refine A_if_eq (tgt := 48) dX2_washes_37 (by decide) (fun c1 => ?_) (fun c1 => ?_)
    · skip
      have c1 := bi_eq0.mp c1
      refine A_iinc (v := nI (i18 + 1)) dX2_washes_48 rfl (nI_inc _ _) (Nat.le_of_ble_eq_true rfl) ?_
      refine A_goto (tgt := 18) dX2_washes_51 (by decide) ?_
      refine A_sub (L' := [(0, .ref b9), (1, .int t), (2, .int h), (3, .int (runIn (m_now ms) t h)), (4, .int (stainBy (m_now ms) t h)), (5, .int (nI (i18 + 1)))]) ⟨rfl, rfl, rfl, rfl, rfl, rfl, trivial⟩ ?_
      rw [show mc b9 (⟨m_thr ms, m_is ms, m_um ms, m_bd ms, m_pc ms, m_pa ms, m_sz ms, m_cu ms, m_st ms, m_tk ms, m_to ms, m_ps ms, wsh (m_now ms) t (runIn (m_now ms) t h) h i18, m_asd ms, m_und ms, m_sav ms, m_isv ms, m_buf ms, m_grp ms, m_pag ms⟩ : MM) σ0 = mc b9 (s_now (wsh (m_now ms) t (runIn (m_now ms) t h) h (i18 + 1)) ms) σ0 by rw [wsh_s, if_neg c1] <;> rfl]
      exact ih18 trivial
    · skip
      have c1 := bi_ne0.mp c1
      refine A_aload_n (i := 0) dX2_washes_40 rfl rfl ?_
      refine A_iload dX2_washes_41 rfl ?_
      refine A_iload_n (i := 3) dX2_washes_43 rfl rfl ?_
      refine A_iload_n (i := 2) dX2_washes_44 rfl rfl ?_
      refine A_callV3E (v := none) (τ := mc b9 (⟨m_thr ms, m_is ms, m_um ms, m_bd ms, m_pc ms, m_pa ms, m_sz ms, m_cu ms, m_st ms, m_tk ms, m_to ms, m_ps ms, washF (wsh (m_now ms) t (runIn (m_now ms) t h) h i18) i18 (runIn (m_now ms) t h) h, m_asd ms, m_und ms, m_sav ms, m_isv ms, m_buf ms, m_grp ms, m_pag ms⟩ : MM) σ0) (c_isWashed b9 (⟨m_thr ms, m_is ms, m_um ms, m_bd ms, m_pc ms, m_pa ms, m_sz ms, m_cu ms, m_st ms, m_tk ms, m_to ms, m_ps ms, wsh (m_now ms) t (runIn (m_now ms) t h) h i18, m_asd ms, m_und ms, m_sav ms, m_isv ms, m_buf ms, m_grp ms, m_pag ms⟩ : MM) σ0 i18 (runIn (m_now ms) t h) h (by first | assumption | omega)) tX2_isWashed q2501 (mc_0 _ _ _) rfl rfl dX2_washes_45 (by decide) (Nat.le_of_eq (Nat.zero_add _)) (Nat.le_of_ble_eq_true rfl) ?_
      refine A_iinc (v := nI (i18 + 1)) dX2_washes_48 rfl (nI_inc _ _) (Nat.le_of_ble_eq_true rfl) ?_
      refine A_goto (tgt := 18) dX2_washes_51 (by decide) ?_
      refine A_sub (L' := [(0, .ref b9), (1, .int t), (2, .int h), (3, .int (runIn (m_now ms) t h)), (4, .int (stainBy (m_now ms) t h)), (5, .int (nI (i18 + 1)))]) ⟨rfl, rfl, rfl, rfl, rfl, rfl, trivial⟩ ?_
      rw [show mc b9 (⟨m_thr ms, m_is ms, m_um ms, m_bd ms, m_pc ms, m_pa ms, m_sz ms, m_cu ms, m_st ms, m_tk ms, m_to ms, m_ps ms, washF (wsh (m_now ms) t (runIn (m_now ms) t h) h i18) i18 (runIn (m_now ms) t h) h, m_asd ms, m_und ms, m_sav ms, m_isv ms, m_buf ms, m_grp ms, m_pag ms⟩ : MM) σ0 = mc b9 (s_now (wsh (m_now ms) t (runIn (m_now ms) t h) h (i18 + 1)) ms) σ0 by rw [wsh_s, if_pos c1] <;> rfl]
      exact ih18 trivial
  · skip
    refine A_iload dX2_washes_18 rfl ?_
    refine A_aload_n (i := 0) dX2_washes_20 rfl rfl ?_
    refine M_get 1 (v := .ref (b9 + 1)) (Nat.le_of_ble_eq_true rfl) q2230 rfl dX2_washes_21 ?_
    refine A_bipush (v := 10) dX2_washes_24 (by decide) ?_
    refine M_ald1 (n := 10) (v := (wsh (m_now ms) t (runIn (m_now ms) t h) h (nF (m_now ms))) 10) (rfl) (by decide) (rfl) dX2_washes_26 ?_
    refine A_icmp_ge_t (tgt := 54) dX2_washes_27 (by decide) (br_ge ((hdr_wsh _ _ _ _ _).eqF h1)) ?_
    refine A_aload_n (i := 0) dX2_washes_54 rfl rfl ?_
    refine M_get 1 (v := .ref (b9 + 1)) (Nat.le_of_ble_eq_true rfl) q2230 rfl dX2_washes_55 ?_
    refine A_iconst (v := 4) dX2_washes_58 (by decide) ?_
    refine A_dup2 dX2_washes_59 rfl rfl ?_
    refine M_ald1 (n := 4) (v := (wsh (m_now ms) t (runIn (m_now ms) t h) h (nF (m_now ms))) 4) (rfl) (by decide) (rfl) dX2_washes_60 ?_
    refine A_iconst (v := 1) dX2_washes_61 (by decide) ?_
    refine A_iadd dX2_washes_62 ?_
    refine M_ast1 (n := 4) (na := va_up (wsh (m_now ms) t (runIn (m_now ms) t h) h (nF (m_now ms))) 4 ((wsh (m_now ms) t (runIn (m_now ms) t h) h (nF (m_now ms))) 4 + 1)) (rfl) (by decide) (rfl) dX2_washes_63 ?_
    refine A_iload dX2_washes_64 rfl ?_
    exact A_iret dX2_washes_66 rfl ⟨rfl, rfl⟩
theorem c_flagOn {l : Launch} {g : GC} (b9 : Nat) (ms : MM) (σ0 : AH) (p : Int32) (h1 : WFc (m_now ms)) : AMet l g mX2_flagOn 3 0 [.ref b9, .int p] (mc b9 ms σ0) (A_eq (some (.int (flagOnN (m_now ms) p))) (mc b9 ms σ0)) A_no := by
  refine A_of rfl (by decide) (Nat.le_of_ble_eq_true rfl) (L0 := [(0, .ref b9), (1, .int p)]) rfl ?_
  have hF := h1.2.2.2.2.2
  have hC := h1.1.2
  refine A_iconst (v := 0) dX2_flagOn_0 (by decide) ?_
  refine A_istore_n (i := 2) dX2_flagOn_1 rfl (Nat.le_of_ble_eq_true rfl) ?_
  refine A_sub (L' := [(0, .ref b9), (1, .int p), (2, .int (nI 0))]) ⟨rfl, rfl, rfl, trivial⟩ ?_
  refine A_for (nF (m_now ms)) (fun i2 => 0) (fun i2 => [(0, .ref b9), (1, .int p), (2, .int (nI i2))]) (fun i2 => mc b9 ms σ0) (fun i2 => flagOnN (m_now ms) p = fsr (fun f => fl (m_now ms) f 8 = 2 ∧ fl (m_now ms) f 9 = p) i2 (nF (m_now ms) - i2)) rfl (fun i2 hi2 hI2 ih2 => ?_) (fun hI2 => ?_)
  · skip
    refine A_iload_n (i := 2) dX2_flagOn_2 rfl rfl ?_
    refine A_aload_n (i := 0) dX2_flagOn_3 rfl rfl ?_
    refine M_get 1 (v := .ref (b9 + 1)) (Nat.le_of_ble_eq_true rfl) q2230 rfl dX2_flagOn_4 ?_
    refine A_bipush (v := 10) dX2_flagOn_7 (by decide) ?_
    refine M_ald1 (n := 10) (v := m_now ms 10) (rfl) (by decide) (rfl) dX2_flagOn_9 ?_
    refine A_icmp_ge_f (tgt := 41) dX2_flagOn_10 (by decide) (br_lt h1.2.2.2.2.1 hi2 (by omega)) ?_
    refine A_aload_n (i := 0) dX2_flagOn_13 rfl rfl ?_
    refine A_iload_n (i := 2) dX2_flagOn_14 rfl rfl ?_
    refine A_callV1E (v := some (.int (fl (m_now ms) i2 8))) (τ := mc b9 ms σ0) (c_where b9 ms σ0 i2 (by first | assumption | omega)) tX2_where q2440 (mc_0 _ _ _) rfl rfl dX2_flagOn_15 (by decide) (Nat.le_of_eq (Nat.zero_add _)) (Nat.le_of_ble_eq_true rfl) ?_
    refine A_iconst (v := 2) dX2_flagOn_18 (by decide) ?_
    refine A_icmp_ne (tgt := 35) dX2_flagOn_19 (by decide) (fun c1 => ?_) (fun c1 => ?_)
    · skip
      refine A_iinc (v := nI (i2 + 1)) dX2_flagOn_35 rfl (nI_inc _ _) (Nat.le_of_ble_eq_true rfl) ?_
      refine A_goto (tgt := 2) dX2_flagOn_38 (by decide) ?_
      refine A_sub (L' := [(0, .ref b9), (1, .int p), (2, .int (nI (i2 + 1)))]) ⟨rfl, rfl, rfl, trivial⟩ ?_
      exact ih2 (by rw [hI2, fsr_s _ hi2, if_neg (by simp [c1])])
    · skip
      refine A_aload_n (i := 0) dX2_flagOn_22 rfl rfl ?_
      refine A_iload_n (i := 2) dX2_flagOn_23 rfl rfl ?_
      refine A_bipush (v := 9) dX2_flagOn_24 (by decide) ?_
      refine A_callV2E (v := some (.int (fl (m_now ms) i2 9))) (τ := mc b9 ms σ0) (c_ofFlag b9 ms σ0 i2 9 (by first | assumption | omega) (by first | assumption | omega)) tX2_ofFlag q2444 (mc_0 _ _ _) rfl rfl dX2_flagOn_26 (by decide) (Nat.le_of_eq (Nat.zero_add _)) (Nat.le_of_ble_eq_true rfl) ?_
      refine A_iload_n (i := 1) dX2_flagOn_29 rfl rfl ?_
      refine A_icmp_ne (tgt := 35) dX2_flagOn_30 (by decide) (fun c2 => ?_) (fun c2 => ?_)
      · skip
        refine A_iinc (v := nI (i2 + 1)) dX2_flagOn_35 rfl (nI_inc _ _) (Nat.le_of_ble_eq_true rfl) ?_
        refine A_goto (tgt := 2) dX2_flagOn_38 (by decide) ?_
        refine A_sub (L' := [(0, .ref b9), (1, .int p), (2, .int (nI (i2 + 1)))]) ⟨rfl, rfl, rfl, trivial⟩ ?_
        exact ih2 (by rw [hI2, fsr_s _ hi2, if_neg (by simp [c1, c2])])
      · skip
        refine A_iload_n (i := 2) dX2_flagOn_33 rfl rfl ?_
        exact A_iret dX2_flagOn_34 rfl ⟨by rw [hI2, fsr_s _ hi2, if_pos ⟨c1, c2⟩], rfl⟩
  · skip
    refine A_iload_n (i := 2) dX2_flagOn_2 rfl rfl ?_
    refine A_aload_n (i := 0) dX2_flagOn_3 rfl rfl ?_
    refine M_get 1 (v := .ref (b9 + 1)) (Nat.le_of_ble_eq_true rfl) q2230 rfl dX2_flagOn_4 ?_
    refine A_bipush (v := 10) dX2_flagOn_7 (by decide) ?_
    refine M_ald1 (n := 10) (v := m_now ms 10) (rfl) (by decide) (rfl) dX2_flagOn_9 ?_
    refine A_icmp_ge_t (tgt := 41) dX2_flagOn_10 (by decide) (br_ge h1.2.2.2.2.1) ?_
    refine A_iconst (v := (-1)) dX2_flagOn_41 (by decide) ?_
    exact A_iret dX2_flagOn_42 rfl ⟨by rw [hI2, fsr_e], rfl⟩
theorem c_freePeg {l : Launch} {g : GC} (b9 : Nat) (ms : MM) (σ0 : AH)  (h1 : WFc (m_now ms)) : AMet l g mX2_freePeg 4 0 [.ref b9] (mc b9 ms σ0) (A_eq (some (.int (freeN (m_now ms)))) (mc b9 ms σ0)) A_no := by
  refine A_of rfl (by decide) (Nat.le_of_ble_eq_true rfl) (L0 := [(0, .ref b9)]) rfl ?_
  have hF := h1.2.2.2.2.2
  have hC := h1.1.2
  have hP := h1.2.2.2.1.2
  refine A_iconst (v := 0) dX2_freePeg_0 (by decide) ?_
  refine A_istore_n (i := 1) dX2_freePeg_1 rfl (Nat.le_of_ble_eq_true rfl) ?_
  refine A_sub (L' := [(0, .ref b9), (1, .int (nI 0))]) ⟨rfl, rfl, trivial⟩ ?_
  refine A_for (nP (m_now ms)) (fun i2 => 0) (fun i2 => [(0, .ref b9), (1, .int (nI i2))]) (fun i2 => mc b9 ms σ0) (fun i2 => freeN (m_now ms) = fsr (fun p => flagOnN (m_now ms) (nI p) = -1) i2 (nP (m_now ms) - i2)) rfl (fun i2 hi2 hI2 ih2 => ?_) (fun hI2 => ?_)
  · skip
    refine A_iload_n (i := 1) dX2_freePeg_2 rfl rfl ?_
    refine A_aload_n (i := 0) dX2_freePeg_3 rfl rfl ?_
    refine M_get 1 (v := .ref (b9 + 1)) (Nat.le_of_ble_eq_true rfl) q2230 rfl dX2_freePeg_4 ?_
    refine A_bipush (v := 9) dX2_freePeg_7 (by decide) ?_
    refine M_ald1 (n := 9) (v := m_now ms 9) (rfl) (by decide) (rfl) dX2_freePeg_9 ?_
    refine A_icmp_ge_f (tgt := 30) dX2_freePeg_10 (by decide) (br_lt h1.2.2.2.1.1 hi2 (by omega)) ?_
    refine A_aload_n (i := 0) dX2_freePeg_13 rfl rfl ?_
    refine A_iload_n (i := 1) dX2_freePeg_14 rfl rfl ?_
    refine A_callV1E (v := some (.int (flagOnN (m_now ms) (nI i2)))) (τ := mc b9 ms σ0) (c_flagOn b9 ms σ0 (nI i2) (by first | assumption | omega)) tX2_flagOn q2523 (mc_0 _ _ _) rfl rfl dX2_freePeg_15 (by decide) (Nat.le_of_eq (Nat.zero_add _)) (Nat.le_of_ble_eq_true rfl) ?_
    refine A_iconst (v := (-1)) dX2_freePeg_18 (by decide) ?_
    refine A_icmp_ne (tgt := 24) dX2_freePeg_19 (by decide) (fun c1 => ?_) (fun c1 => ?_)
    · skip
      refine A_iinc (v := nI (i2 + 1)) dX2_freePeg_24 rfl (nI_inc _ _) (Nat.le_of_ble_eq_true rfl) ?_
      refine A_goto (tgt := 2) dX2_freePeg_27 (by decide) ?_
      refine A_sub (L' := [(0, .ref b9), (1, .int (nI (i2 + 1)))]) ⟨rfl, rfl, trivial⟩ ?_
      exact ih2 (by rw [hI2, fsr_s _ hi2, if_neg c1])
    · skip
      refine A_iload_n (i := 1) dX2_freePeg_22 rfl rfl ?_
      exact A_iret dX2_freePeg_23 rfl ⟨by rw [hI2, fsr_s _ hi2, if_pos c1], rfl⟩
  · skip
    refine A_iload_n (i := 1) dX2_freePeg_2 rfl rfl ?_
    refine A_aload_n (i := 0) dX2_freePeg_3 rfl rfl ?_
    refine M_get 1 (v := .ref (b9 + 1)) (Nat.le_of_ble_eq_true rfl) q2230 rfl dX2_freePeg_4 ?_
    refine A_bipush (v := 9) dX2_freePeg_7 (by decide) ?_
    refine M_ald1 (n := 9) (v := m_now ms 9) (rfl) (by decide) (rfl) dX2_freePeg_9 ?_
    refine A_icmp_ge_t (tgt := 30) dX2_freePeg_10 (by decide) (br_ge h1.2.2.2.1.1) ?_
    refine A_iconst (v := (-1)) dX2_freePeg_30 (by decide) ?_
    exact A_iret dX2_freePeg_31 rfl ⟨by rw [hI2, fsr_e], rfl⟩
theorem c_canHang {l : Launch} {g : GC} (b9 : Nat) (ms : MM) (σ0 : AH) (f : Nat) (h1 : WFc (m_now ms)) (h2 : f < 12) : AMet l g mX2_canHang 5 0 [.ref b9, .int (nI f)] (mc b9 ms σ0) (A_eq (some (.int (bi (canHangN (m_now ms) f)))) (mc b9 ms σ0)) A_no := by
  refine A_of rfl (by decide) (Nat.le_of_ble_eq_true rfl) (L0 := [(0, .ref b9), (1, .int (nI f))]) rfl ?_
  refine A_aload_n (i := 0) dX2_canHang_0 rfl rfl ?_
  refine A_iload_n (i := 1) dX2_canHang_1 rfl rfl ?_
  refine A_callV1E (v := some (.int (bi (inBasket (m_now ms) f)))) (τ := mc b9 ms σ0) (c_isInBasket b9 ms σ0 f (by first | assumption | omega)) tX2_isInBasket q2436 (mc_0 _ _ _) rfl rfl dX2_canHang_2 (by decide) (Nat.le_of_eq (Nat.zero_add _)) (Nat.le_of_ble_eq_true rfl) ?_
  refine A_if_eq (tgt := 20) dX2_canHang_5 (by decide) (fun c1 => ?_) (fun c1 => ?_)
  · skip
    have c1 := bi_eq0.mp c1
    refine A_iconst (v := 0) dX2_canHang_20 (by decide) ?_
    exact A_zret dX2_canHang_21 rfl (rfl) ⟨by simp [-Int32.not_lt, -Int32.not_le, bi, canHangN, c1], rfl⟩
  · skip
    have c1 := bi_ne0.mp c1
    refine A_aload_n (i := 0) dX2_canHang_8 rfl rfl ?_
    refine A_callV0E (v := some (.int (freeN (m_now ms)))) (τ := mc b9 ms σ0) (c_freePeg b9 ms σ0  (by first | assumption | omega)) tX2_freePeg q2519 (mc_0 _ _ _) rfl rfl dX2_canHang_9 (by decide) (Nat.le_of_eq (Nat.zero_add _)) (Nat.le_of_ble_eq_true rfl) ?_
    refine A_iconst (v := (-1)) dX2_canHang_12 (by decide) ?_
    refine A_icmp_eq (tgt := 20) dX2_canHang_13 (by decide) (fun c2 => ?_) (fun c2 => ?_)
    · skip
      refine A_iconst (v := 0) dX2_canHang_20 (by decide) ?_
      exact A_zret dX2_canHang_21 rfl (rfl) ⟨by simp [-Int32.not_lt, -Int32.not_le, bi, canHangN, c1, c2], rfl⟩
    · skip
      refine A_iconst (v := 1) dX2_canHang_16 (by decide) ?_
      refine A_goto (tgt := 21) dX2_canHang_17 (by decide) ?_
      exact A_zret dX2_canHang_21 rfl (rfl) ⟨by simp [-Int32.not_lt, -Int32.not_le, bi, canHangN, c1, c2], rfl⟩
theorem c_hangs {l : Launch} {g : GC} (b9 : Nat) (ms : MM) (σ0 : AH) (f : Nat) (h1 : WFc (m_now ms)) (h2 : f < 12) : AMet l g mX2_hangs 5 0 [.ref b9, .int (nI f)] (mc b9 ms σ0) (A_eq (none) (mc b9 (⟨m_thr ms, m_is ms, m_um ms, m_bd ms, m_pc ms, m_pa ms, m_sz ms, m_cu ms, m_st ms, m_tk ms, m_to ms, m_ps ms, goTo (m_now ms) f 2 (freeN (m_now ms)), m_asd ms, m_und ms, m_sav ms, m_isv ms, m_buf ms, m_grp ms, m_pag ms⟩ : MM) σ0)) A_no := by
  refine A_of rfl (by decide) (Nat.le_of_ble_eq_true rfl) (L0 := [(0, .ref b9), (1, .int (nI f))]) rfl ?_
  refine A_aload_n (i := 0) dX2_hangs_0 rfl rfl ?_
  refine A_iload_n (i := 1) dX2_hangs_1 rfl rfl ?_
  refine A_iconst (v := 2) dX2_hangs_2 (by decide) ?_
  refine A_aload_n (i := 0) dX2_hangs_3 rfl rfl ?_
  refine A_callV0E (v := some (.int (freeN (m_now ms)))) (τ := mc b9 ms σ0) (c_freePeg b9 ms σ0  (by first | assumption | omega)) tX2_freePeg q2519 (mc_0 _ _ _) rfl rfl dX2_hangs_4 (by decide) (Nat.le_of_eq (Nat.zero_add _)) (Nat.le_of_ble_eq_true rfl) ?_
  refine A_callV3E (v := none) (τ := mc b9 (⟨m_thr ms, m_is ms, m_um ms, m_bd ms, m_pc ms, m_pa ms, m_sz ms, m_cu ms, m_st ms, m_tk ms, m_to ms, m_ps ms, goTo (m_now ms) f 2 (freeN (m_now ms)), m_asd ms, m_und ms, m_sav ms, m_isv ms, m_buf ms, m_grp ms, m_pag ms⟩ : MM) σ0) (c_goesTo b9 ms σ0 f 2 (freeN (m_now ms)) (by first | assumption | omega)) tX2_goesTo q2419 (mc_0 _ _ _) rfl rfl dX2_hangs_7 (by decide) (Nat.le_of_eq (Nat.zero_add _)) (Nat.le_of_ble_eq_true rfl) ?_
  exact A_vret dX2_hangs_10 rfl ⟨rfl, rfl⟩
