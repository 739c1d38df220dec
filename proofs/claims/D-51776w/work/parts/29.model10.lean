/-! THE MODEL 10: the page -/
def b8 (x : Int32) : Int32 := x.toInt8.toInt32
/-- a page that starts with l -/
def pgA (A : AF) (l : List Int32) : AF := fun q => if q < l.length then l.getD q 0 else A q
def nl : List Int32 := []
theorem pgA_nil (A : AF) : pgA A nl = A := by
  funext q
  exact if_neg (Nat.not_lt_zero q)
theorem pgA_put (A : AF) (l : List Int32) (c : Int32) : va_up (pgA A l) l.length (vp_nar .byte (b8 c)) = pgA A (l ++ [b8 c]) := by
  have e : vp_nar .byte (b8 c) = b8 c := by
    show ((b8 c).toInt8).toInt32 = b8 c
    unfold b8
    simp
  rw [e]
  funext q
  unfold va_up pgA
  by_cases c1 : q = l.length
  · subst c1
    rw [if_pos rfl, if_pos (by simp), List.getD_eq_getElem?_getD]
    simp
  · rw [if_neg c1]
    by_cases c2 : q < l.length
    · rw [if_pos c2, if_pos (by simp; omega), List.getD_eq_getElem?_getD, List.getD_eq_getElem?_getD, List.getElem?_append_left c2]
    · rw [if_neg c2, if_neg (by simp; omega)]
theorem len_1 (l : List Int32) (c : Int32) : nI l.length + 1 = nI (l ++ [c]).length := by
  rw [List.length_append]
  exact nI_add _ 1
def numI (x : Int32) : List Int32 := if x ≤ 9 then [b8 (48 + (x - x / 10 * 10))] else [b8 (48 + x / 10), b8 (48 + (x - x / 10 * 10))]
theorem numI_le (x : Int32) : (numI x).length ≤ 2 := by
  unfold numI
  split <;> simp
theorem numI_1 {x : Int32} (h : x ≤ 9) : (numI x).length = 1 := by
  unfold numI
  rw [if_pos h]
  rfl
theorem numI_2 {x : Int32} (h : ¬ x ≤ 9) : (numI x).length = 2 := by
  unfold numI
  rw [if_neg h]
  rfl
theorem whyN_9 (N : AF) (f : Nat) : whyN N f ≤ 9 := by
  unfold whyN
  repeat' split
  all_goals decide
def letN (x : Int32) : Int32 := if x = 0 then 98 else if x = 1 then 116 else if x = 2 then 108 else 103
def rsN (N : AF) (l : List Int32) (f : Nat) : List Int32 := (if l.length = 0 then l else l ++ [b8 32]) ++ numI (nI f) ++ [b8 58] ++ numI (whyN N f)
theorem rsN_le (N : AF) (l : List Int32) (f : Nat) : (rsN N l f).length ≤ l.length + 5 := by
  have h1 := numI_le (nI f)
  have h2 := numI_1 (whyN_9 N f)
  unfold rsN
  split <;> simp [h2] <;> omega
def txN (N : AF) (n : Int32) : Nat → List Int32
  | 0 => nl
  | k + 1 => if fl N k 0 = n then rsN N (txN N n k) k else txN N n k
theorem txN_s (N : AF) (n : Int32) (k : Nat) : txN N n (k + 1) = if fl N k 0 = n then rsN N (txN N n k) k else txN N n k := rfl
theorem txN_le (N : AF) (n : Int32) : ∀ k, (txN N n k).length ≤ 5 * k
  | 0 => Nat.le_refl _
  | k + 1 => by
    have h1 := txN_le N n k
    have h2 := rsN_le N (txN N n k) k
    rw [txN_s]
    split <;> omega
def orDash (l : List Int32) : List Int32 := if l.length = 0 then l ++ [b8 45] else l
def txF (N : AF) (f : Nat) : Nat → List Int32
  | 0 => nl ++ [b8 (letN (fl N f 8))] ++ numI (fl N f 3) ++ numI (fl N f 4) ++ numI (fl N f 5)
  | k + 1 => if hasB (fl N f 6) (nI k) then txF N f k ++ [b8 43] ++ numI (nI k) else txF N f k
theorem txF_s (N : AF) (f k : Nat) : txF N f (k + 1) = if hasB (fl N f 6) (nI k) then txF N f k ++ [b8 43] ++ numI (nI k) else txF N f k := rfl
theorem txF_le (N : AF) (f : Nat) : ∀ k, (txF N f k).length ≤ 7 + 3 * k
  | 0 => by
    have h1 := numI_le (fl N f 3)
    have h2 := numI_le (fl N f 4)
    have h3 := numI_le (fl N f 5)
    show (nl ++ [b8 (letN (fl N f 8))] ++ numI (fl N f 3) ++ numI (fl N f 4) ++ numI (fl N f 5)).length ≤ 7
    simp [nl]
    omega
  | k + 1 => by
    have h1 := txF_le N f k
    have h2 := numI_le (nI k)
    rw [txF_s]
    split
    · simp; omega
    · omega
def txT (N : AF) (t : Int32) : Nat → List Int32
  | 0 => nl
  | k + 1 => (if k = 0 then txT N t k else txT N t k ++ [b8 44]) ++ numI (flagInN N t (nI k))
theorem txT_s (N : AF) (t : Int32) (k : Nat) : txT N t (k + 1) = (if k = 0 then txT N t k else txT N t k ++ [b8 44]) ++ numI (flagInN N t (nI k)) := rfl
theorem txT_le (N : AF) (t : Int32) : ∀ k, (txT N t k).length ≤ 3 * k
  | 0 => Nat.le_refl _
  | k + 1 => by
    have h1 := txT_le N t k
    have h2 := numI_le (flagInN N t (nI k))
    rw [txT_s]
    split <;> simp <;> omega
def txL (N : AF) : Nat → List Int32
  | 0 => nl
  | k + 1 => (if k = 0 then txL N k else txL N k ++ [b8 47]) ++ (if flagOnN N (nI k) = -1 then [b8 46] else numI (flagOnN N (nI k)))
theorem txL_s (N : AF) (k : Nat) : txL N (k + 1) = (if k = 0 then txL N k else txL N k ++ [b8 47]) ++ (if flagOnN N (nI k) = -1 then [b8 46] else numI (flagOnN N (nI k))) := rfl
theorem txL_le (N : AF) : ∀ k, (txL N k).length ≤ 3 * k
  | 0 => Nat.le_refl _
  | k + 1 => by
    have h1 := txL_le N k
    have h2 := numI_le (flagOnN N (nI k))
    rw [txL_s]
    split <;> split <;> simp <;> omega
theorem A_st {l : Launch} {g : GC} {mi : MI} {d b : Nat} {Q : Option Value → AH → Prop} {X : String → Nat → AH → Prop} {pc : Nat} {L : List (Nat × Value)} {st : List Value} {σ σ' : AH} (h : σ = σ') (kk : AW l g mi d b Q X pc L st σ') : AW l g mi d b Q X pc L st σ := by rw [h]; exact kk
theorem gt0_len {l : List Int32} (h : ¬ nI l.length ≤ 0) : ¬ l.length = 0 := fun e => h (by rw [e]; decide)
theorem le0_len {l : List Int32} (hl : l.length < 1000) (h : nI l.length ≤ 0) : l.length = 0 := by
  rcases Nat.eq_zero_or_pos l.length with e | e
  · exact e
  · exact absurd h (nI_ge e (by omega))
section ATup
variable {l : Launch} {g : GC} {mi : MI} {d b : Nat} {Q : Option Value → AH → Prop} {X : String → Nat → AH → Prop} {pc : Nat} {L : List (Nat × Value)} {st : List Value} {b9 : Nat} {σ0 : AH}
theorem M_putT_thr {x0 x1 x2 x3 x4 x5 x6 x7 x8 x9 x10 x11 : Int32} {x12 x13 x14 x15 x16 x17 x18 x19 : AF} {x : Int32} {ix : Nat} (hq : Cond.fieldLink mi.1.cls ix (TX2 0).1 (TX2 0).2.1 (TX2 0).2.2.1 ∈ lw_all) (hn : narrow (tyX2 0) (.int x) = .int x) (hd : decode mi.2.1 pc = .ok (.putfield ix, 3)) (kk : AW l g mi d b Q X (pc + 3) L st (mc b9 (⟨x, x1, x2, x3, x4, x5, x6, x7, x8, x9, x10, x11, x12, x13, x14, x15, x16, x17, x18, x19⟩ : MM) σ0)) : AW l g mi d b Q X pc L (.int x :: .ref b9 :: st) (mc b9 (⟨x0, x1, x2, x3, x4, x5, x6, x7, x8, x9, x10, x11, x12, x13, x14, x15, x16, x17, x18, x19⟩ : MM) σ0) := M_put 0 (⟨x, x1, x2, x3, x4, x5, x6, x7, x8, x9, x10, x11, x12, x13, x14, x15, x16, x17, x18, x19⟩ : MM) (Nat.le_of_ble_eq_true rfl) hq hn rfl rfl rfl rfl hd kk
theorem M_putT_is {x0 x1 x2 x3 x4 x5 x6 x7 x8 x9 x10 x11 : Int32} {x12 x13 x14 x15 x16 x17 x18 x19 : AF} {x : Int32} {ix : Nat} (hq : Cond.fieldLink mi.1.cls ix (TX2 6).1 (TX2 6).2.1 (TX2 6).2.2.1 ∈ lw_all) (hn : narrow (tyX2 6) (.int x) = .int x) (hf : fits (tyX2 6) (.int x) = true) (hd : decode mi.2.1 pc = .ok (.putfield ix, 3)) (kk : AW l g mi d b Q X (pc + 3) L st (mc b9 (⟨x0, x, x2, x3, x4, x5, x6, x7, x8, x9, x10, x11, x12, x13, x14, x15, x16, x17, x18, x19⟩ : MM) σ0)) : AW l g mi d b Q X pc L (.int x :: .ref b9 :: st) (mc b9 (⟨x0, x1, x2, x3, x4, x5, x6, x7, x8, x9, x10, x11, x12, x13, x14, x15, x16, x17, x18, x19⟩ : MM) σ0) := M_put 6 (⟨x0, x, x2, x3, x4, x5, x6, x7, x8, x9, x10, x11, x12, x13, x14, x15, x16, x17, x18, x19⟩ : MM) (Nat.le_of_ble_eq_true rfl) hq hn rfl hf rfl rfl hd kk
theorem M_putT_um {x0 x1 x2 x3 x4 x5 x6 x7 x8 x9 x10 x11 : Int32} {x12 x13 x14 x15 x16 x17 x18 x19 : AF} {x : Int32} {ix : Nat} (hq : Cond.fieldLink mi.1.cls ix (TX2 7).1 (TX2 7).2.1 (TX2 7).2.2.1 ∈ lw_all) (hn : narrow (tyX2 7) (.int x) = .int x) (hd : decode mi.2.1 pc = .ok (.putfield ix, 3)) (kk : AW l g mi d b Q X (pc + 3) L st (mc b9 (⟨x0, x1, x, x3, x4, x5, x6, x7, x8, x9, x10, x11, x12, x13, x14, x15, x16, x17, x18, x19⟩ : MM) σ0)) : AW l g mi d b Q X pc L (.int x :: .ref b9 :: st) (mc b9 (⟨x0, x1, x2, x3, x4, x5, x6, x7, x8, x9, x10, x11, x12, x13, x14, x15, x16, x17, x18, x19⟩ : MM) σ0) := M_put 7 (⟨x0, x1, x, x3, x4, x5, x6, x7, x8, x9, x10, x11, x12, x13, x14, x15, x16, x17, x18, x19⟩ : MM) (Nat.le_of_ble_eq_true rfl) hq hn rfl rfl rfl rfl hd kk
theorem M_putT_bd {x0 x1 x2 x3 x4 x5 x6 x7 x8 x9 x10 x11 : Int32} {x12 x13 x14 x15 x16 x17 x18 x19 : AF} {x : Int32} {ix : Nat} (hq : Cond.fieldLink mi.1.cls ix (TX2 9).1 (TX2 9).2.1 (TX2 9).2.2.1 ∈ lw_all) (hn : narrow (tyX2 9) (.int x) = .int x) (hd : decode mi.2.1 pc = .ok (.putfield ix, 3)) (kk : AW l g mi d b Q X (pc + 3) L st (mc b9 (⟨x0, x1, x2, x, x4, x5, x6, x7, x8, x9, x10, x11, x12, x13, x14, x15, x16, x17, x18, x19⟩ : MM) σ0)) : AW l g mi d b Q X pc L (.int x :: .ref b9 :: st) (mc b9 (⟨x0, x1, x2, x3, x4, x5, x6, x7, x8, x9, x10, x11, x12, x13, x14, x15, x16, x17, x18, x19⟩ : MM) σ0) := M_put 9 (⟨x0, x1, x2, x, x4, x5, x6, x7, x8, x9, x10, x11, x12, x13, x14, x15, x16, x17, x18, x19⟩ : MM) (Nat.le_of_ble_eq_true rfl) hq hn rfl rfl rfl rfl hd kk
theorem M_putT_pc {x0 x1 x2 x3 x4 x5 x6 x7 x8 x9 x10 x11 : Int32} {x12 x13 x14 x15 x16 x17 x18 x19 : AF} {x : Int32} {ix : Nat} (hq : Cond.fieldLink mi.1.cls ix (TX2 10).1 (TX2 10).2.1 (TX2 10).2.2.1 ∈ lw_all) (hn : narrow (tyX2 10) (.int x) = .int x) (hd : decode mi.2.1 pc = .ok (.putfield ix, 3)) (kk : AW l g mi d b Q X (pc + 3) L st (mc b9 (⟨x0, x1, x2, x3, x, x5, x6, x7, x8, x9, x10, x11, x12, x13, x14, x15, x16, x17, x18, x19⟩ : MM) σ0)) : AW l g mi d b Q X pc L (.int x :: .ref b9 :: st) (mc b9 (⟨x0, x1, x2, x3, x4, x5, x6, x7, x8, x9, x10, x11, x12, x13, x14, x15, x16, x17, x18, x19⟩ : MM) σ0) := M_put 10 (⟨x0, x1, x2, x3, x, x5, x6, x7, x8, x9, x10, x11, x12, x13, x14, x15, x16, x17, x18, x19⟩ : MM) (Nat.le_of_ble_eq_true rfl) hq hn rfl rfl rfl rfl hd kk
theorem M_putT_pa {x0 x1 x2 x3 x4 x5 x6 x7 x8 x9 x10 x11 : Int32} {x12 x13 x14 x15 x16 x17 x18 x19 : AF} {x : Int32} {ix : Nat} (hq : Cond.fieldLink mi.1.cls ix (TX2 11).1 (TX2 11).2.1 (TX2 11).2.2.1 ∈ lw_all) (hn : narrow (tyX2 11) (.int x) = .int x) (hd : decode mi.2.1 pc = .ok (.putfield ix, 3)) (kk : AW l g mi d b Q X (pc + 3) L st (mc b9 (⟨x0, x1, x2, x3, x4, x, x6, x7, x8, x9, x10, x11, x12, x13, x14, x15, x16, x17, x18, x19⟩ : MM) σ0)) : AW l g mi d b Q X pc L (.int x :: .ref b9 :: st) (mc b9 (⟨x0, x1, x2, x3, x4, x5, x6, x7, x8, x9, x10, x11, x12, x13, x14, x15, x16, x17, x18, x19⟩ : MM) σ0) := M_put 11 (⟨x0, x1, x2, x3, x4, x, x6, x7, x8, x9, x10, x11, x12, x13, x14, x15, x16, x17, x18, x19⟩ : MM) (Nat.le_of_ble_eq_true rfl) hq hn rfl rfl rfl rfl hd kk
theorem M_putT_sz {x0 x1 x2 x3 x4 x5 x6 x7 x8 x9 x10 x11 : Int32} {x12 x13 x14 x15 x16 x17 x18 x19 : AF} {x : Int32} {ix : Nat} (hq : Cond.fieldLink mi.1.cls ix (TX2 12).1 (TX2 12).2.1 (TX2 12).2.2.1 ∈ lw_all) (hn : narrow (tyX2 12) (.int x) = .int x) (hd : decode mi.2.1 pc = .ok (.putfield ix, 3)) (kk : AW l g mi d b Q X (pc + 3) L st (mc b9 (⟨x0, x1, x2, x3, x4, x5, x, x7, x8, x9, x10, x11, x12, x13, x14, x15, x16, x17, x18, x19⟩ : MM) σ0)) : AW l g mi d b Q X pc L (.int x :: .ref b9 :: st) (mc b9 (⟨x0, x1, x2, x3, x4, x5, x6, x7, x8, x9, x10, x11, x12, x13, x14, x15, x16, x17, x18, x19⟩ : MM) σ0) := M_put 12 (⟨x0, x1, x2, x3, x4, x5, x, x7, x8, x9, x10, x11, x12, x13, x14, x15, x16, x17, x18, x19⟩ : MM) (Nat.le_of_ble_eq_true rfl) hq hn rfl rfl rfl rfl hd kk
theorem M_putT_cu {x0 x1 x2 x3 x4 x5 x6 x7 x8 x9 x10 x11 : Int32} {x12 x13 x14 x15 x16 x17 x18 x19 : AF} {x : Int32} {ix : Nat} (hq : Cond.fieldLink mi.1.cls ix (TX2 13).1 (TX2 13).2.1 (TX2 13).2.2.1 ∈ lw_all) (hn : narrow (tyX2 13) (.int x) = .int x) (hd : decode mi.2.1 pc = .ok (.putfield ix, 3)) (kk : AW l g mi d b Q X (pc + 3) L st (mc b9 (⟨x0, x1, x2, x3, x4, x5, x6, x, x8, x9, x10, x11, x12, x13, x14, x15, x16, x17, x18, x19⟩ : MM) σ0)) : AW l g mi d b Q X pc L (.int x :: .ref b9 :: st) (mc b9 (⟨x0, x1, x2, x3, x4, x5, x6, x7, x8, x9, x10, x11, x12, x13, x14, x15, x16, x17, x18, x19⟩ : MM) σ0) := M_put 13 (⟨x0, x1, x2, x3, x4, x5, x6, x, x8, x9, x10, x11, x12, x13, x14, x15, x16, x17, x18, x19⟩ : MM) (Nat.le_of_ble_eq_true rfl) hq hn rfl rfl rfl rfl hd kk
theorem M_putT_st {x0 x1 x2 x3 x4 x5 x6 x7 x8 x9 x10 x11 : Int32} {x12 x13 x14 x15 x16 x17 x18 x19 : AF} {x : Int32} {ix : Nat} (hq : Cond.fieldLink mi.1.cls ix (TX2 14).1 (TX2 14).2.1 (TX2 14).2.2.1 ∈ lw_all) (hn : narrow (tyX2 14) (.int x) = .int x) (hd : decode mi.2.1 pc = .ok (.putfield ix, 3)) (kk : AW l g mi d b Q X (pc + 3) L st (mc b9 (⟨x0, x1, x2, x3, x4, x5, x6, x7, x, x9, x10, x11, x12, x13, x14, x15, x16, x17, x18, x19⟩ : MM) σ0)) : AW l g mi d b Q X pc L (.int x :: .ref b9 :: st) (mc b9 (⟨x0, x1, x2, x3, x4, x5, x6, x7, x8, x9, x10, x11, x12, x13, x14, x15, x16, x17, x18, x19⟩ : MM) σ0) := M_put 14 (⟨x0, x1, x2, x3, x4, x5, x6, x7, x, x9, x10, x11, x12, x13, x14, x15, x16, x17, x18, x19⟩ : MM) (Nat.le_of_ble_eq_true rfl) hq hn rfl rfl rfl rfl hd kk
theorem M_putT_tk {x0 x1 x2 x3 x4 x5 x6 x7 x8 x9 x10 x11 : Int32} {x12 x13 x14 x15 x16 x17 x18 x19 : AF} {x : Int32} {ix : Nat} (hq : Cond.fieldLink mi.1.cls ix (TX2 15).1 (TX2 15).2.1 (TX2 15).2.2.1 ∈ lw_all) (hn : narrow (tyX2 15) (.int x) = .int x) (hd : decode mi.2.1 pc = .ok (.putfield ix, 3)) (kk : AW l g mi d b Q X (pc + 3) L st (mc b9 (⟨x0, x1, x2, x3, x4, x5, x6, x7, x8, x, x10, x11, x12, x13, x14, x15, x16, x17, x18, x19⟩ : MM) σ0)) : AW l g mi d b Q X pc L (.int x :: .ref b9 :: st) (mc b9 (⟨x0, x1, x2, x3, x4, x5, x6, x7, x8, x9, x10, x11, x12, x13, x14, x15, x16, x17, x18, x19⟩ : MM) σ0) := M_put 15 (⟨x0, x1, x2, x3, x4, x5, x6, x7, x8, x, x10, x11, x12, x13, x14, x15, x16, x17, x18, x19⟩ : MM) (Nat.le_of_ble_eq_true rfl) hq hn rfl rfl rfl rfl hd kk
theorem M_putT_to {x0 x1 x2 x3 x4 x5 x6 x7 x8 x9 x10 x11 : Int32} {x12 x13 x14 x15 x16 x17 x18 x19 : AF} {x : Int32} {ix : Nat} (hq : Cond.fieldLink mi.1.cls ix (TX2 16).1 (TX2 16).2.1 (TX2 16).2.2.1 ∈ lw_all) (hn : narrow (tyX2 16) (.int x) = .int x) (hd : decode mi.2.1 pc = .ok (.putfield ix, 3)) (kk : AW l g mi d b Q X (pc + 3) L st (mc b9 (⟨x0, x1, x2, x3, x4, x5, x6, x7, x8, x9, x, x11, x12, x13, x14, x15, x16, x17, x18, x19⟩ : MM) σ0)) : AW l g mi d b Q X pc L (.int x :: .ref b9 :: st) (mc b9 (⟨x0, x1, x2, x3, x4, x5, x6, x7, x8, x9, x10, x11, x12, x13, x14, x15, x16, x17, x18, x19⟩ : MM) σ0) := M_put 16 (⟨x0, x1, x2, x3, x4, x5, x6, x7, x8, x9, x, x11, x12, x13, x14, x15, x16, x17, x18, x19⟩ : MM) (Nat.le_of_ble_eq_true rfl) hq hn rfl rfl rfl rfl hd kk
theorem M_putT_ps {x0 x1 x2 x3 x4 x5 x6 x7 x8 x9 x10 x11 : Int32} {x12 x13 x14 x15 x16 x17 x18 x19 : AF} {x : Int32} {ix : Nat} (hq : Cond.fieldLink mi.1.cls ix (TX2 19).1 (TX2 19).2.1 (TX2 19).2.2.1 ∈ lw_all) (hn : narrow (tyX2 19) (.int x) = .int x) (hd : decode mi.2.1 pc = .ok (.putfield ix, 3)) (kk : AW l g mi d b Q X (pc + 3) L st (mc b9 (⟨x0, x1, x2, x3, x4, x5, x6, x7, x8, x9, x10, x, x12, x13, x14, x15, x16, x17, x18, x19⟩ : MM) σ0)) : AW l g mi d b Q X pc L (.int x :: .ref b9 :: st) (mc b9 (⟨x0, x1, x2, x3, x4, x5, x6, x7, x8, x9, x10, x11, x12, x13, x14, x15, x16, x17, x18, x19⟩ : MM) σ0) := M_put 19 (⟨x0, x1, x2, x3, x4, x5, x6, x7, x8, x9, x10, x, x12, x13, x14, x15, x16, x17, x18, x19⟩ : MM) (Nat.le_of_ble_eq_true rfl) hq hn rfl rfl rfl rfl hd kk
theorem M_astT1 {x0 x1 x2 x3 x4 x5 x6 x7 x8 x9 x10 x11 : Int32} {x12 x13 x14 x15 x16 x17 x18 x19 : AF} {i x : Int32} {n : Nat} {na : AF} (hi : i = nI n) (hn : n < 173) (hv : va_up x12 n x = na) (hd : decode mi.2.1 pc = .ok (.iastore, 1)) (kk : AW l g mi d b Q X (pc + 1) L st (mc b9 (⟨x0, x1, x2, x3, x4, x5, x6, x7, x8, x9, x10, x11, na, x13, x14, x15, x16, x17, x18, x19⟩ : MM) σ0)) : AW l g mi d b Q X pc L (.int x :: .int i :: .ref (b9 + 1) :: st) (mc b9 (⟨x0, x1, x2, x3, x4, x5, x6, x7, x8, x9, x10, x11, x12, x13, x14, x15, x16, x17, x18, x19⟩ : MM) σ0) := M_ast1 hi hn hv hd kk
theorem M_astT2 {x0 x1 x2 x3 x4 x5 x6 x7 x8 x9 x10 x11 : Int32} {x12 x13 x14 x15 x16 x17 x18 x19 : AF} {i x : Int32} {n : Nat} {na : AF} (hi : i = nI n) (hn : n < 173) (hv : va_up x13 n x = na) (hd : decode mi.2.1 pc = .ok (.iastore, 1)) (kk : AW l g mi d b Q X (pc + 1) L st (mc b9 (⟨x0, x1, x2, x3, x4, x5, x6, x7, x8, x9, x10, x11, x12, na, x14, x15, x16, x17, x18, x19⟩ : MM) σ0)) : AW l g mi d b Q X pc L (.int x :: .int i :: .ref (b9 + 2) :: st) (mc b9 (⟨x0, x1, x2, x3, x4, x5, x6, x7, x8, x9, x10, x11, x12, x13, x14, x15, x16, x17, x18, x19⟩ : MM) σ0) := M_ast2 hi hn hv hd kk
theorem M_astT3 {x0 x1 x2 x3 x4 x5 x6 x7 x8 x9 x10 x11 : Int32} {x12 x13 x14 x15 x16 x17 x18 x19 : AF} {i x : Int32} {n : Nat} {na : AF} (hi : i = nI n) (hn : n < 1384) (hv : va_up x14 n x = na) (hd : decode mi.2.1 pc = .ok (.iastore, 1)) (kk : AW l g mi d b Q X (pc + 1) L st (mc b9 (⟨x0, x1, x2, x3, x4, x5, x6, x7, x8, x9, x10, x11, x12, x13, na, x15, x16, x17, x18, x19⟩ : MM) σ0)) : AW l g mi d b Q X pc L (.int x :: .int i :: .ref (b9 + 3) :: st) (mc b9 (⟨x0, x1, x2, x3, x4, x5, x6, x7, x8, x9, x10, x11, x12, x13, x14, x15, x16, x17, x18, x19⟩ : MM) σ0) := M_ast3 hi hn hv hd kk
theorem M_astT4 {x0 x1 x2 x3 x4 x5 x6 x7 x8 x9 x10 x11 : Int32} {x12 x13 x14 x15 x16 x17 x18 x19 : AF} {i x : Int32} {n : Nat} {na : AF} (hi : i = nI n) (hn : n < 346) (hv : va_up x15 n x = na) (hd : decode mi.2.1 pc = .ok (.iastore, 1)) (kk : AW l g mi d b Q X (pc + 1) L st (mc b9 (⟨x0, x1, x2, x3, x4, x5, x6, x7, x8, x9, x10, x11, x12, x13, x14, na, x16, x17, x18, x19⟩ : MM) σ0)) : AW l g mi d b Q X pc L (.int x :: .int i :: .ref (b9 + 4) :: st) (mc b9 (⟨x0, x1, x2, x3, x4, x5, x6, x7, x8, x9, x10, x11, x12, x13, x14, x15, x16, x17, x18, x19⟩ : MM) σ0) := M_ast4 hi hn hv hd kk
theorem M_astT5 {x0 x1 x2 x3 x4 x5 x6 x7 x8 x9 x10 x11 : Int32} {x12 x13 x14 x15 x16 x17 x18 x19 : AF} {i x : Int32} {n : Nat} {na : AF} (hi : i = nI n) (hn : n < 2) (hv : va_up x16 n (vp_nar .boolean x) = na) (hd : decode mi.2.1 pc = .ok (.bastore, 1)) (kk : AW l g mi d b Q X (pc + 1) L st (mc b9 (⟨x0, x1, x2, x3, x4, x5, x6, x7, x8, x9, x10, x11, x12, x13, x14, x15, na, x17, x18, x19⟩ : MM) σ0)) : AW l g mi d b Q X pc L (.int x :: .int i :: .ref (b9 + 5) :: st) (mc b9 (⟨x0, x1, x2, x3, x4, x5, x6, x7, x8, x9, x10, x11, x12, x13, x14, x15, x16, x17, x18, x19⟩ : MM) σ0) := M_ast5 hi hn hv hd kk
theorem M_astT6 {x0 x1 x2 x3 x4 x5 x6 x7 x8 x9 x10 x11 : Int32} {x12 x13 x14 x15 x16 x17 x18 x19 : AF} {i x : Int32} {n : Nat} {na : AF} (hi : i = nI n) (hn : n < 500) (hv : va_up x17 n (vp_nar .byte x) = na) (hd : decode mi.2.1 pc = .ok (.bastore, 1)) (kk : AW l g mi d b Q X (pc + 1) L st (mc b9 (⟨x0, x1, x2, x3, x4, x5, x6, x7, x8, x9, x10, x11, x12, x13, x14, x15, x16, na, x18, x19⟩ : MM) σ0)) : AW l g mi d b Q X pc L (.int x :: .int i :: .ref (b9 + 6) :: st) (mc b9 (⟨x0, x1, x2, x3, x4, x5, x6, x7, x8, x9, x10, x11, x12, x13, x14, x15, x16, x17, x18, x19⟩ : MM) σ0) := M_ast6 hi hn hv hd kk
theorem M_astT7 {x0 x1 x2 x3 x4 x5 x6 x7 x8 x9 x10 x11 : Int32} {x12 x13 x14 x15 x16 x17 x18 x19 : AF} {i x : Int32} {n : Nat} {na : AF} (hi : i = nI n) (hn : n < 12) (hv : va_up x18 n x = na) (hd : decode mi.2.1 pc = .ok (.iastore, 1)) (kk : AW l g mi d b Q X (pc + 1) L st (mc b9 (⟨x0, x1, x2, x3, x4, x5, x6, x7, x8, x9, x10, x11, x12, x13, x14, x15, x16, x17, na, x19⟩ : MM) σ0)) : AW l g mi d b Q X pc L (.int x :: .int i :: .ref (b9 + 7) :: st) (mc b9 (⟨x0, x1, x2, x3, x4, x5, x6, x7, x8, x9, x10, x11, x12, x13, x14, x15, x16, x17, x18, x19⟩ : MM) σ0) := M_ast7 hi hn hv hd kk
theorem M_astT8 {x0 x1 x2 x3 x4 x5 x6 x7 x8 x9 x10 x11 : Int32} {x12 x13 x14 x15 x16 x17 x18 x19 : AF} {i x : Int32} {n : Nat} {na : AF} (hi : i = nI n) (hn : n < 60) (hv : va_up x19 n (vp_nar .byte x) = na) (hd : decode mi.2.1 pc = .ok (.bastore, 1)) (kk : AW l g mi d b Q X (pc + 1) L st (mc b9 (⟨x0, x1, x2, x3, x4, x5, x6, x7, x8, x9, x10, x11, x12, x13, x14, x15, x16, x17, x18, na⟩ : MM) σ0)) : AW l g mi d b Q X pc L (.int x :: .int i :: .ref (b9 + 8) :: st) (mc b9 (⟨x0, x1, x2, x3, x4, x5, x6, x7, x8, x9, x10, x11, x12, x13, x14, x15, x16, x17, x18, x19⟩ : MM) σ0) := M_ast8 hi hn hv hd kk
end ATup
theorem c_writesByte {l : Launch} {g : GC} (b9 : Nat) (ms : MM) (σ0 : AH) (A : AF) (l9 : List Int32) (c : Int32) (h1 : l9.length < 60) : AMet l g mX2_writesByte 1 0 [.ref b9, .int c] (mc b9 (⟨m_thr ms, m_is ms, m_um ms, m_bd ms, m_pc ms, m_pa ms, m_sz ms, m_cu ms, m_st ms, m_tk ms, m_to ms, nI l9.length, m_now ms, m_asd ms, m_und ms, m_sav ms, m_isv ms, m_buf ms, m_grp ms, pgA A l9⟩ : MM) σ0) (A_eq (none) (mc b9 (⟨m_thr ms, m_is ms, m_um ms, m_bd ms, m_pc ms, m_pa ms, m_sz ms, m_cu ms, m_st ms, m_tk ms, m_to ms, nI (l9 ++ [b8 c]).length, m_now ms, m_asd ms, m_und ms, m_sav ms, m_isv ms, m_buf ms, m_grp ms, pgA A (l9 ++ [b8 c])⟩ : MM) σ0)) A_no := by
  refine A_of rfl (by decide) (Nat.le_of_ble_eq_true rfl) (L0 := [(0, .ref b9), (1, .int c)]) rfl ?_
  refine A_aload_n (i := 0) dX2_writesByte_0 rfl rfl ?_
  refine M_get 18 (v := .ref (b9 + 8)) (Nat.le_of_ble_eq_true rfl) q2247 rfl dX2_writesByte_1 ?_
  refine A_aload_n (i := 0) dX2_writesByte_4 rfl rfl ?_
  refine M_get 19 (v := .int (nI l9.length)) (Nat.le_of_ble_eq_true rfl) q2248 rfl dX2_writesByte_5 ?_
  refine A_iload_n (i := 1) dX2_writesByte_8 rfl rfl ?_
  refine A_i2b (v := b8 c) dX2_writesByte_9 (rfl) ?_
  refine M_astT8 (n := l9.length) (na := pgA A (l9 ++ [b8 c])) (rfl) (by omega) (pgA_put _ _ _) dX2_writesByte_10 ?_
  refine A_aload_n (i := 0) dX2_writesByte_11 rfl rfl ?_
  refine A_dup dX2_writesByte_12 rfl ?_
  refine M_get 19 (v := .int (nI l9.length)) (Nat.le_of_ble_eq_true rfl) q2248 rfl dX2_writesByte_13 ?_
  refine A_iconst (v := 1) dX2_writesByte_16 (by decide) ?_
  refine A_iadd dX2_writesByte_17 ?_
  refine A_int (w := nI (l9 ++ [b8 c]).length) (len_1 _ _) ?_
  refine M_putT_ps q2248 rfl dX2_writesByte_18 ?_
  exact A_vret dX2_writesByte_21 rfl ⟨rfl, rfl⟩
theorem c_letterOf {l : Launch} {g : GC} (b9 : Nat) (ms : MM) (σ0 : AH) (c : Int32)  : AMet l g mX2_letterOf 1 0 [.int c] (mc b9 ms σ0) (A_eq (some (.int (letN c))) (mc b9 ms σ0)) A_no := by
  refine A_of rfl (by decide) (Nat.le_of_ble_eq_true rfl) (L0 := [(0, .int c)]) rfl ?_
  refine A_iload_n (i := 0) dX2_letterOf_0 rfl rfl ?_
  refine A_if_ne (tgt := 9) dX2_letterOf_1 (by decide) (fun c1 => ?_) (fun c1 => ?_)
  · skip
    refine A_iload_n (i := 0) dX2_letterOf_9 rfl rfl ?_
    refine A_iconst (v := 1) dX2_letterOf_10 (by decide) ?_
    refine A_icmp_ne (tgt := 19) dX2_letterOf_11 (by decide) (fun c2 => ?_) (fun c2 => ?_)
    · skip
      refine A_iload_n (i := 0) dX2_letterOf_19 rfl rfl ?_
      refine A_iconst (v := 2) dX2_letterOf_20 (by decide) ?_
      refine A_icmp_ne (tgt := 29) dX2_letterOf_21 (by decide) (fun c3 => ?_) (fun c3 => ?_)
      · skip
        refine A_bipush (v := 103) dX2_letterOf_29 (by decide) ?_
        exact A_iret dX2_letterOf_31 rfl ⟨by simp [letN, c1, c2, c3], rfl⟩
      · skip
        refine A_bipush (v := 108) dX2_letterOf_24 (by decide) ?_
        refine A_goto (tgt := 31) dX2_letterOf_26 (by decide) ?_
        exact A_iret dX2_letterOf_31 rfl ⟨by simp [letN, c1, c2, c3], rfl⟩
    · skip
      refine A_bipush (v := 116) dX2_letterOf_14 (by decide) ?_
      refine A_goto (tgt := 31) dX2_letterOf_16 (by decide) ?_
      exact A_iret dX2_letterOf_31 rfl ⟨by simp [letN, c1, c2], rfl⟩
  · skip
    refine A_bipush (v := 98) dX2_letterOf_4 (by decide) ?_
    refine A_goto (tgt := 31) dX2_letterOf_6 (by decide) ?_
    exact A_iret dX2_letterOf_31 rfl ⟨by simp [letN, c1], rfl⟩
theorem numI_t {x : Int32} (h : x ≤ 9) (l : List Int32) : l ++ numI x = l ++ [b8 (48 + (x - x / 10 * 10))] := by rw [numI, if_pos h]
theorem numI_f {x : Int32} (h : ¬ x ≤ 9) (l : List Int32) : l ++ numI x = l ++ [b8 (48 + x / 10)] ++ [b8 (48 + (x - x / 10 * 10))] := by
  rw [numI, if_neg h]
  simp
theorem c_writesNumber {l : Launch} {g : GC} (b9 : Nat) (ms : MM) (σ0 : AH) (A : AF) (l9 : List Int32) (x : Int32) (h1 : l9.length + (numI x).length ≤ 60) : AMet l g mX2_writesNumber 2 0 [.ref b9, .int x] (mc b9 (⟨m_thr ms, m_is ms, m_um ms, m_bd ms, m_pc ms, m_pa ms, m_sz ms, m_cu ms, m_st ms, m_tk ms, m_to ms, nI l9.length, m_now ms, m_asd ms, m_und ms, m_sav ms, m_isv ms, m_buf ms, m_grp ms, pgA A l9⟩ : MM) σ0) (A_eq (none) (mc b9 (⟨m_thr ms, m_is ms, m_um ms, m_bd ms, m_pc ms, m_pa ms, m_sz ms, m_cu ms, m_st ms, m_tk ms, m_to ms, nI (l9 ++ numI x).length, m_now ms, m_asd ms, m_und ms, m_sav ms, m_isv ms, m_buf ms, m_grp ms, pgA A (l9 ++ numI x)⟩ : MM) σ0)) A_no := by
  refine A_of rfl (by decide) (Nat.le_of_ble_eq_true rfl) (L0 := [(0, .ref b9), (1, .int x)]) rfl ?_
  refine A_iload_n (i := 1) dX2_writesNumber_0 rfl rfl ?_
  refine A_bipush (v := 9) dX2_writesNumber_1 (by decide) ?_
  refine A_icmp_le (tgt := 17) dX2_writesNumber_3 (by decide) (fun c1 => ?_) (fun c1 => ?_)
  · skip
    have hn := numI_1 c1
    refine A_aload_n (i := 0) dX2_writesNumber_17 rfl rfl ?_
    refine A_bipush (v := 48) dX2_writesNumber_18 (by decide) ?_
    refine A_iload_n (i := 1) dX2_writesNumber_20 rfl rfl ?_
    refine A_bipush (v := 10) dX2_writesNumber_21 (by decide) ?_
    refine A_irem dX2_writesNumber_23 (by decide) ?_
    refine A_iadd dX2_writesNumber_24 ?_
    refine A_callV1E (v := none) (τ := mc b9 (⟨m_thr ms, m_is ms, m_um ms, m_bd ms, m_pc ms, m_pa ms, m_sz ms, m_cu ms, m_st ms, m_tk ms, m_to ms, nI (l9 ++ [b8 (48 + (x - x / 10 * 10))]).length, m_now ms, m_asd ms, m_und ms, m_sav ms, m_isv ms, m_buf ms, m_grp ms, pgA A (l9 ++ [b8 (48 + (x - x / 10 * 10))])⟩ : MM) σ0) (c_writesByte b9 (⟨m_thr ms, m_is ms, m_um ms, m_bd ms, m_pc ms, m_pa ms, m_sz ms, m_cu ms, m_st ms, m_tk ms, m_to ms, nI l9.length, m_now ms, m_asd ms, m_und ms, m_sav ms, m_isv ms, m_buf ms, m_grp ms, pgA A l9⟩ : MM) σ0 A l9 (48 + (x - x / 10 * 10)) (by first | omega | (simp; omega))) tX2_writesByte q2867 (mc_0 _ _ _) rfl rfl dX2_writesNumber_25 (by decide) (Nat.le_of_eq (Nat.zero_add _)) (Nat.le_of_ble_eq_true rfl) ?_
    exact A_vret dX2_writesNumber_28 rfl ⟨rfl, by simp only [numI_t c1]⟩
  · skip
    have hn := numI_2 c1
    refine A_aload_n (i := 0) dX2_writesNumber_6 rfl rfl ?_
    refine A_bipush (v := 48) dX2_writesNumber_7 (by decide) ?_
    refine A_iload_n (i := 1) dX2_writesNumber_9 rfl rfl ?_
    refine A_bipush (v := 10) dX2_writesNumber_10 (by decide) ?_
    refine A_idiv dX2_writesNumber_12 (by decide) ?_
    refine A_iadd dX2_writesNumber_13 ?_
    refine A_callV1E (v := none) (τ := mc b9 (⟨m_thr ms, m_is ms, m_um ms, m_bd ms, m_pc ms, m_pa ms, m_sz ms, m_cu ms, m_st ms, m_tk ms, m_to ms, nI (l9 ++ [b8 (48 + (x / 10))]).length, m_now ms, m_asd ms, m_und ms, m_sav ms, m_isv ms, m_buf ms, m_grp ms, pgA A (l9 ++ [b8 (48 + (x / 10))])⟩ : MM) σ0) (c_writesByte b9 (⟨m_thr ms, m_is ms, m_um ms, m_bd ms, m_pc ms, m_pa ms, m_sz ms, m_cu ms, m_st ms, m_tk ms, m_to ms, nI l9.length, m_now ms, m_asd ms, m_und ms, m_sav ms, m_isv ms, m_buf ms, m_grp ms, pgA A l9⟩ : MM) σ0 A l9 (48 + (x / 10)) (by first | omega | (simp; omega))) tX2_writesByte q2867 (mc_0 _ _ _) rfl rfl dX2_writesNumber_14 (by decide) (Nat.le_of_eq (Nat.zero_add _)) (Nat.le_of_ble_eq_true rfl) ?_
    skip
    refine A_aload_n (i := 0) dX2_writesNumber_17 rfl rfl ?_
    refine A_bipush (v := 48) dX2_writesNumber_18 (by decide) ?_
    refine A_iload_n (i := 1) dX2_writesNumber_20 rfl rfl ?_
    refine A_bipush (v := 10) dX2_writesNumber_21 (by decide) ?_
    refine A_irem dX2_writesNumber_23 (by decide) ?_
    refine A_iadd dX2_writesNumber_24 ?_
    refine A_callV1E (v := none) (τ := mc b9 (⟨m_thr ms, m_is ms, m_um ms, m_bd ms, m_pc ms, m_pa ms, m_sz ms, m_cu ms, m_st ms, m_tk ms, m_to ms, nI ((l9 ++ [b8 (48 + (x / 10))]) ++ [b8 (48 + (x - x / 10 * 10))]).length, m_now ms, m_asd ms, m_und ms, m_sav ms, m_isv ms, m_buf ms, m_grp ms, pgA A ((l9 ++ [b8 (48 + (x / 10))]) ++ [b8 (48 + (x - x / 10 * 10))])⟩ : MM) σ0) (c_writesByte b9 (⟨m_thr ms, m_is ms, m_um ms, m_bd ms, m_pc ms, m_pa ms, m_sz ms, m_cu ms, m_st ms, m_tk ms, m_to ms, nI (l9 ++ [b8 (48 + (x / 10))]).length, m_now ms, m_asd ms, m_und ms, m_sav ms, m_isv ms, m_buf ms, m_grp ms, pgA A (l9 ++ [b8 (48 + (x / 10))])⟩ : MM) σ0 A (l9 ++ [b8 (48 + (x / 10))]) (48 + (x - x / 10 * 10)) (by first | omega | (simp; omega))) tX2_writesByte q2867 (mc_0 _ _ _) rfl rfl dX2_writesNumber_25 (by decide) (Nat.le_of_eq (Nat.zero_add _)) (Nat.le_of_ble_eq_true rfl) ?_
    exact A_vret dX2_writesNumber_28 rfl ⟨rfl, by simp only [numI_f c1]⟩
theorem c_writesReason {l : Launch} {g : GC} (b9 : Nat) (ms : MM) (σ0 : AH) (A : AF) (l9 : List Int32) (f : Nat) (h1 : f < 12) (h2 : l9.length + 5 ≤ 60) : AMet l g mX2_writesReason 5 0 [.ref b9, .int (nI f)] (mc b9 (⟨m_thr ms, m_is ms, m_um ms, m_bd ms, m_pc ms, m_pa ms, m_sz ms, m_cu ms, m_st ms, m_tk ms, m_to ms, nI l9.length, m_now ms, m_asd ms, m_und ms, m_sav ms, m_isv ms, m_buf ms, m_grp ms, pgA A l9⟩ : MM) σ0) (A_eq (none) (mc b9 (⟨m_thr ms, m_is ms, m_um ms, m_bd ms, m_pc ms, m_pa ms, m_sz ms, m_cu ms, m_st ms, m_tk ms, m_to ms, nI (rsN (m_now ms) l9 f).length, m_now ms, m_asd ms, m_und ms, m_sav ms, m_isv ms, m_buf ms, m_grp ms, pgA A (rsN (m_now ms) l9 f)⟩ : MM) σ0)) A_no := by
  refine A_of rfl (by decide) (Nat.le_of_ble_eq_true rfl) (L0 := [(0, .ref b9), (1, .int (nI f))]) rfl ?_
  have hn1 := numI_le (nI f)
  have hn2 := numI_1 (whyN_9 (m_now ms) f)
  refine A_aload_n (i := 0) dX2_writesReason_0 rfl rfl ?_
  refine M_get 19 (v := .int (nI l9.length)) (Nat.le_of_ble_eq_true rfl) q2248 rfl dX2_writesReason_1 ?_
  refine A_if_le (tgt := 13) dX2_writesReason_4 (by decide) (fun c1 => ?_) (fun c1 => ?_)
  · skip
    refine A_aload_n (i := 0) dX2_writesReason_13 rfl rfl ?_
    refine A_iload_n (i := 1) dX2_writesReason_14 rfl rfl ?_
    refine A_callV1E (v := none) (τ := mc b9 (⟨m_thr ms, m_is ms, m_um ms, m_bd ms, m_pc ms, m_pa ms, m_sz ms, m_cu ms, m_st ms, m_tk ms, m_to ms, nI (l9 ++ numI (nI f)).length, m_now ms, m_asd ms, m_und ms, m_sav ms, m_isv ms, m_buf ms, m_grp ms, pgA A (l9 ++ numI (nI f))⟩ : MM) σ0) (c_writesNumber b9 (⟨m_thr ms, m_is ms, m_um ms, m_bd ms, m_pc ms, m_pa ms, m_sz ms, m_cu ms, m_st ms, m_tk ms, m_to ms, nI l9.length, m_now ms, m_asd ms, m_und ms, m_sav ms, m_isv ms, m_buf ms, m_grp ms, pgA A l9⟩ : MM) σ0 A l9 (nI f) (by first | omega | (simp; omega))) tX2_writesNumber q2871 (mc_0 _ _ _) rfl rfl dX2_writesReason_15 (by decide) (Nat.le_of_eq (Nat.zero_add _)) (Nat.le_of_ble_eq_true rfl) ?_
    refine A_aload_n (i := 0) dX2_writesReason_18 rfl rfl ?_
    refine A_bipush (v := 58) dX2_writesReason_19 (by decide) ?_
    refine A_callV1E (v := none) (τ := mc b9 (⟨m_thr ms, m_is ms, m_um ms, m_bd ms, m_pc ms, m_pa ms, m_sz ms, m_cu ms, m_st ms, m_tk ms, m_to ms, nI ((l9 ++ numI (nI f)) ++ [b8 58]).length, m_now ms, m_asd ms, m_und ms, m_sav ms, m_isv ms, m_buf ms, m_grp ms, pgA A ((l9 ++ numI (nI f)) ++ [b8 58])⟩ : MM) σ0) (c_writesByte b9 (⟨m_thr ms, m_is ms, m_um ms, m_bd ms, m_pc ms, m_pa ms, m_sz ms, m_cu ms, m_st ms, m_tk ms, m_to ms, nI (l9 ++ numI (nI f)).length, m_now ms, m_asd ms, m_und ms, m_sav ms, m_isv ms, m_buf ms, m_grp ms, pgA A (l9 ++ numI (nI f))⟩ : MM) σ0 A (l9 ++ numI (nI f)) 58 (by first | omega | (simp; omega))) tX2_writesByte q2867 (mc_0 _ _ _) rfl rfl dX2_writesReason_21 (by decide) (Nat.le_of_eq (Nat.zero_add _)) (Nat.le_of_ble_eq_true rfl) ?_
    refine A_aload_n (i := 0) dX2_writesReason_24 rfl rfl ?_
    refine A_aload_n (i := 0) dX2_writesReason_25 rfl rfl ?_
    refine A_iload_n (i := 1) dX2_writesReason_26 rfl rfl ?_
    refine A_callV1E (v := some (.int (whyN (m_now ms) f))) (τ := mc b9 (⟨m_thr ms, m_is ms, m_um ms, m_bd ms, m_pc ms, m_pa ms, m_sz ms, m_cu ms, m_st ms, m_tk ms, m_to ms, nI ((l9 ++ numI (nI f)) ++ [b8 58]).length, m_now ms, m_asd ms, m_und ms, m_sav ms, m_isv ms, m_buf ms, m_grp ms, pgA A ((l9 ++ numI (nI f)) ++ [b8 58])⟩ : MM) σ0) (c_whyNotReady b9 (⟨m_thr ms, m_is ms, m_um ms, m_bd ms, m_pc ms, m_pa ms, m_sz ms, m_cu ms, m_st ms, m_tk ms, m_to ms, nI ((l9 ++ numI (nI f)) ++ [b8 58]).length, m_now ms, m_asd ms, m_und ms, m_sav ms, m_isv ms, m_buf ms, m_grp ms, pgA A ((l9 ++ numI (nI f)) ++ [b8 58])⟩ : MM) σ0 f (by first | assumption | omega)) tX2_whyNotReady q2573 (mc_0 _ _ _) rfl rfl dX2_writesReason_27 (by decide) (Nat.le_of_eq (Nat.zero_add _)) (Nat.le_of_ble_eq_true rfl) ?_
    refine A_callV1E (v := none) (τ := mc b9 (⟨m_thr ms, m_is ms, m_um ms, m_bd ms, m_pc ms, m_pa ms, m_sz ms, m_cu ms, m_st ms, m_tk ms, m_to ms, nI (((l9 ++ numI (nI f)) ++ [b8 58]) ++ numI (whyN (m_now ms) f)).length, m_now ms, m_asd ms, m_und ms, m_sav ms, m_isv ms, m_buf ms, m_grp ms, pgA A (((l9 ++ numI (nI f)) ++ [b8 58]) ++ numI (whyN (m_now ms) f))⟩ : MM) σ0) (c_writesNumber b9 (⟨m_thr ms, m_is ms, m_um ms, m_bd ms, m_pc ms, m_pa ms, m_sz ms, m_cu ms, m_st ms, m_tk ms, m_to ms, nI ((l9 ++ numI (nI f)) ++ [b8 58]).length, m_now ms, m_asd ms, m_und ms, m_sav ms, m_isv ms, m_buf ms, m_grp ms, pgA A ((l9 ++ numI (nI f)) ++ [b8 58])⟩ : MM) σ0 A ((l9 ++ numI (nI f)) ++ [b8 58]) (whyN (m_now ms) f) (by first | omega | (simp; omega))) tX2_writesNumber q2871 (mc_0 _ _ _) rfl rfl dX2_writesReason_30 (by decide) (Nat.le_of_eq (Nat.zero_add _)) (Nat.le_of_ble_eq_true rfl) ?_
    exact A_vret dX2_writesReason_33 rfl ⟨rfl, by rw [rsN, if_pos (le0_len (by omega) c1)]⟩
  · skip
    refine A_aload_n (i := 0) dX2_writesReason_7 rfl rfl ?_
    refine A_bipush (v := 32) dX2_writesReason_8 (by decide) ?_
    refine A_callV1E (v := none) (τ := mc b9 (⟨m_thr ms, m_is ms, m_um ms, m_bd ms, m_pc ms, m_pa ms, m_sz ms, m_cu ms, m_st ms, m_tk ms, m_to ms, nI (l9 ++ [b8 32]).length, m_now ms, m_asd ms, m_und ms, m_sav ms, m_isv ms, m_buf ms, m_grp ms, pgA A (l9 ++ [b8 32])⟩ : MM) σ0) (c_writesByte b9 (⟨m_thr ms, m_is ms, m_um ms, m_bd ms, m_pc ms, m_pa ms, m_sz ms, m_cu ms, m_st ms, m_tk ms, m_to ms, nI l9.length, m_now ms, m_asd ms, m_und ms, m_sav ms, m_isv ms, m_buf ms, m_grp ms, pgA A l9⟩ : MM) σ0 A l9 32 (by first | omega | (simp; omega))) tX2_writesByte q2867 (mc_0 _ _ _) rfl rfl dX2_writesReason_10 (by decide) (Nat.le_of_eq (Nat.zero_add _)) (Nat.le_of_ble_eq_true rfl) ?_
    refine A_aload_n (i := 0) dX2_writesReason_13 rfl rfl ?_
    refine A_iload_n (i := 1) dX2_writesReason_14 rfl rfl ?_
    refine A_callV1E (v := none) (τ := mc b9 (⟨m_thr ms, m_is ms, m_um ms, m_bd ms, m_pc ms, m_pa ms, m_sz ms, m_cu ms, m_st ms, m_tk ms, m_to ms, nI ((l9 ++ [b8 32]) ++ numI (nI f)).length, m_now ms, m_asd ms, m_und ms, m_sav ms, m_isv ms, m_buf ms, m_grp ms, pgA A ((l9 ++ [b8 32]) ++ numI (nI f))⟩ : MM) σ0) (c_writesNumber b9 (⟨m_thr ms, m_is ms, m_um ms, m_bd ms, m_pc ms, m_pa ms, m_sz ms, m_cu ms, m_st ms, m_tk ms, m_to ms, nI (l9 ++ [b8 32]).length, m_now ms, m_asd ms, m_und ms, m_sav ms, m_isv ms, m_buf ms, m_grp ms, pgA A (l9 ++ [b8 32])⟩ : MM) σ0 A (l9 ++ [b8 32]) (nI f) (by first | omega | (simp; omega))) tX2_writesNumber q2871 (mc_0 _ _ _) rfl rfl dX2_writesReason_15 (by decide) (Nat.le_of_eq (Nat.zero_add _)) (Nat.le_of_ble_eq_true rfl) ?_
    refine A_aload_n (i := 0) dX2_writesReason_18 rfl rfl ?_
    refine A_bipush (v := 58) dX2_writesReason_19 (by decide) ?_
    refine A_callV1E (v := none) (τ := mc b9 (⟨m_thr ms, m_is ms, m_um ms, m_bd ms, m_pc ms, m_pa ms, m_sz ms, m_cu ms, m_st ms, m_tk ms, m_to ms, nI (((l9 ++ [b8 32]) ++ numI (nI f)) ++ [b8 58]).length, m_now ms, m_asd ms, m_und ms, m_sav ms, m_isv ms, m_buf ms, m_grp ms, pgA A (((l9 ++ [b8 32]) ++ numI (nI f)) ++ [b8 58])⟩ : MM) σ0) (c_writesByte b9 (⟨m_thr ms, m_is ms, m_um ms, m_bd ms, m_pc ms, m_pa ms, m_sz ms, m_cu ms, m_st ms, m_tk ms, m_to ms, nI ((l9 ++ [b8 32]) ++ numI (nI f)).length, m_now ms, m_asd ms, m_und ms, m_sav ms, m_isv ms, m_buf ms, m_grp ms, pgA A ((l9 ++ [b8 32]) ++ numI (nI f))⟩ : MM) σ0 A ((l9 ++ [b8 32]) ++ numI (nI f)) 58 (by first | omega | (simp; omega))) tX2_writesByte q2867 (mc_0 _ _ _) rfl rfl dX2_writesReason_21 (by decide) (Nat.le_of_eq (Nat.zero_add _)) (Nat.le_of_ble_eq_true rfl) ?_
    refine A_aload_n (i := 0) dX2_writesReason_24 rfl rfl ?_
    refine A_aload_n (i := 0) dX2_writesReason_25 rfl rfl ?_
    refine A_iload_n (i := 1) dX2_writesReason_26 rfl rfl ?_
    refine A_callV1E (v := some (.int (whyN (m_now ms) f))) (τ := mc b9 (⟨m_thr ms, m_is ms, m_um ms, m_bd ms, m_pc ms, m_pa ms, m_sz ms, m_cu ms, m_st ms, m_tk ms, m_to ms, nI (((l9 ++ [b8 32]) ++ numI (nI f)) ++ [b8 58]).length, m_now ms, m_asd ms, m_und ms, m_sav ms, m_isv ms, m_buf ms, m_grp ms, pgA A (((l9 ++ [b8 32]) ++ numI (nI f)) ++ [b8 58])⟩ : MM) σ0) (c_whyNotReady b9 (⟨m_thr ms, m_is ms, m_um ms, m_bd ms, m_pc ms, m_pa ms, m_sz ms, m_cu ms, m_st ms, m_tk ms, m_to ms, nI (((l9 ++ [b8 32]) ++ numI (nI f)) ++ [b8 58]).length, m_now ms, m_asd ms, m_und ms, m_sav ms, m_isv ms, m_buf ms, m_grp ms, pgA A (((l9 ++ [b8 32]) ++ numI (nI f)) ++ [b8 58])⟩ : MM) σ0 f (by first | assumption | omega)) tX2_whyNotReady q2573 (mc_0 _ _ _) rfl rfl dX2_writesReason_27 (by decide) (Nat.le_of_eq (Nat.zero_add _)) (Nat.le_of_ble_eq_true rfl) ?_
    refine A_callV1E (v := none) (τ := mc b9 (⟨m_thr ms, m_is ms, m_um ms, m_bd ms, m_pc ms, m_pa ms, m_sz ms, m_cu ms, m_st ms, m_tk ms, m_to ms, nI ((((l9 ++ [b8 32]) ++ numI (nI f)) ++ [b8 58]) ++ numI (whyN (m_now ms) f)).length, m_now ms, m_asd ms, m_und ms, m_sav ms, m_isv ms, m_buf ms, m_grp ms, pgA A ((((l9 ++ [b8 32]) ++ numI (nI f)) ++ [b8 58]) ++ numI (whyN (m_now ms) f))⟩ : MM) σ0) (c_writesNumber b9 (⟨m_thr ms, m_is ms, m_um ms, m_bd ms, m_pc ms, m_pa ms, m_sz ms, m_cu ms, m_st ms, m_tk ms, m_to ms, nI (((l9 ++ [b8 32]) ++ numI (nI f)) ++ [b8 58]).length, m_now ms, m_asd ms, m_und ms, m_sav ms, m_isv ms, m_buf ms, m_grp ms, pgA A (((l9 ++ [b8 32]) ++ numI (nI f)) ++ [b8 58])⟩ : MM) σ0 A (((l9 ++ [b8 32]) ++ numI (nI f)) ++ [b8 58]) (whyN (m_now ms) f) (by first | omega | (simp; omega))) tX2_writesNumber q2871 (mc_0 _ _ _) rfl rfl dX2_writesReason_30 (by decide) (Nat.le_of_eq (Nat.zero_add _)) (Nat.le_of_ble_eq_true rfl) ?_
    exact A_vret dX2_writesReason_33 rfl ⟨rfl, by rw [rsN, if_neg (gt0_len c1)]⟩
theorem c_writeFlag {l : Launch} {g : GC} (b9 : Nat) (ms : MM) (σ0 : AH) (f : Int32) (h1 : WFc (m_now ms)) : AMet l g mX2_writeFlag 4 0 [.ref b9, .int f] (mc b9 ms σ0) (A_eq (some (.int (gd (mayT (m_is ms) (bi (okF (m_is ms) (m_now ms) f)) 1) (nI (txF (m_now ms) (ix f) (nC (m_now ms))).length)))) (mc b9 (⟨mayT (m_is ms) (bi (okF (m_is ms) (m_now ms) f)) 1, m_is ms, m_um ms, m_bd ms, m_pc ms, m_pa ms, m_sz ms, m_cu ms, m_st ms, m_tk ms, m_to ms, gq (mayT (m_is ms) (bi (okF (m_is ms) (m_now ms) f)) 1) (nI (txF (m_now ms) (ix f) (nC (m_now ms))).length) (m_ps ms), m_now ms, m_asd ms, m_und ms, m_sav ms, m_isv ms, m_buf ms, m_grp ms, gq (mayT (m_is ms) (bi (okF (m_is ms) (m_now ms) f)) 1) (pgA (m_pag ms) (txF (m_now ms) (ix f) (nC (m_now ms)))) (m_pag ms)⟩ : MM) σ0)) A_no := by
  refine A_of rfl (by decide) (Nat.le_of_ble_eq_true rfl) (L0 := [(0, .ref b9), (1, .int f)]) rfl ?_
  have hF := h1.2.2.2.2.2
  have hC := h1.1.2
  refine A_aload_n (i := 0) dX2_writeFlag_0 rfl rfl ?_
  refine A_iload_n (i := 1) dX2_writeFlag_1 rfl rfl ?_
  refine A_callV1E (v := some (.int (bi (mayT (m_is ms) (bi (okF (m_is ms) (m_now ms) f)) 1 = 0)))) (τ := mc b9 (⟨mayT (m_is ms) (bi (okF (m_is ms) (m_now ms) f)) 1, m_is ms, m_um ms, m_bd ms, m_pc ms, m_pa ms, m_sz ms, m_cu ms, m_st ms, m_tk ms, m_to ms, m_ps ms, m_now ms, m_asd ms, m_und ms, m_sav ms, m_isv ms, m_buf ms, m_grp ms, m_pag ms⟩ : MM) σ0) (c_mayFlag b9 ms σ0 f) tX2_mayFlag q2686 (mc_0 _ _ _) rfl rfl dX2_writeFlag_2 (by decide) (Nat.le_of_eq (Nat.zero_add _)) (Nat.le_of_ble_eq_true rfl) ?_
  refine A_if_ne (tgt := 10) dX2_writeFlag_5 (by decide) (fun c1 => ?_) (fun c1 => ?_)
  · skip
    have c1 := bi_ne0.mp c1
    obtain ⟨f9, hf9, rfl⟩ := okF_ex h1 (mayT_y c1)
    try rw [ixn (show f9 < 2000 by omega)]
    have hn3 := numI_le (fl (m_now ms) f9 3)
    have hn4 := numI_le (fl (m_now ms) f9 4)
    have hn5 := numI_le (fl (m_now ms) f9 5)
    have hnl : nl.length = 0 := rfl
    refine A_aload_n (i := 0) dX2_writeFlag_10 rfl rfl ?_
    refine A_iconst (v := 0) dX2_writeFlag_11 (by decide) ?_
    refine M_putT_ps q2248 rfl dX2_writeFlag_12 ?_
    refine A_st (σ' := mc b9 (⟨mayT (m_is ms) (bi (okF (m_is ms) (m_now ms) (nI f9))) 1, m_is ms, m_um ms, m_bd ms, m_pc ms, m_pa ms, m_sz ms, m_cu ms, m_st ms, m_tk ms, m_to ms, nI nl.length, m_now ms, m_asd ms, m_und ms, m_sav ms, m_isv ms, m_buf ms, m_grp ms, pgA (m_pag ms) nl⟩ : MM) σ0) (by rw [pgA_nil] <;> rfl) ?_
    refine A_aload_n (i := 0) dX2_writeFlag_15 rfl rfl ?_
    refine A_aload_n (i := 0) dX2_writeFlag_16 rfl rfl ?_
    refine A_iload_n (i := 1) dX2_writeFlag_17 rfl rfl ?_
    refine A_callV1E (v := some (.int (fl (m_now ms) f9 8))) (τ := mc b9 (⟨mayT (m_is ms) (bi (okF (m_is ms) (m_now ms) (nI f9))) 1, m_is ms, m_um ms, m_bd ms, m_pc ms, m_pa ms, m_sz ms, m_cu ms, m_st ms, m_tk ms, m_to ms, nI nl.length, m_now ms, m_asd ms, m_und ms, m_sav ms, m_isv ms, m_buf ms, m_grp ms, pgA (m_pag ms) nl⟩ : MM) σ0) (c_where b9 (⟨mayT (m_is ms) (bi (okF (m_is ms) (m_now ms) (nI f9))) 1, m_is ms, m_um ms, m_bd ms, m_pc ms, m_pa ms, m_sz ms, m_cu ms, m_st ms, m_tk ms, m_to ms, nI nl.length, m_now ms, m_asd ms, m_und ms, m_sav ms, m_isv ms, m_buf ms, m_grp ms, pgA (m_pag ms) nl⟩ : MM) σ0 f9 (by first | assumption | omega)) tX2_where q2440 (mc_0 _ _ _) rfl rfl dX2_writeFlag_18 (by decide) (Nat.le_of_eq (Nat.zero_add _)) (Nat.le_of_ble_eq_true rfl) ?_
    refine A_callS1E (v := some (.int (letN (fl (m_now ms) f9 8)))) (τ := mc b9 (⟨mayT (m_is ms) (bi (okF (m_is ms) (m_now ms) (nI f9))) 1, m_is ms, m_um ms, m_bd ms, m_pc ms, m_pa ms, m_sz ms, m_cu ms, m_st ms, m_tk ms, m_to ms, nI nl.length, m_now ms, m_asd ms, m_und ms, m_sav ms, m_isv ms, m_buf ms, m_grp ms, pgA (m_pag ms) nl⟩ : MM) σ0) (c_letterOf b9 (⟨mayT (m_is ms) (bi (okF (m_is ms) (m_now ms) (nI f9))) 1, m_is ms, m_um ms, m_bd ms, m_pc ms, m_pa ms, m_sz ms, m_cu ms, m_st ms, m_tk ms, m_to ms, nI nl.length, m_now ms, m_asd ms, m_und ms, m_sav ms, m_isv ms, m_buf ms, m_grp ms, pgA (m_pag ms) nl⟩ : MM) σ0 (fl (m_now ms) f9 8)) tX2_letterOf q2864 dX2_writeFlag_21 (by decide) (Nat.le_of_eq (Nat.zero_add _)) (Nat.le_of_ble_eq_true rfl) ?_
    refine A_callV1E (v := none) (τ := mc b9 (⟨mayT (m_is ms) (bi (okF (m_is ms) (m_now ms) (nI f9))) 1, m_is ms, m_um ms, m_bd ms, m_pc ms, m_pa ms, m_sz ms, m_cu ms, m_st ms, m_tk ms, m_to ms, nI (nl ++ [b8 (letN (fl (m_now ms) f9 8))]).length, m_now ms, m_asd ms, m_und ms, m_sav ms, m_isv ms, m_buf ms, m_grp ms, pgA (m_pag ms) (nl ++ [b8 (letN (fl (m_now ms) f9 8))])⟩ : MM) σ0) (c_writesByte b9 (⟨mayT (m_is ms) (bi (okF (m_is ms) (m_now ms) (nI f9))) 1, m_is ms, m_um ms, m_bd ms, m_pc ms, m_pa ms, m_sz ms, m_cu ms, m_st ms, m_tk ms, m_to ms, nI nl.length, m_now ms, m_asd ms, m_und ms, m_sav ms, m_isv ms, m_buf ms, m_grp ms, pgA (m_pag ms) nl⟩ : MM) σ0 (m_pag ms) nl (letN (fl (m_now ms) f9 8)) (by first | assumption | omega | (simp; omega) | (simp [nl]; omega))) tX2_writesByte q2867 (mc_0 _ _ _) rfl rfl dX2_writeFlag_24 (by decide) (Nat.le_of_eq (Nat.zero_add _)) (Nat.le_of_ble_eq_true rfl) ?_
    refine A_aload_n (i := 0) dX2_writeFlag_27 rfl rfl ?_
    refine A_aload_n (i := 0) dX2_writeFlag_28 rfl rfl ?_
    refine A_iload_n (i := 1) dX2_writeFlag_29 rfl rfl ?_
    refine A_iconst (v := 3) dX2_writeFlag_30 (by decide) ?_
    refine A_callV2E (v := some (.int (fl (m_now ms) f9 3))) (τ := mc b9 (⟨mayT (m_is ms) (bi (okF (m_is ms) (m_now ms) (nI f9))) 1, m_is ms, m_um ms, m_bd ms, m_pc ms, m_pa ms, m_sz ms, m_cu ms, m_st ms, m_tk ms, m_to ms, nI (nl ++ [b8 (letN (fl (m_now ms) f9 8))]).length, m_now ms, m_asd ms, m_und ms, m_sav ms, m_isv ms, m_buf ms, m_grp ms, pgA (m_pag ms) (nl ++ [b8 (letN (fl (m_now ms) f9 8))])⟩ : MM) σ0) (c_ofFlag b9 (⟨mayT (m_is ms) (bi (okF (m_is ms) (m_now ms) (nI f9))) 1, m_is ms, m_um ms, m_bd ms, m_pc ms, m_pa ms, m_sz ms, m_cu ms, m_st ms, m_tk ms, m_to ms, nI (nl ++ [b8 (letN (fl (m_now ms) f9 8))]).length, m_now ms, m_asd ms, m_und ms, m_sav ms, m_isv ms, m_buf ms, m_grp ms, pgA (m_pag ms) (nl ++ [b8 (letN (fl (m_now ms) f9 8))])⟩ : MM) σ0 f9 3 (by first | assumption | omega) (by first | assumption | omega)) tX2_ofFlag q2444 (mc_0 _ _ _) rfl rfl dX2_writeFlag_31 (by decide) (Nat.le_of_eq (Nat.zero_add _)) (Nat.le_of_ble_eq_true rfl) ?_
    refine A_callV1E (v := none) (τ := mc b9 (⟨mayT (m_is ms) (bi (okF (m_is ms) (m_now ms) (nI f9))) 1, m_is ms, m_um ms, m_bd ms, m_pc ms, m_pa ms, m_sz ms, m_cu ms, m_st ms, m_tk ms, m_to ms, nI ((nl ++ [b8 (letN (fl (m_now ms) f9 8))]) ++ numI (fl (m_now ms) f9 3)).length, m_now ms, m_asd ms, m_und ms, m_sav ms, m_isv ms, m_buf ms, m_grp ms, pgA (m_pag ms) ((nl ++ [b8 (letN (fl (m_now ms) f9 8))]) ++ numI (fl (m_now ms) f9 3))⟩ : MM) σ0) (c_writesNumber b9 (⟨mayT (m_is ms) (bi (okF (m_is ms) (m_now ms) (nI f9))) 1, m_is ms, m_um ms, m_bd ms, m_pc ms, m_pa ms, m_sz ms, m_cu ms, m_st ms, m_tk ms, m_to ms, nI (nl ++ [b8 (letN (fl (m_now ms) f9 8))]).length, m_now ms, m_asd ms, m_und ms, m_sav ms, m_isv ms, m_buf ms, m_grp ms, pgA (m_pag ms) (nl ++ [b8 (letN (fl (m_now ms) f9 8))])⟩ : MM) σ0 (m_pag ms) (nl ++ [b8 (letN (fl (m_now ms) f9 8))]) (fl (m_now ms) f9 3) (by first | assumption | omega | (simp; omega) | (simp [nl]; omega))) tX2_writesNumber q2871 (mc_0 _ _ _) rfl rfl dX2_writeFlag_34 (by decide) (Nat.le_of_eq (Nat.zero_add _)) (Nat.le_of_ble_eq_true rfl) ?_
    refine A_aload_n (i := 0) dX2_writeFlag_37 rfl rfl ?_
    refine A_aload_n (i := 0) dX2_writeFlag_38 rfl rfl ?_
    refine A_iload_n (i := 1) dX2_writeFlag_39 rfl rfl ?_
    refine A_iconst (v := 4) dX2_writeFlag_40 (by decide) ?_
    refine A_callV2E (v := some (.int (fl (m_now ms) f9 4))) (τ := mc b9 (⟨mayT (m_is ms) (bi (okF (m_is ms) (m_now ms) (nI f9))) 1, m_is ms, m_um ms, m_bd ms, m_pc ms, m_pa ms, m_sz ms, m_cu ms, m_st ms, m_tk ms, m_to ms, nI ((nl ++ [b8 (letN (fl (m_now ms) f9 8))]) ++ numI (fl (m_now ms) f9 3)).length, m_now ms, m_asd ms, m_und ms, m_sav ms, m_isv ms, m_buf ms, m_grp ms, pgA (m_pag ms) ((nl ++ [b8 (letN (fl (m_now ms) f9 8))]) ++ numI (fl (m_now ms) f9 3))⟩ : MM) σ0) (c_ofFlag b9 (⟨mayT (m_is ms) (bi (okF (m_is ms) (m_now ms) (nI f9))) 1, m_is ms, m_um ms, m_bd ms, m_pc ms, m_pa ms, m_sz ms, m_cu ms, m_st ms, m_tk ms, m_to ms, nI ((nl ++ [b8 (letN (fl (m_now ms) f9 8))]) ++ numI (fl (m_now ms) f9 3)).length, m_now ms, m_asd ms, m_und ms, m_sav ms, m_isv ms, m_buf ms, m_grp ms, pgA (m_pag ms) ((nl ++ [b8 (letN (fl (m_now ms) f9 8))]) ++ numI (fl (m_now ms) f9 3))⟩ : MM) σ0 f9 4 (by first | assumption | omega) (by first | assumption | omega)) tX2_ofFlag q2444 (mc_0 _ _ _) rfl rfl dX2_writeFlag_41 (by decide) (Nat.le_of_eq (Nat.zero_add _)) (Nat.le_of_ble_eq_true rfl) ?_
    refine A_callV1E (v := none) (τ := mc b9 (⟨mayT (m_is ms) (bi (okF (m_is ms) (m_now ms) (nI f9))) 1, m_is ms, m_um ms, m_bd ms, m_pc ms, m_pa ms, m_sz ms, m_cu ms, m_st ms, m_tk ms, m_to ms, nI (((nl ++ [b8 (letN (fl (m_now ms) f9 8))]) ++ numI (fl (m_now ms) f9 3)) ++ numI (fl (m_now ms) f9 4)).length, m_now ms, m_asd ms, m_und ms, m_sav ms, m_isv ms, m_buf ms, m_grp ms, pgA (m_pag ms) (((nl ++ [b8 (letN (fl (m_now ms) f9 8))]) ++ numI (fl (m_now ms) f9 3)) ++ numI (fl (m_now ms) f9 4))⟩ : MM) σ0) (c_writesNumber b9 (⟨mayT (m_is ms) (bi (okF (m_is ms) (m_now ms) (nI f9))) 1, m_is ms, m_um ms, m_bd ms, m_pc ms, m_pa ms, m_sz ms, m_cu ms, m_st ms, m_tk ms, m_to ms, nI ((nl ++ [b8 (letN (fl (m_now ms) f9 8))]) ++ numI (fl (m_now ms) f9 3)).length, m_now ms, m_asd ms, m_und ms, m_sav ms, m_isv ms, m_buf ms, m_grp ms, pgA (m_pag ms) ((nl ++ [b8 (letN (fl (m_now ms) f9 8))]) ++ numI (fl (m_now ms) f9 3))⟩ : MM) σ0 (m_pag ms) ((nl ++ [b8 (letN (fl (m_now ms) f9 8))]) ++ numI (fl (m_now ms) f9 3)) (fl (m_now ms) f9 4) (by first | assumption | omega | (simp; omega) | (simp [nl]; omega))) tX2_writesNumber q2871 (mc_0 _ _ _) rfl rfl dX2_writeFlag_44 (by decide) (Nat.le_of_eq (Nat.zero_add _)) (Nat.le_of_ble_eq_true rfl) ?_
    refine A_aload_n (i := 0) dX2_writeFlag_47 rfl rfl ?_
    refine A_aload_n (i := 0) dX2_writeFlag_48 rfl rfl ?_
    refine A_iload_n (i := 1) dX2_writeFlag_49 rfl rfl ?_
    refine A_iconst (v := 5) dX2_writeFlag_50 (by decide) ?_
    refine A_callV2E (v := some (.int (fl (m_now ms) f9 5))) (τ := mc b9 (⟨mayT (m_is ms) (bi (okF (m_is ms) (m_now ms) (nI f9))) 1, m_is ms, m_um ms, m_bd ms, m_pc ms, m_pa ms, m_sz ms, m_cu ms, m_st ms, m_tk ms, m_to ms, nI (((nl ++ [b8 (letN (fl (m_now ms) f9 8))]) ++ numI (fl (m_now ms) f9 3)) ++ numI (fl (m_now ms) f9 4)).length, m_now ms, m_asd ms, m_und ms, m_sav ms, m_isv ms, m_buf ms, m_grp ms, pgA (m_pag ms) (((nl ++ [b8 (letN (fl (m_now ms) f9 8))]) ++ numI (fl (m_now ms) f9 3)) ++ numI (fl (m_now ms) f9 4))⟩ : MM) σ0) (c_ofFlag b9 (⟨mayT (m_is ms) (bi (okF (m_is ms) (m_now ms) (nI f9))) 1, m_is ms, m_um ms, m_bd ms, m_pc ms, m_pa ms, m_sz ms, m_cu ms, m_st ms, m_tk ms, m_to ms, nI (((nl ++ [b8 (letN (fl (m_now ms) f9 8))]) ++ numI (fl (m_now ms) f9 3)) ++ numI (fl (m_now ms) f9 4)).length, m_now ms, m_asd ms, m_und ms, m_sav ms, m_isv ms, m_buf ms, m_grp ms, pgA (m_pag ms) (((nl ++ [b8 (letN (fl (m_now ms) f9 8))]) ++ numI (fl (m_now ms) f9 3)) ++ numI (fl (m_now ms) f9 4))⟩ : MM) σ0 f9 5 (by first | assumption | omega) (by first | assumption | omega)) tX2_ofFlag q2444 (mc_0 _ _ _) rfl rfl dX2_writeFlag_51 (by decide) (Nat.le_of_eq (Nat.zero_add _)) (Nat.le_of_ble_eq_true rfl) ?_
    refine A_callV1E (v := none) (τ := mc b9 (⟨mayT (m_is ms) (bi (okF (m_is ms) (m_now ms) (nI f9))) 1, m_is ms, m_um ms, m_bd ms, m_pc ms, m_pa ms, m_sz ms, m_cu ms, m_st ms, m_tk ms, m_to ms, nI ((((nl ++ [b8 (letN (fl (m_now ms) f9 8))]) ++ numI (fl (m_now ms) f9 3)) ++ numI (fl (m_now ms) f9 4)) ++ numI (fl (m_now ms) f9 5)).length, m_now ms, m_asd ms, m_und ms, m_sav ms, m_isv ms, m_buf ms, m_grp ms, pgA (m_pag ms) ((((nl ++ [b8 (letN (fl (m_now ms) f9 8))]) ++ numI (fl (m_now ms) f9 3)) ++ numI (fl (m_now ms) f9 4)) ++ numI (fl (m_now ms) f9 5))⟩ : MM) σ0) (c_writesNumber b9 (⟨mayT (m_is ms) (bi (okF (m_is ms) (m_now ms) (nI f9))) 1, m_is ms, m_um ms, m_bd ms, m_pc ms, m_pa ms, m_sz ms, m_cu ms, m_st ms, m_tk ms, m_to ms, nI (((nl ++ [b8 (letN (fl (m_now ms) f9 8))]) ++ numI (fl (m_now ms) f9 3)) ++ numI (fl (m_now ms) f9 4)).length, m_now ms, m_asd ms, m_und ms, m_sav ms, m_isv ms, m_buf ms, m_grp ms, pgA (m_pag ms) (((nl ++ [b8 (letN (fl (m_now ms) f9 8))]) ++ numI (fl (m_now ms) f9 3)) ++ numI (fl (m_now ms) f9 4))⟩ : MM) σ0 (m_pag ms) (((nl ++ [b8 (letN (fl (m_now ms) f9 8))]) ++ numI (fl (m_now ms) f9 3)) ++ numI (fl (m_now ms) f9 4)) (fl (m_now ms) f9 5) (by first | assumption | omega | (simp; omega) | (simp [nl]; omega))) tX2_writesNumber q2871 (mc_0 _ _ _) rfl rfl dX2_writeFlag_54 (by decide) (Nat.le_of_eq (Nat.zero_add _)) (Nat.le_of_ble_eq_true rfl) ?_
    refine A_iconst (v := 0) dX2_writeFlag_57 (by decide) ?_
    refine A_istore_n (i := 2) dX2_writeFlag_58 rfl (Nat.le_of_ble_eq_true rfl) ?_
    refine A_sub (L' := [(0, .ref b9), (1, .int (nI f9)), (2, .int (nI 0))]) ⟨rfl, rfl, rfl, trivial⟩ ?_
    refine A_for (nC (m_now ms)) (fun i59 => 0) (fun i59 => [(0, .ref b9), (1, .int (nI f9)), (2, .int (nI i59))]) (fun i59 => mc b9 (⟨mayT (m_is ms) (bi (okF (m_is ms) (m_now ms) (nI f9))) 1, m_is ms, m_um ms, m_bd ms, m_pc ms, m_pa ms, m_sz ms, m_cu ms, m_st ms, m_tk ms, m_to ms, nI (txF (m_now ms) f9 i59).length, m_now ms, m_asd ms, m_und ms, m_sav ms, m_isv ms, m_buf ms, m_grp ms, pgA (m_pag ms) (txF (m_now ms) f9 i59)⟩ : MM) σ0) (fun i59 => True) trivial (fun i59 hi59 hI59 ih59 => ?_) (fun hI59 => ?_)
    · skip
      refine A_iload_n (i := 2) dX2_writeFlag_59 rfl rfl ?_
      refine A_aload_n (i := 0) dX2_writeFlag_60 rfl rfl ?_
      refine M_get 1 (v := .ref (b9 + 1)) (Nat.le_of_ble_eq_true rfl) q2230 rfl dX2_writeFlag_61 ?_
      refine A_bipush (v := 6) dX2_writeFlag_64 (by decide) ?_
      refine M_ald1 (n := 6) (v := m_now ms 6) (rfl) (by decide) (rfl) dX2_writeFlag_66 ?_
      refine A_icmp_ge_f (tgt := 104) dX2_writeFlag_67 (by decide) (br_lt h1.1.1 hi59 (by omega)) ?_
      have hl := txF_le (m_now ms) f9 i59
      have hn := numI_le (nI i59)
      refine A_aload_n (i := 0) dX2_writeFlag_70 rfl rfl ?_
      refine A_iload_n (i := 1) dX2_writeFlag_71 rfl rfl ?_
      refine A_bipush (v := 6) dX2_writeFlag_72 (by decide) ?_
      refine A_callV2E (v := some (.int (fl (m_now ms) f9 6))) (τ := mc b9 (⟨mayT (m_is ms) (bi (okF (m_is ms) (m_now ms) (nI f9))) 1, m_is ms, m_um ms, m_bd ms, m_pc ms, m_pa ms, m_sz ms, m_cu ms, m_st ms, m_tk ms, m_to ms, nI (txF (m_now ms) f9 i59).length, m_now ms, m_asd ms, m_und ms, m_sav ms, m_isv ms, m_buf ms, m_grp ms, pgA (m_pag ms) (txF (m_now ms) f9 i59)⟩ : MM) σ0) (c_ofFlag b9 (⟨mayT (m_is ms) (bi (okF (m_is ms) (m_now ms) (nI f9))) 1, m_is ms, m_um ms, m_bd ms, m_pc ms, m_pa ms, m_sz ms, m_cu ms, m_st ms, m_tk ms, m_to ms, nI (txF (m_now ms) f9 i59).length, m_now ms, m_asd ms, m_und ms, m_sav ms, m_isv ms, m_buf ms, m_grp ms, pgA (m_pag ms) (txF (m_now ms) f9 i59)⟩ : MM) σ0 f9 6 (by first | assumption | omega) (by first | assumption | omega)) tX2_ofFlag q2444 (mc_0 _ _ _) rfl rfl dX2_writeFlag_74 (by decide) (Nat.le_of_eq (Nat.zero_add _)) (Nat.le_of_ble_eq_true rfl) ?_
      refine A_iload_n (i := 2) dX2_writeFlag_77 rfl rfl ?_
      refine A_callS2E (v := some (.int (bi (hasB (fl (m_now ms) f9 6) (nI i59))))) (τ := mc b9 (⟨mayT (m_is ms) (bi (okF (m_is ms) (m_now ms) (nI f9))) 1, m_is ms, m_um ms, m_bd ms, m_pc ms, m_pa ms, m_sz ms, m_cu ms, m_st ms, m_tk ms, m_to ms, nI (txF (m_now ms) f9 i59).length, m_now ms, m_asd ms, m_und ms, m_sav ms, m_isv ms, m_buf ms, m_grp ms, pgA (m_pag ms) (txF (m_now ms) f9 i59)⟩ : MM) σ0) (c_has b9 (⟨mayT (m_is ms) (bi (okF (m_is ms) (m_now ms) (nI f9))) 1, m_is ms, m_um ms, m_bd ms, m_pc ms, m_pa ms, m_sz ms, m_cu ms, m_st ms, m_tk ms, m_to ms, nI (txF (m_now ms) f9 i59).length, m_now ms, m_asd ms, m_und ms, m_sav ms, m_isv ms, m_buf ms, m_grp ms, pgA (m_pag ms) (txF (m_now ms) f9 i59)⟩ : MM) σ0 (fl (m_now ms) f9 6) (nI i59)) tX2_has q2408 dX2_writeFlag_78 (by decide) (Nat.le_of_eq (Nat.zero_add _)) (Nat.le_of_ble_eq_true rfl) ?_
      refine A_if_ne (tgt := 87) dX2_writeFlag_81 (by decide) (fun c2 => ?_) (fun c2 => ?_)
      · skip
        have c2 := bi_ne0.mp c2
        refine A_aload_n (i := 0) dX2_writeFlag_87 rfl rfl ?_
        refine A_bipush (v := 43) dX2_writeFlag_88 (by decide) ?_
        refine A_callV1E (v := none) (τ := mc b9 (⟨mayT (m_is ms) (bi (okF (m_is ms) (m_now ms) (nI f9))) 1, m_is ms, m_um ms, m_bd ms, m_pc ms, m_pa ms, m_sz ms, m_cu ms, m_st ms, m_tk ms, m_to ms, nI ((txF (m_now ms) f9 i59) ++ [b8 43]).length, m_now ms, m_asd ms, m_und ms, m_sav ms, m_isv ms, m_buf ms, m_grp ms, pgA (m_pag ms) ((txF (m_now ms) f9 i59) ++ [b8 43])⟩ : MM) σ0) (c_writesByte b9 (⟨mayT (m_is ms) (bi (okF (m_is ms) (m_now ms) (nI f9))) 1, m_is ms, m_um ms, m_bd ms, m_pc ms, m_pa ms, m_sz ms, m_cu ms, m_st ms, m_tk ms, m_to ms, nI (txF (m_now ms) f9 i59).length, m_now ms, m_asd ms, m_und ms, m_sav ms, m_isv ms, m_buf ms, m_grp ms, pgA (m_pag ms) (txF (m_now ms) f9 i59)⟩ : MM) σ0 (m_pag ms) (txF (m_now ms) f9 i59) 43 (by first | assumption | omega | (simp; omega) | (simp [nl]; omega))) tX2_writesByte q2867 (mc_0 _ _ _) rfl rfl dX2_writeFlag_90 (by decide) (Nat.le_of_eq (Nat.zero_add _)) (Nat.le_of_ble_eq_true rfl) ?_
        refine A_aload_n (i := 0) dX2_writeFlag_93 rfl rfl ?_
        refine A_iload_n (i := 2) dX2_writeFlag_94 rfl rfl ?_
        refine A_callV1E (v := none) (τ := mc b9 (⟨mayT (m_is ms) (bi (okF (m_is ms) (m_now ms) (nI f9))) 1, m_is ms, m_um ms, m_bd ms, m_pc ms, m_pa ms, m_sz ms, m_cu ms, m_st ms, m_tk ms, m_to ms, nI (((txF (m_now ms) f9 i59) ++ [b8 43]) ++ numI (nI i59)).length, m_now ms, m_asd ms, m_und ms, m_sav ms, m_isv ms, m_buf ms, m_grp ms, pgA (m_pag ms) (((txF (m_now ms) f9 i59) ++ [b8 43]) ++ numI (nI i59))⟩ : MM) σ0) (c_writesNumber b9 (⟨mayT (m_is ms) (bi (okF (m_is ms) (m_now ms) (nI f9))) 1, m_is ms, m_um ms, m_bd ms, m_pc ms, m_pa ms, m_sz ms, m_cu ms, m_st ms, m_tk ms, m_to ms, nI ((txF (m_now ms) f9 i59) ++ [b8 43]).length, m_now ms, m_asd ms, m_und ms, m_sav ms, m_isv ms, m_buf ms, m_grp ms, pgA (m_pag ms) ((txF (m_now ms) f9 i59) ++ [b8 43])⟩ : MM) σ0 (m_pag ms) ((txF (m_now ms) f9 i59) ++ [b8 43]) (nI i59) (by first | assumption | omega | (simp; omega) | (simp [nl]; omega))) tX2_writesNumber q2871 (mc_0 _ _ _) rfl rfl dX2_writeFlag_95 (by decide) (Nat.le_of_eq (Nat.zero_add _)) (Nat.le_of_ble_eq_true rfl) ?_
        refine A_iinc (v := nI (i59 + 1)) dX2_writeFlag_98 rfl (nI_inc _ _) (Nat.le_of_ble_eq_true rfl) ?_
        refine A_goto (tgt := 59) dX2_writeFlag_101 (by decide) ?_
        refine A_sub (L' := [(0, .ref b9), (1, .int (nI f9)), (2, .int (nI (i59 + 1)))]) ⟨rfl, rfl, rfl, trivial⟩ ?_
        rw [show mc b9 (⟨mayT (m_is ms) (bi (okF (m_is ms) (m_now ms) (nI f9))) 1, m_is ms, m_um ms, m_bd ms, m_pc ms, m_pa ms, m_sz ms, m_cu ms, m_st ms, m_tk ms, m_to ms, nI (((txF (m_now ms) f9 i59) ++ [b8 43]) ++ numI (nI i59)).length, m_now ms, m_asd ms, m_und ms, m_sav ms, m_isv ms, m_buf ms, m_grp ms, pgA (m_pag ms) (((txF (m_now ms) f9 i59) ++ [b8 43]) ++ numI (nI i59))⟩ : MM) σ0 = mc b9 (s_ps (nI (txF (m_now ms) f9 (i59 + 1)).length) (s_pag (pgA (m_pag ms) (txF (m_now ms) f9 (i59 + 1))) (⟨mayT (m_is ms) (bi (okF (m_is ms) (m_now ms) (nI f9))) 1, m_is ms, m_um ms, m_bd ms, m_pc ms, m_pa ms, m_sz ms, m_cu ms, m_st ms, m_tk ms, m_to ms, nI (((txF (m_now ms) f9 i59) ++ [b8 43]) ++ numI (nI i59)).length, m_now ms, m_asd ms, m_und ms, m_sav ms, m_isv ms, m_buf ms, m_grp ms, pgA (m_pag ms) (((txF (m_now ms) f9 i59) ++ [b8 43]) ++ numI (nI i59))⟩ : MM))) σ0 by rw [txF_s, if_pos c2] <;> rfl]
        exact ih59 trivial
      · skip
        have c2 := bi_eq0.mp c2
        refine A_goto (tgt := 98) dX2_writeFlag_84 (by decide) ?_
        refine A_iinc (v := nI (i59 + 1)) dX2_writeFlag_98 rfl (nI_inc _ _) (Nat.le_of_ble_eq_true rfl) ?_
        refine A_goto (tgt := 59) dX2_writeFlag_101 (by decide) ?_
        refine A_sub (L' := [(0, .ref b9), (1, .int (nI f9)), (2, .int (nI (i59 + 1)))]) ⟨rfl, rfl, rfl, trivial⟩ ?_
        rw [show mc b9 (⟨mayT (m_is ms) (bi (okF (m_is ms) (m_now ms) (nI f9))) 1, m_is ms, m_um ms, m_bd ms, m_pc ms, m_pa ms, m_sz ms, m_cu ms, m_st ms, m_tk ms, m_to ms, nI (txF (m_now ms) f9 i59).length, m_now ms, m_asd ms, m_und ms, m_sav ms, m_isv ms, m_buf ms, m_grp ms, pgA (m_pag ms) (txF (m_now ms) f9 i59)⟩ : MM) σ0 = mc b9 (s_ps (nI (txF (m_now ms) f9 (i59 + 1)).length) (s_pag (pgA (m_pag ms) (txF (m_now ms) f9 (i59 + 1))) (⟨mayT (m_is ms) (bi (okF (m_is ms) (m_now ms) (nI f9))) 1, m_is ms, m_um ms, m_bd ms, m_pc ms, m_pa ms, m_sz ms, m_cu ms, m_st ms, m_tk ms, m_to ms, nI (txF (m_now ms) f9 i59).length, m_now ms, m_asd ms, m_und ms, m_sav ms, m_isv ms, m_buf ms, m_grp ms, pgA (m_pag ms) (txF (m_now ms) f9 i59)⟩ : MM))) σ0 by rw [txF_s, if_neg c2] <;> rfl]
        exact ih59 trivial
    · skip
      refine A_iload_n (i := 2) dX2_writeFlag_59 rfl rfl ?_
      refine A_aload_n (i := 0) dX2_writeFlag_60 rfl rfl ?_
      refine M_get 1 (v := .ref (b9 + 1)) (Nat.le_of_ble_eq_true rfl) q2230 rfl dX2_writeFlag_61 ?_
      refine A_bipush (v := 6) dX2_writeFlag_64 (by decide) ?_
      refine M_ald1 (n := 6) (v := m_now ms 6) (rfl) (by decide) (rfl) dX2_writeFlag_66 ?_
      refine A_icmp_ge_t (tgt := 104) dX2_writeFlag_67 (by decide) (br_ge h1.1.1) ?_
      refine A_aload_n (i := 0) dX2_writeFlag_104 rfl rfl ?_
      refine M_get 19 (v := .int (nI (txF (m_now ms) f9 (nC (m_now ms))).length)) (Nat.le_of_ble_eq_true rfl) q2248 rfl dX2_writeFlag_105 ?_
      exact A_iret dX2_writeFlag_108 rfl ⟨by rw [gd, if_pos c1], by simp only [gq_t c1] <;> rfl⟩
  · skip
    have c1 := bi_eq0.mp c1
    refine A_iconst (v := 0) dX2_writeFlag_8 (by decide) ?_
    exact A_iret dX2_writeFlag_9 rfl ⟨by rw [gd, if_neg c1], by simp only [gq_f c1]⟩
theorem ne_len {l : List Int32} (h : ¬ nI l.length = 0) : ¬ l.length = 0 := fun e => h (by rw [e]; decide)
theorem eq_len {l : List Int32} (hl : l.length < 1000) (h : nI l.length = 0) : l.length = 0 := le0_len hl (by rw [h]; exact Int32.le_refl _)
theorem c_writeNation {l : Launch} {g : GC} (b9 : Nat) (ms : MM) (σ0 : AH) (n : Int32) (h1 : WFc (m_now ms)) : AMet l g mX2_writeNation 6 0 [.ref b9, .int n] (mc b9 ms σ0) (A_eq (some (.int (gd (mayT (m_is ms) (bi (okN (m_is ms) (m_now ms) n)) 1) (nI (orDash (txN (m_now ms) n (nF (m_now ms)))).length)))) (mc b9 (⟨mayT (m_is ms) (bi (okN (m_is ms) (m_now ms) n)) 1, m_is ms, m_um ms, m_bd ms, m_pc ms, m_pa ms, m_sz ms, m_cu ms, m_st ms, m_tk ms, m_to ms, gq (mayT (m_is ms) (bi (okN (m_is ms) (m_now ms) n)) 1) (nI (orDash (txN (m_now ms) n (nF (m_now ms)))).length) (m_ps ms), m_now ms, m_asd ms, m_und ms, m_sav ms, m_isv ms, m_buf ms, m_grp ms, gq (mayT (m_is ms) (bi (okN (m_is ms) (m_now ms) n)) 1) (pgA (m_pag ms) (orDash (txN (m_now ms) n (nF (m_now ms))))) (m_pag ms)⟩ : MM) σ0)) A_no := by
  refine A_of rfl (by decide) (Nat.le_of_ble_eq_true rfl) (L0 := [(0, .ref b9), (1, .int n)]) rfl ?_
  have hF := h1.2.2.2.2.2
  have hC := h1.1.2
  refine A_aload_n (i := 0) dX2_writeNation_0 rfl rfl ?_
  refine A_aload_n (i := 0) dX2_writeNation_1 rfl rfl ?_
  refine M_get 6 (v := .int (m_is ms)) (Nat.le_of_ble_eq_true rfl) q2235 rfl dX2_writeNation_2 ?_
  refine A_aload_n (i := 0) dX2_writeNation_5 rfl rfl ?_
  refine A_iload_n (i := 1) dX2_writeNation_6 rfl rfl ?_
  refine A_callV1E (v := some (.int (bi (okN (m_is ms) (m_now ms) n)))) (τ := mc b9 ms σ0) (c_isNation b9 ms σ0 n) tX2_isNation q2601 (mc_0 _ _ _) rfl rfl dX2_writeNation_7 (by decide) (Nat.le_of_eq (Nat.zero_add _)) (Nat.le_of_ble_eq_true rfl) ?_
  refine A_callV2E (v := some (.int (bi (mayT (m_is ms) (bi (okN (m_is ms) (m_now ms) n)) 1 = 0)))) (τ := mc b9 (⟨mayT (m_is ms) (bi (okN (m_is ms) (m_now ms) n)) 1, m_is ms, m_um ms, m_bd ms, m_pc ms, m_pa ms, m_sz ms, m_cu ms, m_st ms, m_tk ms, m_to ms, m_ps ms, m_now ms, m_asd ms, m_und ms, m_sav ms, m_isv ms, m_buf ms, m_grp ms, m_pag ms⟩ : MM) σ0) (c_mayTwo b9 ms σ0 (m_is ms) (bi (okN (m_is ms) (m_now ms) n))) tX2_mayTwo q2565 (mc_0 _ _ _) rfl rfl dX2_writeNation_10 (by decide) (Nat.le_of_eq (Nat.zero_add _)) (Nat.le_of_ble_eq_true rfl) ?_
  refine A_if_ne (tgt := 18) dX2_writeNation_13 (by decide) (fun c1 => ?_) (fun c1 => ?_)
  · skip
    have c1 := bi_ne0.mp c1
    refine A_aload_n (i := 0) dX2_writeNation_18 rfl rfl ?_
    refine A_iconst (v := 0) dX2_writeNation_19 (by decide) ?_
    refine M_putT_ps q2248 rfl dX2_writeNation_20 ?_
    refine A_st (σ' := mc b9 (⟨mayT (m_is ms) (bi (okN (m_is ms) (m_now ms) n)) 1, m_is ms, m_um ms, m_bd ms, m_pc ms, m_pa ms, m_sz ms, m_cu ms, m_st ms, m_tk ms, m_to ms, nI nl.length, m_now ms, m_asd ms, m_und ms, m_sav ms, m_isv ms, m_buf ms, m_grp ms, pgA (m_pag ms) nl⟩ : MM) σ0) (by rw [pgA_nil] <;> rfl) ?_
    refine A_iconst (v := 0) dX2_writeNation_23 (by decide) ?_
    refine A_istore_n (i := 2) dX2_writeNation_24 rfl (Nat.le_of_ble_eq_true rfl) ?_
    refine A_sub (L' := [(0, .ref b9), (1, .int n), (2, .int (nI 0))]) ⟨rfl, rfl, rfl, trivial⟩ ?_
    refine A_for (nF (m_now ms)) (fun i25 => 0) (fun i25 => [(0, .ref b9), (1, .int n), (2, .int (nI i25))]) (fun i25 => mc b9 (⟨mayT (m_is ms) (bi (okN (m_is ms) (m_now ms) n)) 1, m_is ms, m_um ms, m_bd ms, m_pc ms, m_pa ms, m_sz ms, m_cu ms, m_st ms, m_tk ms, m_to ms, nI (txN (m_now ms) n i25).length, m_now ms, m_asd ms, m_und ms, m_sav ms, m_isv ms, m_buf ms, m_grp ms, pgA (m_pag ms) (txN (m_now ms) n i25)⟩ : MM) σ0) (fun i25 => True) trivial (fun i25 hi25 hI25 ih25 => ?_) (fun hI25 => ?_)
    · skip
      refine A_iload_n (i := 2) dX2_writeNation_25 rfl rfl ?_
      refine A_aload_n (i := 0) dX2_writeNation_26 rfl rfl ?_
      refine M_get 1 (v := .ref (b9 + 1)) (Nat.le_of_ble_eq_true rfl) q2230 rfl dX2_writeNation_27 ?_
      refine A_bipush (v := 10) dX2_writeNation_30 (by decide) ?_
      refine M_ald1 (n := 10) (v := m_now ms 10) (rfl) (by decide) (rfl) dX2_writeNation_32 ?_
      refine A_icmp_ge_f (tgt := 57) dX2_writeNation_33 (by decide) (br_lt h1.2.2.2.2.1 hi25 (by omega)) ?_
      have hl := txN_le (m_now ms) n i25
      refine A_aload_n (i := 0) dX2_writeNation_36 rfl rfl ?_
      refine A_iload_n (i := 2) dX2_writeNation_37 rfl rfl ?_
      refine A_iconst (v := 0) dX2_writeNation_38 (by decide) ?_
      refine A_callV2E (v := some (.int (fl (m_now ms) i25 0))) (τ := mc b9 (⟨mayT (m_is ms) (bi (okN (m_is ms) (m_now ms) n)) 1, m_is ms, m_um ms, m_bd ms, m_pc ms, m_pa ms, m_sz ms, m_cu ms, m_st ms, m_tk ms, m_to ms, nI (txN (m_now ms) n i25).length, m_now ms, m_asd ms, m_und ms, m_sav ms, m_isv ms, m_buf ms, m_grp ms, pgA (m_pag ms) (txN (m_now ms) n i25)⟩ : MM) σ0) (c_ofFlag b9 (⟨mayT (m_is ms) (bi (okN (m_is ms) (m_now ms) n)) 1, m_is ms, m_um ms, m_bd ms, m_pc ms, m_pa ms, m_sz ms, m_cu ms, m_st ms, m_tk ms, m_to ms, nI (txN (m_now ms) n i25).length, m_now ms, m_asd ms, m_und ms, m_sav ms, m_isv ms, m_buf ms, m_grp ms, pgA (m_pag ms) (txN (m_now ms) n i25)⟩ : MM) σ0 i25 0 (by first | assumption | omega) (by first | assumption | omega)) tX2_ofFlag q2444 (mc_0 _ _ _) rfl rfl dX2_writeNation_39 (by decide) (Nat.le_of_eq (Nat.zero_add _)) (Nat.le_of_ble_eq_true rfl) ?_
      refine A_iload_n (i := 1) dX2_writeNation_42 rfl rfl ?_
      refine A_icmp_ne (tgt := 51) dX2_writeNation_43 (by decide) (fun c2 => ?_) (fun c2 => ?_)
      · skip
        refine A_iinc (v := nI (i25 + 1)) dX2_writeNation_51 rfl (nI_inc _ _) (Nat.le_of_ble_eq_true rfl) ?_
        refine A_goto (tgt := 25) dX2_writeNation_54 (by decide) ?_
        refine A_sub (L' := [(0, .ref b9), (1, .int n), (2, .int (nI (i25 + 1)))]) ⟨rfl, rfl, rfl, trivial⟩ ?_
        refine A_st (σ' := mc b9 (⟨mayT (m_is ms) (bi (okN (m_is ms) (m_now ms) n)) 1, m_is ms, m_um ms, m_bd ms, m_pc ms, m_pa ms, m_sz ms, m_cu ms, m_st ms, m_tk ms, m_to ms, nI (txN (m_now ms) n (i25 + 1)).length, m_now ms, m_asd ms, m_und ms, m_sav ms, m_isv ms, m_buf ms, m_grp ms, pgA (m_pag ms) (txN (m_now ms) n (i25 + 1))⟩ : MM) σ0) (by rw [txN_s, if_neg c2]) ?_
        exact ih25 trivial
      · skip
        refine A_aload_n (i := 0) dX2_writeNation_46 rfl rfl ?_
        refine A_iload_n (i := 2) dX2_writeNation_47 rfl rfl ?_
        refine A_callV1E (v := none) (τ := mc b9 (⟨mayT (m_is ms) (bi (okN (m_is ms) (m_now ms) n)) 1, m_is ms, m_um ms, m_bd ms, m_pc ms, m_pa ms, m_sz ms, m_cu ms, m_st ms, m_tk ms, m_to ms, nI (rsN (m_now ms) (txN (m_now ms) n i25) i25).length, m_now ms, m_asd ms, m_und ms, m_sav ms, m_isv ms, m_buf ms, m_grp ms, pgA (m_pag ms) (rsN (m_now ms) (txN (m_now ms) n i25) i25)⟩ : MM) σ0) (c_writesReason b9 (⟨mayT (m_is ms) (bi (okN (m_is ms) (m_now ms) n)) 1, m_is ms, m_um ms, m_bd ms, m_pc ms, m_pa ms, m_sz ms, m_cu ms, m_st ms, m_tk ms, m_to ms, nI (txN (m_now ms) n i25).length, m_now ms, m_asd ms, m_und ms, m_sav ms, m_isv ms, m_buf ms, m_grp ms, pgA (m_pag ms) (txN (m_now ms) n i25)⟩ : MM) σ0 (m_pag ms) (txN (m_now ms) n i25) i25 (by first | assumption | omega | (simp; omega) | (simp [nl]; omega)) (by first | assumption | omega | (simp; omega) | (simp [nl]; omega))) tX2_writesReason q2883 (mc_0 _ _ _) rfl rfl dX2_writeNation_48 (by decide) (Nat.le_of_eq (Nat.zero_add _)) (Nat.le_of_ble_eq_true rfl) ?_
        refine A_iinc (v := nI (i25 + 1)) dX2_writeNation_51 rfl (nI_inc _ _) (Nat.le_of_ble_eq_true rfl) ?_
        refine A_goto (tgt := 25) dX2_writeNation_54 (by decide) ?_
        refine A_sub (L' := [(0, .ref b9), (1, .int n), (2, .int (nI (i25 + 1)))]) ⟨rfl, rfl, rfl, trivial⟩ ?_
        refine A_st (σ' := mc b9 (⟨mayT (m_is ms) (bi (okN (m_is ms) (m_now ms) n)) 1, m_is ms, m_um ms, m_bd ms, m_pc ms, m_pa ms, m_sz ms, m_cu ms, m_st ms, m_tk ms, m_to ms, nI (txN (m_now ms) n (i25 + 1)).length, m_now ms, m_asd ms, m_und ms, m_sav ms, m_isv ms, m_buf ms, m_grp ms, pgA (m_pag ms) (txN (m_now ms) n (i25 + 1))⟩ : MM) σ0) (by rw [txN_s, if_pos c2]) ?_
        exact ih25 trivial
    · skip
      refine A_iload_n (i := 2) dX2_writeNation_25 rfl rfl ?_
      refine A_aload_n (i := 0) dX2_writeNation_26 rfl rfl ?_
      refine M_get 1 (v := .ref (b9 + 1)) (Nat.le_of_ble_eq_true rfl) q2230 rfl dX2_writeNation_27 ?_
      refine A_bipush (v := 10) dX2_writeNation_30 (by decide) ?_
      refine M_ald1 (n := 10) (v := m_now ms 10) (rfl) (by decide) (rfl) dX2_writeNation_32 ?_
      refine A_icmp_ge_t (tgt := 57) dX2_writeNation_33 (by decide) (br_ge h1.2.2.2.2.1) ?_
      have hl := txN_le (m_now ms) n (nF (m_now ms))
      refine A_aload_n (i := 0) dX2_writeNation_57 rfl rfl ?_
      refine M_get 19 (v := .int (nI (txN (m_now ms) n (nF (m_now ms))).length)) (Nat.le_of_ble_eq_true rfl) q2248 rfl dX2_writeNation_58 ?_
      refine A_if_ne (tgt := 70) dX2_writeNation_61 (by decide) (fun c3 => ?_) (fun c3 => ?_)
      · skip
        refine A_aload_n (i := 0) dX2_writeNation_70 rfl rfl ?_
        refine M_get 19 (v := .int (nI (txN (m_now ms) n (nF (m_now ms))).length)) (Nat.le_of_ble_eq_true rfl) q2248 rfl dX2_writeNation_71 ?_
        exact A_iret dX2_writeNation_74 rfl ⟨by rw [gd, if_pos c1, orDash, if_neg (ne_len c3)], by simp only [gq_t c1, orDash, if_neg (ne_len c3)] <;> rfl⟩
      · skip
        refine A_aload_n (i := 0) dX2_writeNation_64 rfl rfl ?_
        refine A_bipush (v := 45) dX2_writeNation_65 (by decide) ?_
        refine A_callV1E (v := none) (τ := mc b9 (⟨mayT (m_is ms) (bi (okN (m_is ms) (m_now ms) n)) 1, m_is ms, m_um ms, m_bd ms, m_pc ms, m_pa ms, m_sz ms, m_cu ms, m_st ms, m_tk ms, m_to ms, nI ((txN (m_now ms) n (nF (m_now ms))) ++ [b8 45]).length, m_now ms, m_asd ms, m_und ms, m_sav ms, m_isv ms, m_buf ms, m_grp ms, pgA (m_pag ms) ((txN (m_now ms) n (nF (m_now ms))) ++ [b8 45])⟩ : MM) σ0) (c_writesByte b9 (⟨mayT (m_is ms) (bi (okN (m_is ms) (m_now ms) n)) 1, m_is ms, m_um ms, m_bd ms, m_pc ms, m_pa ms, m_sz ms, m_cu ms, m_st ms, m_tk ms, m_to ms, nI (txN (m_now ms) n (nF (m_now ms))).length, m_now ms, m_asd ms, m_und ms, m_sav ms, m_isv ms, m_buf ms, m_grp ms, pgA (m_pag ms) (txN (m_now ms) n (nF (m_now ms)))⟩ : MM) σ0 (m_pag ms) (txN (m_now ms) n (nF (m_now ms))) 45 (by have e9 := eq_len (by omega) c3; omega)) tX2_writesByte q2867 (mc_0 _ _ _) rfl rfl dX2_writeNation_67 (by decide) (Nat.le_of_eq (Nat.zero_add _)) (Nat.le_of_ble_eq_true rfl) ?_
        refine A_aload_n (i := 0) dX2_writeNation_70 rfl rfl ?_
        refine M_get 19 (v := .int (nI ((txN (m_now ms) n (nF (m_now ms))) ++ [b8 45]).length)) (Nat.le_of_ble_eq_true rfl) q2248 rfl dX2_writeNation_71 ?_
        exact A_iret dX2_writeNation_74 rfl ⟨by rw [gd, if_pos c1, orDash, if_pos (eq_len (by omega) c3)], by simp only [gq_t c1, orDash, if_pos (eq_len (by omega) c3)] <;> rfl⟩
  · skip
    have c1 := bi_eq0.mp c1
    refine A_iconst (v := 0) dX2_writeNation_16 (by decide) ?_
    exact A_iret dX2_writeNation_17 rfl ⟨by rw [gd, if_neg c1], by simp only [gq_f c1]⟩
