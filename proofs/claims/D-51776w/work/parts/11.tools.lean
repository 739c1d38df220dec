/-! TOOLS: directed branches, loops; the model's state and its rows -/
section ATools
variable {l : Launch} {g : GC} {mi : MI} {d b : Nat} {Q : Option Value → AH → Prop} {X : String → Nat → AH → Prop} {pc : Nat} {L : List (Nat × Value)} {st : List Value} {σ : AH}
theorem A_if_eq_t {x : Int32} {off : Int} {tgt : Nat} (hd : decode mi.2.1 pc = .ok (.ifCond .eq off, 3)) (ht : (pc : Int) + off = (tgt : Int)) (h : x = 0) (kt : AW l g mi d b Q X (tgt) L (st) σ) : AW l g mi d b Q X (pc) L (.int x :: st) σ := A_if_eq hd ht (fun _ => kt) (fun h9 => by first | exact absurd h h9 | exact absurd h9 h)
theorem A_if_eq_f {x : Int32} {off : Int} {tgt : Nat} (hd : decode mi.2.1 pc = .ok (.ifCond .eq off, 3)) (ht : (pc : Int) + off = (tgt : Int)) (h : ¬ x = 0) (kf : AW l g mi d b Q X (pc + 3) L (st) σ) : AW l g mi d b Q X (pc) L (.int x :: st) σ := A_if_eq hd ht (fun h9 => by first | exact absurd h h9 | exact absurd h9 h) (fun _ => kf)
theorem A_if_ne_t {x : Int32} {off : Int} {tgt : Nat} (hd : decode mi.2.1 pc = .ok (.ifCond .ne off, 3)) (ht : (pc : Int) + off = (tgt : Int)) (h : ¬ x = 0) (kt : AW l g mi d b Q X (tgt) L (st) σ) : AW l g mi d b Q X (pc) L (.int x :: st) σ := A_if_ne hd ht (fun _ => kt) (fun h9 => by first | exact absurd h h9 | exact absurd h9 h)
theorem A_if_ne_f {x : Int32} {off : Int} {tgt : Nat} (hd : decode mi.2.1 pc = .ok (.ifCond .ne off, 3)) (ht : (pc : Int) + off = (tgt : Int)) (h : x = 0) (kf : AW l g mi d b Q X (pc + 3) L (st) σ) : AW l g mi d b Q X (pc) L (.int x :: st) σ := A_if_ne hd ht (fun h9 => by first | exact absurd h h9 | exact absurd h9 h) (fun _ => kf)
theorem A_if_lt_t {x : Int32} {off : Int} {tgt : Nat} (hd : decode mi.2.1 pc = .ok (.ifCond .lt off, 3)) (ht : (pc : Int) + off = (tgt : Int)) (h : x < 0) (kt : AW l g mi d b Q X (tgt) L (st) σ) : AW l g mi d b Q X (pc) L (.int x :: st) σ := A_if_lt hd ht (fun _ => kt) (fun h9 => by first | exact absurd h h9 | exact absurd h9 h)
theorem A_if_lt_f {x : Int32} {off : Int} {tgt : Nat} (hd : decode mi.2.1 pc = .ok (.ifCond .lt off, 3)) (ht : (pc : Int) + off = (tgt : Int)) (h : ¬ x < 0) (kf : AW l g mi d b Q X (pc + 3) L (st) σ) : AW l g mi d b Q X (pc) L (.int x :: st) σ := A_if_lt hd ht (fun h9 => by first | exact absurd h h9 | exact absurd h9 h) (fun _ => kf)
theorem A_if_ge_t {x : Int32} {off : Int} {tgt : Nat} (hd : decode mi.2.1 pc = .ok (.ifCond .ge off, 3)) (ht : (pc : Int) + off = (tgt : Int)) (h : 0 ≤ x) (kt : AW l g mi d b Q X (tgt) L (st) σ) : AW l g mi d b Q X (pc) L (.int x :: st) σ := A_if_ge hd ht (fun _ => kt) (fun h9 => by first | exact absurd h h9 | exact absurd h9 h)
theorem A_if_ge_f {x : Int32} {off : Int} {tgt : Nat} (hd : decode mi.2.1 pc = .ok (.ifCond .ge off, 3)) (ht : (pc : Int) + off = (tgt : Int)) (h : ¬ 0 ≤ x) (kf : AW l g mi d b Q X (pc + 3) L (st) σ) : AW l g mi d b Q X (pc) L (.int x :: st) σ := A_if_ge hd ht (fun h9 => by first | exact absurd h h9 | exact absurd h9 h) (fun _ => kf)
theorem A_if_gt_t {x : Int32} {off : Int} {tgt : Nat} (hd : decode mi.2.1 pc = .ok (.ifCond .gt off, 3)) (ht : (pc : Int) + off = (tgt : Int)) (h : 0 < x) (kt : AW l g mi d b Q X (tgt) L (st) σ) : AW l g mi d b Q X (pc) L (.int x :: st) σ := A_if_gt hd ht (fun _ => kt) (fun h9 => by first | exact absurd h h9 | exact absurd h9 h)
theorem A_if_gt_f {x : Int32} {off : Int} {tgt : Nat} (hd : decode mi.2.1 pc = .ok (.ifCond .gt off, 3)) (ht : (pc : Int) + off = (tgt : Int)) (h : ¬ 0 < x) (kf : AW l g mi d b Q X (pc + 3) L (st) σ) : AW l g mi d b Q X (pc) L (.int x :: st) σ := A_if_gt hd ht (fun h9 => by first | exact absurd h h9 | exact absurd h9 h) (fun _ => kf)
theorem A_if_le_t {x : Int32} {off : Int} {tgt : Nat} (hd : decode mi.2.1 pc = .ok (.ifCond .le off, 3)) (ht : (pc : Int) + off = (tgt : Int)) (h : x ≤ 0) (kt : AW l g mi d b Q X (tgt) L (st) σ) : AW l g mi d b Q X (pc) L (.int x :: st) σ := A_if_le hd ht (fun _ => kt) (fun h9 => by first | exact absurd h h9 | exact absurd h9 h)
theorem A_if_le_f {x : Int32} {off : Int} {tgt : Nat} (hd : decode mi.2.1 pc = .ok (.ifCond .le off, 3)) (ht : (pc : Int) + off = (tgt : Int)) (h : ¬ x ≤ 0) (kf : AW l g mi d b Q X (pc + 3) L (st) σ) : AW l g mi d b Q X (pc) L (.int x :: st) σ := A_if_le hd ht (fun h9 => by first | exact absurd h h9 | exact absurd h9 h) (fun _ => kf)
theorem A_icmp_eq_t {x y : Int32} {off : Int} {tgt : Nat} (hd : decode mi.2.1 pc = .ok (.if_icmp .eq off, 3)) (ht : (pc : Int) + off = (tgt : Int)) (h : x = y) (kt : AW l g mi d b Q X (tgt) L (st) σ) : AW l g mi d b Q X (pc) L (.int y :: .int x :: st) σ := A_icmp_eq hd ht (fun _ => kt) (fun h9 => by first | exact absurd h h9 | exact absurd h9 h)
theorem A_icmp_eq_f {x y : Int32} {off : Int} {tgt : Nat} (hd : decode mi.2.1 pc = .ok (.if_icmp .eq off, 3)) (ht : (pc : Int) + off = (tgt : Int)) (h : ¬ x = y) (kf : AW l g mi d b Q X (pc + 3) L (st) σ) : AW l g mi d b Q X (pc) L (.int y :: .int x :: st) σ := A_icmp_eq hd ht (fun h9 => by first | exact absurd h h9 | exact absurd h9 h) (fun _ => kf)
theorem A_icmp_ne_t {x y : Int32} {off : Int} {tgt : Nat} (hd : decode mi.2.1 pc = .ok (.if_icmp .ne off, 3)) (ht : (pc : Int) + off = (tgt : Int)) (h : ¬ x = y) (kt : AW l g mi d b Q X (tgt) L (st) σ) : AW l g mi d b Q X (pc) L (.int y :: .int x :: st) σ := A_icmp_ne hd ht (fun _ => kt) (fun h9 => by first | exact absurd h h9 | exact absurd h9 h)
theorem A_icmp_ne_f {x y : Int32} {off : Int} {tgt : Nat} (hd : decode mi.2.1 pc = .ok (.if_icmp .ne off, 3)) (ht : (pc : Int) + off = (tgt : Int)) (h : x = y) (kf : AW l g mi d b Q X (pc + 3) L (st) σ) : AW l g mi d b Q X (pc) L (.int y :: .int x :: st) σ := A_icmp_ne hd ht (fun h9 => by first | exact absurd h h9 | exact absurd h9 h) (fun _ => kf)
theorem A_icmp_lt_t {x y : Int32} {off : Int} {tgt : Nat} (hd : decode mi.2.1 pc = .ok (.if_icmp .lt off, 3)) (ht : (pc : Int) + off = (tgt : Int)) (h : x < y) (kt : AW l g mi d b Q X (tgt) L (st) σ) : AW l g mi d b Q X (pc) L (.int y :: .int x :: st) σ := A_icmp_lt hd ht (fun _ => kt) (fun h9 => by first | exact absurd h h9 | exact absurd h9 h)
theorem A_icmp_lt_f {x y : Int32} {off : Int} {tgt : Nat} (hd : decode mi.2.1 pc = .ok (.if_icmp .lt off, 3)) (ht : (pc : Int) + off = (tgt : Int)) (h : ¬ x < y) (kf : AW l g mi d b Q X (pc + 3) L (st) σ) : AW l g mi d b Q X (pc) L (.int y :: .int x :: st) σ := A_icmp_lt hd ht (fun h9 => by first | exact absurd h h9 | exact absurd h9 h) (fun _ => kf)
theorem A_icmp_ge_t {x y : Int32} {off : Int} {tgt : Nat} (hd : decode mi.2.1 pc = .ok (.if_icmp .ge off, 3)) (ht : (pc : Int) + off = (tgt : Int)) (h : y ≤ x) (kt : AW l g mi d b Q X (tgt) L (st) σ) : AW l g mi d b Q X (pc) L (.int y :: .int x :: st) σ := A_icmp_ge hd ht (fun _ => kt) (fun h9 => by first | exact absurd h h9 | exact absurd h9 h)
theorem A_icmp_ge_f {x y : Int32} {off : Int} {tgt : Nat} (hd : decode mi.2.1 pc = .ok (.if_icmp .ge off, 3)) (ht : (pc : Int) + off = (tgt : Int)) (h : ¬ y ≤ x) (kf : AW l g mi d b Q X (pc + 3) L (st) σ) : AW l g mi d b Q X (pc) L (.int y :: .int x :: st) σ := A_icmp_ge hd ht (fun h9 => by first | exact absurd h h9 | exact absurd h9 h) (fun _ => kf)
theorem A_icmp_gt_t {x y : Int32} {off : Int} {tgt : Nat} (hd : decode mi.2.1 pc = .ok (.if_icmp .gt off, 3)) (ht : (pc : Int) + off = (tgt : Int)) (h : y < x) (kt : AW l g mi d b Q X (tgt) L (st) σ) : AW l g mi d b Q X (pc) L (.int y :: .int x :: st) σ := A_icmp_gt hd ht (fun _ => kt) (fun h9 => by first | exact absurd h h9 | exact absurd h9 h)
theorem A_icmp_gt_f {x y : Int32} {off : Int} {tgt : Nat} (hd : decode mi.2.1 pc = .ok (.if_icmp .gt off, 3)) (ht : (pc : Int) + off = (tgt : Int)) (h : ¬ y < x) (kf : AW l g mi d b Q X (pc + 3) L (st) σ) : AW l g mi d b Q X (pc) L (.int y :: .int x :: st) σ := A_icmp_gt hd ht (fun h9 => by first | exact absurd h h9 | exact absurd h9 h) (fun _ => kf)
theorem A_icmp_le_t {x y : Int32} {off : Int} {tgt : Nat} (hd : decode mi.2.1 pc = .ok (.if_icmp .le off, 3)) (ht : (pc : Int) + off = (tgt : Int)) (h : x ≤ y) (kt : AW l g mi d b Q X (tgt) L (st) σ) : AW l g mi d b Q X (pc) L (.int y :: .int x :: st) σ := A_icmp_le hd ht (fun _ => kt) (fun h9 => by first | exact absurd h h9 | exact absurd h9 h)
theorem A_icmp_le_f {x y : Int32} {off : Int} {tgt : Nat} (hd : decode mi.2.1 pc = .ok (.if_icmp .le off, 3)) (ht : (pc : Int) + off = (tgt : Int)) (h : ¬ x ≤ y) (kf : AW l g mi d b Q X (pc + 3) L (st) σ) : AW l g mi d b Q X (pc) L (.int y :: .int x :: st) σ := A_icmp_le hd ht (fun h9 => by first | exact absurd h h9 | exact absurd h9 h) (fun _ => kf)
theorem A_int {x w : Int32} (h : x = w) (kk : AW l g mi d b Q X pc L (.int w :: st) σ) : AW l g mi d b Q X pc L (.int x :: st) σ := by rw [h]; exact kk
theorem A_for (n : Nat) (bs : Nat → Nat) (Ls : Nat → List (Nat × Value)) (σs : Nat → AH) (I : Nat → Prop) (h0 : I 0) (hs : ∀ i, i < n → I i → (I (i + 1) → AW l g mi d (bs (i + 1)) Q X pc (Ls (i + 1)) [] (σs (i + 1))) → AW l g mi d (bs i) Q X pc (Ls i) [] (σs i)) (hx : I n → AW l g mi d (bs n) Q X pc (Ls n) [] (σs n)) : AW l g mi d (bs 0) Q X pc (Ls 0) [] (σs 0) := by
  have h : ∀ k i, i + k = n → I i → AW l g mi d (bs i) Q X pc (Ls i) [] (σs i) := by
    intro k
    induction k with
    | zero =>
      intro i e hI
      have e' : i = n := by omega
      subst e'
      exact hx hI
    | succ k ih =>
      intro i e hI
      exact hs i (by omega) hI (fun hI' => ih (i + 1) (by omega) hI')
  exact h n 0 (by omega) h0
end ATools
theorem nI_inc (a n : Nat) : nI a + Int32.ofInt n = nI (a + n) := by
  have h : Int32.ofInt n = nI n := by simp [nI, Int32.ofInt_eq_ofNat]
  rw [h, nI_add]
/-- 1 or 0 -/
def bi (p : Prop) [Decidable p] : Int32 := if p then 1 else 0
theorem nar_bi (p : Prop) [Decidable p] : narrow .boolean (.int (bi p)) = .int (bi p) := by
  unfold bi
  split <;> rfl
theorem bi_t {p : Prop} [Decidable p] (h : p) : bi p = 1 := if_pos h
theorem bi_f {p : Prop} [Decidable p] (h : ¬ p) : bi p = 0 := if_neg h
theorem bi_eq0 {p : Prop} [Decidable p] : bi p = 0 ↔ ¬ p := by
  unfold bi
  split <;> simp_all
theorem bi_ne0 {p : Prop} [Decidable p] : ¬ bi p = 0 ↔ p := by
  unfold bi
  split <;> simp_all
theorem bi_if {p : Prop} [Decidable p] : (if bi p = 0 then (0 : Int32) else 1) = bi p := by
  unfold bi
  split <;> simp_all
theorem bi_01 (p : Prop) [Decidable p] : bi p = 0 ∨ bi p = 1 := by
  unfold bi
  split
  · exact Or.inr rfl
  · exact Or.inl rfl
theorem bi_congr {p q : Prop} [Decidable p] [Decidable q] (h : p ↔ q) : bi p = bi q := by
  unfold bi
  by_cases hp : p
  · rw [if_pos hp, if_pos (h.mp hp)]
  · rw [if_neg hp, if_neg (fun hq => hp (h.mpr hq))]
/-- a loop's test: nI i against a count -/
theorem br_lt {x : Int32} {n i : Nat} (h : x = nI n) (hi : i < n) (hn : n < 2 ^ 31) : ¬ x ≤ nI i := by rw [h]; exact nI_ge hi hn
theorem br_ge {x : Int32} {n : Nat} (h : x = nI n) : x ≤ nI n := by rw [h]; exact Int32.le_refl _
abbrev AF : Type := Nat → Int32
abbrev MA : Type := AF × AF × AF × AF × AF × AF × AF × AF
/-- the model: its numbers, its arrays -/
abbrev MM : Type := Int32 × Int32 × Int32 × Int32 × Int32 × Int32 × Int32 × Int32 × Int32 × Int32 × Int32 × Int32 × MA
def m_thr (ms : MM) : Int32 := ms.1
def m_is (ms : MM) : Int32 := ms.2.1
def m_um (ms : MM) : Int32 := ms.2.2.1
def m_bd (ms : MM) : Int32 := ms.2.2.2.1
def m_pc (ms : MM) : Int32 := ms.2.2.2.2.1
def m_pa (ms : MM) : Int32 := ms.2.2.2.2.2.1
def m_sz (ms : MM) : Int32 := ms.2.2.2.2.2.2.1
def m_cu (ms : MM) : Int32 := ms.2.2.2.2.2.2.2.1
def m_st (ms : MM) : Int32 := ms.2.2.2.2.2.2.2.2.1
def m_tk (ms : MM) : Int32 := ms.2.2.2.2.2.2.2.2.2.1
def m_to (ms : MM) : Int32 := ms.2.2.2.2.2.2.2.2.2.2.1
def m_ps (ms : MM) : Int32 := ms.2.2.2.2.2.2.2.2.2.2.2.1
def m_now (ms : MM) : AF := ms.2.2.2.2.2.2.2.2.2.2.2.2.1
def m_asd (ms : MM) : AF := ms.2.2.2.2.2.2.2.2.2.2.2.2.2.1
def m_und (ms : MM) : AF := ms.2.2.2.2.2.2.2.2.2.2.2.2.2.2.1
def m_sav (ms : MM) : AF := ms.2.2.2.2.2.2.2.2.2.2.2.2.2.2.2.1
def m_isv (ms : MM) : AF := ms.2.2.2.2.2.2.2.2.2.2.2.2.2.2.2.2.1
def m_buf (ms : MM) : AF := ms.2.2.2.2.2.2.2.2.2.2.2.2.2.2.2.2.2.1
def m_grp (ms : MM) : AF := ms.2.2.2.2.2.2.2.2.2.2.2.2.2.2.2.2.2.2.1
def m_pag (ms : MM) : AF := ms.2.2.2.2.2.2.2.2.2.2.2.2.2.2.2.2.2.2.2
def s_thr (v : Int32) (ms : MM) : MM := ⟨v, m_is ms, m_um ms, m_bd ms, m_pc ms, m_pa ms, m_sz ms, m_cu ms, m_st ms, m_tk ms, m_to ms, m_ps ms, m_now ms, m_asd ms, m_und ms, m_sav ms, m_isv ms, m_buf ms, m_grp ms, m_pag ms⟩
def s_is (v : Int32) (ms : MM) : MM := ⟨m_thr ms, v, m_um ms, m_bd ms, m_pc ms, m_pa ms, m_sz ms, m_cu ms, m_st ms, m_tk ms, m_to ms, m_ps ms, m_now ms, m_asd ms, m_und ms, m_sav ms, m_isv ms, m_buf ms, m_grp ms, m_pag ms⟩
def s_um (v : Int32) (ms : MM) : MM := ⟨m_thr ms, m_is ms, v, m_bd ms, m_pc ms, m_pa ms, m_sz ms, m_cu ms, m_st ms, m_tk ms, m_to ms, m_ps ms, m_now ms, m_asd ms, m_und ms, m_sav ms, m_isv ms, m_buf ms, m_grp ms, m_pag ms⟩
def s_bd (v : Int32) (ms : MM) : MM := ⟨m_thr ms, m_is ms, m_um ms, v, m_pc ms, m_pa ms, m_sz ms, m_cu ms, m_st ms, m_tk ms, m_to ms, m_ps ms, m_now ms, m_asd ms, m_und ms, m_sav ms, m_isv ms, m_buf ms, m_grp ms, m_pag ms⟩
def s_pc (v : Int32) (ms : MM) : MM := ⟨m_thr ms, m_is ms, m_um ms, m_bd ms, v, m_pa ms, m_sz ms, m_cu ms, m_st ms, m_tk ms, m_to ms, m_ps ms, m_now ms, m_asd ms, m_und ms, m_sav ms, m_isv ms, m_buf ms, m_grp ms, m_pag ms⟩
def s_pa (v : Int32) (ms : MM) : MM := ⟨m_thr ms, m_is ms, m_um ms, m_bd ms, m_pc ms, v, m_sz ms, m_cu ms, m_st ms, m_tk ms, m_to ms, m_ps ms, m_now ms, m_asd ms, m_und ms, m_sav ms, m_isv ms, m_buf ms, m_grp ms, m_pag ms⟩
def s_sz (v : Int32) (ms : MM) : MM := ⟨m_thr ms, m_is ms, m_um ms, m_bd ms, m_pc ms, m_pa ms, v, m_cu ms, m_st ms, m_tk ms, m_to ms, m_ps ms, m_now ms, m_asd ms, m_und ms, m_sav ms, m_isv ms, m_buf ms, m_grp ms, m_pag ms⟩
def s_cu (v : Int32) (ms : MM) : MM := ⟨m_thr ms, m_is ms, m_um ms, m_bd ms, m_pc ms, m_pa ms, m_sz ms, v, m_st ms, m_tk ms, m_to ms, m_ps ms, m_now ms, m_asd ms, m_und ms, m_sav ms, m_isv ms, m_buf ms, m_grp ms, m_pag ms⟩
def s_st (v : Int32) (ms : MM) : MM := ⟨m_thr ms, m_is ms, m_um ms, m_bd ms, m_pc ms, m_pa ms, m_sz ms, m_cu ms, v, m_tk ms, m_to ms, m_ps ms, m_now ms, m_asd ms, m_und ms, m_sav ms, m_isv ms, m_buf ms, m_grp ms, m_pag ms⟩
def s_tk (v : Int32) (ms : MM) : MM := ⟨m_thr ms, m_is ms, m_um ms, m_bd ms, m_pc ms, m_pa ms, m_sz ms, m_cu ms, m_st ms, v, m_to ms, m_ps ms, m_now ms, m_asd ms, m_und ms, m_sav ms, m_isv ms, m_buf ms, m_grp ms, m_pag ms⟩
def s_to (v : Int32) (ms : MM) : MM := ⟨m_thr ms, m_is ms, m_um ms, m_bd ms, m_pc ms, m_pa ms, m_sz ms, m_cu ms, m_st ms, m_tk ms, v, m_ps ms, m_now ms, m_asd ms, m_und ms, m_sav ms, m_isv ms, m_buf ms, m_grp ms, m_pag ms⟩
def s_ps (v : Int32) (ms : MM) : MM := ⟨m_thr ms, m_is ms, m_um ms, m_bd ms, m_pc ms, m_pa ms, m_sz ms, m_cu ms, m_st ms, m_tk ms, m_to ms, v, m_now ms, m_asd ms, m_und ms, m_sav ms, m_isv ms, m_buf ms, m_grp ms, m_pag ms⟩
def s_now (v : AF) (ms : MM) : MM := ⟨m_thr ms, m_is ms, m_um ms, m_bd ms, m_pc ms, m_pa ms, m_sz ms, m_cu ms, m_st ms, m_tk ms, m_to ms, m_ps ms, v, m_asd ms, m_und ms, m_sav ms, m_isv ms, m_buf ms, m_grp ms, m_pag ms⟩
def s_asd (v : AF) (ms : MM) : MM := ⟨m_thr ms, m_is ms, m_um ms, m_bd ms, m_pc ms, m_pa ms, m_sz ms, m_cu ms, m_st ms, m_tk ms, m_to ms, m_ps ms, m_now ms, v, m_und ms, m_sav ms, m_isv ms, m_buf ms, m_grp ms, m_pag ms⟩
def s_und (v : AF) (ms : MM) : MM := ⟨m_thr ms, m_is ms, m_um ms, m_bd ms, m_pc ms, m_pa ms, m_sz ms, m_cu ms, m_st ms, m_tk ms, m_to ms, m_ps ms, m_now ms, m_asd ms, v, m_sav ms, m_isv ms, m_buf ms, m_grp ms, m_pag ms⟩
def s_sav (v : AF) (ms : MM) : MM := ⟨m_thr ms, m_is ms, m_um ms, m_bd ms, m_pc ms, m_pa ms, m_sz ms, m_cu ms, m_st ms, m_tk ms, m_to ms, m_ps ms, m_now ms, m_asd ms, m_und ms, v, m_isv ms, m_buf ms, m_grp ms, m_pag ms⟩
def s_isv (v : AF) (ms : MM) : MM := ⟨m_thr ms, m_is ms, m_um ms, m_bd ms, m_pc ms, m_pa ms, m_sz ms, m_cu ms, m_st ms, m_tk ms, m_to ms, m_ps ms, m_now ms, m_asd ms, m_und ms, m_sav ms, v, m_buf ms, m_grp ms, m_pag ms⟩
def s_buf (v : AF) (ms : MM) : MM := ⟨m_thr ms, m_is ms, m_um ms, m_bd ms, m_pc ms, m_pa ms, m_sz ms, m_cu ms, m_st ms, m_tk ms, m_to ms, m_ps ms, m_now ms, m_asd ms, m_und ms, m_sav ms, m_isv ms, v, m_grp ms, m_pag ms⟩
def s_grp (v : AF) (ms : MM) : MM := ⟨m_thr ms, m_is ms, m_um ms, m_bd ms, m_pc ms, m_pa ms, m_sz ms, m_cu ms, m_st ms, m_tk ms, m_to ms, m_ps ms, m_now ms, m_asd ms, m_und ms, m_sav ms, m_isv ms, m_buf ms, v, m_pag ms⟩
def s_pag (v : AF) (ms : MM) : MM := ⟨m_thr ms, m_is ms, m_um ms, m_bd ms, m_pc ms, m_pa ms, m_sz ms, m_cu ms, m_st ms, m_tk ms, m_to ms, m_ps ms, m_now ms, m_asd ms, m_und ms, m_sav ms, m_isv ms, m_buf ms, m_grp ms, v⟩
def mfs (b9 : Nat) (ms : MM) : List Value := [.int (m_thr ms), .ref (b9 + 1), .ref (b9 + 2), .ref (b9 + 3), .ref (b9 + 4), .ref (b9 + 5), .int (m_is ms), .int (m_um ms), .ref (b9 + 6), .int (m_bd ms), .int (m_pc ms), .int (m_pa ms), .int (m_sz ms), .int (m_cu ms), .int (m_st ms), .int (m_tk ms), .int (m_to ms), .ref (b9 + 7), .ref (b9 + 8), .int (m_ps ms)]
def m_ars (ms : MM) : MA := ⟨m_now ms, m_asd ms, m_und ms, m_sav ms, m_isv ms, m_buf ms, m_grp ms, m_pag ms⟩
/-- the model's cells from b9 on, over the rest σ0 -/
def mc (b9 : Nat) (ms : MM) (σ0 : AH) : AH := (fun q => if q = b9 then some (.inr (.inl (1, mfs b9 ms))) else if q = b9 + 1 then some (.inl (.int, (173, .inl (m_now ms)))) else if q = b9 + 2 then some (.inl (.int, (173, .inl (m_asd ms)))) else if q = b9 + 3 then some (.inl (.int, (1384, .inl (m_und ms)))) else if q = b9 + 4 then some (.inl (.int, (346, .inl (m_sav ms)))) else if q = b9 + 5 then some (.inl (.boolean, (2, .inl (m_isv ms)))) else if q = b9 + 6 then some (.inl (.byte, (500, .inl (m_buf ms)))) else if q = b9 + 7 then some (.inl (.int, (12, .inl (m_grp ms)))) else if q = b9 + 8 then some (.inl (.byte, (60, .inl (m_pag ms)))) else σ0.1 q, σ0.2)
theorem mc_0 (b9 : Nat) (ms : MM) (σ0 : AH) : (mc b9 ms σ0).1 b9 = some (.inr (.inl (1, mfs b9 ms))) := by simp [mc]
theorem mc_1 (b9 : Nat) (ms : MM) (σ0 : AH) : (mc b9 ms σ0).1 (b9 + 1) = some (.inl (.int, (173, .inl (m_now ms)))) := by simp [mc]
theorem mc_2 (b9 : Nat) (ms : MM) (σ0 : AH) : (mc b9 ms σ0).1 (b9 + 2) = some (.inl (.int, (173, .inl (m_asd ms)))) := by simp [mc]
theorem mc_3 (b9 : Nat) (ms : MM) (σ0 : AH) : (mc b9 ms σ0).1 (b9 + 3) = some (.inl (.int, (1384, .inl (m_und ms)))) := by simp [mc]
theorem mc_4 (b9 : Nat) (ms : MM) (σ0 : AH) : (mc b9 ms σ0).1 (b9 + 4) = some (.inl (.int, (346, .inl (m_sav ms)))) := by simp [mc]
theorem mc_5 (b9 : Nat) (ms : MM) (σ0 : AH) : (mc b9 ms σ0).1 (b9 + 5) = some (.inl (.boolean, (2, .inl (m_isv ms)))) := by simp [mc]
theorem mc_6 (b9 : Nat) (ms : MM) (σ0 : AH) : (mc b9 ms σ0).1 (b9 + 6) = some (.inl (.byte, (500, .inl (m_buf ms)))) := by simp [mc]
theorem mc_7 (b9 : Nat) (ms : MM) (σ0 : AH) : (mc b9 ms σ0).1 (b9 + 7) = some (.inl (.int, (12, .inl (m_grp ms)))) := by simp [mc]
theorem mc_8 (b9 : Nat) (ms : MM) (σ0 : AH) : (mc b9 ms σ0).1 (b9 + 8) = some (.inl (.byte, (60, .inl (m_pag ms)))) := by simp [mc]
theorem mc_out {b9 : Nat} {ms : MM} {σ0 : AH} {q : Nat} (h : q < b9 ∨ b9 + 9 ≤ q) : (mc b9 ms σ0).1 q = σ0.1 q := by
  unfold mc
  dsimp only
  repeat rw [if_neg (by omega)]
theorem mc_put0 {b9 : Nat} {ms ms' : MM} {σ0 : AH} (h : m_ars ms' = m_ars ms) : h_put (mc b9 ms σ0) b9 (.inr (.inl (1, mfs b9 ms'))) = mc b9 ms' σ0 := by
  unfold m_ars at h
  simp only [Prod.mk.injEq] at h
  obtain ⟨h1, h2, h3, h4, h5, h6, h7, h8⟩ := h
  unfold h_put mc
  refine Prod.ext (funext fun q => ?_) rfl
  dsimp only
  rw [h1, h2, h3, h4, h5, h6, h7, h8]
  by_cases hq : q = b9 <;> simp [hq]
theorem mc_put1 {b9 : Nat} {ms : MM} {σ0 : AH} (f : AF) : h_put (mc b9 ms σ0) (b9 + 1) (.inl (.int, (173, .inl f))) = mc b9 (s_now f ms) σ0 := by
  unfold h_put mc
  refine Prod.ext (funext fun q => ?_) rfl
  dsimp only
  by_cases hq : q = b9 + 1
  · subst hq
    simp [s_now, m_now]
  · rw [if_neg hq, if_neg hq, if_neg hq]
    rfl
theorem mc_put2 {b9 : Nat} {ms : MM} {σ0 : AH} (f : AF) : h_put (mc b9 ms σ0) (b9 + 2) (.inl (.int, (173, .inl f))) = mc b9 (s_asd f ms) σ0 := by
  unfold h_put mc
  refine Prod.ext (funext fun q => ?_) rfl
  dsimp only
  by_cases hq : q = b9 + 2
  · subst hq
    simp [s_asd, m_asd]
  · rw [if_neg hq, if_neg hq, if_neg hq]
    rfl
theorem mc_put3 {b9 : Nat} {ms : MM} {σ0 : AH} (f : AF) : h_put (mc b9 ms σ0) (b9 + 3) (.inl (.int, (1384, .inl f))) = mc b9 (s_und f ms) σ0 := by
  unfold h_put mc
  refine Prod.ext (funext fun q => ?_) rfl
  dsimp only
  by_cases hq : q = b9 + 3
  · subst hq
    simp [s_und, m_und]
  · rw [if_neg hq, if_neg hq, if_neg hq]
    rfl
theorem mc_put4 {b9 : Nat} {ms : MM} {σ0 : AH} (f : AF) : h_put (mc b9 ms σ0) (b9 + 4) (.inl (.int, (346, .inl f))) = mc b9 (s_sav f ms) σ0 := by
  unfold h_put mc
  refine Prod.ext (funext fun q => ?_) rfl
  dsimp only
  by_cases hq : q = b9 + 4
  · subst hq
    simp [s_sav, m_sav]
  · rw [if_neg hq, if_neg hq, if_neg hq]
    rfl
theorem mc_put5 {b9 : Nat} {ms : MM} {σ0 : AH} (f : AF) : h_put (mc b9 ms σ0) (b9 + 5) (.inl (.boolean, (2, .inl f))) = mc b9 (s_isv f ms) σ0 := by
  unfold h_put mc
  refine Prod.ext (funext fun q => ?_) rfl
  dsimp only
  by_cases hq : q = b9 + 5
  · subst hq
    simp [s_isv, m_isv]
  · rw [if_neg hq, if_neg hq, if_neg hq]
    rfl
theorem mc_put6 {b9 : Nat} {ms : MM} {σ0 : AH} (f : AF) : h_put (mc b9 ms σ0) (b9 + 6) (.inl (.byte, (500, .inl f))) = mc b9 (s_buf f ms) σ0 := by
  unfold h_put mc
  refine Prod.ext (funext fun q => ?_) rfl
  dsimp only
  by_cases hq : q = b9 + 6
  · subst hq
    simp [s_buf, m_buf]
  · rw [if_neg hq, if_neg hq, if_neg hq]
    rfl
theorem mc_put7 {b9 : Nat} {ms : MM} {σ0 : AH} (f : AF) : h_put (mc b9 ms σ0) (b9 + 7) (.inl (.int, (12, .inl f))) = mc b9 (s_grp f ms) σ0 := by
  unfold h_put mc
  refine Prod.ext (funext fun q => ?_) rfl
  dsimp only
  by_cases hq : q = b9 + 7
  · subst hq
    simp [s_grp, m_grp]
  · rw [if_neg hq, if_neg hq, if_neg hq]
    rfl
theorem mc_put8 {b9 : Nat} {ms : MM} {σ0 : AH} (f : AF) : h_put (mc b9 ms σ0) (b9 + 8) (.inl (.byte, (60, .inl f))) = mc b9 (s_pag f ms) σ0 := by
  unfold h_put mc
  refine Prod.ext (funext fun q => ?_) rfl
  dsimp only
  by_cases hq : q = b9 + 8
  · subst hq
    simp [s_pag, m_pag]
  · rw [if_neg hq, if_neg hq, if_neg hq]
    rfl
section AModel
variable {l : Launch} {g : GC} {mi : MI} {d b : Nat} {Q : Option Value → AH → Prop} {X : String → Nat → AH → Prop} {pc : Nat} {L : List (Nat × Value)} {st : List Value} {b9 : Nat} {ms : MM} {σ0 : AH}
theorem M_get (fk : Nat) {v : Value} (hk : fk < 20) {ix : Nat} (hq : Cond.fieldLink mi.1.cls ix (TX2 fk).1 (TX2 fk).2.1 (TX2 fk).2.2.1 ∈ lw_all) (hv : (mfs b9 ms)[fk]? = some v) (hd : decode mi.2.1 pc = .ok (.getfield ix, 3)) (kk : AW l g mi d b Q X (pc + 3) L (v :: st) (mc b9 ms σ0)) : AW l g mi d b Q X pc L (.ref b9 :: st) (mc b9 ms σ0) := A_getf cb_X2 (mc_0 _ _ _) fk hk hq rfl hv hd kk
theorem M_put (fk : Nat) {x : Int32} (ms' : MM) (hk : fk < 20) {ix : Nat} (hq : Cond.fieldLink mi.1.cls ix (TX2 fk).1 (TX2 fk).2.1 (TX2 fk).2.2.1 ∈ lw_all) (hn : narrow (tyX2 fk) (.int x) = .int x) (hfin : (TX2 fk).2.2.2 = false) (hfit : fits (tyX2 fk) (.int x) = true) (hset : (mfs b9 ms).set fk (.int x) = mfs b9 ms') (ha : m_ars ms' = m_ars ms) (hd : decode mi.2.1 pc = .ok (.putfield ix, 3)) (kk : AW l g mi d b Q X (pc + 3) L st (mc b9 ms' σ0)) : AW l g mi d b Q X pc L (.int x :: .ref b9 :: st) (mc b9 ms σ0) := by
  refine A_putf cb_X2 (mc_0 _ _ _) fk hk hq rfl hfin hn hfit (by simp [mfs]; omega) hd ?_
  rw [hset, mc_put0 ha]
  exact kk
theorem M_ald1 {i : Int32} {n : Nat} {v : Int32} (hi : i = nI n) (hn : n < 173) (hv : m_now ms n = v) (hd : decode mi.2.1 pc = .ok (.iaload, 1)) (kk : AW l g mi d b Q X (pc + 1) L (.int v :: st) (mc b9 ms σ0)) : AW l g mi d b Q X pc L (.int i :: .ref (b9 + 1) :: st) (mc b9 ms σ0) := by
  subst hi
  subst hv
  refine A_iald (mc_1 _ _ _) (vp_in_nI hn (by omega)) hd ?_
  rw [nI_clamp (by omega)]
  exact kk
theorem M_ast1 {i x : Int32} {n : Nat} {na : AF} (hi : i = nI n) (hn : n < 173) (hv : va_up (m_now ms) n x = na) (hd : decode mi.2.1 pc = .ok (.iastore, 1)) (kk : AW l g mi d b Q X (pc + 1) L st (mc b9 (s_now na ms) σ0)) : AW l g mi d b Q X pc L (.int x :: .int i :: .ref (b9 + 1) :: st) (mc b9 ms σ0) := by
  subst hi
  subst hv
  refine A_iast (mc_1 _ _ _) (vp_in_nI hn (by omega)) hd ?_
  rw [nI_clamp (by omega), mc_put1]
  exact kk
theorem M_ald2 {i : Int32} {n : Nat} {v : Int32} (hi : i = nI n) (hn : n < 173) (hv : m_asd ms n = v) (hd : decode mi.2.1 pc = .ok (.iaload, 1)) (kk : AW l g mi d b Q X (pc + 1) L (.int v :: st) (mc b9 ms σ0)) : AW l g mi d b Q X pc L (.int i :: .ref (b9 + 2) :: st) (mc b9 ms σ0) := by
  subst hi
  subst hv
  refine A_iald (mc_2 _ _ _) (vp_in_nI hn (by omega)) hd ?_
  rw [nI_clamp (by omega)]
  exact kk
theorem M_ast2 {i x : Int32} {n : Nat} {na : AF} (hi : i = nI n) (hn : n < 173) (hv : va_up (m_asd ms) n x = na) (hd : decode mi.2.1 pc = .ok (.iastore, 1)) (kk : AW l g mi d b Q X (pc + 1) L st (mc b9 (s_asd na ms) σ0)) : AW l g mi d b Q X pc L (.int x :: .int i :: .ref (b9 + 2) :: st) (mc b9 ms σ0) := by
  subst hi
  subst hv
  refine A_iast (mc_2 _ _ _) (vp_in_nI hn (by omega)) hd ?_
  rw [nI_clamp (by omega), mc_put2]
  exact kk
theorem M_ald3 {i : Int32} {n : Nat} {v : Int32} (hi : i = nI n) (hn : n < 1384) (hv : m_und ms n = v) (hd : decode mi.2.1 pc = .ok (.iaload, 1)) (kk : AW l g mi d b Q X (pc + 1) L (.int v :: st) (mc b9 ms σ0)) : AW l g mi d b Q X pc L (.int i :: .ref (b9 + 3) :: st) (mc b9 ms σ0) := by
  subst hi
  subst hv
  refine A_iald (mc_3 _ _ _) (vp_in_nI hn (by omega)) hd ?_
  rw [nI_clamp (by omega)]
  exact kk
theorem M_ast3 {i x : Int32} {n : Nat} {na : AF} (hi : i = nI n) (hn : n < 1384) (hv : va_up (m_und ms) n x = na) (hd : decode mi.2.1 pc = .ok (.iastore, 1)) (kk : AW l g mi d b Q X (pc + 1) L st (mc b9 (s_und na ms) σ0)) : AW l g mi d b Q X pc L (.int x :: .int i :: .ref (b9 + 3) :: st) (mc b9 ms σ0) := by
  subst hi
  subst hv
  refine A_iast (mc_3 _ _ _) (vp_in_nI hn (by omega)) hd ?_
  rw [nI_clamp (by omega), mc_put3]
  exact kk
theorem M_ald4 {i : Int32} {n : Nat} {v : Int32} (hi : i = nI n) (hn : n < 346) (hv : m_sav ms n = v) (hd : decode mi.2.1 pc = .ok (.iaload, 1)) (kk : AW l g mi d b Q X (pc + 1) L (.int v :: st) (mc b9 ms σ0)) : AW l g mi d b Q X pc L (.int i :: .ref (b9 + 4) :: st) (mc b9 ms σ0) := by
  subst hi
  subst hv
  refine A_iald (mc_4 _ _ _) (vp_in_nI hn (by omega)) hd ?_
  rw [nI_clamp (by omega)]
  exact kk
theorem M_ast4 {i x : Int32} {n : Nat} {na : AF} (hi : i = nI n) (hn : n < 346) (hv : va_up (m_sav ms) n x = na) (hd : decode mi.2.1 pc = .ok (.iastore, 1)) (kk : AW l g mi d b Q X (pc + 1) L st (mc b9 (s_sav na ms) σ0)) : AW l g mi d b Q X pc L (.int x :: .int i :: .ref (b9 + 4) :: st) (mc b9 ms σ0) := by
  subst hi
  subst hv
  refine A_iast (mc_4 _ _ _) (vp_in_nI hn (by omega)) hd ?_
  rw [nI_clamp (by omega), mc_put4]
  exact kk
theorem M_ald5 {i : Int32} {n : Nat} {v : Int32} (hi : i = nI n) (hn : n < 2) (hv : m_isv ms n = v) (hd : decode mi.2.1 pc = .ok (.baload, 1)) (kk : AW l g mi d b Q X (pc + 1) L (.int v :: st) (mc b9 ms σ0)) : AW l g mi d b Q X pc L (.int i :: .ref (b9 + 5) :: st) (mc b9 ms σ0) := by
  subst hi
  subst hv
  refine A_zald (mc_5 _ _ _) (vp_in_nI hn (by omega)) hd ?_
  rw [nI_clamp (by omega)]
  exact kk
theorem M_ast5 {i x : Int32} {n : Nat} {na : AF} (hi : i = nI n) (hn : n < 2) (hv : va_up (m_isv ms) n (vp_nar .boolean x) = na) (hd : decode mi.2.1 pc = .ok (.bastore, 1)) (kk : AW l g mi d b Q X (pc + 1) L st (mc b9 (s_isv na ms) σ0)) : AW l g mi d b Q X pc L (.int x :: .int i :: .ref (b9 + 5) :: st) (mc b9 ms σ0) := by
  subst hi
  subst hv
  refine A_zast (mc_5 _ _ _) (vp_in_nI hn (by omega)) hd ?_
  rw [nI_clamp (by omega), mc_put5]
  exact kk
theorem M_ald6 {i : Int32} {n : Nat} {v : Int32} (hi : i = nI n) (hn : n < 500) (hv : m_buf ms n = v) (hd : decode mi.2.1 pc = .ok (.baload, 1)) (kk : AW l g mi d b Q X (pc + 1) L (.int v :: st) (mc b9 ms σ0)) : AW l g mi d b Q X pc L (.int i :: .ref (b9 + 6) :: st) (mc b9 ms σ0) := by
  subst hi
  subst hv
  refine A_bald (mc_6 _ _ _) (vp_in_nI hn (by omega)) hd ?_
  rw [nI_clamp (by omega)]
  exact kk
theorem M_ast6 {i x : Int32} {n : Nat} {na : AF} (hi : i = nI n) (hn : n < 500) (hv : va_up (m_buf ms) n (vp_nar .byte x) = na) (hd : decode mi.2.1 pc = .ok (.bastore, 1)) (kk : AW l g mi d b Q X (pc + 1) L st (mc b9 (s_buf na ms) σ0)) : AW l g mi d b Q X pc L (.int x :: .int i :: .ref (b9 + 6) :: st) (mc b9 ms σ0) := by
  subst hi
  subst hv
  refine A_bast (mc_6 _ _ _) (vp_in_nI hn (by omega)) hd ?_
  rw [nI_clamp (by omega), mc_put6]
  exact kk
theorem M_ald7 {i : Int32} {n : Nat} {v : Int32} (hi : i = nI n) (hn : n < 12) (hv : m_grp ms n = v) (hd : decode mi.2.1 pc = .ok (.iaload, 1)) (kk : AW l g mi d b Q X (pc + 1) L (.int v :: st) (mc b9 ms σ0)) : AW l g mi d b Q X pc L (.int i :: .ref (b9 + 7) :: st) (mc b9 ms σ0) := by
  subst hi
  subst hv
  refine A_iald (mc_7 _ _ _) (vp_in_nI hn (by omega)) hd ?_
  rw [nI_clamp (by omega)]
  exact kk
theorem M_ast7 {i x : Int32} {n : Nat} {na : AF} (hi : i = nI n) (hn : n < 12) (hv : va_up (m_grp ms) n x = na) (hd : decode mi.2.1 pc = .ok (.iastore, 1)) (kk : AW l g mi d b Q X (pc + 1) L st (mc b9 (s_grp na ms) σ0)) : AW l g mi d b Q X pc L (.int x :: .int i :: .ref (b9 + 7) :: st) (mc b9 ms σ0) := by
  subst hi
  subst hv
  refine A_iast (mc_7 _ _ _) (vp_in_nI hn (by omega)) hd ?_
  rw [nI_clamp (by omega), mc_put7]
  exact kk
theorem M_ald8 {i : Int32} {n : Nat} {v : Int32} (hi : i = nI n) (hn : n < 60) (hv : m_pag ms n = v) (hd : decode mi.2.1 pc = .ok (.baload, 1)) (kk : AW l g mi d b Q X (pc + 1) L (.int v :: st) (mc b9 ms σ0)) : AW l g mi d b Q X pc L (.int i :: .ref (b9 + 8) :: st) (mc b9 ms σ0) := by
  subst hi
  subst hv
  refine A_bald (mc_8 _ _ _) (vp_in_nI hn (by omega)) hd ?_
  rw [nI_clamp (by omega)]
  exact kk
theorem M_ast8 {i x : Int32} {n : Nat} {na : AF} (hi : i = nI n) (hn : n < 60) (hv : va_up (m_pag ms) n (vp_nar .byte x) = na) (hd : decode mi.2.1 pc = .ok (.bastore, 1)) (kk : AW l g mi d b Q X (pc + 1) L st (mc b9 (s_pag na ms) σ0)) : AW l g mi d b Q X pc L (.int x :: .int i :: .ref (b9 + 8) :: st) (mc b9 ms σ0) := by
  subst hi
  subst hv
  refine A_bast (mc_8 _ _ _) (vp_in_nI hn (by omega)) hd ?_
  rw [nI_clamp (by omega), mc_put8]
  exact kk
end AModel
