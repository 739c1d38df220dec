/-! THE MODEL 6: what would be -/
section
variable {l : Launch} {g : GC} {mi : MI} {d : Nat} {Q : Option Value → AH → Prop} {X : String → Nat → AH → Prop} {pc : Nat}
theorem A_forP {α : Type} (n : Nat) (bs : Nat → α → Nat) (Ls : Nat → α → List (Nat × Value)) (σs : Nat → α → AH) (I : Nat → α → Prop) (a0 : α) (h0 : I 0 a0) (hs : ∀ i a, i < n → I i a → (∀ a', I (i + 1) a' → AW l g mi d (bs (i + 1) a') Q X pc (Ls (i + 1) a') [] (σs (i + 1) a')) → AW l g mi d (bs i a) Q X pc (Ls i a) [] (σs i a)) (hx : ∀ a, I n a → AW l g mi d (bs n a) Q X pc (Ls n a) [] (σs n a)) : AW l g mi d (bs 0 a0) Q X pc (Ls 0 a0) [] (σs 0 a0) := by
  have h : ∀ k i a, i + k = n → I i a → AW l g mi d (bs i a) Q X pc (Ls i a) [] (σs i a) := by
    intro k
    induction k with
    | zero =>
      intro i a e hI
      have e' : i = n := by omega
      subst e'
      exact hx a hI
    | succ k ih =>
      intro i a e hI
      exact hs i a (by omega) hI (fun a' hI' => ih (i + 1) a' (by omega) hI')
  exact h n 0 a0 (by omega) h0
end
/-- the first of k places from i on where p holds, or the end -/
def gF (p : Nat → Prop) [DecidablePred p] (i : Nat) : Nat → Nat
  | 0 => i
  | k + 1 => if p i then i else gF p (i + 1) k
theorem gF_le (p : Nat → Prop) [DecidablePred p] : ∀ (k i : Nat), i ≤ gF p i k ∧ gF p i k ≤ i + k
  | 0, i => ⟨Nat.le_refl _, Nat.le_refl _⟩
  | k + 1, i => by
    unfold gF
    split
    · exact ⟨Nat.le_refl _, by omega⟩
    · have := gF_le p k (i + 1)
      exact ⟨by omega, by omega⟩
theorem gF_not (p : Nat → Prop) [DecidablePred p] : ∀ (k i j : Nat), i ≤ j → j < gF p i k → ¬ p j
  | 0, i, j, h1, h2 => by
    unfold gF at h2
    omega
  | k + 1, i, j, h1, h2 => by
    unfold gF at h2
    split at h2
    · omega
    · rcases Nat.eq_or_lt_of_le h1 with e | e
      · subst e; assumption
      · exact gF_not p k (i + 1) j e h2
theorem gF_at (p : Nat → Prop) [DecidablePred p] : ∀ (k i : Nat), gF p i k < i + k → p (gF p i k)
  | 0, i, h => by
    unfold gF at h
    omega
  | k + 1, i, h => by
    unfold gF at h ⊢
    split
    · assumption
    · rw [if_neg (by assumption)] at h
      exact gF_at p k (i + 1) (by omega)
def itr (g : AF → AF) (N : AF) : Nat → AF
  | 0 => N
  | k + 1 => g (itr g N k)
theorem itr_s (g : AF → AF) (N : AF) (k : Nat) : itr g N (k + 1) = g (itr g N k) := rfl
theorem cts_putIn (N : AF) (f : Nat) (t : Int32) : cts (putIn N f t) N := (cts_up _ _ _ (by omega)).tr (((hdr_set _ _ _ _).tr (hdr_goTo _ _ _ _)).cts)
abbrev betterN (N : AF) (t h b : Int32) : Prop := stainBy N t h - stainBy N t b < 0 ∨ (stainBy N t h - stainBy N t b = 0 ∧ ¬ dirtBy N t b ≤ dirtBy N t h)
def bh1 (N : AF) (t : Int32) : Int32 := if betterN N t 1 0 then 1 else 0
def bh2 (N : AF) (t : Int32) : Int32 := if betterN N t 2 (bh1 N t) then 2 else bh1 N t
def bh3 (N : AF) (t : Int32) : Int32 := if betterN N t 3 (bh2 N t) then 3 else bh2 N t
def bestN (N : AF) (t : Int32) : Int32 := if manyT N t = 0 then -1 else if leastN N t < 1 then 0 else if leastN N t < 2 then bh1 N t else if leastN N t < 3 then bh2 N t else bh3 N t
theorem leastN_lt (N : AF) (t : Int32) : leastN N t < 4 := by
  have h : ∀ n, lcF N t n < 4 := by
    intro n
    induction n with
    | zero => show (3 : Int32) < 4; decide
    | succ n ih =>
      rw [lcF_s]
      split
      · unfold mn
        split
        · exact Int32.lt_trans (by assumption) ih
        · exact ih
      · exact ih
  exact h _
abbrev safeN (N : AF) (f t : Nat) (h : Int32) : Prop := whyPutN N f t = 0 ∧ whyWashN (putIn N f (nI t)) (nI t) h + stainBy (putIn N f (nI t)) (nI t) h = 0
def mixN (N : AF) (f o : Nat) (h : Int32) : Int32 := if f = o then 0 else bi (¬ newS N o (runFrom N f h) = 0) + (2 * bi (¬ newS N f (runFrom N o h) = 0))
theorem nIne {a b : Nat} (h : ¬ nI a = nI b) : ¬ a = b := fun e => h (by rw [e])
theorem nIeq {a b : Nat} (ha : a < 2000) (hb : b < 2000) (h : nI a = nI b) : a = b := (nI_eq (by omega) (by omega)).mp h
def mixW (N : AF) (f : Nat) (h : Int32) : Int32 := sm (fun k => bi (inBasket N k ∧ ¬ mixN N f k h = 0)) (nF N)
def wForN (N : AF) (f : Nat) : Int32 := (((fl N f 3 + (1 + (2 * fl N f 2))) - 1) / (1 + (2 * fl N f 2)))
def payInN (N : AF) (n : Nat) (h : Int32) : Int32 := if na N n 3 = 1 then 0 else payN N n (N 0 + h)
def lastHN (N : AF) (n : Nat) : Int32 := if na N n 3 = 1 then -1 else if flagsN N (nI n) = 0 then -1 else if na N n 2 = 0 then 999 else if N 0 ≤ na N n 0 + ((na N n 1 - 1) / na N n 2) then na N n 0 + ((na N n 1 - 1) / na N n 2) else -1
def deaU (N : AF) : Nat → Int32 × Int32
  | 0 => (-1, 0)
  | n + 1 => if (payInN N n 0 - payInN N n 1) ≤ (deaU N n).2 then deaU N n else (nI n, payInN N n 0 - payInN N n 1)
theorem deaU_s (N : AF) (n : Nat) : deaU N (n + 1) = if (payInN N n 0 - payInN N n 1) ≤ (deaU N n).2 then deaU N n else (nI n, payInN N n 0 - payInN N n 1) := rfl
def purU (N : AF) (h : Int32) : Nat → Int32
  | 0 => -1
  | n + 1 => if inBasket N n ∧ (purU N h n = -1 ∨ ¬ mixW N (ix (purU N h n)) h ≤ mixW N n h) then nI n else purU N h n
theorem purU_s (N : AF) (h : Int32) (n : Nat) : purU N h (n + 1) = if inBasket N n ∧ (purU N h n = -1 ∨ ¬ mixW N (ix (purU N h n)) h ≤ mixW N n h) then nI n else purU N h n := rfl
theorem purU_in (N : AF) (h : Int32) : ∀ n, purU N h n = -1 ∨ ∃ j, j < n ∧ purU N h n = nI j
  | 0 => Or.inl rfl
  | n + 1 => by
    rw [purU_s]
    split
    · exact Or.inr ⟨n, by omega, rfl⟩
    · rcases purU_in N h n with h | ⟨j, a, b⟩
      · exact Or.inl h
      · exact Or.inr ⟨j, by omega, b⟩
theorem c_onPeg {l : Launch} {g : GC} (b9 : Nat) (ms : MM) (σ0 : AH) (p : Int32) (h1 : WFc (m_now ms)) : AMet l g mX2_onPeg 4 0 [.ref b9, .int p] (mc b9 ms σ0) (A_eq (some (.int (gd (mayT (m_is ms) (bi (¬ (m_is ms) = 0 ∧ inR p 0 ((m_now ms) 9 - 1))) 1) (flagOnN (m_now ms) p)))) (mc b9 (⟨mayT (m_is ms) (bi (¬ (m_is ms) = 0 ∧ inR p 0 ((m_now ms) 9 - 1))) 1, m_is ms, m_um ms, m_bd ms, m_pc ms, m_pa ms, m_sz ms, m_cu ms, m_st ms, m_tk ms, m_to ms, m_ps ms, m_now ms, m_asd ms, m_und ms, m_sav ms, m_isv ms, m_buf ms, m_grp ms, m_pag ms⟩ : MM) σ0)) A_no := by
  refine A_of rfl (by decide) (Nat.le_of_ble_eq_true rfl) (L0 := [(0, .ref b9), (1, .int p)]) rfl ?_
  refine A_aload_n (i := 0) dX2_onPeg_0 rfl rfl ?_
  refine A_aload_n (i := 0) dX2_onPeg_1 rfl rfl ?_
  refine M_get 6 (v := .int (m_is ms)) (Nat.le_of_ble_eq_true rfl) q2235 rfl dX2_onPeg_2 ?_
  refine A_aload_n (i := 0) dX2_onPeg_5 rfl rfl ?_
  refine M_get 6 (v := .int (m_is ms)) (Nat.le_of_ble_eq_true rfl) q2235 rfl dX2_onPeg_6 ?_
  refine A_if_eq (tgt := 33) dX2_onPeg_9 (by decide) (fun c1 => ?_) (fun c1 => ?_)
  · skip
    refine A_iconst (v := 0) dX2_onPeg_33 (by decide) ?_
    refine A_int (w := bi (¬ m_is ms = 0 ∧ inR p 0 (m_now ms 9 - 1))) (by simp [bi, inR, -Int32.not_lt, c1]) ?_
    refine A_callV2E (v := some (.int (bi (mayT (m_is ms) (bi (¬ m_is ms = 0 ∧ inR p 0 (m_now ms 9 - 1))) 1 = 0)))) (τ := mc b9 (⟨mayT (m_is ms) (bi (¬ m_is ms = 0 ∧ inR p 0 (m_now ms 9 - 1))) 1, m_is ms, m_um ms, m_bd ms, m_pc ms, m_pa ms, m_sz ms, m_cu ms, m_st ms, m_tk ms, m_to ms, m_ps ms, m_now ms, m_asd ms, m_und ms, m_sav ms, m_isv ms, m_buf ms, m_grp ms, m_pag ms⟩ : MM) σ0) (c_mayTwo b9 ms σ0 (m_is ms) (bi (¬ m_is ms = 0 ∧ inR p 0 (m_now ms 9 - 1)))) tX2_mayTwo q2565 (mc_0 _ _ _) rfl rfl dX2_onPeg_34 (by decide) (Nat.le_of_eq (Nat.zero_add _)) (Nat.le_of_ble_eq_true rfl) ?_
    refine A_if_eq (tgt := 48) dX2_onPeg_37 (by decide) (fun c2 => ?_) (fun c2 => ?_)
    · skip
      have c2 := bi_eq0.mp c2
      refine A_iconst (v := 0) dX2_onPeg_48 (by decide) ?_
      exact A_iret dX2_onPeg_49 rfl ⟨by rw [gd, if_neg c2], rfl⟩
    · skip
      have c2 := bi_ne0.mp c2
      refine A_aload_n (i := 0) dX2_onPeg_40 rfl rfl ?_
      refine A_iload_n (i := 1) dX2_onPeg_41 rfl rfl ?_
      refine A_callV1E (v := some (.int (flagOnN (m_now ms) p))) (τ := mc b9 (⟨mayT (m_is ms) (bi (¬ m_is ms = 0 ∧ inR p 0 (m_now ms 9 - 1))) 1, m_is ms, m_um ms, m_bd ms, m_pc ms, m_pa ms, m_sz ms, m_cu ms, m_st ms, m_tk ms, m_to ms, m_ps ms, m_now ms, m_asd ms, m_und ms, m_sav ms, m_isv ms, m_buf ms, m_grp ms, m_pag ms⟩ : MM) σ0) (c_flagOn b9 (⟨mayT (m_is ms) (bi (¬ m_is ms = 0 ∧ inR p 0 (m_now ms 9 - 1))) 1, m_is ms, m_um ms, m_bd ms, m_pc ms, m_pa ms, m_sz ms, m_cu ms, m_st ms, m_tk ms, m_to ms, m_ps ms, m_now ms, m_asd ms, m_und ms, m_sav ms, m_isv ms, m_buf ms, m_grp ms, m_pag ms⟩ : MM) σ0 p (by first | assumption | omega)) tX2_flagOn q2523 (mc_0 _ _ _) rfl rfl dX2_onPeg_42 (by decide) (Nat.le_of_eq (Nat.zero_add _)) (Nat.le_of_ble_eq_true rfl) ?_
      refine A_goto (tgt := 49) dX2_onPeg_45 (by decide) ?_
      exact A_iret dX2_onPeg_49 rfl ⟨by rw [gd, if_pos c2], rfl⟩
  · skip
    refine A_iload_n (i := 1) dX2_onPeg_12 rfl rfl ?_
    refine A_iconst (v := 0) dX2_onPeg_13 (by decide) ?_
    refine A_aload_n (i := 0) dX2_onPeg_14 rfl rfl ?_
    refine M_get 1 (v := .ref (b9 + 1)) (Nat.le_of_ble_eq_true rfl) q2230 rfl dX2_onPeg_15 ?_
    refine A_bipush (v := 9) dX2_onPeg_18 (by decide) ?_
    refine M_ald1 (n := 9) (v := m_now ms 9) (rfl) (by decide) (rfl) dX2_onPeg_20 ?_
    refine A_iconst (v := 1) dX2_onPeg_21 (by decide) ?_
    refine A_isub dX2_onPeg_22 ?_
    refine A_callS3E (v := some (.int (bi (inR p 0 ((m_now ms 9) - 1))))) (τ := mc b9 ms σ0) (c_in b9 ms σ0 p 0 ((m_now ms 9) - 1)) tX2_in q2319 dX2_onPeg_23 (by decide) (Nat.le_of_eq (Nat.zero_add _)) (Nat.le_of_ble_eq_true rfl) ?_
    refine A_if_eq (tgt := 33) dX2_onPeg_26 (by decide) (fun c3 => ?_) (fun c3 => ?_)
    · skip
      have c3 := bi_eq0.mp c3
      refine A_iconst (v := 0) dX2_onPeg_33 (by decide) ?_
      refine A_int (w := bi (¬ m_is ms = 0 ∧ inR p 0 (m_now ms 9 - 1))) (by simp [bi, inR, -Int32.not_lt, c1, c3]) ?_
      refine A_callV2E (v := some (.int (bi (mayT (m_is ms) (bi (¬ m_is ms = 0 ∧ inR p 0 (m_now ms 9 - 1))) 1 = 0)))) (τ := mc b9 (⟨mayT (m_is ms) (bi (¬ m_is ms = 0 ∧ inR p 0 (m_now ms 9 - 1))) 1, m_is ms, m_um ms, m_bd ms, m_pc ms, m_pa ms, m_sz ms, m_cu ms, m_st ms, m_tk ms, m_to ms, m_ps ms, m_now ms, m_asd ms, m_und ms, m_sav ms, m_isv ms, m_buf ms, m_grp ms, m_pag ms⟩ : MM) σ0) (c_mayTwo b9 ms σ0 (m_is ms) (bi (¬ m_is ms = 0 ∧ inR p 0 (m_now ms 9 - 1)))) tX2_mayTwo q2565 (mc_0 _ _ _) rfl rfl dX2_onPeg_34 (by decide) (Nat.le_of_eq (Nat.zero_add _)) (Nat.le_of_ble_eq_true rfl) ?_
      refine A_if_eq (tgt := 48) dX2_onPeg_37 (by decide) (fun c4 => ?_) (fun c4 => ?_)
      · skip
        have c4 := bi_eq0.mp c4
        refine A_iconst (v := 0) dX2_onPeg_48 (by decide) ?_
        exact A_iret dX2_onPeg_49 rfl ⟨by rw [gd, if_neg c4], rfl⟩
      · skip
        have c4 := bi_ne0.mp c4
        refine A_aload_n (i := 0) dX2_onPeg_40 rfl rfl ?_
        refine A_iload_n (i := 1) dX2_onPeg_41 rfl rfl ?_
        refine A_callV1E (v := some (.int (flagOnN (m_now ms) p))) (τ := mc b9 (⟨mayT (m_is ms) (bi (¬ m_is ms = 0 ∧ inR p 0 (m_now ms 9 - 1))) 1, m_is ms, m_um ms, m_bd ms, m_pc ms, m_pa ms, m_sz ms, m_cu ms, m_st ms, m_tk ms, m_to ms, m_ps ms, m_now ms, m_asd ms, m_und ms, m_sav ms, m_isv ms, m_buf ms, m_grp ms, m_pag ms⟩ : MM) σ0) (c_flagOn b9 (⟨mayT (m_is ms) (bi (¬ m_is ms = 0 ∧ inR p 0 (m_now ms 9 - 1))) 1, m_is ms, m_um ms, m_bd ms, m_pc ms, m_pa ms, m_sz ms, m_cu ms, m_st ms, m_tk ms, m_to ms, m_ps ms, m_now ms, m_asd ms, m_und ms, m_sav ms, m_isv ms, m_buf ms, m_grp ms, m_pag ms⟩ : MM) σ0 p (by first | assumption | omega)) tX2_flagOn q2523 (mc_0 _ _ _) rfl rfl dX2_onPeg_42 (by decide) (Nat.le_of_eq (Nat.zero_add _)) (Nat.le_of_ble_eq_true rfl) ?_
        refine A_goto (tgt := 49) dX2_onPeg_45 (by decide) ?_
        exact A_iret dX2_onPeg_49 rfl ⟨by rw [gd, if_pos c4], rfl⟩
    · skip
      have c3 := bi_ne0.mp c3
      refine A_iconst (v := 1) dX2_onPeg_29 (by decide) ?_
      refine A_goto (tgt := 34) dX2_onPeg_30 (by decide) ?_
      refine A_int (w := bi (¬ m_is ms = 0 ∧ inR p 0 (m_now ms 9 - 1))) (by simp [bi, inR, -Int32.not_lt, c1, c3]) ?_
      refine A_callV2E (v := some (.int (bi (mayT (m_is ms) (bi (¬ m_is ms = 0 ∧ inR p 0 (m_now ms 9 - 1))) 1 = 0)))) (τ := mc b9 (⟨mayT (m_is ms) (bi (¬ m_is ms = 0 ∧ inR p 0 (m_now ms 9 - 1))) 1, m_is ms, m_um ms, m_bd ms, m_pc ms, m_pa ms, m_sz ms, m_cu ms, m_st ms, m_tk ms, m_to ms, m_ps ms, m_now ms, m_asd ms, m_und ms, m_sav ms, m_isv ms, m_buf ms, m_grp ms, m_pag ms⟩ : MM) σ0) (c_mayTwo b9 ms σ0 (m_is ms) (bi (¬ m_is ms = 0 ∧ inR p 0 (m_now ms 9 - 1)))) tX2_mayTwo q2565 (mc_0 _ _ _) rfl rfl dX2_onPeg_34 (by decide) (Nat.le_of_eq (Nat.zero_add _)) (Nat.le_of_ble_eq_true rfl) ?_
      refine A_if_eq (tgt := 48) dX2_onPeg_37 (by decide) (fun c5 => ?_) (fun c5 => ?_)
      · skip
        have c5 := bi_eq0.mp c5
        refine A_iconst (v := 0) dX2_onPeg_48 (by decide) ?_
        exact A_iret dX2_onPeg_49 rfl ⟨by rw [gd, if_neg c5], rfl⟩
      · skip
        have c5 := bi_ne0.mp c5
        refine A_aload_n (i := 0) dX2_onPeg_40 rfl rfl ?_
        refine A_iload_n (i := 1) dX2_onPeg_41 rfl rfl ?_
        refine A_callV1E (v := some (.int (flagOnN (m_now ms) p))) (τ := mc b9 (⟨mayT (m_is ms) (bi (¬ m_is ms = 0 ∧ inR p 0 (m_now ms 9 - 1))) 1, m_is ms, m_um ms, m_bd ms, m_pc ms, m_pa ms, m_sz ms, m_cu ms, m_st ms, m_tk ms, m_to ms, m_ps ms, m_now ms, m_asd ms, m_und ms, m_sav ms, m_isv ms, m_buf ms, m_grp ms, m_pag ms⟩ : MM) σ0) (c_flagOn b9 (⟨mayT (m_is ms) (bi (¬ m_is ms = 0 ∧ inR p 0 (m_now ms 9 - 1))) 1, m_is ms, m_um ms, m_bd ms, m_pc ms, m_pa ms, m_sz ms, m_cu ms, m_st ms, m_tk ms, m_to ms, m_ps ms, m_now ms, m_asd ms, m_und ms, m_sav ms, m_isv ms, m_buf ms, m_grp ms, m_pag ms⟩ : MM) σ0 p (by first | assumption | omega)) tX2_flagOn q2523 (mc_0 _ _ _) rfl rfl dX2_onPeg_42 (by decide) (Nat.le_of_eq (Nat.zero_add _)) (Nat.le_of_ble_eq_true rfl) ?_
        refine A_goto (tgt := 49) dX2_onPeg_45 (by decide) ?_
        exact A_iret dX2_onPeg_49 rfl ⟨by rw [gd, if_pos c5], rfl⟩
theorem c_why {l : Launch} {g : GC} (b9 : Nat) (ms : MM) (σ0 : AH) (f : Int32) (h1 : WFc (m_now ms)) : AMet l g mX2_why 5 0 [.ref b9, .int f] (mc b9 ms σ0) (A_eq (some (.int (gd (mayT (m_is ms) (bi (okF (m_is ms) (m_now ms) f)) 1) (whyN (m_now ms) (ix f))))) (mc b9 (⟨mayT (m_is ms) (bi (okF (m_is ms) (m_now ms) f)) 1, m_is ms, m_um ms, m_bd ms, m_pc ms, m_pa ms, m_sz ms, m_cu ms, m_st ms, m_tk ms, m_to ms, m_ps ms, m_now ms, m_asd ms, m_und ms, m_sav ms, m_isv ms, m_buf ms, m_grp ms, m_pag ms⟩ : MM) σ0)) A_no := by
  refine A_of rfl (by decide) (Nat.le_of_ble_eq_true rfl) (L0 := [(0, .ref b9), (1, .int f)]) rfl ?_
  have hF := h1.2.2.2.2.2
  have hC := h1.1.2
  refine A_aload_n (i := 0) dX2_why_0 rfl rfl ?_
  refine A_iload_n (i := 1) dX2_why_1 rfl rfl ?_
  refine A_callV1E (v := some (.int (bi (mayT (m_is ms) (bi (okF (m_is ms) (m_now ms) f)) 1 = 0)))) (τ := mc b9 (⟨mayT (m_is ms) (bi (okF (m_is ms) (m_now ms) f)) 1, m_is ms, m_um ms, m_bd ms, m_pc ms, m_pa ms, m_sz ms, m_cu ms, m_st ms, m_tk ms, m_to ms, m_ps ms, m_now ms, m_asd ms, m_und ms, m_sav ms, m_isv ms, m_buf ms, m_grp ms, m_pag ms⟩ : MM) σ0) (c_mayFlag b9 ms σ0 f) tX2_mayFlag q2686 (mc_0 _ _ _) rfl rfl dX2_why_2 (by decide) (Nat.le_of_eq (Nat.zero_add _)) (Nat.le_of_ble_eq_true rfl) ?_
  refine A_if_eq (tgt := 16) dX2_why_5 (by decide) (fun c1 => ?_) (fun c1 => ?_)
  · skip
    have c1 := bi_eq0.mp c1
    refine A_iconst (v := 0) dX2_why_16 (by decide) ?_
    exact A_iret dX2_why_17 rfl ⟨by rw [gd, if_neg c1], rfl⟩
  · skip
    have c1 := bi_ne0.mp c1
    obtain ⟨f9, hf9, rfl⟩ := okF_ex h1 (mayT_y c1)
    refine A_aload_n (i := 0) dX2_why_8 rfl rfl ?_
    refine A_iload_n (i := 1) dX2_why_9 rfl rfl ?_
    refine A_callV1E (v := some (.int (whyN (m_now ms) f9))) (τ := mc b9 (⟨mayT (m_is ms) (bi (okF (m_is ms) (m_now ms) (nI f9))) 1, m_is ms, m_um ms, m_bd ms, m_pc ms, m_pa ms, m_sz ms, m_cu ms, m_st ms, m_tk ms, m_to ms, m_ps ms, m_now ms, m_asd ms, m_und ms, m_sav ms, m_isv ms, m_buf ms, m_grp ms, m_pag ms⟩ : MM) σ0) (c_whyNotReady b9 (⟨mayT (m_is ms) (bi (okF (m_is ms) (m_now ms) (nI f9))) 1, m_is ms, m_um ms, m_bd ms, m_pc ms, m_pa ms, m_sz ms, m_cu ms, m_st ms, m_tk ms, m_to ms, m_ps ms, m_now ms, m_asd ms, m_und ms, m_sav ms, m_isv ms, m_buf ms, m_grp ms, m_pag ms⟩ : MM) σ0 f9 (by first | assumption | omega)) tX2_whyNotReady q2573 (mc_0 _ _ _) rfl rfl dX2_why_10 (by decide) (Nat.le_of_eq (Nat.zero_add _)) (Nat.le_of_ble_eq_true rfl) ?_
    refine A_goto (tgt := 17) dX2_why_13 (by decide) ?_
    exact A_iret dX2_why_17 rfl ⟨by rw [gd, if_pos c1] <;> first | with_reducible rfl | (simp [-Int32.not_lt, -Int32.not_le, ixn (show f9 < 2000 by omega)]; done) | (simp [ixn (show f9 < 2000 by omega)]), rfl⟩
theorem c_reasons {l : Launch} {g : GC} (b9 : Nat) (ms : MM) (σ0 : AH) (f : Int32) (h1 : WFc (m_now ms)) : AMet l g mX2_reasons 4 0 [.ref b9, .int f] (mc b9 ms σ0) (A_eq (some (.int (gd (mayT (m_is ms) (bi (okF (m_is ms) (m_now ms) f)) 1) (reasN (m_now ms) (ix f))))) (mc b9 (⟨mayT (m_is ms) (bi (okF (m_is ms) (m_now ms) f)) 1, m_is ms, m_um ms, m_bd ms, m_pc ms, m_pa ms, m_sz ms, m_cu ms, m_st ms, m_tk ms, m_to ms, m_ps ms, m_now ms, m_asd ms, m_und ms, m_sav ms, m_isv ms, m_buf ms, m_grp ms, m_pag ms⟩ : MM) σ0)) A_no := by
  refine A_of rfl (by decide) (Nat.le_of_ble_eq_true rfl) (L0 := [(0, .ref b9), (1, .int f)]) rfl ?_
  have hF := h1.2.2.2.2.2
  have hC := h1.1.2
  refine A_aload_n (i := 0) dX2_reasons_0 rfl rfl ?_
  refine A_iload_n (i := 1) dX2_reasons_1 rfl rfl ?_
  refine A_callV1E (v := some (.int (bi (mayT (m_is ms) (bi (okF (m_is ms) (m_now ms) f)) 1 = 0)))) (τ := mc b9 (⟨mayT (m_is ms) (bi (okF (m_is ms) (m_now ms) f)) 1, m_is ms, m_um ms, m_bd ms, m_pc ms, m_pa ms, m_sz ms, m_cu ms, m_st ms, m_tk ms, m_to ms, m_ps ms, m_now ms, m_asd ms, m_und ms, m_sav ms, m_isv ms, m_buf ms, m_grp ms, m_pag ms⟩ : MM) σ0) (c_mayFlag b9 ms σ0 f) tX2_mayFlag q2686 (mc_0 _ _ _) rfl rfl dX2_reasons_2 (by decide) (Nat.le_of_eq (Nat.zero_add _)) (Nat.le_of_ble_eq_true rfl) ?_
  refine A_if_ne (tgt := 10) dX2_reasons_5 (by decide) (fun c1 => ?_) (fun c1 => ?_)
  · skip
    have c1 := bi_ne0.mp c1
    obtain ⟨f9, hf9, rfl⟩ := okF_ex h1 (mayT_y c1)
    refine A_iconst (v := 0) dX2_reasons_10 (by decide) ?_
    refine A_istore_n (i := 2) dX2_reasons_11 rfl (Nat.le_of_ble_eq_true rfl) ?_
    refine A_iconst (v := 1) dX2_reasons_12 (by decide) ?_
    refine A_istore_n (i := 3) dX2_reasons_13 rfl (Nat.le_of_ble_eq_true rfl) ?_
    refine A_iload_n (i := 3) dX2_reasons_14 rfl rfl ?_
    refine A_bipush (v := 7) dX2_reasons_15 (by decide) ?_
    refine A_icmp_gt_f (tgt := 40) dX2_reasons_17 (by decide) (by decide) ?_
    refine A_iload_n (i := 2) dX2_reasons_20 rfl rfl ?_
    refine A_aload_n (i := 0) dX2_reasons_21 rfl rfl ?_
    refine A_iload_n (i := 3) dX2_reasons_22 rfl rfl ?_
    refine A_iload_n (i := 1) dX2_reasons_23 rfl rfl ?_
    refine A_callV2E (v := some (.int (apI (m_now ms) f9 1))) (τ := mc b9 (⟨mayT (m_is ms) (bi (okF (m_is ms) (m_now ms) (nI f9))) 1, m_is ms, m_um ms, m_bd ms, m_pc ms, m_pa ms, m_sz ms, m_cu ms, m_st ms, m_tk ms, m_to ms, m_ps ms, m_now ms, m_asd ms, m_und ms, m_sav ms, m_isv ms, m_buf ms, m_grp ms, m_pag ms⟩ : MM) σ0) (c_applies b9 (⟨mayT (m_is ms) (bi (okF (m_is ms) (m_now ms) (nI f9))) 1, m_is ms, m_um ms, m_bd ms, m_pc ms, m_pa ms, m_sz ms, m_cu ms, m_st ms, m_tk ms, m_to ms, m_ps ms, m_now ms, m_asd ms, m_und ms, m_sav ms, m_isv ms, m_buf ms, m_grp ms, m_pag ms⟩ : MM) σ0 1 f9 (by first | assumption | omega) (by decide)) tX2_applies q2577 (mc_0 _ _ _) rfl rfl dX2_reasons_24 (by decide) (Nat.le_of_eq (Nat.zero_add _)) (Nat.le_of_ble_eq_true rfl) ?_
    refine A_callS1E (v := some (.int (oneI (apI (m_now ms) f9 1)))) (τ := mc b9 (⟨mayT (m_is ms) (bi (okF (m_is ms) (m_now ms) (nI f9))) 1, m_is ms, m_um ms, m_bd ms, m_pc ms, m_pa ms, m_sz ms, m_cu ms, m_st ms, m_tk ms, m_to ms, m_ps ms, m_now ms, m_asd ms, m_und ms, m_sav ms, m_isv ms, m_buf ms, m_grp ms, m_pag ms⟩ : MM) σ0) (c_one b9 (⟨mayT (m_is ms) (bi (okF (m_is ms) (m_now ms) (nI f9))) 1, m_is ms, m_um ms, m_bd ms, m_pc ms, m_pa ms, m_sz ms, m_cu ms, m_st ms, m_tk ms, m_to ms, m_ps ms, m_now ms, m_asd ms, m_und ms, m_sav ms, m_isv ms, m_buf ms, m_grp ms, m_pag ms⟩ : MM) σ0 (apI (m_now ms) f9 1)) tX2_one q2456 dX2_reasons_27 (by decide) (Nat.le_of_eq (Nat.zero_add _)) (Nat.le_of_ble_eq_true rfl) ?_
    refine A_int (w := (apI (m_now ms) f9 1)) (apI_01 _ _ _) ?_
    refine A_iload_n (i := 3) dX2_reasons_30 rfl rfl ?_
    refine A_ishl dX2_reasons_31 ?_
    refine A_ior dX2_reasons_32 ?_
    refine A_istore_n (i := 2) dX2_reasons_33 rfl (Nat.le_of_ble_eq_true rfl) ?_
    refine A_iinc (v := 2) dX2_reasons_34 rfl (by decide) (Nat.le_of_ble_eq_true rfl) ?_
    refine A_goto (tgt := 14) dX2_reasons_37 (by decide) ?_
    refine A_sub (L' := [(0, .ref b9), (1, .int (nI f9)), (2, .int ((0 : Int32) ||| ((apI (m_now ms) f9 1) <<< ((1 : Int32) &&& 31)))), (3, .int 2)]) ⟨rfl, rfl, rfl, rfl, trivial⟩ ?_
    refine A_iload_n (i := 3) dX2_reasons_14 rfl rfl ?_
    refine A_bipush (v := 7) dX2_reasons_15 (by decide) ?_
    refine A_icmp_gt_f (tgt := 40) dX2_reasons_17 (by decide) (by decide) ?_
    refine A_iload_n (i := 2) dX2_reasons_20 rfl rfl ?_
    refine A_aload_n (i := 0) dX2_reasons_21 rfl rfl ?_
    refine A_iload_n (i := 3) dX2_reasons_22 rfl rfl ?_
    refine A_iload_n (i := 1) dX2_reasons_23 rfl rfl ?_
    refine A_callV2E (v := some (.int (apI (m_now ms) f9 2))) (τ := mc b9 (⟨mayT (m_is ms) (bi (okF (m_is ms) (m_now ms) (nI f9))) 1, m_is ms, m_um ms, m_bd ms, m_pc ms, m_pa ms, m_sz ms, m_cu ms, m_st ms, m_tk ms, m_to ms, m_ps ms, m_now ms, m_asd ms, m_und ms, m_sav ms, m_isv ms, m_buf ms, m_grp ms, m_pag ms⟩ : MM) σ0) (c_applies b9 (⟨mayT (m_is ms) (bi (okF (m_is ms) (m_now ms) (nI f9))) 1, m_is ms, m_um ms, m_bd ms, m_pc ms, m_pa ms, m_sz ms, m_cu ms, m_st ms, m_tk ms, m_to ms, m_ps ms, m_now ms, m_asd ms, m_und ms, m_sav ms, m_isv ms, m_buf ms, m_grp ms, m_pag ms⟩ : MM) σ0 2 f9 (by first | assumption | omega) (by decide)) tX2_applies q2577 (mc_0 _ _ _) rfl rfl dX2_reasons_24 (by decide) (Nat.le_of_eq (Nat.zero_add _)) (Nat.le_of_ble_eq_true rfl) ?_
    refine A_callS1E (v := some (.int (oneI (apI (m_now ms) f9 2)))) (τ := mc b9 (⟨mayT (m_is ms) (bi (okF (m_is ms) (m_now ms) (nI f9))) 1, m_is ms, m_um ms, m_bd ms, m_pc ms, m_pa ms, m_sz ms, m_cu ms, m_st ms, m_tk ms, m_to ms, m_ps ms, m_now ms, m_asd ms, m_und ms, m_sav ms, m_isv ms, m_buf ms, m_grp ms, m_pag ms⟩ : MM) σ0) (c_one b9 (⟨mayT (m_is ms) (bi (okF (m_is ms) (m_now ms) (nI f9))) 1, m_is ms, m_um ms, m_bd ms, m_pc ms, m_pa ms, m_sz ms, m_cu ms, m_st ms, m_tk ms, m_to ms, m_ps ms, m_now ms, m_asd ms, m_und ms, m_sav ms, m_isv ms, m_buf ms, m_grp ms, m_pag ms⟩ : MM) σ0 (apI (m_now ms) f9 2)) tX2_one q2456 dX2_reasons_27 (by decide) (Nat.le_of_eq (Nat.zero_add _)) (Nat.le_of_ble_eq_true rfl) ?_
    refine A_int (w := (apI (m_now ms) f9 2)) (apI_01 _ _ _) ?_
    refine A_iload_n (i := 3) dX2_reasons_30 rfl rfl ?_
    refine A_ishl dX2_reasons_31 ?_
    refine A_ior dX2_reasons_32 ?_
    refine A_istore_n (i := 2) dX2_reasons_33 rfl (Nat.le_of_ble_eq_true rfl) ?_
    refine A_iinc (v := 3) dX2_reasons_34 rfl (by decide) (Nat.le_of_ble_eq_true rfl) ?_
    refine A_goto (tgt := 14) dX2_reasons_37 (by decide) ?_
    refine A_sub (L' := [(0, .ref b9), (1, .int (nI f9)), (2, .int (((0 : Int32) ||| ((apI (m_now ms) f9 1) <<< ((1 : Int32) &&& 31))) ||| ((apI (m_now ms) f9 2) <<< ((2 : Int32) &&& 31)))), (3, .int 3)]) ⟨rfl, rfl, rfl, rfl, trivial⟩ ?_
    refine A_iload_n (i := 3) dX2_reasons_14 rfl rfl ?_
    refine A_bipush (v := 7) dX2_reasons_15 (by decide) ?_
    refine A_icmp_gt_f (tgt := 40) dX2_reasons_17 (by decide) (by decide) ?_
    refine A_iload_n (i := 2) dX2_reasons_20 rfl rfl ?_
    refine A_aload_n (i := 0) dX2_reasons_21 rfl rfl ?_
    refine A_iload_n (i := 3) dX2_reasons_22 rfl rfl ?_
    refine A_iload_n (i := 1) dX2_reasons_23 rfl rfl ?_
    refine A_callV2E (v := some (.int (apI (m_now ms) f9 3))) (τ := mc b9 (⟨mayT (m_is ms) (bi (okF (m_is ms) (m_now ms) (nI f9))) 1, m_is ms, m_um ms, m_bd ms, m_pc ms, m_pa ms, m_sz ms, m_cu ms, m_st ms, m_tk ms, m_to ms, m_ps ms, m_now ms, m_asd ms, m_und ms, m_sav ms, m_isv ms, m_buf ms, m_grp ms, m_pag ms⟩ : MM) σ0) (c_applies b9 (⟨mayT (m_is ms) (bi (okF (m_is ms) (m_now ms) (nI f9))) 1, m_is ms, m_um ms, m_bd ms, m_pc ms, m_pa ms, m_sz ms, m_cu ms, m_st ms, m_tk ms, m_to ms, m_ps ms, m_now ms, m_asd ms, m_und ms, m_sav ms, m_isv ms, m_buf ms, m_grp ms, m_pag ms⟩ : MM) σ0 3 f9 (by first | assumption | omega) (by decide)) tX2_applies q2577 (mc_0 _ _ _) rfl rfl dX2_reasons_24 (by decide) (Nat.le_of_eq (Nat.zero_add _)) (Nat.le_of_ble_eq_true rfl) ?_
    refine A_callS1E (v := some (.int (oneI (apI (m_now ms) f9 3)))) (τ := mc b9 (⟨mayT (m_is ms) (bi (okF (m_is ms) (m_now ms) (nI f9))) 1, m_is ms, m_um ms, m_bd ms, m_pc ms, m_pa ms, m_sz ms, m_cu ms, m_st ms, m_tk ms, m_to ms, m_ps ms, m_now ms, m_asd ms, m_und ms, m_sav ms, m_isv ms, m_buf ms, m_grp ms, m_pag ms⟩ : MM) σ0) (c_one b9 (⟨mayT (m_is ms) (bi (okF (m_is ms) (m_now ms) (nI f9))) 1, m_is ms, m_um ms, m_bd ms, m_pc ms, m_pa ms, m_sz ms, m_cu ms, m_st ms, m_tk ms, m_to ms, m_ps ms, m_now ms, m_asd ms, m_und ms, m_sav ms, m_isv ms, m_buf ms, m_grp ms, m_pag ms⟩ : MM) σ0 (apI (m_now ms) f9 3)) tX2_one q2456 dX2_reasons_27 (by decide) (Nat.le_of_eq (Nat.zero_add _)) (Nat.le_of_ble_eq_true rfl) ?_
    refine A_int (w := (apI (m_now ms) f9 3)) (apI_01 _ _ _) ?_
    refine A_iload_n (i := 3) dX2_reasons_30 rfl rfl ?_
    refine A_ishl dX2_reasons_31 ?_
    refine A_ior dX2_reasons_32 ?_
    refine A_istore_n (i := 2) dX2_reasons_33 rfl (Nat.le_of_ble_eq_true rfl) ?_
    refine A_iinc (v := 4) dX2_reasons_34 rfl (by decide) (Nat.le_of_ble_eq_true rfl) ?_
    refine A_goto (tgt := 14) dX2_reasons_37 (by decide) ?_
    refine A_sub (L' := [(0, .ref b9), (1, .int (nI f9)), (2, .int ((((0 : Int32) ||| ((apI (m_now ms) f9 1) <<< ((1 : Int32) &&& 31))) ||| ((apI (m_now ms) f9 2) <<< ((2 : Int32) &&& 31))) ||| ((apI (m_now ms) f9 3) <<< ((3 : Int32) &&& 31)))), (3, .int 4)]) ⟨rfl, rfl, rfl, rfl, trivial⟩ ?_
    refine A_iload_n (i := 3) dX2_reasons_14 rfl rfl ?_
    refine A_bipush (v := 7) dX2_reasons_15 (by decide) ?_
    refine A_icmp_gt_f (tgt := 40) dX2_reasons_17 (by decide) (by decide) ?_
    refine A_iload_n (i := 2) dX2_reasons_20 rfl rfl ?_
    refine A_aload_n (i := 0) dX2_reasons_21 rfl rfl ?_
    refine A_iload_n (i := 3) dX2_reasons_22 rfl rfl ?_
    refine A_iload_n (i := 1) dX2_reasons_23 rfl rfl ?_
    refine A_callV2E (v := some (.int (apI (m_now ms) f9 4))) (τ := mc b9 (⟨mayT (m_is ms) (bi (okF (m_is ms) (m_now ms) (nI f9))) 1, m_is ms, m_um ms, m_bd ms, m_pc ms, m_pa ms, m_sz ms, m_cu ms, m_st ms, m_tk ms, m_to ms, m_ps ms, m_now ms, m_asd ms, m_und ms, m_sav ms, m_isv ms, m_buf ms, m_grp ms, m_pag ms⟩ : MM) σ0) (c_applies b9 (⟨mayT (m_is ms) (bi (okF (m_is ms) (m_now ms) (nI f9))) 1, m_is ms, m_um ms, m_bd ms, m_pc ms, m_pa ms, m_sz ms, m_cu ms, m_st ms, m_tk ms, m_to ms, m_ps ms, m_now ms, m_asd ms, m_und ms, m_sav ms, m_isv ms, m_buf ms, m_grp ms, m_pag ms⟩ : MM) σ0 4 f9 (by first | assumption | omega) (by decide)) tX2_applies q2577 (mc_0 _ _ _) rfl rfl dX2_reasons_24 (by decide) (Nat.le_of_eq (Nat.zero_add _)) (Nat.le_of_ble_eq_true rfl) ?_
    refine A_callS1E (v := some (.int (oneI (apI (m_now ms) f9 4)))) (τ := mc b9 (⟨mayT (m_is ms) (bi (okF (m_is ms) (m_now ms) (nI f9))) 1, m_is ms, m_um ms, m_bd ms, m_pc ms, m_pa ms, m_sz ms, m_cu ms, m_st ms, m_tk ms, m_to ms, m_ps ms, m_now ms, m_asd ms, m_und ms, m_sav ms, m_isv ms, m_buf ms, m_grp ms, m_pag ms⟩ : MM) σ0) (c_one b9 (⟨mayT (m_is ms) (bi (okF (m_is ms) (m_now ms) (nI f9))) 1, m_is ms, m_um ms, m_bd ms, m_pc ms, m_pa ms, m_sz ms, m_cu ms, m_st ms, m_tk ms, m_to ms, m_ps ms, m_now ms, m_asd ms, m_und ms, m_sav ms, m_isv ms, m_buf ms, m_grp ms, m_pag ms⟩ : MM) σ0 (apI (m_now ms) f9 4)) tX2_one q2456 dX2_reasons_27 (by decide) (Nat.le_of_eq (Nat.zero_add _)) (Nat.le_of_ble_eq_true rfl) ?_
    refine A_int (w := (apI (m_now ms) f9 4)) (apI_01 _ _ _) ?_
    refine A_iload_n (i := 3) dX2_reasons_30 rfl rfl ?_
    refine A_ishl dX2_reasons_31 ?_
    refine A_ior dX2_reasons_32 ?_
    refine A_istore_n (i := 2) dX2_reasons_33 rfl (Nat.le_of_ble_eq_true rfl) ?_
    refine A_iinc (v := 5) dX2_reasons_34 rfl (by decide) (Nat.le_of_ble_eq_true rfl) ?_
    refine A_goto (tgt := 14) dX2_reasons_37 (by decide) ?_
    refine A_sub (L' := [(0, .ref b9), (1, .int (nI f9)), (2, .int (((((0 : Int32) ||| ((apI (m_now ms) f9 1) <<< ((1 : Int32) &&& 31))) ||| ((apI (m_now ms) f9 2) <<< ((2 : Int32) &&& 31))) ||| ((apI (m_now ms) f9 3) <<< ((3 : Int32) &&& 31))) ||| ((apI (m_now ms) f9 4) <<< ((4 : Int32) &&& 31)))), (3, .int 5)]) ⟨rfl, rfl, rfl, rfl, trivial⟩ ?_
    refine A_iload_n (i := 3) dX2_reasons_14 rfl rfl ?_
    refine A_bipush (v := 7) dX2_reasons_15 (by decide) ?_
    refine A_icmp_gt_f (tgt := 40) dX2_reasons_17 (by decide) (by decide) ?_
    refine A_iload_n (i := 2) dX2_reasons_20 rfl rfl ?_
    refine A_aload_n (i := 0) dX2_reasons_21 rfl rfl ?_
    refine A_iload_n (i := 3) dX2_reasons_22 rfl rfl ?_
    refine A_iload_n (i := 1) dX2_reasons_23 rfl rfl ?_
    refine A_callV2E (v := some (.int (apI (m_now ms) f9 5))) (τ := mc b9 (⟨mayT (m_is ms) (bi (okF (m_is ms) (m_now ms) (nI f9))) 1, m_is ms, m_um ms, m_bd ms, m_pc ms, m_pa ms, m_sz ms, m_cu ms, m_st ms, m_tk ms, m_to ms, m_ps ms, m_now ms, m_asd ms, m_und ms, m_sav ms, m_isv ms, m_buf ms, m_grp ms, m_pag ms⟩ : MM) σ0) (c_applies b9 (⟨mayT (m_is ms) (bi (okF (m_is ms) (m_now ms) (nI f9))) 1, m_is ms, m_um ms, m_bd ms, m_pc ms, m_pa ms, m_sz ms, m_cu ms, m_st ms, m_tk ms, m_to ms, m_ps ms, m_now ms, m_asd ms, m_und ms, m_sav ms, m_isv ms, m_buf ms, m_grp ms, m_pag ms⟩ : MM) σ0 5 f9 (by first | assumption | omega) (by decide)) tX2_applies q2577 (mc_0 _ _ _) rfl rfl dX2_reasons_24 (by decide) (Nat.le_of_eq (Nat.zero_add _)) (Nat.le_of_ble_eq_true rfl) ?_
    refine A_callS1E (v := some (.int (oneI (apI (m_now ms) f9 5)))) (τ := mc b9 (⟨mayT (m_is ms) (bi (okF (m_is ms) (m_now ms) (nI f9))) 1, m_is ms, m_um ms, m_bd ms, m_pc ms, m_pa ms, m_sz ms, m_cu ms, m_st ms, m_tk ms, m_to ms, m_ps ms, m_now ms, m_asd ms, m_und ms, m_sav ms, m_isv ms, m_buf ms, m_grp ms, m_pag ms⟩ : MM) σ0) (c_one b9 (⟨mayT (m_is ms) (bi (okF (m_is ms) (m_now ms) (nI f9))) 1, m_is ms, m_um ms, m_bd ms, m_pc ms, m_pa ms, m_sz ms, m_cu ms, m_st ms, m_tk ms, m_to ms, m_ps ms, m_now ms, m_asd ms, m_und ms, m_sav ms, m_isv ms, m_buf ms, m_grp ms, m_pag ms⟩ : MM) σ0 (apI (m_now ms) f9 5)) tX2_one q2456 dX2_reasons_27 (by decide) (Nat.le_of_eq (Nat.zero_add _)) (Nat.le_of_ble_eq_true rfl) ?_
    refine A_int (w := (apI (m_now ms) f9 5)) (apI_01 _ _ _) ?_
    refine A_iload_n (i := 3) dX2_reasons_30 rfl rfl ?_
    refine A_ishl dX2_reasons_31 ?_
    refine A_ior dX2_reasons_32 ?_
    refine A_istore_n (i := 2) dX2_reasons_33 rfl (Nat.le_of_ble_eq_true rfl) ?_
    refine A_iinc (v := 6) dX2_reasons_34 rfl (by decide) (Nat.le_of_ble_eq_true rfl) ?_
    refine A_goto (tgt := 14) dX2_reasons_37 (by decide) ?_
    refine A_sub (L' := [(0, .ref b9), (1, .int (nI f9)), (2, .int ((((((0 : Int32) ||| ((apI (m_now ms) f9 1) <<< ((1 : Int32) &&& 31))) ||| ((apI (m_now ms) f9 2) <<< ((2 : Int32) &&& 31))) ||| ((apI (m_now ms) f9 3) <<< ((3 : Int32) &&& 31))) ||| ((apI (m_now ms) f9 4) <<< ((4 : Int32) &&& 31))) ||| ((apI (m_now ms) f9 5) <<< ((5 : Int32) &&& 31)))), (3, .int 6)]) ⟨rfl, rfl, rfl, rfl, trivial⟩ ?_
    refine A_iload_n (i := 3) dX2_reasons_14 rfl rfl ?_
    refine A_bipush (v := 7) dX2_reasons_15 (by decide) ?_
    refine A_icmp_gt_f (tgt := 40) dX2_reasons_17 (by decide) (by decide) ?_
    refine A_iload_n (i := 2) dX2_reasons_20 rfl rfl ?_
    refine A_aload_n (i := 0) dX2_reasons_21 rfl rfl ?_
    refine A_iload_n (i := 3) dX2_reasons_22 rfl rfl ?_
    refine A_iload_n (i := 1) dX2_reasons_23 rfl rfl ?_
    refine A_callV2E (v := some (.int (apI (m_now ms) f9 6))) (τ := mc b9 (⟨mayT (m_is ms) (bi (okF (m_is ms) (m_now ms) (nI f9))) 1, m_is ms, m_um ms, m_bd ms, m_pc ms, m_pa ms, m_sz ms, m_cu ms, m_st ms, m_tk ms, m_to ms, m_ps ms, m_now ms, m_asd ms, m_und ms, m_sav ms, m_isv ms, m_buf ms, m_grp ms, m_pag ms⟩ : MM) σ0) (c_applies b9 (⟨mayT (m_is ms) (bi (okF (m_is ms) (m_now ms) (nI f9))) 1, m_is ms, m_um ms, m_bd ms, m_pc ms, m_pa ms, m_sz ms, m_cu ms, m_st ms, m_tk ms, m_to ms, m_ps ms, m_now ms, m_asd ms, m_und ms, m_sav ms, m_isv ms, m_buf ms, m_grp ms, m_pag ms⟩ : MM) σ0 6 f9 (by first | assumption | omega) (by decide)) tX2_applies q2577 (mc_0 _ _ _) rfl rfl dX2_reasons_24 (by decide) (Nat.le_of_eq (Nat.zero_add _)) (Nat.le_of_ble_eq_true rfl) ?_
    refine A_callS1E (v := some (.int (oneI (apI (m_now ms) f9 6)))) (τ := mc b9 (⟨mayT (m_is ms) (bi (okF (m_is ms) (m_now ms) (nI f9))) 1, m_is ms, m_um ms, m_bd ms, m_pc ms, m_pa ms, m_sz ms, m_cu ms, m_st ms, m_tk ms, m_to ms, m_ps ms, m_now ms, m_asd ms, m_und ms, m_sav ms, m_isv ms, m_buf ms, m_grp ms, m_pag ms⟩ : MM) σ0) (c_one b9 (⟨mayT (m_is ms) (bi (okF (m_is ms) (m_now ms) (nI f9))) 1, m_is ms, m_um ms, m_bd ms, m_pc ms, m_pa ms, m_sz ms, m_cu ms, m_st ms, m_tk ms, m_to ms, m_ps ms, m_now ms, m_asd ms, m_und ms, m_sav ms, m_isv ms, m_buf ms, m_grp ms, m_pag ms⟩ : MM) σ0 (apI (m_now ms) f9 6)) tX2_one q2456 dX2_reasons_27 (by decide) (Nat.le_of_eq (Nat.zero_add _)) (Nat.le_of_ble_eq_true rfl) ?_
    refine A_int (w := (apI (m_now ms) f9 6)) (apI_01 _ _ _) ?_
    refine A_iload_n (i := 3) dX2_reasons_30 rfl rfl ?_
    refine A_ishl dX2_reasons_31 ?_
    refine A_ior dX2_reasons_32 ?_
    refine A_istore_n (i := 2) dX2_reasons_33 rfl (Nat.le_of_ble_eq_true rfl) ?_
    refine A_iinc (v := 7) dX2_reasons_34 rfl (by decide) (Nat.le_of_ble_eq_true rfl) ?_
    refine A_goto (tgt := 14) dX2_reasons_37 (by decide) ?_
    refine A_sub (L' := [(0, .ref b9), (1, .int (nI f9)), (2, .int (((((((0 : Int32) ||| ((apI (m_now ms) f9 1) <<< ((1 : Int32) &&& 31))) ||| ((apI (m_now ms) f9 2) <<< ((2 : Int32) &&& 31))) ||| ((apI (m_now ms) f9 3) <<< ((3 : Int32) &&& 31))) ||| ((apI (m_now ms) f9 4) <<< ((4 : Int32) &&& 31))) ||| ((apI (m_now ms) f9 5) <<< ((5 : Int32) &&& 31))) ||| ((apI (m_now ms) f9 6) <<< ((6 : Int32) &&& 31)))), (3, .int 7)]) ⟨rfl, rfl, rfl, rfl, trivial⟩ ?_
    refine A_iload_n (i := 3) dX2_reasons_14 rfl rfl ?_
    refine A_bipush (v := 7) dX2_reasons_15 (by decide) ?_
    refine A_icmp_gt_f (tgt := 40) dX2_reasons_17 (by decide) (by decide) ?_
    refine A_iload_n (i := 2) dX2_reasons_20 rfl rfl ?_
    refine A_aload_n (i := 0) dX2_reasons_21 rfl rfl ?_
    refine A_iload_n (i := 3) dX2_reasons_22 rfl rfl ?_
    refine A_iload_n (i := 1) dX2_reasons_23 rfl rfl ?_
    refine A_callV2E (v := some (.int (apI (m_now ms) f9 7))) (τ := mc b9 (⟨mayT (m_is ms) (bi (okF (m_is ms) (m_now ms) (nI f9))) 1, m_is ms, m_um ms, m_bd ms, m_pc ms, m_pa ms, m_sz ms, m_cu ms, m_st ms, m_tk ms, m_to ms, m_ps ms, m_now ms, m_asd ms, m_und ms, m_sav ms, m_isv ms, m_buf ms, m_grp ms, m_pag ms⟩ : MM) σ0) (c_applies b9 (⟨mayT (m_is ms) (bi (okF (m_is ms) (m_now ms) (nI f9))) 1, m_is ms, m_um ms, m_bd ms, m_pc ms, m_pa ms, m_sz ms, m_cu ms, m_st ms, m_tk ms, m_to ms, m_ps ms, m_now ms, m_asd ms, m_und ms, m_sav ms, m_isv ms, m_buf ms, m_grp ms, m_pag ms⟩ : MM) σ0 7 f9 (by first | assumption | omega) (by decide)) tX2_applies q2577 (mc_0 _ _ _) rfl rfl dX2_reasons_24 (by decide) (Nat.le_of_eq (Nat.zero_add _)) (Nat.le_of_ble_eq_true rfl) ?_
    refine A_callS1E (v := some (.int (oneI (apI (m_now ms) f9 7)))) (τ := mc b9 (⟨mayT (m_is ms) (bi (okF (m_is ms) (m_now ms) (nI f9))) 1, m_is ms, m_um ms, m_bd ms, m_pc ms, m_pa ms, m_sz ms, m_cu ms, m_st ms, m_tk ms, m_to ms, m_ps ms, m_now ms, m_asd ms, m_und ms, m_sav ms, m_isv ms, m_buf ms, m_grp ms, m_pag ms⟩ : MM) σ0) (c_one b9 (⟨mayT (m_is ms) (bi (okF (m_is ms) (m_now ms) (nI f9))) 1, m_is ms, m_um ms, m_bd ms, m_pc ms, m_pa ms, m_sz ms, m_cu ms, m_st ms, m_tk ms, m_to ms, m_ps ms, m_now ms, m_asd ms, m_und ms, m_sav ms, m_isv ms, m_buf ms, m_grp ms, m_pag ms⟩ : MM) σ0 (apI (m_now ms) f9 7)) tX2_one q2456 dX2_reasons_27 (by decide) (Nat.le_of_eq (Nat.zero_add _)) (Nat.le_of_ble_eq_true rfl) ?_
    refine A_int (w := (apI (m_now ms) f9 7)) (apI_01 _ _ _) ?_
    refine A_iload_n (i := 3) dX2_reasons_30 rfl rfl ?_
    refine A_ishl dX2_reasons_31 ?_
    refine A_ior dX2_reasons_32 ?_
    refine A_istore_n (i := 2) dX2_reasons_33 rfl (Nat.le_of_ble_eq_true rfl) ?_
    refine A_iinc (v := 8) dX2_reasons_34 rfl (by decide) (Nat.le_of_ble_eq_true rfl) ?_
    refine A_goto (tgt := 14) dX2_reasons_37 (by decide) ?_
    refine A_sub (L' := [(0, .ref b9), (1, .int (nI f9)), (2, .int ((((((((0 : Int32) ||| ((apI (m_now ms) f9 1) <<< ((1 : Int32) &&& 31))) ||| ((apI (m_now ms) f9 2) <<< ((2 : Int32) &&& 31))) ||| ((apI (m_now ms) f9 3) <<< ((3 : Int32) &&& 31))) ||| ((apI (m_now ms) f9 4) <<< ((4 : Int32) &&& 31))) ||| ((apI (m_now ms) f9 5) <<< ((5 : Int32) &&& 31))) ||| ((apI (m_now ms) f9 6) <<< ((6 : Int32) &&& 31))) ||| ((apI (m_now ms) f9 7) <<< ((7 : Int32) &&& 31)))), (3, .int 8)]) ⟨rfl, rfl, rfl, rfl, trivial⟩ ?_
    refine A_iload_n (i := 3) dX2_reasons_14 rfl rfl ?_
    refine A_bipush (v := 7) dX2_reasons_15 (by decide) ?_
    refine A_icmp_gt_t (tgt := 40) dX2_reasons_17 (by decide) (by decide) ?_
    refine A_iload_n (i := 2) dX2_reasons_40 rfl rfl ?_
    exact A_iret dX2_reasons_41 rfl ⟨by rw [gd, if_pos c1, ixn (show f9 < 2000 by omega), reasN], rfl⟩
  · skip
    have c1 := bi_eq0.mp c1
    refine A_iconst (v := 0) dX2_reasons_8 (by decide) ?_
    exact A_iret dX2_reasons_9 rfl ⟨by rw [gd, if_neg c1], rfl⟩
theorem c_culprit {l : Launch} {g : GC} (b9 : Nat) (ms : MM) (σ0 : AH) (n : Int32) (h1 : WFc (m_now ms)) : AMet l g mX2_culprit 6 0 [.ref b9, .int n] (mc b9 ms σ0) (A_eq (some (.int (gd (mayT (m_is ms) (bi (okN (m_is ms) (m_now ms) n)) 1) (culpN (m_now ms) n)))) (mc b9 (⟨mayT (m_is ms) (bi (okN (m_is ms) (m_now ms) n)) 1, m_is ms, m_um ms, m_bd ms, m_pc ms, m_pa ms, m_sz ms, m_cu ms, m_st ms, m_tk ms, m_to ms, m_ps ms, m_now ms, m_asd ms, m_und ms, m_sav ms, m_isv ms, m_buf ms, m_grp ms, m_pag ms⟩ : MM) σ0)) A_no := by
  refine A_of rfl (by decide) (Nat.le_of_ble_eq_true rfl) (L0 := [(0, .ref b9), (1, .int n)]) rfl ?_
  refine A_aload_n (i := 0) dX2_culprit_0 rfl rfl ?_
  refine A_aload_n (i := 0) dX2_culprit_1 rfl rfl ?_
  refine M_get 6 (v := .int (m_is ms)) (Nat.le_of_ble_eq_true rfl) q2235 rfl dX2_culprit_2 ?_
  refine A_aload_n (i := 0) dX2_culprit_5 rfl rfl ?_
  refine A_iload_n (i := 1) dX2_culprit_6 rfl rfl ?_
  refine A_callV1E (v := some (.int (bi (okN (m_is ms) (m_now ms) n)))) (τ := mc b9 ms σ0) (c_isNation b9 ms σ0 n) tX2_isNation q2601 (mc_0 _ _ _) rfl rfl dX2_culprit_7 (by decide) (Nat.le_of_eq (Nat.zero_add _)) (Nat.le_of_ble_eq_true rfl) ?_
  refine A_callV2E (v := some (.int (bi (mayT (m_is ms) (bi (okN (m_is ms) (m_now ms) n)) 1 = 0)))) (τ := mc b9 (⟨mayT (m_is ms) (bi (okN (m_is ms) (m_now ms) n)) 1, m_is ms, m_um ms, m_bd ms, m_pc ms, m_pa ms, m_sz ms, m_cu ms, m_st ms, m_tk ms, m_to ms, m_ps ms, m_now ms, m_asd ms, m_und ms, m_sav ms, m_isv ms, m_buf ms, m_grp ms, m_pag ms⟩ : MM) σ0) (c_mayTwo b9 ms σ0 (m_is ms) (bi (okN (m_is ms) (m_now ms) n))) tX2_mayTwo q2565 (mc_0 _ _ _) rfl rfl dX2_culprit_10 (by decide) (Nat.le_of_eq (Nat.zero_add _)) (Nat.le_of_ble_eq_true rfl) ?_
  refine A_if_eq (tgt := 24) dX2_culprit_13 (by decide) (fun c1 => ?_) (fun c1 => ?_)
  · skip
    have c1 := bi_eq0.mp c1
    refine A_iconst (v := 0) dX2_culprit_24 (by decide) ?_
    exact A_iret dX2_culprit_25 rfl ⟨by rw [gd, if_neg c1], rfl⟩
  · skip
    have c1 := bi_ne0.mp c1
    refine A_aload_n (i := 0) dX2_culprit_16 rfl rfl ?_
    refine A_iload_n (i := 1) dX2_culprit_17 rfl rfl ?_
    refine A_callV1E (v := some (.int (culpN (m_now ms) n))) (τ := mc b9 (⟨mayT (m_is ms) (bi (okN (m_is ms) (m_now ms) n)) 1, m_is ms, m_um ms, m_bd ms, m_pc ms, m_pa ms, m_sz ms, m_cu ms, m_st ms, m_tk ms, m_to ms, m_ps ms, m_now ms, m_asd ms, m_und ms, m_sav ms, m_isv ms, m_buf ms, m_grp ms, m_pag ms⟩ : MM) σ0) (c_culpritOf b9 (⟨mayT (m_is ms) (bi (okN (m_is ms) (m_now ms) n)) 1, m_is ms, m_um ms, m_bd ms, m_pc ms, m_pa ms, m_sz ms, m_cu ms, m_st ms, m_tk ms, m_to ms, m_ps ms, m_now ms, m_asd ms, m_und ms, m_sav ms, m_isv ms, m_buf ms, m_grp ms, m_pag ms⟩ : MM) σ0 n (by first | assumption | omega)) tX2_culpritOf q2698 (mc_0 _ _ _) rfl rfl dX2_culprit_18 (by decide) (Nat.le_of_eq (Nat.zero_add _)) (Nat.le_of_ble_eq_true rfl) ?_
    refine A_goto (tgt := 25) dX2_culprit_21 (by decide) ?_
    exact A_iret dX2_culprit_25 rfl ⟨by rw [gd, if_pos c1] <;> first | with_reducible rfl | (simp [-Int32.not_lt, -Int32.not_le, ]; done) | (simp []), rfl⟩
theorem c_whyNotPut {l : Launch} {g : GC} (b9 : Nat) (ms : MM) (σ0 : AH) (f : Int32) (t : Int32) (h1 : WFc (m_now ms)) : AMet l g mX2_whyNotPut 6 0 [.ref b9, .int f, .int t] (mc b9 ms σ0) (A_eq (some (.int (gd (mayT (m_is ms) (bi (okB (m_is ms) (m_now ms) f t)) 1) (whyPutN (m_now ms) (ix f) (ix t))))) (mc b9 (⟨mayT (m_is ms) (bi (okB (m_is ms) (m_now ms) f t)) 1, m_is ms, m_um ms, m_bd ms, m_pc ms, m_pa ms, m_sz ms, m_cu ms, m_st ms, m_tk ms, m_to ms, m_ps ms, m_now ms, m_asd ms, m_und ms, m_sav ms, m_isv ms, m_buf ms, m_grp ms, m_pag ms⟩ : MM) σ0)) A_no := by
  refine A_of rfl (by decide) (Nat.le_of_ble_eq_true rfl) (L0 := [(0, .ref b9), (1, .int f), (2, .int t)]) rfl ?_
  have hF := h1.2.2.2.2.2
  have hC := h1.1.2
  have hT := h1.2.2.1.2
  refine A_aload_n (i := 0) dX2_whyNotPut_0 rfl rfl ?_
  refine A_aload_n (i := 0) dX2_whyNotPut_1 rfl rfl ?_
  refine M_get 6 (v := .int (m_is ms)) (Nat.le_of_ble_eq_true rfl) q2235 rfl dX2_whyNotPut_2 ?_
  refine A_aload_n (i := 0) dX2_whyNotPut_5 rfl rfl ?_
  refine A_iload_n (i := 1) dX2_whyNotPut_6 rfl rfl ?_
  refine A_callV1E (v := some (.int (bi (okF (m_is ms) (m_now ms) f)))) (τ := mc b9 ms σ0) (c_isFlag b9 ms σ0 f) tX2_isFlag q2629 (mc_0 _ _ _) rfl rfl dX2_whyNotPut_7 (by decide) (Nat.le_of_eq (Nat.zero_add _)) (Nat.le_of_ble_eq_true rfl) ?_
  refine A_if_eq (tgt := 25) dX2_whyNotPut_10 (by decide) (fun c1 => ?_) (fun c1 => ?_)
  · skip
    have c1 := bi_eq0.mp c1
    refine A_iconst (v := 0) dX2_whyNotPut_25 (by decide) ?_
    refine A_int (w := bi (okB (m_is ms) (m_now ms) f t)) ((bi_f (fun h9 => c1 h9.1)).symm) ?_
    refine A_callV2E (v := some (.int (bi (mayT (m_is ms) (bi (okB (m_is ms) (m_now ms) f t)) 1 = 0)))) (τ := mc b9 (⟨mayT (m_is ms) (bi (okB (m_is ms) (m_now ms) f t)) 1, m_is ms, m_um ms, m_bd ms, m_pc ms, m_pa ms, m_sz ms, m_cu ms, m_st ms, m_tk ms, m_to ms, m_ps ms, m_now ms, m_asd ms, m_und ms, m_sav ms, m_isv ms, m_buf ms, m_grp ms, m_pag ms⟩ : MM) σ0) (c_mayTwo b9 ms σ0 (m_is ms) (bi (okB (m_is ms) (m_now ms) f t))) tX2_mayTwo q2565 (mc_0 _ _ _) rfl rfl dX2_whyNotPut_26 (by decide) (Nat.le_of_eq (Nat.zero_add _)) (Nat.le_of_ble_eq_true rfl) ?_
    refine A_if_eq (tgt := 41) dX2_whyNotPut_29 (by decide) (fun c2 => ?_) (fun c2 => ?_)
    · skip
      have c2 := bi_eq0.mp c2
      refine A_iconst (v := 0) dX2_whyNotPut_41 (by decide) ?_
      exact A_iret dX2_whyNotPut_42 rfl ⟨by rw [gd, if_neg c2], rfl⟩
    · skip
      have c2 := bi_ne0.mp c2
      obtain ⟨f9, hf9, rfl⟩ := okF_ex h1 (mayT_y c2).1
      obtain ⟨t9, ht9, rfl⟩ := okT_ex h1 (mayT_y c2).2
      refine A_aload_n (i := 0) dX2_whyNotPut_32 rfl rfl ?_
      refine A_iload_n (i := 1) dX2_whyNotPut_33 rfl rfl ?_
      refine A_iload_n (i := 2) dX2_whyNotPut_34 rfl rfl ?_
      refine A_callV2E (v := some (.int (whyPutN (m_now ms) f9 t9))) (τ := mc b9 (⟨mayT (m_is ms) (bi (okB (m_is ms) (m_now ms) (nI f9) (nI t9))) 1, m_is ms, m_um ms, m_bd ms, m_pc ms, m_pa ms, m_sz ms, m_cu ms, m_st ms, m_tk ms, m_to ms, m_ps ms, m_now ms, m_asd ms, m_und ms, m_sav ms, m_isv ms, m_buf ms, m_grp ms, m_pag ms⟩ : MM) σ0) (c_whyPut b9 (⟨mayT (m_is ms) (bi (okB (m_is ms) (m_now ms) (nI f9) (nI t9))) 1, m_is ms, m_um ms, m_bd ms, m_pc ms, m_pa ms, m_sz ms, m_cu ms, m_st ms, m_tk ms, m_to ms, m_ps ms, m_now ms, m_asd ms, m_und ms, m_sav ms, m_isv ms, m_buf ms, m_grp ms, m_pag ms⟩ : MM) σ0 f9 t9 (by first | assumption | omega) (by first | assumption | omega) (by first | assumption | omega)) tX2_whyPut q2432 (mc_0 _ _ _) rfl rfl dX2_whyNotPut_35 (by decide) (Nat.le_of_eq (Nat.zero_add _)) (Nat.le_of_ble_eq_true rfl) ?_
      refine A_goto (tgt := 42) dX2_whyNotPut_38 (by decide) ?_
      exact A_iret dX2_whyNotPut_42 rfl ⟨by rw [gd, if_pos c2] <;> first | with_reducible rfl | (simp [-Int32.not_lt, -Int32.not_le, ixn (show f9 < 2000 by omega), ixn (show t9 < 2000 by omega)]; done) | (simp [ixn (show f9 < 2000 by omega), ixn (show t9 < 2000 by omega)]), rfl⟩
  · skip
    have c1 := bi_ne0.mp c1
    refine A_aload_n (i := 0) dX2_whyNotPut_13 rfl rfl ?_
    refine A_iload_n (i := 2) dX2_whyNotPut_14 rfl rfl ?_
    refine A_callV1E (v := some (.int (bi (okT (m_is ms) (m_now ms) t)))) (τ := mc b9 ms σ0) (c_isTub b9 ms σ0 t) tX2_isTub q2637 (mc_0 _ _ _) rfl rfl dX2_whyNotPut_15 (by decide) (Nat.le_of_eq (Nat.zero_add _)) (Nat.le_of_ble_eq_true rfl) ?_
    refine A_if_eq (tgt := 25) dX2_whyNotPut_18 (by decide) (fun c3 => ?_) (fun c3 => ?_)
    · skip
      have c3 := bi_eq0.mp c3
      refine A_iconst (v := 0) dX2_whyNotPut_25 (by decide) ?_
      refine A_int (w := bi (okB (m_is ms) (m_now ms) f t)) ((bi_f (fun h9 => c3 h9.2)).symm) ?_
      refine A_callV2E (v := some (.int (bi (mayT (m_is ms) (bi (okB (m_is ms) (m_now ms) f t)) 1 = 0)))) (τ := mc b9 (⟨mayT (m_is ms) (bi (okB (m_is ms) (m_now ms) f t)) 1, m_is ms, m_um ms, m_bd ms, m_pc ms, m_pa ms, m_sz ms, m_cu ms, m_st ms, m_tk ms, m_to ms, m_ps ms, m_now ms, m_asd ms, m_und ms, m_sav ms, m_isv ms, m_buf ms, m_grp ms, m_pag ms⟩ : MM) σ0) (c_mayTwo b9 ms σ0 (m_is ms) (bi (okB (m_is ms) (m_now ms) f t))) tX2_mayTwo q2565 (mc_0 _ _ _) rfl rfl dX2_whyNotPut_26 (by decide) (Nat.le_of_eq (Nat.zero_add _)) (Nat.le_of_ble_eq_true rfl) ?_
      refine A_if_eq (tgt := 41) dX2_whyNotPut_29 (by decide) (fun c4 => ?_) (fun c4 => ?_)
      · skip
        have c4 := bi_eq0.mp c4
        refine A_iconst (v := 0) dX2_whyNotPut_41 (by decide) ?_
        exact A_iret dX2_whyNotPut_42 rfl ⟨by rw [gd, if_neg c4], rfl⟩
      · skip
        have c4 := bi_ne0.mp c4
        obtain ⟨f9, hf9, rfl⟩ := okF_ex h1 (mayT_y c4).1
        obtain ⟨t9, ht9, rfl⟩ := okT_ex h1 (mayT_y c4).2
        refine A_aload_n (i := 0) dX2_whyNotPut_32 rfl rfl ?_
        refine A_iload_n (i := 1) dX2_whyNotPut_33 rfl rfl ?_
        refine A_iload_n (i := 2) dX2_whyNotPut_34 rfl rfl ?_
        refine A_callV2E (v := some (.int (whyPutN (m_now ms) f9 t9))) (τ := mc b9 (⟨mayT (m_is ms) (bi (okB (m_is ms) (m_now ms) (nI f9) (nI t9))) 1, m_is ms, m_um ms, m_bd ms, m_pc ms, m_pa ms, m_sz ms, m_cu ms, m_st ms, m_tk ms, m_to ms, m_ps ms, m_now ms, m_asd ms, m_und ms, m_sav ms, m_isv ms, m_buf ms, m_grp ms, m_pag ms⟩ : MM) σ0) (c_whyPut b9 (⟨mayT (m_is ms) (bi (okB (m_is ms) (m_now ms) (nI f9) (nI t9))) 1, m_is ms, m_um ms, m_bd ms, m_pc ms, m_pa ms, m_sz ms, m_cu ms, m_st ms, m_tk ms, m_to ms, m_ps ms, m_now ms, m_asd ms, m_und ms, m_sav ms, m_isv ms, m_buf ms, m_grp ms, m_pag ms⟩ : MM) σ0 f9 t9 (by first | assumption | omega) (by first | assumption | omega) (by first | assumption | omega)) tX2_whyPut q2432 (mc_0 _ _ _) rfl rfl dX2_whyNotPut_35 (by decide) (Nat.le_of_eq (Nat.zero_add _)) (Nat.le_of_ble_eq_true rfl) ?_
        refine A_goto (tgt := 42) dX2_whyNotPut_38 (by decide) ?_
        exact A_iret dX2_whyNotPut_42 rfl ⟨by rw [gd, if_pos c4] <;> first | with_reducible rfl | (simp [-Int32.not_lt, -Int32.not_le, ixn (show f9 < 2000 by omega), ixn (show t9 < 2000 by omega)]; done) | (simp [ixn (show f9 < 2000 by omega), ixn (show t9 < 2000 by omega)]), rfl⟩
    · skip
      have c3 := bi_ne0.mp c3
      refine A_iconst (v := 1) dX2_whyNotPut_21 (by decide) ?_
      refine A_goto (tgt := 26) dX2_whyNotPut_22 (by decide) ?_
      refine A_int (w := bi (okB (m_is ms) (m_now ms) f t)) ((bi_t ⟨c1, c3⟩).symm) ?_
      refine A_callV2E (v := some (.int (bi (mayT (m_is ms) (bi (okB (m_is ms) (m_now ms) f t)) 1 = 0)))) (τ := mc b9 (⟨mayT (m_is ms) (bi (okB (m_is ms) (m_now ms) f t)) 1, m_is ms, m_um ms, m_bd ms, m_pc ms, m_pa ms, m_sz ms, m_cu ms, m_st ms, m_tk ms, m_to ms, m_ps ms, m_now ms, m_asd ms, m_und ms, m_sav ms, m_isv ms, m_buf ms, m_grp ms, m_pag ms⟩ : MM) σ0) (c_mayTwo b9 ms σ0 (m_is ms) (bi (okB (m_is ms) (m_now ms) f t))) tX2_mayTwo q2565 (mc_0 _ _ _) rfl rfl dX2_whyNotPut_26 (by decide) (Nat.le_of_eq (Nat.zero_add _)) (Nat.le_of_ble_eq_true rfl) ?_
      refine A_if_eq (tgt := 41) dX2_whyNotPut_29 (by decide) (fun c5 => ?_) (fun c5 => ?_)
      · skip
        have c5 := bi_eq0.mp c5
        refine A_iconst (v := 0) dX2_whyNotPut_41 (by decide) ?_
        exact A_iret dX2_whyNotPut_42 rfl ⟨by rw [gd, if_neg c5], rfl⟩
      · skip
        have c5 := bi_ne0.mp c5
        obtain ⟨f9, hf9, rfl⟩ := okF_ex h1 (mayT_y c5).1
        obtain ⟨t9, ht9, rfl⟩ := okT_ex h1 (mayT_y c5).2
        refine A_aload_n (i := 0) dX2_whyNotPut_32 rfl rfl ?_
        refine A_iload_n (i := 1) dX2_whyNotPut_33 rfl rfl ?_
        refine A_iload_n (i := 2) dX2_whyNotPut_34 rfl rfl ?_
        refine A_callV2E (v := some (.int (whyPutN (m_now ms) f9 t9))) (τ := mc b9 (⟨mayT (m_is ms) (bi (okB (m_is ms) (m_now ms) (nI f9) (nI t9))) 1, m_is ms, m_um ms, m_bd ms, m_pc ms, m_pa ms, m_sz ms, m_cu ms, m_st ms, m_tk ms, m_to ms, m_ps ms, m_now ms, m_asd ms, m_und ms, m_sav ms, m_isv ms, m_buf ms, m_grp ms, m_pag ms⟩ : MM) σ0) (c_whyPut b9 (⟨mayT (m_is ms) (bi (okB (m_is ms) (m_now ms) (nI f9) (nI t9))) 1, m_is ms, m_um ms, m_bd ms, m_pc ms, m_pa ms, m_sz ms, m_cu ms, m_st ms, m_tk ms, m_to ms, m_ps ms, m_now ms, m_asd ms, m_und ms, m_sav ms, m_isv ms, m_buf ms, m_grp ms, m_pag ms⟩ : MM) σ0 f9 t9 (by first | assumption | omega) (by first | assumption | omega) (by first | assumption | omega)) tX2_whyPut q2432 (mc_0 _ _ _) rfl rfl dX2_whyNotPut_35 (by decide) (Nat.le_of_eq (Nat.zero_add _)) (Nat.le_of_ble_eq_true rfl) ?_
        refine A_goto (tgt := 42) dX2_whyNotPut_38 (by decide) ?_
        exact A_iret dX2_whyNotPut_42 rfl ⟨by rw [gd, if_pos c5] <;> first | with_reducible rfl | (simp [-Int32.not_lt, -Int32.not_le, ixn (show f9 < 2000 by omega), ixn (show t9 < 2000 by omega)]; done) | (simp [ixn (show f9 < 2000 by omega), ixn (show t9 < 2000 by omega)]), rfl⟩
theorem c_whyNotWash {l : Launch} {g : GC} (b9 : Nat) (ms : MM) (σ0 : AH) (t : Int32) (h : Int32) (h1 : WFc (m_now ms)) : AMet l g mX2_whyNotWash 6 0 [.ref b9, .int t, .int h] (mc b9 ms σ0) (A_eq (some (.int (gd (mayT (m_is ms) (bi (okT (m_is ms) (m_now ms) t)) (bi (inR h 0 3))) (whyWashN (m_now ms) t h)))) (mc b9 (⟨mayT (m_is ms) (bi (okT (m_is ms) (m_now ms) t)) (bi (inR h 0 3)), m_is ms, m_um ms, m_bd ms, m_pc ms, m_pa ms, m_sz ms, m_cu ms, m_st ms, m_tk ms, m_to ms, m_ps ms, m_now ms, m_asd ms, m_und ms, m_sav ms, m_isv ms, m_buf ms, m_grp ms, m_pag ms⟩ : MM) σ0)) A_no := by
  refine A_of rfl (by decide) (Nat.le_of_ble_eq_true rfl) (L0 := [(0, .ref b9), (1, .int t), (2, .int h)]) rfl ?_
  refine A_aload_n (i := 0) dX2_whyNotWash_0 rfl rfl ?_
  refine A_iload_n (i := 1) dX2_whyNotWash_1 rfl rfl ?_
  refine A_iload_n (i := 2) dX2_whyNotWash_2 rfl rfl ?_
  refine A_callV2E (v := some (.int (bi (mayT (m_is ms) (bi (okT (m_is ms) (m_now ms) t)) (bi (inR h 0 3)) = 0)))) (τ := mc b9 (⟨mayT (m_is ms) (bi (okT (m_is ms) (m_now ms) t)) (bi (inR h 0 3)), m_is ms, m_um ms, m_bd ms, m_pc ms, m_pa ms, m_sz ms, m_cu ms, m_st ms, m_tk ms, m_to ms, m_ps ms, m_now ms, m_asd ms, m_und ms, m_sav ms, m_isv ms, m_buf ms, m_grp ms, m_pag ms⟩ : MM) σ0) (c_mayHeat b9 ms σ0 t h) tX2_mayHeat q2710 (mc_0 _ _ _) rfl rfl dX2_whyNotWash_3 (by decide) (Nat.le_of_eq (Nat.zero_add _)) (Nat.le_of_ble_eq_true rfl) ?_
  refine A_if_eq (tgt := 18) dX2_whyNotWash_6 (by decide) (fun c1 => ?_) (fun c1 => ?_)
  · skip
    have c1 := bi_eq0.mp c1
    refine A_iconst (v := 0) dX2_whyNotWash_18 (by decide) ?_
    exact A_iret dX2_whyNotWash_19 rfl ⟨by rw [gd, if_neg c1], rfl⟩
  · skip
    have c1 := bi_ne0.mp c1
    refine A_aload_n (i := 0) dX2_whyNotWash_9 rfl rfl ?_
    refine A_iload_n (i := 1) dX2_whyNotWash_10 rfl rfl ?_
    refine A_iload_n (i := 2) dX2_whyNotWash_11 rfl rfl ?_
    refine A_callV2E (v := some (.int (whyWashN (m_now ms) t h))) (τ := mc b9 (⟨mayT (m_is ms) (bi (okT (m_is ms) (m_now ms) t)) (bi (inR h 0 3)), m_is ms, m_um ms, m_bd ms, m_pc ms, m_pa ms, m_sz ms, m_cu ms, m_st ms, m_tk ms, m_to ms, m_ps ms, m_now ms, m_asd ms, m_und ms, m_sav ms, m_isv ms, m_buf ms, m_grp ms, m_pag ms⟩ : MM) σ0) (c_whyWash b9 (⟨mayT (m_is ms) (bi (okT (m_is ms) (m_now ms) t)) (bi (inR h 0 3)), m_is ms, m_um ms, m_bd ms, m_pc ms, m_pa ms, m_sz ms, m_cu ms, m_st ms, m_tk ms, m_to ms, m_ps ms, m_now ms, m_asd ms, m_und ms, m_sav ms, m_isv ms, m_buf ms, m_grp ms, m_pag ms⟩ : MM) σ0 t h (by first | assumption | omega)) tX2_whyWash q2468 (mc_0 _ _ _) rfl rfl dX2_whyNotWash_12 (by decide) (Nat.le_of_eq (Nat.zero_add _)) (Nat.le_of_ble_eq_true rfl) ?_
    refine A_goto (tgt := 19) dX2_whyNotWash_15 (by decide) ?_
    exact A_iret dX2_whyNotWash_19 rfl ⟨by rw [gd, if_pos c1] <;> first | with_reducible rfl | (simp [-Int32.not_lt, -Int32.not_le, ]; done) | (simp []), rfl⟩
theorem c_whyNotIron {l : Launch} {g : GC} (b9 : Nat) (ms : MM) (σ0 : AH) (f : Int32) (h : Int32) (h1 : WFc (m_now ms)) : AMet l g mX2_whyNotIron 5 0 [.ref b9, .int f, .int h] (mc b9 ms σ0) (A_eq (some (.int (gd (mayT (m_is ms) (bi (okF (m_is ms) (m_now ms) f)) (bi (inR h 0 3))) (whyIronN (m_now ms) (ix f) h)))) (mc b9 (⟨mayT (m_is ms) (bi (okF (m_is ms) (m_now ms) f)) (bi (inR h 0 3)), m_is ms, m_um ms, m_bd ms, m_pc ms, m_pa ms, m_sz ms, m_cu ms, m_st ms, m_tk ms, m_to ms, m_ps ms, m_now ms, m_asd ms, m_und ms, m_sav ms, m_isv ms, m_buf ms, m_grp ms, m_pag ms⟩ : MM) σ0)) A_no := by
  refine A_of rfl (by decide) (Nat.le_of_ble_eq_true rfl) (L0 := [(0, .ref b9), (1, .int f), (2, .int h)]) rfl ?_
  have hF := h1.2.2.2.2.2
  have hC := h1.1.2
  refine A_aload_n (i := 0) dX2_whyNotIron_0 rfl rfl ?_
  refine A_aload_n (i := 0) dX2_whyNotIron_1 rfl rfl ?_
  refine M_get 6 (v := .int (m_is ms)) (Nat.le_of_ble_eq_true rfl) q2235 rfl dX2_whyNotIron_2 ?_
  refine A_aload_n (i := 0) dX2_whyNotIron_5 rfl rfl ?_
  refine A_iload_n (i := 1) dX2_whyNotIron_6 rfl rfl ?_
  refine A_callV1E (v := some (.int (bi (okF (m_is ms) (m_now ms) f)))) (τ := mc b9 ms σ0) (c_isFlag b9 ms σ0 f) tX2_isFlag q2629 (mc_0 _ _ _) rfl rfl dX2_whyNotIron_7 (by decide) (Nat.le_of_eq (Nat.zero_add _)) (Nat.le_of_ble_eq_true rfl) ?_
  refine A_iload_n (i := 2) dX2_whyNotIron_10 rfl rfl ?_
  refine A_callS1E (v := some (.int (bi (inR h 0 3)))) (τ := mc b9 ms σ0) (c_isHeat b9 ms σ0 h) tX2_isHeat q2714 dX2_whyNotIron_11 (by decide) (Nat.le_of_eq (Nat.zero_add _)) (Nat.le_of_ble_eq_true rfl) ?_
  refine A_callV3E (v := some (.int (bi (mayT (m_is ms) (bi (okF (m_is ms) (m_now ms) f)) (bi (inR h 0 3)) = 0)))) (τ := mc b9 (⟨mayT (m_is ms) (bi (okF (m_is ms) (m_now ms) f)) (bi (inR h 0 3)), m_is ms, m_um ms, m_bd ms, m_pc ms, m_pa ms, m_sz ms, m_cu ms, m_st ms, m_tk ms, m_to ms, m_ps ms, m_now ms, m_asd ms, m_und ms, m_sav ms, m_isv ms, m_buf ms, m_grp ms, m_pag ms⟩ : MM) σ0) (c_may b9 ms σ0 (m_is ms) (bi (okF (m_is ms) (m_now ms) f)) (bi (inR h 0 3))) tX2_may q2322 (mc_0 _ _ _) rfl rfl dX2_whyNotIron_14 (by decide) (Nat.le_of_eq (Nat.zero_add _)) (Nat.le_of_ble_eq_true rfl) ?_
  refine A_if_eq (tgt := 29) dX2_whyNotIron_17 (by decide) (fun c1 => ?_) (fun c1 => ?_)
  · skip
    have c1 := bi_eq0.mp c1
    refine A_iconst (v := 0) dX2_whyNotIron_29 (by decide) ?_
    exact A_iret dX2_whyNotIron_30 rfl ⟨by rw [gd, if_neg c1], rfl⟩
  · skip
    have c1 := bi_ne0.mp c1
    obtain ⟨f9, hf9, rfl⟩ := okF_ex h1 (mayT_y c1)
    refine A_aload_n (i := 0) dX2_whyNotIron_20 rfl rfl ?_
    refine A_iload_n (i := 1) dX2_whyNotIron_21 rfl rfl ?_
    refine A_iload_n (i := 2) dX2_whyNotIron_22 rfl rfl ?_
    refine A_callV2E (v := some (.int (whyIronN (m_now ms) f9 h))) (τ := mc b9 (⟨mayT (m_is ms) (bi (okF (m_is ms) (m_now ms) (nI f9))) (bi (inR h 0 3)), m_is ms, m_um ms, m_bd ms, m_pc ms, m_pa ms, m_sz ms, m_cu ms, m_st ms, m_tk ms, m_to ms, m_ps ms, m_now ms, m_asd ms, m_und ms, m_sav ms, m_isv ms, m_buf ms, m_grp ms, m_pag ms⟩ : MM) σ0) (c_whyIron b9 (⟨mayT (m_is ms) (bi (okF (m_is ms) (m_now ms) (nI f9))) (bi (inR h 0 3)), m_is ms, m_um ms, m_bd ms, m_pc ms, m_pa ms, m_sz ms, m_cu ms, m_st ms, m_tk ms, m_to ms, m_ps ms, m_now ms, m_asd ms, m_und ms, m_sav ms, m_isv ms, m_buf ms, m_grp ms, m_pag ms⟩ : MM) σ0 f9 h (by first | assumption | omega)) tX2_whyIron q2721 (mc_0 _ _ _) rfl rfl dX2_whyNotIron_23 (by decide) (Nat.le_of_eq (Nat.zero_add _)) (Nat.le_of_ble_eq_true rfl) ?_
    refine A_goto (tgt := 30) dX2_whyNotIron_26 (by decide) ?_
    exact A_iret dX2_whyNotIron_30 rfl ⟨by rw [gd, if_pos c1] <;> first | with_reducible rfl | (simp [-Int32.not_lt, -Int32.not_le, ixn (show f9 < 2000 by omega)]; done) | (simp [ixn (show f9 < 2000 by omega)]), rfl⟩
theorem c_whyBleach {l : Launch} {g : GC} (b9 : Nat) (ms : MM) (σ0 : AH) (f : Nat) (h1 : f < 12) : AMet l g mX2_whyBleach 4 0 [.ref b9, .int (nI f)] (mc b9 ms σ0) (A_eq (some (.int (whyBlN (m_now ms) f))) (mc b9 ms σ0)) A_no := by
  refine A_of rfl (by decide) (Nat.le_of_ble_eq_true rfl) (L0 := [(0, .ref b9), (1, .int (nI f))]) rfl ?_
  refine A_aload_n (i := 0) dX2_whyBleach_0 rfl rfl ?_
  refine A_iload_n (i := 1) dX2_whyBleach_1 rfl rfl ?_
  refine A_callV1E (v := some (.int (bi (inBasket (m_now ms) f)))) (τ := mc b9 ms σ0) (c_isInBasket b9 ms σ0 f (by first | assumption | omega)) tX2_isInBasket q2436 (mc_0 _ _ _) rfl rfl dX2_whyBleach_2 (by decide) (Nat.le_of_eq (Nat.zero_add _)) (Nat.le_of_ble_eq_true rfl) ?_
  refine A_if_ne (tgt := 10) dX2_whyBleach_5 (by decide) (fun c1 => ?_) (fun c1 => ?_)
  · skip
    have c1 := bi_ne0.mp c1
    refine A_aload_n (i := 0) dX2_whyBleach_10 rfl rfl ?_
    refine A_iload_n (i := 1) dX2_whyBleach_11 rfl rfl ?_
    refine A_bipush (v := 6) dX2_whyBleach_12 (by decide) ?_
    refine A_callV2E (v := some (.int (fl (m_now ms) f 6))) (τ := mc b9 ms σ0) (c_ofFlag b9 ms σ0 f 6 (by first | assumption | omega) (by first | assumption | omega)) tX2_ofFlag q2444 (mc_0 _ _ _) rfl rfl dX2_whyBleach_14 (by decide) (Nat.le_of_eq (Nat.zero_add _)) (Nat.le_of_ble_eq_true rfl) ?_
    refine A_if_ne (tgt := 22) dX2_whyBleach_17 (by decide) (fun c2 => ?_) (fun c2 => ?_)
    · skip
      refine A_aload_n (i := 0) dX2_whyBleach_22 rfl rfl ?_
      refine A_iload_n (i := 1) dX2_whyBleach_23 rfl rfl ?_
      refine A_bipush (v := 7) dX2_whyBleach_24 (by decide) ?_
      refine A_callV2E (v := some (.int (fl (m_now ms) f 7))) (τ := mc b9 ms σ0) (c_ofFlag b9 ms σ0 f 7 (by first | assumption | omega) (by first | assumption | omega)) tX2_ofFlag q2444 (mc_0 _ _ _) rfl rfl dX2_whyBleach_26 (by decide) (Nat.le_of_eq (Nat.zero_add _)) (Nat.le_of_ble_eq_true rfl) ?_
      refine A_iconst (v := 2) dX2_whyBleach_29 (by decide) ?_
      refine A_icmp_ne (tgt := 37) dX2_whyBleach_30 (by decide) (fun c3 => ?_) (fun c3 => ?_)
      · skip
        refine A_iconst (v := 0) dX2_whyBleach_37 (by decide) ?_
        exact A_iret dX2_whyBleach_38 rfl ⟨by simp [-Int32.not_lt, -Int32.not_le, whyBlN, c1, c2, c3], rfl⟩
      · skip
        refine A_iconst (v := 3) dX2_whyBleach_33 (by decide) ?_
        refine A_goto (tgt := 38) dX2_whyBleach_34 (by decide) ?_
        exact A_iret dX2_whyBleach_38 rfl ⟨by simp [-Int32.not_lt, -Int32.not_le, whyBlN, c1, c2, c3], rfl⟩
    · skip
      refine A_iconst (v := 2) dX2_whyBleach_20 (by decide) ?_
      exact A_iret dX2_whyBleach_21 rfl ⟨by simp [-Int32.not_lt, -Int32.not_le, whyBlN, c1, c2], rfl⟩
  · skip
    have c1 := bi_eq0.mp c1
    refine A_iconst (v := 1) dX2_whyBleach_8 (by decide) ?_
    exact A_iret dX2_whyBleach_9 rfl ⟨by simp [-Int32.not_lt, -Int32.not_le, whyBlN, c1], rfl⟩
theorem c_whyNotBleach {l : Launch} {g : GC} (b9 : Nat) (ms : MM) (σ0 : AH) (f : Int32) (h1 : WFc (m_now ms)) : AMet l g mX2_whyNotBleach 5 0 [.ref b9, .int f] (mc b9 ms σ0) (A_eq (some (.int (gd (mayT (m_is ms) (bi (okF (m_is ms) (m_now ms) f)) 1) (whyBlN (m_now ms) (ix f))))) (mc b9 (⟨mayT (m_is ms) (bi (okF (m_is ms) (m_now ms) f)) 1, m_is ms, m_um ms, m_bd ms, m_pc ms, m_pa ms, m_sz ms, m_cu ms, m_st ms, m_tk ms, m_to ms, m_ps ms, m_now ms, m_asd ms, m_und ms, m_sav ms, m_isv ms, m_buf ms, m_grp ms, m_pag ms⟩ : MM) σ0)) A_no := by
  refine A_of rfl (by decide) (Nat.le_of_ble_eq_true rfl) (L0 := [(0, .ref b9), (1, .int f)]) rfl ?_
  have hF := h1.2.2.2.2.2
  have hC := h1.1.2
  refine A_aload_n (i := 0) dX2_whyNotBleach_0 rfl rfl ?_
  refine A_iload_n (i := 1) dX2_whyNotBleach_1 rfl rfl ?_
  refine A_callV1E (v := some (.int (bi (mayT (m_is ms) (bi (okF (m_is ms) (m_now ms) f)) 1 = 0)))) (τ := mc b9 (⟨mayT (m_is ms) (bi (okF (m_is ms) (m_now ms) f)) 1, m_is ms, m_um ms, m_bd ms, m_pc ms, m_pa ms, m_sz ms, m_cu ms, m_st ms, m_tk ms, m_to ms, m_ps ms, m_now ms, m_asd ms, m_und ms, m_sav ms, m_isv ms, m_buf ms, m_grp ms, m_pag ms⟩ : MM) σ0) (c_mayFlag b9 ms σ0 f) tX2_mayFlag q2686 (mc_0 _ _ _) rfl rfl dX2_whyNotBleach_2 (by decide) (Nat.le_of_eq (Nat.zero_add _)) (Nat.le_of_ble_eq_true rfl) ?_
  refine A_if_eq (tgt := 16) dX2_whyNotBleach_5 (by decide) (fun c1 => ?_) (fun c1 => ?_)
  · skip
    have c1 := bi_eq0.mp c1
    refine A_iconst (v := 0) dX2_whyNotBleach_16 (by decide) ?_
    exact A_iret dX2_whyNotBleach_17 rfl ⟨by rw [gd, if_neg c1], rfl⟩
  · skip
    have c1 := bi_ne0.mp c1
    obtain ⟨f9, hf9, rfl⟩ := okF_ex h1 (mayT_y c1)
    refine A_aload_n (i := 0) dX2_whyNotBleach_8 rfl rfl ?_
    refine A_iload_n (i := 1) dX2_whyNotBleach_9 rfl rfl ?_
    refine A_callV1E (v := some (.int (whyBlN (m_now ms) f9))) (τ := mc b9 (⟨mayT (m_is ms) (bi (okF (m_is ms) (m_now ms) (nI f9))) 1, m_is ms, m_um ms, m_bd ms, m_pc ms, m_pa ms, m_sz ms, m_cu ms, m_st ms, m_tk ms, m_to ms, m_ps ms, m_now ms, m_asd ms, m_und ms, m_sav ms, m_isv ms, m_buf ms, m_grp ms, m_pag ms⟩ : MM) σ0) (c_whyBleach b9 (⟨mayT (m_is ms) (bi (okF (m_is ms) (m_now ms) (nI f9))) 1, m_is ms, m_um ms, m_bd ms, m_pc ms, m_pa ms, m_sz ms, m_cu ms, m_st ms, m_tk ms, m_to ms, m_ps ms, m_now ms, m_asd ms, m_und ms, m_sav ms, m_isv ms, m_buf ms, m_grp ms, m_pag ms⟩ : MM) σ0 f9 (by first | assumption | omega)) tX2_whyBleach q2729 (mc_0 _ _ _) rfl rfl dX2_whyNotBleach_10 (by decide) (Nat.le_of_eq (Nat.zero_add _)) (Nat.le_of_ble_eq_true rfl) ?_
    refine A_goto (tgt := 17) dX2_whyNotBleach_13 (by decide) ?_
    exact A_iret dX2_whyNotBleach_17 rfl ⟨by rw [gd, if_pos c1] <;> first | with_reducible rfl | (simp [-Int32.not_lt, -Int32.not_le, ixn (show f9 < 2000 by omega)]; done) | (simp [ixn (show f9 < 2000 by omega)]), rfl⟩
theorem c_running {l : Launch} {g : GC} (b9 : Nat) (ms : MM) (σ0 : AH) (t : Int32) (h : Int32) (h1 : WFc (m_now ms)) : AMet l g mX2_running 5 0 [.ref b9, .int t, .int h] (mc b9 ms σ0) (A_eq (some (.int (gd (mayT (m_is ms) (bi (okT (m_is ms) (m_now ms) t)) (bi (inR h 0 3))) (runIn (m_now ms) t h)))) (mc b9 (⟨mayT (m_is ms) (bi (okT (m_is ms) (m_now ms) t)) (bi (inR h 0 3)), m_is ms, m_um ms, m_bd ms, m_pc ms, m_pa ms, m_sz ms, m_cu ms, m_st ms, m_tk ms, m_to ms, m_ps ms, m_now ms, m_asd ms, m_und ms, m_sav ms, m_isv ms, m_buf ms, m_grp ms, m_pag ms⟩ : MM) σ0)) A_no := by
  refine A_of rfl (by decide) (Nat.le_of_ble_eq_true rfl) (L0 := [(0, .ref b9), (1, .int t), (2, .int h)]) rfl ?_
  refine A_aload_n (i := 0) dX2_running_0 rfl rfl ?_
  refine A_iload_n (i := 1) dX2_running_1 rfl rfl ?_
  refine A_iload_n (i := 2) dX2_running_2 rfl rfl ?_
  refine A_callV2E (v := some (.int (bi (mayT (m_is ms) (bi (okT (m_is ms) (m_now ms) t)) (bi (inR h 0 3)) = 0)))) (τ := mc b9 (⟨mayT (m_is ms) (bi (okT (m_is ms) (m_now ms) t)) (bi (inR h 0 3)), m_is ms, m_um ms, m_bd ms, m_pc ms, m_pa ms, m_sz ms, m_cu ms, m_st ms, m_tk ms, m_to ms, m_ps ms, m_now ms, m_asd ms, m_und ms, m_sav ms, m_isv ms, m_buf ms, m_grp ms, m_pag ms⟩ : MM) σ0) (c_mayHeat b9 ms σ0 t h) tX2_mayHeat q2710 (mc_0 _ _ _) rfl rfl dX2_running_3 (by decide) (Nat.le_of_eq (Nat.zero_add _)) (Nat.le_of_ble_eq_true rfl) ?_
  refine A_if_eq (tgt := 18) dX2_running_6 (by decide) (fun c1 => ?_) (fun c1 => ?_)
  · skip
    have c1 := bi_eq0.mp c1
    refine A_iconst (v := 0) dX2_running_18 (by decide) ?_
    exact A_iret dX2_running_19 rfl ⟨by rw [gd, if_neg c1], rfl⟩
  · skip
    have c1 := bi_ne0.mp c1
    refine A_aload_n (i := 0) dX2_running_9 rfl rfl ?_
    refine A_iload_n (i := 1) dX2_running_10 rfl rfl ?_
    refine A_iload_n (i := 2) dX2_running_11 rfl rfl ?_
    refine A_callV2E (v := some (.int (runIn (m_now ms) t h))) (τ := mc b9 (⟨mayT (m_is ms) (bi (okT (m_is ms) (m_now ms) t)) (bi (inR h 0 3)), m_is ms, m_um ms, m_bd ms, m_pc ms, m_pa ms, m_sz ms, m_cu ms, m_st ms, m_tk ms, m_to ms, m_ps ms, m_now ms, m_asd ms, m_und ms, m_sav ms, m_isv ms, m_buf ms, m_grp ms, m_pag ms⟩ : MM) σ0) (c_runningIn b9 (⟨mayT (m_is ms) (bi (okT (m_is ms) (m_now ms) t)) (bi (inR h 0 3)), m_is ms, m_um ms, m_bd ms, m_pc ms, m_pa ms, m_sz ms, m_cu ms, m_st ms, m_tk ms, m_to ms, m_ps ms, m_now ms, m_asd ms, m_und ms, m_sav ms, m_isv ms, m_buf ms, m_grp ms, m_pag ms⟩ : MM) σ0 t h (by first | assumption | omega)) tX2_runningIn q2481 (mc_0 _ _ _) rfl rfl dX2_running_12 (by decide) (Nat.le_of_eq (Nat.zero_add _)) (Nat.le_of_ble_eq_true rfl) ?_
    refine A_goto (tgt := 19) dX2_running_15 (by decide) ?_
    exact A_iret dX2_running_19 rfl ⟨by rw [gd, if_pos c1] <;> first | with_reducible rfl | (simp [-Int32.not_lt, -Int32.not_le, ]; done) | (simp []), rfl⟩
theorem c_stainedIf {l : Launch} {g : GC} (b9 : Nat) (ms : MM) (σ0 : AH) (t : Int32) (h : Int32) (h1 : WFc (m_now ms)) : AMet l g mX2_stainedIf 6 0 [.ref b9, .int t, .int h] (mc b9 ms σ0) (A_eq (some (.int (gd (mayT (m_is ms) (bi (okT (m_is ms) (m_now ms) t)) (bi (inR h 0 3))) (stainBy (m_now ms) t h)))) (mc b9 (⟨mayT (m_is ms) (bi (okT (m_is ms) (m_now ms) t)) (bi (inR h 0 3)), m_is ms, m_um ms, m_bd ms, m_pc ms, m_pa ms, m_sz ms, m_cu ms, m_st ms, m_tk ms, m_to ms, m_ps ms, m_now ms, m_asd ms, m_und ms, m_sav ms, m_isv ms, m_buf ms, m_grp ms, m_pag ms⟩ : MM) σ0)) A_no := by
  refine A_of rfl (by decide) (Nat.le_of_ble_eq_true rfl) (L0 := [(0, .ref b9), (1, .int t), (2, .int h)]) rfl ?_
  refine A_aload_n (i := 0) dX2_stainedIf_0 rfl rfl ?_
  refine A_iload_n (i := 1) dX2_stainedIf_1 rfl rfl ?_
  refine A_iload_n (i := 2) dX2_stainedIf_2 rfl rfl ?_
  refine A_callV2E (v := some (.int (bi (mayT (m_is ms) (bi (okT (m_is ms) (m_now ms) t)) (bi (inR h 0 3)) = 0)))) (τ := mc b9 (⟨mayT (m_is ms) (bi (okT (m_is ms) (m_now ms) t)) (bi (inR h 0 3)), m_is ms, m_um ms, m_bd ms, m_pc ms, m_pa ms, m_sz ms, m_cu ms, m_st ms, m_tk ms, m_to ms, m_ps ms, m_now ms, m_asd ms, m_und ms, m_sav ms, m_isv ms, m_buf ms, m_grp ms, m_pag ms⟩ : MM) σ0) (c_mayHeat b9 ms σ0 t h) tX2_mayHeat q2710 (mc_0 _ _ _) rfl rfl dX2_stainedIf_3 (by decide) (Nat.le_of_eq (Nat.zero_add _)) (Nat.le_of_ble_eq_true rfl) ?_
  refine A_if_eq (tgt := 18) dX2_stainedIf_6 (by decide) (fun c1 => ?_) (fun c1 => ?_)
  · skip
    have c1 := bi_eq0.mp c1
    refine A_iconst (v := 0) dX2_stainedIf_18 (by decide) ?_
    exact A_iret dX2_stainedIf_19 rfl ⟨by rw [gd, if_neg c1], rfl⟩
  · skip
    have c1 := bi_ne0.mp c1
    refine A_aload_n (i := 0) dX2_stainedIf_9 rfl rfl ?_
    refine A_iload_n (i := 1) dX2_stainedIf_10 rfl rfl ?_
    refine A_iload_n (i := 2) dX2_stainedIf_11 rfl rfl ?_
    refine A_callV2E (v := some (.int (stainBy (m_now ms) t h))) (τ := mc b9 (⟨mayT (m_is ms) (bi (okT (m_is ms) (m_now ms) t)) (bi (inR h 0 3)), m_is ms, m_um ms, m_bd ms, m_pc ms, m_pa ms, m_sz ms, m_cu ms, m_st ms, m_tk ms, m_to ms, m_ps ms, m_now ms, m_asd ms, m_und ms, m_sav ms, m_isv ms, m_buf ms, m_grp ms, m_pag ms⟩ : MM) σ0) (c_stainedBy b9 (⟨mayT (m_is ms) (bi (okT (m_is ms) (m_now ms) t)) (bi (inR h 0 3)), m_is ms, m_um ms, m_bd ms, m_pc ms, m_pa ms, m_sz ms, m_cu ms, m_st ms, m_tk ms, m_to ms, m_ps ms, m_now ms, m_asd ms, m_und ms, m_sav ms, m_isv ms, m_buf ms, m_grp ms, m_pag ms⟩ : MM) σ0 t h (by first | assumption | omega)) tX2_stainedBy q2493 (mc_0 _ _ _) rfl rfl dX2_stainedIf_12 (by decide) (Nat.le_of_eq (Nat.zero_add _)) (Nat.le_of_ble_eq_true rfl) ?_
    refine A_goto (tgt := 19) dX2_stainedIf_15 (by decide) ?_
    exact A_iret dX2_stainedIf_19 rfl ⟨by rw [gd, if_pos c1] <;> first | with_reducible rfl | (simp [-Int32.not_lt, -Int32.not_le, ]; done) | (simp []), rfl⟩
theorem c_dirtIf {l : Launch} {g : GC} (b9 : Nat) (ms : MM) (σ0 : AH) (t : Int32) (h : Int32) (h1 : WFc (m_now ms)) : AMet l g mX2_dirtIf 5 0 [.ref b9, .int t, .int h] (mc b9 ms σ0) (A_eq (some (.int (gd (mayT (m_is ms) (bi (okT (m_is ms) (m_now ms) t)) (bi (inR h 0 3))) (dirtBy (m_now ms) t h)))) (mc b9 (⟨mayT (m_is ms) (bi (okT (m_is ms) (m_now ms) t)) (bi (inR h 0 3)), m_is ms, m_um ms, m_bd ms, m_pc ms, m_pa ms, m_sz ms, m_cu ms, m_st ms, m_tk ms, m_to ms, m_ps ms, m_now ms, m_asd ms, m_und ms, m_sav ms, m_isv ms, m_buf ms, m_grp ms, m_pag ms⟩ : MM) σ0)) A_no := by
  refine A_of rfl (by decide) (Nat.le_of_ble_eq_true rfl) (L0 := [(0, .ref b9), (1, .int t), (2, .int h)]) rfl ?_
  refine A_aload_n (i := 0) dX2_dirtIf_0 rfl rfl ?_
  refine A_iload_n (i := 1) dX2_dirtIf_1 rfl rfl ?_
  refine A_iload_n (i := 2) dX2_dirtIf_2 rfl rfl ?_
  refine A_callV2E (v := some (.int (bi (mayT (m_is ms) (bi (okT (m_is ms) (m_now ms) t)) (bi (inR h 0 3)) = 0)))) (τ := mc b9 (⟨mayT (m_is ms) (bi (okT (m_is ms) (m_now ms) t)) (bi (inR h 0 3)), m_is ms, m_um ms, m_bd ms, m_pc ms, m_pa ms, m_sz ms, m_cu ms, m_st ms, m_tk ms, m_to ms, m_ps ms, m_now ms, m_asd ms, m_und ms, m_sav ms, m_isv ms, m_buf ms, m_grp ms, m_pag ms⟩ : MM) σ0) (c_mayHeat b9 ms σ0 t h) tX2_mayHeat q2710 (mc_0 _ _ _) rfl rfl dX2_dirtIf_3 (by decide) (Nat.le_of_eq (Nat.zero_add _)) (Nat.le_of_ble_eq_true rfl) ?_
  refine A_if_eq (tgt := 18) dX2_dirtIf_6 (by decide) (fun c1 => ?_) (fun c1 => ?_)
  · skip
    have c1 := bi_eq0.mp c1
    refine A_iconst (v := 0) dX2_dirtIf_18 (by decide) ?_
    exact A_iret dX2_dirtIf_19 rfl ⟨by rw [gd, if_neg c1], rfl⟩
  · skip
    have c1 := bi_ne0.mp c1
    refine A_aload_n (i := 0) dX2_dirtIf_9 rfl rfl ?_
    refine A_iload_n (i := 1) dX2_dirtIf_10 rfl rfl ?_
    refine A_iload_n (i := 2) dX2_dirtIf_11 rfl rfl ?_
    refine A_callV2E (v := some (.int (dirtBy (m_now ms) t h))) (τ := mc b9 (⟨mayT (m_is ms) (bi (okT (m_is ms) (m_now ms) t)) (bi (inR h 0 3)), m_is ms, m_um ms, m_bd ms, m_pc ms, m_pa ms, m_sz ms, m_cu ms, m_st ms, m_tk ms, m_to ms, m_ps ms, m_now ms, m_asd ms, m_und ms, m_sav ms, m_isv ms, m_buf ms, m_grp ms, m_pag ms⟩ : MM) σ0) (c_dirtBy b9 (⟨mayT (m_is ms) (bi (okT (m_is ms) (m_now ms) t)) (bi (inR h 0 3)), m_is ms, m_um ms, m_bd ms, m_pc ms, m_pa ms, m_sz ms, m_cu ms, m_st ms, m_tk ms, m_to ms, m_ps ms, m_now ms, m_asd ms, m_und ms, m_sav ms, m_isv ms, m_buf ms, m_grp ms, m_pag ms⟩ : MM) σ0 t h (by first | assumption | omega)) tX2_dirtBy q2745 (mc_0 _ _ _) rfl rfl dX2_dirtIf_12 (by decide) (Nat.le_of_eq (Nat.zero_add _)) (Nat.le_of_ble_eq_true rfl) ?_
    refine A_goto (tgt := 19) dX2_dirtIf_15 (by decide) ?_
    exact A_iret dX2_dirtIf_19 rfl ⟨by rw [gd, if_pos c1] <;> first | with_reducible rfl | (simp [-Int32.not_lt, -Int32.not_le, ]; done) | (simp []), rfl⟩
theorem c_isBetterHeat {l : Launch} {g : GC} (b9 : Nat) (ms : MM) (σ0 : AH) (t : Int32) (h : Int32) (b : Int32) (h1 : WFc (m_now ms)) : AMet l g mX2_isBetterHeat 6 0 [.ref b9, .int t, .int h, .int b] (mc b9 ms σ0) (A_eq (some (.int (bi (betterN (m_now ms) t h b)))) (mc b9 ms σ0)) A_no := by
  refine A_of rfl (by decide) (Nat.le_of_ble_eq_true rfl) (L0 := [(0, .ref b9), (1, .int t), (2, .int h), (3, .int b)]) rfl ?_
  refine A_aload_n (i := 0) dX2_isBetterHeat_0 rfl rfl ?_
  refine A_iload_n (i := 1) dX2_isBetterHeat_1 rfl rfl ?_
  refine A_iload_n (i := 2) dX2_isBetterHeat_2 rfl rfl ?_
  refine A_callV2E (v := some (.int (stainBy (m_now ms) t h))) (τ := mc b9 ms σ0) (c_stainedBy b9 ms σ0 t h (by first | assumption | omega)) tX2_stainedBy q2493 (mc_0 _ _ _) rfl rfl dX2_isBetterHeat_3 (by decide) (Nat.le_of_eq (Nat.zero_add _)) (Nat.le_of_ble_eq_true rfl) ?_
  refine A_aload_n (i := 0) dX2_isBetterHeat_6 rfl rfl ?_
  refine A_iload_n (i := 1) dX2_isBetterHeat_7 rfl rfl ?_
  refine A_iload_n (i := 3) dX2_isBetterHeat_8 rfl rfl ?_
  refine A_callV2E (v := some (.int (stainBy (m_now ms) t b))) (τ := mc b9 ms σ0) (c_stainedBy b9 ms σ0 t b (by first | assumption | omega)) tX2_stainedBy q2493 (mc_0 _ _ _) rfl rfl dX2_isBetterHeat_9 (by decide) (Nat.le_of_eq (Nat.zero_add _)) (Nat.le_of_ble_eq_true rfl) ?_
  refine A_isub dX2_isBetterHeat_12 ?_
  refine A_istore dX2_isBetterHeat_13 (Nat.le_of_ble_eq_true rfl) ?_
  refine A_iload dX2_isBetterHeat_15 rfl ?_
  refine A_if_lt (tgt := 40) dX2_isBetterHeat_17 (by decide) (fun c1 => ?_) (fun c1 => ?_)
  · skip
    refine A_iconst (v := 1) dX2_isBetterHeat_40 (by decide) ?_
    refine A_goto (tgt := 45) dX2_isBetterHeat_41 (by decide) ?_
    exact A_zret dX2_isBetterHeat_45 rfl (rfl) ⟨by simp [-Int32.not_lt, -Int32.not_le, bi, betterN, c1], rfl⟩
  · skip
    refine A_iload dX2_isBetterHeat_20 rfl ?_
    refine A_if_ne (tgt := 44) dX2_isBetterHeat_22 (by decide) (fun c2 => ?_) (fun c2 => ?_)
    · skip
      refine A_iconst (v := 0) dX2_isBetterHeat_44 (by decide) ?_
      exact A_zret dX2_isBetterHeat_45 rfl (rfl) ⟨by simp [-Int32.not_lt, -Int32.not_le, bi, betterN, c1, c2], rfl⟩
    · skip
      refine A_aload_n (i := 0) dX2_isBetterHeat_25 rfl rfl ?_
      refine A_iload_n (i := 1) dX2_isBetterHeat_26 rfl rfl ?_
      refine A_iload_n (i := 2) dX2_isBetterHeat_27 rfl rfl ?_
      refine A_callV2E (v := some (.int (dirtBy (m_now ms) t h))) (τ := mc b9 ms σ0) (c_dirtBy b9 ms σ0 t h (by first | assumption | omega)) tX2_dirtBy q2745 (mc_0 _ _ _) rfl rfl dX2_isBetterHeat_28 (by decide) (Nat.le_of_eq (Nat.zero_add _)) (Nat.le_of_ble_eq_true rfl) ?_
      refine A_aload_n (i := 0) dX2_isBetterHeat_31 rfl rfl ?_
      refine A_iload_n (i := 1) dX2_isBetterHeat_32 rfl rfl ?_
      refine A_iload_n (i := 3) dX2_isBetterHeat_33 rfl rfl ?_
      refine A_callV2E (v := some (.int (dirtBy (m_now ms) t b))) (τ := mc b9 ms σ0) (c_dirtBy b9 ms σ0 t b (by first | assumption | omega)) tX2_dirtBy q2745 (mc_0 _ _ _) rfl rfl dX2_isBetterHeat_34 (by decide) (Nat.le_of_eq (Nat.zero_add _)) (Nat.le_of_ble_eq_true rfl) ?_
      refine A_icmp_ge (tgt := 44) dX2_isBetterHeat_37 (by decide) (fun c3 => ?_) (fun c3 => ?_)
      · skip
        refine A_iconst (v := 0) dX2_isBetterHeat_44 (by decide) ?_
        exact A_zret dX2_isBetterHeat_45 rfl (rfl) ⟨by simp [-Int32.not_lt, -Int32.not_le, bi, betterN, c1, c2, c3], rfl⟩
      · skip
        refine A_iconst (v := 1) dX2_isBetterHeat_40 (by decide) ?_
        refine A_goto (tgt := 45) dX2_isBetterHeat_41 (by decide) ?_
        exact A_zret dX2_isBetterHeat_45 rfl (rfl) ⟨by simp [-Int32.not_lt, -Int32.not_le, bi, betterN, c1, c2, c3], rfl⟩
theorem c_bestHeat {l : Launch} {g : GC} (b9 : Nat) (ms : MM) (σ0 : AH) (t : Int32) (h1 : WFc (m_now ms)) : AMet l g mX2_bestHeat 7 0 [.ref b9, .int t] (mc b9 ms σ0) (A_eq (some (.int (gd (mayT (m_is ms) (bi (okT (m_is ms) (m_now ms) t)) 1) (bestN (m_now ms) t)))) (mc b9 (⟨mayT (m_is ms) (bi (okT (m_is ms) (m_now ms) t)) 1, m_is ms, m_um ms, m_bd ms, m_pc ms, m_pa ms, m_sz ms, m_cu ms, m_st ms, m_tk ms, m_to ms, m_ps ms, m_now ms, m_asd ms, m_und ms, m_sav ms, m_isv ms, m_buf ms, m_grp ms, m_pag ms⟩ : MM) σ0)) A_no := by
  refine A_of rfl (by decide) (Nat.le_of_ble_eq_true rfl) (L0 := [(0, .ref b9), (1, .int t)]) rfl ?_
  refine A_aload_n (i := 0) dX2_bestHeat_0 rfl rfl ?_
  refine A_iload_n (i := 1) dX2_bestHeat_1 rfl rfl ?_
  refine A_callV1E (v := some (.int (bi (mayT (m_is ms) (bi (okT (m_is ms) (m_now ms) t)) 1 = 0)))) (τ := mc b9 (⟨mayT (m_is ms) (bi (okT (m_is ms) (m_now ms) t)) 1, m_is ms, m_um ms, m_bd ms, m_pc ms, m_pa ms, m_sz ms, m_cu ms, m_st ms, m_tk ms, m_to ms, m_ps ms, m_now ms, m_asd ms, m_und ms, m_sav ms, m_isv ms, m_buf ms, m_grp ms, m_pag ms⟩ : MM) σ0) (c_mayTub b9 ms σ0 t) tX2_mayTub q2649 (mc_0 _ _ _) rfl rfl dX2_bestHeat_2 (by decide) (Nat.le_of_eq (Nat.zero_add _)) (Nat.le_of_ble_eq_true rfl) ?_
  refine A_if_ne (tgt := 10) dX2_bestHeat_5 (by decide) (fun c1 => ?_) (fun c1 => ?_)
  · skip
    have c1 := bi_ne0.mp c1
    refine A_aload_n (i := 0) dX2_bestHeat_10 rfl rfl ?_
    refine A_iload_n (i := 1) dX2_bestHeat_11 rfl rfl ?_
    refine A_callV1E (v := some (.int (manyT (m_now ms) t))) (τ := mc b9 (⟨mayT (m_is ms) (bi (okT (m_is ms) (m_now ms) t)) 1, m_is ms, m_um ms, m_bd ms, m_pc ms, m_pa ms, m_sz ms, m_cu ms, m_st ms, m_tk ms, m_to ms, m_ps ms, m_now ms, m_asd ms, m_und ms, m_sav ms, m_isv ms, m_buf ms, m_grp ms, m_pag ms⟩ : MM) σ0) (c_manyIn b9 (⟨mayT (m_is ms) (bi (okT (m_is ms) (m_now ms) t)) 1, m_is ms, m_um ms, m_bd ms, m_pc ms, m_pa ms, m_sz ms, m_cu ms, m_st ms, m_tk ms, m_to ms, m_ps ms, m_now ms, m_asd ms, m_und ms, m_sav ms, m_isv ms, m_buf ms, m_grp ms, m_pag ms⟩ : MM) σ0 t (by first | assumption | omega)) tX2_manyIn q2448 (mc_0 _ _ _) rfl rfl dX2_bestHeat_12 (by decide) (Nat.le_of_eq (Nat.zero_add _)) (Nat.le_of_ble_eq_true rfl) ?_
    refine A_if_ne (tgt := 20) dX2_bestHeat_15 (by decide) (fun c2 => ?_) (fun c2 => ?_)
    · skip
      refine A_iconst (v := 0) dX2_bestHeat_20 (by decide) ?_
      refine A_istore_n (i := 2) dX2_bestHeat_21 rfl (Nat.le_of_ble_eq_true rfl) ?_
      refine A_iconst (v := 1) dX2_bestHeat_22 (by decide) ?_
      refine A_istore_n (i := 3) dX2_bestHeat_23 rfl (Nat.le_of_ble_eq_true rfl) ?_
      refine A_iload_n (i := 3) dX2_bestHeat_24 rfl rfl ?_
      refine A_aload_n (i := 0) dX2_bestHeat_25 rfl rfl ?_
      refine A_iload_n (i := 1) dX2_bestHeat_26 rfl rfl ?_
      refine A_callV1E (v := some (.int (leastN (m_now ms) t))) (τ := mc b9 (⟨mayT (m_is ms) (bi (okT (m_is ms) (m_now ms) t)) 1, m_is ms, m_um ms, m_bd ms, m_pc ms, m_pa ms, m_sz ms, m_cu ms, m_st ms, m_tk ms, m_to ms, m_ps ms, m_now ms, m_asd ms, m_und ms, m_sav ms, m_isv ms, m_buf ms, m_grp ms, m_pag ms⟩ : MM) σ0) (c_leastCare b9 (⟨mayT (m_is ms) (bi (okT (m_is ms) (m_now ms) t)) 1, m_is ms, m_um ms, m_bd ms, m_pc ms, m_pa ms, m_sz ms, m_cu ms, m_st ms, m_tk ms, m_to ms, m_ps ms, m_now ms, m_asd ms, m_und ms, m_sav ms, m_isv ms, m_buf ms, m_grp ms, m_pag ms⟩ : MM) σ0 t (by first | assumption | omega)) tX2_leastCare q2472 (mc_0 _ _ _) rfl rfl dX2_bestHeat_27 (by decide) (Nat.le_of_eq (Nat.zero_add _)) (Nat.le_of_ble_eq_true rfl) ?_
      refine A_icmp_gt (tgt := 51) dX2_bestHeat_30 (by decide) (fun c3 => ?_) (fun c3 => ?_)
      · skip
        refine A_iload_n (i := 2) dX2_bestHeat_51 rfl rfl ?_
        exact A_iret dX2_bestHeat_52 rfl ⟨by rw [gd, if_pos c1] <;> first | with_reducible rfl | (simp [-Int32.not_lt, -Int32.not_le, bestN, bh1, bh2, bh3, c2, c3]; done) | (simp [bestN, bh1, bh2, bh3, c2, c3]), rfl⟩
      · skip
        refine A_aload_n (i := 0) dX2_bestHeat_33 rfl rfl ?_
        refine A_iload_n (i := 1) dX2_bestHeat_34 rfl rfl ?_
        refine A_iload_n (i := 3) dX2_bestHeat_35 rfl rfl ?_
        refine A_iload_n (i := 2) dX2_bestHeat_36 rfl rfl ?_
        refine A_callV3E (v := some (.int (bi (betterN (m_now ms) t 1 0)))) (τ := mc b9 (⟨mayT (m_is ms) (bi (okT (m_is ms) (m_now ms) t)) 1, m_is ms, m_um ms, m_bd ms, m_pc ms, m_pa ms, m_sz ms, m_cu ms, m_st ms, m_tk ms, m_to ms, m_ps ms, m_now ms, m_asd ms, m_und ms, m_sav ms, m_isv ms, m_buf ms, m_grp ms, m_pag ms⟩ : MM) σ0) (c_isBetterHeat b9 (⟨mayT (m_is ms) (bi (okT (m_is ms) (m_now ms) t)) 1, m_is ms, m_um ms, m_bd ms, m_pc ms, m_pa ms, m_sz ms, m_cu ms, m_st ms, m_tk ms, m_to ms, m_ps ms, m_now ms, m_asd ms, m_und ms, m_sav ms, m_isv ms, m_buf ms, m_grp ms, m_pag ms⟩ : MM) σ0 t 1 0 (by first | assumption | omega)) tX2_isBetterHeat q2753 (mc_0 _ _ _) rfl rfl dX2_bestHeat_37 (by decide) (Nat.le_of_eq (Nat.zero_add _)) (Nat.le_of_ble_eq_true rfl) ?_
        refine A_if_eq (tgt := 45) dX2_bestHeat_40 (by decide) (fun c4 => ?_) (fun c4 => ?_)
        · skip
          have c4 := bi_eq0.mp c4
          refine A_iinc (v := 2) dX2_bestHeat_45 rfl (by decide) (Nat.le_of_ble_eq_true rfl) ?_
          refine A_goto (tgt := 24) dX2_bestHeat_48 (by decide) ?_
          refine A_sub (L' := [(0, .ref b9), (1, .int t), (2, .int 0), (3, .int 2)]) ⟨rfl, rfl, rfl, rfl, trivial⟩ ?_
          refine A_iload_n (i := 3) dX2_bestHeat_24 rfl rfl ?_
          refine A_aload_n (i := 0) dX2_bestHeat_25 rfl rfl ?_
          refine A_iload_n (i := 1) dX2_bestHeat_26 rfl rfl ?_
          refine A_callV1E (v := some (.int (leastN (m_now ms) t))) (τ := mc b9 (⟨mayT (m_is ms) (bi (okT (m_is ms) (m_now ms) t)) 1, m_is ms, m_um ms, m_bd ms, m_pc ms, m_pa ms, m_sz ms, m_cu ms, m_st ms, m_tk ms, m_to ms, m_ps ms, m_now ms, m_asd ms, m_und ms, m_sav ms, m_isv ms, m_buf ms, m_grp ms, m_pag ms⟩ : MM) σ0) (c_leastCare b9 (⟨mayT (m_is ms) (bi (okT (m_is ms) (m_now ms) t)) 1, m_is ms, m_um ms, m_bd ms, m_pc ms, m_pa ms, m_sz ms, m_cu ms, m_st ms, m_tk ms, m_to ms, m_ps ms, m_now ms, m_asd ms, m_und ms, m_sav ms, m_isv ms, m_buf ms, m_grp ms, m_pag ms⟩ : MM) σ0 t (by first | assumption | omega)) tX2_leastCare q2472 (mc_0 _ _ _) rfl rfl dX2_bestHeat_27 (by decide) (Nat.le_of_eq (Nat.zero_add _)) (Nat.le_of_ble_eq_true rfl) ?_
          refine A_icmp_gt (tgt := 51) dX2_bestHeat_30 (by decide) (fun c5 => ?_) (fun c5 => ?_)
          · skip
            refine A_iload_n (i := 2) dX2_bestHeat_51 rfl rfl ?_
            exact A_iret dX2_bestHeat_52 rfl ⟨by rw [gd, if_pos c1] <;> first | with_reducible rfl | (simp [-Int32.not_lt, -Int32.not_le, bestN, bh1, bh2, bh3, c2, c3, c4, c5]; done) | (simp [bestN, bh1, bh2, bh3, c2, c3, c4, c5]), rfl⟩
          · skip
            refine A_aload_n (i := 0) dX2_bestHeat_33 rfl rfl ?_
            refine A_iload_n (i := 1) dX2_bestHeat_34 rfl rfl ?_
            refine A_iload_n (i := 3) dX2_bestHeat_35 rfl rfl ?_
            refine A_iload_n (i := 2) dX2_bestHeat_36 rfl rfl ?_
            refine A_callV3E (v := some (.int (bi (betterN (m_now ms) t 2 0)))) (τ := mc b9 (⟨mayT (m_is ms) (bi (okT (m_is ms) (m_now ms) t)) 1, m_is ms, m_um ms, m_bd ms, m_pc ms, m_pa ms, m_sz ms, m_cu ms, m_st ms, m_tk ms, m_to ms, m_ps ms, m_now ms, m_asd ms, m_und ms, m_sav ms, m_isv ms, m_buf ms, m_grp ms, m_pag ms⟩ : MM) σ0) (c_isBetterHeat b9 (⟨mayT (m_is ms) (bi (okT (m_is ms) (m_now ms) t)) 1, m_is ms, m_um ms, m_bd ms, m_pc ms, m_pa ms, m_sz ms, m_cu ms, m_st ms, m_tk ms, m_to ms, m_ps ms, m_now ms, m_asd ms, m_und ms, m_sav ms, m_isv ms, m_buf ms, m_grp ms, m_pag ms⟩ : MM) σ0 t 2 0 (by first | assumption | omega)) tX2_isBetterHeat q2753 (mc_0 _ _ _) rfl rfl dX2_bestHeat_37 (by decide) (Nat.le_of_eq (Nat.zero_add _)) (Nat.le_of_ble_eq_true rfl) ?_
            refine A_if_eq (tgt := 45) dX2_bestHeat_40 (by decide) (fun c6 => ?_) (fun c6 => ?_)
            · skip
              have c6 := bi_eq0.mp c6
              refine A_iinc (v := 3) dX2_bestHeat_45 rfl (by decide) (Nat.le_of_ble_eq_true rfl) ?_
              refine A_goto (tgt := 24) dX2_bestHeat_48 (by decide) ?_
              refine A_sub (L' := [(0, .ref b9), (1, .int t), (2, .int 0), (3, .int 3)]) ⟨rfl, rfl, rfl, rfl, trivial⟩ ?_
              refine A_iload_n (i := 3) dX2_bestHeat_24 rfl rfl ?_
              refine A_aload_n (i := 0) dX2_bestHeat_25 rfl rfl ?_
              refine A_iload_n (i := 1) dX2_bestHeat_26 rfl rfl ?_
              refine A_callV1E (v := some (.int (leastN (m_now ms) t))) (τ := mc b9 (⟨mayT (m_is ms) (bi (okT (m_is ms) (m_now ms) t)) 1, m_is ms, m_um ms, m_bd ms, m_pc ms, m_pa ms, m_sz ms, m_cu ms, m_st ms, m_tk ms, m_to ms, m_ps ms, m_now ms, m_asd ms, m_und ms, m_sav ms, m_isv ms, m_buf ms, m_grp ms, m_pag ms⟩ : MM) σ0) (c_leastCare b9 (⟨mayT (m_is ms) (bi (okT (m_is ms) (m_now ms) t)) 1, m_is ms, m_um ms, m_bd ms, m_pc ms, m_pa ms, m_sz ms, m_cu ms, m_st ms, m_tk ms, m_to ms, m_ps ms, m_now ms, m_asd ms, m_und ms, m_sav ms, m_isv ms, m_buf ms, m_grp ms, m_pag ms⟩ : MM) σ0 t (by first | assumption | omega)) tX2_leastCare q2472 (mc_0 _ _ _) rfl rfl dX2_bestHeat_27 (by decide) (Nat.le_of_eq (Nat.zero_add _)) (Nat.le_of_ble_eq_true rfl) ?_
              refine A_icmp_gt (tgt := 51) dX2_bestHeat_30 (by decide) (fun c7 => ?_) (fun c7 => ?_)
              · skip
                refine A_iload_n (i := 2) dX2_bestHeat_51 rfl rfl ?_
                exact A_iret dX2_bestHeat_52 rfl ⟨by rw [gd, if_pos c1] <;> first | with_reducible rfl | (simp [-Int32.not_lt, -Int32.not_le, bestN, bh1, bh2, bh3, c2, c3, c4, c5, c6, c7]; done) | (simp [bestN, bh1, bh2, bh3, c2, c3, c4, c5, c6, c7]), rfl⟩
              · skip
                refine A_aload_n (i := 0) dX2_bestHeat_33 rfl rfl ?_
                refine A_iload_n (i := 1) dX2_bestHeat_34 rfl rfl ?_
                refine A_iload_n (i := 3) dX2_bestHeat_35 rfl rfl ?_
                refine A_iload_n (i := 2) dX2_bestHeat_36 rfl rfl ?_
                refine A_callV3E (v := some (.int (bi (betterN (m_now ms) t 3 0)))) (τ := mc b9 (⟨mayT (m_is ms) (bi (okT (m_is ms) (m_now ms) t)) 1, m_is ms, m_um ms, m_bd ms, m_pc ms, m_pa ms, m_sz ms, m_cu ms, m_st ms, m_tk ms, m_to ms, m_ps ms, m_now ms, m_asd ms, m_und ms, m_sav ms, m_isv ms, m_buf ms, m_grp ms, m_pag ms⟩ : MM) σ0) (c_isBetterHeat b9 (⟨mayT (m_is ms) (bi (okT (m_is ms) (m_now ms) t)) 1, m_is ms, m_um ms, m_bd ms, m_pc ms, m_pa ms, m_sz ms, m_cu ms, m_st ms, m_tk ms, m_to ms, m_ps ms, m_now ms, m_asd ms, m_und ms, m_sav ms, m_isv ms, m_buf ms, m_grp ms, m_pag ms⟩ : MM) σ0 t 3 0 (by first | assumption | omega)) tX2_isBetterHeat q2753 (mc_0 _ _ _) rfl rfl dX2_bestHeat_37 (by decide) (Nat.le_of_eq (Nat.zero_add _)) (Nat.le_of_ble_eq_true rfl) ?_
                refine A_if_eq (tgt := 45) dX2_bestHeat_40 (by decide) (fun c8 => ?_) (fun c8 => ?_)
                · skip
                  have c8 := bi_eq0.mp c8
                  refine A_iinc (v := 4) dX2_bestHeat_45 rfl (by decide) (Nat.le_of_ble_eq_true rfl) ?_
                  refine A_goto (tgt := 24) dX2_bestHeat_48 (by decide) ?_
                  refine A_sub (L' := [(0, .ref b9), (1, .int t), (2, .int 0), (3, .int 4)]) ⟨rfl, rfl, rfl, rfl, trivial⟩ ?_
                  refine A_iload_n (i := 3) dX2_bestHeat_24 rfl rfl ?_
                  refine A_aload_n (i := 0) dX2_bestHeat_25 rfl rfl ?_
                  refine A_iload_n (i := 1) dX2_bestHeat_26 rfl rfl ?_
                  refine A_callV1E (v := some (.int (leastN (m_now ms) t))) (τ := mc b9 (⟨mayT (m_is ms) (bi (okT (m_is ms) (m_now ms) t)) 1, m_is ms, m_um ms, m_bd ms, m_pc ms, m_pa ms, m_sz ms, m_cu ms, m_st ms, m_tk ms, m_to ms, m_ps ms, m_now ms, m_asd ms, m_und ms, m_sav ms, m_isv ms, m_buf ms, m_grp ms, m_pag ms⟩ : MM) σ0) (c_leastCare b9 (⟨mayT (m_is ms) (bi (okT (m_is ms) (m_now ms) t)) 1, m_is ms, m_um ms, m_bd ms, m_pc ms, m_pa ms, m_sz ms, m_cu ms, m_st ms, m_tk ms, m_to ms, m_ps ms, m_now ms, m_asd ms, m_und ms, m_sav ms, m_isv ms, m_buf ms, m_grp ms, m_pag ms⟩ : MM) σ0 t (by first | assumption | omega)) tX2_leastCare q2472 (mc_0 _ _ _) rfl rfl dX2_bestHeat_27 (by decide) (Nat.le_of_eq (Nat.zero_add _)) (Nat.le_of_ble_eq_true rfl) ?_
                  refine A_icmp_gt_t (tgt := 51) dX2_bestHeat_30 (by decide) (leastN_lt _ _) ?_
                  refine A_iload_n (i := 2) dX2_bestHeat_51 rfl rfl ?_
                  exact A_iret dX2_bestHeat_52 rfl ⟨by rw [gd, if_pos c1] <;> first | with_reducible rfl | (simp [-Int32.not_lt, -Int32.not_le, bestN, bh1, bh2, bh3, c2, c3, c4, c5, c6, c7, c8]; done) | (simp [bestN, bh1, bh2, bh3, c2, c3, c4, c5, c6, c7, c8]), rfl⟩
                · skip
                  have c8 := bi_ne0.mp c8
                  refine A_iload_n (i := 3) dX2_bestHeat_43 rfl rfl ?_
                  refine A_istore_n (i := 2) dX2_bestHeat_44 rfl (Nat.le_of_ble_eq_true rfl) ?_
                  refine A_iinc (v := 4) dX2_bestHeat_45 rfl (by decide) (Nat.le_of_ble_eq_true rfl) ?_
                  refine A_goto (tgt := 24) dX2_bestHeat_48 (by decide) ?_
                  refine A_sub (L' := [(0, .ref b9), (1, .int t), (2, .int 3), (3, .int 4)]) ⟨rfl, rfl, rfl, rfl, trivial⟩ ?_
                  refine A_iload_n (i := 3) dX2_bestHeat_24 rfl rfl ?_
                  refine A_aload_n (i := 0) dX2_bestHeat_25 rfl rfl ?_
                  refine A_iload_n (i := 1) dX2_bestHeat_26 rfl rfl ?_
                  refine A_callV1E (v := some (.int (leastN (m_now ms) t))) (τ := mc b9 (⟨mayT (m_is ms) (bi (okT (m_is ms) (m_now ms) t)) 1, m_is ms, m_um ms, m_bd ms, m_pc ms, m_pa ms, m_sz ms, m_cu ms, m_st ms, m_tk ms, m_to ms, m_ps ms, m_now ms, m_asd ms, m_und ms, m_sav ms, m_isv ms, m_buf ms, m_grp ms, m_pag ms⟩ : MM) σ0) (c_leastCare b9 (⟨mayT (m_is ms) (bi (okT (m_is ms) (m_now ms) t)) 1, m_is ms, m_um ms, m_bd ms, m_pc ms, m_pa ms, m_sz ms, m_cu ms, m_st ms, m_tk ms, m_to ms, m_ps ms, m_now ms, m_asd ms, m_und ms, m_sav ms, m_isv ms, m_buf ms, m_grp ms, m_pag ms⟩ : MM) σ0 t (by first | assumption | omega)) tX2_leastCare q2472 (mc_0 _ _ _) rfl rfl dX2_bestHeat_27 (by decide) (Nat.le_of_eq (Nat.zero_add _)) (Nat.le_of_ble_eq_true rfl) ?_
                  refine A_icmp_gt_t (tgt := 51) dX2_bestHeat_30 (by decide) (leastN_lt _ _) ?_
                  refine A_iload_n (i := 2) dX2_bestHeat_51 rfl rfl ?_
                  exact A_iret dX2_bestHeat_52 rfl ⟨by rw [gd, if_pos c1] <;> first | with_reducible rfl | (simp [-Int32.not_lt, -Int32.not_le, bestN, bh1, bh2, bh3, c2, c3, c4, c5, c6, c7, c8]; done) | (simp [bestN, bh1, bh2, bh3, c2, c3, c4, c5, c6, c7, c8]), rfl⟩
            · skip
              have c6 := bi_ne0.mp c6
              refine A_iload_n (i := 3) dX2_bestHeat_43 rfl rfl ?_
              refine A_istore_n (i := 2) dX2_bestHeat_44 rfl (Nat.le_of_ble_eq_true rfl) ?_
              refine A_iinc (v := 3) dX2_bestHeat_45 rfl (by decide) (Nat.le_of_ble_eq_true rfl) ?_
              refine A_goto (tgt := 24) dX2_bestHeat_48 (by decide) ?_
              refine A_sub (L' := [(0, .ref b9), (1, .int t), (2, .int 2), (3, .int 3)]) ⟨rfl, rfl, rfl, rfl, trivial⟩ ?_
              refine A_iload_n (i := 3) dX2_bestHeat_24 rfl rfl ?_
              refine A_aload_n (i := 0) dX2_bestHeat_25 rfl rfl ?_
              refine A_iload_n (i := 1) dX2_bestHeat_26 rfl rfl ?_
              refine A_callV1E (v := some (.int (leastN (m_now ms) t))) (τ := mc b9 (⟨mayT (m_is ms) (bi (okT (m_is ms) (m_now ms) t)) 1, m_is ms, m_um ms, m_bd ms, m_pc ms, m_pa ms, m_sz ms, m_cu ms, m_st ms, m_tk ms, m_to ms, m_ps ms, m_now ms, m_asd ms, m_und ms, m_sav ms, m_isv ms, m_buf ms, m_grp ms, m_pag ms⟩ : MM) σ0) (c_leastCare b9 (⟨mayT (m_is ms) (bi (okT (m_is ms) (m_now ms) t)) 1, m_is ms, m_um ms, m_bd ms, m_pc ms, m_pa ms, m_sz ms, m_cu ms, m_st ms, m_tk ms, m_to ms, m_ps ms, m_now ms, m_asd ms, m_und ms, m_sav ms, m_isv ms, m_buf ms, m_grp ms, m_pag ms⟩ : MM) σ0 t (by first | assumption | omega)) tX2_leastCare q2472 (mc_0 _ _ _) rfl rfl dX2_bestHeat_27 (by decide) (Nat.le_of_eq (Nat.zero_add _)) (Nat.le_of_ble_eq_true rfl) ?_
              refine A_icmp_gt (tgt := 51) dX2_bestHeat_30 (by decide) (fun c9 => ?_) (fun c9 => ?_)
              · skip
                refine A_iload_n (i := 2) dX2_bestHeat_51 rfl rfl ?_
                exact A_iret dX2_bestHeat_52 rfl ⟨by rw [gd, if_pos c1] <;> first | with_reducible rfl | (simp [-Int32.not_lt, -Int32.not_le, bestN, bh1, bh2, bh3, c2, c3, c4, c5, c6, c9]; done) | (simp [bestN, bh1, bh2, bh3, c2, c3, c4, c5, c6, c9]), rfl⟩
              · skip
                refine A_aload_n (i := 0) dX2_bestHeat_33 rfl rfl ?_
                refine A_iload_n (i := 1) dX2_bestHeat_34 rfl rfl ?_
                refine A_iload_n (i := 3) dX2_bestHeat_35 rfl rfl ?_
                refine A_iload_n (i := 2) dX2_bestHeat_36 rfl rfl ?_
                refine A_callV3E (v := some (.int (bi (betterN (m_now ms) t 3 2)))) (τ := mc b9 (⟨mayT (m_is ms) (bi (okT (m_is ms) (m_now ms) t)) 1, m_is ms, m_um ms, m_bd ms, m_pc ms, m_pa ms, m_sz ms, m_cu ms, m_st ms, m_tk ms, m_to ms, m_ps ms, m_now ms, m_asd ms, m_und ms, m_sav ms, m_isv ms, m_buf ms, m_grp ms, m_pag ms⟩ : MM) σ0) (c_isBetterHeat b9 (⟨mayT (m_is ms) (bi (okT (m_is ms) (m_now ms) t)) 1, m_is ms, m_um ms, m_bd ms, m_pc ms, m_pa ms, m_sz ms, m_cu ms, m_st ms, m_tk ms, m_to ms, m_ps ms, m_now ms, m_asd ms, m_und ms, m_sav ms, m_isv ms, m_buf ms, m_grp ms, m_pag ms⟩ : MM) σ0 t 3 2 (by first | assumption | omega)) tX2_isBetterHeat q2753 (mc_0 _ _ _) rfl rfl dX2_bestHeat_37 (by decide) (Nat.le_of_eq (Nat.zero_add _)) (Nat.le_of_ble_eq_true rfl) ?_
                refine A_if_eq (tgt := 45) dX2_bestHeat_40 (by decide) (fun c10 => ?_) (fun c10 => ?_)
                · skip
                  have c10 := bi_eq0.mp c10
                  refine A_iinc (v := 4) dX2_bestHeat_45 rfl (by decide) (Nat.le_of_ble_eq_true rfl) ?_
                  refine A_goto (tgt := 24) dX2_bestHeat_48 (by decide) ?_
                  refine A_sub (L' := [(0, .ref b9), (1, .int t), (2, .int 2), (3, .int 4)]) ⟨rfl, rfl, rfl, rfl, trivial⟩ ?_
                  refine A_iload_n (i := 3) dX2_bestHeat_24 rfl rfl ?_
                  refine A_aload_n (i := 0) dX2_bestHeat_25 rfl rfl ?_
                  refine A_iload_n (i := 1) dX2_bestHeat_26 rfl rfl ?_
                  refine A_callV1E (v := some (.int (leastN (m_now ms) t))) (τ := mc b9 (⟨mayT (m_is ms) (bi (okT (m_is ms) (m_now ms) t)) 1, m_is ms, m_um ms, m_bd ms, m_pc ms, m_pa ms, m_sz ms, m_cu ms, m_st ms, m_tk ms, m_to ms, m_ps ms, m_now ms, m_asd ms, m_und ms, m_sav ms, m_isv ms, m_buf ms, m_grp ms, m_pag ms⟩ : MM) σ0) (c_leastCare b9 (⟨mayT (m_is ms) (bi (okT (m_is ms) (m_now ms) t)) 1, m_is ms, m_um ms, m_bd ms, m_pc ms, m_pa ms, m_sz ms, m_cu ms, m_st ms, m_tk ms, m_to ms, m_ps ms, m_now ms, m_asd ms, m_und ms, m_sav ms, m_isv ms, m_buf ms, m_grp ms, m_pag ms⟩ : MM) σ0 t (by first | assumption | omega)) tX2_leastCare q2472 (mc_0 _ _ _) rfl rfl dX2_bestHeat_27 (by decide) (Nat.le_of_eq (Nat.zero_add _)) (Nat.le_of_ble_eq_true rfl) ?_
                  refine A_icmp_gt_t (tgt := 51) dX2_bestHeat_30 (by decide) (leastN_lt _ _) ?_
                  refine A_iload_n (i := 2) dX2_bestHeat_51 rfl rfl ?_
                  exact A_iret dX2_bestHeat_52 rfl ⟨by rw [gd, if_pos c1] <;> first | with_reducible rfl | (simp [-Int32.not_lt, -Int32.not_le, bestN, bh1, bh2, bh3, c2, c3, c4, c5, c6, c9, c10]; done) | (simp [bestN, bh1, bh2, bh3, c2, c3, c4, c5, c6, c9, c10]), rfl⟩
                · skip
                  have c10 := bi_ne0.mp c10
                  refine A_iload_n (i := 3) dX2_bestHeat_43 rfl rfl ?_
                  refine A_istore_n (i := 2) dX2_bestHeat_44 rfl (Nat.le_of_ble_eq_true rfl) ?_
                  refine A_iinc (v := 4) dX2_bestHeat_45 rfl (by decide) (Nat.le_of_ble_eq_true rfl) ?_
                  refine A_goto (tgt := 24) dX2_bestHeat_48 (by decide) ?_
                  refine A_sub (L' := [(0, .ref b9), (1, .int t), (2, .int 3), (3, .int 4)]) ⟨rfl, rfl, rfl, rfl, trivial⟩ ?_
                  refine A_iload_n (i := 3) dX2_bestHeat_24 rfl rfl ?_
                  refine A_aload_n (i := 0) dX2_bestHeat_25 rfl rfl ?_
                  refine A_iload_n (i := 1) dX2_bestHeat_26 rfl rfl ?_
                  refine A_callV1E (v := some (.int (leastN (m_now ms) t))) (τ := mc b9 (⟨mayT (m_is ms) (bi (okT (m_is ms) (m_now ms) t)) 1, m_is ms, m_um ms, m_bd ms, m_pc ms, m_pa ms, m_sz ms, m_cu ms, m_st ms, m_tk ms, m_to ms, m_ps ms, m_now ms, m_asd ms, m_und ms, m_sav ms, m_isv ms, m_buf ms, m_grp ms, m_pag ms⟩ : MM) σ0) (c_leastCare b9 (⟨mayT (m_is ms) (bi (okT (m_is ms) (m_now ms) t)) 1, m_is ms, m_um ms, m_bd ms, m_pc ms, m_pa ms, m_sz ms, m_cu ms, m_st ms, m_tk ms, m_to ms, m_ps ms, m_now ms, m_asd ms, m_und ms, m_sav ms, m_isv ms, m_buf ms, m_grp ms, m_pag ms⟩ : MM) σ0 t (by first | assumption | omega)) tX2_leastCare q2472 (mc_0 _ _ _) rfl rfl dX2_bestHeat_27 (by decide) (Nat.le_of_eq (Nat.zero_add _)) (Nat.le_of_ble_eq_true rfl) ?_
                  refine A_icmp_gt_t (tgt := 51) dX2_bestHeat_30 (by decide) (leastN_lt _ _) ?_
                  refine A_iload_n (i := 2) dX2_bestHeat_51 rfl rfl ?_
                  exact A_iret dX2_bestHeat_52 rfl ⟨by rw [gd, if_pos c1] <;> first | with_reducible rfl | (simp [-Int32.not_lt, -Int32.not_le, bestN, bh1, bh2, bh3, c2, c3, c4, c5, c6, c9, c10]; done) | (simp [bestN, bh1, bh2, bh3, c2, c3, c4, c5, c6, c9, c10]), rfl⟩
        · skip
          have c4 := bi_ne0.mp c4
          refine A_iload_n (i := 3) dX2_bestHeat_43 rfl rfl ?_
          refine A_istore_n (i := 2) dX2_bestHeat_44 rfl (Nat.le_of_ble_eq_true rfl) ?_
          refine A_iinc (v := 2) dX2_bestHeat_45 rfl (by decide) (Nat.le_of_ble_eq_true rfl) ?_
          refine A_goto (tgt := 24) dX2_bestHeat_48 (by decide) ?_
          refine A_sub (L' := [(0, .ref b9), (1, .int t), (2, .int 1), (3, .int 2)]) ⟨rfl, rfl, rfl, rfl, trivial⟩ ?_
          refine A_iload_n (i := 3) dX2_bestHeat_24 rfl rfl ?_
          refine A_aload_n (i := 0) dX2_bestHeat_25 rfl rfl ?_
          refine A_iload_n (i := 1) dX2_bestHeat_26 rfl rfl ?_
          refine A_callV1E (v := some (.int (leastN (m_now ms) t))) (τ := mc b9 (⟨mayT (m_is ms) (bi (okT (m_is ms) (m_now ms) t)) 1, m_is ms, m_um ms, m_bd ms, m_pc ms, m_pa ms, m_sz ms, m_cu ms, m_st ms, m_tk ms, m_to ms, m_ps ms, m_now ms, m_asd ms, m_und ms, m_sav ms, m_isv ms, m_buf ms, m_grp ms, m_pag ms⟩ : MM) σ0) (c_leastCare b9 (⟨mayT (m_is ms) (bi (okT (m_is ms) (m_now ms) t)) 1, m_is ms, m_um ms, m_bd ms, m_pc ms, m_pa ms, m_sz ms, m_cu ms, m_st ms, m_tk ms, m_to ms, m_ps ms, m_now ms, m_asd ms, m_und ms, m_sav ms, m_isv ms, m_buf ms, m_grp ms, m_pag ms⟩ : MM) σ0 t (by first | assumption | omega)) tX2_leastCare q2472 (mc_0 _ _ _) rfl rfl dX2_bestHeat_27 (by decide) (Nat.le_of_eq (Nat.zero_add _)) (Nat.le_of_ble_eq_true rfl) ?_
          refine A_icmp_gt (tgt := 51) dX2_bestHeat_30 (by decide) (fun c11 => ?_) (fun c11 => ?_)
          · skip
            refine A_iload_n (i := 2) dX2_bestHeat_51 rfl rfl ?_
            exact A_iret dX2_bestHeat_52 rfl ⟨by rw [gd, if_pos c1] <;> first | with_reducible rfl | (simp [-Int32.not_lt, -Int32.not_le, bestN, bh1, bh2, bh3, c2, c3, c4, c11]; done) | (simp [bestN, bh1, bh2, bh3, c2, c3, c4, c11]), rfl⟩
          · skip
            refine A_aload_n (i := 0) dX2_bestHeat_33 rfl rfl ?_
            refine A_iload_n (i := 1) dX2_bestHeat_34 rfl rfl ?_
            refine A_iload_n (i := 3) dX2_bestHeat_35 rfl rfl ?_
            refine A_iload_n (i := 2) dX2_bestHeat_36 rfl rfl ?_
            refine A_callV3E (v := some (.int (bi (betterN (m_now ms) t 2 1)))) (τ := mc b9 (⟨mayT (m_is ms) (bi (okT (m_is ms) (m_now ms) t)) 1, m_is ms, m_um ms, m_bd ms, m_pc ms, m_pa ms, m_sz ms, m_cu ms, m_st ms, m_tk ms, m_to ms, m_ps ms, m_now ms, m_asd ms, m_und ms, m_sav ms, m_isv ms, m_buf ms, m_grp ms, m_pag ms⟩ : MM) σ0) (c_isBetterHeat b9 (⟨mayT (m_is ms) (bi (okT (m_is ms) (m_now ms) t)) 1, m_is ms, m_um ms, m_bd ms, m_pc ms, m_pa ms, m_sz ms, m_cu ms, m_st ms, m_tk ms, m_to ms, m_ps ms, m_now ms, m_asd ms, m_und ms, m_sav ms, m_isv ms, m_buf ms, m_grp ms, m_pag ms⟩ : MM) σ0 t 2 1 (by first | assumption | omega)) tX2_isBetterHeat q2753 (mc_0 _ _ _) rfl rfl dX2_bestHeat_37 (by decide) (Nat.le_of_eq (Nat.zero_add _)) (Nat.le_of_ble_eq_true rfl) ?_
            refine A_if_eq (tgt := 45) dX2_bestHeat_40 (by decide) (fun c12 => ?_) (fun c12 => ?_)
            · skip
              have c12 := bi_eq0.mp c12
              refine A_iinc (v := 3) dX2_bestHeat_45 rfl (by decide) (Nat.le_of_ble_eq_true rfl) ?_
              refine A_goto (tgt := 24) dX2_bestHeat_48 (by decide) ?_
              refine A_sub (L' := [(0, .ref b9), (1, .int t), (2, .int 1), (3, .int 3)]) ⟨rfl, rfl, rfl, rfl, trivial⟩ ?_
              refine A_iload_n (i := 3) dX2_bestHeat_24 rfl rfl ?_
              refine A_aload_n (i := 0) dX2_bestHeat_25 rfl rfl ?_
              refine A_iload_n (i := 1) dX2_bestHeat_26 rfl rfl ?_
              refine A_callV1E (v := some (.int (leastN (m_now ms) t))) (τ := mc b9 (⟨mayT (m_is ms) (bi (okT (m_is ms) (m_now ms) t)) 1, m_is ms, m_um ms, m_bd ms, m_pc ms, m_pa ms, m_sz ms, m_cu ms, m_st ms, m_tk ms, m_to ms, m_ps ms, m_now ms, m_asd ms, m_und ms, m_sav ms, m_isv ms, m_buf ms, m_grp ms, m_pag ms⟩ : MM) σ0) (c_leastCare b9 (⟨mayT (m_is ms) (bi (okT (m_is ms) (m_now ms) t)) 1, m_is ms, m_um ms, m_bd ms, m_pc ms, m_pa ms, m_sz ms, m_cu ms, m_st ms, m_tk ms, m_to ms, m_ps ms, m_now ms, m_asd ms, m_und ms, m_sav ms, m_isv ms, m_buf ms, m_grp ms, m_pag ms⟩ : MM) σ0 t (by first | assumption | omega)) tX2_leastCare q2472 (mc_0 _ _ _) rfl rfl dX2_bestHeat_27 (by decide) (Nat.le_of_eq (Nat.zero_add _)) (Nat.le_of_ble_eq_true rfl) ?_
              refine A_icmp_gt (tgt := 51) dX2_bestHeat_30 (by decide) (fun c13 => ?_) (fun c13 => ?_)
              · skip
                refine A_iload_n (i := 2) dX2_bestHeat_51 rfl rfl ?_
                exact A_iret dX2_bestHeat_52 rfl ⟨by rw [gd, if_pos c1] <;> first | with_reducible rfl | (simp [-Int32.not_lt, -Int32.not_le, bestN, bh1, bh2, bh3, c2, c3, c4, c11, c12, c13]; done) | (simp [bestN, bh1, bh2, bh3, c2, c3, c4, c11, c12, c13]), rfl⟩
              · skip
                refine A_aload_n (i := 0) dX2_bestHeat_33 rfl rfl ?_
                refine A_iload_n (i := 1) dX2_bestHeat_34 rfl rfl ?_
                refine A_iload_n (i := 3) dX2_bestHeat_35 rfl rfl ?_
                refine A_iload_n (i := 2) dX2_bestHeat_36 rfl rfl ?_
                refine A_callV3E (v := some (.int (bi (betterN (m_now ms) t 3 1)))) (τ := mc b9 (⟨mayT (m_is ms) (bi (okT (m_is ms) (m_now ms) t)) 1, m_is ms, m_um ms, m_bd ms, m_pc ms, m_pa ms, m_sz ms, m_cu ms, m_st ms, m_tk ms, m_to ms, m_ps ms, m_now ms, m_asd ms, m_und ms, m_sav ms, m_isv ms, m_buf ms, m_grp ms, m_pag ms⟩ : MM) σ0) (c_isBetterHeat b9 (⟨mayT (m_is ms) (bi (okT (m_is ms) (m_now ms) t)) 1, m_is ms, m_um ms, m_bd ms, m_pc ms, m_pa ms, m_sz ms, m_cu ms, m_st ms, m_tk ms, m_to ms, m_ps ms, m_now ms, m_asd ms, m_und ms, m_sav ms, m_isv ms, m_buf ms, m_grp ms, m_pag ms⟩ : MM) σ0 t 3 1 (by first | assumption | omega)) tX2_isBetterHeat q2753 (mc_0 _ _ _) rfl rfl dX2_bestHeat_37 (by decide) (Nat.le_of_eq (Nat.zero_add _)) (Nat.le_of_ble_eq_true rfl) ?_
                refine A_if_eq (tgt := 45) dX2_bestHeat_40 (by decide) (fun c14 => ?_) (fun c14 => ?_)
                · skip
                  have c14 := bi_eq0.mp c14
                  refine A_iinc (v := 4) dX2_bestHeat_45 rfl (by decide) (Nat.le_of_ble_eq_true rfl) ?_
                  refine A_goto (tgt := 24) dX2_bestHeat_48 (by decide) ?_
                  refine A_sub (L' := [(0, .ref b9), (1, .int t), (2, .int 1), (3, .int 4)]) ⟨rfl, rfl, rfl, rfl, trivial⟩ ?_
                  refine A_iload_n (i := 3) dX2_bestHeat_24 rfl rfl ?_
                  refine A_aload_n (i := 0) dX2_bestHeat_25 rfl rfl ?_
                  refine A_iload_n (i := 1) dX2_bestHeat_26 rfl rfl ?_
                  refine A_callV1E (v := some (.int (leastN (m_now ms) t))) (τ := mc b9 (⟨mayT (m_is ms) (bi (okT (m_is ms) (m_now ms) t)) 1, m_is ms, m_um ms, m_bd ms, m_pc ms, m_pa ms, m_sz ms, m_cu ms, m_st ms, m_tk ms, m_to ms, m_ps ms, m_now ms, m_asd ms, m_und ms, m_sav ms, m_isv ms, m_buf ms, m_grp ms, m_pag ms⟩ : MM) σ0) (c_leastCare b9 (⟨mayT (m_is ms) (bi (okT (m_is ms) (m_now ms) t)) 1, m_is ms, m_um ms, m_bd ms, m_pc ms, m_pa ms, m_sz ms, m_cu ms, m_st ms, m_tk ms, m_to ms, m_ps ms, m_now ms, m_asd ms, m_und ms, m_sav ms, m_isv ms, m_buf ms, m_grp ms, m_pag ms⟩ : MM) σ0 t (by first | assumption | omega)) tX2_leastCare q2472 (mc_0 _ _ _) rfl rfl dX2_bestHeat_27 (by decide) (Nat.le_of_eq (Nat.zero_add _)) (Nat.le_of_ble_eq_true rfl) ?_
                  refine A_icmp_gt_t (tgt := 51) dX2_bestHeat_30 (by decide) (leastN_lt _ _) ?_
                  refine A_iload_n (i := 2) dX2_bestHeat_51 rfl rfl ?_
                  exact A_iret dX2_bestHeat_52 rfl ⟨by rw [gd, if_pos c1] <;> first | with_reducible rfl | (simp [-Int32.not_lt, -Int32.not_le, bestN, bh1, bh2, bh3, c2, c3, c4, c11, c12, c13, c14]; done) | (simp [bestN, bh1, bh2, bh3, c2, c3, c4, c11, c12, c13, c14]), rfl⟩
                · skip
                  have c14 := bi_ne0.mp c14
                  refine A_iload_n (i := 3) dX2_bestHeat_43 rfl rfl ?_
                  refine A_istore_n (i := 2) dX2_bestHeat_44 rfl (Nat.le_of_ble_eq_true rfl) ?_
                  refine A_iinc (v := 4) dX2_bestHeat_45 rfl (by decide) (Nat.le_of_ble_eq_true rfl) ?_
                  refine A_goto (tgt := 24) dX2_bestHeat_48 (by decide) ?_
                  refine A_sub (L' := [(0, .ref b9), (1, .int t), (2, .int 3), (3, .int 4)]) ⟨rfl, rfl, rfl, rfl, trivial⟩ ?_
                  refine A_iload_n (i := 3) dX2_bestHeat_24 rfl rfl ?_
                  refine A_aload_n (i := 0) dX2_bestHeat_25 rfl rfl ?_
                  refine A_iload_n (i := 1) dX2_bestHeat_26 rfl rfl ?_
                  refine A_callV1E (v := some (.int (leastN (m_now ms) t))) (τ := mc b9 (⟨mayT (m_is ms) (bi (okT (m_is ms) (m_now ms) t)) 1, m_is ms, m_um ms, m_bd ms, m_pc ms, m_pa ms, m_sz ms, m_cu ms, m_st ms, m_tk ms, m_to ms, m_ps ms, m_now ms, m_asd ms, m_und ms, m_sav ms, m_isv ms, m_buf ms, m_grp ms, m_pag ms⟩ : MM) σ0) (c_leastCare b9 (⟨mayT (m_is ms) (bi (okT (m_is ms) (m_now ms) t)) 1, m_is ms, m_um ms, m_bd ms, m_pc ms, m_pa ms, m_sz ms, m_cu ms, m_st ms, m_tk ms, m_to ms, m_ps ms, m_now ms, m_asd ms, m_und ms, m_sav ms, m_isv ms, m_buf ms, m_grp ms, m_pag ms⟩ : MM) σ0 t (by first | assumption | omega)) tX2_leastCare q2472 (mc_0 _ _ _) rfl rfl dX2_bestHeat_27 (by decide) (Nat.le_of_eq (Nat.zero_add _)) (Nat.le_of_ble_eq_true rfl) ?_
                  refine A_icmp_gt_t (tgt := 51) dX2_bestHeat_30 (by decide) (leastN_lt _ _) ?_
                  refine A_iload_n (i := 2) dX2_bestHeat_51 rfl rfl ?_
                  exact A_iret dX2_bestHeat_52 rfl ⟨by rw [gd, if_pos c1] <;> first | with_reducible rfl | (simp [-Int32.not_lt, -Int32.not_le, bestN, bh1, bh2, bh3, c2, c3, c4, c11, c12, c13, c14]; done) | (simp [bestN, bh1, bh2, bh3, c2, c3, c4, c11, c12, c13, c14]), rfl⟩
            · skip
              have c12 := bi_ne0.mp c12
              refine A_iload_n (i := 3) dX2_bestHeat_43 rfl rfl ?_
              refine A_istore_n (i := 2) dX2_bestHeat_44 rfl (Nat.le_of_ble_eq_true rfl) ?_
              refine A_iinc (v := 3) dX2_bestHeat_45 rfl (by decide) (Nat.le_of_ble_eq_true rfl) ?_
              refine A_goto (tgt := 24) dX2_bestHeat_48 (by decide) ?_
              refine A_sub (L' := [(0, .ref b9), (1, .int t), (2, .int 2), (3, .int 3)]) ⟨rfl, rfl, rfl, rfl, trivial⟩ ?_
              refine A_iload_n (i := 3) dX2_bestHeat_24 rfl rfl ?_
              refine A_aload_n (i := 0) dX2_bestHeat_25 rfl rfl ?_
              refine A_iload_n (i := 1) dX2_bestHeat_26 rfl rfl ?_
              refine A_callV1E (v := some (.int (leastN (m_now ms) t))) (τ := mc b9 (⟨mayT (m_is ms) (bi (okT (m_is ms) (m_now ms) t)) 1, m_is ms, m_um ms, m_bd ms, m_pc ms, m_pa ms, m_sz ms, m_cu ms, m_st ms, m_tk ms, m_to ms, m_ps ms, m_now ms, m_asd ms, m_und ms, m_sav ms, m_isv ms, m_buf ms, m_grp ms, m_pag ms⟩ : MM) σ0) (c_leastCare b9 (⟨mayT (m_is ms) (bi (okT (m_is ms) (m_now ms) t)) 1, m_is ms, m_um ms, m_bd ms, m_pc ms, m_pa ms, m_sz ms, m_cu ms, m_st ms, m_tk ms, m_to ms, m_ps ms, m_now ms, m_asd ms, m_und ms, m_sav ms, m_isv ms, m_buf ms, m_grp ms, m_pag ms⟩ : MM) σ0 t (by first | assumption | omega)) tX2_leastCare q2472 (mc_0 _ _ _) rfl rfl dX2_bestHeat_27 (by decide) (Nat.le_of_eq (Nat.zero_add _)) (Nat.le_of_ble_eq_true rfl) ?_
              refine A_icmp_gt (tgt := 51) dX2_bestHeat_30 (by decide) (fun c15 => ?_) (fun c15 => ?_)
              · skip
                refine A_iload_n (i := 2) dX2_bestHeat_51 rfl rfl ?_
                exact A_iret dX2_bestHeat_52 rfl ⟨by rw [gd, if_pos c1] <;> first | with_reducible rfl | (simp [-Int32.not_lt, -Int32.not_le, bestN, bh1, bh2, bh3, c2, c3, c4, c11, c12, c15]; done) | (simp [bestN, bh1, bh2, bh3, c2, c3, c4, c11, c12, c15]), rfl⟩
              · skip
                refine A_aload_n (i := 0) dX2_bestHeat_33 rfl rfl ?_
                refine A_iload_n (i := 1) dX2_bestHeat_34 rfl rfl ?_
                refine A_iload_n (i := 3) dX2_bestHeat_35 rfl rfl ?_
                refine A_iload_n (i := 2) dX2_bestHeat_36 rfl rfl ?_
                refine A_callV3E (v := some (.int (bi (betterN (m_now ms) t 3 2)))) (τ := mc b9 (⟨mayT (m_is ms) (bi (okT (m_is ms) (m_now ms) t)) 1, m_is ms, m_um ms, m_bd ms, m_pc ms, m_pa ms, m_sz ms, m_cu ms, m_st ms, m_tk ms, m_to ms, m_ps ms, m_now ms, m_asd ms, m_und ms, m_sav ms, m_isv ms, m_buf ms, m_grp ms, m_pag ms⟩ : MM) σ0) (c_isBetterHeat b9 (⟨mayT (m_is ms) (bi (okT (m_is ms) (m_now ms) t)) 1, m_is ms, m_um ms, m_bd ms, m_pc ms, m_pa ms, m_sz ms, m_cu ms, m_st ms, m_tk ms, m_to ms, m_ps ms, m_now ms, m_asd ms, m_und ms, m_sav ms, m_isv ms, m_buf ms, m_grp ms, m_pag ms⟩ : MM) σ0 t 3 2 (by first | assumption | omega)) tX2_isBetterHeat q2753 (mc_0 _ _ _) rfl rfl dX2_bestHeat_37 (by decide) (Nat.le_of_eq (Nat.zero_add _)) (Nat.le_of_ble_eq_true rfl) ?_
                refine A_if_eq (tgt := 45) dX2_bestHeat_40 (by decide) (fun c16 => ?_) (fun c16 => ?_)
                · skip
                  have c16 := bi_eq0.mp c16
                  refine A_iinc (v := 4) dX2_bestHeat_45 rfl (by decide) (Nat.le_of_ble_eq_true rfl) ?_
                  refine A_goto (tgt := 24) dX2_bestHeat_48 (by decide) ?_
                  refine A_sub (L' := [(0, .ref b9), (1, .int t), (2, .int 2), (3, .int 4)]) ⟨rfl, rfl, rfl, rfl, trivial⟩ ?_
                  refine A_iload_n (i := 3) dX2_bestHeat_24 rfl rfl ?_
                  refine A_aload_n (i := 0) dX2_bestHeat_25 rfl rfl ?_
                  refine A_iload_n (i := 1) dX2_bestHeat_26 rfl rfl ?_
                  refine A_callV1E (v := some (.int (leastN (m_now ms) t))) (τ := mc b9 (⟨mayT (m_is ms) (bi (okT (m_is ms) (m_now ms) t)) 1, m_is ms, m_um ms, m_bd ms, m_pc ms, m_pa ms, m_sz ms, m_cu ms, m_st ms, m_tk ms, m_to ms, m_ps ms, m_now ms, m_asd ms, m_und ms, m_sav ms, m_isv ms, m_buf ms, m_grp ms, m_pag ms⟩ : MM) σ0) (c_leastCare b9 (⟨mayT (m_is ms) (bi (okT (m_is ms) (m_now ms) t)) 1, m_is ms, m_um ms, m_bd ms, m_pc ms, m_pa ms, m_sz ms, m_cu ms, m_st ms, m_tk ms, m_to ms, m_ps ms, m_now ms, m_asd ms, m_und ms, m_sav ms, m_isv ms, m_buf ms, m_grp ms, m_pag ms⟩ : MM) σ0 t (by first | assumption | omega)) tX2_leastCare q2472 (mc_0 _ _ _) rfl rfl dX2_bestHeat_27 (by decide) (Nat.le_of_eq (Nat.zero_add _)) (Nat.le_of_ble_eq_true rfl) ?_
                  refine A_icmp_gt_t (tgt := 51) dX2_bestHeat_30 (by decide) (leastN_lt _ _) ?_
                  refine A_iload_n (i := 2) dX2_bestHeat_51 rfl rfl ?_
                  exact A_iret dX2_bestHeat_52 rfl ⟨by rw [gd, if_pos c1] <;> first | with_reducible rfl | (simp [-Int32.not_lt, -Int32.not_le, bestN, bh1, bh2, bh3, c2, c3, c4, c11, c12, c15, c16]; done) | (simp [bestN, bh1, bh2, bh3, c2, c3, c4, c11, c12, c15, c16]), rfl⟩
                · skip
                  have c16 := bi_ne0.mp c16
                  refine A_iload_n (i := 3) dX2_bestHeat_43 rfl rfl ?_
                  refine A_istore_n (i := 2) dX2_bestHeat_44 rfl (Nat.le_of_ble_eq_true rfl) ?_
                  refine A_iinc (v := 4) dX2_bestHeat_45 rfl (by decide) (Nat.le_of_ble_eq_true rfl) ?_
                  refine A_goto (tgt := 24) dX2_bestHeat_48 (by decide) ?_
                  refine A_sub (L' := [(0, .ref b9), (1, .int t), (2, .int 3), (3, .int 4)]) ⟨rfl, rfl, rfl, rfl, trivial⟩ ?_
                  refine A_iload_n (i := 3) dX2_bestHeat_24 rfl rfl ?_
                  refine A_aload_n (i := 0) dX2_bestHeat_25 rfl rfl ?_
                  refine A_iload_n (i := 1) dX2_bestHeat_26 rfl rfl ?_
                  refine A_callV1E (v := some (.int (leastN (m_now ms) t))) (τ := mc b9 (⟨mayT (m_is ms) (bi (okT (m_is ms) (m_now ms) t)) 1, m_is ms, m_um ms, m_bd ms, m_pc ms, m_pa ms, m_sz ms, m_cu ms, m_st ms, m_tk ms, m_to ms, m_ps ms, m_now ms, m_asd ms, m_und ms, m_sav ms, m_isv ms, m_buf ms, m_grp ms, m_pag ms⟩ : MM) σ0) (c_leastCare b9 (⟨mayT (m_is ms) (bi (okT (m_is ms) (m_now ms) t)) 1, m_is ms, m_um ms, m_bd ms, m_pc ms, m_pa ms, m_sz ms, m_cu ms, m_st ms, m_tk ms, m_to ms, m_ps ms, m_now ms, m_asd ms, m_und ms, m_sav ms, m_isv ms, m_buf ms, m_grp ms, m_pag ms⟩ : MM) σ0 t (by first | assumption | omega)) tX2_leastCare q2472 (mc_0 _ _ _) rfl rfl dX2_bestHeat_27 (by decide) (Nat.le_of_eq (Nat.zero_add _)) (Nat.le_of_ble_eq_true rfl) ?_
                  refine A_icmp_gt_t (tgt := 51) dX2_bestHeat_30 (by decide) (leastN_lt _ _) ?_
                  refine A_iload_n (i := 2) dX2_bestHeat_51 rfl rfl ?_
                  exact A_iret dX2_bestHeat_52 rfl ⟨by rw [gd, if_pos c1] <;> first | with_reducible rfl | (simp [-Int32.not_lt, -Int32.not_le, bestN, bh1, bh2, bh3, c2, c3, c4, c11, c12, c15, c16]; done) | (simp [bestN, bh1, bh2, bh3, c2, c3, c4, c11, c12, c15, c16]), rfl⟩
    · skip
      refine A_iconst (v := (-1)) dX2_bestHeat_18 (by decide) ?_
      exact A_iret dX2_bestHeat_19 rfl ⟨by rw [gd, if_pos c1] <;> first | with_reducible rfl | (simp [-Int32.not_lt, -Int32.not_le, bestN, bh1, bh2, bh3, c2]; done) | (simp [bestN, bh1, bh2, bh3, c2]), rfl⟩
  · skip
    have c1 := bi_eq0.mp c1
    refine A_iconst (v := 0) dX2_bestHeat_8 (by decide) ?_
    exact A_iret dX2_bestHeat_9 rfl ⟨by rw [gd, if_neg c1], rfl⟩
theorem c_irons {l : Launch} {g : GC} (b9 : Nat) (ms : MM) (σ0 : AH) (f : Nat) (h : Int32) (h1 : f < 12) : AMet l g mX2_irons 2 0 [.ref b9, .int (nI f), .int h] (mc b9 ms σ0) (A_eq (none) (mc b9 (⟨m_thr ms, m_is ms, m_um ms, m_bd ms, m_pc ms, m_pa ms, m_sz ms, m_cu ms, m_st ms, m_tk ms, m_to ms, m_ps ms, ironN (m_now ms) f h, m_asd ms, m_und ms, m_sav ms, m_isv ms, m_buf ms, m_grp ms, m_pag ms⟩ : MM) σ0)) A_no := by
  refine A_of rfl (by decide) (Nat.le_of_ble_eq_true rfl) (L0 := [(0, .ref b9), (1, .int (nI f)), (2, .int h)]) rfl ?_
  refine A_aload_n (i := 0) dX2_irons_0 rfl rfl ?_
  refine A_iload_n (i := 1) dX2_irons_1 rfl rfl ?_
  refine A_iconst (v := 5) dX2_irons_2 (by decide) ?_
  refine A_iconst (v := 0) dX2_irons_3 (by decide) ?_
  refine A_aload_n (i := 0) dX2_irons_4 rfl rfl ?_
  refine A_iload_n (i := 1) dX2_irons_5 rfl rfl ?_
  refine A_iconst (v := 5) dX2_irons_6 (by decide) ?_
  refine A_callV2E (v := some (.int (fl (m_now ms) f 5))) (τ := mc b9 ms σ0) (c_ofFlag b9 ms σ0 f 5 (by first | assumption | omega) (by first | assumption | omega)) tX2_ofFlag q2444 (mc_0 _ _ _) rfl rfl dX2_irons_7 (by decide) (Nat.le_of_eq (Nat.zero_add _)) (Nat.le_of_ble_eq_true rfl) ?_
  refine A_iconst (v := 1) dX2_irons_10 (by decide) ?_
  refine A_isub dX2_irons_11 ?_
  refine A_iload_n (i := 2) dX2_irons_12 rfl rfl ?_
  refine A_isub dX2_irons_13 ?_
  refine A_aload_n (i := 0) dX2_irons_14 rfl rfl ?_
  refine A_iload_n (i := 1) dX2_irons_15 rfl rfl ?_
  refine A_iconst (v := 4) dX2_irons_16 (by decide) ?_
  refine A_callV2E (v := some (.int (fl (m_now ms) f 4))) (τ := mc b9 ms σ0) (c_ofFlag b9 ms σ0 f 4 (by first | assumption | omega) (by first | assumption | omega)) tX2_ofFlag q2444 (mc_0 _ _ _) rfl rfl dX2_irons_17 (by decide) (Nat.le_of_eq (Nat.zero_add _)) (Nat.le_of_ble_eq_true rfl) ?_
  refine A_if_le (tgt := 27) dX2_irons_20 (by decide) (fun c1 => ?_) (fun c1 => ?_)
  · skip
    refine A_iconst (v := 0) dX2_irons_27 (by decide) ?_
    refine A_callS1E (v := some (.int (oneI 0))) (τ := mc b9 ms σ0) (c_one b9 ms σ0 0) tX2_one q2456 dX2_irons_28 (by decide) (Nat.le_of_eq (Nat.zero_add _)) (Nat.le_of_ble_eq_true rfl) ?_
    refine A_int (w := 0) (by decide) ?_
    refine A_isub dX2_irons_31 ?_
    refine A_int (w := ((fl (m_now ms) f 5 - 1) - h) - bi (¬ fl (m_now ms) f 4 ≤ 0)) (by simp [bi, -Int32.not_le, c1]) ?_
    refine A_mmax q2509 q454 q150 q455 dX2_irons_32 (by decide) (Nat.le_of_ble_eq_true rfl) ?_
    refine A_int (w := (mx 0 (((fl (m_now ms) f 5 - 1) - h) - bi (¬ fl (m_now ms) f 4 ≤ 0)))) rfl ?_
    refine A_callV3E (v := none) (τ := mc b9 (⟨m_thr ms, m_is ms, m_um ms, m_bd ms, m_pc ms, m_pa ms, m_sz ms, m_cu ms, m_st ms, m_tk ms, m_to ms, m_ps ms, iron1 (m_now ms) f h, m_asd ms, m_und ms, m_sav ms, m_isv ms, m_buf ms, m_grp ms, m_pag ms⟩ : MM) σ0) (c_putsFlag b9 ms σ0 f 5 (mx 0 (((fl (m_now ms) f 5 - 1) - h) - bi (¬ fl (m_now ms) f 4 ≤ 0))) (by first | assumption | omega) (by first | assumption | omega)) tX2_putsFlag q2415 (mc_0 _ _ _) rfl rfl dX2_irons_35 (by decide) (Nat.le_of_eq (Nat.zero_add _)) (Nat.le_of_ble_eq_true rfl) ?_
    refine A_aload_n (i := 0) dX2_irons_38 rfl rfl ?_
    refine A_iload_n (i := 1) dX2_irons_39 rfl rfl ?_
    refine A_iconst (v := 4) dX2_irons_40 (by decide) ?_
    refine A_iconst (v := 0) dX2_irons_41 (by decide) ?_
    refine A_aload_n (i := 0) dX2_irons_42 rfl rfl ?_
    refine A_iload_n (i := 1) dX2_irons_43 rfl rfl ?_
    refine A_iconst (v := 4) dX2_irons_44 (by decide) ?_
    refine A_callV2E (v := some (.int (fl (iron1 (m_now ms) f h) f 4))) (τ := mc b9 (⟨m_thr ms, m_is ms, m_um ms, m_bd ms, m_pc ms, m_pa ms, m_sz ms, m_cu ms, m_st ms, m_tk ms, m_to ms, m_ps ms, iron1 (m_now ms) f h, m_asd ms, m_und ms, m_sav ms, m_isv ms, m_buf ms, m_grp ms, m_pag ms⟩ : MM) σ0) (c_ofFlag b9 (⟨m_thr ms, m_is ms, m_um ms, m_bd ms, m_pc ms, m_pa ms, m_sz ms, m_cu ms, m_st ms, m_tk ms, m_to ms, m_ps ms, iron1 (m_now ms) f h, m_asd ms, m_und ms, m_sav ms, m_isv ms, m_buf ms, m_grp ms, m_pag ms⟩ : MM) σ0 f 4 (by first | assumption | omega) (by first | assumption | omega)) tX2_ofFlag q2444 (mc_0 _ _ _) rfl rfl dX2_irons_45 (by decide) (Nat.le_of_eq (Nat.zero_add _)) (Nat.le_of_ble_eq_true rfl) ?_
    refine A_iload_n (i := 2) dX2_irons_48 rfl rfl ?_
    refine A_isub dX2_irons_49 ?_
    refine A_mmax q2509 q454 q150 q455 dX2_irons_50 (by decide) (Nat.le_of_ble_eq_true rfl) ?_
    refine A_int (w := (mx 0 ((fl (iron1 (m_now ms) f h) f 4) - h))) rfl ?_
    refine A_callV3E (v := none) (τ := mc b9 (⟨m_thr ms, m_is ms, m_um ms, m_bd ms, m_pc ms, m_pa ms, m_sz ms, m_cu ms, m_st ms, m_tk ms, m_to ms, m_ps ms, ironN (m_now ms) f h, m_asd ms, m_und ms, m_sav ms, m_isv ms, m_buf ms, m_grp ms, m_pag ms⟩ : MM) σ0) (c_putsFlag b9 (⟨m_thr ms, m_is ms, m_um ms, m_bd ms, m_pc ms, m_pa ms, m_sz ms, m_cu ms, m_st ms, m_tk ms, m_to ms, m_ps ms, iron1 (m_now ms) f h, m_asd ms, m_und ms, m_sav ms, m_isv ms, m_buf ms, m_grp ms, m_pag ms⟩ : MM) σ0 f 4 (mx 0 ((fl (iron1 (m_now ms) f h) f 4) - h)) (by first | assumption | omega) (by first | assumption | omega)) tX2_putsFlag q2415 (mc_0 _ _ _) rfl rfl dX2_irons_53 (by decide) (Nat.le_of_eq (Nat.zero_add _)) (Nat.le_of_ble_eq_true rfl) ?_
    exact A_vret dX2_irons_56 rfl ⟨rfl, rfl⟩
  · skip
    refine A_iconst (v := 1) dX2_irons_23 (by decide) ?_
    refine A_goto (tgt := 28) dX2_irons_24 (by decide) ?_
    refine A_callS1E (v := some (.int (oneI 1))) (τ := mc b9 ms σ0) (c_one b9 ms σ0 1) tX2_one q2456 dX2_irons_28 (by decide) (Nat.le_of_eq (Nat.zero_add _)) (Nat.le_of_ble_eq_true rfl) ?_
    refine A_int (w := 1) (by decide) ?_
    refine A_isub dX2_irons_31 ?_
    refine A_int (w := ((fl (m_now ms) f 5 - 1) - h) - bi (¬ fl (m_now ms) f 4 ≤ 0)) (by simp [bi, -Int32.not_le, c1]) ?_
    refine A_mmax q2509 q454 q150 q455 dX2_irons_32 (by decide) (Nat.le_of_ble_eq_true rfl) ?_
    refine A_int (w := (mx 0 (((fl (m_now ms) f 5 - 1) - h) - bi (¬ fl (m_now ms) f 4 ≤ 0)))) rfl ?_
    refine A_callV3E (v := none) (τ := mc b9 (⟨m_thr ms, m_is ms, m_um ms, m_bd ms, m_pc ms, m_pa ms, m_sz ms, m_cu ms, m_st ms, m_tk ms, m_to ms, m_ps ms, iron1 (m_now ms) f h, m_asd ms, m_und ms, m_sav ms, m_isv ms, m_buf ms, m_grp ms, m_pag ms⟩ : MM) σ0) (c_putsFlag b9 ms σ0 f 5 (mx 0 (((fl (m_now ms) f 5 - 1) - h) - bi (¬ fl (m_now ms) f 4 ≤ 0))) (by first | assumption | omega) (by first | assumption | omega)) tX2_putsFlag q2415 (mc_0 _ _ _) rfl rfl dX2_irons_35 (by decide) (Nat.le_of_eq (Nat.zero_add _)) (Nat.le_of_ble_eq_true rfl) ?_
    refine A_aload_n (i := 0) dX2_irons_38 rfl rfl ?_
    refine A_iload_n (i := 1) dX2_irons_39 rfl rfl ?_
    refine A_iconst (v := 4) dX2_irons_40 (by decide) ?_
    refine A_iconst (v := 0) dX2_irons_41 (by decide) ?_
    refine A_aload_n (i := 0) dX2_irons_42 rfl rfl ?_
    refine A_iload_n (i := 1) dX2_irons_43 rfl rfl ?_
    refine A_iconst (v := 4) dX2_irons_44 (by decide) ?_
    refine A_callV2E (v := some (.int (fl (iron1 (m_now ms) f h) f 4))) (τ := mc b9 (⟨m_thr ms, m_is ms, m_um ms, m_bd ms, m_pc ms, m_pa ms, m_sz ms, m_cu ms, m_st ms, m_tk ms, m_to ms, m_ps ms, iron1 (m_now ms) f h, m_asd ms, m_und ms, m_sav ms, m_isv ms, m_buf ms, m_grp ms, m_pag ms⟩ : MM) σ0) (c_ofFlag b9 (⟨m_thr ms, m_is ms, m_um ms, m_bd ms, m_pc ms, m_pa ms, m_sz ms, m_cu ms, m_st ms, m_tk ms, m_to ms, m_ps ms, iron1 (m_now ms) f h, m_asd ms, m_und ms, m_sav ms, m_isv ms, m_buf ms, m_grp ms, m_pag ms⟩ : MM) σ0 f 4 (by first | assumption | omega) (by first | assumption | omega)) tX2_ofFlag q2444 (mc_0 _ _ _) rfl rfl dX2_irons_45 (by decide) (Nat.le_of_eq (Nat.zero_add _)) (Nat.le_of_ble_eq_true rfl) ?_
    refine A_iload_n (i := 2) dX2_irons_48 rfl rfl ?_
    refine A_isub dX2_irons_49 ?_
    refine A_mmax q2509 q454 q150 q455 dX2_irons_50 (by decide) (Nat.le_of_ble_eq_true rfl) ?_
    refine A_int (w := (mx 0 ((fl (iron1 (m_now ms) f h) f 4) - h))) rfl ?_
    refine A_callV3E (v := none) (τ := mc b9 (⟨m_thr ms, m_is ms, m_um ms, m_bd ms, m_pc ms, m_pa ms, m_sz ms, m_cu ms, m_st ms, m_tk ms, m_to ms, m_ps ms, ironN (m_now ms) f h, m_asd ms, m_und ms, m_sav ms, m_isv ms, m_buf ms, m_grp ms, m_pag ms⟩ : MM) σ0) (c_putsFlag b9 (⟨m_thr ms, m_is ms, m_um ms, m_bd ms, m_pc ms, m_pa ms, m_sz ms, m_cu ms, m_st ms, m_tk ms, m_to ms, m_ps ms, iron1 (m_now ms) f h, m_asd ms, m_und ms, m_sav ms, m_isv ms, m_buf ms, m_grp ms, m_pag ms⟩ : MM) σ0 f 4 (mx 0 ((fl (iron1 (m_now ms) f h) f 4) - h)) (by first | assumption | omega) (by first | assumption | omega)) tX2_putsFlag q2415 (mc_0 _ _ _) rfl rfl dX2_irons_53 (by decide) (Nat.le_of_eq (Nat.zero_add _)) (Nat.le_of_ble_eq_true rfl) ?_
    exact A_vret dX2_irons_56 rfl ⟨rfl, rfl⟩
theorem c_mixes {l : Launch} {g : GC} (b9 : Nat) (ms : MM) (σ0 : AH) (f : Nat) (o : Nat) (h : Int32) (h1 : WFc (m_now ms)) (h2 : f < 12) (h3 : o < 12) : AMet l g mX2_mixes 4 0 [.ref b9, .int (nI f), .int (nI o), .int h] (mc b9 ms σ0) (A_eq (some (.int (mixN (m_now ms) f o h))) (mc b9 ms σ0)) A_no := by
  refine A_of rfl (by decide) (Nat.le_of_ble_eq_true rfl) (L0 := [(0, .ref b9), (1, .int (nI f)), (2, .int (nI o)), (3, .int h)]) rfl ?_
  refine A_iload_n (i := 1) dX2_mixes_0 rfl rfl ?_
  refine A_iload_n (i := 2) dX2_mixes_1 rfl rfl ?_
  refine A_icmp_ne (tgt := 7) dX2_mixes_2 (by decide) (fun c1 => ?_) (fun c1 => ?_)
  · skip
    refine A_aload_n (i := 0) dX2_mixes_7 rfl rfl ?_
    refine A_iload_n (i := 2) dX2_mixes_8 rfl rfl ?_
    refine A_aload_n (i := 0) dX2_mixes_9 rfl rfl ?_
    refine A_iload_n (i := 1) dX2_mixes_10 rfl rfl ?_
    refine A_iload_n (i := 3) dX2_mixes_11 rfl rfl ?_
    refine A_callV2E (v := some (.int (runFrom (m_now ms) f h))) (τ := mc b9 ms σ0) (c_runningFrom b9 ms σ0 f h (by first | assumption | omega) (by first | assumption | omega)) tX2_runningFrom q2485 (mc_0 _ _ _) rfl rfl dX2_mixes_12 (by decide) (Nat.le_of_eq (Nat.zero_add _)) (Nat.le_of_ble_eq_true rfl) ?_
    refine A_callV2E (v := some (.int (newS (m_now ms) o (runFrom (m_now ms) f h)))) (τ := mc b9 ms σ0) (c_newStains b9 ms σ0 o (runFrom (m_now ms) f h) (by first | assumption | omega)) tX2_newStains q2497 (mc_0 _ _ _) rfl rfl dX2_mixes_15 (by decide) (Nat.le_of_eq (Nat.zero_add _)) (Nat.le_of_ble_eq_true rfl) ?_
    refine A_if_eq (tgt := 25) dX2_mixes_18 (by decide) (fun c2 => ?_) (fun c2 => ?_)
    · skip
      refine A_iconst (v := 0) dX2_mixes_25 (by decide) ?_
      refine A_callS1E (v := some (.int (oneI 0))) (τ := mc b9 ms σ0) (c_one b9 ms σ0 0) tX2_one q2456 dX2_mixes_26 (by decide) (Nat.le_of_eq (Nat.zero_add _)) (Nat.le_of_ble_eq_true rfl) ?_
      refine A_int (w := 0) (by decide) ?_
      refine A_iconst (v := 2) dX2_mixes_29 (by decide) ?_
      refine A_aload_n (i := 0) dX2_mixes_30 rfl rfl ?_
      refine A_iload_n (i := 1) dX2_mixes_31 rfl rfl ?_
      refine A_aload_n (i := 0) dX2_mixes_32 rfl rfl ?_
      refine A_iload_n (i := 2) dX2_mixes_33 rfl rfl ?_
      refine A_iload_n (i := 3) dX2_mixes_34 rfl rfl ?_
      refine A_callV2E (v := some (.int (runFrom (m_now ms) o h))) (τ := mc b9 ms σ0) (c_runningFrom b9 ms σ0 o h (by first | assumption | omega) (by first | assumption | omega)) tX2_runningFrom q2485 (mc_0 _ _ _) rfl rfl dX2_mixes_35 (by decide) (Nat.le_of_eq (Nat.zero_add _)) (Nat.le_of_ble_eq_true rfl) ?_
      refine A_callV2E (v := some (.int (newS (m_now ms) f (runFrom (m_now ms) o h)))) (τ := mc b9 ms σ0) (c_newStains b9 ms σ0 f (runFrom (m_now ms) o h) (by first | assumption | omega)) tX2_newStains q2497 (mc_0 _ _ _) rfl rfl dX2_mixes_38 (by decide) (Nat.le_of_eq (Nat.zero_add _)) (Nat.le_of_ble_eq_true rfl) ?_
      refine A_if_eq (tgt := 48) dX2_mixes_41 (by decide) (fun c3 => ?_) (fun c3 => ?_)
      · skip
        refine A_iconst (v := 0) dX2_mixes_48 (by decide) ?_
        refine A_callS1E (v := some (.int (oneI 0))) (τ := mc b9 ms σ0) (c_one b9 ms σ0 0) tX2_one q2456 dX2_mixes_49 (by decide) (Nat.le_of_eq (Nat.zero_add _)) (Nat.le_of_ble_eq_true rfl) ?_
        refine A_int (w := 0) (by decide) ?_
        refine A_imul dX2_mixes_52 ?_
        refine A_int (w := 0) (by decide) ?_
        refine A_iadd dX2_mixes_53 ?_
        refine A_int (w := 0) (by decide) ?_
        exact A_iret dX2_mixes_54 rfl ⟨by rw [mixN, if_neg (nIne c1)]; simp [bi, c2, c3], rfl⟩
      · skip
        refine A_iconst (v := 1) dX2_mixes_44 (by decide) ?_
        refine A_goto (tgt := 49) dX2_mixes_45 (by decide) ?_
        refine A_callS1E (v := some (.int (oneI 1))) (τ := mc b9 ms σ0) (c_one b9 ms σ0 1) tX2_one q2456 dX2_mixes_49 (by decide) (Nat.le_of_eq (Nat.zero_add _)) (Nat.le_of_ble_eq_true rfl) ?_
        refine A_int (w := 1) (by decide) ?_
        refine A_imul dX2_mixes_52 ?_
        refine A_int (w := 2) (by decide) ?_
        refine A_iadd dX2_mixes_53 ?_
        refine A_int (w := 2) (by decide) ?_
        exact A_iret dX2_mixes_54 rfl ⟨by rw [mixN, if_neg (nIne c1)]; simp [bi, c2, c3], rfl⟩
    · skip
      refine A_iconst (v := 1) dX2_mixes_21 (by decide) ?_
      refine A_goto (tgt := 26) dX2_mixes_22 (by decide) ?_
      refine A_callS1E (v := some (.int (oneI 1))) (τ := mc b9 ms σ0) (c_one b9 ms σ0 1) tX2_one q2456 dX2_mixes_26 (by decide) (Nat.le_of_eq (Nat.zero_add _)) (Nat.le_of_ble_eq_true rfl) ?_
      refine A_int (w := 1) (by decide) ?_
      refine A_iconst (v := 2) dX2_mixes_29 (by decide) ?_
      refine A_aload_n (i := 0) dX2_mixes_30 rfl rfl ?_
      refine A_iload_n (i := 1) dX2_mixes_31 rfl rfl ?_
      refine A_aload_n (i := 0) dX2_mixes_32 rfl rfl ?_
      refine A_iload_n (i := 2) dX2_mixes_33 rfl rfl ?_
      refine A_iload_n (i := 3) dX2_mixes_34 rfl rfl ?_
      refine A_callV2E (v := some (.int (runFrom (m_now ms) o h))) (τ := mc b9 ms σ0) (c_runningFrom b9 ms σ0 o h (by first | assumption | omega) (by first | assumption | omega)) tX2_runningFrom q2485 (mc_0 _ _ _) rfl rfl dX2_mixes_35 (by decide) (Nat.le_of_eq (Nat.zero_add _)) (Nat.le_of_ble_eq_true rfl) ?_
      refine A_callV2E (v := some (.int (newS (m_now ms) f (runFrom (m_now ms) o h)))) (τ := mc b9 ms σ0) (c_newStains b9 ms σ0 f (runFrom (m_now ms) o h) (by first | assumption | omega)) tX2_newStains q2497 (mc_0 _ _ _) rfl rfl dX2_mixes_38 (by decide) (Nat.le_of_eq (Nat.zero_add _)) (Nat.le_of_ble_eq_true rfl) ?_
      refine A_if_eq (tgt := 48) dX2_mixes_41 (by decide) (fun c4 => ?_) (fun c4 => ?_)
      · skip
        refine A_iconst (v := 0) dX2_mixes_48 (by decide) ?_
        refine A_callS1E (v := some (.int (oneI 0))) (τ := mc b9 ms σ0) (c_one b9 ms σ0 0) tX2_one q2456 dX2_mixes_49 (by decide) (Nat.le_of_eq (Nat.zero_add _)) (Nat.le_of_ble_eq_true rfl) ?_
        refine A_int (w := 0) (by decide) ?_
        refine A_imul dX2_mixes_52 ?_
        refine A_int (w := 0) (by decide) ?_
        refine A_iadd dX2_mixes_53 ?_
        refine A_int (w := 1) (by decide) ?_
        exact A_iret dX2_mixes_54 rfl ⟨by rw [mixN, if_neg (nIne c1)]; simp [bi, c2, c4], rfl⟩
      · skip
        refine A_iconst (v := 1) dX2_mixes_44 (by decide) ?_
        refine A_goto (tgt := 49) dX2_mixes_45 (by decide) ?_
        refine A_callS1E (v := some (.int (oneI 1))) (τ := mc b9 ms σ0) (c_one b9 ms σ0 1) tX2_one q2456 dX2_mixes_49 (by decide) (Nat.le_of_eq (Nat.zero_add _)) (Nat.le_of_ble_eq_true rfl) ?_
        refine A_int (w := 1) (by decide) ?_
        refine A_imul dX2_mixes_52 ?_
        refine A_int (w := 2) (by decide) ?_
        refine A_iadd dX2_mixes_53 ?_
        refine A_int (w := 3) (by decide) ?_
        exact A_iret dX2_mixes_54 rfl ⟨by rw [mixN, if_neg (nIne c1)]; simp [bi, c2, c4], rfl⟩
  · skip
    refine A_iconst (v := 0) dX2_mixes_5 (by decide) ?_
    exact A_iret dX2_mixes_6 rfl ⟨by rw [mixN, if_pos (nIeq (by omega) (by omega) c1)], rfl⟩
theorem c_doNotMix {l : Launch} {g : GC} (b9 : Nat) (ms : MM) (σ0 : AH) (f : Int32) (o : Int32) (h : Int32) (h1 : WFc (m_now ms)) : AMet l g mX2_doNotMix 5 0 [.ref b9, .int f, .int o, .int h] (mc b9 ms σ0) (A_eq (some (.int (gd (mayT (m_is ms) (bi (okF (m_is ms) (m_now ms) f ∧ okF (m_is ms) (m_now ms) o)) (bi (inR h 0 3))) (mixN (m_now ms) (ix f) (ix o) h)))) (mc b9 (⟨mayT (m_is ms) (bi (okF (m_is ms) (m_now ms) f ∧ okF (m_is ms) (m_now ms) o)) (bi (inR h 0 3)), m_is ms, m_um ms, m_bd ms, m_pc ms, m_pa ms, m_sz ms, m_cu ms, m_st ms, m_tk ms, m_to ms, m_ps ms, m_now ms, m_asd ms, m_und ms, m_sav ms, m_isv ms, m_buf ms, m_grp ms, m_pag ms⟩ : MM) σ0)) A_no := by
  refine A_of rfl (by decide) (Nat.le_of_ble_eq_true rfl) (L0 := [(0, .ref b9), (1, .int f), (2, .int o), (3, .int h)]) rfl ?_
  have hF := h1.2.2.2.2.2
  have hC := h1.1.2
  refine A_aload_n (i := 0) dX2_doNotMix_0 rfl rfl ?_
  refine A_aload_n (i := 0) dX2_doNotMix_1 rfl rfl ?_
  refine M_get 6 (v := .int (m_is ms)) (Nat.le_of_ble_eq_true rfl) q2235 rfl dX2_doNotMix_2 ?_
  refine A_aload_n (i := 0) dX2_doNotMix_5 rfl rfl ?_
  refine A_iload_n (i := 1) dX2_doNotMix_6 rfl rfl ?_
  refine A_callV1E (v := some (.int (bi (okF (m_is ms) (m_now ms) f)))) (τ := mc b9 ms σ0) (c_isFlag b9 ms σ0 f) tX2_isFlag q2629 (mc_0 _ _ _) rfl rfl dX2_doNotMix_7 (by decide) (Nat.le_of_eq (Nat.zero_add _)) (Nat.le_of_ble_eq_true rfl) ?_
  refine A_if_eq (tgt := 25) dX2_doNotMix_10 (by decide) (fun c1 => ?_) (fun c1 => ?_)
  · skip
    have c1 := bi_eq0.mp c1
    refine A_iconst (v := 0) dX2_doNotMix_25 (by decide) ?_
    refine A_int (w := bi (okF (m_is ms) (m_now ms) f ∧ okF (m_is ms) (m_now ms) o)) ((bi_f (fun h9 => c1 h9.1)).symm) ?_
    refine A_iload_n (i := 3) dX2_doNotMix_26 rfl rfl ?_
    refine A_callS1E (v := some (.int (bi (inR h 0 3)))) (τ := mc b9 ms σ0) (c_isHeat b9 ms σ0 h) tX2_isHeat q2714 dX2_doNotMix_27 (by decide) (Nat.le_of_eq (Nat.zero_add _)) (Nat.le_of_ble_eq_true rfl) ?_
    refine A_callV3E (v := some (.int (bi (mayT (m_is ms) (bi (okF (m_is ms) (m_now ms) f ∧ okF (m_is ms) (m_now ms) o)) (bi (inR h 0 3)) = 0)))) (τ := mc b9 (⟨mayT (m_is ms) (bi (okF (m_is ms) (m_now ms) f ∧ okF (m_is ms) (m_now ms) o)) (bi (inR h 0 3)), m_is ms, m_um ms, m_bd ms, m_pc ms, m_pa ms, m_sz ms, m_cu ms, m_st ms, m_tk ms, m_to ms, m_ps ms, m_now ms, m_asd ms, m_und ms, m_sav ms, m_isv ms, m_buf ms, m_grp ms, m_pag ms⟩ : MM) σ0) (c_may b9 ms σ0 (m_is ms) (bi (okF (m_is ms) (m_now ms) f ∧ okF (m_is ms) (m_now ms) o)) (bi (inR h 0 3))) tX2_may q2322 (mc_0 _ _ _) rfl rfl dX2_doNotMix_30 (by decide) (Nat.le_of_eq (Nat.zero_add _)) (Nat.le_of_ble_eq_true rfl) ?_
    refine A_if_eq (tgt := 46) dX2_doNotMix_33 (by decide) (fun c2 => ?_) (fun c2 => ?_)
    · skip
      have c2 := bi_eq0.mp c2
      refine A_iconst (v := 0) dX2_doNotMix_46 (by decide) ?_
      exact A_iret dX2_doNotMix_47 rfl ⟨by rw [gd, if_neg c2], rfl⟩
    · skip
      have c2 := bi_ne0.mp c2
      obtain ⟨f9, hf9, rfl⟩ := okF_ex h1 (mayT_y c2).1
      obtain ⟨o9, ho9, rfl⟩ := okF_ex h1 (mayT_y c2).2
      refine A_aload_n (i := 0) dX2_doNotMix_36 rfl rfl ?_
      refine A_iload_n (i := 1) dX2_doNotMix_37 rfl rfl ?_
      refine A_iload_n (i := 2) dX2_doNotMix_38 rfl rfl ?_
      refine A_iload_n (i := 3) dX2_doNotMix_39 rfl rfl ?_
      refine A_callV3E (v := some (.int (mixN (m_now ms) f9 o9 h))) (τ := mc b9 (⟨mayT (m_is ms) (bi (okF (m_is ms) (m_now ms) (nI f9) ∧ okF (m_is ms) (m_now ms) (nI o9))) (bi (inR h 0 3)), m_is ms, m_um ms, m_bd ms, m_pc ms, m_pa ms, m_sz ms, m_cu ms, m_st ms, m_tk ms, m_to ms, m_ps ms, m_now ms, m_asd ms, m_und ms, m_sav ms, m_isv ms, m_buf ms, m_grp ms, m_pag ms⟩ : MM) σ0) (c_mixes b9 (⟨mayT (m_is ms) (bi (okF (m_is ms) (m_now ms) (nI f9) ∧ okF (m_is ms) (m_now ms) (nI o9))) (bi (inR h 0 3)), m_is ms, m_um ms, m_bd ms, m_pc ms, m_pa ms, m_sz ms, m_cu ms, m_st ms, m_tk ms, m_to ms, m_ps ms, m_now ms, m_asd ms, m_und ms, m_sav ms, m_isv ms, m_buf ms, m_grp ms, m_pag ms⟩ : MM) σ0 f9 o9 h (by first | assumption | omega) (by first | assumption | omega) (by first | assumption | omega)) tX2_mixes q2769 (mc_0 _ _ _) rfl rfl dX2_doNotMix_40 (by decide) (Nat.le_of_eq (Nat.zero_add _)) (Nat.le_of_ble_eq_true rfl) ?_
      refine A_goto (tgt := 47) dX2_doNotMix_43 (by decide) ?_
      exact A_iret dX2_doNotMix_47 rfl ⟨by rw [gd, if_pos c2] <;> first | with_reducible rfl | (simp [-Int32.not_lt, -Int32.not_le, ixn (show f9 < 2000 by omega), ixn (show o9 < 2000 by omega)]; done) | (simp [ixn (show f9 < 2000 by omega), ixn (show o9 < 2000 by omega)]), rfl⟩
  · skip
    have c1 := bi_ne0.mp c1
    refine A_aload_n (i := 0) dX2_doNotMix_13 rfl rfl ?_
    refine A_iload_n (i := 2) dX2_doNotMix_14 rfl rfl ?_
    refine A_callV1E (v := some (.int (bi (okF (m_is ms) (m_now ms) o)))) (τ := mc b9 ms σ0) (c_isFlag b9 ms σ0 o) tX2_isFlag q2629 (mc_0 _ _ _) rfl rfl dX2_doNotMix_15 (by decide) (Nat.le_of_eq (Nat.zero_add _)) (Nat.le_of_ble_eq_true rfl) ?_
    refine A_if_eq (tgt := 25) dX2_doNotMix_18 (by decide) (fun c3 => ?_) (fun c3 => ?_)
    · skip
      have c3 := bi_eq0.mp c3
      refine A_iconst (v := 0) dX2_doNotMix_25 (by decide) ?_
      refine A_int (w := bi (okF (m_is ms) (m_now ms) f ∧ okF (m_is ms) (m_now ms) o)) ((bi_f (fun h9 => c3 h9.2)).symm) ?_
      refine A_iload_n (i := 3) dX2_doNotMix_26 rfl rfl ?_
      refine A_callS1E (v := some (.int (bi (inR h 0 3)))) (τ := mc b9 ms σ0) (c_isHeat b9 ms σ0 h) tX2_isHeat q2714 dX2_doNotMix_27 (by decide) (Nat.le_of_eq (Nat.zero_add _)) (Nat.le_of_ble_eq_true rfl) ?_
      refine A_callV3E (v := some (.int (bi (mayT (m_is ms) (bi (okF (m_is ms) (m_now ms) f ∧ okF (m_is ms) (m_now ms) o)) (bi (inR h 0 3)) = 0)))) (τ := mc b9 (⟨mayT (m_is ms) (bi (okF (m_is ms) (m_now ms) f ∧ okF (m_is ms) (m_now ms) o)) (bi (inR h 0 3)), m_is ms, m_um ms, m_bd ms, m_pc ms, m_pa ms, m_sz ms, m_cu ms, m_st ms, m_tk ms, m_to ms, m_ps ms, m_now ms, m_asd ms, m_und ms, m_sav ms, m_isv ms, m_buf ms, m_grp ms, m_pag ms⟩ : MM) σ0) (c_may b9 ms σ0 (m_is ms) (bi (okF (m_is ms) (m_now ms) f ∧ okF (m_is ms) (m_now ms) o)) (bi (inR h 0 3))) tX2_may q2322 (mc_0 _ _ _) rfl rfl dX2_doNotMix_30 (by decide) (Nat.le_of_eq (Nat.zero_add _)) (Nat.le_of_ble_eq_true rfl) ?_
      refine A_if_eq (tgt := 46) dX2_doNotMix_33 (by decide) (fun c4 => ?_) (fun c4 => ?_)
      · skip
        have c4 := bi_eq0.mp c4
        refine A_iconst (v := 0) dX2_doNotMix_46 (by decide) ?_
        exact A_iret dX2_doNotMix_47 rfl ⟨by rw [gd, if_neg c4], rfl⟩
      · skip
        have c4 := bi_ne0.mp c4
        obtain ⟨f9, hf9, rfl⟩ := okF_ex h1 (mayT_y c4).1
        obtain ⟨o9, ho9, rfl⟩ := okF_ex h1 (mayT_y c4).2
        refine A_aload_n (i := 0) dX2_doNotMix_36 rfl rfl ?_
        refine A_iload_n (i := 1) dX2_doNotMix_37 rfl rfl ?_
        refine A_iload_n (i := 2) dX2_doNotMix_38 rfl rfl ?_
        refine A_iload_n (i := 3) dX2_doNotMix_39 rfl rfl ?_
        refine A_callV3E (v := some (.int (mixN (m_now ms) f9 o9 h))) (τ := mc b9 (⟨mayT (m_is ms) (bi (okF (m_is ms) (m_now ms) (nI f9) ∧ okF (m_is ms) (m_now ms) (nI o9))) (bi (inR h 0 3)), m_is ms, m_um ms, m_bd ms, m_pc ms, m_pa ms, m_sz ms, m_cu ms, m_st ms, m_tk ms, m_to ms, m_ps ms, m_now ms, m_asd ms, m_und ms, m_sav ms, m_isv ms, m_buf ms, m_grp ms, m_pag ms⟩ : MM) σ0) (c_mixes b9 (⟨mayT (m_is ms) (bi (okF (m_is ms) (m_now ms) (nI f9) ∧ okF (m_is ms) (m_now ms) (nI o9))) (bi (inR h 0 3)), m_is ms, m_um ms, m_bd ms, m_pc ms, m_pa ms, m_sz ms, m_cu ms, m_st ms, m_tk ms, m_to ms, m_ps ms, m_now ms, m_asd ms, m_und ms, m_sav ms, m_isv ms, m_buf ms, m_grp ms, m_pag ms⟩ : MM) σ0 f9 o9 h (by first | assumption | omega) (by first | assumption | omega) (by first | assumption | omega)) tX2_mixes q2769 (mc_0 _ _ _) rfl rfl dX2_doNotMix_40 (by decide) (Nat.le_of_eq (Nat.zero_add _)) (Nat.le_of_ble_eq_true rfl) ?_
        refine A_goto (tgt := 47) dX2_doNotMix_43 (by decide) ?_
        exact A_iret dX2_doNotMix_47 rfl ⟨by rw [gd, if_pos c4] <;> first | with_reducible rfl | (simp [-Int32.not_lt, -Int32.not_le, ixn (show f9 < 2000 by omega), ixn (show o9 < 2000 by omega)]; done) | (simp [ixn (show f9 < 2000 by omega), ixn (show o9 < 2000 by omega)]), rfl⟩
    · skip
      have c3 := bi_ne0.mp c3
      refine A_iconst (v := 1) dX2_doNotMix_21 (by decide) ?_
      refine A_goto (tgt := 26) dX2_doNotMix_22 (by decide) ?_
      refine A_int (w := bi (okF (m_is ms) (m_now ms) f ∧ okF (m_is ms) (m_now ms) o)) ((bi_t ⟨c1, c3⟩).symm) ?_
      refine A_iload_n (i := 3) dX2_doNotMix_26 rfl rfl ?_
      refine A_callS1E (v := some (.int (bi (inR h 0 3)))) (τ := mc b9 ms σ0) (c_isHeat b9 ms σ0 h) tX2_isHeat q2714 dX2_doNotMix_27 (by decide) (Nat.le_of_eq (Nat.zero_add _)) (Nat.le_of_ble_eq_true rfl) ?_
      refine A_callV3E (v := some (.int (bi (mayT (m_is ms) (bi (okF (m_is ms) (m_now ms) f ∧ okF (m_is ms) (m_now ms) o)) (bi (inR h 0 3)) = 0)))) (τ := mc b9 (⟨mayT (m_is ms) (bi (okF (m_is ms) (m_now ms) f ∧ okF (m_is ms) (m_now ms) o)) (bi (inR h 0 3)), m_is ms, m_um ms, m_bd ms, m_pc ms, m_pa ms, m_sz ms, m_cu ms, m_st ms, m_tk ms, m_to ms, m_ps ms, m_now ms, m_asd ms, m_und ms, m_sav ms, m_isv ms, m_buf ms, m_grp ms, m_pag ms⟩ : MM) σ0) (c_may b9 ms σ0 (m_is ms) (bi (okF (m_is ms) (m_now ms) f ∧ okF (m_is ms) (m_now ms) o)) (bi (inR h 0 3))) tX2_may q2322 (mc_0 _ _ _) rfl rfl dX2_doNotMix_30 (by decide) (Nat.le_of_eq (Nat.zero_add _)) (Nat.le_of_ble_eq_true rfl) ?_
      refine A_if_eq (tgt := 46) dX2_doNotMix_33 (by decide) (fun c5 => ?_) (fun c5 => ?_)
      · skip
        have c5 := bi_eq0.mp c5
        refine A_iconst (v := 0) dX2_doNotMix_46 (by decide) ?_
        exact A_iret dX2_doNotMix_47 rfl ⟨by rw [gd, if_neg c5], rfl⟩
      · skip
        have c5 := bi_ne0.mp c5
        obtain ⟨f9, hf9, rfl⟩ := okF_ex h1 (mayT_y c5).1
        obtain ⟨o9, ho9, rfl⟩ := okF_ex h1 (mayT_y c5).2
        refine A_aload_n (i := 0) dX2_doNotMix_36 rfl rfl ?_
        refine A_iload_n (i := 1) dX2_doNotMix_37 rfl rfl ?_
        refine A_iload_n (i := 2) dX2_doNotMix_38 rfl rfl ?_
        refine A_iload_n (i := 3) dX2_doNotMix_39 rfl rfl ?_
        refine A_callV3E (v := some (.int (mixN (m_now ms) f9 o9 h))) (τ := mc b9 (⟨mayT (m_is ms) (bi (okF (m_is ms) (m_now ms) (nI f9) ∧ okF (m_is ms) (m_now ms) (nI o9))) (bi (inR h 0 3)), m_is ms, m_um ms, m_bd ms, m_pc ms, m_pa ms, m_sz ms, m_cu ms, m_st ms, m_tk ms, m_to ms, m_ps ms, m_now ms, m_asd ms, m_und ms, m_sav ms, m_isv ms, m_buf ms, m_grp ms, m_pag ms⟩ : MM) σ0) (c_mixes b9 (⟨mayT (m_is ms) (bi (okF (m_is ms) (m_now ms) (nI f9) ∧ okF (m_is ms) (m_now ms) (nI o9))) (bi (inR h 0 3)), m_is ms, m_um ms, m_bd ms, m_pc ms, m_pa ms, m_sz ms, m_cu ms, m_st ms, m_tk ms, m_to ms, m_ps ms, m_now ms, m_asd ms, m_und ms, m_sav ms, m_isv ms, m_buf ms, m_grp ms, m_pag ms⟩ : MM) σ0 f9 o9 h (by first | assumption | omega) (by first | assumption | omega) (by first | assumption | omega)) tX2_mixes q2769 (mc_0 _ _ _) rfl rfl dX2_doNotMix_40 (by decide) (Nat.le_of_eq (Nat.zero_add _)) (Nat.le_of_ble_eq_true rfl) ?_
        refine A_goto (tgt := 47) dX2_doNotMix_43 (by decide) ?_
        exact A_iret dX2_doNotMix_47 rfl ⟨by rw [gd, if_pos c5] <;> first | with_reducible rfl | (simp [-Int32.not_lt, -Int32.not_le, ixn (show f9 < 2000 by omega), ixn (show o9 < 2000 by omega)]; done) | (simp [ixn (show f9 < 2000 by omega), ixn (show o9 < 2000 by omega)]), rfl⟩
theorem c_mixedWith {l : Launch} {g : GC} (b9 : Nat) (ms : MM) (σ0 : AH) (f : Nat) (h : Int32) (h1 : WFc (m_now ms)) (h2 : f < 12) : AMet l g mX2_mixedWith 5 0 [.ref b9, .int (nI f), .int h] (mc b9 ms σ0) (A_eq (some (.int (mixW (m_now ms) f h))) (mc b9 ms σ0)) A_no := by
  refine A_of rfl (by decide) (Nat.le_of_ble_eq_true rfl) (L0 := [(0, .ref b9), (1, .int (nI f)), (2, .int h)]) rfl ?_
  have hF := h1.2.2.2.2.2
  have hC := h1.1.2
  refine A_iconst (v := 0) dX2_mixedWith_0 (by decide) ?_
  refine A_istore_n (i := 3) dX2_mixedWith_1 rfl (Nat.le_of_ble_eq_true rfl) ?_
  refine A_iconst (v := 0) dX2_mixedWith_2 (by decide) ?_
  refine A_istore dX2_mixedWith_3 (Nat.le_of_ble_eq_true rfl) ?_
  refine A_sub (L' := [(0, .ref b9), (1, .int (nI f)), (2, .int h), (3, .int (sm (fun k9 => bi (inBasket (m_now ms) k9 ∧ ¬ mixN (m_now ms) f k9 h = 0)) 0)), (4, .int (nI 0))]) ⟨rfl, rfl, rfl, rfl, rfl, trivial⟩ ?_
  refine A_for (nF (m_now ms)) (fun i5 => 0) (fun i5 => [(0, .ref b9), (1, .int (nI f)), (2, .int h), (3, .int (sm (fun k9 => bi (inBasket (m_now ms) k9 ∧ ¬ mixN (m_now ms) f k9 h = 0)) i5)), (4, .int (nI i5))]) (fun i5 => mc b9 ms σ0) (fun i5 => True) trivial (fun i5 hi5 hI5 ih5 => ?_) (fun hI5 => ?_)
  · skip
    refine A_iload dX2_mixedWith_5 rfl ?_
    refine A_aload_n (i := 0) dX2_mixedWith_7 rfl rfl ?_
    refine M_get 1 (v := .ref (b9 + 1)) (Nat.le_of_ble_eq_true rfl) q2230 rfl dX2_mixedWith_8 ?_
    refine A_bipush (v := 10) dX2_mixedWith_11 (by decide) ?_
    refine M_ald1 (n := 10) (v := m_now ms 10) (rfl) (by decide) (rfl) dX2_mixedWith_13 ?_
    refine A_icmp_ge_f (tgt := 54) dX2_mixedWith_14 (by decide) (br_lt h1.2.2.2.2.1 hi5 (by omega)) ?_
    refine A_iload_n (i := 3) dX2_mixedWith_17 rfl rfl ?_
    refine A_aload_n (i := 0) dX2_mixedWith_18 rfl rfl ?_
    refine A_iload dX2_mixedWith_19 rfl ?_
    refine A_callV1E (v := some (.int (bi (inBasket (m_now ms) i5)))) (τ := mc b9 ms σ0) (c_isInBasket b9 ms σ0 i5 (by first | assumption | omega)) tX2_isInBasket q2436 (mc_0 _ _ _) rfl rfl dX2_mixedWith_21 (by decide) (Nat.le_of_eq (Nat.zero_add _)) (Nat.le_of_ble_eq_true rfl) ?_
    refine A_if_eq (tgt := 42) dX2_mixedWith_24 (by decide) (fun c1 => ?_) (fun c1 => ?_)
    · skip
      have c1 := bi_eq0.mp c1
      refine A_iconst (v := 0) dX2_mixedWith_42 (by decide) ?_
      refine A_callS1E (v := some (.int (oneI 0))) (τ := mc b9 ms σ0) (c_one b9 ms σ0 0) tX2_one q2456 dX2_mixedWith_43 (by decide) (Nat.le_of_eq (Nat.zero_add _)) (Nat.le_of_ble_eq_true rfl) ?_
      refine A_int (w := 0) (by decide) ?_
      refine A_iadd dX2_mixedWith_46 ?_
      refine A_int (w := sm (fun k9 => bi (inBasket (m_now ms) k9 ∧ ¬ mixN (m_now ms) f k9 h = 0)) (i5 + 1)) (by rw [sm_s] <;> simp [bi, inTub, inBasket, hasB, inR, -Int32.not_lt, -Int32.not_le, c1]) ?_
      refine A_istore_n (i := 3) dX2_mixedWith_47 rfl (Nat.le_of_ble_eq_true rfl) ?_
      refine A_iinc (v := nI (i5 + 1)) dX2_mixedWith_48 rfl (nI_inc _ _) (Nat.le_of_ble_eq_true rfl) ?_
      refine A_goto (tgt := 5) dX2_mixedWith_51 (by decide) ?_
      refine A_sub (L' := [(0, .ref b9), (1, .int (nI f)), (2, .int h), (3, .int (sm (fun k9 => bi (inBasket (m_now ms) k9 ∧ ¬ mixN (m_now ms) f k9 h = 0)) (i5 + 1))), (4, .int (nI (i5 + 1)))]) ⟨rfl, rfl, rfl, rfl, rfl, trivial⟩ ?_
      exact ih5 trivial
    · skip
      have c1 := bi_ne0.mp c1
      refine A_aload_n (i := 0) dX2_mixedWith_27 rfl rfl ?_
      refine A_iload_n (i := 1) dX2_mixedWith_28 rfl rfl ?_
      refine A_iload dX2_mixedWith_29 rfl ?_
      refine A_iload_n (i := 2) dX2_mixedWith_31 rfl rfl ?_
      refine A_callV3E (v := some (.int (mixN (m_now ms) f i5 h))) (τ := mc b9 ms σ0) (c_mixes b9 ms σ0 f i5 h (by first | assumption | omega) (by first | assumption | omega) (by first | assumption | omega)) tX2_mixes q2769 (mc_0 _ _ _) rfl rfl dX2_mixedWith_32 (by decide) (Nat.le_of_eq (Nat.zero_add _)) (Nat.le_of_ble_eq_true rfl) ?_
      refine A_if_eq (tgt := 42) dX2_mixedWith_35 (by decide) (fun c2 => ?_) (fun c2 => ?_)
      · skip
        refine A_iconst (v := 0) dX2_mixedWith_42 (by decide) ?_
        refine A_callS1E (v := some (.int (oneI 0))) (τ := mc b9 ms σ0) (c_one b9 ms σ0 0) tX2_one q2456 dX2_mixedWith_43 (by decide) (Nat.le_of_eq (Nat.zero_add _)) (Nat.le_of_ble_eq_true rfl) ?_
        refine A_int (w := 0) (by decide) ?_
        refine A_iadd dX2_mixedWith_46 ?_
        refine A_int (w := sm (fun k9 => bi (inBasket (m_now ms) k9 ∧ ¬ mixN (m_now ms) f k9 h = 0)) (i5 + 1)) (by rw [sm_s] <;> simp [bi, inTub, inBasket, hasB, inR, -Int32.not_lt, -Int32.not_le, c1, c2]) ?_
        refine A_istore_n (i := 3) dX2_mixedWith_47 rfl (Nat.le_of_ble_eq_true rfl) ?_
        refine A_iinc (v := nI (i5 + 1)) dX2_mixedWith_48 rfl (nI_inc _ _) (Nat.le_of_ble_eq_true rfl) ?_
        refine A_goto (tgt := 5) dX2_mixedWith_51 (by decide) ?_
        refine A_sub (L' := [(0, .ref b9), (1, .int (nI f)), (2, .int h), (3, .int (sm (fun k9 => bi (inBasket (m_now ms) k9 ∧ ¬ mixN (m_now ms) f k9 h = 0)) (i5 + 1))), (4, .int (nI (i5 + 1)))]) ⟨rfl, rfl, rfl, rfl, rfl, trivial⟩ ?_
        exact ih5 trivial
      · skip
        refine A_iconst (v := 1) dX2_mixedWith_38 (by decide) ?_
        refine A_goto (tgt := 43) dX2_mixedWith_39 (by decide) ?_
        refine A_callS1E (v := some (.int (oneI 1))) (τ := mc b9 ms σ0) (c_one b9 ms σ0 1) tX2_one q2456 dX2_mixedWith_43 (by decide) (Nat.le_of_eq (Nat.zero_add _)) (Nat.le_of_ble_eq_true rfl) ?_
        refine A_int (w := 1) (by decide) ?_
        refine A_iadd dX2_mixedWith_46 ?_
        refine A_int (w := sm (fun k9 => bi (inBasket (m_now ms) k9 ∧ ¬ mixN (m_now ms) f k9 h = 0)) (i5 + 1)) (by rw [sm_s] <;> simp [bi, inTub, inBasket, hasB, inR, -Int32.not_lt, -Int32.not_le, c1, c2]) ?_
        refine A_istore_n (i := 3) dX2_mixedWith_47 rfl (Nat.le_of_ble_eq_true rfl) ?_
        refine A_iinc (v := nI (i5 + 1)) dX2_mixedWith_48 rfl (nI_inc _ _) (Nat.le_of_ble_eq_true rfl) ?_
        refine A_goto (tgt := 5) dX2_mixedWith_51 (by decide) ?_
        refine A_sub (L' := [(0, .ref b9), (1, .int (nI f)), (2, .int h), (3, .int (sm (fun k9 => bi (inBasket (m_now ms) k9 ∧ ¬ mixN (m_now ms) f k9 h = 0)) (i5 + 1))), (4, .int (nI (i5 + 1)))]) ⟨rfl, rfl, rfl, rfl, rfl, trivial⟩ ?_
        exact ih5 trivial
  · skip
    refine A_iload dX2_mixedWith_5 rfl ?_
    refine A_aload_n (i := 0) dX2_mixedWith_7 rfl rfl ?_
    refine M_get 1 (v := .ref (b9 + 1)) (Nat.le_of_ble_eq_true rfl) q2230 rfl dX2_mixedWith_8 ?_
    refine A_bipush (v := 10) dX2_mixedWith_11 (by decide) ?_
    refine M_ald1 (n := 10) (v := m_now ms 10) (rfl) (by decide) (rfl) dX2_mixedWith_13 ?_
    refine A_icmp_ge_t (tgt := 54) dX2_mixedWith_14 (by decide) (br_ge h1.2.2.2.2.1) ?_
    refine A_iload_n (i := 3) dX2_mixedWith_54 rfl rfl ?_
    exact A_iret dX2_mixedWith_55 rfl ⟨rfl, rfl⟩
theorem c_purest {l : Launch} {g : GC} (b9 : Nat) (ms : MM) (σ0 : AH) (h : Int32) (h1 : WFc (m_now ms)) : AMet l g mX2_purest 6 0 [.ref b9, .int h] (mc b9 ms σ0) (A_eq (some (.int (gd (mayT (m_is ms) (bi (inR h 0 3)) 1) (purU (m_now ms) h (nF (m_now ms)))))) (mc b9 (⟨mayT (m_is ms) (bi (inR h 0 3)) 1, m_is ms, m_um ms, m_bd ms, m_pc ms, m_pa ms, m_sz ms, m_cu ms, m_st ms, m_tk ms, m_to ms, m_ps ms, m_now ms, m_asd ms, m_und ms, m_sav ms, m_isv ms, m_buf ms, m_grp ms, m_pag ms⟩ : MM) σ0)) A_no := by
  refine A_of rfl (by decide) (Nat.le_of_ble_eq_true rfl) (L0 := [(0, .ref b9), (1, .int h)]) rfl ?_
  have hF := h1.2.2.2.2.2
  have hC := h1.1.2
  refine A_aload_n (i := 0) dX2_purest_0 rfl rfl ?_
  refine A_aload_n (i := 0) dX2_purest_1 rfl rfl ?_
  refine M_get 6 (v := .int (m_is ms)) (Nat.le_of_ble_eq_true rfl) q2235 rfl dX2_purest_2 ?_
  refine A_iload_n (i := 1) dX2_purest_5 rfl rfl ?_
  refine A_callS1E (v := some (.int (bi (inR h 0 3)))) (τ := mc b9 ms σ0) (c_isHeat b9 ms σ0 h) tX2_isHeat q2714 dX2_purest_6 (by decide) (Nat.le_of_eq (Nat.zero_add _)) (Nat.le_of_ble_eq_true rfl) ?_
  refine A_callV2E (v := some (.int (bi (mayT (m_is ms) (bi (inR h 0 3)) 1 = 0)))) (τ := mc b9 (⟨mayT (m_is ms) (bi (inR h 0 3)) 1, m_is ms, m_um ms, m_bd ms, m_pc ms, m_pa ms, m_sz ms, m_cu ms, m_st ms, m_tk ms, m_to ms, m_ps ms, m_now ms, m_asd ms, m_und ms, m_sav ms, m_isv ms, m_buf ms, m_grp ms, m_pag ms⟩ : MM) σ0) (c_mayTwo b9 ms σ0 (m_is ms) (bi (inR h 0 3))) tX2_mayTwo q2565 (mc_0 _ _ _) rfl rfl dX2_purest_9 (by decide) (Nat.le_of_eq (Nat.zero_add _)) (Nat.le_of_ble_eq_true rfl) ?_
  refine A_if_ne (tgt := 17) dX2_purest_12 (by decide) (fun c1 => ?_) (fun c1 => ?_)
  · skip
    have c1 := bi_ne0.mp c1
    refine A_iconst (v := (-1)) dX2_purest_17 (by decide) ?_
    refine A_istore_n (i := 2) dX2_purest_18 rfl (Nat.le_of_ble_eq_true rfl) ?_
    refine A_iconst (v := 0) dX2_purest_19 (by decide) ?_
    refine A_istore_n (i := 3) dX2_purest_20 rfl (Nat.le_of_ble_eq_true rfl) ?_
    refine A_sub (L' := [(0, .ref b9), (1, .int h), (2, .int (purU (m_now ms) h 0)), (3, .int (nI 0))]) ⟨rfl, rfl, rfl, rfl, trivial⟩ ?_
    refine A_for (nF (m_now ms)) (fun i21 => 0) (fun i21 => [(0, .ref b9), (1, .int h), (2, .int (purU (m_now ms) h i21)), (3, .int (nI i21))]) (fun i21 => mc b9 (⟨mayT (m_is ms) (bi (inR h 0 3)) 1, m_is ms, m_um ms, m_bd ms, m_pc ms, m_pa ms, m_sz ms, m_cu ms, m_st ms, m_tk ms, m_to ms, m_ps ms, m_now ms, m_asd ms, m_und ms, m_sav ms, m_isv ms, m_buf ms, m_grp ms, m_pag ms⟩ : MM) σ0) (fun i21 => True) trivial (fun i21 hi21 hI21 ih21 => ?_) (fun hI21 => ?_)
    · skip
      refine A_iload_n (i := 3) dX2_purest_21 rfl rfl ?_
      refine A_aload_n (i := 0) dX2_purest_22 rfl rfl ?_
      refine M_get 1 (v := .ref (b9 + 1)) (Nat.le_of_ble_eq_true rfl) q2230 rfl dX2_purest_23 ?_
      refine A_bipush (v := 10) dX2_purest_26 (by decide) ?_
      refine M_ald1 (n := 10) (v := m_now ms 10) (rfl) (by decide) (rfl) dX2_purest_28 ?_
      refine A_icmp_ge_f (tgt := 68) dX2_purest_29 (by decide) (br_lt h1.2.2.2.2.1 hi21 (by omega)) ?_
      refine A_aload_n (i := 0) dX2_purest_32 rfl rfl ?_
      refine A_iload_n (i := 3) dX2_purest_33 rfl rfl ?_
      refine A_callV1E (v := some (.int (bi (inBasket (m_now ms) i21)))) (τ := mc b9 (⟨mayT (m_is ms) (bi (inR h 0 3)) 1, m_is ms, m_um ms, m_bd ms, m_pc ms, m_pa ms, m_sz ms, m_cu ms, m_st ms, m_tk ms, m_to ms, m_ps ms, m_now ms, m_asd ms, m_und ms, m_sav ms, m_isv ms, m_buf ms, m_grp ms, m_pag ms⟩ : MM) σ0) (c_isInBasket b9 (⟨mayT (m_is ms) (bi (inR h 0 3)) 1, m_is ms, m_um ms, m_bd ms, m_pc ms, m_pa ms, m_sz ms, m_cu ms, m_st ms, m_tk ms, m_to ms, m_ps ms, m_now ms, m_asd ms, m_und ms, m_sav ms, m_isv ms, m_buf ms, m_grp ms, m_pag ms⟩ : MM) σ0 i21 (by first | assumption | omega)) tX2_isInBasket q2436 (mc_0 _ _ _) rfl rfl dX2_purest_34 (by decide) (Nat.le_of_eq (Nat.zero_add _)) (Nat.le_of_ble_eq_true rfl) ?_
      refine A_if_eq (tgt := 62) dX2_purest_37 (by decide) (fun c2 => ?_) (fun c2 => ?_)
      · skip
        have c2 := bi_eq0.mp c2
        refine A_iinc (v := nI (i21 + 1)) dX2_purest_62 rfl (nI_inc _ _) (Nat.le_of_ble_eq_true rfl) ?_
        refine A_goto (tgt := 21) dX2_purest_65 (by decide) ?_
        refine A_sub (L' := [(0, .ref b9), (1, .int h), (2, .int (purU (m_now ms) h (i21 + 1))), (3, .int (nI (i21 + 1)))]) ⟨rfl, rfl, lg_eq (by rw [purU_s]; simp [-Int32.not_lt, -Int32.not_le, c2]), rfl, trivial⟩ ?_
        exact ih21 trivial
      · skip
        have c2 := bi_ne0.mp c2
        refine A_iload_n (i := 2) dX2_purest_40 rfl rfl ?_
        refine A_iconst (v := (-1)) dX2_purest_41 (by decide) ?_
        refine A_icmp_eq (tgt := 60) dX2_purest_42 (by decide) (fun c3 => ?_) (fun c3 => ?_)
        · skip
          refine A_iload_n (i := 3) dX2_purest_60 rfl rfl ?_
          refine A_istore_n (i := 2) dX2_purest_61 rfl (Nat.le_of_ble_eq_true rfl) ?_
          refine A_iinc (v := nI (i21 + 1)) dX2_purest_62 rfl (nI_inc _ _) (Nat.le_of_ble_eq_true rfl) ?_
          refine A_goto (tgt := 21) dX2_purest_65 (by decide) ?_
          refine A_sub (L' := [(0, .ref b9), (1, .int h), (2, .int (purU (m_now ms) h (i21 + 1))), (3, .int (nI (i21 + 1)))]) ⟨rfl, rfl, lg_eq (by rw [purU_s]; simp [-Int32.not_lt, -Int32.not_le, c2, c3]), rfl, trivial⟩ ?_
          exact ih21 trivial
        · skip
          refine A_aload_n (i := 0) dX2_purest_45 rfl rfl ?_
          refine A_iload_n (i := 3) dX2_purest_46 rfl rfl ?_
          refine A_iload_n (i := 1) dX2_purest_47 rfl rfl ?_
          refine A_callV2E (v := some (.int (mixW (m_now ms) i21 h))) (τ := mc b9 (⟨mayT (m_is ms) (bi (inR h 0 3)) 1, m_is ms, m_um ms, m_bd ms, m_pc ms, m_pa ms, m_sz ms, m_cu ms, m_st ms, m_tk ms, m_to ms, m_ps ms, m_now ms, m_asd ms, m_und ms, m_sav ms, m_isv ms, m_buf ms, m_grp ms, m_pag ms⟩ : MM) σ0) (c_mixedWith b9 (⟨mayT (m_is ms) (bi (inR h 0 3)) 1, m_is ms, m_um ms, m_bd ms, m_pc ms, m_pa ms, m_sz ms, m_cu ms, m_st ms, m_tk ms, m_to ms, m_ps ms, m_now ms, m_asd ms, m_und ms, m_sav ms, m_isv ms, m_buf ms, m_grp ms, m_pag ms⟩ : MM) σ0 i21 h (by first | assumption | omega) (by first | assumption | omega)) tX2_mixedWith q2785 (mc_0 _ _ _) rfl rfl dX2_purest_48 (by decide) (Nat.le_of_eq (Nat.zero_add _)) (Nat.le_of_ble_eq_true rfl) ?_
          obtain ⟨j, hj, ej⟩ := (purU_in (m_now ms) h i21).resolve_left c3
          rw [ej]
          refine A_aload_n (i := 0) dX2_purest_51 rfl rfl ?_
          refine A_iload_n (i := 2) dX2_purest_52 rfl rfl ?_
          refine A_iload_n (i := 1) dX2_purest_53 rfl rfl ?_
          refine A_callV2E (v := some (.int (mixW (m_now ms) j h))) (τ := mc b9 (⟨mayT (m_is ms) (bi (inR h 0 3)) 1, m_is ms, m_um ms, m_bd ms, m_pc ms, m_pa ms, m_sz ms, m_cu ms, m_st ms, m_tk ms, m_to ms, m_ps ms, m_now ms, m_asd ms, m_und ms, m_sav ms, m_isv ms, m_buf ms, m_grp ms, m_pag ms⟩ : MM) σ0) (c_mixedWith b9 (⟨mayT (m_is ms) (bi (inR h 0 3)) 1, m_is ms, m_um ms, m_bd ms, m_pc ms, m_pa ms, m_sz ms, m_cu ms, m_st ms, m_tk ms, m_to ms, m_ps ms, m_now ms, m_asd ms, m_und ms, m_sav ms, m_isv ms, m_buf ms, m_grp ms, m_pag ms⟩ : MM) σ0 j h (by first | assumption | omega) (by first | assumption | omega)) tX2_mixedWith q2785 (mc_0 _ _ _) rfl rfl dX2_purest_54 (by decide) (Nat.le_of_eq (Nat.zero_add _)) (Nat.le_of_ble_eq_true rfl) ?_
          refine A_icmp_ge (tgt := 62) dX2_purest_57 (by decide) (fun c4 => ?_) (fun c4 => ?_)
          · skip
            refine A_iinc (v := nI (i21 + 1)) dX2_purest_62 rfl (nI_inc _ _) (Nat.le_of_ble_eq_true rfl) ?_
            refine A_goto (tgt := 21) dX2_purest_65 (by decide) ?_
            refine A_sub (L' := [(0, .ref b9), (1, .int h), (2, .int (purU (m_now ms) h (i21 + 1))), (3, .int (nI (i21 + 1)))]) ⟨rfl, rfl, lg_eq (by rw [purU_s]; simp [-Int32.not_lt, -Int32.not_le, ej, ixn (show j < 2000 by omega), (show ¬ nI j = -1 from fun h => c3 (ej.trans h)), c2, c3, c4]), rfl, trivial⟩ ?_
            exact ih21 trivial
          · skip
            refine A_iload_n (i := 3) dX2_purest_60 rfl rfl ?_
            refine A_istore_n (i := 2) dX2_purest_61 rfl (Nat.le_of_ble_eq_true rfl) ?_
            refine A_iinc (v := nI (i21 + 1)) dX2_purest_62 rfl (nI_inc _ _) (Nat.le_of_ble_eq_true rfl) ?_
            refine A_goto (tgt := 21) dX2_purest_65 (by decide) ?_
            refine A_sub (L' := [(0, .ref b9), (1, .int h), (2, .int (purU (m_now ms) h (i21 + 1))), (3, .int (nI (i21 + 1)))]) ⟨rfl, rfl, lg_eq (by rw [purU_s]; simp [-Int32.not_lt, -Int32.not_le, ej, ixn (show j < 2000 by omega), (show ¬ nI j = -1 from fun h => c3 (ej.trans h)), c2, c3, c4]), rfl, trivial⟩ ?_
            exact ih21 trivial
    · skip
      refine A_iload_n (i := 3) dX2_purest_21 rfl rfl ?_
      refine A_aload_n (i := 0) dX2_purest_22 rfl rfl ?_
      refine M_get 1 (v := .ref (b9 + 1)) (Nat.le_of_ble_eq_true rfl) q2230 rfl dX2_purest_23 ?_
      refine A_bipush (v := 10) dX2_purest_26 (by decide) ?_
      refine M_ald1 (n := 10) (v := m_now ms 10) (rfl) (by decide) (rfl) dX2_purest_28 ?_
      refine A_icmp_ge_t (tgt := 68) dX2_purest_29 (by decide) (br_ge h1.2.2.2.2.1) ?_
      refine A_iload_n (i := 2) dX2_purest_68 rfl rfl ?_
      exact A_iret dX2_purest_69 rfl ⟨by rw [gd, if_pos c1], rfl⟩
  · skip
    have c1 := bi_eq0.mp c1
    refine A_iconst (v := 0) dX2_purest_15 (by decide) ?_
    exact A_iret dX2_purest_16 rfl ⟨by rw [gd, if_neg c1], rfl⟩
