/-! THE MODEL 4: the questions -/
def tubN (N : AF) (t : Nat) (x : Int32) : Int32 := if x = 0 then N (38 + t) else if x = 1 then manyT N (nI t) else if x = 2 then leastN N (nI t) else if x = 3 then sm (fun f => if inTub N f (nI t) then fl N f 3 else 0) (nF N) else orF (fun f => if inTub N f (nI t) then fl N f 1 else 0) (nF N)
def ofTubU (N : AF) (t x : Int32) : Nat → Int32
  | 0 => 0
  | n + 1 => if inTub N n t then (if x = 3 then ofTubU N t x n + fl N n 3 else ofTubU N t x n ||| fl N n 1) else ofTubU N t x n
theorem ofTubU_s (N : AF) (t x : Int32) (n : Nat) : ofTubU N t x (n + 1) = if inTub N n t then (if x = 3 then ofTubU N t x n + fl N n 3 else ofTubU N t x n ||| fl N n 1) else ofTubU N t x n := rfl
def nationN (N : AF) (n : Nat) (x : Int32) : Int32 := if x = 3 then flagsN N (nI n) else if x = 4 then rdyOf N (nI n) else if x = 5 then na N n 3 else if x = 6 then (if na N n 3 = 1 then na N n 4 else lateN N n (N 0)) else na N n (ix x)
def aheadN (N : AF) (f : Nat) : Int32 := sm (fun k => bi (inTub N k (fl N f 9) ∧ ¬ fl N f 10 ≤ fl N k 10)) (nF N)
def flagInN (N : AF) (t i : Int32) : Int32 := fsr (fun f => inTub N f t ∧ aheadN N f = i) 0 (nF N)
def wetU (N : AF) : Nat → Int32
  | 0 => -1
  | n + 1 => if fl N n 8 = 2 ∧ (wetU N n = -1 ∨ ¬ fl N n 4 ≤ fl N (ix (wetU N n)) 4) then nI n else wetU N n
theorem wetU_s (N : AF) (n : Nat) : wetU N (n + 1) = if fl N n 8 = 2 ∧ (wetU N n = -1 ∨ ¬ fl N n 4 ≤ fl N (ix (wetU N n)) 4) then nI n else wetU N n := rfl
theorem wetU_in (N : AF) : ∀ n, wetU N n = -1 ∨ ∃ j, j < n ∧ wetU N n = nI j
  | 0 => Or.inl rfl
  | n + 1 => by
    rw [wetU_s]
    split
    · exact Or.inr ⟨n, by omega, rfl⟩
    · rcases wetU_in N n with h | ⟨j, a, b⟩
      · exact Or.inl h
      · exact Or.inr ⟨j, by omega, b⟩
def gapN (N : AF) : Int32 := (sm (fun f => bi (¬ (fl N f 6 &&& fl N f 1) = 0)) (nF N) + ab (N 10 - (((atN N 0 + atN N 1) + atN N 2) + atN N 3))) + ab ((N 2 + N 3) - sm (fun f => if fl N f 8 = 3 then na N (ix (fl N f 0)) 1 else 0) (nF N))
def whyBlN (N : AF) (f : Nat) : Int32 := if inBasket N f then (if fl N f 6 = 0 then 2 else if fl N f 7 = 2 then 3 else 0) else 1
def reasN (N : AF) (f : Nat) : Int32 := ((((((((0 : Int32) ||| (apI N f 1 <<< ((1 : Int32) &&& 31))) ||| (apI N f 2 <<< ((2 : Int32) &&& 31))) ||| (apI N f 3 <<< ((3 : Int32) &&& 31))) ||| (apI N f 4 <<< ((4 : Int32) &&& 31))) ||| (apI N f 5 <<< ((5 : Int32) &&& 31))) ||| (apI N f 6 <<< ((6 : Int32) &&& 31))) ||| (apI N f 7 <<< ((7 : Int32) &&& 31)))
theorem apI_01 (N : AF) (f r : Nat) : oneI (apI N f r) = apI N f r := by
  unfold apI
  repeat' split
  all_goals exact oneI_bi _
theorem lg_eq {x y : Int32} (h : x = y) : some (Value.int x) = some (Value.int y) := by rw [h]
abbrev okB (is : Int32) (N : AF) (f t : Int32) : Prop := okF is N f ∧ okT is N t
theorem c_count {l : Launch} {g : GC} (b9 : Nat) (ms : MM) (σ0 : AH) (x : Int32) (h1 : WFc (m_now ms)) : AMet l g mX2_count 6 0 [.ref b9, .int x] (mc b9 ms σ0) (A_eq (some (.int (gd (mayT (m_is ms) (bi (inR x 0 15)) 1) (countN (m_now ms) x)))) (mc b9 (⟨mayT (m_is ms) (bi (inR x 0 15)) 1, m_is ms, m_um ms, m_bd ms, m_pc ms, m_pa ms, m_sz ms, m_cu ms, m_st ms, m_tk ms, m_to ms, m_ps ms, m_now ms, m_asd ms, m_und ms, m_sav ms, m_isv ms, m_buf ms, m_grp ms, m_pag ms⟩ : MM) σ0)) A_no := by
  refine A_of rfl (by decide) (Nat.le_of_ble_eq_true rfl) (L0 := [(0, .ref b9), (1, .int x)]) rfl ?_
  refine A_aload_n (i := 0) dX2_count_0 rfl rfl ?_
  refine A_aload_n (i := 0) dX2_count_1 rfl rfl ?_
  refine M_get 6 (v := .int (m_is ms)) (Nat.le_of_ble_eq_true rfl) q2235 rfl dX2_count_2 ?_
  refine A_iload_n (i := 1) dX2_count_5 rfl rfl ?_
  refine A_iconst (v := 0) dX2_count_6 (by decide) ?_
  refine A_bipush (v := 15) dX2_count_7 (by decide) ?_
  refine A_callS3E (v := some (.int (bi (inR x 0 15)))) (τ := mc b9 ms σ0) (c_in b9 ms σ0 x 0 15) tX2_in q2319 dX2_count_9 (by decide) (Nat.le_of_eq (Nat.zero_add _)) (Nat.le_of_ble_eq_true rfl) ?_
  refine A_callV2E (v := some (.int (bi (mayT (m_is ms) (bi (inR x 0 15)) 1 = 0)))) (τ := mc b9 (⟨mayT (m_is ms) (bi (inR x 0 15)) 1, m_is ms, m_um ms, m_bd ms, m_pc ms, m_pa ms, m_sz ms, m_cu ms, m_st ms, m_tk ms, m_to ms, m_ps ms, m_now ms, m_asd ms, m_und ms, m_sav ms, m_isv ms, m_buf ms, m_grp ms, m_pag ms⟩ : MM) σ0) (c_mayTwo b9 ms σ0 (m_is ms) (bi (inR x 0 15))) tX2_mayTwo q2565 (mc_0 _ _ _) rfl rfl dX2_count_12 (by decide) (Nat.le_of_eq (Nat.zero_add _)) (Nat.le_of_ble_eq_true rfl) ?_
  refine A_if_ne (tgt := 20) dX2_count_15 (by decide) (fun c1 => ?_) (fun c1 => ?_)
  · skip
    have c1 := bi_ne0.mp c1
    refine A_iload_n (i := 1) dX2_count_20 rfl rfl ?_
    by_cases c2 : x = 0
    · skip
      refine A_int c2 ?_
      refine A_tableIn (tgt := 100) dX2_count_21 (by decide) (by decide) rfl (by decide) ?_
      refine A_aload_n (i := 0) dX2_count_100 rfl rfl ?_
      refine M_get 1 (v := .ref (b9 + 1)) (Nat.le_of_ble_eq_true rfl) q2230 rfl dX2_count_101 ?_
      refine A_bipush (v := 6) dX2_count_104 (by decide) ?_
      refine M_ald1 (n := 6) (v := m_now ms 6) (rfl) (by decide) (rfl) dX2_count_106 ?_
      exact A_iret dX2_count_107 rfl ⟨by rw [gd, if_pos c1] <;> first | with_reducible rfl | (simp [-Int32.not_lt, -Int32.not_le, countN, c2]; done) | (simp [countN, c2]), rfl⟩
    by_cases c3 : x = 1
    · skip
      refine A_int c3 ?_
      refine A_tableIn (tgt := 108) dX2_count_21 (by decide) (by decide) rfl (by decide) ?_
      refine A_aload_n (i := 0) dX2_count_108 rfl rfl ?_
      refine M_get 1 (v := .ref (b9 + 1)) (Nat.le_of_ble_eq_true rfl) q2230 rfl dX2_count_109 ?_
      refine A_bipush (v := 7) dX2_count_112 (by decide) ?_
      refine M_ald1 (n := 7) (v := m_now ms 7) (rfl) (by decide) (rfl) dX2_count_114 ?_
      exact A_iret dX2_count_115 rfl ⟨by rw [gd, if_pos c1] <;> first | with_reducible rfl | (simp [-Int32.not_lt, -Int32.not_le, countN, c2, c3]; done) | (simp [countN, c2, c3]), rfl⟩
    by_cases c4 : x = 2
    · skip
      refine A_int c4 ?_
      refine A_tableIn (tgt := 116) dX2_count_21 (by decide) (by decide) rfl (by decide) ?_
      refine A_aload_n (i := 0) dX2_count_116 rfl rfl ?_
      refine M_get 1 (v := .ref (b9 + 1)) (Nat.le_of_ble_eq_true rfl) q2230 rfl dX2_count_117 ?_
      refine A_bipush (v := 8) dX2_count_120 (by decide) ?_
      refine M_ald1 (n := 8) (v := m_now ms 8) (rfl) (by decide) (rfl) dX2_count_122 ?_
      exact A_iret dX2_count_123 rfl ⟨by rw [gd, if_pos c1] <;> first | with_reducible rfl | (simp [-Int32.not_lt, -Int32.not_le, countN, c2, c3, c4]; done) | (simp [countN, c2, c3, c4]), rfl⟩
    by_cases c5 : x = 3
    · skip
      refine A_int c5 ?_
      refine A_tableIn (tgt := 124) dX2_count_21 (by decide) (by decide) rfl (by decide) ?_
      refine A_aload_n (i := 0) dX2_count_124 rfl rfl ?_
      refine M_get 1 (v := .ref (b9 + 1)) (Nat.le_of_ble_eq_true rfl) q2230 rfl dX2_count_125 ?_
      refine A_bipush (v := 9) dX2_count_128 (by decide) ?_
      refine M_ald1 (n := 9) (v := m_now ms 9) (rfl) (by decide) (rfl) dX2_count_130 ?_
      exact A_iret dX2_count_131 rfl ⟨by rw [gd, if_pos c1] <;> first | with_reducible rfl | (simp [-Int32.not_lt, -Int32.not_le, countN, c2, c3, c4, c5]; done) | (simp [countN, c2, c3, c4, c5]), rfl⟩
    by_cases c6 : x = 4
    · skip
      refine A_int c6 ?_
      refine A_tableIn (tgt := 132) dX2_count_21 (by decide) (by decide) rfl (by decide) ?_
      refine A_aload_n (i := 0) dX2_count_132 rfl rfl ?_
      refine M_get 1 (v := .ref (b9 + 1)) (Nat.le_of_ble_eq_true rfl) q2230 rfl dX2_count_133 ?_
      refine A_bipush (v := 10) dX2_count_136 (by decide) ?_
      refine M_ald1 (n := 10) (v := m_now ms 10) (rfl) (by decide) (rfl) dX2_count_138 ?_
      exact A_iret dX2_count_139 rfl ⟨by rw [gd, if_pos c1] <;> first | with_reducible rfl | (simp [-Int32.not_lt, -Int32.not_le, countN, c2, c3, c4, c5, c6]; done) | (simp [countN, c2, c3, c4, c5, c6]), rfl⟩
    by_cases c7 : x = 5
    · skip
      refine A_int c7 ?_
      refine A_tableIn (tgt := 140) dX2_count_21 (by decide) (by decide) rfl (by decide) ?_
      refine A_aload_n (i := 0) dX2_count_140 rfl rfl ?_
      refine M_get 1 (v := .ref (b9 + 1)) (Nat.le_of_ble_eq_true rfl) q2230 rfl dX2_count_141 ?_
      refine A_iconst (v := 0) dX2_count_144 (by decide) ?_
      refine M_ald1 (n := 0) (v := m_now ms 0) (rfl) (by decide) (rfl) dX2_count_145 ?_
      exact A_iret dX2_count_146 rfl ⟨by rw [gd, if_pos c1] <;> first | with_reducible rfl | (simp [-Int32.not_lt, -Int32.not_le, countN, c2, c3, c4, c5, c6, c7]; done) | (simp [countN, c2, c3, c4, c5, c6, c7]), rfl⟩
    by_cases c8 : x = 6
    · skip
      refine A_int c8 ?_
      refine A_tableIn (tgt := 147) dX2_count_21 (by decide) (by decide) rfl (by decide) ?_
      refine A_aload_n (i := 0) dX2_count_147 rfl rfl ?_
      refine M_get 1 (v := .ref (b9 + 1)) (Nat.le_of_ble_eq_true rfl) q2230 rfl dX2_count_148 ?_
      refine A_iconst (v := 1) dX2_count_151 (by decide) ?_
      refine M_ald1 (n := 1) (v := m_now ms 1) (rfl) (by decide) (rfl) dX2_count_152 ?_
      exact A_iret dX2_count_153 rfl ⟨by rw [gd, if_pos c1] <;> first | with_reducible rfl | (simp [-Int32.not_lt, -Int32.not_le, countN, c2, c3, c4, c5, c6, c7, c8]; done) | (simp [countN, c2, c3, c4, c5, c6, c7, c8]), rfl⟩
    by_cases c9 : x = 11
    · skip
      refine A_int c9 ?_
      refine A_tableIn (tgt := 154) dX2_count_21 (by decide) (by decide) rfl (by decide) ?_
      refine A_aload_n (i := 0) dX2_count_154 rfl rfl ?_
      refine M_get 1 (v := .ref (b9 + 1)) (Nat.le_of_ble_eq_true rfl) q2230 rfl dX2_count_155 ?_
      refine A_iconst (v := 2) dX2_count_158 (by decide) ?_
      refine M_ald1 (n := 2) (v := m_now ms 2) (rfl) (by decide) (rfl) dX2_count_159 ?_
      exact A_iret dX2_count_160 rfl ⟨by rw [gd, if_pos c1] <;> first | with_reducible rfl | (simp [-Int32.not_lt, -Int32.not_le, countN, c2, c3, c4, c5, c6, c7, c8, c9]; done) | (simp [countN, c2, c3, c4, c5, c6, c7, c8, c9]), rfl⟩
    by_cases c10 : x = 12
    · skip
      refine A_int c10 ?_
      refine A_tableIn (tgt := 161) dX2_count_21 (by decide) (by decide) rfl (by decide) ?_
      refine A_aload_n (i := 0) dX2_count_161 rfl rfl ?_
      refine M_get 1 (v := .ref (b9 + 1)) (Nat.le_of_ble_eq_true rfl) q2230 rfl dX2_count_162 ?_
      refine A_iconst (v := 3) dX2_count_165 (by decide) ?_
      refine M_ald1 (n := 3) (v := m_now ms 3) (rfl) (by decide) (rfl) dX2_count_166 ?_
      exact A_iret dX2_count_167 rfl ⟨by rw [gd, if_pos c1] <;> first | with_reducible rfl | (simp [-Int32.not_lt, -Int32.not_le, countN, c2, c3, c4, c5, c6, c7, c8, c9, c10]; done) | (simp [countN, c2, c3, c4, c5, c6, c7, c8, c9, c10]), rfl⟩
    by_cases c11 : x = 13
    · skip
      refine A_int c11 ?_
      refine A_tableIn (tgt := 168) dX2_count_21 (by decide) (by decide) rfl (by decide) ?_
      refine A_aload_n (i := 0) dX2_count_168 rfl rfl ?_
      refine M_get 1 (v := .ref (b9 + 1)) (Nat.le_of_ble_eq_true rfl) q2230 rfl dX2_count_169 ?_
      refine A_iconst (v := 4) dX2_count_172 (by decide) ?_
      refine M_ald1 (n := 4) (v := m_now ms 4) (rfl) (by decide) (rfl) dX2_count_173 ?_
      exact A_iret dX2_count_174 rfl ⟨by rw [gd, if_pos c1] <;> first | with_reducible rfl | (simp [-Int32.not_lt, -Int32.not_le, countN, c2, c3, c4, c5, c6, c7, c8, c9, c10, c11]; done) | (simp [countN, c2, c3, c4, c5, c6, c7, c8, c9, c10, c11]), rfl⟩
    by_cases c12 : x = 14
    · skip
      refine A_int c12 ?_
      refine A_tableIn (tgt := 175) dX2_count_21 (by decide) (by decide) rfl (by decide) ?_
      refine A_aload_n (i := 0) dX2_count_175 rfl rfl ?_
      refine M_get 1 (v := .ref (b9 + 1)) (Nat.le_of_ble_eq_true rfl) q2230 rfl dX2_count_176 ?_
      refine A_iconst (v := 5) dX2_count_179 (by decide) ?_
      refine M_ald1 (n := 5) (v := m_now ms 5) (rfl) (by decide) (rfl) dX2_count_180 ?_
      exact A_iret dX2_count_181 rfl ⟨by rw [gd, if_pos c1] <;> first | with_reducible rfl | (simp [-Int32.not_lt, -Int32.not_le, countN, c2, c3, c4, c5, c6, c7, c8, c9, c10, c11, c12]; done) | (simp [countN, c2, c3, c4, c5, c6, c7, c8, c9, c10, c11, c12]), rfl⟩
    by_cases c13 : x = 15
    · skip
      refine A_int c13 ?_
      refine A_tableIn (tgt := 182) dX2_count_21 (by decide) (by decide) rfl (by decide) ?_
      refine A_aload_n (i := 0) dX2_count_182 rfl rfl ?_
      refine A_callV0E (v := some (.int (readyN (m_now ms)))) (τ := mc b9 (⟨mayT (m_is ms) (bi (inR x 0 15)) 1, m_is ms, m_um ms, m_bd ms, m_pc ms, m_pa ms, m_sz ms, m_cu ms, m_st ms, m_tk ms, m_to ms, m_ps ms, m_now ms, m_asd ms, m_und ms, m_sav ms, m_isv ms, m_buf ms, m_grp ms, m_pag ms⟩ : MM) σ0) (c_readyMany b9 (⟨mayT (m_is ms) (bi (inR x 0 15)) 1, m_is ms, m_um ms, m_bd ms, m_pc ms, m_pa ms, m_sz ms, m_cu ms, m_st ms, m_tk ms, m_to ms, m_ps ms, m_now ms, m_asd ms, m_und ms, m_sav ms, m_isv ms, m_buf ms, m_grp ms, m_pag ms⟩ : MM) σ0  (by first | assumption | omega)) tX2_readyMany q2569 (mc_0 _ _ _) rfl rfl dX2_count_183 (by decide) (Nat.le_of_eq (Nat.zero_add _)) (Nat.le_of_ble_eq_true rfl) ?_
      exact A_iret dX2_count_186 rfl ⟨by rw [gd, if_pos c1] <;> first | with_reducible rfl | (simp [-Int32.not_lt, -Int32.not_le, countN, c2, c3, c4, c5, c6, c7, c8, c9, c10, c11, c12, c13]; done) | (simp [countN, c2, c3, c4, c5, c6, c7, c8, c9, c10, c11, c12, c13]), rfl⟩
    by_cases c14 : x = 7
    · skip
      refine A_int c14 ?_
      refine A_tableIn (tgt := 187) dX2_count_21 (by decide) (by decide) rfl (by decide) ?_
      refine A_aload_n (i := 0) dX2_count_187 rfl rfl ?_
      refine A_iload_n (i := 1) dX2_count_188 rfl rfl ?_
      refine A_bipush (v := 7) dX2_count_189 (by decide) ?_
      refine A_isub dX2_count_191 ?_
      refine A_callV1E (v := some (.int (atN (m_now ms) (x - 7)))) (τ := mc b9 (⟨mayT (m_is ms) (bi (inR x 0 15)) 1, m_is ms, m_um ms, m_bd ms, m_pc ms, m_pa ms, m_sz ms, m_cu ms, m_st ms, m_tk ms, m_to ms, m_ps ms, m_now ms, m_asd ms, m_und ms, m_sav ms, m_isv ms, m_buf ms, m_grp ms, m_pag ms⟩ : MM) σ0) (c_flagsAt b9 (⟨mayT (m_is ms) (bi (inR x 0 15)) 1, m_is ms, m_um ms, m_bd ms, m_pc ms, m_pa ms, m_sz ms, m_cu ms, m_st ms, m_tk ms, m_to ms, m_ps ms, m_now ms, m_asd ms, m_und ms, m_sav ms, m_isv ms, m_buf ms, m_grp ms, m_pag ms⟩ : MM) σ0 (x - 7) (by first | assumption | omega)) tX2_flagsAt q2581 (mc_0 _ _ _) rfl rfl dX2_count_192 (by decide) (Nat.le_of_eq (Nat.zero_add _)) (Nat.le_of_ble_eq_true rfl) ?_
      exact A_iret dX2_count_195 rfl ⟨by rw [gd, if_pos c1] <;> first | with_reducible rfl | (simp [-Int32.not_lt, -Int32.not_le, countN, c2, c3, c4, c5, c6, c7, c8, c9, c10, c11, c12, c13, c14]; done) | (simp [countN, c2, c3, c4, c5, c6, c7, c8, c9, c10, c11, c12, c13, c14]), rfl⟩
    by_cases c15 : x = 8
    · skip
      refine A_int c15 ?_
      refine A_tableIn (tgt := 187) dX2_count_21 (by decide) (by decide) rfl (by decide) ?_
      refine A_aload_n (i := 0) dX2_count_187 rfl rfl ?_
      refine A_iload_n (i := 1) dX2_count_188 rfl rfl ?_
      refine A_bipush (v := 7) dX2_count_189 (by decide) ?_
      refine A_isub dX2_count_191 ?_
      refine A_callV1E (v := some (.int (atN (m_now ms) (x - 7)))) (τ := mc b9 (⟨mayT (m_is ms) (bi (inR x 0 15)) 1, m_is ms, m_um ms, m_bd ms, m_pc ms, m_pa ms, m_sz ms, m_cu ms, m_st ms, m_tk ms, m_to ms, m_ps ms, m_now ms, m_asd ms, m_und ms, m_sav ms, m_isv ms, m_buf ms, m_grp ms, m_pag ms⟩ : MM) σ0) (c_flagsAt b9 (⟨mayT (m_is ms) (bi (inR x 0 15)) 1, m_is ms, m_um ms, m_bd ms, m_pc ms, m_pa ms, m_sz ms, m_cu ms, m_st ms, m_tk ms, m_to ms, m_ps ms, m_now ms, m_asd ms, m_und ms, m_sav ms, m_isv ms, m_buf ms, m_grp ms, m_pag ms⟩ : MM) σ0 (x - 7) (by first | assumption | omega)) tX2_flagsAt q2581 (mc_0 _ _ _) rfl rfl dX2_count_192 (by decide) (Nat.le_of_eq (Nat.zero_add _)) (Nat.le_of_ble_eq_true rfl) ?_
      exact A_iret dX2_count_195 rfl ⟨by rw [gd, if_pos c1] <;> first | with_reducible rfl | (simp [-Int32.not_lt, -Int32.not_le, countN, c2, c3, c4, c5, c6, c7, c8, c9, c10, c11, c12, c13, c15]; done) | (simp [countN, c2, c3, c4, c5, c6, c7, c8, c9, c10, c11, c12, c13, c15]), rfl⟩
    by_cases c16 : x = 9
    · skip
      refine A_int c16 ?_
      refine A_tableIn (tgt := 187) dX2_count_21 (by decide) (by decide) rfl (by decide) ?_
      refine A_aload_n (i := 0) dX2_count_187 rfl rfl ?_
      refine A_iload_n (i := 1) dX2_count_188 rfl rfl ?_
      refine A_bipush (v := 7) dX2_count_189 (by decide) ?_
      refine A_isub dX2_count_191 ?_
      refine A_callV1E (v := some (.int (atN (m_now ms) (x - 7)))) (τ := mc b9 (⟨mayT (m_is ms) (bi (inR x 0 15)) 1, m_is ms, m_um ms, m_bd ms, m_pc ms, m_pa ms, m_sz ms, m_cu ms, m_st ms, m_tk ms, m_to ms, m_ps ms, m_now ms, m_asd ms, m_und ms, m_sav ms, m_isv ms, m_buf ms, m_grp ms, m_pag ms⟩ : MM) σ0) (c_flagsAt b9 (⟨mayT (m_is ms) (bi (inR x 0 15)) 1, m_is ms, m_um ms, m_bd ms, m_pc ms, m_pa ms, m_sz ms, m_cu ms, m_st ms, m_tk ms, m_to ms, m_ps ms, m_now ms, m_asd ms, m_und ms, m_sav ms, m_isv ms, m_buf ms, m_grp ms, m_pag ms⟩ : MM) σ0 (x - 7) (by first | assumption | omega)) tX2_flagsAt q2581 (mc_0 _ _ _) rfl rfl dX2_count_192 (by decide) (Nat.le_of_eq (Nat.zero_add _)) (Nat.le_of_ble_eq_true rfl) ?_
      exact A_iret dX2_count_195 rfl ⟨by rw [gd, if_pos c1] <;> first | with_reducible rfl | (simp [-Int32.not_lt, -Int32.not_le, countN, c2, c3, c4, c5, c6, c7, c8, c9, c10, c11, c12, c13, c16]; done) | (simp [countN, c2, c3, c4, c5, c6, c7, c8, c9, c10, c11, c12, c13, c16]), rfl⟩
    by_cases c17 : x = 10
    · skip
      refine A_int c17 ?_
      refine A_tableIn (tgt := 187) dX2_count_21 (by decide) (by decide) rfl (by decide) ?_
      refine A_aload_n (i := 0) dX2_count_187 rfl rfl ?_
      refine A_iload_n (i := 1) dX2_count_188 rfl rfl ?_
      refine A_bipush (v := 7) dX2_count_189 (by decide) ?_
      refine A_isub dX2_count_191 ?_
      refine A_callV1E (v := some (.int (atN (m_now ms) (x - 7)))) (τ := mc b9 (⟨mayT (m_is ms) (bi (inR x 0 15)) 1, m_is ms, m_um ms, m_bd ms, m_pc ms, m_pa ms, m_sz ms, m_cu ms, m_st ms, m_tk ms, m_to ms, m_ps ms, m_now ms, m_asd ms, m_und ms, m_sav ms, m_isv ms, m_buf ms, m_grp ms, m_pag ms⟩ : MM) σ0) (c_flagsAt b9 (⟨mayT (m_is ms) (bi (inR x 0 15)) 1, m_is ms, m_um ms, m_bd ms, m_pc ms, m_pa ms, m_sz ms, m_cu ms, m_st ms, m_tk ms, m_to ms, m_ps ms, m_now ms, m_asd ms, m_und ms, m_sav ms, m_isv ms, m_buf ms, m_grp ms, m_pag ms⟩ : MM) σ0 (x - 7) (by first | assumption | omega)) tX2_flagsAt q2581 (mc_0 _ _ _) rfl rfl dX2_count_192 (by decide) (Nat.le_of_eq (Nat.zero_add _)) (Nat.le_of_ble_eq_true rfl) ?_
      exact A_iret dX2_count_195 rfl ⟨by rw [gd, if_pos c1] <;> first | with_reducible rfl | (simp [-Int32.not_lt, -Int32.not_le, countN, c2, c3, c4, c5, c6, c7, c8, c9, c10, c11, c12, c13, c17]; done) | (simp [countN, c2, c3, c4, c5, c6, c7, c8, c9, c10, c11, c12, c13, c17]), rfl⟩
    refine A_tableOut (tgt := 187) dX2_count_21 (by have e0 := i_ne c2 (z := 0) (by decide); have e1 := i_ne c3 (z := 1) (by decide); have e2 := i_ne c4 (z := 2) (by decide); have e3 := i_ne c5 (z := 3) (by decide); have e4 := i_ne c6 (z := 4) (by decide); have e5 := i_ne c7 (z := 5) (by decide); have e6 := i_ne c8 (z := 6) (by decide); have e7 := i_ne c9 (z := 11) (by decide); have e8 := i_ne c10 (z := 12) (by decide); have e9 := i_ne c11 (z := 13) (by decide); have e10 := i_ne c12 (z := 14) (by decide); have e11 := i_ne c13 (z := 15) (by decide); have e12 := i_ne c14 (z := 7) (by decide); have e13 := i_ne c15 (z := 8) (by decide); have e14 := i_ne c16 (z := 9) (by decide); have e15 := i_ne c17 (z := 10) (by decide); omega) (by decide) ?_
    refine A_aload_n (i := 0) dX2_count_187 rfl rfl ?_
    refine A_iload_n (i := 1) dX2_count_188 rfl rfl ?_
    refine A_bipush (v := 7) dX2_count_189 (by decide) ?_
    refine A_isub dX2_count_191 ?_
    refine A_callV1E (v := some (.int (atN (m_now ms) (x - 7)))) (τ := mc b9 (⟨mayT (m_is ms) (bi (inR x 0 15)) 1, m_is ms, m_um ms, m_bd ms, m_pc ms, m_pa ms, m_sz ms, m_cu ms, m_st ms, m_tk ms, m_to ms, m_ps ms, m_now ms, m_asd ms, m_und ms, m_sav ms, m_isv ms, m_buf ms, m_grp ms, m_pag ms⟩ : MM) σ0) (c_flagsAt b9 (⟨mayT (m_is ms) (bi (inR x 0 15)) 1, m_is ms, m_um ms, m_bd ms, m_pc ms, m_pa ms, m_sz ms, m_cu ms, m_st ms, m_tk ms, m_to ms, m_ps ms, m_now ms, m_asd ms, m_und ms, m_sav ms, m_isv ms, m_buf ms, m_grp ms, m_pag ms⟩ : MM) σ0 (x - 7) (by first | assumption | omega)) tX2_flagsAt q2581 (mc_0 _ _ _) rfl rfl dX2_count_192 (by decide) (Nat.le_of_eq (Nat.zero_add _)) (Nat.le_of_ble_eq_true rfl) ?_
    exact A_iret dX2_count_195 rfl ⟨by rw [gd, if_pos c1] <;> first | with_reducible rfl | (simp [-Int32.not_lt, -Int32.not_le, countN, c2, c3, c4, c5, c6, c7, c8, c9, c10, c11, c12, c13]; done) | (simp [countN, c2, c3, c4, c5, c6, c7, c8, c9, c10, c11, c12, c13]), rfl⟩
  · skip
    have c1 := bi_eq0.mp c1
    refine A_iconst (v := 0) dX2_count_18 (by decide) ?_
    exact A_iret dX2_count_19 rfl ⟨by rw [gd, if_neg c1], rfl⟩
theorem c_colour {l : Launch} {g : GC} (b9 : Nat) (ms : MM) (σ0 : AH) (c : Int32) (x : Int32) (h1 : WFc (m_now ms)) : AMet l g mX2_colour 3 0 [.ref b9, .int c, .int x] (mc b9 ms σ0) (A_eq (some (.int (gd (mayT (m_is ms) (bi (okC (m_is ms) (m_now ms) c)) (bi (inR x 0 2))) (if x = 0 then (m_now ms) (12 + ix c) else if x = 1 then withN (m_now ms) c 1 else withN (m_now ms) c 6)))) (mc b9 (⟨mayT (m_is ms) (bi (okC (m_is ms) (m_now ms) c)) (bi (inR x 0 2)), m_is ms, m_um ms, m_bd ms, m_pc ms, m_pa ms, m_sz ms, m_cu ms, m_st ms, m_tk ms, m_to ms, m_ps ms, m_now ms, m_asd ms, m_und ms, m_sav ms, m_isv ms, m_buf ms, m_grp ms, m_pag ms⟩ : MM) σ0)) A_no := by
  refine A_of rfl (by decide) (Nat.le_of_ble_eq_true rfl) (L0 := [(0, .ref b9), (1, .int c), (2, .int x)]) rfl ?_
  have hC := h1.1.2
  refine A_aload_n (i := 0) dX2_colour_0 rfl rfl ?_
  refine A_aload_n (i := 0) dX2_colour_1 rfl rfl ?_
  refine M_get 6 (v := .int (m_is ms)) (Nat.le_of_ble_eq_true rfl) q2235 rfl dX2_colour_2 ?_
  refine A_aload_n (i := 0) dX2_colour_5 rfl rfl ?_
  refine A_iload_n (i := 1) dX2_colour_6 rfl rfl ?_
  refine A_callV1E (v := some (.int (bi (okC (m_is ms) (m_now ms) c)))) (τ := mc b9 ms σ0) (c_isColour b9 ms σ0 c) tX2_isColour q2589 (mc_0 _ _ _) rfl rfl dX2_colour_7 (by decide) (Nat.le_of_eq (Nat.zero_add _)) (Nat.le_of_ble_eq_true rfl) ?_
  refine A_iload_n (i := 2) dX2_colour_10 rfl rfl ?_
  refine A_iconst (v := 0) dX2_colour_11 (by decide) ?_
  refine A_iconst (v := 2) dX2_colour_12 (by decide) ?_
  refine A_callS3E (v := some (.int (bi (inR x 0 2)))) (τ := mc b9 ms σ0) (c_in b9 ms σ0 x 0 2) tX2_in q2319 dX2_colour_13 (by decide) (Nat.le_of_eq (Nat.zero_add _)) (Nat.le_of_ble_eq_true rfl) ?_
  refine A_callV3E (v := some (.int (bi (mayT (m_is ms) (bi (okC (m_is ms) (m_now ms) c)) (bi (inR x 0 2)) = 0)))) (τ := mc b9 (⟨mayT (m_is ms) (bi (okC (m_is ms) (m_now ms) c)) (bi (inR x 0 2)), m_is ms, m_um ms, m_bd ms, m_pc ms, m_pa ms, m_sz ms, m_cu ms, m_st ms, m_tk ms, m_to ms, m_ps ms, m_now ms, m_asd ms, m_und ms, m_sav ms, m_isv ms, m_buf ms, m_grp ms, m_pag ms⟩ : MM) σ0) (c_may b9 ms σ0 (m_is ms) (bi (okC (m_is ms) (m_now ms) c)) (bi (inR x 0 2))) tX2_may q2322 (mc_0 _ _ _) rfl rfl dX2_colour_16 (by decide) (Nat.le_of_eq (Nat.zero_add _)) (Nat.le_of_ble_eq_true rfl) ?_
  refine A_if_ne (tgt := 24) dX2_colour_19 (by decide) (fun c1 => ?_) (fun c1 => ?_)
  · skip
    have c1 := bi_ne0.mp c1
    obtain ⟨c9, hc9, rfl⟩ := okC_ex h1 (mayT_y c1)
    refine A_iload_n (i := 2) dX2_colour_24 rfl rfl ?_
    refine A_if_ne (tgt := 38) dX2_colour_25 (by decide) (fun c2 => ?_) (fun c2 => ?_)
    · skip
      refine A_aload_n (i := 0) dX2_colour_38 rfl rfl ?_
      refine A_iload_n (i := 1) dX2_colour_39 rfl rfl ?_
      refine A_iload_n (i := 2) dX2_colour_40 rfl rfl ?_
      refine A_iconst (v := 1) dX2_colour_41 (by decide) ?_
      refine A_icmp_ne (tgt := 49) dX2_colour_42 (by decide) (fun c3 => ?_) (fun c3 => ?_)
      · skip
        refine A_bipush (v := 6) dX2_colour_49 (by decide) ?_
        refine A_callV2E (v := some (.int (withN (m_now ms) (nI c9) 6))) (τ := mc b9 (⟨mayT (m_is ms) (bi (okC (m_is ms) (m_now ms) (nI c9))) (bi (inR x 0 2)), m_is ms, m_um ms, m_bd ms, m_pc ms, m_pa ms, m_sz ms, m_cu ms, m_st ms, m_tk ms, m_to ms, m_ps ms, m_now ms, m_asd ms, m_und ms, m_sav ms, m_isv ms, m_buf ms, m_grp ms, m_pag ms⟩ : MM) σ0) (c_flagsWith b9 (⟨mayT (m_is ms) (bi (okC (m_is ms) (m_now ms) (nI c9))) (bi (inR x 0 2)), m_is ms, m_um ms, m_bd ms, m_pc ms, m_pa ms, m_sz ms, m_cu ms, m_st ms, m_tk ms, m_to ms, m_ps ms, m_now ms, m_asd ms, m_und ms, m_sav ms, m_isv ms, m_buf ms, m_grp ms, m_pag ms⟩ : MM) σ0 (nI c9) 6 (by first | assumption | omega) (by first | assumption | omega)) tX2_flagsWith q2593 (mc_0 _ _ _) rfl rfl dX2_colour_51 (by decide) (Nat.le_of_eq (Nat.zero_add _)) (Nat.le_of_ble_eq_true rfl) ?_
        exact A_iret dX2_colour_54 rfl ⟨by rw [gd, if_pos c1] <;> first | with_reducible rfl | (simp [-Int32.not_lt, -Int32.not_le, ixn (show c9 < 2000 by omega), c2, c3]; done) | (simp [ixn (show c9 < 2000 by omega), c2, c3]), rfl⟩
      · skip
        refine A_iconst (v := 1) dX2_colour_45 (by decide) ?_
        refine A_goto (tgt := 51) dX2_colour_46 (by decide) ?_
        refine A_callV2E (v := some (.int (withN (m_now ms) (nI c9) 1))) (τ := mc b9 (⟨mayT (m_is ms) (bi (okC (m_is ms) (m_now ms) (nI c9))) (bi (inR x 0 2)), m_is ms, m_um ms, m_bd ms, m_pc ms, m_pa ms, m_sz ms, m_cu ms, m_st ms, m_tk ms, m_to ms, m_ps ms, m_now ms, m_asd ms, m_und ms, m_sav ms, m_isv ms, m_buf ms, m_grp ms, m_pag ms⟩ : MM) σ0) (c_flagsWith b9 (⟨mayT (m_is ms) (bi (okC (m_is ms) (m_now ms) (nI c9))) (bi (inR x 0 2)), m_is ms, m_um ms, m_bd ms, m_pc ms, m_pa ms, m_sz ms, m_cu ms, m_st ms, m_tk ms, m_to ms, m_ps ms, m_now ms, m_asd ms, m_und ms, m_sav ms, m_isv ms, m_buf ms, m_grp ms, m_pag ms⟩ : MM) σ0 (nI c9) 1 (by first | assumption | omega) (by first | assumption | omega)) tX2_flagsWith q2593 (mc_0 _ _ _) rfl rfl dX2_colour_51 (by decide) (Nat.le_of_eq (Nat.zero_add _)) (Nat.le_of_ble_eq_true rfl) ?_
        exact A_iret dX2_colour_54 rfl ⟨by rw [gd, if_pos c1] <;> first | with_reducible rfl | (simp [-Int32.not_lt, -Int32.not_le, ixn (show c9 < 2000 by omega), c2, c3]; done) | (simp [ixn (show c9 < 2000 by omega), c2, c3]), rfl⟩
    · skip
      refine A_aload_n (i := 0) dX2_colour_28 rfl rfl ?_
      refine M_get 1 (v := .ref (b9 + 1)) (Nat.le_of_ble_eq_true rfl) q2230 rfl dX2_colour_29 ?_
      refine A_bipush (v := 12) dX2_colour_32 (by decide) ?_
      refine A_iload_n (i := 1) dX2_colour_34 rfl rfl ?_
      refine A_iadd dX2_colour_35 ?_
      refine A_int (w := nI (12 + c9)) (nI_add 12 c9) ?_
      refine M_ald1 (n := 12 + c9) (v := m_now ms (12 + c9)) (rfl) (by omega) (rfl) dX2_colour_36 ?_
      exact A_iret dX2_colour_37 rfl ⟨by rw [gd, if_pos c1] <;> first | with_reducible rfl | (simp [-Int32.not_lt, -Int32.not_le, ixn (show c9 < 2000 by omega), c2]; done) | (simp [ixn (show c9 < 2000 by omega), c2]), rfl⟩
  · skip
    have c1 := bi_eq0.mp c1
    refine A_iconst (v := 0) dX2_colour_22 (by decide) ?_
    exact A_iret dX2_colour_23 rfl ⟨by rw [gd, if_neg c1], rfl⟩
theorem in6_ex {x : Int32} {n : Nat} (hn : n ≤ 1000) (h : inR x 0 (nI n)) : ∃ k, k ≤ n ∧ x = nI k := by
  obtain ⟨h1, h2⟩ := h
  obtain ⟨j, hj, rfl⟩ := nI_of h1
  refine ⟨j, ?_, rfl⟩
  rcases Nat.lt_or_ge n j with q | q
  · exact absurd (nI_lt q hj) h2
  · exact q
theorem c_nation {l : Launch} {g : GC} (b9 : Nat) (ms : MM) (σ0 : AH) (n : Int32) (x : Int32) (h1 : WFc (m_now ms)) : AMet l g mX2_nation 6 0 [.ref b9, .int n, .int x] (mc b9 ms σ0) (A_eq (some (.int (gd (mayT (m_is ms) (bi (okN (m_is ms) (m_now ms) n)) (bi (inR x 0 6))) (nationN (m_now ms) (ix n) x)))) (mc b9 (⟨mayT (m_is ms) (bi (okN (m_is ms) (m_now ms) n)) (bi (inR x 0 6)), m_is ms, m_um ms, m_bd ms, m_pc ms, m_pa ms, m_sz ms, m_cu ms, m_st ms, m_tk ms, m_to ms, m_ps ms, m_now ms, m_asd ms, m_und ms, m_sav ms, m_isv ms, m_buf ms, m_grp ms, m_pag ms⟩ : MM) σ0)) A_no := by
  refine A_of rfl (by decide) (Nat.le_of_ble_eq_true rfl) (L0 := [(0, .ref b9), (1, .int n), (2, .int x)]) rfl ?_
  have hN := h1.2.1.2
  refine A_aload_n (i := 0) dX2_nation_0 rfl rfl ?_
  refine A_aload_n (i := 0) dX2_nation_1 rfl rfl ?_
  refine M_get 6 (v := .int (m_is ms)) (Nat.le_of_ble_eq_true rfl) q2235 rfl dX2_nation_2 ?_
  refine A_aload_n (i := 0) dX2_nation_5 rfl rfl ?_
  refine A_iload_n (i := 1) dX2_nation_6 rfl rfl ?_
  refine A_callV1E (v := some (.int (bi (okN (m_is ms) (m_now ms) n)))) (τ := mc b9 ms σ0) (c_isNation b9 ms σ0 n) tX2_isNation q2601 (mc_0 _ _ _) rfl rfl dX2_nation_7 (by decide) (Nat.le_of_eq (Nat.zero_add _)) (Nat.le_of_ble_eq_true rfl) ?_
  refine A_iload_n (i := 2) dX2_nation_10 rfl rfl ?_
  refine A_iconst (v := 0) dX2_nation_11 (by decide) ?_
  refine A_bipush (v := 6) dX2_nation_12 (by decide) ?_
  refine A_callS3E (v := some (.int (bi (inR x 0 6)))) (τ := mc b9 ms σ0) (c_in b9 ms σ0 x 0 6) tX2_in q2319 dX2_nation_14 (by decide) (Nat.le_of_eq (Nat.zero_add _)) (Nat.le_of_ble_eq_true rfl) ?_
  refine A_callV3E (v := some (.int (bi (mayT (m_is ms) (bi (okN (m_is ms) (m_now ms) n)) (bi (inR x 0 6)) = 0)))) (τ := mc b9 (⟨mayT (m_is ms) (bi (okN (m_is ms) (m_now ms) n)) (bi (inR x 0 6)), m_is ms, m_um ms, m_bd ms, m_pc ms, m_pa ms, m_sz ms, m_cu ms, m_st ms, m_tk ms, m_to ms, m_ps ms, m_now ms, m_asd ms, m_und ms, m_sav ms, m_isv ms, m_buf ms, m_grp ms, m_pag ms⟩ : MM) σ0) (c_may b9 ms σ0 (m_is ms) (bi (okN (m_is ms) (m_now ms) n)) (bi (inR x 0 6))) tX2_may q2322 (mc_0 _ _ _) rfl rfl dX2_nation_17 (by decide) (Nat.le_of_eq (Nat.zero_add _)) (Nat.le_of_ble_eq_true rfl) ?_
  refine A_if_ne (tgt := 25) dX2_nation_20 (by decide) (fun c1 => ?_) (fun c1 => ?_)
  · skip
    have c1 := bi_ne0.mp c1
    obtain ⟨n9, hn9, rfl⟩ := okN_ex h1 (mayT_y c1)
    obtain ⟨k, hk, rfl⟩ := in6_ex (n := 6) (by omega) (mayT_z c1)
    refine A_iload_n (i := 2) dX2_nation_25 rfl rfl ?_
    by_cases c2 : nI k = 3
    · skip
      refine A_int c2 ?_
      refine A_tableIn (tgt := 56) dX2_nation_26 (by decide) (by decide) rfl (by decide) ?_
      refine A_aload_n (i := 0) dX2_nation_56 rfl rfl ?_
      refine A_iload_n (i := 1) dX2_nation_57 rfl rfl ?_
      refine A_callV1E (v := some (.int (flagsN (m_now ms) (nI n9)))) (τ := mc b9 (⟨mayT (m_is ms) (bi (okN (m_is ms) (m_now ms) (nI n9))) (bi (inR (nI k) 0 6)), m_is ms, m_um ms, m_bd ms, m_pc ms, m_pa ms, m_sz ms, m_cu ms, m_st ms, m_tk ms, m_to ms, m_ps ms, m_now ms, m_asd ms, m_und ms, m_sav ms, m_isv ms, m_buf ms, m_grp ms, m_pag ms⟩ : MM) σ0) (c_flagsOf b9 (⟨mayT (m_is ms) (bi (okN (m_is ms) (m_now ms) (nI n9))) (bi (inR (nI k) 0 6)), m_is ms, m_um ms, m_bd ms, m_pc ms, m_pa ms, m_sz ms, m_cu ms, m_st ms, m_tk ms, m_to ms, m_ps ms, m_now ms, m_asd ms, m_und ms, m_sav ms, m_isv ms, m_buf ms, m_grp ms, m_pag ms⟩ : MM) σ0 (nI n9) (by first | assumption | omega)) tX2_flagsOf q2605 (mc_0 _ _ _) rfl rfl dX2_nation_58 (by decide) (Nat.le_of_eq (Nat.zero_add _)) (Nat.le_of_ble_eq_true rfl) ?_
      exact A_iret dX2_nation_61 rfl ⟨by rw [gd, if_pos c1] <;> first | with_reducible rfl | (simp [-Int32.not_lt, -Int32.not_le, nationN, ixn (show n9 < 2000 by omega), ixn (show k < 2000 by omega), c2]; done) | (simp [nationN, ixn (show n9 < 2000 by omega), ixn (show k < 2000 by omega), c2]), rfl⟩
    by_cases c3 : nI k = 4
    · skip
      refine A_int c3 ?_
      refine A_tableIn (tgt := 62) dX2_nation_26 (by decide) (by decide) rfl (by decide) ?_
      refine A_aload_n (i := 0) dX2_nation_62 rfl rfl ?_
      refine A_iload_n (i := 1) dX2_nation_63 rfl rfl ?_
      refine A_callV1E (v := some (.int (rdyOf (m_now ms) (nI n9)))) (τ := mc b9 (⟨mayT (m_is ms) (bi (okN (m_is ms) (m_now ms) (nI n9))) (bi (inR (nI k) 0 6)), m_is ms, m_um ms, m_bd ms, m_pc ms, m_pa ms, m_sz ms, m_cu ms, m_st ms, m_tk ms, m_to ms, m_ps ms, m_now ms, m_asd ms, m_und ms, m_sav ms, m_isv ms, m_buf ms, m_grp ms, m_pag ms⟩ : MM) σ0) (c_readyOf b9 (⟨mayT (m_is ms) (bi (okN (m_is ms) (m_now ms) (nI n9))) (bi (inR (nI k) 0 6)), m_is ms, m_um ms, m_bd ms, m_pc ms, m_pa ms, m_sz ms, m_cu ms, m_st ms, m_tk ms, m_to ms, m_ps ms, m_now ms, m_asd ms, m_und ms, m_sav ms, m_isv ms, m_buf ms, m_grp ms, m_pag ms⟩ : MM) σ0 (nI n9) (by first | assumption | omega)) tX2_readyOf q2609 (mc_0 _ _ _) rfl rfl dX2_nation_64 (by decide) (Nat.le_of_eq (Nat.zero_add _)) (Nat.le_of_ble_eq_true rfl) ?_
      exact A_iret dX2_nation_67 rfl ⟨by rw [gd, if_pos c1] <;> first | with_reducible rfl | (simp [-Int32.not_lt, -Int32.not_le, nationN, ixn (show n9 < 2000 by omega), ixn (show k < 2000 by omega), c2, c3]; done) | (simp [nationN, ixn (show n9 < 2000 by omega), ixn (show k < 2000 by omega), c2, c3]), rfl⟩
    by_cases c4 : nI k = 5
    · skip
      refine A_int c4 ?_
      refine A_tableIn (tgt := 68) dX2_nation_26 (by decide) (by decide) rfl (by decide) ?_
      refine A_aload_n (i := 0) dX2_nation_68 rfl rfl ?_
      refine A_iload_n (i := 1) dX2_nation_69 rfl rfl ?_
      refine A_iconst (v := 3) dX2_nation_70 (by decide) ?_
      refine A_callV2E (v := some (.int (na (m_now ms) n9 3))) (τ := mc b9 (⟨mayT (m_is ms) (bi (okN (m_is ms) (m_now ms) (nI n9))) (bi (inR (nI k) 0 6)), m_is ms, m_um ms, m_bd ms, m_pc ms, m_pa ms, m_sz ms, m_cu ms, m_st ms, m_tk ms, m_to ms, m_ps ms, m_now ms, m_asd ms, m_und ms, m_sav ms, m_isv ms, m_buf ms, m_grp ms, m_pag ms⟩ : MM) σ0) (c_ofNation b9 (⟨mayT (m_is ms) (bi (okN (m_is ms) (m_now ms) (nI n9))) (bi (inR (nI k) 0 6)), m_is ms, m_um ms, m_bd ms, m_pc ms, m_pa ms, m_sz ms, m_cu ms, m_st ms, m_tk ms, m_to ms, m_ps ms, m_now ms, m_asd ms, m_und ms, m_sav ms, m_isv ms, m_buf ms, m_grp ms, m_pag ms⟩ : MM) σ0 n9 3 (by first | assumption | omega) (by first | assumption | omega)) tX2_ofNation q2613 (mc_0 _ _ _) rfl rfl dX2_nation_71 (by decide) (Nat.le_of_eq (Nat.zero_add _)) (Nat.le_of_ble_eq_true rfl) ?_
      exact A_iret dX2_nation_74 rfl ⟨by rw [gd, if_pos c1] <;> first | with_reducible rfl | (simp [-Int32.not_lt, -Int32.not_le, nationN, ixn (show n9 < 2000 by omega), ixn (show k < 2000 by omega), c2, c3, c4]; done) | (simp [nationN, ixn (show n9 < 2000 by omega), ixn (show k < 2000 by omega), c2, c3, c4]), rfl⟩
    by_cases c5 : nI k = 6
    · skip
      refine A_int c5 ?_
      refine A_tableIn (tgt := 75) dX2_nation_26 (by decide) (by decide) rfl (by decide) ?_
      refine A_aload_n (i := 0) dX2_nation_75 rfl rfl ?_
      refine A_iload_n (i := 1) dX2_nation_76 rfl rfl ?_
      refine A_callV1E (v := some (.int (bi (na (m_now ms) n9 3 = 1)))) (τ := mc b9 (⟨mayT (m_is ms) (bi (okN (m_is ms) (m_now ms) (nI n9))) (bi (inR (nI k) 0 6)), m_is ms, m_um ms, m_bd ms, m_pc ms, m_pa ms, m_sz ms, m_cu ms, m_st ms, m_tk ms, m_to ms, m_ps ms, m_now ms, m_asd ms, m_und ms, m_sav ms, m_isv ms, m_buf ms, m_grp ms, m_pag ms⟩ : MM) σ0) (c_isHanded b9 (⟨mayT (m_is ms) (bi (okN (m_is ms) (m_now ms) (nI n9))) (bi (inR (nI k) 0 6)), m_is ms, m_um ms, m_bd ms, m_pc ms, m_pa ms, m_sz ms, m_cu ms, m_st ms, m_tk ms, m_to ms, m_ps ms, m_now ms, m_asd ms, m_und ms, m_sav ms, m_isv ms, m_buf ms, m_grp ms, m_pag ms⟩ : MM) σ0 n9 (by first | assumption | omega)) tX2_isHanded q2617 (mc_0 _ _ _) rfl rfl dX2_nation_77 (by decide) (Nat.le_of_eq (Nat.zero_add _)) (Nat.le_of_ble_eq_true rfl) ?_
      refine A_if_eq (tgt := 92) dX2_nation_80 (by decide) (fun c6 => ?_) (fun c6 => ?_)
      · skip
        have c6 := bi_eq0.mp c6
        refine A_aload_n (i := 0) dX2_nation_92 rfl rfl ?_
        refine A_iload_n (i := 1) dX2_nation_93 rfl rfl ?_
        refine A_aload_n (i := 0) dX2_nation_94 rfl rfl ?_
        refine M_get 1 (v := .ref (b9 + 1)) (Nat.le_of_ble_eq_true rfl) q2230 rfl dX2_nation_95 ?_
        refine A_iconst (v := 0) dX2_nation_98 (by decide) ?_
        refine M_ald1 (n := 0) (v := m_now ms 0) (rfl) (by decide) (rfl) dX2_nation_99 ?_
        refine A_callV2E (v := some (.int (lateN (m_now ms) n9 (m_now ms 0)))) (τ := mc b9 (⟨mayT (m_is ms) (bi (okN (m_is ms) (m_now ms) (nI n9))) (bi (inR (nI k) 0 6)), m_is ms, m_um ms, m_bd ms, m_pc ms, m_pa ms, m_sz ms, m_cu ms, m_st ms, m_tk ms, m_to ms, m_ps ms, m_now ms, m_asd ms, m_und ms, m_sav ms, m_isv ms, m_buf ms, m_grp ms, m_pag ms⟩ : MM) σ0) (c_lateAt b9 (⟨mayT (m_is ms) (bi (okN (m_is ms) (m_now ms) (nI n9))) (bi (inR (nI k) 0 6)), m_is ms, m_um ms, m_bd ms, m_pc ms, m_pa ms, m_sz ms, m_cu ms, m_st ms, m_tk ms, m_to ms, m_ps ms, m_now ms, m_asd ms, m_und ms, m_sav ms, m_isv ms, m_buf ms, m_grp ms, m_pag ms⟩ : MM) σ0 n9 (m_now ms 0) (by first | assumption | omega)) tX2_lateAt q2621 (mc_0 _ _ _) rfl rfl dX2_nation_100 (by decide) (Nat.le_of_eq (Nat.zero_add _)) (Nat.le_of_ble_eq_true rfl) ?_
        exact A_iret dX2_nation_103 rfl ⟨by rw [gd, if_pos c1] <;> first | with_reducible rfl | (simp [-Int32.not_lt, -Int32.not_le, nationN, ixn (show n9 < 2000 by omega), ixn (show k < 2000 by omega), c2, c3, c4, c5, c6]; done) | (simp [nationN, ixn (show n9 < 2000 by omega), ixn (show k < 2000 by omega), c2, c3, c4, c5, c6]), rfl⟩
      · skip
        have c6 := bi_ne0.mp c6
        refine A_aload_n (i := 0) dX2_nation_83 rfl rfl ?_
        refine A_iload_n (i := 1) dX2_nation_84 rfl rfl ?_
        refine A_iconst (v := 4) dX2_nation_85 (by decide) ?_
        refine A_callV2E (v := some (.int (na (m_now ms) n9 4))) (τ := mc b9 (⟨mayT (m_is ms) (bi (okN (m_is ms) (m_now ms) (nI n9))) (bi (inR (nI k) 0 6)), m_is ms, m_um ms, m_bd ms, m_pc ms, m_pa ms, m_sz ms, m_cu ms, m_st ms, m_tk ms, m_to ms, m_ps ms, m_now ms, m_asd ms, m_und ms, m_sav ms, m_isv ms, m_buf ms, m_grp ms, m_pag ms⟩ : MM) σ0) (c_ofNation b9 (⟨mayT (m_is ms) (bi (okN (m_is ms) (m_now ms) (nI n9))) (bi (inR (nI k) 0 6)), m_is ms, m_um ms, m_bd ms, m_pc ms, m_pa ms, m_sz ms, m_cu ms, m_st ms, m_tk ms, m_to ms, m_ps ms, m_now ms, m_asd ms, m_und ms, m_sav ms, m_isv ms, m_buf ms, m_grp ms, m_pag ms⟩ : MM) σ0 n9 4 (by first | assumption | omega) (by first | assumption | omega)) tX2_ofNation q2613 (mc_0 _ _ _) rfl rfl dX2_nation_86 (by decide) (Nat.le_of_eq (Nat.zero_add _)) (Nat.le_of_ble_eq_true rfl) ?_
        refine A_goto (tgt := 103) dX2_nation_89 (by decide) ?_
        exact A_iret dX2_nation_103 rfl ⟨by rw [gd, if_pos c1] <;> first | with_reducible rfl | (simp [-Int32.not_lt, -Int32.not_le, nationN, ixn (show n9 < 2000 by omega), ixn (show k < 2000 by omega), c2, c3, c4, c5, c6]; done) | (simp [nationN, ixn (show n9 < 2000 by omega), ixn (show k < 2000 by omega), c2, c3, c4, c5, c6]), rfl⟩
    refine A_tableOut (tgt := 104) dX2_nation_26 (by have e0 := i_ne c2 (z := 3) (by decide); have e1 := i_ne c3 (z := 4) (by decide); have e2 := i_ne c4 (z := 5) (by decide); have e3 := i_ne c5 (z := 6) (by decide); omega) (by decide) ?_
    refine A_aload_n (i := 0) dX2_nation_104 rfl rfl ?_
    refine A_iload_n (i := 1) dX2_nation_105 rfl rfl ?_
    refine A_iload_n (i := 2) dX2_nation_106 rfl rfl ?_
    refine A_callV2E (v := some (.int (na (m_now ms) n9 k))) (τ := mc b9 (⟨mayT (m_is ms) (bi (okN (m_is ms) (m_now ms) (nI n9))) (bi (inR (nI k) 0 6)), m_is ms, m_um ms, m_bd ms, m_pc ms, m_pa ms, m_sz ms, m_cu ms, m_st ms, m_tk ms, m_to ms, m_ps ms, m_now ms, m_asd ms, m_und ms, m_sav ms, m_isv ms, m_buf ms, m_grp ms, m_pag ms⟩ : MM) σ0) (c_ofNation b9 (⟨mayT (m_is ms) (bi (okN (m_is ms) (m_now ms) (nI n9))) (bi (inR (nI k) 0 6)), m_is ms, m_um ms, m_bd ms, m_pc ms, m_pa ms, m_sz ms, m_cu ms, m_st ms, m_tk ms, m_to ms, m_ps ms, m_now ms, m_asd ms, m_und ms, m_sav ms, m_isv ms, m_buf ms, m_grp ms, m_pag ms⟩ : MM) σ0 n9 k (by first | assumption | omega) (by rcases (show k < 5 ∨ k = 5 ∨ k = 6 by omega) with h | rfl | rfl <;> first | exact h | exact absurd rfl c4 | exact absurd rfl c5)) tX2_ofNation q2613 (mc_0 _ _ _) rfl rfl dX2_nation_107 (by decide) (Nat.le_of_eq (Nat.zero_add _)) (Nat.le_of_ble_eq_true rfl) ?_
    exact A_iret dX2_nation_110 rfl ⟨by rw [gd, if_pos c1] <;> first | with_reducible rfl | (simp [-Int32.not_lt, -Int32.not_le, nationN, ixn (show n9 < 2000 by omega), ixn (show k < 2000 by omega), c2, c3, c4, c5]; done) | (simp [nationN, ixn (show n9 < 2000 by omega), ixn (show k < 2000 by omega), c2, c3, c4, c5]), rfl⟩
  · skip
    have c1 := bi_eq0.mp c1
    refine A_iconst (v := 0) dX2_nation_23 (by decide) ?_
    exact A_iret dX2_nation_24 rfl ⟨by rw [gd, if_neg c1], rfl⟩
theorem c_flag {l : Launch} {g : GC} (b9 : Nat) (ms : MM) (σ0 : AH) (f : Int32) (x : Int32) (h1 : WFc (m_now ms)) : AMet l g mX2_flag 3 0 [.ref b9, .int f, .int x] (mc b9 ms σ0) (A_eq (some (.int (gd (mayT (m_is ms) (bi (okF (m_is ms) (m_now ms) f)) (bi (inR x 0 9))) (fl (m_now ms) (ix f) (ix x))))) (mc b9 (⟨mayT (m_is ms) (bi (okF (m_is ms) (m_now ms) f)) (bi (inR x 0 9)), m_is ms, m_um ms, m_bd ms, m_pc ms, m_pa ms, m_sz ms, m_cu ms, m_st ms, m_tk ms, m_to ms, m_ps ms, m_now ms, m_asd ms, m_und ms, m_sav ms, m_isv ms, m_buf ms, m_grp ms, m_pag ms⟩ : MM) σ0)) A_no := by
  refine A_of rfl (by decide) (Nat.le_of_ble_eq_true rfl) (L0 := [(0, .ref b9), (1, .int f), (2, .int x)]) rfl ?_
  have hF := h1.2.2.2.2.2
  have hC := h1.1.2
  refine A_aload_n (i := 0) dX2_flag_0 rfl rfl ?_
  refine A_aload_n (i := 0) dX2_flag_1 rfl rfl ?_
  refine M_get 6 (v := .int (m_is ms)) (Nat.le_of_ble_eq_true rfl) q2235 rfl dX2_flag_2 ?_
  refine A_aload_n (i := 0) dX2_flag_5 rfl rfl ?_
  refine A_iload_n (i := 1) dX2_flag_6 rfl rfl ?_
  refine A_callV1E (v := some (.int (bi (okF (m_is ms) (m_now ms) f)))) (τ := mc b9 ms σ0) (c_isFlag b9 ms σ0 f) tX2_isFlag q2629 (mc_0 _ _ _) rfl rfl dX2_flag_7 (by decide) (Nat.le_of_eq (Nat.zero_add _)) (Nat.le_of_ble_eq_true rfl) ?_
  refine A_iload_n (i := 2) dX2_flag_10 rfl rfl ?_
  refine A_iconst (v := 0) dX2_flag_11 (by decide) ?_
  refine A_bipush (v := 9) dX2_flag_12 (by decide) ?_
  refine A_callS3E (v := some (.int (bi (inR x 0 9)))) (τ := mc b9 ms σ0) (c_in b9 ms σ0 x 0 9) tX2_in q2319 dX2_flag_14 (by decide) (Nat.le_of_eq (Nat.zero_add _)) (Nat.le_of_ble_eq_true rfl) ?_
  refine A_callV3E (v := some (.int (bi (mayT (m_is ms) (bi (okF (m_is ms) (m_now ms) f)) (bi (inR x 0 9)) = 0)))) (τ := mc b9 (⟨mayT (m_is ms) (bi (okF (m_is ms) (m_now ms) f)) (bi (inR x 0 9)), m_is ms, m_um ms, m_bd ms, m_pc ms, m_pa ms, m_sz ms, m_cu ms, m_st ms, m_tk ms, m_to ms, m_ps ms, m_now ms, m_asd ms, m_und ms, m_sav ms, m_isv ms, m_buf ms, m_grp ms, m_pag ms⟩ : MM) σ0) (c_may b9 ms σ0 (m_is ms) (bi (okF (m_is ms) (m_now ms) f)) (bi (inR x 0 9))) tX2_may q2322 (mc_0 _ _ _) rfl rfl dX2_flag_17 (by decide) (Nat.le_of_eq (Nat.zero_add _)) (Nat.le_of_ble_eq_true rfl) ?_
  refine A_if_eq (tgt := 32) dX2_flag_20 (by decide) (fun c1 => ?_) (fun c1 => ?_)
  · skip
    have c1 := bi_eq0.mp c1
    refine A_iconst (v := 0) dX2_flag_32 (by decide) ?_
    exact A_iret dX2_flag_33 rfl ⟨by rw [gd, if_neg c1], rfl⟩
  · skip
    have c1 := bi_ne0.mp c1
    obtain ⟨f9, hf9, rfl⟩ := okF_ex h1 (mayT_y c1)
    obtain ⟨k, hk, rfl⟩ := in6_ex (n := 9) (by omega) (mayT_z c1)
    refine A_aload_n (i := 0) dX2_flag_23 rfl rfl ?_
    refine A_iload_n (i := 1) dX2_flag_24 rfl rfl ?_
    refine A_iload_n (i := 2) dX2_flag_25 rfl rfl ?_
    refine A_callV2E (v := some (.int (fl (m_now ms) f9 k))) (τ := mc b9 (⟨mayT (m_is ms) (bi (okF (m_is ms) (m_now ms) (nI f9))) (bi (inR (nI k) 0 9)), m_is ms, m_um ms, m_bd ms, m_pc ms, m_pa ms, m_sz ms, m_cu ms, m_st ms, m_tk ms, m_to ms, m_ps ms, m_now ms, m_asd ms, m_und ms, m_sav ms, m_isv ms, m_buf ms, m_grp ms, m_pag ms⟩ : MM) σ0) (c_ofFlag b9 (⟨mayT (m_is ms) (bi (okF (m_is ms) (m_now ms) (nI f9))) (bi (inR (nI k) 0 9)), m_is ms, m_um ms, m_bd ms, m_pc ms, m_pa ms, m_sz ms, m_cu ms, m_st ms, m_tk ms, m_to ms, m_ps ms, m_now ms, m_asd ms, m_und ms, m_sav ms, m_isv ms, m_buf ms, m_grp ms, m_pag ms⟩ : MM) σ0 f9 k (by first | assumption | omega) (by first | assumption | omega)) tX2_ofFlag q2444 (mc_0 _ _ _) rfl rfl dX2_flag_26 (by decide) (Nat.le_of_eq (Nat.zero_add _)) (Nat.le_of_ble_eq_true rfl) ?_
    refine A_goto (tgt := 33) dX2_flag_29 (by decide) ?_
    exact A_iret dX2_flag_33 rfl ⟨by rw [gd, if_pos c1] <;> first | with_reducible rfl | (simp [-Int32.not_lt, -Int32.not_le, ixn (show f9 < 2000 by omega), ixn (show k < 2000 by omega)]; done) | (simp [ixn (show f9 < 2000 by omega), ixn (show k < 2000 by omega)]), rfl⟩
theorem c_ofTub {l : Launch} {g : GC} (b9 : Nat) (ms : MM) (σ0 : AH) (t : Int32) (x : Int32) (h1 : WFc (m_now ms)) : AMet l g mX2_ofTub 4 0 [.ref b9, .int t, .int x] (mc b9 ms σ0) (A_eq (some (.int (ofTubU (m_now ms) t x (nF (m_now ms))))) (mc b9 ms σ0)) A_no := by
  refine A_of rfl (by decide) (Nat.le_of_ble_eq_true rfl) (L0 := [(0, .ref b9), (1, .int t), (2, .int x)]) rfl ?_
  have hF := h1.2.2.2.2.2
  have hC := h1.1.2
  refine A_iconst (v := 0) dX2_ofTub_0 (by decide) ?_
  refine A_istore_n (i := 3) dX2_ofTub_1 rfl (Nat.le_of_ble_eq_true rfl) ?_
  refine A_iconst (v := 0) dX2_ofTub_2 (by decide) ?_
  refine A_istore dX2_ofTub_3 (Nat.le_of_ble_eq_true rfl) ?_
  refine A_sub (L' := [(0, .ref b9), (1, .int t), (2, .int x), (3, .int (ofTubU (m_now ms) t x 0)), (4, .int (nI 0))]) ⟨rfl, rfl, rfl, rfl, rfl, trivial⟩ ?_
  refine A_for (nF (m_now ms)) (fun i5 => 0) (fun i5 => [(0, .ref b9), (1, .int t), (2, .int x), (3, .int (ofTubU (m_now ms) t x i5)), (4, .int (nI i5))]) (fun i5 => mc b9 ms σ0) (fun i5 => True) trivial (fun i5 hi5 hI5 ih5 => ?_) (fun hI5 => ?_)
  · skip
    refine A_iload dX2_ofTub_5 rfl ?_
    refine A_aload_n (i := 0) dX2_ofTub_7 rfl rfl ?_
    refine M_get 1 (v := .ref (b9 + 1)) (Nat.le_of_ble_eq_true rfl) q2230 rfl dX2_ofTub_8 ?_
    refine A_bipush (v := 10) dX2_ofTub_11 (by decide) ?_
    refine M_ald1 (n := 10) (v := m_now ms 10) (rfl) (by decide) (rfl) dX2_ofTub_13 ?_
    refine A_icmp_ge_f (tgt := 64) dX2_ofTub_14 (by decide) (br_lt h1.2.2.2.2.1 hi5 (by omega)) ?_
    refine A_aload_n (i := 0) dX2_ofTub_17 rfl rfl ?_
    refine A_iload dX2_ofTub_18 rfl ?_
    refine A_iload_n (i := 1) dX2_ofTub_20 rfl rfl ?_
    refine A_callV2E (v := some (.int (bi (inTub (m_now ms) i5 t)))) (τ := mc b9 ms σ0) (c_isInTub b9 ms σ0 i5 t (by first | assumption | omega)) tX2_isInTub q2452 (mc_0 _ _ _) rfl rfl dX2_ofTub_21 (by decide) (Nat.le_of_eq (Nat.zero_add _)) (Nat.le_of_ble_eq_true rfl) ?_
    refine A_if_ne (tgt := 30) dX2_ofTub_24 (by decide) (fun c1 => ?_) (fun c1 => ?_)
    · skip
      have c1 := bi_ne0.mp c1
      refine A_iload_n (i := 2) dX2_ofTub_30 rfl rfl ?_
      refine A_iconst (v := 3) dX2_ofTub_31 (by decide) ?_
      refine A_icmp_ne (tgt := 48) dX2_ofTub_32 (by decide) (fun c2 => ?_) (fun c2 => ?_)
      · skip
        refine A_iload_n (i := 3) dX2_ofTub_48 rfl rfl ?_
        refine A_aload_n (i := 0) dX2_ofTub_49 rfl rfl ?_
        refine A_iload dX2_ofTub_50 rfl ?_
        refine A_iconst (v := 1) dX2_ofTub_52 (by decide) ?_
        refine A_callV2E (v := some (.int (fl (m_now ms) i5 1))) (τ := mc b9 ms σ0) (c_ofFlag b9 ms σ0 i5 1 (by first | assumption | omega) (by first | assumption | omega)) tX2_ofFlag q2444 (mc_0 _ _ _) rfl rfl dX2_ofTub_53 (by decide) (Nat.le_of_eq (Nat.zero_add _)) (Nat.le_of_ble_eq_true rfl) ?_
        refine A_ior dX2_ofTub_56 ?_
        refine A_istore_n (i := 3) dX2_ofTub_57 rfl (Nat.le_of_ble_eq_true rfl) ?_
        refine A_iinc (v := nI (i5 + 1)) dX2_ofTub_58 rfl (nI_inc _ _) (Nat.le_of_ble_eq_true rfl) ?_
        refine A_goto (tgt := 5) dX2_ofTub_61 (by decide) ?_
        refine A_sub (L' := [(0, .ref b9), (1, .int t), (2, .int x), (3, .int (ofTubU (m_now ms) t x (i5 + 1))), (4, .int (nI (i5 + 1)))]) ⟨rfl, rfl, rfl, lg_eq (by rw [ofTubU_s]; simp [inTub, c1, c2]), rfl, trivial⟩ ?_
        exact ih5 trivial
      · skip
        refine A_iload_n (i := 3) dX2_ofTub_35 rfl rfl ?_
        refine A_aload_n (i := 0) dX2_ofTub_36 rfl rfl ?_
        refine A_iload dX2_ofTub_37 rfl ?_
        refine A_iconst (v := 3) dX2_ofTub_39 (by decide) ?_
        refine A_callV2E (v := some (.int (fl (m_now ms) i5 3))) (τ := mc b9 ms σ0) (c_ofFlag b9 ms σ0 i5 3 (by first | assumption | omega) (by first | assumption | omega)) tX2_ofFlag q2444 (mc_0 _ _ _) rfl rfl dX2_ofTub_40 (by decide) (Nat.le_of_eq (Nat.zero_add _)) (Nat.le_of_ble_eq_true rfl) ?_
        refine A_iadd dX2_ofTub_43 ?_
        refine A_istore_n (i := 3) dX2_ofTub_44 rfl (Nat.le_of_ble_eq_true rfl) ?_
        refine A_goto (tgt := 58) dX2_ofTub_45 (by decide) ?_
        refine A_iinc (v := nI (i5 + 1)) dX2_ofTub_58 rfl (nI_inc _ _) (Nat.le_of_ble_eq_true rfl) ?_
        refine A_goto (tgt := 5) dX2_ofTub_61 (by decide) ?_
        refine A_sub (L' := [(0, .ref b9), (1, .int t), (2, .int x), (3, .int (ofTubU (m_now ms) t x (i5 + 1))), (4, .int (nI (i5 + 1)))]) ⟨rfl, rfl, rfl, lg_eq (by rw [ofTubU_s]; simp [inTub, c1, c2]), rfl, trivial⟩ ?_
        exact ih5 trivial
    · skip
      have c1 := bi_eq0.mp c1
      refine A_goto (tgt := 58) dX2_ofTub_27 (by decide) ?_
      refine A_iinc (v := nI (i5 + 1)) dX2_ofTub_58 rfl (nI_inc _ _) (Nat.le_of_ble_eq_true rfl) ?_
      refine A_goto (tgt := 5) dX2_ofTub_61 (by decide) ?_
      refine A_sub (L' := [(0, .ref b9), (1, .int t), (2, .int x), (3, .int (ofTubU (m_now ms) t x (i5 + 1))), (4, .int (nI (i5 + 1)))]) ⟨rfl, rfl, rfl, lg_eq (by rw [ofTubU_s]; simp [inTub, c1]), rfl, trivial⟩ ?_
      exact ih5 trivial
  · skip
    refine A_iload dX2_ofTub_5 rfl ?_
    refine A_aload_n (i := 0) dX2_ofTub_7 rfl rfl ?_
    refine M_get 1 (v := .ref (b9 + 1)) (Nat.le_of_ble_eq_true rfl) q2230 rfl dX2_ofTub_8 ?_
    refine A_bipush (v := 10) dX2_ofTub_11 (by decide) ?_
    refine M_ald1 (n := 10) (v := m_now ms 10) (rfl) (by decide) (rfl) dX2_ofTub_13 ?_
    refine A_icmp_ge_t (tgt := 64) dX2_ofTub_14 (by decide) (br_ge h1.2.2.2.2.1) ?_
    refine A_iload_n (i := 3) dX2_ofTub_64 rfl rfl ?_
    exact A_iret dX2_ofTub_65 rfl ⟨rfl, rfl⟩
theorem ofTub3 (N : AF) (t : Int32) : ∀ n, ofTubU N t 3 n = sm (fun f => if inTub N f t then fl N f 3 else 0) n
  | 0 => rfl
  | n + 1 => by
    rw [ofTubU_s, sm_s, ofTub3 N t n]
    split <;> simp
theorem ofTub4 (N : AF) (t x : Int32) (hx : ¬ x = 3) : ∀ n, ofTubU N t x n = orF (fun f => if inTub N f t then fl N f 1 else 0) n
  | 0 => rfl
  | n + 1 => by
    rw [ofTubU_s, or_s, ofTub4 N t x hx n]
    simp only [hx, if_false]
    split <;> simp
theorem c_tub {l : Launch} {g : GC} (b9 : Nat) (ms : MM) (σ0 : AH) (t : Int32) (x : Int32) (h1 : WFc (m_now ms)) : AMet l g mX2_tub 5 0 [.ref b9, .int t, .int x] (mc b9 ms σ0) (A_eq (some (.int (gd (mayT (m_is ms) (bi (okT (m_is ms) (m_now ms) t)) (bi (inR x 0 4))) (tubN (m_now ms) (ix t) x)))) (mc b9 (⟨mayT (m_is ms) (bi (okT (m_is ms) (m_now ms) t)) (bi (inR x 0 4)), m_is ms, m_um ms, m_bd ms, m_pc ms, m_pa ms, m_sz ms, m_cu ms, m_st ms, m_tk ms, m_to ms, m_ps ms, m_now ms, m_asd ms, m_und ms, m_sav ms, m_isv ms, m_buf ms, m_grp ms, m_pag ms⟩ : MM) σ0)) A_no := by
  refine A_of rfl (by decide) (Nat.le_of_ble_eq_true rfl) (L0 := [(0, .ref b9), (1, .int t), (2, .int x)]) rfl ?_
  have hF := h1.2.2.2.2.2
  have hC := h1.1.2
  have hT := h1.2.2.1.2
  refine A_aload_n (i := 0) dX2_tub_0 rfl rfl ?_
  refine A_aload_n (i := 0) dX2_tub_1 rfl rfl ?_
  refine M_get 6 (v := .int (m_is ms)) (Nat.le_of_ble_eq_true rfl) q2235 rfl dX2_tub_2 ?_
  refine A_aload_n (i := 0) dX2_tub_5 rfl rfl ?_
  refine A_iload_n (i := 1) dX2_tub_6 rfl rfl ?_
  refine A_callV1E (v := some (.int (bi (okT (m_is ms) (m_now ms) t)))) (τ := mc b9 ms σ0) (c_isTub b9 ms σ0 t) tX2_isTub q2637 (mc_0 _ _ _) rfl rfl dX2_tub_7 (by decide) (Nat.le_of_eq (Nat.zero_add _)) (Nat.le_of_ble_eq_true rfl) ?_
  refine A_iload_n (i := 2) dX2_tub_10 rfl rfl ?_
  refine A_iconst (v := 0) dX2_tub_11 (by decide) ?_
  refine A_iconst (v := 4) dX2_tub_12 (by decide) ?_
  refine A_callS3E (v := some (.int (bi (inR x 0 4)))) (τ := mc b9 ms σ0) (c_in b9 ms σ0 x 0 4) tX2_in q2319 dX2_tub_13 (by decide) (Nat.le_of_eq (Nat.zero_add _)) (Nat.le_of_ble_eq_true rfl) ?_
  refine A_callV3E (v := some (.int (bi (mayT (m_is ms) (bi (okT (m_is ms) (m_now ms) t)) (bi (inR x 0 4)) = 0)))) (τ := mc b9 (⟨mayT (m_is ms) (bi (okT (m_is ms) (m_now ms) t)) (bi (inR x 0 4)), m_is ms, m_um ms, m_bd ms, m_pc ms, m_pa ms, m_sz ms, m_cu ms, m_st ms, m_tk ms, m_to ms, m_ps ms, m_now ms, m_asd ms, m_und ms, m_sav ms, m_isv ms, m_buf ms, m_grp ms, m_pag ms⟩ : MM) σ0) (c_may b9 ms σ0 (m_is ms) (bi (okT (m_is ms) (m_now ms) t)) (bi (inR x 0 4))) tX2_may q2322 (mc_0 _ _ _) rfl rfl dX2_tub_16 (by decide) (Nat.le_of_eq (Nat.zero_add _)) (Nat.le_of_ble_eq_true rfl) ?_
  refine A_if_ne (tgt := 24) dX2_tub_19 (by decide) (fun c1 => ?_) (fun c1 => ?_)
  · skip
    have c1 := bi_ne0.mp c1
    obtain ⟨t9, ht9, rfl⟩ := okT_ex h1 (mayT_y c1)
    refine A_iload_n (i := 2) dX2_tub_24 rfl rfl ?_
    by_cases c2 : x = 0
    · skip
      refine A_int c2 ?_
      refine A_tableIn (tgt := 52) dX2_tub_25 (by decide) (by decide) rfl (by decide) ?_
      refine A_aload_n (i := 0) dX2_tub_52 rfl rfl ?_
      refine M_get 1 (v := .ref (b9 + 1)) (Nat.le_of_ble_eq_true rfl) q2230 rfl dX2_tub_53 ?_
      refine A_bipush (v := 38) dX2_tub_56 (by decide) ?_
      refine A_iload_n (i := 1) dX2_tub_58 rfl rfl ?_
      refine A_iadd dX2_tub_59 ?_
      refine A_int (w := nI (38 + t9)) (nI_add 38 t9) ?_
      refine M_ald1 (n := 38 + t9) (v := m_now ms (38 + t9)) (rfl) (by omega) (rfl) dX2_tub_60 ?_
      exact A_iret dX2_tub_61 rfl ⟨by rw [gd, if_pos c1] <;> first | with_reducible rfl | (simp [-Int32.not_lt, -Int32.not_le, tubN, ixn (show t9 < 2000 by omega), c2]; done) | (simp [tubN, ixn (show t9 < 2000 by omega), c2]), rfl⟩
    by_cases c3 : x = 1
    · skip
      refine A_int c3 ?_
      refine A_tableIn (tgt := 62) dX2_tub_25 (by decide) (by decide) rfl (by decide) ?_
      refine A_aload_n (i := 0) dX2_tub_62 rfl rfl ?_
      refine A_iload_n (i := 1) dX2_tub_63 rfl rfl ?_
      refine A_callV1E (v := some (.int (manyT (m_now ms) (nI t9)))) (τ := mc b9 (⟨mayT (m_is ms) (bi (okT (m_is ms) (m_now ms) (nI t9))) (bi (inR x 0 4)), m_is ms, m_um ms, m_bd ms, m_pc ms, m_pa ms, m_sz ms, m_cu ms, m_st ms, m_tk ms, m_to ms, m_ps ms, m_now ms, m_asd ms, m_und ms, m_sav ms, m_isv ms, m_buf ms, m_grp ms, m_pag ms⟩ : MM) σ0) (c_manyIn b9 (⟨mayT (m_is ms) (bi (okT (m_is ms) (m_now ms) (nI t9))) (bi (inR x 0 4)), m_is ms, m_um ms, m_bd ms, m_pc ms, m_pa ms, m_sz ms, m_cu ms, m_st ms, m_tk ms, m_to ms, m_ps ms, m_now ms, m_asd ms, m_und ms, m_sav ms, m_isv ms, m_buf ms, m_grp ms, m_pag ms⟩ : MM) σ0 (nI t9) (by first | assumption | omega)) tX2_manyIn q2448 (mc_0 _ _ _) rfl rfl dX2_tub_64 (by decide) (Nat.le_of_eq (Nat.zero_add _)) (Nat.le_of_ble_eq_true rfl) ?_
      exact A_iret dX2_tub_67 rfl ⟨by rw [gd, if_pos c1] <;> first | with_reducible rfl | (simp [-Int32.not_lt, -Int32.not_le, tubN, ixn (show t9 < 2000 by omega), c2, c3]; done) | (simp [tubN, ixn (show t9 < 2000 by omega), c2, c3]), rfl⟩
    by_cases c4 : x = 2
    · skip
      refine A_int c4 ?_
      refine A_tableIn (tgt := 68) dX2_tub_25 (by decide) (by decide) rfl (by decide) ?_
      refine A_aload_n (i := 0) dX2_tub_68 rfl rfl ?_
      refine A_iload_n (i := 1) dX2_tub_69 rfl rfl ?_
      refine A_callV1E (v := some (.int (leastN (m_now ms) (nI t9)))) (τ := mc b9 (⟨mayT (m_is ms) (bi (okT (m_is ms) (m_now ms) (nI t9))) (bi (inR x 0 4)), m_is ms, m_um ms, m_bd ms, m_pc ms, m_pa ms, m_sz ms, m_cu ms, m_st ms, m_tk ms, m_to ms, m_ps ms, m_now ms, m_asd ms, m_und ms, m_sav ms, m_isv ms, m_buf ms, m_grp ms, m_pag ms⟩ : MM) σ0) (c_leastCare b9 (⟨mayT (m_is ms) (bi (okT (m_is ms) (m_now ms) (nI t9))) (bi (inR x 0 4)), m_is ms, m_um ms, m_bd ms, m_pc ms, m_pa ms, m_sz ms, m_cu ms, m_st ms, m_tk ms, m_to ms, m_ps ms, m_now ms, m_asd ms, m_und ms, m_sav ms, m_isv ms, m_buf ms, m_grp ms, m_pag ms⟩ : MM) σ0 (nI t9) (by first | assumption | omega)) tX2_leastCare q2472 (mc_0 _ _ _) rfl rfl dX2_tub_70 (by decide) (Nat.le_of_eq (Nat.zero_add _)) (Nat.le_of_ble_eq_true rfl) ?_
      exact A_iret dX2_tub_73 rfl ⟨by rw [gd, if_pos c1] <;> first | with_reducible rfl | (simp [-Int32.not_lt, -Int32.not_le, tubN, ixn (show t9 < 2000 by omega), c2, c3, c4]; done) | (simp [tubN, ixn (show t9 < 2000 by omega), c2, c3, c4]), rfl⟩
    refine A_tableOut (tgt := 74) dX2_tub_25 (by have e0 := i_ne c2 (z := 0) (by decide); have e1 := i_ne c3 (z := 1) (by decide); have e2 := i_ne c4 (z := 2) (by decide); omega) (by decide) ?_
    refine A_aload_n (i := 0) dX2_tub_74 rfl rfl ?_
    refine A_iload_n (i := 1) dX2_tub_75 rfl rfl ?_
    refine A_iload_n (i := 2) dX2_tub_76 rfl rfl ?_
    refine A_callV2E (v := some (.int (ofTubU (m_now ms) (nI t9) x (nF (m_now ms))))) (τ := mc b9 (⟨mayT (m_is ms) (bi (okT (m_is ms) (m_now ms) (nI t9))) (bi (inR x 0 4)), m_is ms, m_um ms, m_bd ms, m_pc ms, m_pa ms, m_sz ms, m_cu ms, m_st ms, m_tk ms, m_to ms, m_ps ms, m_now ms, m_asd ms, m_und ms, m_sav ms, m_isv ms, m_buf ms, m_grp ms, m_pag ms⟩ : MM) σ0) (c_ofTub b9 (⟨mayT (m_is ms) (bi (okT (m_is ms) (m_now ms) (nI t9))) (bi (inR x 0 4)), m_is ms, m_um ms, m_bd ms, m_pc ms, m_pa ms, m_sz ms, m_cu ms, m_st ms, m_tk ms, m_to ms, m_ps ms, m_now ms, m_asd ms, m_und ms, m_sav ms, m_isv ms, m_buf ms, m_grp ms, m_pag ms⟩ : MM) σ0 (nI t9) x (by first | assumption | omega)) tX2_ofTub q2641 (mc_0 _ _ _) rfl rfl dX2_tub_77 (by decide) (Nat.le_of_eq (Nat.zero_add _)) (Nat.le_of_ble_eq_true rfl) ?_
    exact A_iret dX2_tub_80 rfl ⟨by simp only [gd, if_pos c1, tubN, ixn (show t9 < 2000 by omega), c2, c3, c4, if_false]; split; (next e3 => rw [e3, ofTub3]); (next e3 => rw [ofTub4 _ _ _ e3]), rfl⟩
  · skip
    have c1 := bi_eq0.mp c1
    refine A_iconst (v := 0) dX2_tub_22 (by decide) ?_
    exact A_iret dX2_tub_23 rfl ⟨by rw [gd, if_neg c1], rfl⟩
theorem c_ahead {l : Launch} {g : GC} (b9 : Nat) (ms : MM) (σ0 : AH) (f : Nat) (h1 : WFc (m_now ms)) (h2 : f < 12) : AMet l g mX2_ahead 4 0 [.ref b9, .int (nI f)] (mc b9 ms σ0) (A_eq (some (.int (aheadN (m_now ms) f))) (mc b9 ms σ0)) A_no := by
  refine A_of rfl (by decide) (Nat.le_of_ble_eq_true rfl) (L0 := [(0, .ref b9), (1, .int (nI f))]) rfl ?_
  have hF := h1.2.2.2.2.2
  have hC := h1.1.2
  refine A_iconst (v := 0) dX2_ahead_0 (by decide) ?_
  refine A_istore_n (i := 2) dX2_ahead_1 rfl (Nat.le_of_ble_eq_true rfl) ?_
  refine A_iconst (v := 0) dX2_ahead_2 (by decide) ?_
  refine A_istore_n (i := 3) dX2_ahead_3 rfl (Nat.le_of_ble_eq_true rfl) ?_
  refine A_sub (L' := [(0, .ref b9), (1, .int (nI f)), (2, .int (sm (fun k9 => bi (inTub (m_now ms) k9 (fl (m_now ms) f 9) ∧ ¬ fl (m_now ms) f 10 ≤ fl (m_now ms) k9 10)) 0)), (3, .int (nI 0))]) ⟨rfl, rfl, rfl, rfl, trivial⟩ ?_
  refine A_for (nF (m_now ms)) (fun i4 => 0) (fun i4 => [(0, .ref b9), (1, .int (nI f)), (2, .int (sm (fun k9 => bi (inTub (m_now ms) k9 (fl (m_now ms) f 9) ∧ ¬ fl (m_now ms) f 10 ≤ fl (m_now ms) k9 10)) i4)), (3, .int (nI i4))]) (fun i4 => mc b9 ms σ0) (fun i4 => True) trivial (fun i4 hi4 hI4 ih4 => ?_) (fun hI4 => ?_)
  · skip
    refine A_iload_n (i := 3) dX2_ahead_4 rfl rfl ?_
    refine A_aload_n (i := 0) dX2_ahead_5 rfl rfl ?_
    refine M_get 1 (v := .ref (b9 + 1)) (Nat.le_of_ble_eq_true rfl) q2230 rfl dX2_ahead_6 ?_
    refine A_bipush (v := 10) dX2_ahead_9 (by decide) ?_
    refine M_ald1 (n := 10) (v := m_now ms 10) (rfl) (by decide) (rfl) dX2_ahead_11 ?_
    refine A_icmp_ge_f (tgt := 64) dX2_ahead_12 (by decide) (br_lt h1.2.2.2.2.1 hi4 (by omega)) ?_
    refine A_iload_n (i := 2) dX2_ahead_15 rfl rfl ?_
    refine A_aload_n (i := 0) dX2_ahead_16 rfl rfl ?_
    refine A_iload_n (i := 3) dX2_ahead_17 rfl rfl ?_
    refine A_aload_n (i := 0) dX2_ahead_18 rfl rfl ?_
    refine A_iload_n (i := 1) dX2_ahead_19 rfl rfl ?_
    refine A_bipush (v := 9) dX2_ahead_20 (by decide) ?_
    refine A_callV2E (v := some (.int (fl (m_now ms) f 9))) (τ := mc b9 ms σ0) (c_ofFlag b9 ms σ0 f 9 (by first | assumption | omega) (by first | assumption | omega)) tX2_ofFlag q2444 (mc_0 _ _ _) rfl rfl dX2_ahead_22 (by decide) (Nat.le_of_eq (Nat.zero_add _)) (Nat.le_of_ble_eq_true rfl) ?_
    refine A_callV2E (v := some (.int (bi (inTub (m_now ms) i4 (fl (m_now ms) f 9))))) (τ := mc b9 ms σ0) (c_isInTub b9 ms σ0 i4 (fl (m_now ms) f 9) (by first | assumption | omega)) tX2_isInTub q2452 (mc_0 _ _ _) rfl rfl dX2_ahead_25 (by decide) (Nat.le_of_eq (Nat.zero_add _)) (Nat.le_of_ble_eq_true rfl) ?_
    refine A_if_eq (tgt := 52) dX2_ahead_28 (by decide) (fun c1 => ?_) (fun c1 => ?_)
    · skip
      have c1 := bi_eq0.mp c1
      refine A_iconst (v := 0) dX2_ahead_52 (by decide) ?_
      refine A_callS1E (v := some (.int (oneI 0))) (τ := mc b9 ms σ0) (c_one b9 ms σ0 0) tX2_one q2456 dX2_ahead_53 (by decide) (Nat.le_of_eq (Nat.zero_add _)) (Nat.le_of_ble_eq_true rfl) ?_
      refine A_int (w := 0) (by decide) ?_
      refine A_iadd dX2_ahead_56 ?_
      refine A_int (w := sm (fun k9 => bi (inTub (m_now ms) k9 (fl (m_now ms) f 9) ∧ ¬ fl (m_now ms) f 10 ≤ fl (m_now ms) k9 10)) (i4 + 1)) (by rw [sm_s] <;> simp [bi, inTub, inBasket, hasB, inR, -Int32.not_lt, -Int32.not_le, c1]) ?_
      refine A_istore_n (i := 2) dX2_ahead_57 rfl (Nat.le_of_ble_eq_true rfl) ?_
      refine A_iinc (v := nI (i4 + 1)) dX2_ahead_58 rfl (nI_inc _ _) (Nat.le_of_ble_eq_true rfl) ?_
      refine A_goto (tgt := 4) dX2_ahead_61 (by decide) ?_
      refine A_sub (L' := [(0, .ref b9), (1, .int (nI f)), (2, .int (sm (fun k9 => bi (inTub (m_now ms) k9 (fl (m_now ms) f 9) ∧ ¬ fl (m_now ms) f 10 ≤ fl (m_now ms) k9 10)) (i4 + 1))), (3, .int (nI (i4 + 1)))]) ⟨rfl, rfl, rfl, rfl, trivial⟩ ?_
      exact ih4 trivial
    · skip
      have c1 := bi_ne0.mp c1
      refine A_aload_n (i := 0) dX2_ahead_31 rfl rfl ?_
      refine A_iload_n (i := 3) dX2_ahead_32 rfl rfl ?_
      refine A_bipush (v := 10) dX2_ahead_33 (by decide) ?_
      refine A_callV2E (v := some (.int (fl (m_now ms) i4 10))) (τ := mc b9 ms σ0) (c_ofFlag b9 ms σ0 i4 10 (by first | assumption | omega) (by first | assumption | omega)) tX2_ofFlag q2444 (mc_0 _ _ _) rfl rfl dX2_ahead_35 (by decide) (Nat.le_of_eq (Nat.zero_add _)) (Nat.le_of_ble_eq_true rfl) ?_
      refine A_aload_n (i := 0) dX2_ahead_38 rfl rfl ?_
      refine A_iload_n (i := 1) dX2_ahead_39 rfl rfl ?_
      refine A_bipush (v := 10) dX2_ahead_40 (by decide) ?_
      refine A_callV2E (v := some (.int (fl (m_now ms) f 10))) (τ := mc b9 ms σ0) (c_ofFlag b9 ms σ0 f 10 (by first | assumption | omega) (by first | assumption | omega)) tX2_ofFlag q2444 (mc_0 _ _ _) rfl rfl dX2_ahead_42 (by decide) (Nat.le_of_eq (Nat.zero_add _)) (Nat.le_of_ble_eq_true rfl) ?_
      refine A_icmp_ge (tgt := 52) dX2_ahead_45 (by decide) (fun c2 => ?_) (fun c2 => ?_)
      · skip
        refine A_iconst (v := 0) dX2_ahead_52 (by decide) ?_
        refine A_callS1E (v := some (.int (oneI 0))) (τ := mc b9 ms σ0) (c_one b9 ms σ0 0) tX2_one q2456 dX2_ahead_53 (by decide) (Nat.le_of_eq (Nat.zero_add _)) (Nat.le_of_ble_eq_true rfl) ?_
        refine A_int (w := 0) (by decide) ?_
        refine A_iadd dX2_ahead_56 ?_
        refine A_int (w := sm (fun k9 => bi (inTub (m_now ms) k9 (fl (m_now ms) f 9) ∧ ¬ fl (m_now ms) f 10 ≤ fl (m_now ms) k9 10)) (i4 + 1)) (by rw [sm_s] <;> simp [bi, inTub, inBasket, hasB, inR, -Int32.not_lt, -Int32.not_le, c1, c2]) ?_
        refine A_istore_n (i := 2) dX2_ahead_57 rfl (Nat.le_of_ble_eq_true rfl) ?_
        refine A_iinc (v := nI (i4 + 1)) dX2_ahead_58 rfl (nI_inc _ _) (Nat.le_of_ble_eq_true rfl) ?_
        refine A_goto (tgt := 4) dX2_ahead_61 (by decide) ?_
        refine A_sub (L' := [(0, .ref b9), (1, .int (nI f)), (2, .int (sm (fun k9 => bi (inTub (m_now ms) k9 (fl (m_now ms) f 9) ∧ ¬ fl (m_now ms) f 10 ≤ fl (m_now ms) k9 10)) (i4 + 1))), (3, .int (nI (i4 + 1)))]) ⟨rfl, rfl, rfl, rfl, trivial⟩ ?_
        exact ih4 trivial
      · skip
        refine A_iconst (v := 1) dX2_ahead_48 (by decide) ?_
        refine A_goto (tgt := 53) dX2_ahead_49 (by decide) ?_
        refine A_callS1E (v := some (.int (oneI 1))) (τ := mc b9 ms σ0) (c_one b9 ms σ0 1) tX2_one q2456 dX2_ahead_53 (by decide) (Nat.le_of_eq (Nat.zero_add _)) (Nat.le_of_ble_eq_true rfl) ?_
        refine A_int (w := 1) (by decide) ?_
        refine A_iadd dX2_ahead_56 ?_
        refine A_int (w := sm (fun k9 => bi (inTub (m_now ms) k9 (fl (m_now ms) f 9) ∧ ¬ fl (m_now ms) f 10 ≤ fl (m_now ms) k9 10)) (i4 + 1)) (by rw [sm_s] <;> simp [bi, inTub, inBasket, hasB, inR, -Int32.not_lt, -Int32.not_le, c1, c2]) ?_
        refine A_istore_n (i := 2) dX2_ahead_57 rfl (Nat.le_of_ble_eq_true rfl) ?_
        refine A_iinc (v := nI (i4 + 1)) dX2_ahead_58 rfl (nI_inc _ _) (Nat.le_of_ble_eq_true rfl) ?_
        refine A_goto (tgt := 4) dX2_ahead_61 (by decide) ?_
        refine A_sub (L' := [(0, .ref b9), (1, .int (nI f)), (2, .int (sm (fun k9 => bi (inTub (m_now ms) k9 (fl (m_now ms) f 9) ∧ ¬ fl (m_now ms) f 10 ≤ fl (m_now ms) k9 10)) (i4 + 1))), (3, .int (nI (i4 + 1)))]) ⟨rfl, rfl, rfl, rfl, trivial⟩ ?_
        exact ih4 trivial
  · skip
    refine A_iload_n (i := 3) dX2_ahead_4 rfl rfl ?_
    refine A_aload_n (i := 0) dX2_ahead_5 rfl rfl ?_
    refine M_get 1 (v := .ref (b9 + 1)) (Nat.le_of_ble_eq_true rfl) q2230 rfl dX2_ahead_6 ?_
    refine A_bipush (v := 10) dX2_ahead_9 (by decide) ?_
    refine M_ald1 (n := 10) (v := m_now ms 10) (rfl) (by decide) (rfl) dX2_ahead_11 ?_
    refine A_icmp_ge_t (tgt := 64) dX2_ahead_12 (by decide) (br_ge h1.2.2.2.2.1) ?_
    refine A_iload_n (i := 2) dX2_ahead_64 rfl rfl ?_
    exact A_iret dX2_ahead_65 rfl ⟨rfl, rfl⟩
theorem c_flagIn {l : Launch} {g : GC} (b9 : Nat) (ms : MM) (σ0 : AH) (t : Int32) (x : Int32) (h1 : WFc (m_now ms)) : AMet l g mX2_flagIn 5 0 [.ref b9, .int t, .int x] (mc b9 ms σ0) (A_eq (some (.int (flagInN (m_now ms) t x))) (mc b9 ms σ0)) A_no := by
  refine A_of rfl (by decide) (Nat.le_of_ble_eq_true rfl) (L0 := [(0, .ref b9), (1, .int t), (2, .int x)]) rfl ?_
  have hF := h1.2.2.2.2.2
  have hC := h1.1.2
  refine A_iconst (v := 0) dX2_flagIn_0 (by decide) ?_
  refine A_istore_n (i := 3) dX2_flagIn_1 rfl (Nat.le_of_ble_eq_true rfl) ?_
  refine A_sub (L' := [(0, .ref b9), (1, .int t), (2, .int x), (3, .int (nI 0))]) ⟨rfl, rfl, rfl, rfl, trivial⟩ ?_
  refine A_for (nF (m_now ms)) (fun i2 => 0) (fun i2 => [(0, .ref b9), (1, .int t), (2, .int x), (3, .int (nI i2))]) (fun i2 => mc b9 ms σ0) (fun i2 => flagInN (m_now ms) t x = fsr (fun f => inTub (m_now ms) f t ∧ aheadN (m_now ms) f = x) i2 (nF (m_now ms) - i2)) rfl (fun i2 hi2 hI2 ih2 => ?_) (fun hI2 => ?_)
  · skip
    refine A_iload_n (i := 3) dX2_flagIn_2 rfl rfl ?_
    refine A_aload_n (i := 0) dX2_flagIn_3 rfl rfl ?_
    refine M_get 1 (v := .ref (b9 + 1)) (Nat.le_of_ble_eq_true rfl) q2230 rfl dX2_flagIn_4 ?_
    refine A_bipush (v := 10) dX2_flagIn_7 (by decide) ?_
    refine M_ald1 (n := 10) (v := m_now ms 10) (rfl) (by decide) (rfl) dX2_flagIn_9 ?_
    refine A_icmp_ge_f (tgt := 39) dX2_flagIn_10 (by decide) (br_lt h1.2.2.2.2.1 hi2 (by omega)) ?_
    refine A_aload_n (i := 0) dX2_flagIn_13 rfl rfl ?_
    refine A_iload_n (i := 3) dX2_flagIn_14 rfl rfl ?_
    refine A_iload_n (i := 1) dX2_flagIn_15 rfl rfl ?_
    refine A_callV2E (v := some (.int (bi (inTub (m_now ms) i2 t)))) (τ := mc b9 ms σ0) (c_isInTub b9 ms σ0 i2 t (by first | assumption | omega)) tX2_isInTub q2452 (mc_0 _ _ _) rfl rfl dX2_flagIn_16 (by decide) (Nat.le_of_eq (Nat.zero_add _)) (Nat.le_of_ble_eq_true rfl) ?_
    refine A_if_eq (tgt := 33) dX2_flagIn_19 (by decide) (fun c1 => ?_) (fun c1 => ?_)
    · skip
      have c1 := bi_eq0.mp c1
      refine A_iinc (v := nI (i2 + 1)) dX2_flagIn_33 rfl (nI_inc _ _) (Nat.le_of_ble_eq_true rfl) ?_
      refine A_goto (tgt := 2) dX2_flagIn_36 (by decide) ?_
      refine A_sub (L' := [(0, .ref b9), (1, .int t), (2, .int x), (3, .int (nI (i2 + 1)))]) ⟨rfl, rfl, rfl, rfl, trivial⟩ ?_
      exact ih2 (by rw [hI2, fsr_s _ hi2, if_neg (by simp [inTub, c1])])
    · skip
      have c1 := bi_ne0.mp c1
      refine A_aload_n (i := 0) dX2_flagIn_22 rfl rfl ?_
      refine A_iload_n (i := 3) dX2_flagIn_23 rfl rfl ?_
      refine A_callV1E (v := some (.int (aheadN (m_now ms) i2))) (τ := mc b9 ms σ0) (c_ahead b9 ms σ0 i2 (by first | assumption | omega) (by first | assumption | omega)) tX2_ahead q2657 (mc_0 _ _ _) rfl rfl dX2_flagIn_24 (by decide) (Nat.le_of_eq (Nat.zero_add _)) (Nat.le_of_ble_eq_true rfl) ?_
      refine A_iload_n (i := 2) dX2_flagIn_27 rfl rfl ?_
      refine A_icmp_ne (tgt := 33) dX2_flagIn_28 (by decide) (fun c2 => ?_) (fun c2 => ?_)
      · skip
        refine A_iinc (v := nI (i2 + 1)) dX2_flagIn_33 rfl (nI_inc _ _) (Nat.le_of_ble_eq_true rfl) ?_
        refine A_goto (tgt := 2) dX2_flagIn_36 (by decide) ?_
        refine A_sub (L' := [(0, .ref b9), (1, .int t), (2, .int x), (3, .int (nI (i2 + 1)))]) ⟨rfl, rfl, rfl, rfl, trivial⟩ ?_
        exact ih2 (by rw [hI2, fsr_s _ hi2, if_neg (by simp [inTub, c1, c2])])
      · skip
        refine A_iload_n (i := 3) dX2_flagIn_31 rfl rfl ?_
        exact A_iret dX2_flagIn_32 rfl ⟨by rw [hI2, fsr_s _ hi2, if_pos ⟨c1, c2⟩], rfl⟩
  · skip
    refine A_iload_n (i := 3) dX2_flagIn_2 rfl rfl ?_
    refine A_aload_n (i := 0) dX2_flagIn_3 rfl rfl ?_
    refine M_get 1 (v := .ref (b9 + 1)) (Nat.le_of_ble_eq_true rfl) q2230 rfl dX2_flagIn_4 ?_
    refine A_bipush (v := 10) dX2_flagIn_7 (by decide) ?_
    refine M_ald1 (n := 10) (v := m_now ms 10) (rfl) (by decide) (rfl) dX2_flagIn_9 ?_
    refine A_icmp_ge_t (tgt := 39) dX2_flagIn_10 (by decide) (br_ge h1.2.2.2.2.1) ?_
    refine A_iconst (v := (-1)) dX2_flagIn_39 (by decide) ?_
    exact A_iret dX2_flagIn_40 rfl ⟨by rw [hI2, fsr_e], rfl⟩
theorem c_inTub {l : Launch} {g : GC} (b9 : Nat) (ms : MM) (σ0 : AH) (t : Int32) (x : Int32) (h1 : WFc (m_now ms)) : AMet l g mX2_inTub 6 0 [.ref b9, .int t, .int x] (mc b9 ms σ0) (A_eq (some (.int (gd (mayT (m_is ms) (bi (okT (m_is ms) (m_now ms) t)) 1) (flagInN (m_now ms) t x)))) (mc b9 (⟨mayT (m_is ms) (bi (okT (m_is ms) (m_now ms) t)) 1, m_is ms, m_um ms, m_bd ms, m_pc ms, m_pa ms, m_sz ms, m_cu ms, m_st ms, m_tk ms, m_to ms, m_ps ms, m_now ms, m_asd ms, m_und ms, m_sav ms, m_isv ms, m_buf ms, m_grp ms, m_pag ms⟩ : MM) σ0)) A_no := by
  refine A_of rfl (by decide) (Nat.le_of_ble_eq_true rfl) (L0 := [(0, .ref b9), (1, .int t), (2, .int x)]) rfl ?_
  refine A_aload_n (i := 0) dX2_inTub_0 rfl rfl ?_
  refine A_iload_n (i := 1) dX2_inTub_1 rfl rfl ?_
  refine A_callV1E (v := some (.int (bi (mayT (m_is ms) (bi (okT (m_is ms) (m_now ms) t)) 1 = 0)))) (τ := mc b9 (⟨mayT (m_is ms) (bi (okT (m_is ms) (m_now ms) t)) 1, m_is ms, m_um ms, m_bd ms, m_pc ms, m_pa ms, m_sz ms, m_cu ms, m_st ms, m_tk ms, m_to ms, m_ps ms, m_now ms, m_asd ms, m_und ms, m_sav ms, m_isv ms, m_buf ms, m_grp ms, m_pag ms⟩ : MM) σ0) (c_mayTub b9 ms σ0 t) tX2_mayTub q2649 (mc_0 _ _ _) rfl rfl dX2_inTub_2 (by decide) (Nat.le_of_eq (Nat.zero_add _)) (Nat.le_of_ble_eq_true rfl) ?_
  refine A_if_eq (tgt := 17) dX2_inTub_5 (by decide) (fun c1 => ?_) (fun c1 => ?_)
  · skip
    have c1 := bi_eq0.mp c1
    refine A_iconst (v := 0) dX2_inTub_17 (by decide) ?_
    exact A_iret dX2_inTub_18 rfl ⟨by rw [gd, if_neg c1], rfl⟩
  · skip
    have c1 := bi_ne0.mp c1
    refine A_aload_n (i := 0) dX2_inTub_8 rfl rfl ?_
    refine A_iload_n (i := 1) dX2_inTub_9 rfl rfl ?_
    refine A_iload_n (i := 2) dX2_inTub_10 rfl rfl ?_
    refine A_callV2E (v := some (.int (flagInN (m_now ms) t x))) (τ := mc b9 (⟨mayT (m_is ms) (bi (okT (m_is ms) (m_now ms) t)) 1, m_is ms, m_um ms, m_bd ms, m_pc ms, m_pa ms, m_sz ms, m_cu ms, m_st ms, m_tk ms, m_to ms, m_ps ms, m_now ms, m_asd ms, m_und ms, m_sav ms, m_isv ms, m_buf ms, m_grp ms, m_pag ms⟩ : MM) σ0) (c_flagIn b9 (⟨mayT (m_is ms) (bi (okT (m_is ms) (m_now ms) t)) 1, m_is ms, m_um ms, m_bd ms, m_pc ms, m_pa ms, m_sz ms, m_cu ms, m_st ms, m_tk ms, m_to ms, m_ps ms, m_now ms, m_asd ms, m_und ms, m_sav ms, m_isv ms, m_buf ms, m_grp ms, m_pag ms⟩ : MM) σ0 t x (by first | assumption | omega)) tX2_flagIn q2653 (mc_0 _ _ _) rfl rfl dX2_inTub_11 (by decide) (Nat.le_of_eq (Nat.zero_add _)) (Nat.le_of_ble_eq_true rfl) ?_
    refine A_goto (tgt := 18) dX2_inTub_14 (by decide) ?_
    exact A_iret dX2_inTub_18 rfl ⟨by rw [gd, if_pos c1] <;> first | with_reducible rfl | (simp [-Int32.not_lt, -Int32.not_le, ]; done) | (simp []), rfl⟩
theorem c_freePegs {l : Launch} {g : GC} (b9 : Nat) (ms : MM) (σ0 : AH)  (h1 : WFc (m_now ms)) : AMet l g mX2_freePegs 4 0 [.ref b9] (mc b9 ms σ0) (A_eq (some (.int (gd (mayT (m_is ms) 1 1) ((m_now ms) 9 - atN (m_now ms) 2)))) (mc b9 (⟨mayT (m_is ms) 1 1, m_is ms, m_um ms, m_bd ms, m_pc ms, m_pa ms, m_sz ms, m_cu ms, m_st ms, m_tk ms, m_to ms, m_ps ms, m_now ms, m_asd ms, m_und ms, m_sav ms, m_isv ms, m_buf ms, m_grp ms, m_pag ms⟩ : MM) σ0)) A_no := by
  refine A_of rfl (by decide) (Nat.le_of_ble_eq_true rfl) (L0 := [(0, .ref b9)]) rfl ?_
  refine A_aload_n (i := 0) dX2_freePegs_0 rfl rfl ?_
  refine A_callV0E (v := some (.int (bi (mayT (m_is ms) 1 1 = 0)))) (τ := mc b9 (⟨mayT (m_is ms) 1 1, m_is ms, m_um ms, m_bd ms, m_pc ms, m_pa ms, m_sz ms, m_cu ms, m_st ms, m_tk ms, m_to ms, m_ps ms, m_now ms, m_asd ms, m_und ms, m_sav ms, m_isv ms, m_buf ms, m_grp ms, m_pag ms⟩ : MM) σ0) (c_mayLook b9 ms σ0) tX2_mayLook q2669 (mc_0 _ _ _) rfl rfl dX2_freePegs_1 (by decide) (Nat.le_of_eq (Nat.zero_add _)) (Nat.le_of_ble_eq_true rfl) ?_
  refine A_if_eq (tgt := 23) dX2_freePegs_4 (by decide) (fun c1 => ?_) (fun c1 => ?_)
  · skip
    have c1 := bi_eq0.mp c1
    refine A_iconst (v := 0) dX2_freePegs_23 (by decide) ?_
    exact A_iret dX2_freePegs_24 rfl ⟨by rw [gd, if_neg c1], rfl⟩
  · skip
    have c1 := bi_ne0.mp c1
    refine A_aload_n (i := 0) dX2_freePegs_7 rfl rfl ?_
    refine M_get 1 (v := .ref (b9 + 1)) (Nat.le_of_ble_eq_true rfl) q2230 rfl dX2_freePegs_8 ?_
    refine A_bipush (v := 9) dX2_freePegs_11 (by decide) ?_
    refine M_ald1 (n := 9) (v := m_now ms 9) (rfl) (by decide) (rfl) dX2_freePegs_13 ?_
    refine A_aload_n (i := 0) dX2_freePegs_14 rfl rfl ?_
    refine A_iconst (v := 2) dX2_freePegs_15 (by decide) ?_
    refine A_callV1E (v := some (.int (atN (m_now ms) 2))) (τ := mc b9 (⟨mayT (m_is ms) 1 1, m_is ms, m_um ms, m_bd ms, m_pc ms, m_pa ms, m_sz ms, m_cu ms, m_st ms, m_tk ms, m_to ms, m_ps ms, m_now ms, m_asd ms, m_und ms, m_sav ms, m_isv ms, m_buf ms, m_grp ms, m_pag ms⟩ : MM) σ0) (c_flagsAt b9 (⟨mayT (m_is ms) 1 1, m_is ms, m_um ms, m_bd ms, m_pc ms, m_pa ms, m_sz ms, m_cu ms, m_st ms, m_tk ms, m_to ms, m_ps ms, m_now ms, m_asd ms, m_und ms, m_sav ms, m_isv ms, m_buf ms, m_grp ms, m_pag ms⟩ : MM) σ0 2 (by first | assumption | omega)) tX2_flagsAt q2581 (mc_0 _ _ _) rfl rfl dX2_freePegs_16 (by decide) (Nat.le_of_eq (Nat.zero_add _)) (Nat.le_of_ble_eq_true rfl) ?_
    refine A_isub dX2_freePegs_19 ?_
    refine A_goto (tgt := 24) dX2_freePegs_20 (by decide) ?_
    exact A_iret dX2_freePegs_24 rfl ⟨by rw [gd, if_pos c1] <;> first | with_reducible rfl | (simp [-Int32.not_lt, -Int32.not_le, ]; done) | (simp []), rfl⟩
theorem c_wettest {l : Launch} {g : GC} (b9 : Nat) (ms : MM) (σ0 : AH)  (h1 : WFc (m_now ms)) : AMet l g mX2_wettest 3 0 [.ref b9] (mc b9 ms σ0) (A_eq (some (.int (gd (mayT (m_is ms) 1 1) (wetU (m_now ms) (nF (m_now ms)))))) (mc b9 (⟨mayT (m_is ms) 1 1, m_is ms, m_um ms, m_bd ms, m_pc ms, m_pa ms, m_sz ms, m_cu ms, m_st ms, m_tk ms, m_to ms, m_ps ms, m_now ms, m_asd ms, m_und ms, m_sav ms, m_isv ms, m_buf ms, m_grp ms, m_pag ms⟩ : MM) σ0)) A_no := by
  refine A_of rfl (by decide) (Nat.le_of_ble_eq_true rfl) (L0 := [(0, .ref b9)]) rfl ?_
  have hF := h1.2.2.2.2.2
  have hC := h1.1.2
  refine A_aload_n (i := 0) dX2_wettest_0 rfl rfl ?_
  refine A_callV0E (v := some (.int (bi (mayT (m_is ms) 1 1 = 0)))) (τ := mc b9 (⟨mayT (m_is ms) 1 1, m_is ms, m_um ms, m_bd ms, m_pc ms, m_pa ms, m_sz ms, m_cu ms, m_st ms, m_tk ms, m_to ms, m_ps ms, m_now ms, m_asd ms, m_und ms, m_sav ms, m_isv ms, m_buf ms, m_grp ms, m_pag ms⟩ : MM) σ0) (c_mayLook b9 ms σ0) tX2_mayLook q2669 (mc_0 _ _ _) rfl rfl dX2_wettest_1 (by decide) (Nat.le_of_eq (Nat.zero_add _)) (Nat.le_of_ble_eq_true rfl) ?_
  refine A_if_ne (tgt := 9) dX2_wettest_4 (by decide) (fun c1 => ?_) (fun c1 => ?_)
  · skip
    have c1 := bi_ne0.mp c1
    refine A_iconst (v := (-1)) dX2_wettest_9 (by decide) ?_
    refine A_istore_n (i := 1) dX2_wettest_10 rfl (Nat.le_of_ble_eq_true rfl) ?_
    refine A_iconst (v := 0) dX2_wettest_11 (by decide) ?_
    refine A_istore_n (i := 2) dX2_wettest_12 rfl (Nat.le_of_ble_eq_true rfl) ?_
    refine A_sub (L' := [(0, .ref b9), (1, .int (wetU (m_now ms) 0)), (2, .int (nI 0))]) ⟨rfl, rfl, rfl, trivial⟩ ?_
    refine A_for (nF (m_now ms)) (fun i13 => 0) (fun i13 => [(0, .ref b9), (1, .int (wetU (m_now ms) i13)), (2, .int (nI i13))]) (fun i13 => mc b9 (⟨mayT (m_is ms) 1 1, m_is ms, m_um ms, m_bd ms, m_pc ms, m_pa ms, m_sz ms, m_cu ms, m_st ms, m_tk ms, m_to ms, m_ps ms, m_now ms, m_asd ms, m_und ms, m_sav ms, m_isv ms, m_buf ms, m_grp ms, m_pag ms⟩ : MM) σ0) (fun i13 => True) trivial (fun i13 hi13 hI13 ih13 => ?_) (fun hI13 => ?_)
    · skip
      refine A_iload_n (i := 2) dX2_wettest_13 rfl rfl ?_
      refine A_aload_n (i := 0) dX2_wettest_14 rfl rfl ?_
      refine M_get 1 (v := .ref (b9 + 1)) (Nat.le_of_ble_eq_true rfl) q2230 rfl dX2_wettest_15 ?_
      refine A_bipush (v := 10) dX2_wettest_18 (by decide) ?_
      refine M_ald1 (n := 10) (v := m_now ms 10) (rfl) (by decide) (rfl) dX2_wettest_20 ?_
      refine A_icmp_ge_f (tgt := 61) dX2_wettest_21 (by decide) (br_lt h1.2.2.2.2.1 hi13 (by omega)) ?_
      refine A_aload_n (i := 0) dX2_wettest_24 rfl rfl ?_
      refine A_iload_n (i := 2) dX2_wettest_25 rfl rfl ?_
      refine A_callV1E (v := some (.int (fl (m_now ms) i13 8))) (τ := mc b9 (⟨mayT (m_is ms) 1 1, m_is ms, m_um ms, m_bd ms, m_pc ms, m_pa ms, m_sz ms, m_cu ms, m_st ms, m_tk ms, m_to ms, m_ps ms, m_now ms, m_asd ms, m_und ms, m_sav ms, m_isv ms, m_buf ms, m_grp ms, m_pag ms⟩ : MM) σ0) (c_where b9 (⟨mayT (m_is ms) 1 1, m_is ms, m_um ms, m_bd ms, m_pc ms, m_pa ms, m_sz ms, m_cu ms, m_st ms, m_tk ms, m_to ms, m_ps ms, m_now ms, m_asd ms, m_und ms, m_sav ms, m_isv ms, m_buf ms, m_grp ms, m_pag ms⟩ : MM) σ0 i13 (by first | assumption | omega)) tX2_where q2440 (mc_0 _ _ _) rfl rfl dX2_wettest_26 (by decide) (Nat.le_of_eq (Nat.zero_add _)) (Nat.le_of_ble_eq_true rfl) ?_
      refine A_iconst (v := 2) dX2_wettest_29 (by decide) ?_
      refine A_icmp_ne (tgt := 55) dX2_wettest_30 (by decide) (fun c2 => ?_) (fun c2 => ?_)
      · skip
        refine A_iinc (v := nI (i13 + 1)) dX2_wettest_55 rfl (nI_inc _ _) (Nat.le_of_ble_eq_true rfl) ?_
        refine A_goto (tgt := 13) dX2_wettest_58 (by decide) ?_
        refine A_sub (L' := [(0, .ref b9), (1, .int (wetU (m_now ms) (i13 + 1))), (2, .int (nI (i13 + 1)))]) ⟨rfl, lg_eq (by rw [wetU_s]; simp [-Int32.not_lt, -Int32.not_le, c2]), rfl, trivial⟩ ?_
        exact ih13 trivial
      · skip
        refine A_iload_n (i := 1) dX2_wettest_33 rfl rfl ?_
        refine A_iconst (v := (-1)) dX2_wettest_34 (by decide) ?_
        refine A_icmp_eq (tgt := 53) dX2_wettest_35 (by decide) (fun c3 => ?_) (fun c3 => ?_)
        · skip
          refine A_iload_n (i := 2) dX2_wettest_53 rfl rfl ?_
          refine A_istore_n (i := 1) dX2_wettest_54 rfl (Nat.le_of_ble_eq_true rfl) ?_
          refine A_iinc (v := nI (i13 + 1)) dX2_wettest_55 rfl (nI_inc _ _) (Nat.le_of_ble_eq_true rfl) ?_
          refine A_goto (tgt := 13) dX2_wettest_58 (by decide) ?_
          refine A_sub (L' := [(0, .ref b9), (1, .int (wetU (m_now ms) (i13 + 1))), (2, .int (nI (i13 + 1)))]) ⟨rfl, lg_eq (by rw [wetU_s]; simp [-Int32.not_lt, -Int32.not_le, c2, c3]), rfl, trivial⟩ ?_
          exact ih13 trivial
        · skip
          refine A_aload_n (i := 0) dX2_wettest_38 rfl rfl ?_
          refine A_iload_n (i := 2) dX2_wettest_39 rfl rfl ?_
          refine A_iconst (v := 4) dX2_wettest_40 (by decide) ?_
          refine A_callV2E (v := some (.int (fl (m_now ms) i13 4))) (τ := mc b9 (⟨mayT (m_is ms) 1 1, m_is ms, m_um ms, m_bd ms, m_pc ms, m_pa ms, m_sz ms, m_cu ms, m_st ms, m_tk ms, m_to ms, m_ps ms, m_now ms, m_asd ms, m_und ms, m_sav ms, m_isv ms, m_buf ms, m_grp ms, m_pag ms⟩ : MM) σ0) (c_ofFlag b9 (⟨mayT (m_is ms) 1 1, m_is ms, m_um ms, m_bd ms, m_pc ms, m_pa ms, m_sz ms, m_cu ms, m_st ms, m_tk ms, m_to ms, m_ps ms, m_now ms, m_asd ms, m_und ms, m_sav ms, m_isv ms, m_buf ms, m_grp ms, m_pag ms⟩ : MM) σ0 i13 4 (by first | assumption | omega) (by first | assumption | omega)) tX2_ofFlag q2444 (mc_0 _ _ _) rfl rfl dX2_wettest_41 (by decide) (Nat.le_of_eq (Nat.zero_add _)) (Nat.le_of_ble_eq_true rfl) ?_
          obtain ⟨j, hj, ej⟩ := (wetU_in (m_now ms) i13).resolve_left c3
          rw [ej]
          refine A_aload_n (i := 0) dX2_wettest_44 rfl rfl ?_
          refine A_iload_n (i := 1) dX2_wettest_45 rfl rfl ?_
          refine A_iconst (v := 4) dX2_wettest_46 (by decide) ?_
          refine A_callV2E (v := some (.int (fl (m_now ms) j 4))) (τ := mc b9 (⟨mayT (m_is ms) 1 1, m_is ms, m_um ms, m_bd ms, m_pc ms, m_pa ms, m_sz ms, m_cu ms, m_st ms, m_tk ms, m_to ms, m_ps ms, m_now ms, m_asd ms, m_und ms, m_sav ms, m_isv ms, m_buf ms, m_grp ms, m_pag ms⟩ : MM) σ0) (c_ofFlag b9 (⟨mayT (m_is ms) 1 1, m_is ms, m_um ms, m_bd ms, m_pc ms, m_pa ms, m_sz ms, m_cu ms, m_st ms, m_tk ms, m_to ms, m_ps ms, m_now ms, m_asd ms, m_und ms, m_sav ms, m_isv ms, m_buf ms, m_grp ms, m_pag ms⟩ : MM) σ0 j 4 (by first | assumption | omega) (by first | assumption | omega)) tX2_ofFlag q2444 (mc_0 _ _ _) rfl rfl dX2_wettest_47 (by decide) (Nat.le_of_eq (Nat.zero_add _)) (Nat.le_of_ble_eq_true rfl) ?_
          refine A_icmp_le (tgt := 55) dX2_wettest_50 (by decide) (fun c4 => ?_) (fun c4 => ?_)
          · skip
            refine A_iinc (v := nI (i13 + 1)) dX2_wettest_55 rfl (nI_inc _ _) (Nat.le_of_ble_eq_true rfl) ?_
            refine A_goto (tgt := 13) dX2_wettest_58 (by decide) ?_
            refine A_sub (L' := [(0, .ref b9), (1, .int (wetU (m_now ms) (i13 + 1))), (2, .int (nI (i13 + 1)))]) ⟨rfl, lg_eq (by rw [wetU_s]; simp [-Int32.not_lt, -Int32.not_le, ej, ixn (show j < 2000 by omega), (show ¬ nI j = -1 from fun h => c3 (ej.trans h)), c2, c3, c4]), rfl, trivial⟩ ?_
            exact ih13 trivial
          · skip
            refine A_iload_n (i := 2) dX2_wettest_53 rfl rfl ?_
            refine A_istore_n (i := 1) dX2_wettest_54 rfl (Nat.le_of_ble_eq_true rfl) ?_
            refine A_iinc (v := nI (i13 + 1)) dX2_wettest_55 rfl (nI_inc _ _) (Nat.le_of_ble_eq_true rfl) ?_
            refine A_goto (tgt := 13) dX2_wettest_58 (by decide) ?_
            refine A_sub (L' := [(0, .ref b9), (1, .int (wetU (m_now ms) (i13 + 1))), (2, .int (nI (i13 + 1)))]) ⟨rfl, lg_eq (by rw [wetU_s]; simp [-Int32.not_lt, -Int32.not_le, ej, ixn (show j < 2000 by omega), (show ¬ nI j = -1 from fun h => c3 (ej.trans h)), c2, c3, c4]), rfl, trivial⟩ ?_
            exact ih13 trivial
    · skip
      refine A_iload_n (i := 2) dX2_wettest_13 rfl rfl ?_
      refine A_aload_n (i := 0) dX2_wettest_14 rfl rfl ?_
      refine M_get 1 (v := .ref (b9 + 1)) (Nat.le_of_ble_eq_true rfl) q2230 rfl dX2_wettest_15 ?_
      refine A_bipush (v := 10) dX2_wettest_18 (by decide) ?_
      refine M_ald1 (n := 10) (v := m_now ms 10) (rfl) (by decide) (rfl) dX2_wettest_20 ?_
      refine A_icmp_ge_t (tgt := 61) dX2_wettest_21 (by decide) (br_ge h1.2.2.2.2.1) ?_
      refine A_iload_n (i := 1) dX2_wettest_61 rfl rfl ?_
      exact A_iret dX2_wettest_62 rfl ⟨by rw [gd, if_pos c1], rfl⟩
  · skip
    have c1 := bi_eq0.mp c1
    refine A_iconst (v := 0) dX2_wettest_7 (by decide) ?_
    exact A_iret dX2_wettest_8 rfl ⟨by rw [gd, if_neg c1], rfl⟩
