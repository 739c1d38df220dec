/-! THE JDK 1: Strings of the start -/
section AOld2
variable {l : Launch} {g : GC} {mi : MI} {d b : Nat} {Q : Option Value → AH → Prop} {X : String → Nat → AH → Prop} {pc : Nat} {L : List (Nat × Value)} {st : List Value} {σ : AH}
theorem A_callVO0E {mi' : MI} {d' k' b' : Nat} {bR : Nat}  {v : Option Value} {τ : AH} (hM : AMet l g mi' d' k' (.ref bR :: []) σ (A_eq v τ) A_no) (hm : A_MV mi' 0) {ix : Nat} (hq : Cond.methodLink mi.1.cls ix mi'.1 ∈ lw_all) (hO : o_cls g mi'.1.cls bR) (hd : decode mi.2.1 pc = .ok (.invokevirtual ix, 3)) (hdp : d' + 1 ≤ d) (hk : k' + b' ≤ b) (hw : (st.map fun v => v.category).sum ≤ 8) (kk : AW l g mi d b' Q X (pc + 3) L (v.toList ++ st) τ) : AW l g mi d b Q X pc L (.ref bR :: st) σ :=
  A_callVO (As := []) hM hm hq hO hd rfl hdp hk hw (fun w τ' h => by obtain ⟨e1, e2⟩ := h; subst e1; subst e2; exact kk) (fun E q τ' h => h.elim)
theorem A_callVO1E {mi' : MI} {d' k' b' : Nat} {bR : Nat} {a1 : Value} {v : Option Value} {τ : AH} (hM : AMet l g mi' d' k' (.ref bR :: [a1]) σ (A_eq v τ) A_no) (hm : A_MV mi' 1) {ix : Nat} (hq : Cond.methodLink mi.1.cls ix mi'.1 ∈ lw_all) (hO : o_cls g mi'.1.cls bR) (hd : decode mi.2.1 pc = .ok (.invokevirtual ix, 3)) (hdp : d' + 1 ≤ d) (hk : k' + b' ≤ b) (hw : (st.map fun v => v.category).sum ≤ 8) (kk : AW l g mi d b' Q X (pc + 3) L (v.toList ++ st) τ) : AW l g mi d b Q X pc L (a1 :: .ref bR :: st) σ :=
  A_callVO (As := [a1]) hM hm hq hO hd rfl hdp hk hw (fun w τ' h => by obtain ⟨e1, e2⟩ := h; subst e1; subst e2; exact kk) (fun E q τ' h => h.elim)
theorem A_callVO2E {mi' : MI} {d' k' b' : Nat} {bR : Nat} {a1 a2 : Value} {v : Option Value} {τ : AH} (hM : AMet l g mi' d' k' (.ref bR :: [a1, a2]) σ (A_eq v τ) A_no) (hm : A_MV mi' 2) {ix : Nat} (hq : Cond.methodLink mi.1.cls ix mi'.1 ∈ lw_all) (hO : o_cls g mi'.1.cls bR) (hd : decode mi.2.1 pc = .ok (.invokevirtual ix, 3)) (hdp : d' + 1 ≤ d) (hk : k' + b' ≤ b) (hw : (st.map fun v => v.category).sum ≤ 8) (kk : AW l g mi d b' Q X (pc + 3) L (v.toList ++ st) τ) : AW l g mi d b Q X pc L (a2 :: a1 :: .ref bR :: st) σ :=
  A_callVO (As := [a1, a2]) hM hm hq hO hd rfl hdp hk hw (fun w τ' h => by obtain ⟨e1, e2⟩ := h; subst e1; subst e2; exact kk) (fun E q τ' h => h.elim)
end AOld2
theorem hp_ne {σ : AH} {a q : Nat} {e : AE} (h : ¬ q = a) : (h_put σ a e).1 q = σ.1 q := if_neg h
theorem hp_at {σ : AH} {a : Nat} {e : AE} : (h_put σ a e).1 a = some e := if_pos rfl
theorem hn_ne {σ : AH} {q : Nat} {e : AE} (h : ¬ q = σ.2) : (h_new σ e).1 q = σ.1 q := if_neg h
theorem hn_at {σ : AH} {e : AE} : (h_new σ e).1 σ.2 = some e := if_pos rfl
/-- what was there is there -/
def ext (σ τ : AH) : Prop := σ.2 ≤ τ.2 ∧ ∀ a, a < σ.2 → τ.1 a = σ.1 a
theorem ext.rf {σ : AH} : ext σ σ := ⟨Nat.le_refl _, fun _ _ => rfl⟩
theorem ext.tr {σ τ ρ : AH} (h : ext σ τ) (k : ext τ ρ) : ext σ ρ := ⟨Nat.le_trans h.1 k.1, fun a ha => (k.2 a (Nat.lt_of_lt_of_le ha h.1)).trans (h.2 a ha)⟩
theorem ext_new (σ : AH) (e : AE) : ext σ (h_new σ e) := ⟨Nat.le_succ _, fun a ha => hn_ne (by omega)⟩
/-- no cell behind the end -/
def wfh (σ : AH) : Prop := ∀ a e, σ.1 a = some e → a < σ.2
theorem ext.at {σ τ : AH} (h : ext σ τ) (w : wfh σ) {a : Nat} {e : AE} (k : σ.1 a = some e) : τ.1 a = some e := (h.2 a (w a e k)).trans k
theorem wfh.put {σ : AH} (w : wfh σ) {a : Nat} {e0 e : AE} (h0 : σ.1 a = some e0) : wfh (h_put σ a e) := by
  intro q e' h
  by_cases c : q = a
  · subst c; exact w q e0 h0
  · rw [hp_ne c] at h; exact w q e' h
theorem wfh.new {σ : AH} (w : wfh σ) {e : AE} : wfh (h_new σ e) := by
  intro q e' h
  by_cases c : q = σ.2
  · subst c; exact Nat.lt_succ_self _
  · rw [hn_ne c] at h; exact Nat.lt_succ_of_lt (w q e' h)
theorem A_wfh {l : Launch} {g : GC} {mi : MI} {d b : Nat} {Q : Option Value → AH → Prop} {X : String → Nat → AH → Prop} {pc : Nat} {L : List (Nat × Value)} {st : List Value} {σ : AH} (kk : wfh σ → g.1.heap.size ≤ σ.2 → AW l g mi d b Q X pc L st σ) : AW l g mi d b Q X pc L st σ := A_size (fun h1 h2 => kk (fun a e h => (h2 a e h).2) h1)
theorem sh0 {n : Nat} : nI n >>> ((0 : Int32) &&& 31) = nI n := by
  rw [show ((0 : Int32) &&& 31) = 0 by decide]
  simp
/-- a byte as a char -/
abbrev chOf (x : Int32) : Int32 := ((x &&& 255).toUInt32 % 65536).toInt32
def okC7 (w : List Int32) : Bool := w.all (fun x => decide (chOf x = x) && decide (narrow .char (.int x) = .int x))
theorem okC7_at {w : List Int32} (h : okC7 w = true) {k : Nat} (hk : k < w.length) : chOf (w.getD k 0) = w.getD k 0 ∧ narrow .char (.int (w.getD k 0)) = .int (w.getD k 0) := by
  have h1 := List.all_eq_true.mp h (w.getD k 0) (by rw [List.getD_eq_getElem?_getD, List.getElem?_eq_getElem hk]; exact List.getElem_mem hk)
  simp only [Bool.and_eq_true, decide_eq_true_eq] at h1
  exact h1
set_option maxHeartbeats 100000 in
theorem c_strcoder {l : Launch} {g : GC} (σ : AH) (a : Nat) (w : List Int32) (hs : o_str g a w) : AMet l g mJ4_coder 1 0 [.ref a] σ (A_eq (some (.int 0)) σ) (A_no) := by
  refine A_of rfl (by decide) (Nat.le_of_ble_eq_true rfl) (L0 := [(0, .ref a)]) rfl ?_
  obtain ⟨v9, hs1, hs2, hs3, hs4⟩ := hs
  refine A_ok (fun hg => ?_)
  refine A_getsO (s_compact hg) q633 rfl dJ4_coder_0 ?_
  refine A_if_eq_f (tgt := 13) dJ4_coder_3 (by decide) (by decide) ?_
  refine A_aload_n (i := 0) dJ4_coder_6 rfl rfl ?_
  refine A_getfO hs2 q670 rfl dJ4_coder_7 ?_
  refine A_goto (tgt := 14) dJ4_coder_10 (by decide) ?_
  exact A_zret dJ4_coder_14 rfl (rfl) (⟨rfl, rfl⟩)
set_option maxHeartbeats 100000 in
theorem c_strlen {l : Launch} {g : GC} (σ : AH) (a : Nat) (w : List Int32) (hs : o_str g a w) (hw : w.length < 2 ^ 31) : AMet l g mJ4_length 2 0 [.ref a] σ (A_eq (some (.int (nI w.length))) σ) (A_no) := by
  refine A_of rfl (by decide) (Nat.le_of_ble_eq_true rfl) (L0 := [(0, .ref a)]) rfl ?_
  obtain ⟨v9, hs1, hs2, hs3, hs4⟩ := hs
  refine A_ok (fun hg => ?_)
  refine A_aload_n (i := 0) dJ4_length_0 rfl rfl ?_
  refine A_getfO hs3 q669 rfl dJ4_length_1 ?_
  refine A_alenO hs4 dJ4_length_4 ?_
  refine A_aload_n (i := 0) dJ4_length_5 rfl rfl ?_
  refine A_callVO0E (b' := 0) (v := some (.int 0)) (τ := σ) (c_strcoder σ a w ⟨v9, hs1, hs2, hs3, hs4⟩) tJ4_coder q629 hs1 dJ4_length_6 (by decide) (Nat.le_of_ble_eq_true rfl) (Nat.le_of_ble_eq_true rfl) ?_
  refine A_ishr dJ4_length_9 ?_
  refine A_int (w := nI w.length) (sh0) ?_
  exact A_iret dJ4_length_10 rfl (⟨rfl, rfl⟩)
set_option maxHeartbeats 100000 in
theorem c_strlat {l : Launch} {g : GC} (σ : AH) (a : Nat) (w : List Int32) (hs : o_str g a w) : AMet l g mJ4_isLatin1 1 0 [.ref a] σ (A_eq (some (.int 1)) σ) (A_no) := by
  refine A_of rfl (by decide) (Nat.le_of_ble_eq_true rfl) (L0 := [(0, .ref a)]) rfl ?_
  obtain ⟨v9, hs1, hs2, hs3, hs4⟩ := hs
  refine A_ok (fun hg => ?_)
  refine A_getsO (s_compact hg) q633 rfl dJ4_isLatin1_0 ?_
  refine A_if_eq_f (tgt := 17) dJ4_isLatin1_3 (by decide) (by decide) ?_
  refine A_aload_n (i := 0) dJ4_isLatin1_6 rfl rfl ?_
  refine A_getfO hs2 q670 rfl dJ4_isLatin1_7 ?_
  refine A_if_ne_f (tgt := 17) dJ4_isLatin1_10 (by decide) (by decide) ?_
  refine A_iconst (v := 1) dJ4_isLatin1_13 (by decide) ?_
  refine A_goto (tgt := 18) dJ4_isLatin1_14 (by decide) ?_
  exact A_zret dJ4_isLatin1_18 rfl (rfl) (⟨rfl, rfl⟩)
theorem A_getsQ {l : Launch} {g : GC} {mi : MI} {d b : Nat} {Q : Option Value → AH → Prop} {X : String → Nat → AH → Prop} {pc : Nat} {L : List (Nat × Value)} {st : List Value} {σ : AH} {C n dd : String} (h : va_Zq C n dd (o_A g) g.1 g.1.heap) {ix : Nat} {ref : String} (hq : Cond.fieldLink mi.1.cls ix ref n dd ∈ lw_all) (hs : ref = C) (hd : decode mi.2.1 pc = .ok (.getstatic ix, 3)) (kk : ∀ v, (v = .null ∨ ∃ x, v = .ref x) → AW l g mi d b Q X (pc + 3) L (v :: st) σ) : AW l g mi d b Q X pc L st σ := by
  rcases h with h | ⟨x, h⟩
  · exact A_getsO h hq hs hd (kk _ (Or.inl rfl))
  · exact A_getsO h hq hs hd (kk _ (Or.inr ⟨x, rfl⟩))
theorem sq_of {l : Launch} {g : GC} (hg : g_ok l g) {C n d : String} (hl : Cond.laysStatic C n d ∈ lw_tbl) (hi : Cond.initialized C ∈ lw_tbl) (h : Cond.isRef (.static C n d) ∈ flatC (Jvm.Cond.and given_1 narrow_1)) : va_Zq C n d (o_A g) g.1 g.1.heap := va_Zqof (hg.2.1 _ hl) (hg.2.1 _ hi) (nw_of hg h) o_out
theorem s_fmt {l : Launch} {g : GC} (hg : g_ok l g) : va_Zq "jdk/internal/util/Preconditions" "SIOOBE_FORMATTER" "Ljava/util/function/BiFunction;" (o_A g) g.1 g.1.heap := sq_of hg q505 (lw_all_tbl q154) (by decide +kernel)
set_option maxHeartbeats 100000 in
theorem c_preidxN {l : Launch} {g : GC} (σ : AH) (k n : Nat)  (hk : k < n) (hn : n < 2 ^ 31) : AMet l g mJ16_checkIndex 1 0 [.int (nI k), .int (nI n), .null] σ (A_eq (some (.int (nI k))) σ) (A_no) := by
  refine A_of rfl (by decide) (Nat.le_of_ble_eq_true rfl) (L0 := [(0, .int (nI k)), (1, .int (nI n)), (2, .null)]) rfl ?_
  refine A_iload_n (i := 0) dJ16_checkIndex_0 rfl rfl ?_
  refine A_if_lt_f (tgt := 9) dJ16_checkIndex_1 (by decide) (nI_pos (by omega)) ?_
  refine A_iload_n (i := 0) dJ16_checkIndex_4 rfl rfl ?_
  refine A_iload_n (i := 1) dJ16_checkIndex_5 rfl rfl ?_
  refine A_icmp_lt_t (tgt := 16) dJ16_checkIndex_6 (by decide) (nI_lt hk hn) ?_
  refine A_iload_n (i := 0) dJ16_checkIndex_16 rfl rfl ?_
  exact A_iret dJ16_checkIndex_17 rfl (⟨rfl, rfl⟩)
set_option maxHeartbeats 100000 in
theorem c_preidxR {l : Launch} {g : GC} (σ : AH) (k n : Nat) (f : Nat) (hk : k < n) (hn : n < 2 ^ 31) : AMet l g mJ16_checkIndex 1 0 [.int (nI k), .int (nI n), .ref f] σ (A_eq (some (.int (nI k))) σ) (A_no) := by
  refine A_of rfl (by decide) (Nat.le_of_ble_eq_true rfl) (L0 := [(0, .int (nI k)), (1, .int (nI n)), (2, .ref f)]) rfl ?_
  refine A_iload_n (i := 0) dJ16_checkIndex_0 rfl rfl ?_
  refine A_if_lt_f (tgt := 9) dJ16_checkIndex_1 (by decide) (nI_pos (by omega)) ?_
  refine A_iload_n (i := 0) dJ16_checkIndex_4 rfl rfl ?_
  refine A_iload_n (i := 1) dJ16_checkIndex_5 rfl rfl ?_
  refine A_icmp_lt_t (tgt := 16) dJ16_checkIndex_6 (by decide) (nI_lt hk hn) ?_
  refine A_iload_n (i := 0) dJ16_checkIndex_16 rfl rfl ?_
  exact A_iret dJ16_checkIndex_17 rfl (⟨rfl, rfl⟩)
theorem c_preidx {l : Launch} {g : GC} (σ : AH) (k n : Nat) {v : Value} (hv : v = .null ∨ ∃ x, v = .ref x) (hk : k < n) (hn : n < 2 ^ 31) : AMet l g mJ16_checkIndex 1 0 [.int (nI k), .int (nI n), v] σ (A_eq (some (.int (nI k))) σ) A_no := by
  rcases hv with e | ⟨x, e⟩
  · subst e; exact c_preidxN σ k n hk hn
  · subst e; exact c_preidxR σ k n x hk hn
set_option maxHeartbeats 100000 in
theorem c_stridx {l : Launch} {g : GC} (σ : AH) (k n : Nat) (hk : k < n) (hn : n < 2 ^ 31) : AMet l g mJ4_checkIndex 2 0 [.int (nI k), .int (nI n)] σ (A_eq none σ) (A_no) := by
  refine A_of rfl (by decide) (Nat.le_of_ble_eq_true rfl) (L0 := [(0, .int (nI k)), (1, .int (nI n))]) rfl ?_
  refine A_ok (fun hg => ?_)
  refine A_iload_n (i := 0) dJ4_checkIndex_0 rfl rfl ?_
  refine A_iload_n (i := 1) dJ4_checkIndex_1 rfl rfl ?_
  refine A_getsQ (s_fmt hg) q504 rfl dJ4_checkIndex_2 (fun v8 hv8 => ?_)
  refine A_callS3E (b' := 0) (v := some (.int (nI k))) (τ := σ) (c_preidx σ k n hv8 hk hn) tJ16_checkIndex q527 dJ4_checkIndex_5 (by decide) (Nat.le_of_ble_eq_true rfl) (Nat.le_of_ble_eq_true rfl) ?_
  refine A_pop dJ4_checkIndex_8 rfl ?_
  exact A_vret dJ4_checkIndex_9 rfl (⟨rfl, rfl⟩)
set_option maxHeartbeats 100000 in
theorem c_l1char {l : Launch} {g : GC} (σ : AH) (v : Nat) (w : List Int32) (k : Nat) (hs4 : o_arr g .byte v w.length (fun j => .int (w.getD j 0))) (hk : k < w.length) (hw : w.length < 2 ^ 31) (hc : okC7 w = true) : AMet l g mJ15_charAt 3 0 [.ref v, .int (nI k)] σ (A_eq (some (.int (w.getD k 0))) σ) (A_no) := by
  refine A_of rfl (by decide) (Nat.le_of_ble_eq_true rfl) (L0 := [(0, .ref v), (1, .int (nI k))]) rfl ?_
  refine A_iload_n (i := 1) dJ15_charAt_0 rfl rfl ?_
  refine A_aload_n (i := 0) dJ15_charAt_1 rfl rfl ?_
  refine A_alenO hs4 dJ15_charAt_2 ?_
  refine A_callS2E (b' := 0) (v := none) (τ := σ) (c_stridx σ k w.length hk hw) tJ4_checkIndex q1988 dJ15_charAt_3 (by decide) (Nat.le_of_ble_eq_true rfl) (Nat.le_of_ble_eq_true rfl) ?_
  refine A_aload_n (i := 0) dJ15_charAt_6 rfl rfl ?_
  refine A_iload_n (i := 1) dJ15_charAt_7 rfl rfl ?_
  refine A_baldO hs4 (vp_in_nI hk hw) (v := .int (w.getD k 0)) (by show Value.int (w.getD (nI k).toNatClampNeg 0) = _; rw [nI_clamp (by omega)]) dJ15_charAt_8 ?_
  refine A_sipush (v := 255) dJ15_charAt_9 (by decide) ?_
  refine A_iand dJ15_charAt_12 ?_
  refine A_i2c (v := (w.getD k 0)) dJ15_charAt_13 ((okC7_at hc hk).1) ?_
  exact A_zret dJ15_charAt_14 rfl ((okC7_at hc hk).2) (⟨rfl, rfl⟩)
set_option maxHeartbeats 100000 in
theorem c_strchar {l : Launch} {g : GC} (σ : AH) (a : Nat) (w : List Int32) (k : Nat) (hs : o_str g a w) (hk : k < w.length) (hw : w.length < 2 ^ 31) (hc : okC7 w = true) : AMet l g mJ4_charAt 4 0 [.ref a, .int (nI k)] σ (A_eq (some (.int (w.getD k 0))) σ) (A_no) := by
  refine A_of rfl (by decide) (Nat.le_of_ble_eq_true rfl) (L0 := [(0, .ref a), (1, .int (nI k))]) rfl ?_
  obtain ⟨v9, hs1, hs2, hs3, hs4⟩ := hs
  refine A_ok (fun hg => ?_)
  refine A_aload_n (i := 0) dJ4_charAt_0 rfl rfl ?_
  refine A_callVO0E (b' := 0) (v := some (.int 1)) (τ := σ) (c_strlat σ a w ⟨v9, hs1, hs2, hs3, hs4⟩) tJ4_isLatin1 q897 hs1 dJ4_charAt_1 (by decide) (Nat.le_of_ble_eq_true rfl) (Nat.le_of_ble_eq_true rfl) ?_
  refine A_if_eq_f (tgt := 16) dJ4_charAt_4 (by decide) (by decide) ?_
  refine A_aload_n (i := 0) dJ4_charAt_7 rfl rfl ?_
  refine A_getfO hs3 q669 rfl dJ4_charAt_8 ?_
  refine A_iload_n (i := 1) dJ4_charAt_11 rfl rfl ?_
  refine A_callS2E (b' := 0) (v := some (.int (w.getD k 0))) (τ := σ) (c_l1char σ v9 w k hs4 hk hw hc) tJ15_charAt q1985 dJ4_charAt_12 (by decide) (Nat.le_of_ble_eq_true rfl) (Nat.le_of_ble_eq_true rfl) ?_
  exact A_zret dJ4_charAt_15 rfl ((okC7_at hc hk).2) (⟨rfl, rfl⟩)
