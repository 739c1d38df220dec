/-! WHAT THE START SAYS: String constants, statics -/
theorem nw_of {l : Launch} {g : GC} (hg : g_ok l g) {c : Cond} (h : c ∈ flatC (Jvm.Cond.and given_1 narrow_1)) : c.before #[Value.ref g.2.1] g.1 = true := flat_of_before _ hg.2.2.1 _ h
theorem o_out {g : GC} : ∀ a : Nat, a < g.1.heap.size → ¬ o_A g a := fun a h h' => absurd h' (Nat.not_le.mpr h)
theorem st_of {l : Launch} {g : GC} (hg : g_ok l g) {C n d : String} {v : Value} (hl : Cond.laysStatic C n d ∈ lw_tbl) (hi : Cond.initialized C ∈ lw_tbl) (hv : (Term.static C n d).eval #[Value.ref g.2.1] g.1 none [] g.1 = some v) : o_st g C n d v :=
  va_Zof (hg.2.1 _ hl) (hg.2.1 _ hi) hv o_out
theorem st_int {l : Launch} {g : GC} (hg : g_ok l g) {C n d : String} {z : Int32} (hl : Cond.laysStatic C n d ∈ lw_tbl) (hi : Cond.initialized C ∈ lw_tbl) (h : Cond.eq (.static C n d) (.int z) ∈ flatC (Jvm.Cond.and given_1 narrow_1)) : o_st g C n d (.int z) := st_of hg hl hi (va_eqi (nw_of hg h))
def strT (own : String) (k : Nat) : Term := .string own k
def strV (own : String) (k : Nat) : Term := .field (.string own k) "java/lang/String" "value" "[B"
def strF (own : String) (k : Nat) (w : List Int32) : List Cond :=
  .exactly (.string own k) "java/lang/String" :: .eq (.field (.string own k) "java/lang/String" "coder" "B") (.int 0) :: .arrayOf (strV own k) .byte :: .eq (.length (strV own k)) (.int (Int32.ofNat w.length)) :: (List.range w.length).map (fun j => .eq (.elem (strV own k) (.int (Int32.ofNat j))) (.int (w.getD j 0)))
/-- a String constant: its object and what it holds -/
theorem lit_of {l : Launch} {g : GC} (hg : g_ok l g) {own tx : String} {k : Nat} {w : List Int32} (hq : Cond.stringRef own k tx ∈ lw_tbl) (hw : w.length < 2 ^ 31) (hf : (strF own k w).all (fun c => decide (c ∈ flatC (Jvm.Cond.and given_1 narrow_1))) = true) : ∃ a, o_lit g own k tx a ∧ o_str g a w := by
  have hf : ∀ c ∈ strF own k w, c.before #[Value.ref g.2.1] g.1 = true := fun c hc => nw_of hg (of_decide_eq_true (List.all_eq_true.mp hf c hc))
  obtain ⟨adK, adV, h1, h2⟩ := vk_Sof (args := #[Value.ref g.2.1]) (s := g.1) (N := 1) (tm := fun _ => .string own k) (len := [w.length]) (byt := [w]) (A := o_A g)
    (fun i hi => by rw [show i = 0 by omega]; exact hw) (fun i hi => hf _ (by simp [strF])) (fun i hi => hf _ (by simp [strF])) (fun i hi => hf _ (by simp [strF, strV]))
    (fun i hi => by rw [show i = 0 by omega]; exact hf _ (by simp [strF, strV]))
    (fun i hi j hj => by
      rw [show i = 0 by omega] at hj ⊢
      exact hf _ (List.mem_cons_of_mem _ (List.mem_cons_of_mem _ (List.mem_cons_of_mem _ (List.mem_cons_of_mem _ (List.mem_map.mpr ⟨j, List.mem_range.mpr hj, rfl⟩))))))
    (fun i j hi hj e => absurd (by omega) e) o_out
  obtain ⟨h3, h4, h5, h6⟩ := h1.1 0 (by omega)
  exact ⟨adK 0, vk_R.of (hg.2.1 _ hq) (h2 0 (by omega)), adV 0, h3, h4, h5, h6⟩
theorem s_compact {l : Launch} {g : GC} (hg : g_ok l g) : o_st g "java/lang/String" "COMPACT_STRINGS" "Z" (.int 1) := st_int hg q215 (lw_all_tbl q138) (by decide +kernel)
theorem litM210 {l : Launch} {g : GC} (hg : g_ok l g) : ∃ a, o_lit g "FlagLaundryModel" 210 "line" a ∧ o_str g a wLine := lit_of hg q2349 (by decide) (by decide +kernel)
theorem litM158 {l : Launch} {g : GC} (hg : g_ok l g) : ∃ a, o_lit g "FlagLaundryModel" 158 "colour" a ∧ o_str g a wColour := lit_of hg q2376 (by decide) (by decide +kernel)
theorem litM167 {l : Launch} {g : GC} (hg : g_ok l g) : ∃ a, o_lit g "FlagLaundryModel" 167 "nation" a ∧ o_str g a wNation := lit_of hg q2385 (by decide) (by decide +kernel)
theorem litM172 {l : Launch} {g : GC} (hg : g_ok l g) : ∃ a, o_lit g "FlagLaundryModel" 172 "tub" a ∧ o_str g a wTub := lit_of hg q2394 (by decide) (by decide +kernel)
theorem litM177 {l : Launch} {g : GC} (hg : g_ok l g) : ∃ a, o_lit g "FlagLaundryModel" 177 "flag" a ∧ o_str g a wFlag := lit_of hg q2399 (by decide) (by decide +kernel)
theorem litM185 {l : Launch} {g : GC} (hg : g_ok l g) : ∃ a, o_lit g "FlagLaundryModel" 185 "put" a ∧ o_str g a wPut := lit_of hg q2427 (by decide) (by decide +kernel)
theorem litM190 {l : Launch} {g : GC} (hg : g_ok l g) : ∃ a, o_lit g "FlagLaundryModel" 190 "wash" a ∧ o_str g a wWash := lit_of hg q2463 (by decide) (by decide +kernel)
theorem litM195 {l : Launch} {g : GC} (hg : g_ok l g) : ∃ a, o_lit g "FlagLaundryModel" 195 "hang" a ∧ o_str g a wHang := lit_of hg q2510 (by decide) (by decide +kernel)
theorem litM200 {l : Launch} {g : GC} (hg : g_ok l g) : ∃ a, o_lit g "FlagLaundryModel" 200 "wind" a ∧ o_str g a wWind := lit_of hg q2531 (by decide) (by decide +kernel)
theorem litM205 {l : Launch} {g : GC} (hg : g_ok l g) : ∃ a, o_lit g "FlagLaundryModel" 205 "pass" a ∧ o_str g a wPass := lit_of hg q2536 (by decide) (by decide +kernel)
theorem litL435 {l : Launch} {g : GC} (hg : g_ok l g) : ∃ a, o_lit g "FlagLaundry" 435 "btlg" a ∧ o_str g a [98, 116, 108, 103] := lit_of hg q1980 (by decide) (by decide +kernel)
theorem litP24 {l : Launch} {g : GC} (hg : g_ok l g) : ∃ a, o_lit g "FlagLaundry$Parser" 24 "" a ∧ o_str g a [] := lit_of hg q413 (by decide) (by decide +kernel)
theorem litP241 {l : Launch} {g : GC} (hg : g_ok l g) : ∃ a, o_lit g "FlagLaundry$Parser" 241 "line" a ∧ o_str g a wLine := lit_of hg q713 (by decide) (by decide +kernel)
theorem litP187 {l : Launch} {g : GC} (hg : g_ok l g) : ∃ a, o_lit g "FlagLaundry$Parser" 187 "colour" a ∧ o_str g a wColour := lit_of hg q954 (by decide) (by decide +kernel)
theorem litP193 {l : Launch} {g : GC} (hg : g_ok l g) : ∃ a, o_lit g "FlagLaundry$Parser" 193 "nation" a ∧ o_str g a wNation := lit_of hg q955 (by decide) (by decide +kernel)
theorem litP195 {l : Launch} {g : GC} (hg : g_ok l g) : ∃ a, o_lit g "FlagLaundry$Parser" 195 "tub" a ∧ o_str g a wTub := lit_of hg q956 (by decide) (by decide +kernel)
theorem litP197 {l : Launch} {g : GC} (hg : g_ok l g) : ∃ a, o_lit g "FlagLaundry$Parser" 197 "flag" a ∧ o_str g a wFlag := lit_of hg q957 (by decide) (by decide +kernel)
theorem litP199 {l : Launch} {g : GC} (hg : g_ok l g) : ∃ a, o_lit g "FlagLaundry$Parser" 199 "put" a ∧ o_str g a wPut := lit_of hg q958 (by decide) (by decide +kernel)
theorem litP201 {l : Launch} {g : GC} (hg : g_ok l g) : ∃ a, o_lit g "FlagLaundry$Parser" 201 "wash" a ∧ o_str g a wWash := lit_of hg q959 (by decide) (by decide +kernel)
theorem litP203 {l : Launch} {g : GC} (hg : g_ok l g) : ∃ a, o_lit g "FlagLaundry$Parser" 203 "hang" a ∧ o_str g a wHang := lit_of hg q960 (by decide) (by decide +kernel)
theorem litP205 {l : Launch} {g : GC} (hg : g_ok l g) : ∃ a, o_lit g "FlagLaundry$Parser" 205 "wind" a ∧ o_str g a wWind := lit_of hg q961 (by decide) (by decide +kernel)
theorem litP207 {l : Launch} {g : GC} (hg : g_ok l g) : ∃ a, o_lit g "FlagLaundry$Parser" 207 "pass" a ∧ o_str g a wPass := lit_of hg q962 (by decide) (by decide +kernel)
