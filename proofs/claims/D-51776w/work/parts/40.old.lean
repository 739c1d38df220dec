/-! THE START's OWN OBJECTS: statics, String constants, constants of enums, constant lambdas: they are read, never written -/
abbrev o_A (g : GC) : Nat → Prop := fun q => g.1.heap.size ≤ q
/-- a field of an old object -/
def o_fld (g : GC) (o n d : String) (v : Value) (q : Nat) : Prop := va_OF o n d v q (o_A g) g.1 g.1.heap
/-- an old object's class -/
def o_cls (g : GC) (C : String) (q : Nat) : Prop := va_O C q (o_A g) g.1 g.1.heap
/-- an old array -/
def o_arr (g : GC) (ty : FieldType) (q n : Nat) (f : Nat → Value) : Prop := va_T ty q n f (o_A g) g.1 g.1.heap
/-- a static -/
def o_st (g : GC) (C n d : String) (v : Value) : Prop := va_Z C n d v (o_A g) g.1 g.1.heap
/-- a String constant of a class -/
def o_lit (g : GC) (own : String) (k : Nat) (tx : String) (a : Nat) : Prop := vk_R own k tx a g.1
theorem o_keep {g : GC} {σ : AH} {H : Heap} (hP : g_P g σ H) : ∀ a : Nat, a < g.1.heap.size → ¬ o_A g a → H[a]? = g.1.heap[a]? := fun a h _ => hP.2.2.2 a h
section AOld
variable {l : Launch} {g : GC} {mi : MI} {d b : Nat} {Q : Option Value → AH → Prop} {X : String → Nat → AH → Prop} {pc : Nat} {L : List (Nat × Value)} {st : List Value} {σ : AH}
theorem A_getfO {o n dd : String} {v : Value} {q : Nat} (h : o_fld g o n dd v q) {ix : Nat} {ref : String} (hq : Cond.fieldLink mi.1.cls ix ref n dd ∈ lw_all) (hs : ref = o) (hd : decode mi.2.1 pc = .ok (.getfield ix, 3)) (kk : AW l g mi d b Q X (pc + 3) L (v :: st) σ) : AW l g mi d b Q X pc L (.ref q :: st) σ := by
  intro p e R s m args below meth c H locs cells slots ls C hP hL hl
  have hc := C
  obtain ⟨hx, hb, hr, hlk, hml, hown, hts, hg, hW, hrest⟩ := C
  subst hs
  obtain ⟨cf, k, fi, f, cell, h1, h2, h3, h4, h5, h6⟩ := va_OF.moved hW.alike (va_OF.kept h (o_keep hP))
  exact W.getf hx hb hown (hts _ hq) h1 h2 h3 h4 (v := v) h5 rfl rfl hd (kk p e R s m args below meth c H locs cells slots ls hc hP hL hl)
theorem A_getsO {C n dd : String} {v : Value} (h : o_st g C n dd v) {ix : Nat} {ref : String} (hq : Cond.fieldLink mi.1.cls ix ref n dd ∈ lw_all) (hs : ref = C) (hd : decode mi.2.1 pc = .ok (.getstatic ix, 3)) (kk : AW l g mi d b Q X (pc + 3) L (v :: st) σ) : AW l g mi d b Q X pc L st σ := by
  intro p e R s m args below meth c H locs cells slots ls C9 hP hL hl
  have hc := C9
  obtain ⟨hx, hb, hr, hlk, hml, hown, hts, hg, hW, hrest⟩ := C9
  subst hs
  obtain ⟨cf, kf, fi, f, a, cell, h1, h2, h3, h4, h5, h6, h7, h8⟩ := va_Z.moved hW.alike (va_Z.kept h (o_keep hP))
  exact W.gets hx hb hown (hts _ hq) h1 h2 h3 h4 h5 (fun e => by rw [e] at h6; cases h6) h7 rfl hd (kk p e R s m args below meth c H locs cells slots ls hc hP hL hl)
theorem A_ldcO {tx : String} {ix q : Nat} (h : o_lit g mi.1.cls ix tx q) (hd : decode mi.2.1 pc = .ok (.ldc ix, 2)) (kk : AW l g mi d b Q X (pc + 2) L (.ref q :: st) σ) : AW l g mi d b Q X pc L st σ := by
  intro p e R s m args below meth c H locs cells slots ls C hP hL hl
  have hc := C
  obtain ⟨hx, hb, hr, hlk, hml, hown, hts, hg, hW, hrest⟩ := C
  exact va_ldcS hx hb hown (vk_R.warm hW h) hd (kk p e R s m args below meth c H locs cells slots ls hc hP hL hl)
theorem A_baldO {q n : Nat} {f : Nat → Value} (h : o_arr g .byte q n f) {i : Int32} (hin : vp_in i n) {v : Value} (hv : f i.toNatClampNeg = v) (hd : decode mi.2.1 pc = .ok (.baload, 1)) (kk : AW l g mi d b Q X (pc + 1) L (v :: st) σ) : AW l g mi d b Q X pc L (.int i :: .ref q :: st) σ := by
  intro p e R s m args below meth c H locs cells slots ls C hP hL hl
  have hc := C
  obtain ⟨hx, hb, hr, hlk, hml, hown, hts, hg, hW, hrest⟩ := C
  obtain ⟨cell, h1, h2, h3, h4, h5, h6, h7⟩ := va_T.moved hW.alike (va_T.kept h (o_keep hP))
  have hlt : i.toNatClampNeg < n := Nat.not_le.mp fun q => hin (Or.inr q)
  have hin' : ¬ (i < 0 ∨ cell.slots.size ≤ i.toNatClampNeg) := by
    intro q
    rcases q with q | q
    · exact hin (Or.inl q)
    · omega
  exact W.bald (v := v) hx hb h1 h2 h3 hin' (by rw [h6 _ hlt, hv]) rfl rfl hd (kk p e R s m args below meth c H locs cells slots ls hc hP hL hl)
theorem A_alenO {ty : FieldType} {q n : Nat} {f : Nat → Value} (h : o_arr g ty q n f) (hd : decode mi.2.1 pc = .ok (.arraylength, 1)) (kk : AW l g mi d b Q X (pc + 1) L (.int (nI n) :: st) σ) : AW l g mi d b Q X pc L (.ref q :: st) σ := by
  intro p e R s m args below meth c H locs cells slots ls C hP hL hl
  have hc := C
  obtain ⟨hx, hb, hr, hlk, hml, hown, hts, hg, hW, hrest⟩ := C
  obtain ⟨cell, h1, h2, h3, h4, h5, h6, h7⟩ := va_T.moved hW.alike (va_T.kept h (o_keep hP))
  exact W.alen (n := Int32.ofNat n) hx hb h1 h2 h5 rfl rfl hd (kk p e R s m args below meth c H locs cells slots ls hc hP hL hl)
theorem o_recv {s : State} {H : Heap} {a : Nat} {C : String} (hW : g.1.WarmedH s.vm) (hP : g_P g σ H) (h : o_cls g C a) : ∃ cell : Cell, H[a]? = some cell ∧ cell.vm.isStatics = false ∧ s.vm.findClass C = some cell.cls := by
  obtain ⟨cell, h1, h2, h3, h4⟩ := va_O.moved hW.alike (va_O.kept h (o_keep hP))
  exact ⟨cell, h1, h2, h3⟩
theorem A_callVO {mi' : MI} {d' k' b' n : Nat} {As : List Value} {Q' : Option Value → AH → Prop} {X' : String → Nat → AH → Prop} {bR : Nat} (hM : AMet l g mi' d' k' (.ref bR :: As) σ Q' X') (hm : A_MV mi' n) {ix : Nat} (hq : Cond.methodLink mi.1.cls ix mi'.1 ∈ lw_all) (hO : o_cls g mi'.1.cls bR)
    (hd : decode mi.2.1 pc = .ok (.invokevirtual ix, 3)) (hn : As.length = n) (hdp : d' + 1 ≤ d) (hk : k' + b' ≤ b) (hw : (st.map fun v => v.category).sum ≤ 8)
    (kk : ∀ v τ, Q' v τ → AW l g mi d b' Q X (pc + 3) L (v.toList ++ st) τ) (kx : ∀ E q τ, X' E q τ → AX l g mi d b' Q X pc L E q τ) : AW l g mi d b Q X pc L (As.reverse ++ .ref bR :: st) σ := by
  intro p e R s m args below meth c H locs cells slots ls C hP hL hl
  obtain ⟨y, cc, nL, ret, hs⟩ := mi'
  obtain ⟨m1, m2, m3, m4, m5, m6, m7⟩ := hm
  have m5 : hs = [] := m5
  subst m5
  have hc9 := C
  obtain ⟨hx, hb, hr, hlk, hml, hown, hts, hg, hW, ⟨h10, h10'⟩, ⟨h11, h11'⟩, hnm, h13⟩ := C
  have m7 : nL ≤ 21 := m7
  exact A_goes (vx_runV (rest := st) (g := F0 m pc ls (As.reverse ++ .ref bR :: st)) (C := y.cls) ⟨hx, hb, hml, hown, hts⟩ hM (cwV n hts (lw_V hq m1 m2 m3 m4) rfl rfl rfl ⟨rfl, m6⟩ ⟨by show d' + 1 ≤ R.frames; omega, by show 8 + (nL + 11) + (3200 + 40 * d') ≤ R.locals; omega⟩) ⟨A_blind, o_recv hW hP hO, fun U hU hWU => ⟨rfl, hg, State.WarmedH.trans hW hWU, by rw [hU]; exact hP⟩⟩ rfl hn hl.1 rfl (lv_room hw) hd ⟨by omega, by omega⟩) hk hc9 hL hl kk kx
/-- an old String of Latin-1 bytes -/
def o_str (g : GC) (a : Nat) (w : List Int32) : Prop := ∃ v, o_cls g "java/lang/String" a ∧ o_fld g "java/lang/String" "coder" "B" (.int 0) a ∧ o_fld g "java/lang/String" "value" "[B" (.ref v) a ∧ o_arr g .byte v w.length (fun j => .int (w.getD j 0))
end AOld
