/-! MORE ROWS 2: a new exception; it is thrown out of the method, or caught -/
def exN : List String := ["java/lang/RuntimeException", "java/lang/Exception"]
def exW (w : Cond) : Bool := decide (w ∈ lw_all) || (decide (w ∈ lw_tbl) && (match w with | .declares _ => true | .castable _ _ => true | _ => false))
def exOK (own : String) (ik ic : Nat) (cls : String) : Bool := (Cond.classLink own ik cls :: Cond.initialized cls :: vx_at0 own ic cls exN).all (fun w => exW w && vx_ot w) && Bundle.fit cls
theorem exW_at {l : Launch} {g : GC} {s : State} {args : Array Value} (hg : g_ok l g) (hW : g.1.WarmedH s.vm) (hts : ∀ w ∈ lw_all, w.before args s = true) {w : Cond} (h : exW w = true) : w.before args s = true := by
  unfold exW at h
  simp only [Bool.or_eq_true, Bool.and_eq_true, decide_eq_true_eq] at h
  rcases h with h | ⟨h, h2⟩
  · exact hts w h
  · split at h2
    · exact va_Nw.use rfl (va_Nw.warmD hW (va_Nw.of rfl (hg.2.1 _ h)))
    · exact va_Nw.use rfl (va_Nw.warmC hW (va_Nw.of rfl (hg.2.1 _ h)))
    · cases h2
theorem ex_zq {l : Launch} {g : GC} (hg : g_ok l g) {C n d : String} (hl : Cond.laysStatic C n d ∈ lw_tbl) (hi : Cond.initialized C ∈ lw_tbl) (h : Cond.isRef (.static C n d) ∈ flatC (Jvm.Cond.and given_1 narrow_1)) : vx_Zq C n d (o_A g) g.1 g.1.heap := vx_Zqof (hg.2.1 _ hl) (hg.2.1 _ hi) (nw_of hg h) o_out
section AThrow
variable {l : Launch} {g : GC} {mi : MI} {d b : Nat} {Q : Option Value → AH → Prop} {X : String → Nat → AH → Prop} {pc : Nat} {L : List (Nat × Value)} {st : List Value} {σ : AH}
theorem A_throw0 {b' ik ic : Nat} {cls : String} (hex : exOK mi.1.cls ik ic cls = true) (d0 : decode mi.2.1 pc = .ok (.new ik, 3)) (d3 : decode mi.2.1 (pc + 3) = .ok (.dup, 1)) (d4 : decode mi.2.1 (pc + 4) = .ok (.invokespecial ic, 3)) (d7 : decode mi.2.1 (pc + 7) = .ok (.athrow, 1))
    (hd : 6 ≤ d) (hk : b' + 2 ≤ b) (hw : (st.map fun v => v.category).sum ≤ 100) (kk : ∀ q n, σ.2 ≤ q → σ.2 ≤ n → AX l g mi d b' Q X (pc + 7) L cls q (σ.1, n)) : AW l g mi d b Q X pc L st σ := by
  intro p e R s m args below meth c H locs cells slots ls C hP hL hl
  obtain ⟨hx, hb, hr, hlk, hml, hown, hts, hg, hW, ⟨h10, h10'⟩, ⟨h11, h11'⟩, hrest⟩ := C
  simp only [exOK, Bool.and_eq_true] at hex
  obtain ⟨hex, hfit⟩ := hex
  have hall : ∀ w ∈ Cond.classLink mi.1.cls ik cls :: Cond.initialized cls :: vx_at0 mi.1.cls ic cls exN, exW w = true ∧ vx_ot w = true := fun w hw9 => by
    have := List.all_eq_true.mp hex w hw9
    simpa only [Bool.and_eq_true] using this
  have hst : l.stackTraces = false := by rw [Launch.stackTraces, hg.1]; decide +kernel
  have hU := vx_Zq.moved hW.alike (vx_Zq.kept (ex_zq hg q312 (lw_all_tbl q141) (by decide +kernel)) (o_keep hP))
  have hN := vx_Zq.moved hW.alike (vx_Zq.kept (ex_zq hg q314 (lw_all_tbl q141) (by decide +kernel)) (o_keep hP))
  refine vx_make0 hx hb hst (names := exN) hown hfit (by decide) (exW_at hg hW hts (hall _ List.mem_cons_self).1) (exW_at hg hW hts (hall _ (List.mem_cons_of_mem _ List.mem_cons_self)).1) (fun w hw9 => exW_at hg hW hts (hall w (List.mem_cons_of_mem _ (List.mem_cons_of_mem _ hw9))).1) (fun w hw9 => (hall w hw9).2) hU hN (hl.1.trans hml.symm) d0 d3 d4 (by show 2 + 3 < R.frames; omega) (by show _ + (13 * (2 + 1) + 42) ≤ R.locals; omega) (by omega) (by omega) ?_
  intro q H1 ce hq hsz hold hce hvm hfc
  refine vx_athrow hx hb d7 ?_
  have hP1 := hP.ext hsz hold
  exact kk q H1.size (by rw [← hP.1]; exact hq) (by rw [← hP.1]; exact hsz) p e R s m args below meth c H1 locs (cells + 1) (slots + 6) ls ce st ⟨hx, hb, hr, hlk, hml, hown, hts, hg, hW, ⟨h10, h10'⟩, ⟨by omega, by omega⟩, hrest⟩ hP1 hL hl hce hvm hfc
/-- thrown out of the method -/
theorem A_out {E : String} {q : Nat} (hh : mi.2.2.2.2 = []) (hx : X E q σ) : AX l g mi d b Q X pc L E q σ := by
  intro p e R s m args below meth c H locs cells slots ls ce st C hP hL hl hce hvm hfc
  obtain ⟨hx9, hb, hr, hlk, hml, hown, hts, hg, hW, ⟨h10, h10'⟩, ⟨h11, h11'⟩, hnm, htb, hmn⟩ := C
  exact vx_out (by rw [htb, hh]; exact fun x hx => nomatch hx) hlk hce hvm hfc (fun t ht _ => ⟨σ, hx, by rw [ht]; exact hP⟩) hL (by omega) (by omega)
/-- caught: the first handler that covers the place and whose class the exception has -/
theorem A_catch {E name : String} {q : Nat} {pre suf : List (Nat × Nat × Nat × Nat)} {s9 e9 h9 t9 : Nat} (hh : mi.2.2.2.2 = pre ++ (s9, e9, h9, t9) :: suf) (hpass : ∀ z ∈ pre, (¬ (z.1 ≤ pc ∧ pc < z.2.1)) ∨ (z.2.2.2 ≠ 0 ∧ ∃ nm : String, Cond.classLink mi.1.cls z.2.2.2 nm ∈ lw_all ∧ Cond.not (.castable E nm) ∈ flatC (Jvm.Cond.and given_1 narrow_1))) (hin : s9 ≤ pc ∧ pc < e9) (h0 : t9 ≠ 0) (hq : Cond.classLink mi.1.cls t9 name ∈ lw_all) (hcast : Cond.castable E name ∈ lw_tbl) (kk : AW l g mi d b Q X h9 L [.ref q] σ) : AX l g mi d b Q X pc L E q σ := by
  intro p e R s m args below meth c H locs cells slots ls ce st C hP hL hl hce hvm hfc
  have hc := C
  obtain ⟨hx9, hb, hr, hlk, hml, hown, hts, hg, hW, ⟨h10, h10'⟩, ⟨h11, h11'⟩, hnm, htb, hmn⟩ := C
  refine vx_catch hown (tableOf pre) ⟨s9, e9, h9, t9⟩ (tableOf suf) (by rw [htb, hh]; simp [tableOf]) (fun z hz => ?_) (by simp [covers, hin.1, hin.2]) h0 (hts _ hq) (va_Nw.use rfl (A_castW hg hW hcast)) hce hvm hfc (kk p e R s m args below meth c H locs cells slots ls hc hP hL hl)
  obtain ⟨z', hz', rfl⟩ := List.mem_map.mp hz
  rcases hpass z' hz' with h | ⟨h1, nm, h2, h3⟩
  · left
    simp only [covers]
    simpa using h
  · exact Or.inr ⟨h1, nm, hts _ h2, va_Nc.moved hW.alike (va_Nc.of (nw_of hg h3))⟩
/-- no handler covers the place -/
theorem A_outH {E : String} {q : Nat} (hh : ∀ z ∈ mi.2.2.2.2, ¬ (z.1 ≤ pc ∧ pc < z.2.1)) (hx : X E q σ) : AX l g mi d b Q X pc L E q σ := by
  intro p e R s m args below meth c H locs cells slots ls ce st C hP hL hl hce hvm hfc
  obtain ⟨hx9, hb, hr, hlk, hml, hown, hts, hg, hW, ⟨h10, h10'⟩, ⟨h11, h11'⟩, hnm, htb, hmn⟩ := C
  refine vx_out (fun z hz => ?_) hlk hce hvm hfc (fun t ht _ => ⟨σ, hx, by rw [ht]; exact hP⟩) hL (by omega) (by omega)
  rw [htb] at hz
  obtain ⟨z', hz', rfl⟩ := List.mem_map.mp hz
  have := hh z' hz'
  simp only [covers]
  simpa using this
/-- an object of ours is thrown -/
theorem A_athrow {ci q : Nat} {fs : List Value} {r9 : vw_C} (hO : σ.1 q = some (.inr (.inl (ci, fs)))) (hcl : vwCl[ci]? = some r9) (hd : decode mi.2.1 pc = .ok (.athrow, 1)) (hvm9 : ∀ H : Heap, g_P g σ H → ∀ ce : Cell, H[q]? = some ce → ce.vm = .none) (kk : AX l g mi d b Q X pc L r9.1 q σ) : AW l g mi d b Q X pc L (.ref q :: st) σ := by
  intro p e R s m args below meth c H locs cells slots ls C hP hL hl
  have hc := C
  obtain ⟨hx, hb, hr, hlk, hml, hown, hts, hg, hW, hrest⟩ := C
  obtain ⟨cell, h1, h2, h3⟩ := A_recv hg hW hP hO hcl
  exact vx_athrow hx hb hd (kk p e R s m args below meth c H locs cells slots ls cell st hc hP hL hl h1 (hvm9 H hP cell h1) h3)
end AThrow
