/-! MORE ROWS: calls by a superclass's name; the heats -/
section LRun9
variable {p : Program} {l : Launch} {e : Env} {R : Room} {s : State} {m : MethodId} {args : Array Value} {below : List Frame} {meth : Method} {c : Code} {T : State} {locs : List Loc} {cells slots : Nat}
/-- a call by a superclass's name of a method that answers a constant (its class need not be known to be initialised) -/
theorem cl_call (X : Stand p l e R s m args below meth c T locs cells slots) (hexec : p.tables.exec = Jvm.exec) {own C owner : String} {index : Nat} {x y : MethodName} {bytes : ByteArray} {maxL : Nat}
    (hown : s.vm.findClass own = some m.cls) (hlink : (Cond.methodLink own index x).before args s = true) (hsame : (Cond.sameMethod x.cls owner x.name x.desc).before args s = true)
    (hd0 : va_Decl s ⟨owner, x.name, x.desc⟩) (howner : owner ≠ "java/lang/invoke/MethodHandle" ∧ owner ≠ "java/lang/invoke/VarHandle")
    (hsel : (Cond.selects C x y).before args s = true) (hinst : (Cond.instanceMethod y).before args s = true) (hcode : (Cond.code y bytes maxL (some .int)).before args s = true)
    {b : Addr} {cellB : Cell} (hcell : T.heap[b]? = some cellB) (hobj : cellB.vm.isStatics = false) (hcls : s.vm.findClass C = some cellB.cls)
    {g : JFrame} (hg : g.method = m) (hsize : g.locals.size = c.maxLocals) {rest : List Value} (hlen : ∀ sig, parseMethodDescriptor x.desc = some sig → 0 = sig.parameters.length)
    (hstack : g.stack = .ref b :: rest) (hdg : decode c.code g.pc = .ok (.invokevirtual index, 3))
    {kv : Int32} {kz : Int} {n0 : Nat} (h0 : (decode bytes 0 = .ok (.iconst kz, 1) ∧ n0 = 1) ∨ (decode bytes 0 = .ok (.bipush kz, 2) ∧ n0 = 2)) (hkz : Int32.ofInt kz = kv ∧ (Int8.ofInt kz).toInt32 = kv) (h1 : decode bytes n0 = .ok (.ireturn, 1)) (hp : plainName y.cls = true)
    (hframes : 1 ≤ R.frames) (hcl : cells ≤ R.cells ∧ slots ≤ R.slots) (hlocals : 2 * g.monitorRoom + (rest.map fun v => v.category).sum + (maxL + 11) ≤ R.locals) :
    ∃ T' : State, s.WarmedH T'.vm ∧ Stand p l e R s m args below meth c T' locs cells slots ∧ T'.heap = T.heap ∧
      ∀ target, Steps p.tables e below (T'.setTop { g with pc := g.pc + 3, stack := .int kv :: rest }) target → Steps p.tables e below (T.setTop g) target := by
  obtain ⟨r0, r, hn, hrm, hstR, hsigR⟩ := hd0
  obtain ⟨cn, ck, r1, hcn, hck, hni, hf, hn1⟩ := Cond.sameMethod_found hsame
  cases hn.symm.trans hn1
  obtain ⟨mk, methM, hnamed, hmethM, -, habM⟩ := Cond.instanceMethod_spec hinst
  obtain ⟨c2, r2, m2, q1, q2, q3, q4, kP, hkP, hkPi⟩ := Cond.selects_spec hsel
  cases hcls.symm.trans q1
  cases hf.symm.trans q2
  cases hnamed.symm.trans q3
  have hselP : selectMethod e.platform s.vm cellB.cls r0 = .method mk := by rw [Launch.admits_selectMethod X.admits]; exact q4
  obtain ⟨vm₁, X₁, hstep₁⟩ := X.invokevirtualUp hexec hown hlink hsame howner hn hrm hstR (a := b) (cell := cellB) hcell
    (fun z h => by rw [h] at hobj; cases hobj) hselP hmethM habM hkP hkPi (g := g) hg (argsL := []) (rest := rest) (hlen _ hsigR) hstack hdg
  have hn9 : (T.setVm vm₁).methodNamed? y = some mk := X₁.named hnamed
  obtain ⟨cd, methY, cY, h2, h3, h4, h5, h6, h7⟩ : ∃ (u : Unit) (methY : Method) (cY : Code), (T.setVm vm₁).vm.method? mk = some methY ∧ methY.code = some cY ∧ cY.code = bytes ∧ cY.maxLocals = maxL ∧ methY.sig.returnType = some .int ∧ methY.locks = false := by
    have hc9 : (Cond.code y bytes maxL (some .int)).before args (T.setVm vm₁) = true := word_at X₁.warmed (Or.inl (by first | rfl | simp [Cond.onTables, Cond.keeps, Cond.steady])) hcode
    obtain ⟨m1, c1, e1, e2, e3, e4, e5, e6, -, -⟩ := Cond.code_spec hn9 hc9
    exact ⟨(), m1, c1, e1, e2, e3, e4, e5, e6⟩
  obtain ⟨kY, hkY, hkn⟩ := className_of_methodNamed hn9
  have hpm : (T.setVm vm₁).plainMethod mk := State.plainMethod.of_name (fun k' hk' => by cases hkY.symm.trans hk'; rw [hkn]; exact hp)
  let g1 : JFrame := { g with stack := rest }
  obtain ⟨Y₀, hin⟩ := X₁.into (g := g1) hg hsize hdg #[Value.ref b] (R' := { frames := 0, cells := 0, slots := 0, locals := 0 }) h2 h3 h7 hpm (by omega) (by rw [h5]; exact hlocals) hcl.1 hcl.2
  obtain ⟨fs, hleave, -, hended, hWe, hsame9⟩ := Y₀.leave (v := some (.int kv)) (fun h => by rw [h6] at h; cases h) h7
  obtain ⟨T', X', hW', hB, ht⟩ := X₁.outOf (g := g1) hg hdg hended hWe hsame9
  have hTh : T'.heap = T.heap := by
    have := congrArg State.heap ht
    exact this.symm
  refine ⟨T', X'.warmed, by simpa using X', hTh, fun target htgt => hstep₁ _ fun acts => ?_⟩
  have h9 := htgt
  rw [show (T'.setTop { g with pc := g.pc + 3, stack := .int kv :: rest }) = _ from ht.symm] at h9
  rw [hin acts]
  refine Steps.trans (la_weaken (mid := [.java g1]) ?_) h9
  have hs : (((T.setVm vm₁).setTop g1).pushFrame (Frame.java (entryFrame mk #[Value.ref b] cY.maxLocals))).topJava?.isSome := Y₀.here.top
  obtain ⟨LL, hloc⟩ : ∃ LL, entryFrame mk #[Value.ref b] cY.maxLocals = { method := mk, pc := 0, locals := LL, stack := [], locked := none } := ⟨_, rfl⟩
  generalize hU : ((T.setVm vm₁).setTop g1).pushFrame (Frame.java (entryFrame mk #[Value.ref b] cY.maxLocals)) = U at Y₀ hin hleave hs ⊢
  rw [hloc]
  rcases h0 with ⟨h0, e0⟩ | ⟨h0, e0⟩
  · subst e0
    jvm_step Y₀.here [hexec, h4, h0, hkz.1]
    jvm_step Y₀.here [hs, hexec, h4, h1, Y₀.method', h6]
    intro acts''
    rw [show narrow .int (.int kv) = .int kv from rfl, hleave { method := mk, pc := 1, locals := LL, stack := [], locked := none } acts'' rfl rfl rfl]
    exact Steps.refl _
  · subst e0
    jvm_step Y₀.here [hexec, h4, h0, hkz.2]
    jvm_step Y₀.here [hs, hexec, h4, h1, Y₀.method', h6]
    intro acts''
    rw [show narrow .int (.int kv) = .int kv from rfl, hleave { method := mk, pc := 2, locals := LL, stack := [], locked := none } acts'' rfl rfl rfl]
    exact Steps.refl _
end LRun9

/-- the receiver: an object of the start, or one of the class table -/
def A_rcv (g : GC) (σ : AH) (C : String) (a : Nat) : Prop := o_cls g C a ∨ ∃ ci fs r9, σ.1 a = some (.inr (.inl (ci, fs))) ∧ vwCl[ci]? = some r9 ∧ r9.1 = C
theorem lw_U {own : String} {idx : Nat} {C owner : String} {x y : MethodName} {b : ByteArray} {L : Nat} {r : Option FieldType} (h1 : Cond.methodLink own idx x ∈ lw_all) (h0 : Cond.sameMethod x.cls owner x.name x.desc ∈ lw_all) (h2 : Cond.selects C x y ∈ lw_all) (h3 : Cond.instanceMethod y ∈ lw_all) (h4 : Cond.initialized y.cls ∈ lw_all) (h5 : Cond.code y b L r ∈ lw_all) : GoodIn lw_all (va_wsU own idx C owner x y (ws_ y b L r)) := by
  refine lw_app ?_ (lw_meth h5)
  intro w hw
  simp only [List.mem_cons, List.not_mem_nil, or_false] at hw
  rcases hw with e | e | e | e | e
  · rw [e]; exact h1
  · rw [e]; exact h0
  · rw [e]; exact h2
  · rw [e]; exact h3
  · rw [e]; exact h4
/-- what the tables say of a method called by another class's name -/
def A_MU (C owner : String) (x : MethodName) (mi : MI) (n : Nat) : Prop := (Cond.sameMethod x.cls owner x.name x.desc ∈ lw_all ∧ Cond.selects C x mi.1 ∈ lw_all ∧ Cond.instanceMethod mi.1 ∈ lw_all ∧ Cond.initialized mi.1.cls ∈ lw_all ∧ Cond.code mi.1 mi.2.1 mi.2.2.1 mi.2.2.2.1 ∈ lw_all) ∧ mi.2.2.2.2 = [] ∧ (owner ≠ "java/lang/invoke/MethodHandle" ∧ owner ≠ "java/lang/invoke/VarHandle" ∧ (parseMethodDescriptor x.desc).map (fun d => d.parameters.length) = some n) ∧ mi.2.2.1 ≤ 21 ∧ mi.1 = ⟨owner, x.name, x.desc⟩
section ARowsU
variable {l : Launch} {g : GC} {mi : MI} {d b : Nat} {Q : Option Value → AH → Prop} {X : String → Nat → AH → Prop} {pc : Nat} {L : List (Nat × Value)} {st : List Value} {σ : AH}
theorem A_gok (kk : g_ok l g → AW l g mi d b Q X pc L st σ) : AW l g mi d b Q X pc L st σ := by
  intro p e R s m args below meth c H locs cells slots ls C hP hL hl
  have hc := C
  obtain ⟨hx, hb, hr, hlk, hml, hown, hts, hg, hrest⟩ := C
  exact kk hg p e R s m args below meth c H locs cells slots ls hc hP hL hl
theorem A_rcv.cell {s : State} {H : Heap} {a : Nat} {C : String} (hg : g_ok l g) (hW : g.1.WarmedH s.vm) (hP : g_P g σ H) (h : A_rcv g σ C a) : ∃ cell : Cell, H[a]? = some cell ∧ cell.vm.isStatics = false ∧ s.vm.findClass C = some cell.cls := by
  rcases h with h | ⟨ci, fs, r9, h1, h2, h3⟩
  · exact o_recv hW hP h
  · subst h3
    exact A_recv hg hW hP h1 h2
theorem A_callU {C owner : String} {x : MethodName} {mi' : MI} {d' k' b' n : Nat} {As : List Value} {Q' : Option Value → AH → Prop} {X' : String → Nat → AH → Prop} {bR : Nat} (hM : AMet l g mi' d' k' (.ref bR :: As) σ Q' X') (hm : A_MU C owner x mi' n) {ix : Nat} (hq : Cond.methodLink mi.1.cls ix x ∈ lw_all) (hO : A_rcv g σ C bR)
    (hd : decode mi.2.1 pc = .ok (.invokevirtual ix, 3)) (hn : As.length = n) (hdp : d' + 1 ≤ d) (hk : k' + b' ≤ b) (hw : (st.map fun v => v.category).sum ≤ 8)
    (kk : ∀ v τ, Q' v τ → AW l g mi d b' Q X (pc + 3) L (v.toList ++ st) τ) (kx : ∀ E q τ, X' E q τ → AX l g mi d b' Q X pc L E q τ) : AW l g mi d b Q X pc L (As.reverse ++ .ref bR :: st) σ := by
  intro p e R s m args below meth c H locs cells slots ls C9 hP hL hl
  obtain ⟨y, cc, nL, ret, hs⟩ := mi'
  obtain ⟨⟨m0, m1, m2, m3, m4⟩, m5, m6, m7, m8⟩ := hm
  have m5 : hs = [] := m5
  subst m5
  have hc9 := C9
  obtain ⟨hx, hb, hr, hlk, hml, hown, hts, hg, hW, ⟨h10, h10'⟩, ⟨h11, h11'⟩, hnm, h13⟩ := C9
  have m7 : nL ≤ 21 := m7
  exact A_goes (vx_runU (rest := st) (g := F0 m pc ls (As.reverse ++ .ref bR :: st)) (C := C) ⟨hx, hb, hml, hown, hts⟩ hM (va_cwU n hts (lw_U hq m0 m1 m2 m3 m4) rfl rfl rfl m8 m6 ⟨by show d' + 1 ≤ R.frames; omega, by show 8 + (nL + 11) + (3200 + 40 * d') ≤ R.locals; omega⟩) ⟨A_blind, hO.cell hg hW hP, fun U hU hWU => ⟨rfl, hg, State.WarmedH.trans hW hWU, by rw [hU]; exact hP⟩⟩ rfl hn hl.1 rfl (lv_room hw) hd ⟨by omega, by omega⟩) hk hc9 hL hl kk kx
theorem A_callU0E {C owner : String} {x : MethodName} {mi' : MI} {d' k' b' : Nat} {bR : Nat} {v : Option Value} {τ : AH} (hM : AMet l g mi' d' k' (.ref bR :: []) σ (A_eq v τ) A_no) (hm : A_MU C owner x mi' 0) {ix : Nat} (hq : Cond.methodLink mi.1.cls ix x ∈ lw_all) (hO : A_rcv g σ C bR) (hd : decode mi.2.1 pc = .ok (.invokevirtual ix, 3)) (hdp : d' + 1 ≤ d) (hk : k' + b' ≤ b) (hw : (st.map fun v => v.category).sum ≤ 8) (kk : AW l g mi d b' Q X (pc + 3) L (v.toList ++ st) τ) : AW l g mi d b Q X pc L (.ref bR :: st) σ :=
  A_callU (As := []) hM hm hq hO hd rfl hdp hk hw (fun w τ' h => by obtain ⟨e1, e2⟩ := h; subst e1; subst e2; exact kk) (fun E q τ' h => h.elim)
theorem A_callU1E {C owner : String} {x : MethodName} {mi' : MI} {d' k' b' : Nat} {bR : Nat} {a1 : Value} {v : Option Value} {τ : AH} (hM : AMet l g mi' d' k' (.ref bR :: [a1]) σ (A_eq v τ) A_no) (hm : A_MU C owner x mi' 1) {ix : Nat} (hq : Cond.methodLink mi.1.cls ix x ∈ lw_all) (hO : A_rcv g σ C bR) (hd : decode mi.2.1 pc = .ok (.invokevirtual ix, 3)) (hdp : d' + 1 ≤ d) (hk : k' + b' ≤ b) (hw : (st.map fun v => v.category).sum ≤ 8) (kk : AW l g mi d b' Q X (pc + 3) L (v.toList ++ st) τ) : AW l g mi d b Q X pc L (a1 :: .ref bR :: st) σ :=
  A_callU (As := [a1]) hM hm hq hO hd rfl hdp hk hw (fun w τ' h => by obtain ⟨e1, e2⟩ := h; subst e1; subst e2; exact kk) (fun E q τ' h => h.elim)
/-- a method of one constant's class: it answers a number; the named method is abstract -/
theorem A_constU {C : String} {x y : MethodName} {bytes : ByteArray} {bR : Nat} {kv : Int32} {kz : Int} (h0 : Cond.sameMethod x.cls x.cls x.name x.desc ∈ lw_all) (hz : Cond.declares x ∈ lw_tbl) (hs : Cond.selects C x y ∈ lw_all) (hi : Cond.instanceMethod y ∈ lw_all) (hc : Cond.code y bytes 1 (some .int) ∈ lw_all) (hl : A_len x 0) {n0 : Nat} (hb0 : (decode bytes 0 = .ok (.iconst kz, 1) ∧ n0 = 1) ∨ (decode bytes 0 = .ok (.bipush kz, 2) ∧ n0 = 2)) (hkz : Int32.ofInt kz = kv ∧ (Int8.ofInt kz).toInt32 = kv) (hb1 : decode bytes n0 = .ok (.ireturn, 1)) (hp : plainName y.cls = true)
    {ix : Nat} (hq : Cond.methodLink mi.1.cls ix x ∈ lw_all) (hO : A_rcv g σ C bR) (hd : decode mi.2.1 pc = .ok (.invokevirtual ix, 3)) (hdp : 1 ≤ d) (hw : (st.map fun v => v.category).sum ≤ 8) (kk : AW l g mi d b Q X (pc + 3) L (.int kv :: st) σ) : AW l g mi d b Q X pc L (.ref bR :: st) σ := by
  intro p e R s m args below meth c H locs cells slots ls C9 hP hL hls
  have hc9 := C9
  obtain ⟨hx, hb, hr, hlk, hml, hown, hts, hg, hW, ⟨h10, h10'⟩, ⟨h11, h11'⟩, hnm, h13⟩ := C9
  obtain ⟨cell, k1, k2, k3⟩ := hO.cell hg hW hP
  have hz1 : va_Nw (.declares ⟨x.cls, x.name, x.desc⟩) s := va_Nw.warmD hW (va_Nw.of rfl (hg.2.1 _ hz))
  intro T hT Xs
  obtain ⟨T', q1, q2, q3, q4⟩ := cl_call Xs hx hown (hts _ hq) (hts _ h0) (va_Decl.abs hz1) ⟨hl.1, hl.2.1⟩ (hts _ hs) (hts _ hi) (hts _ hc) (by rw [hT]; exact k1) k2 k3 (g := F0 m pc ls (.ref bR :: st)) rfl (hls.1.trans hml.symm) (rest := st) (fun sig h => by have h2 := hl.2.2; rw [h] at h2; exact (Option.some.inj h2).symm) rfl (by rw [hb]; exact hd) hb0 hkz hb1 hp (by omega) ⟨by omega, by omega⟩ (by show 2 * 0 + (st.map fun v => v.category).sum + (1 + 11) ≤ R.locals; omega)
  obtain ⟨t, a1, b1⟩ := kk p e R s m args below meth c H locs cells slots ls hc9 hP hL hls T' (q3.trans hT) q2
  exact ⟨t, q4 t a1, b1⟩
end ARowsU
theorem tU_ord0 : A_MU "FlagLaundry$Heat$1" "java/lang/Enum" ⟨"FlagLaundry$Heat", "ordinal", "()I"⟩ mJ11_ordinal 0 := ⟨⟨q1306, q1308, q1312, q147, q1313⟩, rfl, ⟨by decide +kernel, by decide +kernel, by decide +kernel⟩, by decide, rfl⟩
theorem tU_cre0 : A_MU "FlagLaundry$Heat$1" "FlagLaundry$Heat" ⟨"FlagLaundry$Heat", "creases", "()I"⟩ mX10_creases 0 := ⟨⟨q1299, q1300, q1298, q167, q1304⟩, rfl, ⟨by decide +kernel, by decide +kernel, by decide +kernel⟩, by decide, rfl⟩
theorem tU_smo0 : A_MU "FlagLaundry$Heat$1" "FlagLaundry$Heat" ⟨"FlagLaundry$Heat", "smooths", "(Z)I"⟩ mX10_smooths 1 := ⟨⟨q1894, q1895, q1893, q167, q1899⟩, rfl, ⟨by decide +kernel, by decide +kernel, by decide +kernel⟩, by decide, rfl⟩
theorem tU_ord1 : A_MU "FlagLaundry$Heat$2" "java/lang/Enum" ⟨"FlagLaundry$Heat", "ordinal", "()I"⟩ mJ11_ordinal 0 := ⟨⟨q1306, q1309, q1312, q147, q1313⟩, rfl, ⟨by decide +kernel, by decide +kernel, by decide +kernel⟩, by decide, rfl⟩
theorem tU_cre1 : A_MU "FlagLaundry$Heat$2" "FlagLaundry$Heat" ⟨"FlagLaundry$Heat", "creases", "()I"⟩ mX10_creases 0 := ⟨⟨q1299, q1301, q1298, q167, q1304⟩, rfl, ⟨by decide +kernel, by decide +kernel, by decide +kernel⟩, by decide, rfl⟩
theorem tU_smo1 : A_MU "FlagLaundry$Heat$2" "FlagLaundry$Heat" ⟨"FlagLaundry$Heat", "smooths", "(Z)I"⟩ mX10_smooths 1 := ⟨⟨q1894, q1896, q1893, q167, q1899⟩, rfl, ⟨by decide +kernel, by decide +kernel, by decide +kernel⟩, by decide, rfl⟩
theorem tU_ord2 : A_MU "FlagLaundry$Heat$3" "java/lang/Enum" ⟨"FlagLaundry$Heat", "ordinal", "()I"⟩ mJ11_ordinal 0 := ⟨⟨q1306, q1310, q1312, q147, q1313⟩, rfl, ⟨by decide +kernel, by decide +kernel, by decide +kernel⟩, by decide, rfl⟩
theorem tU_cre2 : A_MU "FlagLaundry$Heat$3" "FlagLaundry$Heat" ⟨"FlagLaundry$Heat", "creases", "()I"⟩ mX10_creases 0 := ⟨⟨q1299, q1302, q1298, q167, q1304⟩, rfl, ⟨by decide +kernel, by decide +kernel, by decide +kernel⟩, by decide, rfl⟩
theorem tU_smo2 : A_MU "FlagLaundry$Heat$3" "FlagLaundry$Heat" ⟨"FlagLaundry$Heat", "smooths", "(Z)I"⟩ mX10_smooths 1 := ⟨⟨q1894, q1897, q1893, q167, q1899⟩, rfl, ⟨by decide +kernel, by decide +kernel, by decide +kernel⟩, by decide, rfl⟩
theorem tU_ord3 : A_MU "FlagLaundry$Heat$4" "java/lang/Enum" ⟨"FlagLaundry$Heat", "ordinal", "()I"⟩ mJ11_ordinal 0 := ⟨⟨q1306, q1311, q1312, q147, q1313⟩, rfl, ⟨by decide +kernel, by decide +kernel, by decide +kernel⟩, by decide, rfl⟩
theorem tU_cre3 : A_MU "FlagLaundry$Heat$4" "FlagLaundry$Heat" ⟨"FlagLaundry$Heat", "creases", "()I"⟩ mX10_creases 0 := ⟨⟨q1299, q1303, q1298, q167, q1304⟩, rfl, ⟨by decide +kernel, by decide +kernel, by decide +kernel⟩, by decide, rfl⟩
theorem tU_smo3 : A_MU "FlagLaundry$Heat$4" "FlagLaundry$Heat" ⟨"FlagLaundry$Heat", "smooths", "(Z)I"⟩ mX10_smooths 1 := ⟨⟨q1894, q1898, q1893, q167, q1899⟩, rfl, ⟨by decide +kernel, by decide +kernel, by decide +kernel⟩, by decide, rfl⟩
/-- the object of the k-th heat -/
def heatO (g : GC) (k q : Nat) : Prop := ((k = 0 ∧ o_cls g "FlagLaundry$Heat$1" q) ∨ (k = 1 ∧ o_cls g "FlagLaundry$Heat$2" q) ∨ (k = 2 ∧ o_cls g "FlagLaundry$Heat$3" q) ∨ (k = 3 ∧ o_cls g "FlagLaundry$Heat$4" q)) ∧ o_fld g "java/lang/Enum" "ordinal" "I" (.int (nI k)) q
/-- the static that holds it -/
def hstat (g : GC) (k q : Nat) : Prop := (k = 0 ∧ o_st g "FlagLaundry$Heat" "COLD" "LFlagLaundry$Heat;" (.ref q)) ∨ (k = 1 ∧ o_st g "FlagLaundry$Heat" "WARM" "LFlagLaundry$Heat;" (.ref q)) ∨ (k = 2 ∧ o_st g "FlagLaundry$Heat" "HOT" "LFlagLaundry$Heat;" (.ref q)) ∨ (k = 3 ∧ o_st g "FlagLaundry$Heat" "BOIL" "LFlagLaundry$Heat;" (.ref q))
theorem en_of {l : Launch} {g : GC} (hg : g_ok l g) {C n d E : String} {k : Int32} (hl : Cond.laysStatic C n d ∈ lw_tbl) (hi : Cond.initialized C ∈ lw_tbl) (hex : Cond.exactly (.static C n d) E ∈ flatC (Jvm.Cond.and given_1 narrow_1)) (ho : Cond.eq (.field (.static C n d) "java/lang/Enum" "ordinal" "I") (.int k) ∈ flatC (Jvm.Cond.and given_1 narrow_1)) : ∃ q, o_st g C n d (.ref q) ∧ o_cls g E q ∧ o_fld g "java/lang/Enum" "ordinal" "I" (.int k) q := by
  obtain ⟨q, c, cell, kk, q1, -⟩ := Cond.exactly_spec (nw_of hg hex)
  refine ⟨q, st_of hg hl hi q1, va_Oof (nw_of hg hex) q1 o_out, ?_⟩
  exact va_Efof (N := 1) (E := C) (d0 := d) (nm := [n]) (v := fun _ => .int k) (tm := fun _ => .int k) (ad := fun _ => q) (fun i h => by rw [show i = 0 by omega]; exact q1) (fun i h => by rw [show i = 0 by omega]; exact nw_of hg ho) (fun i h => rfl) o_out 0 (by omega)
theorem heat_ex {l : Launch} {g : GC} (hg : g_ok l g) {k : Nat} (hk : k ≤ 3) : ∃ q, hstat g k q ∧ heatO g k q := by
  rcases (by omega : k = 0 ∨ k = 1 ∨ k = 2 ∨ k = 3) with rfl | rfl | rfl | rfl
  · obtain ⟨q, h1, h2, h3⟩ := en_of hg q1262 (lw_all_tbl q167) (n := "COLD") (E := "FlagLaundry$Heat$1") (k := nI 0) (by decide +kernel) (by decide +kernel)
    exact ⟨q, Or.inl (⟨rfl, h1⟩), Or.inl (⟨rfl, h2⟩), h3⟩
  · obtain ⟨q, h1, h2, h3⟩ := en_of hg q1264 (lw_all_tbl q167) (n := "WARM") (E := "FlagLaundry$Heat$2") (k := nI 1) (by decide +kernel) (by decide +kernel)
    exact ⟨q, Or.inr (Or.inl (⟨rfl, h1⟩)), Or.inr (Or.inl (⟨rfl, h2⟩)), h3⟩
  · obtain ⟨q, h1, h2, h3⟩ := en_of hg q1266 (lw_all_tbl q167) (n := "HOT") (E := "FlagLaundry$Heat$3") (k := nI 2) (by decide +kernel) (by decide +kernel)
    exact ⟨q, Or.inr (Or.inr (Or.inl (⟨rfl, h1⟩))), Or.inr (Or.inr (Or.inl (⟨rfl, h2⟩))), h3⟩
  · obtain ⟨q, h1, h2, h3⟩ := en_of hg q1268 (lw_all_tbl q167) (n := "BOIL") (E := "FlagLaundry$Heat$4") (k := nI 3) (by decide +kernel) (by decide +kernel)
    exact ⟨q, Or.inr (Or.inr (Or.inr (⟨rfl, h1⟩))), Or.inr (Or.inr (Or.inr (⟨rfl, h2⟩))), h3⟩
theorem heat_rcv {g : GC} {σ : AH} {k q : Nat} (h : heatO g k q) : (k = 0 ∧ A_rcv g σ "FlagLaundry$Heat$1" q) ∨ (k = 1 ∧ A_rcv g σ "FlagLaundry$Heat$2" q) ∨ (k = 2 ∧ A_rcv g σ "FlagLaundry$Heat$3" q) ∨ (k = 3 ∧ A_rcv g σ "FlagLaundry$Heat$4" q) := by
  rcases h.1 with ⟨h, h'⟩ | ⟨h, h'⟩ | ⟨h, h'⟩ | ⟨h, h'⟩
  · exact Or.inl ⟨h, Or.inl h'⟩
  · exact Or.inr (Or.inl ⟨h, Or.inl h'⟩)
  · exact Or.inr (Or.inr (Or.inl ⟨h, Or.inl h'⟩))
  · exact Or.inr (Or.inr (Or.inr ⟨h, Or.inl h'⟩))
theorem A_cleans {l : Launch} {g : GC} {mi : MI} {d b : Nat} {Q : Option Value → AH → Prop} {X : String → Nat → AH → Prop} {pc : Nat} {L : List (Nat × Value)} {st : List Value} {σ : AH} {k qh : Nat} (h5 : heatO g k qh) {ix : Nat} (hq : Cond.methodLink mi.1.cls ix ⟨"FlagLaundry$Heat", "cleans", "()I"⟩ ∈ lw_all) (hd : decode mi.2.1 pc = .ok (.invokevirtual ix, 3)) (hdp : 1 ≤ d) (hw : (st.map fun v => v.category).sum ≤ 8) (kk : AW l g mi d b Q X (pc + 3) L (.int (1 + 2 * nI k) :: st) σ) : AW l g mi d b Q X pc L (.ref qh :: st) σ := by
  rcases heat_rcv (σ := σ) h5 with ⟨e, h⟩ | ⟨e, h⟩ | ⟨e, h⟩ | ⟨e, h⟩
  · subst e; exact A_constU (y := yX13_cleans) (kv := 1 + 2 * nI 0) q1283 q1282 q1284 q1285 q1286 ⟨by decide +kernel, by decide +kernel, by decide +kernel⟩ (Or.inl ⟨dX13_cleans_0, rfl⟩) (by decide) dX13_cleans_1 (by decide +kernel) hq h hd hdp hw kk
  · subst e; exact A_constU (y := yX14_cleans) (kv := 1 + 2 * nI 1) q1283 q1282 q1287 q1288 q1289 ⟨by decide +kernel, by decide +kernel, by decide +kernel⟩ (Or.inl ⟨dX14_cleans_0, rfl⟩) (by decide) dX14_cleans_1 (by decide +kernel) hq h hd hdp hw kk
  · subst e; exact A_constU (y := yX15_cleans) (kv := 1 + 2 * nI 2) q1283 q1282 q1290 q1291 q1292 ⟨by decide +kernel, by decide +kernel, by decide +kernel⟩ (Or.inl ⟨dX15_cleans_0, rfl⟩) (by decide) dX15_cleans_1 (by decide +kernel) hq h hd hdp hw kk
  · subst e; exact A_constU (y := yX16_cleans) (kv := 1 + 2 * nI 3) q1283 q1282 q1293 q1294 q1295 ⟨by decide +kernel, by decide +kernel, by decide +kernel⟩ (Or.inr ⟨dX16_cleans_0, rfl⟩) (by decide) dX16_cleans_2 (by decide +kernel) hq h hd hdp hw kk
theorem A_hord {l : Launch} {g : GC} {mi : MI} {d b : Nat} {Q : Option Value → AH → Prop} {X : String → Nat → AH → Prop} {pc : Nat} {L : List (Nat × Value)} {st : List Value} {σ : AH} {k qh d' k' b' : Nat} {v : Option Value} {τ : AH} (h5 : heatO g k qh) (hM : AMet l g mJ11_ordinal d' k' (.ref qh :: []) σ (A_eq v τ) A_no) {ix : Nat} (hq : Cond.methodLink mi.1.cls ix ⟨"FlagLaundry$Heat", "ordinal", "()I"⟩ ∈ lw_all) (hd : decode mi.2.1 pc = .ok (.invokevirtual ix, 3)) (hdp : d' + 1 ≤ d) (hk : k' + b' ≤ b) (hw : (st.map fun v => v.category).sum ≤ 8) (kk : AW l g mi d b' Q X (pc + 3) L (v.toList ++ st) τ) : AW l g mi d b Q X pc L (.ref qh :: st) σ := by
  rcases heat_rcv (σ := σ) h5 with ⟨e, h⟩ | ⟨e, h⟩ | ⟨e, h⟩ | ⟨e, h⟩
  · exact A_callU0E hM tU_ord0 hq h hd hdp hk hw kk
  · exact A_callU0E hM tU_ord1 hq h hd hdp hk hw kk
  · exact A_callU0E hM tU_ord2 hq h hd hdp hk hw kk
  · exact A_callU0E hM tU_ord3 hq h hd hdp hk hw kk
theorem A_hcre {l : Launch} {g : GC} {mi : MI} {d b : Nat} {Q : Option Value → AH → Prop} {X : String → Nat → AH → Prop} {pc : Nat} {L : List (Nat × Value)} {st : List Value} {σ : AH} {k qh d' k' b' : Nat} {v : Option Value} {τ : AH} (h5 : heatO g k qh) (hM : AMet l g mX10_creases d' k' (.ref qh :: []) σ (A_eq v τ) A_no) {ix : Nat} (hq : Cond.methodLink mi.1.cls ix ⟨"FlagLaundry$Heat", "creases", "()I"⟩ ∈ lw_all) (hd : decode mi.2.1 pc = .ok (.invokevirtual ix, 3)) (hdp : d' + 1 ≤ d) (hk : k' + b' ≤ b) (hw : (st.map fun v => v.category).sum ≤ 8) (kk : AW l g mi d b' Q X (pc + 3) L (v.toList ++ st) τ) : AW l g mi d b Q X pc L (.ref qh :: st) σ := by
  rcases heat_rcv (σ := σ) h5 with ⟨e, h⟩ | ⟨e, h⟩ | ⟨e, h⟩ | ⟨e, h⟩
  · exact A_callU0E hM tU_cre0 hq h hd hdp hk hw kk
  · exact A_callU0E hM tU_cre1 hq h hd hdp hk hw kk
  · exact A_callU0E hM tU_cre2 hq h hd hdp hk hw kk
  · exact A_callU0E hM tU_cre3 hq h hd hdp hk hw kk
theorem A_hsmo {l : Launch} {g : GC} {mi : MI} {d b : Nat} {Q : Option Value → AH → Prop} {X : String → Nat → AH → Prop} {pc : Nat} {L : List (Nat × Value)} {st : List Value} {σ : AH} {k qh d' k' b' : Nat} {a1 : Value} {v : Option Value} {τ : AH} (h5 : heatO g k qh) (hM : AMet l g mX10_smooths d' k' (.ref qh :: [a1]) σ (A_eq v τ) A_no) {ix : Nat} (hq : Cond.methodLink mi.1.cls ix ⟨"FlagLaundry$Heat", "smooths", "(Z)I"⟩ ∈ lw_all) (hd : decode mi.2.1 pc = .ok (.invokevirtual ix, 3)) (hdp : d' + 1 ≤ d) (hk : k' + b' ≤ b) (hw : (st.map fun v => v.category).sum ≤ 8) (kk : AW l g mi d b' Q X (pc + 3) L (v.toList ++ st) τ) : AW l g mi d b Q X pc L (a1 :: .ref qh :: st) σ := by
  rcases heat_rcv (σ := σ) h5 with ⟨e, h⟩ | ⟨e, h⟩ | ⟨e, h⟩ | ⟨e, h⟩
  · exact A_callU1E hM tU_smo0 hq h hd hdp hk hw kk
  · exact A_callU1E hM tU_smo1 hq h hd hdp hk hw kk
  · exact A_callU1E hM tU_smo2 hq h hd hdp hk hw kk
  · exact A_callU1E hM tU_smo3 hq h hd hdp hk hw kk
set_option maxHeartbeats 200000 in
theorem c_hOf0 {l : Launch} {g : GC} (σ : AH) (q : Nat) (hs : o_st g "FlagLaundry$Heat" "COLD" "LFlagLaundry$Heat;" (.ref q)) : AMet l g mX10_of 1 0 [.int 0] σ (A_eq (some (.ref q)) σ) (A_no) := by
  refine A_of rfl (by decide) (Nat.le_of_ble_eq_true rfl) (L0 := [(0, .int 0)]) rfl ?_
  refine A_iload_n (i := 0) dX10_of_0 rfl rfl ?_
  refine A_if_ne_f (tgt := 10) dX10_of_1 (by decide) (by decide) ?_
  refine A_getsO hs q1261 rfl dX10_of_4 ?_
  refine A_goto (tgt := 35) dX10_of_7 (by decide) ?_
  exact A_aret dX10_of_35 rfl (Or.inl ⟨_, rfl⟩) (Or.inr ⟨_, rfl⟩) (⟨rfl, rfl⟩)
set_option maxHeartbeats 200000 in
theorem c_hOf1 {l : Launch} {g : GC} (σ : AH) (q : Nat) (hs : o_st g "FlagLaundry$Heat" "WARM" "LFlagLaundry$Heat;" (.ref q)) : AMet l g mX10_of 1 0 [.int 1] σ (A_eq (some (.ref q)) σ) (A_no) := by
  refine A_of rfl (by decide) (Nat.le_of_ble_eq_true rfl) (L0 := [(0, .int 1)]) rfl ?_
  refine A_iload_n (i := 0) dX10_of_0 rfl rfl ?_
  refine A_if_ne_t (tgt := 10) dX10_of_1 (by decide) (by decide) ?_
  refine A_iload_n (i := 0) dX10_of_10 rfl rfl ?_
  refine A_iconst (v := 1) dX10_of_11 (by decide) ?_
  refine A_icmp_ne_f (tgt := 21) dX10_of_12 (by decide) (by decide) ?_
  refine A_getsO hs q1263 rfl dX10_of_15 ?_
  refine A_goto (tgt := 35) dX10_of_18 (by decide) ?_
  exact A_aret dX10_of_35 rfl (Or.inl ⟨_, rfl⟩) (Or.inr ⟨_, rfl⟩) (⟨rfl, rfl⟩)
set_option maxHeartbeats 200000 in
theorem c_hOf2 {l : Launch} {g : GC} (σ : AH) (q : Nat) (hs : o_st g "FlagLaundry$Heat" "HOT" "LFlagLaundry$Heat;" (.ref q)) : AMet l g mX10_of 1 0 [.int 2] σ (A_eq (some (.ref q)) σ) (A_no) := by
  refine A_of rfl (by decide) (Nat.le_of_ble_eq_true rfl) (L0 := [(0, .int 2)]) rfl ?_
  refine A_iload_n (i := 0) dX10_of_0 rfl rfl ?_
  refine A_if_ne_t (tgt := 10) dX10_of_1 (by decide) (by decide) ?_
  refine A_iload_n (i := 0) dX10_of_10 rfl rfl ?_
  refine A_iconst (v := 1) dX10_of_11 (by decide) ?_
  refine A_icmp_ne_t (tgt := 21) dX10_of_12 (by decide) (by decide) ?_
  refine A_iload_n (i := 0) dX10_of_21 rfl rfl ?_
  refine A_iconst (v := 2) dX10_of_22 (by decide) ?_
  refine A_icmp_ne_f (tgt := 32) dX10_of_23 (by decide) (by decide) ?_
  refine A_getsO hs q1265 rfl dX10_of_26 ?_
  refine A_goto (tgt := 35) dX10_of_29 (by decide) ?_
  exact A_aret dX10_of_35 rfl (Or.inl ⟨_, rfl⟩) (Or.inr ⟨_, rfl⟩) (⟨rfl, rfl⟩)
set_option maxHeartbeats 200000 in
theorem c_hOf3 {l : Launch} {g : GC} (σ : AH) (q : Nat) (hs : o_st g "FlagLaundry$Heat" "BOIL" "LFlagLaundry$Heat;" (.ref q)) : AMet l g mX10_of 1 0 [.int 3] σ (A_eq (some (.ref q)) σ) (A_no) := by
  refine A_of rfl (by decide) (Nat.le_of_ble_eq_true rfl) (L0 := [(0, .int 3)]) rfl ?_
  refine A_iload_n (i := 0) dX10_of_0 rfl rfl ?_
  refine A_if_ne_t (tgt := 10) dX10_of_1 (by decide) (by decide) ?_
  refine A_iload_n (i := 0) dX10_of_10 rfl rfl ?_
  refine A_iconst (v := 1) dX10_of_11 (by decide) ?_
  refine A_icmp_ne_t (tgt := 21) dX10_of_12 (by decide) (by decide) ?_
  refine A_iload_n (i := 0) dX10_of_21 rfl rfl ?_
  refine A_iconst (v := 2) dX10_of_22 (by decide) ?_
  refine A_icmp_ne_t (tgt := 32) dX10_of_23 (by decide) (by decide) ?_
  refine A_getsO hs q1267 rfl dX10_of_32 ?_
  exact A_aret dX10_of_35 rfl (Or.inl ⟨_, rfl⟩) (Or.inr ⟨_, rfl⟩) (⟨rfl, rfl⟩)
theorem c_hOf {l : Launch} {g : GC} (σ : AH) {k q : Nat} (h : hstat g k q) : AMet l g mX10_of 1 0 [.int (nI k)] σ (A_eq (some (.ref q)) σ) A_no := by
  rcases h with ⟨rfl, h⟩ | ⟨rfl, h⟩ | ⟨rfl, h⟩ | ⟨rfl, h⟩
  · exact c_hOf0 σ q h
  · exact c_hOf1 σ q h
  · exact c_hOf2 σ q h
  · exact c_hOf3 σ q h
set_option maxHeartbeats 200000 in
theorem c_hOrd {l : Launch} {g : GC} (σ : AH) (k qh : Nat) (hh : heatO g k qh) : AMet l g mJ11_ordinal 1 0 [.ref qh] σ (A_eq (some (.int (nI k))) σ) (A_no) := by
  refine A_of rfl (by decide) (Nat.le_of_ble_eq_true rfl) (L0 := [(0, .ref qh)]) rfl ?_
  refine A_aload_n (i := 0) dJ11_ordinal_0 rfl rfl ?_
  refine A_getfO hh.2 q3035 rfl dJ11_ordinal_1 ?_
  exact A_iret dJ11_ordinal_4 rfl (⟨rfl, rfl⟩)
set_option maxHeartbeats 200000 in
theorem c_hCre {l : Launch} {g : GC} (σ : AH) (k qh : Nat) (hh : heatO g k qh) : AMet l g mX10_creases 2 0 [.ref qh] σ (A_eq (some (.int (nI (k + 1)))) σ) (A_no) := by
  refine A_of rfl (by decide) (Nat.le_of_ble_eq_true rfl) (L0 := [(0, .ref qh)]) rfl ?_
  refine A_aload_n (i := 0) dX10_creases_0 rfl rfl ?_
  refine A_hord (v := some (.int (nI k))) (τ := σ) hh (c_hOrd σ k qh hh) q1305 dX10_creases_1 (by decide) (Nat.le_of_eq (Nat.zero_add _)) (Nat.le_of_ble_eq_true rfl) ?_
  refine A_iconst (v := 1) dX10_creases_4 (by decide) ?_
  refine A_iadd dX10_creases_5 ?_
  refine A_int (w := nI (k + 1)) (nI_add k 1) ?_
  exact A_iret dX10_creases_6 rfl (⟨rfl, rfl⟩)
set_option maxHeartbeats 200000 in
theorem c_hSmo {l : Launch} {g : GC} (σ : AH) (k qh : Nat) (x : Int32) (hh : heatO g k qh) : AMet l g mX10_smooths 2 0 [.ref qh, .int x] σ (A_eq (some (.int (nI (k + 1) + oneI x))) σ) (A_no) := by
  refine A_of rfl (by decide) (Nat.le_of_ble_eq_true rfl) (L0 := [(0, .ref qh), (1, .int x)]) rfl ?_
  refine A_aload_n (i := 0) dX10_smooths_0 rfl rfl ?_
  refine A_hord (v := some (.int (nI k))) (τ := σ) hh (c_hOrd σ k qh hh) q1305 dX10_smooths_1 (by decide) (Nat.le_of_eq (Nat.zero_add _)) (Nat.le_of_ble_eq_true rfl) ?_
  refine A_iconst (v := 1) dX10_smooths_4 (by decide) ?_
  refine A_iadd dX10_smooths_5 ?_
  refine A_int (w := nI (k + 1)) (nI_add k 1) ?_
  refine A_iload_n (i := 1) dX10_smooths_6 rfl rfl ?_
  refine A_callSN1E (b' := 0) (v := some (.int (oneI x))) (τ := σ) (c_one1 σ x) tX1_one q1900 dX10_smooths_7 (by decide) (Nat.le_of_ble_eq_true rfl) (Nat.le_of_ble_eq_true rfl) ?_
  refine A_iadd dX10_smooths_10 ?_
  exact A_iret dX10_smooths_11 rfl (⟨rfl, rfl⟩)
