/-! LAMBDAS 4: a lambda that calls a method of what it holds first -/
section LRunV

variable {p : Program} {l : Launch} {e : Env} {R : Room} {s : State} {m : MethodId} {args : Array Value} {below : List Frame} {meth : Method} {c : Code} {T : State} {locs : List Loc} {cells slots : Nat}
/-- the rule's method: it pushes what the object holds, its argument; it calls a method of the first of them; it returns what that has returned -/
theorem la_runV (X : Stand p l e R s m args below meth c T locs cells slots) (hexec : p.tables.exec = Jvm.exec) {g : JFrame} (hg : g.method = m) (hsize : g.locals.size = c.maxLocals) {ig : Instr} {len : Nat} (hdg : decode c.code g.pc = .ok (ig, len))
    {mk : MethodId} {methk : Method} {ck : Code} (hmk : T.vm.method? mk = some methk) (hck : methk.code = some ck) {kc : ByteArray} (hbytes : ck.code = kc) (hml : ck.maxLocals = 2) (hlk : methk.locks = false) (hpk : T.plainMethod mk) (hretk : methk.sig.returnType = some .boolean)
    {a q bR : Addr} {cs caps : List Value} (hcs : caps = .ref bR :: cs) {cellK cellB : Cell} (hcellB : T.heap[bR]? = some cellB) (hobjB : ∀ k, cellB.vm ≠ .statics k) (hcellK : T.heap[a]? = some cellK) (hknown : cellK.vm ≠ .unknown) {fx : Nat → Nat} (hF : ∀ j, j < caps.length → ∃ f0, T.vm.fieldReady mk.cls (fx j) mk.cls f0 ∧ f0.isStatic = false ∧ f0.slot = j) (hsl : cellK.slots = caps.toArray)
    (hdec : ∀ j, j < caps.length → decode kc (4 * j) = .ok (.aload_n 0, 1) ∧ decode kc (4 * j + 1) = .ok (.getfield (fx j), 3)) (hdl : decode kc (4 * caps.length) = .ok (.aload_n 1, 1)) {ix : Nat} (hdi : decode kc (4 * caps.length + 1) = .ok (.invokevirtual ix, 3)) (hdr : decode kc (4 * caps.length + 1 + 3) = .ok (.ireturn, 1))
    {t : MethodId} {kt : Class} {metht : Method} (href : namesAClass T mk.cls ix) (hready : T.vm.methodReady mk.cls ix t) (hkt : T.vm.classes[t.cls]? = some kt) (hmt : T.vm.method? t = some metht) (hpoly : signaturePolymorphic kt metht = false) (hstatic : metht.isStatic = false) (hitf : kt.isInterface = false) (habs : metht.isAbstract = false) (hsel : selectMethod e.platform T.vm cellB.cls t = .method t) (hpar : metht.sig.parameters.length = cs.length + 1)
    {R' : Room} {y : MethodName} {W9 mc ms : Nat} {Pc : Array Value → State → Prop} {Qc : Array Value → State → Outcome → State → Prop} {free : Addr → Prop} {PostX : Pt → Array Value → Addr → Pt → Prop}
    (hK : vx_Back l R' p e (.java g :: below) (T.calling g mk #[Value.ref a, Value.ref q]) #[Value.ref a, Value.ref q] y 3 W9 (PreOf R' mc ms Pc) (PostOf Qc mc ms free) PostX) (hPX : ∀ A z w B, ¬ PostX A z w B) (hnm : T.methodNamed? y = some t)
    (hmc : mc ≤ R'.cells ∧ ms ≤ R'.slots) (hpre : ∀ U : State, U.heap = T.heap → U.vm = T.vm → Pc (caps ++ [Value.ref q]).toArray U) (hpv : ∀ u o w, Qc (caps ++ [Value.ref q]).toArray u (.returned o) w → ∃ r : Int32, o = some (.int r) ∧ narrow .boolean (.int r) = .int r)
    (hframes : R'.frames + 1 ≤ R.frames) (hlocals : 2 * g.monitorRoom + (g.stack.map fun v => v.category).sum + (ck.maxLocals + 11) + R'.locals ≤ R.locals) (hcells : cells + R'.cells ≤ R.cells) (hslots : slots + R'.slots ≤ R.slots) :
    ∃ (r : Int32) (u w T' : State) (L : List Loc), Qc (caps ++ [Value.ref q]).toArray u (.returned (some (.int r))) w ∧ (∀ z ∈ L, free z.base) ∧ Stand p l e R s m args below meth c T' (locs ++ L) (cells + mc) (slots + ms) ∧ T'.heap = w.heap ∧ T.WarmedH T'.vm ∧
      ∀ acts, Steps p.tables e below (doInvoke e (T.setTop g) acts mk #[Value.ref a, Value.ref q]).1 (T'.setTop { g with pc := g.pc + len, stack := .int r :: g.stack }) := by
  obtain ⟨Y₀, hin⟩ := X.into hg hsize hdg #[Value.ref a, Value.ref q] (R' := R') hmk hck hlk hpk hframes hlocals hcells hslots
  generalize hU : (T.setTop g).pushFrame (.java (entryFrame mk #[Value.ref a, Value.ref q] ck.maxLocals)) = U at Y₀ hin
  have hvm : U.vm = T.vm := by rw [← hU]; rfl
  have hheap : U.heap = T.heap := by rw [← hU]; rfl
  have hs : U.topJava?.isSome := Y₀.here.top
  have hcallW := hK mk methk ck ⟨U, [], 0, 0⟩ { method := mk, pc := 4 * caps.length + 1, locals := #[.val (.ref a), .val (.ref q)], stack := [], locked := none } (.invokevirtual ix) t (caps ++ [Value.ref q]).toArray Y₀ rfl (by rw [hml]; rfl) (by rw [hbytes]; exact hdi) (by exact Nat.zero_le _)
    (by show U.methodNamed? y = some t; unfold State.methodNamed? at hnm ⊢; rw [hvm]; exact hnm) ⟨by show 0 + mc ≤ _; omega, by show 0 + ms ≤ _; omega, hpre U hheap hvm⟩
  rcases hcallW with ⟨v, ⟨U', l2, c2, s2⟩, Y₁, ⟨g', mk', w, L, e1, e2, hq, h1, hL, h2, h3⟩, hsteps⟩ | ⟨w, B, Y₁, hX, hsteps⟩
  case inr => exact absurd hX (hPX _ _ _ _)
  dsimp only [Pt.U, Pt.locs, Pt.cells, Pt.slots] at Y₁ e1 e2 h1 h2 h3 hsteps
  obtain ⟨r, rfl, hnar⟩ := hpv _ _ _ hq
  subst h1; subst h2; subst h3
  obtain ⟨fs, hleave, -, hended, hWe, hsame⟩ := Y₁.leave (v := some (.int r)) (fun h => by rw [hretk] at h; cases h) hlk
  obtain ⟨T', X', hW', hB, ht⟩ := X.outOf hg hdg hended hWe hsame
  have hTh : T'.heap = w.heap := by
    rw [← e1]
    have := congrArg State.heap ht
    exact this.symm
  refine ⟨r, _, w, T', l2, hq, hL, ?_, hTh, hW', fun acts => ?_⟩
  · simpa using X'
  rw [hin acts]
  show Steps p.tables e below _ (T'.setTop { g with pc := g.pc + len, stack := (some (Value.int r)).toList ++ g.stack })
  rw [← ht]
  refine la_weaken (mid := [.java g]) ?_
  have hloc : entryFrame mk #[Value.ref a, Value.ref q] ck.maxLocals = { method := mk, pc := 0, locals := #[.val (.ref a), .val (.ref q)], stack := [], locked := none } := by rw [hml]; rfl
  rw [hloc]
  have hs' : U'.topJava?.isSome := Y₁.here.top
  have push : ∀ j, j ≤ caps.length → Steps p.tables e (.java g :: below) (U.setTop { method := mk, pc := 4 * j, locals := #[.val (.ref a), .val (.ref q)], stack := (caps.take j).reverse, locked := none }) (U'.setFrames fs) → Steps p.tables e (.java g :: below) (U.setTop { method := mk, pc := 0, locals := #[.val (.ref a), .val (.ref q)], stack := [], locked := none }) (U'.setFrames fs) := by
    intro j
    induction j with
    | zero => intro _ h; exact h
    | succ j ih =>
      intro hj h
      refine ih (by omega) ?_
      obtain ⟨d1, d2⟩ := hdec j (by omega)
      obtain ⟨f0, hf, hfs, hfl⟩ := hF j (by omega)
      have hjl : j < caps.length := by omega
      have hv : cellK.slots[f0.slot]? = some caps[j] := by rw [hsl, hfl]; simp
      have et : (caps.take (j + 1)).reverse = caps[j] :: (caps.take j).reverse := by rw [List.take_succ_eq_append_getElem hjl, List.reverse_append]; rfl
      have e4 : 4 * (j + 1) = 4 * j + 1 + 3 := by omega
      rw [et, e4] at h
      jvm_step Y₀.here [hexec, hbytes, d1, Value.isRef]
      jvm_step Y₀.here [hexec, hbytes, d2, getfield.wp_ready (e := e) (s := U) (c := mk.cls) (field := f0) (a := a) (rest := (caps.take j).reverse) (cell := cellK) (v := caps[j])
        (f := { method := mk, pc := 4 * j + 1, locals := #[.val (.ref a), .val (.ref q)], stack := .ref a :: (caps.take j).reverse, locked := none }) hs (by rw [hvm]; exact hf) hfs rfl (by rw [hheap]; exact hcellK) hknown hv]
      exact h
  refine push caps.length (Nat.le_refl _) ?_
  rw [List.take_length]
  jvm_step Y₀.here [hexec, hbytes, hdl, Value.isRef]
  jvm_step Y₀.here [hexec, hbytes, hdi, invokevirtual.wp_ready (e := e) (s := U) (r := t) (m := t) (k := kt) (mk := kt) (rmeth := metht) (meth := metht) (a := bR) (args := cs ++ [.ref q]) (rest := []) (cell := cellB)
    (f := { method := mk, pc := 4 * caps.length + 1, locals := #[.val (.ref a), .val (.ref q)], stack := .ref q :: caps.reverse, locked := none }) hs (by rw [← hU]; exact href) (by rw [hvm]; exact hready) (by rw [hvm]; exact hkt) (by rw [hvm]; exact hmt) hpoly hstatic (by rw [hpar]; simp) (by rw [hcs]; simp)
    (by rw [hheap]; exact hcellB) hobjB (by rw [hvm]; exact hsel) (by rw [hvm]; exact hmt) habs (by rw [hvm]; exact hkt) hitf]
  intro acts'
  rw [doInvoke_state]
  have hargs : (Value.ref bR :: (cs ++ [Value.ref q])).toArray = (caps ++ [Value.ref q]).toArray := by rw [hcs]; rfl
  rw [hargs]
  refine hsteps.trans ?_
  show Steps p.tables e (.java g :: below) (U'.setTop { method := mk, pc := 4 * caps.length + 1 + 3, locals := #[.val (.ref a), .val (.ref q)], stack := [.int r], locked := none }) _
  jvm_step Y₁.here [hs', hexec, hbytes, hdr, Y₁.method', hretk, hnar]
  intro acts''
  rw [hleave { method := mk, pc := 4 * caps.length + 1 + 3, locals := #[.val (.ref a), .val (.ref q)], stack := [], locked := none } acts'' rfl rfl rfl]
  exact Steps.refl _
end LRunV
section AHoldsV
variable {l : Launch} {g : GC} {mi : MI} {d b : Nat} {Q : Option Value → AH → Prop} {X : String → Nat → AH → Prop} {pc : Nat} {L : List (Nat × Value)} {st : List Value} {σ : AH}
theorem A_holdsV {mi' : MI} {d' k' b' : Nat} {Q' : Option Value → AH → Prop} {i a q bR : Nat} {cs caps : List Value} (hcs : caps = .ref bR :: cs) {fsB : List Value} (hB : σ.1 bR = some (.inr (.inl (4, fsB)))) (hBc : mi'.1.cls = "FlagLaundry$World") {x : MethodName} {pcS ixS : Nat} {sh : Lambda.Shape} {kc : ByteArray} {fx : List Nat} {ixK ciK ntK cnK : Nat}
    (hi : g_sites[i]? = some (.lambdaSite x pcS ixS sh)) (hf : Cond.lambdaSite x pcS ixS sh ∈ flatC (Jvm.Cond.and given_1 narrow_1)) (hchk : la_chk x.cls sh caps.length kc fx ixK ciK ntK cnK = true)
    (hsh : sh.iface = "FlagLaundry$Test" ∧ sh.name = "holds" ∧ sh.sam.toString = "(LFlagLaundry$Flag;)Z" ∧ sh.implItf = false) (hpl : plainName (x.cls ++ "$$Lambda") = true) (hy : (⟨sh.implClass, sh.implName, sh.implDesc.toString⟩ : MethodName) = mi'.1)
    (hdec : ∀ j, j < caps.length → decode kc (4 * j) = .ok (.aload_n 0, 1) ∧ decode kc (4 * j + 1) = .ok (.getfield (fx.getD j 0), 3)) (hdl : decode kc (4 * caps.length) = .ok (.aload_n 1, 1)) (hdi : decode kc (4 * caps.length + 1) = .ok (.invokevirtual ixK, 3)) (hdr : decode kc (4 * caps.length + 1 + 3) = .ok (.ireturn, 1))
    (hM : AMet l g mi' d' k' (caps ++ [.ref q]) σ Q' A_no) (hm : A_MV mi' (cs.length + 1)) (hO : lamO g σ i caps a) (hQ : ∀ v τ, Q' v τ → ∃ r : Int32, v = some (.int r) ∧ narrow .boolean (.int r) = .int r)
    {ix cnt : Nat} (hq : Cond.methodLink mi.1.cls ix ⟨"FlagLaundry$Test", "holds", "(LFlagLaundry$Flag;)Z"⟩ ∈ lw_all)
    (hd : decode mi.2.1 pc = .ok (.invokeinterface ix cnt, 5)) (hdp : d' + 2 ≤ d) (hk : k' + b' ≤ b) (hw : (st.map fun v => v.category).sum ≤ 8)
    (kk : ∀ v τ, Q' v τ → AW l g mi d b' Q X (pc + 5) L (v.toList ++ st) τ) : AW l g mi d b Q X pc L (.ref q :: .ref a :: st) σ := by
  intro p e R s m args below meth c H locs cells slots ls C hP hL hl
  obtain ⟨y, cc, nL, ret, hs⟩ := mi'
  obtain ⟨m1, mSel, m2, m3, m4, ⟨m5, m5', m5''⟩, m6⟩ := hm
  have mSel : Cond.selects y.cls y y ∈ lw_all := mSel
  have hBc : y.cls = "FlagLaundry$World" := hBc
  have m4 : hs = [] := m4
  subst m4
  have m6 : nL ≤ 21 := m6
  have m1 : Cond.instanceMethod y ∈ lw_all := m1
  have m2 : Cond.initialized y.cls ∈ lw_all := m2
  have m3 : Cond.code y cc nL ret ∈ lw_all := m3
  have m5 : y.cls ≠ "java/lang/invoke/MethodHandle" := m5
  have m5' : y.cls ≠ "java/lang/invoke/VarHandle" := m5'
  have hy : (⟨sh.implClass, sh.implName, sh.implDesc.toString⟩ : MethodName) = y := hy
  have hc9 := C
  obtain ⟨hx, hb, hr, hlk, hml, hown, hts, hg, hW, ⟨h10, h10'⟩, ⟨h11, h11'⟩, hnm, h13⟩ := C
  obtain ⟨cK, one, hat⟩ := la_of hg hf
  obtain ⟨cell, hcell, hcls, hcvm, hcsl⟩ := lamO_cell hg hP hO hi hat
  obtain ⟨mS, kS, cfS, i0, p0, lk, hmS, hkS, -, -, -, -, hmade, hcall, -⟩ := State.lambdaAt?_spec hat
  obtain ⟨kN, hkN, hnameN⟩ := className_of_methodNamed hmS
  cases hkS.symm.trans hkN
  have hmade1 := Lambda.isMade_warmer hW hmade
  have hcall1 : s.lambdaCallable sh cK = true := by
    have hA := hW.alike
    simp only [State.lambdaCallable, hA.findClass, hA.assignable, hA.superclasses, hA.declaredIn] at hcall ⊢
    exact hcall
  obtain ⟨r0, r, hn0, hrm0, hstR, hsigR⟩ := Cond.declares_spec (hg.2.1 _ q1204)
  have hn : s.methodNamed? ⟨"FlagLaundry$Test", "holds", "(LFlagLaundry$Flag;)Z"⟩ = some r0 := (State.methodNamed?_setVm (s := g.1) hW.alike _).trans hn0
  have hrm : s.vm.method? r0 = some r := by rw [hW.alike.method?]; exact hrm0
  obtain ⟨cL, kL0, r1, hcL0, hkL0, hiL0, hfoundL0, hn1⟩ := Cond.interfaceMethod_spec (hg.2.1 _ q1203)
  cases hn0.symm.trans hn1
  have hcL : s.vm.findClass "FlagLaundry$Test" = some cL := by rw [hW.alike.findClass]; exact hcL0
  obtain ⟨kL, hkL, heL⟩ := hW.alike.2.2 _ _ hkL0
  have hiL : kL.isInterface = true := by rw [heL]; exact hiL0
  have hfoundL : s.methodFound? "FlagLaundry$Test" "holds" "(LFlagLaundry$Flag;)Z" = some r0 := (State.methodFound?_setVm (s := g.1) hW.alike _ _ _).trans hfoundL0
  have hr0cls : r0.cls = cL := Option.some.inj ((findClass_of_methodNamed hn).symm.trans hcL)
  obtain ⟨hnameR, hdescR⟩ := name_of_methodNamed hn hrm
  obtain ⟨kS', hkS', heS⟩ := hW.alike.2.2 _ _ hkS
  have hnameS' : kS'.name = x.cls := by rw [heS]; exact hnameN
  have hO1 : ∀ {vm : Vm}, s.WarmedH vm → ∀ o ok, vm.findClass "java/lang/Object" = some o → vm.classes[o]? = some ok → ok.instanceTypes.size = 0 := by
    intro vm hWv o ok ho hok
    obtain ⟨cO, kO, hfO, hkO, -, -, -, hsz⟩ := Cond.instantiable_spec (hts _ q3036)
    rw [hWv.alike.findClass, hfO] at ho
    cases ho
    obtain ⟨k', hk', he'⟩ := hWv.alike.2.2 _ _ hkO
    cases hk'.symm.trans hok
    rw [he']
    exact hsz
  obtain ⟨-, -, -, -, -, -, -, iface', -, -, -, -, found, -, -, -, -, -, hi', -, -, -, -, -, -, hfound', -, -, -, -, -, -, -, -, -, -, hsel⟩ := Lambda.isMade_spec hmade1
  rw [hsh.1] at hi'
  cases hcL.symm.trans hi'
  have hfr : found = r0 := by
    have h1 : s.methodFound? "FlagLaundry$Test" "holds" "(LFlagLaundry$Flag;)Z" = some r0 := hfoundL
    simp only [State.methodFound?, hcL, hkL, hiL, Option.bind_eq_bind, Option.bind_some] at h1
    rw [hsh.2.1, hsh.2.2.1] at hfound'
    rw [hfound'] at h1
    exact Option.some.inj h1
  subst hfr
  obtain ⟨i2, hi2, hasg, hway⟩ := State.lambdaCallable_spec hcall1
  rw [hsh.1] at hi2
  cases hcL.symm.trans hi2
  rw [hsh.2.1, hsh.2.2.1] at hway
  intro T hT Xs
  obtain ⟨k, -, -, methk, -, -, -, hkc, -, -, -, hmk, -, -, -, -, hfl, -⟩ := la_facts hchk hkS' hnameS' hmade1 (hO1 (State.WarmedH.refl s)) hsh.2.2.2
  have hselP : selectMethod e.platform s.vm cell.cls found = .method ⟨cK, 1⟩ := by rw [Launch.admits_selectMethod Xs.admits, hcls]; exact hsel
  obtain ⟨vm₁, X₁, hstep₁⟩ := Xs.invokeinterface hx hown (hts _ hq) hn hrm hstR (by rw [hr0cls]; exact hkL) hiL (by decide) (a := a) (cell := cell) (kcell := k) (by rw [hT]; exact hcell)
    (fun z h => by rw [hcvm] at h; cases h) (by rw [hcls]; exact hkc) (by rw [hcls, hr0cls]; exact hasg) hselP hmk (by rw [hnameR, hdescR, hcls]; exact hway) (by rw [hfl]; decide) (by simp [Method.isAbstract, hfl, hasFlag, Acc.abstract]) (g := F0 m pc ls (.ref q :: .ref a :: st)) rfl (argsL := [.ref q]) (rest := st)
    (by
      have hp2 : r.sig = ⟨[.object "FlagLaundry$Flag"], some .boolean⟩ := (Option.some.inj ((show parseMethodDescriptor "(LFlagLaundry$Flag;)Z" = some ⟨[.object "FlagLaundry$Flag"], some .boolean⟩ by decide +kernel).symm.trans hsigR)).symm
      rw [hp2]
      rfl) rfl (by rw [hb]; exact hd)
  have hW1 : s.WarmedH vm₁ := X₁.warmed
  obtain ⟨kS1, hkS1, heS1⟩ := hW1.alike.2.2 _ _ hkS'
  obtain ⟨k1, tk, file, methk1, ck, tc, t, hkc1, hkn1, hfile, ⟨hpM, hpN⟩, hmk1, hck, hbytes, hckml, hlk1, hfl1, hret1, htc, htk, htki, hask, hready, hclsR, hF⟩ := la_facts hchk hkS1 (by rw [heS1]; exact hnameS') (Lambda.isMade_warmer hW1 hmade1) (hO1 hW1) hsh.2.2.2
  obtain ⟨mT, hnamed⟩ := Cond.code_named (hts _ m3)
  obtain ⟨metht, cM, hmetht, -, -, -, -, -, -, hsigM⟩ := Cond.code_spec hnamed (hts _ m3)
  obtain ⟨mI, methI, hnamedI, hmethI, hstI, habI⟩ := Cond.instanceMethod_spec (hts _ m1)
  cases hnamed.symm.trans hnamedI
  cases hmetht.symm.trans hmethI
  obtain ⟨c2, r2, mI2, g1, g2, g3, g4, -⟩ := Cond.selects_spec (hts _ mSel)
  cases hnamed.symm.trans g3
  have hr2 : mT = r2 := (Option.some.inj (g2.symm.trans (State.methodFound?_of_named hnamed ⟨m5, m5'⟩))).symm
  subst hr2
  obtain ⟨cellB, hcellB, hstB, hclB⟩ := A_recv (ci := 4) hg hW hP hB (r := (RX5, TX5, 15)) rfl
  have hcB : c2 = cellB.cls := Option.some.inj (g1.symm.trans (by rw [hBc]; exact hclB))
  subst hcB
  obtain ⟨kP, hkP, hnP⟩ := className_of_methodNamed hnamed
  have hinitP : kP.init = .initialized := Cond.initialized_spec (findClass_of_methodNamed hnamed) hkP (hts _ m2)
  obtain ⟨kP1, hkP1, heP⟩ := hW1.alike.2.2 _ _ hkP
  have hnm1 : (T.setVm vm₁).methodNamed? y = some mT := X₁.named hnamed
  have hyc : y.cls = sh.implClass := by rw [← hy]
  have hcT : vm₁.findClass sh.implClass = some mT.cls := by rw [← hyc]; exact findClass_of_methodNamed hnm1
  have htcT : tc = mT.cls := Option.some.inj (htc.symm.trans hcT)
  subst htcT
  have htkP : tk = kP1 := Option.some.inj (htk.symm.trans hkP1)
  subst htkP
  have htT : t = mT := by
    have hmf := State.methodFound?_of_named hnm1 ⟨m5, m5'⟩
    rw [← hy] at hmf
    have hmf : (vm₁.findClass sh.implClass).bind (fun c => (vm₁.classes[c]?).bind (fun k => ((methodIn c sh.implName sh.implDesc.toString k.isInterface none).ask { classPath := fun _ => none } vm₁).1.toOption)) = some mT := hmf
    rw [htc, Option.bind_some, htk, Option.bind_some, hask] at hmf
    exact Option.some.inj hmf
  subst htT
  have htn : tk.name = y.cls := by rw [heP]; exact hnP
  have hpoly : ∀ z, signaturePolymorphic tk z = false := fun z => by simp [signaturePolymorphic, htn, m5, m5']
  have hmetht1 : vm₁.method? t = some metht := by rw [hW1.alike.method?]; exact hmetht
  have hinit1 : tk.init = .initialized := by rw [heP]; exact hinitP
  have hpar : metht.sig.parameters.length = cs.length + 1 := by
    have m5'' : (parseMethodDescriptor y.desc).map (fun d => d.parameters.length) = some (cs.length + 1) := m5''
    rw [hsigM] at m5''
    exact Option.some.inj m5''
  obtain ⟨bb, hmem⟩ := memberRef_ask' (e := e) (vm := vm₁) (d := cK) (index := ixK) hkc1 hfile (Or.inl hpM) hpN
  have hCl : (State.calling (T.setVm vm₁) (F0 m pc ls st) ⟨cK, 1⟩ #[Value.ref a, Value.ref q]).vm = vm₁ := rfl
  have hK : vx_Back l { frames := d' + 1, cells := k', slots := 4 * k', locals := 8 + (nL + 11) + (3200 + 40 * d') } p e (.java (F0 m pc ls st) :: below) ((T.setVm vm₁).calling (F0 m pc ls st) ⟨cK, 1⟩ #[Value.ref a, Value.ref q]) #[Value.ref a, Value.ref q] y 3 8 (PreOf _ k' (4 * k') (fun v U => v = (caps ++ [Value.ref q]).toArray ∧ g_H l g σ U)) (PostOf (A_q g Q') k' (4 * k') (fun q => g.1.heap.size ≤ q)) (vx_Post (A_x g A_no) k' (4 * k') (fun q => g.1.heap.size ≤ q)) :=
    vx_back (bytes := cc) (maxL := nL) (ret := ret) hM A_blind rfl rfl (Nat.le_refl _) (Nat.le_refl _)
      (fun w hw9 a' U hU => word_at (State.WarmedH.trans hW1 hU) (lw_meth m3 w hw9).2 (hts w (lw_meth m3 w hw9).1)) List.mem_cons_self
      (fun a' U hU => word_at (State.WarmedH.trans hW1 hU) (Or.inl (by first | rfl | simp [Cond.onTables, Cond.keeps, Cond.steady])) (hts _ m2))
  obtain ⟨r9, u9, w9, T', L', hq9, hL9, X', hTh, hWT, hsteps⟩ := la_runV X₁ hx (g := F0 m pc ls st) rfl (hl.1.trans hml.symm) (by rw [hb]; exact hd) (mk := ⟨cK, 1⟩) hmk1 hck hbytes hckml hlk1 (State.plainMethod.of_name (fun k' hk' => by cases hkc1.symm.trans hk'; rw [hkn1]; exact hpl)) hret1
    (a := a) (q := q) (bR := bR) (cs := cs) (caps := caps) hcs (cellK := cell) (cellB := cellB) (by show T.heap[bR]? = _; rw [hT]; exact hcellB) (fun z h => by rw [h] at hstB; cases hstB) (by show T.heap[a]? = _; rw [hT]; exact hcell) (by rw [hcvm]; exact fun h => nomatch h) (fx := fun j => fx.getD j 0) hF hcsl hdec hdl hdi hdr
    (t := t) (kt := tk) (metht := metht) ⟨_, _, ciK, _, t.cls, tk, hkc1, hfile, hpM, hclsR, htk, htki⟩ hready htk hmetht1 (hpoly _) hstI htki habI (by show selectMethod e.platform vm₁ cellB.cls t = .method t; rw [Launch.admits_selectMethod Xs.admits, hW1.alike.selectMethod]; exact g4) hpar
    hK (fun A z w B hX => by obtain ⟨_, _, _, _, _, _, _, _, ⟨_, h9, _⟩, _⟩ := hX; exact h9) hnm1 ⟨Nat.le_refl _, Nat.le_refl _⟩
    (fun U hU hV => ⟨rfl, hg, State.WarmedH.trans hW (by rw [hV]; exact hW1), by rw [hU]; show g_P g σ T.heap; rw [hT]; exact hP⟩)
    (fun u o w hz => by obtain ⟨v, τ, e1, e2, e3⟩ := hz; cases e1; exact hQ _ _ e2)
    (by show d' + 1 + 1 ≤ R.frames; omega) (by rw [hckml]; show 2 * 0 + (st.map fun v => v.category).sum + (2 + 11) + (8 + (nL + 11) + (3200 + 40 * d')) ≤ R.locals; omega) (by show cells + k' ≤ R.cells; omega) (by show slots + 4 * k' ≤ R.slots; omega)
  obtain ⟨v, τ, e1, e2, e3⟩ := hq9
  cases e1
  have hC' : A_ctx l g mi d b' p R s m args meth c (cells + k') (slots + 4 * k') := by
    obtain ⟨c1, c2, c3, c4, c5, c6, c7, c8, c9, c10, ⟨c11, c12⟩, c13⟩ := hc9
    exact ⟨c1, c2, c3, c4, c5, c6, c7, c8, c9, c10, ⟨by omega, by omega⟩, c13⟩
  have hLL : ∀ z ∈ locs ++ L', g.1.heap.size ≤ z.base := fun z hz => (List.mem_append.mp hz).elim (hL z) (hL9 z)
  obtain ⟨t2, a1, b1⟩ := kk _ τ e2 p e R s m args below meth c T'.heap (locs ++ L') _ _ ls hC' (by rw [hTh]; exact e3) hLL hl T' rfl X'
  exact ⟨t2, hstep₁ _ (fun acts => (hsteps acts).trans a1), b1⟩
end AHoldsV
