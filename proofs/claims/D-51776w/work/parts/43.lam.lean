/-! LAMBDAS: the sites; an invokedynamic that yields the constant; one that makes an object; a call of 'holds' -/
theorem la_plat {l : Launch} {e : Env} (h : l.admits e) : e.platform.lambdaLinkWords = 3072 := by
  have := h.2.2.2.2.1
  rw [this]
theorem la_m15 {α : Type} {x : Array Nat} {f : Nat → Nat → Nat → Option α} {r : α} (h : Lambda.shapeOf?.match_15 (fun _ => Option α) x f (fun _ => none) = some r) : ∃ a0 a1 a2, f a0 a1 a2 = some r := by
  obtain ⟨xs⟩ := x
  rcases xs with _ | ⟨a0, _ | ⟨a1, _ | ⟨a2, _ | ⟨a3, xr⟩⟩⟩⟩
  case nil => exact nomatch (show (none : Option α) = some r from h)
  case cons.nil => exact nomatch (show (none : Option α) = some r from h)
  case cons.cons.nil => exact nomatch (show (none : Option α) = some r from h)
  case cons.cons.cons.cons => exact nomatch (show (none : Option α) = some r from h)
  case cons.cons.cons.nil => exact ⟨a0, a1, a2, h⟩
theorem la_site {cf : ClassFile} {index : Nat} {σ : Lambda.Shape} (h : Lambda.shapeOf? cf index = some σ) :
    ∃ (b nt : Nat) (desc : String) (site : MethodDescriptor), cf.constantPool[index]? = some (.invokeDynamic b nt) ∧ cf.constantPool.nameAndType? nt = some (σ.name, desc) ∧ parseMethodDescriptor desc = some site ∧ site.parameters = σ.captured := by
  unfold Lambda.shapeOf? at h
  split at h
  case h_2 => cases h
  case h_1 b nt hc =>
    obtain ⟨entries, -, h⟩ := Option.bind_eq_some_iff.mp h
    obtain ⟨bm, -, h⟩ := Option.bind_eq_some_iff.mp h
    split at h
    case h_2 => cases h
    case h_1 =>
      obtain ⟨_, -, h⟩ := Option.bind_eq_some_iff.mp h
      obtain ⟨a0, a1, a2, h⟩ := la_m15 h
      · skip
        split at h
        case h_2 => cases h
        case h_1 =>
          split at h
          case h_2 => cases h
          case h_1 =>
            split at h
            case h_2 => cases h
            case h_1 =>
              obtain ⟨⟨name, desc⟩, hnt, h⟩ := Option.bind_eq_some_iff.mp h
              obtain ⟨site, hsite, h⟩ := Option.bind_eq_some_iff.mp h
              split at h
              case h_2 => cases h
              case h_1 =>
                obtain ⟨⟨implClass, implName, implDesc, implItf⟩, -, h⟩ := Option.bind_eq_some_iff.mp h
                obtain ⟨x1, -, h⟩ := Option.bind_eq_some_iff.mp h
                obtain ⟨x2, -, h⟩ := Option.bind_eq_some_iff.mp h
                obtain ⟨x3, -, h⟩ := Option.bind_eq_some_iff.mp h
                obtain ⟨x4, -, h⟩ := Option.bind_eq_some_iff.mp h
                obtain ⟨x5, -, h⟩ := Option.bind_eq_some_iff.mp h
                cases h
                exact ⟨b, nt, desc, site, hc, hnt, hsite, rfl⟩
/-- a site's word -/
theorem la_of {l : Launch} {g : GC} (hg : g_ok l g) {x : MethodName} {pc ix : Nat} {sh : Lambda.Shape} (h : Cond.lambdaSite x pc ix sh ∈ flatC (Jvm.Cond.and given_1 narrow_1)) : ∃ c one, g.1.lambdaAt? x pc ix sh = some (c, one) := Cond.lambdaSite_spec (nw_of hg h)
/-- the constant of site i is the object a -/
def lamC (g : GC) (i a : Nat) : Prop := (g_La g i).2 = some a

/-- what the rule's class says, by the shape's own file -/
theorem la_made {e : Setting} {vm : Vm} {d c : ClassId} {sh : Lambda.Shape} {caller : String} {D : ClassFile} {dk : Class} (hd : vm.classes[d]? = some dk) (hname : dk.name = caller) (h : Lambda.isMade e vm d sh c = true) (hD : sh.file caller = some D)
    {fw : Method} (hfw : ∀ ms, layoutMethods D = some ms → ms[1]? = some fw) {kc : ByteArray} {ck0 : Code} (hfc : fw.code = some ck0) (h1 : ck0.code = kc) (h2 : ck0.maxLocals = 2) (hfl : fw.accessFlags = 0x0001) (hret : fw.sig.returnType = some .boolean)
    (hO : ∀ o ok, vm.findClass "java/lang/Object" = some o → vm.classes[o]? = some ok → ok.instanceTypes.size = 0) {laid : Array Field × Array FieldType × Array FieldType} (hlaid : layoutFields D 0 = some laid)
    {n : Nat} {fx : Nat → Nat} (hF : ∀ j, j < n → ∃ ci nt nm ds f0, D.constantPool[fx j]? = some (.fieldref ci nt) ∧ D.constantPool.nameAndType? nt = some (nm, ds) ∧ laid.1.findIdx? (·.name == nm) = some j ∧ laid.1[j]? = some f0 ∧ f0.isStatic = false ∧ f0.slot = j)
    {ix ci nt cn : Nat} (eM : D.constantPool[ix]? = some (.methodref ci nt) ∧ D.constantPool.className? ci = some sh.implClass ∧ D.constantPool.nameAndType? nt = some (sh.implName, sh.implDesc.toString))
    (eC : D.constantPool[ci]? = some (.class_ cn) ∧ D.constantPool.string? cn = some sh.implClass ∧ ci ≠ D.thisClass) (hitf : sh.implItf = false) :
    ∃ (k tk : Class) (file : ClassFile) (methk : Method) (ck : Code) (tc : ClassId) (t : MethodId),
      vm.classes[c]? = some k ∧ k.name = caller ++ "$$Lambda" ∧ k.cf = some file ∧ file.constantPool = D.constantPool ∧
      vm.method? ⟨c, 1⟩ = some methk ∧ methk.code = some ck ∧ ck.code = kc ∧ ck.maxLocals = 2 ∧ methk.locks = false ∧ methk.accessFlags = 0x0001 ∧ methk.sig.returnType = some .boolean ∧
      vm.findClass sh.implClass = some tc ∧ vm.classes[tc]? = some tk ∧ tk.isInterface = false ∧ ((methodIn tc sh.implName sh.implDesc.toString tk.isInterface none).ask e vm).1 = .ok t ∧
      vm.methodReady c ix t ∧ vm.classReady c ci tc ∧ ∀ j, j < n → ∃ f0, vm.fieldReady c (fx j) c f0 ∧ f0.isStatic = false ∧ f0.slot = j := by
  obtain ⟨dk', k, ok, tk, file, cf, object, iface, tc, lay, methods, target, found, hd', hk, hfile, hcf, hobj, -, hok, hlay, hms, ht, htk, hg, -, hrec, -, -, -, hitf', hpool, hmeth, hfields, -, hres, -⟩ := Lambda.isMade_spec h
  cases hd.symm.trans hd'
  rw [hname, hD] at hcf
  cases hcf
  rw [hO object ok hobj hok, hlaid] at hlay
  cases hlay
  obtain ⟨b, hb, hsame⟩ := hmeth 1 fw (hfw methods hms)
  obtain ⟨-, -, hsig, hfl', x, y, hx, hy, -, hml, hcode, -⟩ := Lambda.sameMethod_spec hsame
  cases hfc.symm.trans hx
  refine ⟨k, tk, file, b, y, tc, target, hk, by rw [hrec.1, hname], hfile, hpool.2.1, by simp [Vm.method?, hk, hb], hy, by rw [hcode]; exact h1, by rw [hml]; exact h2, ?_, by rw [hfl']; exact hfl, by rw [hsig]; exact hret, ht, htk, by rw [hitf']; exact hitf, hg,
    ⟨k, hk, hres ix _ (Lambda.resolvedOf_method eM.1 eM.2.1 ht htk eM.2.2 hg)⟩, ⟨k, hk, hres ci _ (Lambda.resolvedOf_class eC.1 eC.2.2 eC.2.1 ht)⟩, fun j hj => ?_⟩
  · simp [Method.locks, Method.isSynchronized, hfl', hfl, hasFlag, Acc.synchronized]
  · obtain ⟨ci, nt, nm, ds, f0, q1, q2, q3, q4, q5, q6⟩ := hF j hj
    exact ⟨f0, ⟨k, j, k, hk, hres (fx j) _ (Lambda.resolvedOf_field q1 q2 q3), hk, hfields j _ q4⟩, q5, q6⟩
section ALam
variable {l : Launch} {g : GC} {mi : MI} {d b : Nat} {Q : Option Value → AH → Prop} {X : String → Nat → AH → Prop} {pc : Nat} {L : List (Nat × Value)} {st : List Value} {σ : AH}
theorem la_named {s : State} (hW : g.1.WarmedH s.vm) {x : MethodName} {m : MethodId} (h : s.methodNamed? x = some m) : g.1.methodNamed? x = some m := (State.methodNamed?_setVm (s := g.1) hW.alike x).symm.trans h
theorem A_indyC {i ix : Nat} {sh : Lambda.Shape} (hi : g_sites[i]? = some (.lambdaSite mi.1 pc ix sh)) (hf : Cond.lambdaSite mi.1 pc ix sh ∈ flatC (Jvm.Cond.and given_1 narrow_1)) (hcap : sh.captured = []) (hd : decode mi.2.1 pc = .ok (.invokedynamic ix, 5)) (hw : (st.map fun v => v.category).sum ≤ 100) (kk : ∀ a, lamC g i a → AW l g mi d b Q X (pc + 5) L (.ref a :: st) σ) : AW l g mi d b Q X pc L st σ := by
  intro p e R s m args below meth c H locs cells slots ls C hP hL hl
  have hc := C
  obtain ⟨hx, hb, hr, hlk, hml, hown, hts, hg, hW, ⟨h10, h10'⟩, h11, hnm, h13, hmn⟩ := C
  obtain ⟨cK, one, hat⟩ := la_of hg hf
  obtain ⟨m', kS, cfS, i0, p0, lk, hm', hkS, -, -, -, hfind, -, -, hlk9⟩ := State.lambdaAt?_spec hat
  cases (la_named hW hmn).symm.trans hm'
  obtain ⟨a0, cell0, rfl, rfl, -, hcell0, hcls0, hvm0, hslots0⟩ : ∃ a0 cell0, lk = .constant a0 ∧ one = some a0 ∧ sh.captured = [] ∧ g.1.heap[a0]? = some cell0 ∧ cell0.cls = cK ∧ cell0.vm = .none ∧ cell0.slots = #[] := by
    rcases hlk9 with h | ⟨-, -, h⟩
    · exact h
    · exact absurd hcap h
  have hla : lamC g i a0 := by
    unfold lamC g_La
    rw [hi]
    show ((g.1.lambdaAt? mi.1 pc ix sh).getD (0, none)).2 = some a0
    rw [hat]
    rfl
  obtain ⟨k', hk', he'⟩ := hW.alike.2.2 _ _ hkS
  have hfind' : (k'.callSites.find? fun y => y.1 == m.idx && y.2.1 == pc) = some (i0, p0, .constant a0) := by rw [he']; exact hfind
  intro T hT Xs
  obtain ⟨t, t1, t2⟩ := kk a0 hla p e R s m args below meth c H locs cells slots ls hc hP hL hl T hT Xs
  exact ⟨t, Xs.lambdaConstant hx (g := F0 m pc ls st) rfl (hl.1.trans hml.symm) (by rw [hb]; exact hd) hk' hfind' (by rw [la_plat Xs.admits]; show 2 * 0 + (st.map fun v => v.category).sum + 3072 ≤ R.locals; omega) t1, t2⟩
end ALam
theorem la_weaken {tb : Tables} {e : Env} {mid below : List Frame} {a b : State} (h : Steps tb e (mid ++ below) a b) : Steps tb e below a b := Steps.weaken h
section LRun

variable {p : Program} {l : Launch} {e : Env} {R : Room} {s : State} {m : MethodId} {args : Array Value} {below : List Frame} {meth : Method} {c : Code} {T : State} {locs : List Loc} {cells slots : Nat}
/-- the rule's method: it pushes what the object holds, its argument; it calls a static method; it returns what that has returned -/
theorem la_run (X : Stand p l e R s m args below meth c T locs cells slots) (hexec : p.tables.exec = Jvm.exec) {g : JFrame} (hg : g.method = m) (hsize : g.locals.size = c.maxLocals) {ig : Instr} {len : Nat} (hdg : decode c.code g.pc = .ok (ig, len))
    {mk : MethodId} {methk : Method} {ck : Code} (hmk : T.vm.method? mk = some methk) (hck : methk.code = some ck) {kc : ByteArray} (hbytes : ck.code = kc) (hml : ck.maxLocals = 2) (hlk : methk.locks = false) (hpk : T.plainMethod mk) (hretk : methk.sig.returnType = some .boolean)
    {a q : Addr} {caps : List Value} {cellK : Cell} (hcellK : T.heap[a]? = some cellK) (hknown : cellK.vm ≠ .unknown) {fx : Nat → Nat} (hF : ∀ j, j < caps.length → ∃ f0, T.vm.fieldReady mk.cls (fx j) mk.cls f0 ∧ f0.isStatic = false ∧ f0.slot = j) (hsl : cellK.slots = caps.toArray)
    (hdec : ∀ j, j < caps.length → decode kc (4 * j) = .ok (.aload_n 0, 1) ∧ decode kc (4 * j + 1) = .ok (.getfield (fx j), 3)) (hdl : decode kc (4 * caps.length) = .ok (.aload_n 1, 1)) {ix : Nat} (hdi : decode kc (4 * caps.length + 1) = .ok (.invokestatic ix, 3)) (hdr : decode kc (4 * caps.length + 1 + 3) = .ok (.ireturn, 1))
    {t : MethodId} {kt : Class} {metht : Method} (href : plainRef T e mk.cls ix) (hready : T.vm.methodReady mk.cls ix t) (hkt : T.vm.classes[t.cls]? = some kt) (hmt : T.vm.method? t = some metht) (hpoly : signaturePolymorphic kt metht = false) (hstatic : metht.isStatic = true) (hinit : kt.init = .initialized) (hpar : metht.sig.parameters.length = caps.length + 1)
    {R' : Room} {y : MethodName} {W9 mc ms : Nat} {Pc : Array Value → State → Prop} {Qc : Array Value → State → Outcome → State → Prop} {free : Addr → Prop} {PostX : Pt → Array Value → Addr → Pt → Prop}
    (hK : vx_Back l R' p e (.java g :: below) (T.calling g mk #[Value.ref a, Value.ref q]) #[Value.ref a, Value.ref q] y 3 W9 (PreOf R' mc ms Pc) (PostOf Qc mc ms free) PostX) (hPX : ∀ A z w B, ¬ PostX A z w B) (hnm : T.methodNamed? y = some t)
    (hmc : mc ≤ R'.cells ∧ ms ≤ R'.slots) (hpre : ∀ U : State, U.heap = T.heap → U.vm = T.vm → Pc (caps ++ [Value.ref q]).toArray U) (hpv : ∀ u o w, Qc (caps ++ [Value.ref q]).toArray u (.returned o) w → ∃ r : Int32, o = some (.int r) ∧ narrow .boolean (.int r) = .int r)
    (hframes : R'.frames + 1 ≤ R.frames) (hlocals : 2 * g.monitorRoom + (g.stack.map fun v => v.category).sum + (ck.maxLocals + 11) + R'.locals ≤ R.locals) (hcells : cells + R'.cells ≤ R.cells) (hslots : slots + R'.slots ≤ R.slots) :
    ∃ (r : Int32) (u w T' : State) (L : List Loc), Qc (caps ++ [Value.ref q]).toArray u (.returned (some (.int r))) w ∧ (∀ z ∈ L, free z.base) ∧ Stand p l e R s m args below meth c T' (locs ++ L) (cells + mc) (slots + ms) ∧ T'.heap = w.heap ∧ T.WarmedH T'.vm ∧
      ∀ acts, Steps p.tables e below (doInvoke e (T.setTop g) acts mk #[Value.ref a, Value.ref q]).1 (T'.setTop { g with pc := g.pc + len, stack := .int r :: g.stack }) := by
  obtain ⟨Y₀, hin⟩ := X.into hg hsize hdg #[Value.ref a, Value.ref q] (R' := R') hmk hck hlk hpk hframes hlocals hcells hslots
  generalize hU : (T.setTop g).pushFrame (.java (entryFrame mk #[Value.ref a, Value.ref q] ck.maxLocals)) = U at Y₀ hin
  have hvm : U.vm = T.vm := by rw [← hU]; rfl
  have hheap : U.heap = T.heap := by rw [← hU]; rfl
  have hs : U.topJava?.isSome := Y₀.here.top
  have hcallW := hK mk methk ck ⟨U, [], 0, 0⟩ { method := mk, pc := 4 * caps.length + 1, locals := #[.val (.ref a), .val (.ref q)], stack := [], locked := none } (.invokestatic ix) t (caps ++ [Value.ref q]).toArray Y₀ rfl (by rw [hml]; rfl) (by rw [hbytes]; exact hdi) (by exact Nat.zero_le _)
    (by show U.methodNamed? y = some t; unfold State.methodNamed? at hnm ⊢; rw [hvm]; exact hnm) ⟨by show 0 + mc ≤ _; omega, by show 0 + ms ≤ _; omega, hpre U hheap hvm⟩
  rcases hcallW with ⟨v, ⟨U', l2, c2, s2⟩, Y₁, ⟨g', mk', w, L, e1, e2, hq, h1, hL, h2, h3⟩, hsteps⟩ | ⟨w, B, Y₁, hX, hsteps⟩
  case inr => exact absurd hX (hPX _ _ _ _)
  dsimp only [Pt.U, Pt.locs, Pt.cells, Pt.slots] at Y₁ e1 e2 h1 h2 h3 hsteps
  obtain ⟨r, rfl, hnar⟩ := hpv _ _ _ hq
  subst h1; subst h2; subst h3
  obtain ⟨fs, hleave, -, hended, hWe, hsame⟩ := Y₁.leave (v := some (.int r)) (fun h => by rw [hretk] at h; cases h) hlk
  obtain ⟨T', X', hW', hB, ht⟩ := X.outOf hg hdg hended hWe hsame
  have hTh : T'.heap = w.heap := by
    rw [← e1]
    have := congrArg State.heap ht
    exact this.symm
  refine ⟨r, _, w, T', l2, hq, hL, ?_, hTh, hW', fun acts => ?_⟩
  · simpa using X'
  rw [hin acts]
  show Steps p.tables e below _ (T'.setTop { g with pc := g.pc + len, stack := (some (Value.int r)).toList ++ g.stack })
  rw [← ht]
  refine la_weaken (mid := [.java g]) ?_
  have hloc : entryFrame mk #[Value.ref a, Value.ref q] ck.maxLocals = { method := mk, pc := 0, locals := #[.val (.ref a), .val (.ref q)], stack := [], locked := none } := by rw [hml]; rfl
  rw [hloc]
  have hs' : U'.topJava?.isSome := Y₁.here.top
  have push : ∀ j, j ≤ caps.length → Steps p.tables e (.java g :: below) (U.setTop { method := mk, pc := 4 * j, locals := #[.val (.ref a), .val (.ref q)], stack := (caps.take j).reverse, locked := none }) (U'.setFrames fs) → Steps p.tables e (.java g :: below) (U.setTop { method := mk, pc := 0, locals := #[.val (.ref a), .val (.ref q)], stack := [], locked := none }) (U'.setFrames fs) := by
    intro j
    induction j with
    | zero => intro _ h; exact h
    | succ j ih =>
      intro hj h
      refine ih (by omega) ?_
      obtain ⟨d1, d2⟩ := hdec j (by omega)
      obtain ⟨f0, hf, hfs, hfl⟩ := hF j (by omega)
      have hjl : j < caps.length := by omega
      have hv : cellK.slots[f0.slot]? = some caps[j] := by rw [hsl, hfl]; simp
      have et : (caps.take (j + 1)).reverse = caps[j] :: (caps.take j).reverse := by rw [List.take_succ_eq_append_getElem hjl, List.reverse_append]; rfl
      have e4 : 4 * (j + 1) = 4 * j + 1 + 3 := by omega
      rw [et, e4] at h
      jvm_step Y₀.here [hexec, hbytes, d1, Value.isRef]
      jvm_step Y₀.here [hexec, hbytes, d2, getfield.wp_ready (e := e) (s := U) (c := mk.cls) (field := f0) (a := a) (rest := (caps.take j).reverse) (cell := cellK) (v := caps[j])
        (f := { method := mk, pc := 4 * j + 1, locals := #[.val (.ref a), .val (.ref q)], stack := .ref a :: (caps.take j).reverse, locked := none }) hs (by rw [hvm]; exact hf) hfs rfl (by rw [hheap]; exact hcellK) hknown hv]
      exact h
  refine push caps.length (Nat.le_refl _) ?_
  rw [List.take_length]
  jvm_step Y₀.here [hexec, hbytes, hdl, Value.isRef]
  jvm_step Y₀.here [hexec, hbytes, hdi, invokestatic.wp_ready (e := e) (s := U) (m := t) (k := kt) (meth := metht) (args := caps ++ [.ref q]) (rest := [])
    (f := { method := mk, pc := 4 * caps.length + 1, locals := #[.val (.ref a), .val (.ref q)], stack := .ref q :: caps.reverse, locked := none }) hs (by rw [← hU]; exact href) (by rw [hvm]; exact hready) (by rw [hvm]; exact hkt) (by rw [hvm]; exact hmt) hpoly hstatic hinit (by rw [hpar]; simp) (by simp)]
  intro acts'
  rw [doInvoke_state]
  refine hsteps.trans ?_
  show Steps p.tables e (.java g :: below) (U'.setTop { method := mk, pc := 4 * caps.length + 1 + 3, locals := #[.val (.ref a), .val (.ref q)], stack := [.int r], locked := none }) _
  jvm_step Y₁.here [hs', hexec, hbytes, hdr, Y₁.method', hretk, hnar]
  intro acts''
  rw [hleave { method := mk, pc := 4 * caps.length + 1 + 3, locals := #[.val (.ref a), .val (.ref q)], stack := [], locked := none } acts'' rfl rfl rfl]
  exact Steps.refl _
end LRun
