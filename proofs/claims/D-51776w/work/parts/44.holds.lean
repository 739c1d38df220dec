/-! LAMBDAS 2: a call of 'holds' on a lambda's object -/
def la_chk (caller : String) (sh : Lambda.Shape) (n : Nat) (kc : ByteArray) (fx : List Nat) (ix ci nt cn : Nat) : Bool :=
  match sh.file caller with
  | none => false
  | some D => match layoutMethods D, layoutFields D 0 with
    | some ms, some laid =>
      (match ms[1]? with
       | some fw => (match fw.code with | some ck0 => decide (ck0.code.data = kc.data) && (decide (ck0.maxLocals = 2) && (decide (fw.accessFlags = 1) && decide (fw.sig.returnType = some .boolean))) | none => false)
       | none => false) &&
      ((List.range n).all (fun j => match D.constantPool[fx.getD j 0]? with
        | some (.fieldref _ nt1) => (match D.constantPool.nameAndType? nt1 with
          | some (nm, _) => decide (laid.1.findIdx? (·.name == nm) = some j) && (match laid.1[j]? with | some f0 => decide (f0.isStatic = false) && decide (f0.slot = j) | none => false)
          | none => false)
        | _ => false) &&
      (decide (D.constantPool[ix]? = some (.methodref ci nt)) && (decide (D.constantPool.className? ci = some sh.implClass) && (decide (D.constantPool.nameAndType? nt = some (sh.implName, sh.implDesc.toString)) &&
       (decide (D.constantPool[ci]? = some (.class_ cn)) && (decide (D.constantPool.string? cn = some sh.implClass) && decide (ci ≠ D.thisClass)))))))
    | _, _ => false
theorem la_facts {e : Setting} {vm : Vm} {d c : ClassId} {sh : Lambda.Shape} {caller : String} {dk : Class} {n : Nat} {kc : ByteArray} {fx : List Nat} {ix ci nt cn : Nat} (hk : la_chk caller sh n kc fx ix ci nt cn = true) (hd : vm.classes[d]? = some dk) (hname : dk.name = caller) (h : Lambda.isMade e vm d sh c = true)
    (hO : ∀ o ok, vm.findClass "java/lang/Object" = some o → vm.classes[o]? = some ok → ok.instanceTypes.size = 0) (hitf : sh.implItf = false) :
    ∃ (k tk : Class) (file : ClassFile) (methk : Method) (ck : Code) (tc : ClassId) (t : MethodId),
      vm.classes[c]? = some k ∧ k.name = caller ++ "$$Lambda" ∧ k.cf = some file ∧ (file.constantPool[ix]? = some (.methodref ci nt) ∧ file.constantPool.nameAndType? nt = some (sh.implName, sh.implDesc.toString)) ∧
      vm.method? ⟨c, 1⟩ = some methk ∧ methk.code = some ck ∧ ck.code = kc ∧ ck.maxLocals = 2 ∧ methk.locks = false ∧ methk.accessFlags = 0x0001 ∧ methk.sig.returnType = some .boolean ∧
      vm.findClass sh.implClass = some tc ∧ vm.classes[tc]? = some tk ∧ tk.isInterface = false ∧ ((methodIn tc sh.implName sh.implDesc.toString tk.isInterface none).ask e vm).1 = .ok t ∧
      vm.methodReady c ix t ∧ vm.classReady c ci tc ∧ ∀ j, j < n → ∃ f0, vm.fieldReady c (fx.getD j 0) c f0 ∧ f0.isStatic = false ∧ f0.slot = j := by
  unfold la_chk at hk
  split at hk
  case h_1 => cases hk
  case h_2 D hD =>
    split at hk
    case h_2 => cases hk
    case h_1 ms laid hms hlaid =>
      simp only [Bool.and_eq_true, decide_eq_true_eq] at hk
      obtain ⟨h1, h2, h3, h4, h5, h6, h7, h8⟩ := hk
      split at h1
      case h_2 => cases h1
      case h_1 fw hfw =>
        split at h1
        case h_2 => cases h1
        case h_1 ck0 hck =>
          simp only [Bool.and_eq_true, decide_eq_true_eq] at h1
          obtain ⟨a1, a2, a3, a4⟩ := h1
          obtain ⟨k, tk, file, methk, ck, tc, t, b1, b2, b3, b4, b5⟩ := la_made (n := n) (fx := fun j => fx.getD j 0) hd hname h hD (fw := fw) (fun ms' h' => by cases hms.symm.trans h'; exact hfw) hck (ByteArray.ext a1) a2 a3 a4 hO hlaid
            (fun j hj => by
              have hz := List.all_eq_true.mp h2 j (List.mem_range.mpr hj)
              split at hz
              case h_2 => cases hz
              case h_1 c1 nt1 hc1 =>
                split at hz
                case h_2 => cases hz
                case h_1 nm ds hnt =>
                  simp only [Bool.and_eq_true, decide_eq_true_eq] at hz
                  obtain ⟨z1, z2⟩ := hz
                  split at z2
                  case h_2 => cases z2
                  case h_1 f0 hf0 =>
                    simp only [Bool.and_eq_true, decide_eq_true_eq] at z2
                    exact ⟨c1, nt1, nm, ds, f0, hc1, hnt, z1, hf0, z2.1, z2.2⟩) ⟨h3, h4, h5⟩ ⟨h6, h7, h8⟩ hitf
          exact ⟨k, tk, file, methk, ck, tc, t, b1, b2, b3, ⟨by rw [b4]; exact h3, by rw [b4]; exact h5⟩, b5⟩
/-- a lambda's object: of site i, holding caps -/
def lamO (g : GC) (σ : AH) (i : Nat) (caps : List Value) (a : Nat) : Prop := σ.1 a = some (.inr (.inr (i, caps))) ∨ (caps = [] ∧ lamC g i a)
theorem lamO_cell {l : Launch} {g : GC} {σ : AH} {H : Heap} (hg : g_ok l g) (hP : g_P g σ H) {i a : Nat} {caps : List Value} (h : lamO g σ i caps a) {x : MethodName} {pc ix : Nat} {sh : Lambda.Shape} (hi : g_sites[i]? = some (.lambdaSite x pc ix sh)) {cK : ClassId} {one : Option Addr} (hat : g.1.lambdaAt? x pc ix sh = some (cK, one)) :
    ∃ cell : Cell, H[a]? = some cell ∧ cell.cls = cK ∧ cell.vm = .none ∧ cell.slots = caps.toArray := by
  have hL : g_La g i = (cK, one) := by
    unfold g_La
    rw [hi]
    show (g.1.lambdaAt? x pc ix sh).getD (0, none) = _
    rw [hat]
    rfl
  rcases h with h | ⟨rfl, h⟩
  · obtain ⟨cell, c1, c2, c3, c4⟩ := (hP.2.2.1 a _ h).2.2
    refine ⟨cell, c1, ?_, c3, c4⟩
    rw [c2]
    show (g_La g i).1 = cK
    rw [hL]
  · unfold lamC at h
    rw [hL] at h
    have h : one = some a := h
    obtain ⟨m', kS, cfS, i0, p0, lk, hm', hkS, -, -, -, hfind, -, -, hlk⟩ := State.lambdaAt?_spec hat
    rcases hlk with ⟨a0, cell0, -, h2, -, hc0, hcls, hvm, hsl⟩ | ⟨-, h2, -⟩
    · cases h.symm.trans h2
      exact ⟨cell0, by rw [hP.2.2.2 a (Array.getElem?_eq_some_iff.mp hc0).1]; exact hc0, hcls, hvm, hsl⟩
    · rw [h] at h2; cases h2
section AHolds
variable {l : Launch} {g : GC} {mi : MI} {d b : Nat} {Q : Option Value → AH → Prop} {X : String → Nat → AH → Prop} {pc : Nat} {L : List (Nat × Value)} {st : List Value} {σ : AH}
theorem A_holds {mi' : MI} {d' k' b' : Nat} {Q' : Option Value → AH → Prop} {i a q : Nat} {caps : List Value} {x : MethodName} {pcS ixS : Nat} {sh : Lambda.Shape} {kc : ByteArray} {fx : List Nat} {ixK ciK ntK cnK : Nat}
    (hi : g_sites[i]? = some (.lambdaSite x pcS ixS sh)) (hf : Cond.lambdaSite x pcS ixS sh ∈ flatC (Jvm.Cond.and given_1 narrow_1)) (hchk : la_chk x.cls sh caps.length kc fx ixK ciK ntK cnK = true)
    (hsh : sh.iface = "FlagLaundry$Test" ∧ sh.name = "holds" ∧ sh.sam.toString = "(LFlagLaundry$Flag;)Z" ∧ sh.implItf = false) (hpl : plainName (x.cls ++ "$$Lambda") = true) (hy : (⟨sh.implClass, sh.implName, sh.implDesc.toString⟩ : MethodName) = mi'.1)
    (hdec : ∀ j, j < caps.length → decode kc (4 * j) = .ok (.aload_n 0, 1) ∧ decode kc (4 * j + 1) = .ok (.getfield (fx.getD j 0), 3)) (hdl : decode kc (4 * caps.length) = .ok (.aload_n 1, 1)) (hdi : decode kc (4 * caps.length + 1) = .ok (.invokestatic ixK, 3)) (hdr : decode kc (4 * caps.length + 1 + 3) = .ok (.ireturn, 1))
    (hM : AMet l g mi' d' k' (caps ++ [.ref q]) σ Q' A_no) (hm : A_MS mi' (caps.length + 1)) (hO : lamO g σ i caps a) (hQ : ∀ v τ, Q' v τ → ∃ r : Int32, v = some (.int r) ∧ narrow .boolean (.int r) = .int r)
    {ix cnt : Nat} (hq : Cond.methodLink mi.1.cls ix ⟨"FlagLaundry$Test", "holds", "(LFlagLaundry$Flag;)Z"⟩ ∈ lw_all)
    (hd : decode mi.2.1 pc = .ok (.invokeinterface ix cnt, 5)) (hdp : d' + 2 ≤ d) (hk : k' + b' ≤ b) (hw : (st.map fun v => v.category).sum ≤ 8)
    (kk : ∀ v τ, Q' v τ → AW l g mi d b' Q X (pc + 5) L (v.toList ++ st) τ) : AW l g mi d b Q X pc L (.ref q :: .ref a :: st) σ := by
  intro p e R s m args below meth c H locs cells slots ls C hP hL hl
  obtain ⟨y, cc, nL, ret, hs⟩ := mi'
  obtain ⟨m1, m2, m3, m4, ⟨m5, m5', m5''⟩, m6⟩ := hm
  have m4 : hs = [] := m4
  subst m4
  have m6 : nL ≤ 21 := m6
  have m1 : Cond.static y ∈ lw_all := m1
  have m2 : Cond.initialized y.cls ∈ lw_all := m2
  have m3 : Cond.code y cc nL ret ∈ lw_all := m3
  have m5 : y.cls ≠ "java/lang/invoke/MethodHandle" := m5
  have m5' : y.cls ≠ "java/lang/invoke/VarHandle" := m5'
  have hy : (⟨sh.implClass, sh.implName, sh.implDesc.toString⟩ : MethodName) = y := hy
  have hc9 := C
  obtain ⟨hx, hb, hr, hlk, hml, hown, hts, hg, hW, ⟨h10, h10'⟩, ⟨h11, h11'⟩, hnm, h13⟩ := C
  obtain ⟨cK, one, hat⟩ := la_of hg hf
  obtain ⟨cell, hcell, hcls, hcvm, hcsl⟩ := lamO_cell hg hP hO hi hat
  obtain ⟨mS, kS, cfS, i0, p0, lk, hmS, hkS, -, -, -, -, hmade, hcall, -⟩ := State.lambdaAt?_spec hat
  obtain ⟨kN, hkN, hnameN⟩ := className_of_methodNamed hmS
  cases hkS.symm.trans hkN
  have hmade1 := Lambda.isMade_warmer hW hmade
  have hcall1 : s.lambdaCallable sh cK = true := by
    have hA := hW.alike
    simp only [State.lambdaCallable, hA.findClass, hA.assignable, hA.superclasses, hA.declaredIn] at hcall ⊢
    exact hcall
  obtain ⟨r0, r, hn0, hrm0, hstR, hsigR⟩ := Cond.declares_spec (hg.2.1 _ q1204)
  have hn : s.methodNamed? ⟨"FlagLaundry$Test", "holds", "(LFlagLaundry$Flag;)Z"⟩ = some r0 := (State.methodNamed?_setVm (s := g.1) hW.alike _).trans hn0
  have hrm : s.vm.method? r0 = some r := by rw [hW.alike.method?]; exact hrm0
  obtain ⟨cL, kL0, r1, hcL0, hkL0, hiL0, hfoundL0, hn1⟩ := Cond.interfaceMethod_spec (hg.2.1 _ q1203)
  cases hn0.symm.trans hn1
  have hcL : s.vm.findClass "FlagLaundry$Test" = some cL := by rw [hW.alike.findClass]; exact hcL0
  obtain ⟨kL, hkL, heL⟩ := hW.alike.2.2 _ _ hkL0
  have hiL : kL.isInterface = true := by rw [heL]; exact hiL0
  have hfoundL : s.methodFound? "FlagLaundry$Test" "holds" "(LFlagLaundry$Flag;)Z" = some r0 := (State.methodFound?_setVm (s := g.1) hW.alike _ _ _).trans hfoundL0
  have hr0cls : r0.cls = cL := Option.some.inj ((findClass_of_methodNamed hn).symm.trans hcL)
  obtain ⟨hnameR, hdescR⟩ := name_of_methodNamed hn hrm
  obtain ⟨kS', hkS', heS⟩ := hW.alike.2.2 _ _ hkS
  have hnameS' : kS'.name = x.cls := by rw [heS]; exact hnameN
  have hO1 : ∀ {vm : Vm}, s.WarmedH vm → ∀ o ok, vm.findClass "java/lang/Object" = some o → vm.classes[o]? = some ok → ok.instanceTypes.size = 0 := by
    intro vm hWv o ok ho hok
    obtain ⟨cO, kO, hfO, hkO, -, -, -, hsz⟩ := Cond.instantiable_spec (hts _ q3036)
    rw [hWv.alike.findClass, hfO] at ho
    cases ho
    obtain ⟨k', hk', he'⟩ := hWv.alike.2.2 _ _ hkO
    cases hk'.symm.trans hok
    rw [he']
    exact hsz
  obtain ⟨-, -, -, -, -, -, -, iface', -, -, -, -, found, -, -, -, -, -, hi', -, -, -, -, -, -, hfound', -, -, -, -, -, -, -, -, -, -, hsel⟩ := Lambda.isMade_spec hmade1
  rw [hsh.1] at hi'
  cases hcL.symm.trans hi'
  have hfr : found = r0 := by
    have h1 : s.methodFound? "FlagLaundry$Test" "holds" "(LFlagLaundry$Flag;)Z" = some r0 := hfoundL
    simp only [State.methodFound?, hcL, hkL, hiL, Option.bind_eq_bind, Option.bind_some] at h1
    rw [hsh.2.1, hsh.2.2.1] at hfound'
    rw [hfound'] at h1
    exact Option.some.inj h1
  subst hfr
  obtain ⟨i2, hi2, hasg, hway⟩ := State.lambdaCallable_spec hcall1
  rw [hsh.1] at hi2
  cases hcL.symm.trans hi2
  rw [hsh.2.1, hsh.2.2.1] at hway
  intro T hT Xs
  obtain ⟨k, -, -, methk, -, -, -, hkc, -, -, -, hmk, -, -, -, -, hfl, -⟩ := la_facts hchk hkS' hnameS' hmade1 (hO1 (State.WarmedH.refl s)) hsh.2.2.2
  have hselP : selectMethod e.platform s.vm cell.cls found = .method ⟨cK, 1⟩ := by rw [Launch.admits_selectMethod Xs.admits, hcls]; exact hsel
  obtain ⟨vm₁, X₁, hstep₁⟩ := Xs.invokeinterface hx hown (hts _ hq) hn hrm hstR (by rw [hr0cls]; exact hkL) hiL (by decide) (a := a) (cell := cell) (kcell := k) (by rw [hT]; exact hcell)
    (fun z h => by rw [hcvm] at h; cases h) (by rw [hcls]; exact hkc) (by rw [hcls, hr0cls]; exact hasg) hselP hmk (by rw [hnameR, hdescR, hcls]; exact hway) (by rw [hfl]; decide) (by simp [Method.isAbstract, hfl, hasFlag, Acc.abstract]) (g := F0 m pc ls (.ref q :: .ref a :: st)) rfl (argsL := [.ref q]) (rest := st)
    (by
      have hp2 : r.sig = ⟨[.object "FlagLaundry$Flag"], some .boolean⟩ := (Option.some.inj ((show parseMethodDescriptor "(LFlagLaundry$Flag;)Z" = some ⟨[.object "FlagLaundry$Flag"], some .boolean⟩ by decide +kernel).symm.trans hsigR)).symm
      rw [hp2]
      rfl) rfl (by rw [hb]; exact hd)
  have hW1 : s.WarmedH vm₁ := X₁.warmed
  obtain ⟨kS1, hkS1, heS1⟩ := hW1.alike.2.2 _ _ hkS'
  obtain ⟨k1, tk, file, methk1, ck, tc, t, hkc1, hkn1, hfile, ⟨hpM, hpN⟩, hmk1, hck, hbytes, hckml, hlk1, hfl1, hret1, htc, htk, htki, hask, hready, hclsR, hF⟩ := la_facts hchk hkS1 (by rw [heS1]; exact hnameS') (Lambda.isMade_warmer hW1 hmade1) (hO1 hW1) hsh.2.2.2
  obtain ⟨mT, hnamed⟩ := Cond.code_named (hts _ m3)
  obtain ⟨metht, cM, hmetht, -, -, -, -, -, -, hsigM⟩ := Cond.code_spec hnamed (hts _ m3)
  have hstatic : metht.isStatic = true := Cond.static_spec hnamed hmetht (hts _ m1)
  obtain ⟨kP, hkP, hnP⟩ := className_of_methodNamed hnamed
  have hinitP : kP.init = .initialized := Cond.initialized_spec (findClass_of_methodNamed hnamed) hkP (hts _ m2)
  obtain ⟨kP1, hkP1, heP⟩ := hW1.alike.2.2 _ _ hkP
  have hnm1 : (T.setVm vm₁).methodNamed? y = some mT := X₁.named hnamed
  have hyc : y.cls = sh.implClass := by rw [← hy]
  have hcT : vm₁.findClass sh.implClass = some mT.cls := by rw [← hyc]; exact findClass_of_methodNamed hnm1
  have htcT : tc = mT.cls := Option.some.inj (htc.symm.trans hcT)
  subst htcT
  have htkP : tk = kP1 := Option.some.inj (htk.symm.trans hkP1)
  subst htkP
  have htT : t = mT := by
    have hmf := State.methodFound?_of_named hnm1 ⟨m5, m5'⟩
    rw [← hy] at hmf
    have hmf : (vm₁.findClass sh.implClass).bind (fun c => (vm₁.classes[c]?).bind (fun k => ((methodIn c sh.implName sh.implDesc.toString k.isInterface none).ask { classPath := fun _ => none } vm₁).1.toOption)) = some mT := hmf
    rw [htc, Option.bind_some, htk, Option.bind_some, hask] at hmf
    exact Option.some.inj hmf
  subst htT
  have htn : tk.name = y.cls := by rw [heP]; exact hnP
  have hpoly : ∀ z, signaturePolymorphic tk z = false := fun z => by simp [signaturePolymorphic, htn, m5, m5']
  have hmetht1 : vm₁.method? t = some metht := by rw [hW1.alike.method?]; exact hmetht
  have hinit1 : tk.init = .initialized := by rw [heP]; exact hinitP
  have hpar : metht.sig.parameters.length = caps.length + 1 := by
    have m5'' : (parseMethodDescriptor y.desc).map (fun d => d.parameters.length) = some (caps.length + 1) := m5''
    rw [hsigM] at m5''
    exact Option.some.inj m5''
  obtain ⟨bb, hmem⟩ := memberRef_ask' (e := e) (vm := vm₁) (d := cK) (index := ixK) hkc1 hfile (Or.inl hpM) hpN
  have hCl : (State.calling (T.setVm vm₁) (F0 m pc ls st) ⟨cK, 1⟩ #[Value.ref a, Value.ref q]).vm = vm₁ := rfl
  have hK : vx_Back l { frames := d' + 1, cells := k', slots := 4 * k', locals := 8 + (nL + 11) + (3200 + 40 * d') } p e (.java (F0 m pc ls st) :: below) ((T.setVm vm₁).calling (F0 m pc ls st) ⟨cK, 1⟩ #[Value.ref a, Value.ref q]) #[Value.ref a, Value.ref q] y 3 8 (PreOf _ k' (4 * k') (fun v U => v = (caps ++ [Value.ref q]).toArray ∧ g_H l g σ U)) (PostOf (A_q g Q') k' (4 * k') (fun q => g.1.heap.size ≤ q)) (vx_Post (A_x g A_no) k' (4 * k') (fun q => g.1.heap.size ≤ q)) :=
    vx_back (bytes := cc) (maxL := nL) (ret := ret) hM A_blind rfl rfl (Nat.le_refl _) (Nat.le_refl _)
      (fun w hw9 a' U hU => word_at (State.WarmedH.trans hW1 hU) (lw_meth m3 w hw9).2 (hts w (lw_meth m3 w hw9).1)) List.mem_cons_self
      (fun a' U hU => word_at (State.WarmedH.trans hW1 hU) (Or.inl (by first | rfl | simp [Cond.onTables, Cond.keeps, Cond.steady])) (hts _ m2))
  obtain ⟨r9, u9, w9, T', L', hq9, hL9, X', hTh, hWT, hsteps⟩ := la_run X₁ hx (g := F0 m pc ls st) rfl (hl.1.trans hml.symm) (by rw [hb]; exact hd) (mk := ⟨cK, 1⟩) hmk1 hck hbytes hckml hlk1 (State.plainMethod.of_name (fun k' hk' => by cases hkc1.symm.trans hk'; rw [hkn1]; exact hpl)) hret1
    (a := a) (q := q) (caps := caps) (cellK := cell) (by show T.heap[a]? = _; rw [hT]; exact hcell) (by rw [hcvm]; exact fun h => nomatch h) (fx := fun j => fx.getD j 0) hF hcsl hdec hdl hdi hdr
    (t := t) (kt := tk) (metht := metht) ⟨ciK, _, _, bb, t.cls, tk, hmem, hclsR, htk, by simp [hpoly]⟩ hready htk hmetht1 (hpoly _) hstatic hinit1 hpar
    hK (fun A z w B hX => by obtain ⟨_, _, _, _, _, _, _, _, ⟨_, h9, _⟩, _⟩ := hX; exact h9) hnm1 ⟨Nat.le_refl _, Nat.le_refl _⟩
    (fun U hU hV => ⟨rfl, hg, State.WarmedH.trans hW (by rw [hV]; exact hW1), by rw [hU]; show g_P g σ T.heap; rw [hT]; exact hP⟩)
    (fun u o w hz => by obtain ⟨v, τ, e1, e2, e3⟩ := hz; cases e1; exact hQ _ _ e2)
    (by show d' + 1 + 1 ≤ R.frames; omega) (by rw [hckml]; show 2 * 0 + (st.map fun v => v.category).sum + (2 + 11) + (8 + (nL + 11) + (3200 + 40 * d')) ≤ R.locals; omega) (by show cells + k' ≤ R.cells; omega) (by show slots + 4 * k' ≤ R.slots; omega)
  obtain ⟨v, τ, e1, e2, e3⟩ := hq9
  cases e1
  have hC' : A_ctx l g mi d b' p R s m args meth c (cells + k') (slots + 4 * k') := by
    obtain ⟨c1, c2, c3, c4, c5, c6, c7, c8, c9, c10, ⟨c11, c12⟩, c13⟩ := hc9
    exact ⟨c1, c2, c3, c4, c5, c6, c7, c8, c9, c10, ⟨by omega, by omega⟩, c13⟩
  have hLL : ∀ z ∈ locs ++ L', g.1.heap.size ≤ z.base := fun z hz => (List.mem_append.mp hz).elim (hL z) (hL9 z)
  obtain ⟨t2, a1, b1⟩ := kk _ τ e2 p e R s m args below meth c T'.heap (locs ++ L') _ _ ls hC' (by rw [hTh]; exact e3) hLL hl T' rfl X'
  exact ⟨t2, hstep₁ _ (fun acts => (hsteps acts).trans a1), b1⟩
end AHolds
