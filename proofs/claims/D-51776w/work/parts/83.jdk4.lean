/-! MORE ROWS 3: calls of a superclass's method -/
theorem lw_SU {own : String} {idx : Nat} {y : MethodName} {b : ByteArray} {L : Nat} {r : Option FieldType} (h1 : Cond.methodLink own idx y ∈ lw_all) (h0 : Cond.sameMethod y.cls y.cls y.name y.desc ∈ lw_all) (h2 : Cond.superclass own y.cls ∈ lw_all) (h3 : Cond.instanceMethod y ∈ lw_all) (h4 : Cond.initialized y.cls ∈ lw_all) (h5 : Cond.code y b L r ∈ lw_all) : GoodIn lw_all (va_wsSU own idx y (ws_ y b L r)) := by
  refine lw_app ?_ (lw_meth h5)
  intro w hw
  simp only [List.mem_cons, List.not_mem_nil, or_false] at hw
  rcases hw with e | e | e | e | e
  · rw [e]; exact h1
  · rw [e]; exact h0
  · rw [e]; exact h2
  · rw [e]; exact h3
  · rw [e]; exact h4
def A_MSp (own : String) (mi : MI) (n : Nat) : Prop := (Cond.sameMethod mi.1.cls mi.1.cls mi.1.name mi.1.desc ∈ lw_all ∧ Cond.superclass own mi.1.cls ∈ lw_all ∧ Cond.instanceMethod mi.1 ∈ lw_all ∧ Cond.initialized mi.1.cls ∈ lw_all ∧ Cond.code mi.1 mi.2.1 mi.2.2.1 mi.2.2.2.1 ∈ lw_all) ∧ mi.2.2.2.2 = [] ∧ (mi.1.name ≠ "<init>" ∧ (parseMethodDescriptor mi.1.desc).map (fun d => d.parameters.length) = some n) ∧ mi.2.2.1 ≤ 21
section ARowsSp
variable {l : Launch} {g : GC} {mi : MI} {d b : Nat} {Q : Option Value → AH → Prop} {X : String → Nat → AH → Prop} {pc : Nat} {L : List (Nat × Value)} {st : List Value} {σ : AH}
theorem A_callSp {mi' : MI} {d' k' b' n ci : Nat} {As : List Value} {Q' : Option Value → AH → Prop} {X' : String → Nat → AH → Prop} {bR : Nat} {fs : List Value} {r9 : vw_C} (hM : AMet l g mi' d' k' (.ref bR :: As) σ Q' X') (hm : A_MSp mi.1.cls mi' n) {ix : Nat} (hq : Cond.methodLink mi.1.cls ix mi'.1 ∈ lw_all) (hO : σ.1 bR = some (.inr (.inl (ci, fs)))) (hcl : vwCl[ci]? = some r9)
    (hd : decode mi.2.1 pc = .ok (.invokespecial ix, 3)) (hn : As.length = n) (hdp : d' + 1 ≤ d) (hk : k' + b' ≤ b) (hw : (st.map fun v => v.category).sum ≤ 8)
    (kk : ∀ v τ, Q' v τ → AW l g mi d b' Q X (pc + 3) L (v.toList ++ st) τ) (kx : ∀ E q τ, X' E q τ → AX l g mi d b' Q X pc L E q τ) : AW l g mi d b Q X pc L (As.reverse ++ .ref bR :: st) σ := by
  intro p e R s m args below meth c H locs cells slots ls C9 hP hL hl
  obtain ⟨y, cc, nL, ret, hs⟩ := mi'
  obtain ⟨⟨m0, m1, m2, m3, m4⟩, m5, m6, m7⟩ := hm
  have m5 : hs = [] := m5
  subst m5
  have hc9 := C9
  obtain ⟨hx, hb, hr, hlk, hml, hown, hts, hg, hW, ⟨h10, h10'⟩, ⟨h11, h11'⟩, hnm, h13⟩ := C9
  have m7 : nL ≤ 21 := m7
  exact A_goes (vx_runSU (rest := st) (g := F0 m pc ls (As.reverse ++ .ref bR :: st)) (C := r9.1) ((A_K hg hW).1 ci r9 hcl).2 ⟨hx, hb, hml, hown, hts⟩ hM (va_cwSU n hts (lw_SU hq m0 m1 m2 m3 m4) rfl rfl rfl m6 ⟨by show d' + 1 ≤ R.frames; omega, by show 8 + (nL + 11) + (3200 + 40 * d') ≤ R.locals; omega⟩) ⟨A_blind, A_recv hg hW hP hO hcl, fun U hU hWU => ⟨rfl, hg, State.WarmedH.trans hW hWU, by rw [hU]; exact hP⟩⟩ rfl hn hl.1 rfl (lv_room hw) hd ⟨by omega, by omega⟩) hk hc9 hL hl kk kx
end ARowsSp
/-- a static array of bytes of the start: its block of conditions stands at k -/
def blk9 (C n : String) (w : List Int32) : List Cond := (Cond.arrayOf (.static C n "[B") .byte :: Cond.eq (.length (.static C n "[B")) (.int (Int32.ofNat w.length)) :: (List.range w.length).map (fun j => Cond.eq (.elem (.static C n "[B") (.int (Int32.ofNat j))) (.int (w.getD j 0))))
theorem digs_of {l : Launch} {g : GC} (hg : g_ok l g) {C n : String} {w : List Int32} (k : Nat) (hl : Cond.laysStatic C n "[B" ∈ lw_tbl) (hi : Cond.initialized C ∈ lw_tbl) (hw : w.length < 2 ^ 31) (hf : decide (((flatC (Jvm.Cond.and given_1 narrow_1)).drop k).take (w.length + 2) = blk9 C n w) = true) : ∃ q, o_st g C n "[B" (.ref q) ∧ o_arr g .byte q w.length (fun j => .int (w.getD j 0)) := by
  have hf : ∀ c ∈ blk9 C n w, c.before #[Value.ref g.2.1] g.1 = true := fun c hc => nw_of hg (List.mem_of_mem_drop (List.mem_of_mem_take (by rw [of_decide_eq_true hf]; exact hc)))
  obtain ⟨t, h1, h2⟩ := va_Tof (args := #[Value.ref g.2.1]) (s := g.1) (tm := .static C n "[B") (ty := .byte) (N := w.length) (f := fun j => .int (w.getD j 0)) (A := o_A g) hw (hf _ (by simp [blk9])) (va_eqt (hf _ (by simp [blk9]))) (fun j hj => va_eqt (hf _ (List.mem_cons_of_mem _ (List.mem_cons_of_mem _ (List.mem_map.mpr ⟨j, List.mem_range.mpr hj, rfl⟩))))) o_out
  exact ⟨t, st_of hg hl hi h1, h2⟩
def dOnes : List Int32 := (List.range 100).map (fun k => Int32.ofNat (48 + k % 10))
def dTens : List Int32 := (List.range 100).map (fun k => Int32.ofNat (48 + k / 10))
theorem sel_priv {C : String} {y : MethodName} {s : State} {args : Array Value} {c : ClassId} (hy : y.cls ≠ "java/lang/invoke/MethodHandle" ∧ y.cls ≠ "java/lang/invoke/VarHandle") (hc : s.vm.findClass C = some c)
    (hsame : (Cond.sameMethod y.cls y.cls y.name y.desc).before args s = true) (hpriv : (Cond.privateMethod y).before args s = true) (hinst : (Cond.instanceMethod y).before args s = true) : (Cond.selects C y y).before args s = true := by
  obtain ⟨cn, ck, r1, hcn, hck, hni, hf, hn1⟩ := Cond.sameMethod_found hsame
  obtain ⟨mk, methM, hnamed, hmethM, -, -⟩ := Cond.instanceMethod_spec hinst
  have hfound : s.methodFound? y.cls y.name y.desc = some mk := State.methodFound?_of_named hnamed hy
  have hcls : mk.cls = cn := Option.some.inj ((findClass_of_methodNamed hnamed).symm.trans hcn)
  have hsel : selectMethod {} s.vm c mk = .method mk := selectMethod_private hmethM (Cond.privateMethod_at hpriv mk methM hnamed hmethM)
  simp only [Cond.before, Cond.holds, Cond.value, hc, hfound, hnamed, hsel, hcls, hck]
  simp; exact hni
/-- a private method of a superclass, called with a receiver of the subclass -/
def A_MP (mi : MI) (n : Nat) : Prop := (Cond.sameMethod mi.1.cls mi.1.cls mi.1.name mi.1.desc ∈ lw_all ∧ Cond.privateMethod mi.1 ∈ lw_tbl ∧ Cond.instanceMethod mi.1 ∈ lw_all ∧ Cond.initialized mi.1.cls ∈ lw_all ∧ Cond.code mi.1 mi.2.1 mi.2.2.1 mi.2.2.2.1 ∈ lw_all) ∧ mi.2.2.2.2 = [] ∧ (mi.1.cls ≠ "java/lang/invoke/MethodHandle" ∧ mi.1.cls ≠ "java/lang/invoke/VarHandle" ∧ (parseMethodDescriptor mi.1.desc).map (fun d => d.parameters.length) = some n) ∧ mi.2.2.1 ≤ 21
section ARowsP
variable {l : Launch} {g : GC} {mi : MI} {d b : Nat} {Q : Option Value → AH → Prop} {X : String → Nat → AH → Prop} {pc : Nat} {L : List (Nat × Value)} {st : List Value} {σ : AH}
theorem A_callP {C : String} {mi' : MI} {d' k' b' n : Nat} {As : List Value} {Q' : Option Value → AH → Prop} {X' : String → Nat → AH → Prop} {bR : Nat} (hM : AMet l g mi' d' k' (.ref bR :: As) σ Q' X') (hm : A_MP mi' n) {ix : Nat} (hq : Cond.methodLink mi.1.cls ix mi'.1 ∈ lw_all) (hO : A_rcv g σ C bR)
    (hd : decode mi.2.1 pc = .ok (.invokevirtual ix, 3)) (hn : As.length = n) (hdp : d' + 1 ≤ d) (hk : k' + b' ≤ b) (hw : (st.map fun v => v.category).sum ≤ 8)
    (kk : ∀ v τ, Q' v τ → AW l g mi d b' Q X (pc + 3) L (v.toList ++ st) τ) (kx : ∀ E q τ, X' E q τ → AX l g mi d b' Q X pc L E q τ) : AW l g mi d b Q X pc L (As.reverse ++ .ref bR :: st) σ := by
  intro p e R s m args below meth c H locs cells slots ls C9 hP hL hl
  obtain ⟨y, cc, nL, ret, hs⟩ := mi'
  obtain ⟨⟨m0, m1, m2, m3, m4⟩, m5, m6, m7⟩ := hm
  have m5 : hs = [] := m5
  subst m5
  have hc9 := C9
  obtain ⟨hx, hb, hr, hlk, hml, hown, hts, hg, hW, ⟨h10, h10'⟩, ⟨h11, h11'⟩, hnm, h13⟩ := C9
  have m7 : nL ≤ 21 := m7
  obtain ⟨cell, k1, k2, k3⟩ := hO.cell hg hW hP
  have cw : va_CU R s args mi.1.cls C y.cls ix y y cc nL ret (ws_ y cc nL ret) ({ frames := d', cells := k', slots := 4 * k', locals := 3200 + 40 * d' } : Room) k' (4 * k') n := ⟨⟨rfl, rfl, (by show d' + 1 ≤ R.frames; omega), (by show 8 + (nL + 11) + (3200 + 40 * d') ≤ R.locals; omega), pay_in hts (lw_meth m4), List.mem_cons_self⟩, hts _ m4, hts _ m3, ⟨m6.1, m6.2.1⟩, fun sig h => by
    have h2 := m6.2.2; rw [h] at h2; exact (Option.some.inj h2).symm, hts _ hq, hts _ m0, va_Decl.of (hts _ m2) (hts _ m4), sel_priv ⟨m6.1, m6.2.1⟩ k3 (hts _ m0) (Cond.privateMethod_warm hW (hg.2.1 _ m1)) (hts _ m2), hts _ m2⟩
  exact A_goes (vx_runU (rest := st) (g := F0 m pc ls (As.reverse ++ .ref bR :: st)) (C := C) ⟨hx, hb, hml, hown, hts⟩ hM cw ⟨A_blind, ⟨cell, k1, k2, k3⟩, fun U hU hWU => ⟨rfl, hg, State.WarmedH.trans hW hWU, by rw [hU]; exact hP⟩⟩ rfl hn hl.1 rfl (lv_room hw) hd ⟨by omega, by omega⟩) hk hc9 hL hl kk kx
end ARowsP
section ARowsPn
variable {l : Launch} {g : GC} {mi : MI} {d b : Nat} {Q : Option Value → AH → Prop} {X : String → Nat → AH → Prop} {pc : Nat} {L : List (Nat × Value)} {st : List Value} {σ : AH}
theorem A_callP0 {C : String} {mi' : MI} {d' k' b' : Nat} {bR : Nat} {Q' : Option Value → AH → Prop} {X' : String → Nat → AH → Prop} (hM : AMet l g mi' d' k' (.ref bR :: []) σ Q' X') (hm : A_MP mi' 0) {ix : Nat} (hq : Cond.methodLink mi.1.cls ix mi'.1 ∈ lw_all) (hO : A_rcv g σ C bR) (hd : decode mi.2.1 pc = .ok (.invokevirtual ix, 3)) (hdp : d' + 1 ≤ d) (hk : k' + b' ≤ b) (hw : (st.map fun v => v.category).sum ≤ 8) (kk : ∀ v τ, Q' v τ → AW l g mi d b' Q X (pc + 3) L (v.toList ++ st) τ) (kx : ∀ E q τ, X' E q τ → AX l g mi d b' Q X pc L E q τ) : AW l g mi d b Q X pc L (.ref bR :: st) σ :=
  A_callP (As := []) hM hm hq hO hd rfl hdp hk hw kk kx
theorem A_callP0E {C : String} {mi' : MI} {d' k' b' : Nat} {bR : Nat} {v : Option Value} {τ : AH} (hM : AMet l g mi' d' k' (.ref bR :: []) σ (A_eq v τ) A_no) (hm : A_MP mi' 0) {ix : Nat} (hq : Cond.methodLink mi.1.cls ix mi'.1 ∈ lw_all) (hO : A_rcv g σ C bR) (hd : decode mi.2.1 pc = .ok (.invokevirtual ix, 3)) (hdp : d' + 1 ≤ d) (hk : k' + b' ≤ b) (hw : (st.map fun v => v.category).sum ≤ 8) (kk : AW l g mi d b' Q X (pc + 3) L (v.toList ++ st) τ) : AW l g mi d b Q X pc L (.ref bR :: st) σ :=
  A_callP (As := []) hM hm hq hO hd rfl hdp hk hw (fun w τ' h => by obtain ⟨e1, e2⟩ := h; subst e1; subst e2; exact kk) (fun E q τ' h => h.elim)
theorem A_callP1 {C : String} {mi' : MI} {d' k' b' : Nat} {bR : Nat} {a1 : Value} {Q' : Option Value → AH → Prop} {X' : String → Nat → AH → Prop} (hM : AMet l g mi' d' k' (.ref bR :: [a1]) σ Q' X') (hm : A_MP mi' 1) {ix : Nat} (hq : Cond.methodLink mi.1.cls ix mi'.1 ∈ lw_all) (hO : A_rcv g σ C bR) (hd : decode mi.2.1 pc = .ok (.invokevirtual ix, 3)) (hdp : d' + 1 ≤ d) (hk : k' + b' ≤ b) (hw : (st.map fun v => v.category).sum ≤ 8) (kk : ∀ v τ, Q' v τ → AW l g mi d b' Q X (pc + 3) L (v.toList ++ st) τ) (kx : ∀ E q τ, X' E q τ → AX l g mi d b' Q X pc L E q τ) : AW l g mi d b Q X pc L (a1 :: .ref bR :: st) σ :=
  A_callP (As := [a1]) hM hm hq hO hd rfl hdp hk hw kk kx
theorem A_callP1E {C : String} {mi' : MI} {d' k' b' : Nat} {bR : Nat} {a1 : Value} {v : Option Value} {τ : AH} (hM : AMet l g mi' d' k' (.ref bR :: [a1]) σ (A_eq v τ) A_no) (hm : A_MP mi' 1) {ix : Nat} (hq : Cond.methodLink mi.1.cls ix mi'.1 ∈ lw_all) (hO : A_rcv g σ C bR) (hd : decode mi.2.1 pc = .ok (.invokevirtual ix, 3)) (hdp : d' + 1 ≤ d) (hk : k' + b' ≤ b) (hw : (st.map fun v => v.category).sum ≤ 8) (kk : AW l g mi d b' Q X (pc + 3) L (v.toList ++ st) τ) : AW l g mi d b Q X pc L (a1 :: .ref bR :: st) σ :=
  A_callP (As := [a1]) hM hm hq hO hd rfl hdp hk hw (fun w τ' h => by obtain ⟨e1, e2⟩ := h; subst e1; subst e2; exact kk) (fun E q τ' h => h.elim)
theorem A_callP2 {C : String} {mi' : MI} {d' k' b' : Nat} {bR : Nat} {a1 a2 : Value} {Q' : Option Value → AH → Prop} {X' : String → Nat → AH → Prop} (hM : AMet l g mi' d' k' (.ref bR :: [a1, a2]) σ Q' X') (hm : A_MP mi' 2) {ix : Nat} (hq : Cond.methodLink mi.1.cls ix mi'.1 ∈ lw_all) (hO : A_rcv g σ C bR) (hd : decode mi.2.1 pc = .ok (.invokevirtual ix, 3)) (hdp : d' + 1 ≤ d) (hk : k' + b' ≤ b) (hw : (st.map fun v => v.category).sum ≤ 8) (kk : ∀ v τ, Q' v τ → AW l g mi d b' Q X (pc + 3) L (v.toList ++ st) τ) (kx : ∀ E q τ, X' E q τ → AX l g mi d b' Q X pc L E q τ) : AW l g mi d b Q X pc L (a2 :: a1 :: .ref bR :: st) σ :=
  A_callP (As := [a1, a2]) hM hm hq hO hd rfl hdp hk hw kk kx
theorem A_callP2E {C : String} {mi' : MI} {d' k' b' : Nat} {bR : Nat} {a1 a2 : Value} {v : Option Value} {τ : AH} (hM : AMet l g mi' d' k' (.ref bR :: [a1, a2]) σ (A_eq v τ) A_no) (hm : A_MP mi' 2) {ix : Nat} (hq : Cond.methodLink mi.1.cls ix mi'.1 ∈ lw_all) (hO : A_rcv g σ C bR) (hd : decode mi.2.1 pc = .ok (.invokevirtual ix, 3)) (hdp : d' + 1 ≤ d) (hk : k' + b' ≤ b) (hw : (st.map fun v => v.category).sum ≤ 8) (kk : AW l g mi d b' Q X (pc + 3) L (v.toList ++ st) τ) : AW l g mi d b Q X pc L (a2 :: a1 :: .ref bR :: st) σ :=
  A_callP (As := [a1, a2]) hM hm hq hO hd rfl hdp hk hw (fun w τ' h => by obtain ⟨e1, e2⟩ := h; subst e1; subst e2; exact kk) (fun E q τ' h => h.elim)
theorem A_callU0 {C owner : String} {x : MethodName} {mi' : MI} {d' k' b' : Nat} {bR : Nat} {Q' : Option Value → AH → Prop} {X' : String → Nat → AH → Prop} (hM : AMet l g mi' d' k' (.ref bR :: []) σ Q' X') (hm : A_MU C owner x mi' 0) {ix : Nat} (hq : Cond.methodLink mi.1.cls ix x ∈ lw_all) (hO : A_rcv g σ C bR) (hd : decode mi.2.1 pc = .ok (.invokevirtual ix, 3)) (hdp : d' + 1 ≤ d) (hk : k' + b' ≤ b) (hw : (st.map fun v => v.category).sum ≤ 8) (kk : ∀ v τ, Q' v τ → AW l g mi d b' Q X (pc + 3) L (v.toList ++ st) τ) (kx : ∀ E q τ, X' E q τ → AX l g mi d b' Q X pc L E q τ) : AW l g mi d b Q X pc L (.ref bR :: st) σ :=
  A_callU (As := []) hM hm hq hO hd rfl hdp hk hw kk kx
theorem A_callU1 {C owner : String} {x : MethodName} {mi' : MI} {d' k' b' : Nat} {bR : Nat} {a1 : Value} {Q' : Option Value → AH → Prop} {X' : String → Nat → AH → Prop} (hM : AMet l g mi' d' k' (.ref bR :: [a1]) σ Q' X') (hm : A_MU C owner x mi' 1) {ix : Nat} (hq : Cond.methodLink mi.1.cls ix x ∈ lw_all) (hO : A_rcv g σ C bR) (hd : decode mi.2.1 pc = .ok (.invokevirtual ix, 3)) (hdp : d' + 1 ≤ d) (hk : k' + b' ≤ b) (hw : (st.map fun v => v.category).sum ≤ 8) (kk : ∀ v τ, Q' v τ → AW l g mi d b' Q X (pc + 3) L (v.toList ++ st) τ) (kx : ∀ E q τ, X' E q τ → AX l g mi d b' Q X pc L E q τ) : AW l g mi d b Q X pc L (a1 :: .ref bR :: st) σ :=
  A_callU (As := [a1]) hM hm hq hO hd rfl hdp hk hw kk kx
theorem A_callU2 {C owner : String} {x : MethodName} {mi' : MI} {d' k' b' : Nat} {bR : Nat} {a1 a2 : Value} {Q' : Option Value → AH → Prop} {X' : String → Nat → AH → Prop} (hM : AMet l g mi' d' k' (.ref bR :: [a1, a2]) σ Q' X') (hm : A_MU C owner x mi' 2) {ix : Nat} (hq : Cond.methodLink mi.1.cls ix x ∈ lw_all) (hO : A_rcv g σ C bR) (hd : decode mi.2.1 pc = .ok (.invokevirtual ix, 3)) (hdp : d' + 1 ≤ d) (hk : k' + b' ≤ b) (hw : (st.map fun v => v.category).sum ≤ 8) (kk : ∀ v τ, Q' v τ → AW l g mi d b' Q X (pc + 3) L (v.toList ++ st) τ) (kx : ∀ E q τ, X' E q τ → AX l g mi d b' Q X pc L E q τ) : AW l g mi d b Q X pc L (a2 :: a1 :: .ref bR :: st) σ :=
  A_callU (As := [a1, a2]) hM hm hq hO hd rfl hdp hk hw kk kx
theorem A_callU2E {C owner : String} {x : MethodName} {mi' : MI} {d' k' b' : Nat} {bR : Nat} {a1 a2 : Value} {v : Option Value} {τ : AH} (hM : AMet l g mi' d' k' (.ref bR :: [a1, a2]) σ (A_eq v τ) A_no) (hm : A_MU C owner x mi' 2) {ix : Nat} (hq : Cond.methodLink mi.1.cls ix x ∈ lw_all) (hO : A_rcv g σ C bR) (hd : decode mi.2.1 pc = .ok (.invokevirtual ix, 3)) (hdp : d' + 1 ≤ d) (hk : k' + b' ≤ b) (hw : (st.map fun v => v.category).sum ≤ 8) (kk : AW l g mi d b' Q X (pc + 3) L (v.toList ++ st) τ) : AW l g mi d b Q X pc L (a2 :: a1 :: .ref bR :: st) σ :=
  A_callU (As := [a1, a2]) hM hm hq hO hd rfl hdp hk hw (fun w τ' h => by obtain ⟨e1, e2⟩ := h; subst e1; subst e2; exact kk) (fun E q τ' h => h.elim)
theorem A_callSp0 {ci : Nat} {fs : List Value} {r9 : vw_C} {mi' : MI} {d' k' b' : Nat} {bR : Nat} {Q' : Option Value → AH → Prop} {X' : String → Nat → AH → Prop} (hM : AMet l g mi' d' k' (.ref bR :: []) σ Q' X') (hm : A_MSp mi.1.cls mi' 0) {ix : Nat} (hq : Cond.methodLink mi.1.cls ix mi'.1 ∈ lw_all) (hO : σ.1 bR = some (.inr (.inl (ci, fs)))) (hcl : vwCl[ci]? = some r9) (hd : decode mi.2.1 pc = .ok (.invokespecial ix, 3)) (hdp : d' + 1 ≤ d) (hk : k' + b' ≤ b) (hw : (st.map fun v => v.category).sum ≤ 8) (kk : ∀ v τ, Q' v τ → AW l g mi d b' Q X (pc + 3) L (v.toList ++ st) τ) (kx : ∀ E q τ, X' E q τ → AX l g mi d b' Q X pc L E q τ) : AW l g mi d b Q X pc L (.ref bR :: st) σ :=
  A_callSp (As := []) hM hm hq hO hcl hd rfl hdp hk hw kk kx
theorem A_callSp0E {ci : Nat} {fs : List Value} {r9 : vw_C} {mi' : MI} {d' k' b' : Nat} {bR : Nat} {v : Option Value} {τ : AH} (hM : AMet l g mi' d' k' (.ref bR :: []) σ (A_eq v τ) A_no) (hm : A_MSp mi.1.cls mi' 0) {ix : Nat} (hq : Cond.methodLink mi.1.cls ix mi'.1 ∈ lw_all) (hO : σ.1 bR = some (.inr (.inl (ci, fs)))) (hcl : vwCl[ci]? = some r9) (hd : decode mi.2.1 pc = .ok (.invokespecial ix, 3)) (hdp : d' + 1 ≤ d) (hk : k' + b' ≤ b) (hw : (st.map fun v => v.category).sum ≤ 8) (kk : AW l g mi d b' Q X (pc + 3) L (v.toList ++ st) τ) : AW l g mi d b Q X pc L (.ref bR :: st) σ :=
  A_callSp (As := []) hM hm hq hO hcl hd rfl hdp hk hw (fun w τ' h => by obtain ⟨e1, e2⟩ := h; subst e1; subst e2; exact kk) (fun E q τ' h => h.elim)
theorem A_callSp1 {ci : Nat} {fs : List Value} {r9 : vw_C} {mi' : MI} {d' k' b' : Nat} {bR : Nat} {a1 : Value} {Q' : Option Value → AH → Prop} {X' : String → Nat → AH → Prop} (hM : AMet l g mi' d' k' (.ref bR :: [a1]) σ Q' X') (hm : A_MSp mi.1.cls mi' 1) {ix : Nat} (hq : Cond.methodLink mi.1.cls ix mi'.1 ∈ lw_all) (hO : σ.1 bR = some (.inr (.inl (ci, fs)))) (hcl : vwCl[ci]? = some r9) (hd : decode mi.2.1 pc = .ok (.invokespecial ix, 3)) (hdp : d' + 1 ≤ d) (hk : k' + b' ≤ b) (hw : (st.map fun v => v.category).sum ≤ 8) (kk : ∀ v τ, Q' v τ → AW l g mi d b' Q X (pc + 3) L (v.toList ++ st) τ) (kx : ∀ E q τ, X' E q τ → AX l g mi d b' Q X pc L E q τ) : AW l g mi d b Q X pc L (a1 :: .ref bR :: st) σ :=
  A_callSp (As := [a1]) hM hm hq hO hcl hd rfl hdp hk hw kk kx
theorem A_callSp1E {ci : Nat} {fs : List Value} {r9 : vw_C} {mi' : MI} {d' k' b' : Nat} {bR : Nat} {a1 : Value} {v : Option Value} {τ : AH} (hM : AMet l g mi' d' k' (.ref bR :: [a1]) σ (A_eq v τ) A_no) (hm : A_MSp mi.1.cls mi' 1) {ix : Nat} (hq : Cond.methodLink mi.1.cls ix mi'.1 ∈ lw_all) (hO : σ.1 bR = some (.inr (.inl (ci, fs)))) (hcl : vwCl[ci]? = some r9) (hd : decode mi.2.1 pc = .ok (.invokespecial ix, 3)) (hdp : d' + 1 ≤ d) (hk : k' + b' ≤ b) (hw : (st.map fun v => v.category).sum ≤ 8) (kk : AW l g mi d b' Q X (pc + 3) L (v.toList ++ st) τ) : AW l g mi d b Q X pc L (a1 :: .ref bR :: st) σ :=
  A_callSp (As := [a1]) hM hm hq hO hcl hd rfl hdp hk hw (fun w τ' h => by obtain ⟨e1, e2⟩ := h; subst e1; subst e2; exact kk) (fun E q τ' h => h.elim)
theorem A_callSp2 {ci : Nat} {fs : List Value} {r9 : vw_C} {mi' : MI} {d' k' b' : Nat} {bR : Nat} {a1 a2 : Value} {Q' : Option Value → AH → Prop} {X' : String → Nat → AH → Prop} (hM : AMet l g mi' d' k' (.ref bR :: [a1, a2]) σ Q' X') (hm : A_MSp mi.1.cls mi' 2) {ix : Nat} (hq : Cond.methodLink mi.1.cls ix mi'.1 ∈ lw_all) (hO : σ.1 bR = some (.inr (.inl (ci, fs)))) (hcl : vwCl[ci]? = some r9) (hd : decode mi.2.1 pc = .ok (.invokespecial ix, 3)) (hdp : d' + 1 ≤ d) (hk : k' + b' ≤ b) (hw : (st.map fun v => v.category).sum ≤ 8) (kk : ∀ v τ, Q' v τ → AW l g mi d b' Q X (pc + 3) L (v.toList ++ st) τ) (kx : ∀ E q τ, X' E q τ → AX l g mi d b' Q X pc L E q τ) : AW l g mi d b Q X pc L (a2 :: a1 :: .ref bR :: st) σ :=
  A_callSp (As := [a1, a2]) hM hm hq hO hcl hd rfl hdp hk hw kk kx
theorem A_callSp2E {ci : Nat} {fs : List Value} {r9 : vw_C} {mi' : MI} {d' k' b' : Nat} {bR : Nat} {a1 a2 : Value} {v : Option Value} {τ : AH} (hM : AMet l g mi' d' k' (.ref bR :: [a1, a2]) σ (A_eq v τ) A_no) (hm : A_MSp mi.1.cls mi' 2) {ix : Nat} (hq : Cond.methodLink mi.1.cls ix mi'.1 ∈ lw_all) (hO : σ.1 bR = some (.inr (.inl (ci, fs)))) (hcl : vwCl[ci]? = some r9) (hd : decode mi.2.1 pc = .ok (.invokespecial ix, 3)) (hdp : d' + 1 ≤ d) (hk : k' + b' ≤ b) (hw : (st.map fun v => v.category).sum ≤ 8) (kk : AW l g mi d b' Q X (pc + 3) L (v.toList ++ st) τ) : AW l g mi d b Q X pc L (a2 :: a1 :: .ref bR :: st) σ :=
  A_callSp (As := [a1, a2]) hM hm hq hO hcl hd rfl hdp hk hw (fun w τ' h => by obtain ⟨e1, e2⟩ := h; subst e1; subst e2; exact kk) (fun E q τ' h => h.elim)
end ARowsPn
theorem tP_J2_ensureCapacityInternal : A_MP mJ2_ensureCapacityInternal 1 := ⟨⟨q2978, q443, q444, q136, q445⟩, rfl, ⟨by decide +kernel, by decide +kernel, by decide +kernel⟩, by decide⟩
theorem tP_J2_newCapacity : A_MP mJ2_newCapacity 1 := ⟨⟨q2979, q447, q448, q136, q449⟩, rfl, ⟨by decide +kernel, by decide +kernel, by decide +kernel⟩, by decide⟩
theorem tU_J2_isLatin1 : A_MU "java/lang/StringBuilder" "java/lang/AbstractStringBuilder" ⟨"java/lang/AbstractStringBuilder", "isLatin1", "()Z"⟩ mJ2_isLatin1 0 := ⟨⟨q479, q480, q478, q136, q481⟩, rfl, ⟨by decide +kernel, by decide +kernel, by decide +kernel⟩, by decide, rfl⟩
theorem tU_J2_getValue : A_MU "java/lang/StringBuilder" "java/lang/AbstractStringBuilder" ⟨"java/lang/AbstractStringBuilder", "getValue", "()[B"⟩ mJ2_getValue 0 := ⟨⟨q544, q545, q543, q136, q546⟩, rfl, ⟨by decide +kernel, by decide +kernel, by decide +kernel⟩, by decide, rfl⟩
theorem tSp_J2_append : A_MSp "java/lang/StringBuilder" mJ2_append 1 := ⟨⟨q2977, q236, q440, q136, q441⟩, rfl, ⟨by decide +kernel, by decide +kernel⟩, by decide⟩
theorem tSp_J2_append_2 : A_MSp "java/lang/StringBuilder" mJ2_append_2 1 := ⟨⟨q2981, q236, q581, q136, q582⟩, rfl, ⟨by decide +kernel, by decide +kernel⟩, by decide⟩
theorem tSp_J2_charAt : A_MSp "java/lang/StringBuilder" mJ2_charAt 1 := ⟨⟨q2988, q236, q2028, q136, q2029⟩, rfl, ⟨by decide +kernel, by decide +kernel⟩, by decide⟩
theorem tSp_J2_length : A_MSp "java/lang/StringBuilder" mJ2_length 0 := ⟨⟨q549, q236, q548, q136, q554⟩, rfl, ⟨by decide +kernel, by decide +kernel⟩, by decide⟩
theorem tSp_J2_setLength : A_MSp "java/lang/StringBuilder" mJ2_setLength 1 := ⟨⟨q2986, q236, q1933, q136, q1934⟩, rfl, ⟨by decide +kernel, by decide +kernel⟩, by decide⟩
/-! THE JDK 5: StringBuilder -/
abbrev sbC (sa : Nat) (ml k : Int32) : AE := .inr (.inl (12, [.ref sa, .int 0, .int ml, .int k]))
abbrev bytA (n : Nat) (f : AF) : AE := .inl (.byte, n, .inl f)
/-- plain letters -/
def asc (l : List Int32) : Prop := ∀ c, c ∈ l → ∃ k, k < 128 ∧ c = nI k
theorem asc_nil : asc nl := fun _ h => (List.not_mem_nil h).elim
theorem asc.app {l m : List Int32} (h : asc l) (k : asc m) : asc (l ++ m) := fun c hc => (List.mem_append.mp hc).elim (h c) (k c)
theorem asc_1 {k : Nat} (h : k < 128) : asc [nI k] := fun c hc => ⟨k, h, by simpa using hc⟩
theorem asc.at {l : List Int32} (h : asc l) {i : Nat} (hi : i < l.length) : ∃ k, k < 128 ∧ l.getD i 0 = nI k := h _ (by rw [List.getD_eq_getElem?_getD, List.getElem?_eq_getElem hi]; exact List.getElem_mem hi)
def SBd (σ : AH) (sb sa cap : Nat) (ml : Int32) (f : AF) (l : List Int32) : Prop := σ.1 sb = some (sbC sa ml (nI l.length)) ∧ σ.1 sa = some (bytA cap f) ∧ (cap = 16 ∨ cap = 34 ∨ cap = 70) ∧ l.length ≤ cap ∧ (∀ i, i < cap → fits .byte (.int (f i)) = true) ∧ (∀ i, i < l.length → f i = l.getD i 0) ∧ asc l ∧ (ml = 0 ∨ ml = 1)
/-- a StringBuilder that holds l; since the heap σ0 it and its array alone have changed; n letters have room -/
def SX (σ0 : AH) (sb sa0 : Nat) (τ : AH) (l : List Int32) (n : Nat) : Prop := ∃ sa cap ml f, n ≤ cap ∧ SBd τ sb sa cap ml f l ∧ fra [sb, sa0] σ0 τ ∧ (sa = sa0 ∨ σ0.2 ≤ sa)
theorem SX.room {σ0 τ : AH} {sb sa0 n : Nat} {l : List Int32} (h : SX σ0 sb sa0 τ l n) : SX σ0 sb sa0 τ l l.length := by
  obtain ⟨sa, cap, ml, f, -, h1, h2⟩ := h
  exact ⟨sa, cap, ml, f, h1.2.2.2.1, h1, h2⟩
theorem SBd.lt {σ : AH} {sb sa cap : Nat} {ml : Int32} {f : AF} {l : List Int32} (h : SBd σ sb sa cap ml f l) (w : wfh σ) : sb < σ.2 ∧ sa < σ.2 := ⟨w _ _ h.1, w _ _ h.2.1⟩
theorem SX.ex {σ0 τ ρ : AH} {sb sa0 n : Nat} {l : List Int32} (h : SX σ0 sb sa0 τ l n) (w : wfh τ) (k : ext τ ρ) : SX σ0 sb sa0 ρ l n := by
  obtain ⟨sa, cap, ml, f, h0, ⟨h1, h2, h3⟩, h4, h5⟩ := h
  exact ⟨sa, cap, ml, f, h0, ⟨k.at w h1, k.at w h2, h3⟩, h4.ex k, h5⟩
/-- a change of the two cells alone, or of the one with a fresh array -/
theorem fra.sb {σ0 σ τ : AH} {sb sa sa0 : Nat} (h : fra [sb, sa0] σ0 σ) (h5 : sa = sa0 ∨ σ0.2 ≤ sa) (k : fra [sb, sa] σ τ) : fra [sb, sa0] σ0 τ := ⟨Nat.le_trans h.1 k.1, fun a ha hl => (k.2 a (Nat.lt_of_lt_of_le ha h.1) (fun q => by
  simp only [List.mem_cons, List.not_mem_nil, or_false] at q hl
  rcases q with q | q
  · exact hl (Or.inl q)
  · rcases h5 with h5 | h5
    · exact hl (Or.inr (q.trans h5))
    · omega)).trans (h.2 a ha hl)⟩
theorem SX.of {σ0 σ τ : AH} {sb sa sa' sa0 cap n : Nat} {ml : Int32} {f : AF} {l : List Int32} (h : fra [sb, sa0] σ0 σ) (h5 : sa = sa0 ∨ σ0.2 ≤ sa) (k : fra [sb, sa] σ τ) (h6 : sa' = sa ∨ σ.2 ≤ sa') (hn : n ≤ cap) (hd : SBd τ sb sa' cap ml f l) : SX σ0 sb sa0 τ l n := by
  refine ⟨sa', cap, ml, f, hn, hd, h.sb h5 k, ?_⟩
  rcases h6 with h6 | h6
  · rw [h6]; exact h5
  · exact Or.inr (Nat.le_trans h.1 h6)
theorem fitB {k : Nat} (h : k < 128) : fits .byte (.int (nI k)) = true := by
  have e : ∀ k, k < 128 → fits .byte (.int (nI k)) = true := by decide +kernel
  exact e k h
theorem i2bN {k : Nat} (h : k < 128) : (nI k).toInt8.toInt32 = nI k := by
  have e : ∀ k, k < 128 → (nI k).toInt8.toInt32 = nI k := by decide +kernel
  exact e k h
theorem SBd.put1 {σ : AH} {sb sa cap k : Nat} {ml : Int32} {f : AF} {l : List Int32} (hf : (∀ i, i < cap → fits .byte (.int (f i)) = true) ∧ (∀ i, i < l.length → f i = l.getD i 0) ∧ asc l ∧ (ml = 0 ∨ ml = 1)) (hc : cap = 16 ∨ cap = 34 ∨ cap = 70) (h1 : σ.1 sb = some (sbC sa ml (nI (l.length + 1)))) (h2 : σ.1 sa = some (bytA cap (va_up f l.length (nI k)))) (hk : k < 128) (hl : l.length + 1 ≤ cap) : SBd σ sb sa cap ml (va_up f l.length (nI k)) (l ++ [nI k]) := by
  obtain ⟨f1, f2, f3, f4⟩ := hf
  refine ⟨by rw [List.length_append]; exact h1, h2, hc, by rw [List.length_append]; exact hl, fun i hi => ?_, fun i hi => ?_, f3.app (asc_1 hk), f4⟩
  · by_cases e : i = l.length
    · subst e; rw [va_up_self]; exact fitB hk
    · rw [va_up_ne _ _ e]; exact f1 i hi
  · rw [List.length_append, List.length_singleton] at hi
    by_cases e : i = l.length
    · subst e; rw [va_up_self, List.getD_eq_getElem?_getD, List.getElem?_append_right (Nat.le_refl _), Nat.sub_self]; rfl
    · rw [va_up_ne _ _ e, f2 i (by omega), List.getD_eq_getElem?_getD, List.getD_eq_getElem?_getD, List.getElem?_append_left (by omega)]
theorem SBd.grown {σ : AH} {sb sa cap : Nat} {ml : Int32} {f : AF} {l : List Int32} (hf : (∀ i, i < cap → fits .byte (.int (f i)) = true) ∧ (∀ i, i < l.length → f i = l.getD i 0) ∧ asc l ∧ (ml = 0 ∨ ml = 1)) {cap' : Nat} (hc : cap' = 16 ∨ cap' = 34 ∨ cap' = 70) (hcc : cap ≤ cap') (hl : l.length ≤ cap) (h1 : σ.1 sb = some (sbC sa ml (nI l.length))) (h2 : σ.1 sa = some (bytA cap' (va_cpy f (fun _ => 0) 0 0 cap))) : SBd σ sb sa cap' ml (va_cpy f (fun _ => 0) 0 0 cap) l := by
  obtain ⟨f1, f2, f3, f4⟩ := hf
  refine ⟨h1, h2, hc, Nat.le_trans hl hcc, fun i hi => ?_, fun i hi => ?_, f3, f4⟩
  · by_cases e : i < cap
    · rw [show va_cpy f (fun _ => 0) 0 0 cap i = f i by unfold va_cpy; rw [if_pos ⟨Nat.zero_le _, by omega⟩]; congr 1 <;> omega]; exact f1 i e
    · rw [show va_cpy f (fun _ => 0) 0 0 cap i = 0 by unfold va_cpy; rw [if_neg (by omega)]]; rfl
  · rw [show va_cpy f (fun _ => 0) 0 0 cap i = f i by unfold va_cpy; rw [if_pos ⟨Nat.zero_le _, by omega⟩]; congr 1 <;> omega]; exact f2 i hi
theorem n255 {k : Nat} (h : k < 128) : ¬ ((255 : Int32) < nI k) := by
  have e : ∀ k, k < 128 → ¬ ((255 : Int32) < nI k) := by decide +kernel
  exact e k h
theorem c_sbLat {l : Launch} {g : GC} (σ : AH) (sb sa : Nat) (ml : Int32) (n : Int32) (hC : σ.1 sb = some (.inr (.inl (12, [.ref sa, .int 0, .int ml, .int n])))) : AMet l g mJ2_isLatin1 1 0 [.ref sb] σ (A_eq (some (.int 1)) σ) (A_no) := by
  refine A_of rfl (by decide) (Nat.le_of_ble_eq_true rfl) (L0 := [(0, .ref sb)]) rfl ?_
  refine A_gok (fun hgk => ?_)
  refine A_getsO (s_compact hgk) q214 rfl dJ2_isLatin1_0 ?_
  refine A_if_eq_f (tgt := 17) dJ2_isLatin1_3 (by decide) (by decide) ?_
  refine A_aload_n (i := 0) dJ2_isLatin1_6 rfl rfl ?_
  refine A_getf cb_J3 hC 1 (Nat.le_of_ble_eq_true rfl) q224 rfl (v := .int 0) rfl dJ2_isLatin1_7 ?_
  refine A_if_ne_f (tgt := 17) dJ2_isLatin1_10 (by decide) (by decide) ?_
  refine A_iconst (v := 1) dJ2_isLatin1_13 (by decide) ?_
  refine A_goto (tgt := 18) dJ2_isLatin1_14 (by decide) ?_
  exact A_zret dJ2_isLatin1_18 rfl (rfl) (⟨rfl, rfl⟩)
theorem c_sbVal {l : Launch} {g : GC} (σ : AH) (sb sa : Nat) (ml : Int32) (n : Int32) (hC : σ.1 sb = some (.inr (.inl (12, [.ref sa, .int 0, .int ml, .int n])))) : AMet l g mJ2_getValue 1 0 [.ref sb] σ (A_eq (some (.ref sa)) σ) (A_no) := by
  refine A_of rfl (by decide) (Nat.le_of_ble_eq_true rfl) (L0 := [(0, .ref sb)]) rfl ?_
  refine A_aload_n (i := 0) dJ2_getValue_0 rfl rfl ?_
  refine A_getf cb_J3 hC 0 (Nat.le_of_ble_eq_true rfl) q223 rfl (v := .ref sa) rfl dJ2_getValue_1 ?_
  exact A_aret dJ2_getValue_4 rfl (Or.inr ⟨_, rfl⟩) (Or.inr ⟨_, rfl⟩) (⟨rfl, rfl⟩)
theorem c_sbLen0 {l : Launch} {g : GC} (σ : AH) (sb sa : Nat) (ml : Int32) (n : Int32) (hC : σ.1 sb = some (.inr (.inl (12, [.ref sa, .int 0, .int ml, .int n])))) : AMet l g mJ2_length 1 0 [.ref sb] σ (A_eq (some (.int n)) σ) (A_no) := by
  refine A_of rfl (by decide) (Nat.le_of_ble_eq_true rfl) (L0 := [(0, .ref sb)]) rfl ?_
  refine A_aload_n (i := 0) dJ2_length_0 rfl rfl ?_
  refine A_getf cb_J3 hC 3 (Nat.le_of_ble_eq_true rfl) q227 rfl (v := .int n) rfl dJ2_length_1 ?_
  exact A_iret dJ2_length_4 rfl (⟨rfl, rfl⟩)
theorem c_canEnc {l : Launch} {g : GC} (σ : AH) (k : Nat) (hk : k < 128) : AMet l g mJ15_canEncode 1 0 [.int (nI k)] σ (A_eq (some (.int 1)) σ) (A_no) := by
  refine A_of rfl (by decide) (Nat.le_of_ble_eq_true rfl) (L0 := [(0, .int (nI k))]) rfl ?_
  refine A_iload_n (i := 0) dJ15_canEncode_0 rfl rfl ?_
  refine A_sipush (v := 255) dJ15_canEncode_1 (by decide) ?_
  refine A_icmp_gt_f (tgt := 11) dJ15_canEncode_4 (by decide) ((n255 hk)) ?_
  refine A_iconst (v := 1) dJ15_canEncode_7 (by decide) ?_
  refine A_goto (tgt := 12) dJ15_canEncode_8 (by decide) ?_
  exact A_zret dJ15_canEncode_12 rfl (rfl) (⟨rfl, rfl⟩)
theorem c_newLen {l : Launch} {g : GC} (σ : AH) (o m : Nat) (ho : o ≤ 34) (hm : m ≤ o + 2) : AMet l g mJ12_newLength 1 0 [.int (nI o), .int (nI m), .int (nI (o + 2))] σ (A_eq (some (.int (nI (o + (o + 2))))) σ) (A_no) := by
  refine A_of rfl (by decide) (Nat.le_of_ble_eq_true rfl) (L0 := [(0, .int (nI o)), (1, .int (nI m)), (2, .int (nI (o + 2)))]) rfl ?_
  refine A_iload_n (i := 0) dJ12_newLength_0 rfl rfl ?_
  refine A_iload_n (i := 1) dJ12_newLength_1 rfl rfl ?_
  refine A_iload_n (i := 2) dJ12_newLength_2 rfl rfl ?_
  refine A_mmax q453 q454 q150 q455 dJ12_newLength_3 (by decide) (Nat.le_of_ble_eq_true rfl) ?_
  refine A_int (w := (mx (nI m) (nI (o + 2)))) rfl ?_
  refine A_int (w := (nI (o + 2))) (by rw [mx_nI (by omega) (by omega), Nat.max_eq_right hm]) ?_
  refine A_iadd dJ12_newLength_6 ?_
  refine A_int (w := nI (o + (o + 2))) (nI_add _ _) ?_
  refine A_istore_n (i := 3) dJ12_newLength_7 rfl (Nat.le_of_ble_eq_true rfl) ?_
  refine A_iconst (v := 0) dJ12_newLength_8 (by decide) ?_
  refine A_iload_n (i := 3) dJ12_newLength_9 rfl rfl ?_
  refine A_icmp_ge_f (tgt := 21) dJ12_newLength_10 (by decide) ((fun q => by have k := (nI_lei (b := 0) (by omega) (by decide)).mp q; omega)) ?_
  refine A_iload_n (i := 3) dJ12_newLength_13 rfl rfl ?_
  refine A_ldc (v := 2147483639) dJ12_newLength_14 q456 ?_
  refine A_icmp_gt_f (tgt := 21) dJ12_newLength_16 (by decide) ((fun q => by have k := (nI_lti (by decide : 2147483639 < 2 ^ 31) (by omega)).mp q; omega)) ?_
  refine A_iload_n (i := 3) dJ12_newLength_19 rfl rfl ?_
  exact A_iret dJ12_newLength_20 rfl (⟨rfl, rfl⟩)
theorem m2a {a b : Nat} : a ∈ [a, b] := List.mem_cons_self
theorem m2b {a b : Nat} : b ∈ [a, b] := List.mem_cons_of_mem _ List.mem_cons_self
theorem shl0 {n : Nat} : nI n <<< ((0 : Int32) &&& 31) = nI n := by
  rw [show ((0 : Int32) &&& 31) = 0 by decide]
  simp
theorem nI_dec (p : Nat) : nI (p + 1) + (-1) = nI p := by
  rw [show nI (p + 1) = nI p + 1 from (nI_add p 1).symm, Int32.add_assoc, show (1 : Int32) + (-1) = 0 by decide, Int32.add_zero]
theorem nsub_t : ∀ n, n < 71 → ∀ c, c < 71 → (n ≤ c → nI n - nI c ≤ 0) ∧ (c < n → ¬ (nI n - nI c ≤ 0) ∧ nI n - nI c = nI (n - c)) := by decide +kernel
theorem nnm {a : Nat} (h : a < 100) : ¬ nI a = 2147483647 := by
  have e : ∀ a, a < 100 → ¬ nI a = 2147483647 := by decide +kernel
  exact e a h
theorem narB {k : Nat} (h : k < 128) : vp_nar .byte (nI k) = nI k := i2bN h
theorem strZ : ∀ k, k < 100 → (k ≤ 9 → ¬ (-nI k ≤ -10)) ∧ (9 < k → -nI k ≤ -10 ∧ ¬ (-nI k ≤ -100)) := by decide +kernel
theorem negT : ∀ k, k < 100 → -(-nI k) = nI k ∧ -100 < -nI k ∧ (k ≤ 9 → (-9 : Int32) ≤ -nI k) ∧ (9 < k → ¬ ((-9 : Int32) ≤ -nI k)) := by decide +kernel
theorem numT : ∀ k, k < 100 → (k ≤ 9 → numI (nI k) = [nI (48 + k)]) ∧ (9 < k → numI (nI k) = [nI (48 + k / 10), nI (48 + k % 10)]) := by decide +kernel
theorem digO : ∀ k, k < 100 → (Value.int (dOnes.getD k 0) = .int (nI (48 + k % 10))) := by decide +kernel
theorem digT : ∀ k, k < 100 → (Value.int (dTens.getD k 0) = .int (nI (48 + k / 10))) := by decide +kernel
theorem s_ones {l : Launch} {g : GC} (hg : g_ok l g) : ∃ q, o_st g "java/lang/Integer" "DigitOnes" "[B" (.ref q) ∧ o_arr g .byte q 100 (fun j => .int (dOnes.getD j 0)) := by
  have h := digs_of (w := dOnes) hg 21 q590 (lw_all_tbl q157) (by decide) (by decide +kernel)
  rw [show dOnes.length = 100 by decide] at h
  exact h
theorem s_tens {l : Launch} {g : GC} (hg : g_ok l g) : ∃ q, o_st g "java/lang/Integer" "DigitTens" "[B" (.ref q) ∧ o_arr g .byte q 100 (fun j => .int (dTens.getD j 0)) := by
  have h := digs_of (w := dTens) hg 124 q592 (lw_all_tbl q157) (by decide) (by decide +kernel)
  rw [show dTens.length = 100 by decide] at h
  exact h
theorem va_upC {f : AF} {i j : Nat} {a b : Int32} (h : ¬ i = j) : va_up (va_up f i a) j b = va_up (va_up f j b) i a := by
  funext q
  unfold va_up
  by_cases c : q = i
  · by_cases d : q = j
    · exact absurd (c.symm.trans d) h
    · rw [if_neg d, if_pos c, if_pos c]
  · by_cases d : q = j
    · rw [if_pos d, if_neg c, if_pos d]
    · rw [if_neg d, if_neg c, if_neg c, if_neg d]
theorem c_newCap {l : Launch} {g : GC} (σ : AH) (sb sa o n : Nat) (ml k : Int32) (f : AF) (hC : σ.1 sb = some (.inr (.inl (12, [.ref sa, .int 0, .int ml, .int k])))) (hA : σ.1 sa = some (bytA o f)) (ho : o ≤ 34) (h1 : o < n) (h2 : n ≤ o + (o + 2)) : AMet l g mJ2_newCapacity 2 0 [.ref sb, .int (nI n)] σ (A_eq (some (.int (nI (o + (o + 2))))) σ) (A_no) := by
  refine A_of rfl (by decide) (Nat.le_of_ble_eq_true rfl) (L0 := [(0, .ref sb), (1, .int (nI n))]) rfl ?_
  refine A_aload_n (i := 0) dJ2_newCapacity_0 rfl rfl ?_
  refine A_getf cb_J3 hC 0 (Nat.le_of_ble_eq_true rfl) q223 rfl (v := .ref sa) rfl dJ2_newCapacity_1 ?_
  refine A_alen hA (by decide) (v := nI o) (rfl) dJ2_newCapacity_4 ?_
  refine A_istore_n (i := 2) dJ2_newCapacity_5 rfl (Nat.le_of_ble_eq_true rfl) ?_
  refine A_iload_n (i := 1) dJ2_newCapacity_6 rfl rfl ?_
  refine A_aload_n (i := 0) dJ2_newCapacity_7 rfl rfl ?_
  refine A_getf cb_J3 hC 1 (Nat.le_of_ble_eq_true rfl) q224 rfl (v := .int 0) rfl dJ2_newCapacity_8 ?_
  refine A_ishl dJ2_newCapacity_11 ?_
  refine A_int (w := (nI n)) (shl0) ?_
  refine A_istore_n (i := 3) dJ2_newCapacity_12 rfl (Nat.le_of_ble_eq_true rfl) ?_
  refine A_iload_n (i := 3) dJ2_newCapacity_13 rfl rfl ?_
  refine A_iload_n (i := 2) dJ2_newCapacity_14 rfl rfl ?_
  refine A_isub dJ2_newCapacity_15 ?_
  refine A_int (w := (nI (n - o))) (((nsub_t n (by omega) o (by omega)).2 h1).2) ?_
  refine A_istore dJ2_newCapacity_16 (Nat.le_of_ble_eq_true rfl) ?_
  refine A_iload_n (i := 2) dJ2_newCapacity_18 rfl rfl ?_
  refine A_iload dJ2_newCapacity_19 rfl ?_
  refine A_iload_n (i := 2) dJ2_newCapacity_21 rfl rfl ?_
  refine A_iconst (v := 2) dJ2_newCapacity_22 (by decide) ?_
  refine A_aload_n (i := 0) dJ2_newCapacity_23 rfl rfl ?_
  refine A_getf cb_J3 hC 1 (Nat.le_of_ble_eq_true rfl) q224 rfl (v := .int 0) rfl dJ2_newCapacity_24 ?_
  refine A_ishl dJ2_newCapacity_27 ?_
  refine A_int (w := 2) (by decide) ?_
  refine A_iadd dJ2_newCapacity_28 ?_
  refine A_int (w := (nI (o + 2))) (nI_add o 2) ?_
  refine A_callS3E (b' := 0) (v := some (.int (nI (o + (o + 2))))) (τ := σ) (c_newLen σ o (n - o) ho (by omega)) tJ12_newLength q450 dJ2_newCapacity_29 (by decide) (Nat.le_of_ble_eq_true rfl) (Nat.le_of_ble_eq_true rfl) ?_
  refine A_istore dJ2_newCapacity_32 (Nat.le_of_ble_eq_true rfl) ?_
  refine A_iload dJ2_newCapacity_34 rfl ?_
  refine A_ldc (v := 2147483647) dJ2_newCapacity_36 q460 ?_
  refine A_icmp_ne_t (tgt := 51) dJ2_newCapacity_38 (by decide) (nnm (by omega)) ?_
  refine A_iload dJ2_newCapacity_51 rfl ?_
  refine A_aload_n (i := 0) dJ2_newCapacity_53 rfl rfl ?_
  refine A_getf cb_J3 hC 1 (Nat.le_of_ble_eq_true rfl) q224 rfl (v := .int 0) rfl dJ2_newCapacity_54 ?_
  refine A_ishr dJ2_newCapacity_57 ?_
  refine A_int (w := (nI (o + (o + 2)))) (sh0) ?_
  exact A_iret dJ2_newCapacity_58 rfl (⟨rfl, rfl⟩)
theorem c_copyB16 {l : Launch} {g : GC} (σ : AH) (sa : Nat) (f : AF) (hA : σ.1 sa = some (bytA 16 f)) (hf : ∀ i, i < 16 → fits .byte (.int (f i)) = true) : AMet l g mJ14_copyOf 1 9 [.ref sa, .int 34] σ (fun v τ => v = some (.ref σ.2) ∧ τ.1 σ.2 = some (bytA 34 (va_cpy f (fun _ => 0) 0 0 16)) ∧ ext σ τ) (A_no) := by
  refine A_of rfl (by decide) (Nat.le_of_ble_eq_true rfl) (L0 := [(0, .ref sa), (1, .int 34)]) rfl ?_
  refine A_wfh (fun wσ hgσ => ?_)
  have yσ : ext σ σ := ext.rf
  refine A_iload_n (i := 1) dJ14_copyOf_0 rfl rfl ?_
  refine A_aload_n (i := 0) dJ14_copyOf_1 rfl rfl ?_
  refine A_alen hA (by decide) (v := 16) (rfl) dJ14_copyOf_2 ?_
  refine A_icmp_ne_t (tgt := 14) dJ14_copyOf_3 (by decide) (by decide) ?_
  refine A_iload_n (i := 1) dJ14_copyOf_14 rfl rfl ?_
  refine A_newa (b' := 0) (u := 9) (ta := .byte) (atype := .byte) rfl (by decide) q202 (a0 := (34, .inl (fun _ => 0))) (fun _ => rfl) (by decide) (n' := 34) (by decide) (by decide) (Nat.le_of_ble_eq_true rfl) ⟨Nat.le_of_ble_eq_true rfl, Nat.le_of_ble_eq_true rfl⟩ dJ14_copyOf_15 ?_
  obtain ⟨σ1, eσ1⟩ : ∃ τ, τ = h_new σ (.inl (.byte, 34, .inl (fun _ => 0))) := ⟨_, rfl⟩
  refine A_st (σ' := σ1) eσ1.symm ?_
  have wσ1 : wfh σ1 := by rw [eσ1]; exact wσ.new
  have fσ1_0 : σ1.1 sa = some (.inl (.byte, 16, .inl f)) := by rw [eσ1]; exact (hn_ne (Nat.ne_of_lt (wσ _ _ hA))).trans hA
  have fσ1_1 : σ1.1 σ.2 = some (.inl (.byte, 34, .inl (fun _ => 0))) := by rw [eσ1]; exact if_pos rfl
  have xσ1 : ext σ σ1 := by rw [eσ1]; exact ext_new _ _
  have yσ1 : ext σ σ1 := yσ.tr (xσ1)
  refine A_astore_n (i := 2) dJ14_copyOf_17 rfl (Nat.le_of_ble_eq_true rfl) ?_
  refine A_aload_n (i := 0) dJ14_copyOf_18 rfl rfl ?_
  refine A_iconst (v := 0) dJ14_copyOf_19 (by decide) ?_
  refine A_aload_n (i := 2) dJ14_copyOf_20 rfl rfl ?_
  refine A_iconst (v := 0) dJ14_copyOf_21 (by decide) ?_
  refine A_aload_n (i := 0) dJ14_copyOf_22 rfl rfl ?_
  refine A_alen fσ1_0 (by decide) (v := 16) (rfl) dJ14_copyOf_23 ?_
  refine A_iload_n (i := 1) dJ14_copyOf_24 rfl rfl ?_
  refine A_mmin q471 q472 q150 q473 dJ14_copyOf_25 (by decide) (Nat.le_of_ble_eq_true rfl) ?_
  refine A_int (w := (mn 16 34)) rfl ?_
  refine A_int (w := 16) (by decide) ?_
  refine A_copyi (by decide) rfl fσ1_0 fσ1_1 q474 q476 q475 q152 (by decide) (by decide) (by decide) (by decide) (by decide) (fun i hi => by rw [show (0 : Int32).toNatClampNeg + i = i from Nat.zero_add i]; exact hf i hi) (by decide) (Nat.le_of_ble_eq_true rfl) dJ14_copyOf_28 ?_
  refine A_st (σ' := h_put σ1 σ.2 (.inl (.byte, 34, .inl (va_cpy f (fun _ => 0) 0 0 16)))) (rfl) ?_
  obtain ⟨σ2, eσ2⟩ : ∃ τ, τ = h_put σ1 σ.2 (.inl (.byte, 34, .inl (va_cpy f (fun _ => 0) 0 0 16))) := ⟨_, rfl⟩
  refine A_st (σ' := σ2) eσ2.symm ?_
  have wσ2 : wfh σ2 := by rw [eσ2]; exact wσ1.put fσ1_1
  have fσ2_0 : σ2.1 sa = some (.inl (.byte, 16, .inl f)) := by rw [eσ2]; exact (hp_ne (ne_of (x := .inl (.byte, 16, .inl f)) (y := .inl (.byte, 34, .inl (fun _ => 0))) fσ1_0 fσ1_1 (fun e8 => by simp at e8))).trans fσ1_0
  have fσ2_1 : σ2.1 σ.2 = some (.inl (.byte, 34, .inl (va_cpy f (fun _ => 0) 0 0 16))) := by rw [eσ2]; exact if_pos rfl
  have yσ2 : ext σ σ2 := by rw [eσ2]; exact (yσ1.putN yσ.1)
  refine A_aload_n (i := 2) dJ14_copyOf_31 rfl rfl ?_
  exact A_aret dJ14_copyOf_32 rfl (Or.inr ⟨_, rfl⟩) (Or.inr ⟨_, rfl⟩) (⟨rfl, fσ2_1, yσ2⟩)
theorem c_copyB34 {l : Launch} {g : GC} (σ : AH) (sa : Nat) (f : AF) (hA : σ.1 sa = some (bytA 34 f)) (hf : ∀ i, i < 34 → fits .byte (.int (f i)) = true) : AMet l g mJ14_copyOf 1 18 [.ref sa, .int 70] σ (fun v τ => v = some (.ref σ.2) ∧ τ.1 σ.2 = some (bytA 70 (va_cpy f (fun _ => 0) 0 0 34)) ∧ ext σ τ) (A_no) := by
  refine A_of rfl (by decide) (Nat.le_of_ble_eq_true rfl) (L0 := [(0, .ref sa), (1, .int 70)]) rfl ?_
  refine A_wfh (fun wσ hgσ => ?_)
  have yσ : ext σ σ := ext.rf
  refine A_iload_n (i := 1) dJ14_copyOf_0 rfl rfl ?_
  refine A_aload_n (i := 0) dJ14_copyOf_1 rfl rfl ?_
  refine A_alen hA (by decide) (v := 34) (rfl) dJ14_copyOf_2 ?_
  refine A_icmp_ne_t (tgt := 14) dJ14_copyOf_3 (by decide) (by decide) ?_
  refine A_iload_n (i := 1) dJ14_copyOf_14 rfl rfl ?_
  refine A_newa (b' := 0) (u := 18) (ta := .byte) (atype := .byte) rfl (by decide) q202 (a0 := (70, .inl (fun _ => 0))) (fun _ => rfl) (by decide) (n' := 70) (by decide) (by decide) (Nat.le_of_ble_eq_true rfl) ⟨Nat.le_of_ble_eq_true rfl, Nat.le_of_ble_eq_true rfl⟩ dJ14_copyOf_15 ?_
  obtain ⟨σ1, eσ1⟩ : ∃ τ, τ = h_new σ (.inl (.byte, 70, .inl (fun _ => 0))) := ⟨_, rfl⟩
  refine A_st (σ' := σ1) eσ1.symm ?_
  have wσ1 : wfh σ1 := by rw [eσ1]; exact wσ.new
  have fσ1_0 : σ1.1 sa = some (.inl (.byte, 34, .inl f)) := by rw [eσ1]; exact (hn_ne (Nat.ne_of_lt (wσ _ _ hA))).trans hA
  have fσ1_1 : σ1.1 σ.2 = some (.inl (.byte, 70, .inl (fun _ => 0))) := by rw [eσ1]; exact if_pos rfl
  have xσ1 : ext σ σ1 := by rw [eσ1]; exact ext_new _ _
  have yσ1 : ext σ σ1 := yσ.tr (xσ1)
  refine A_astore_n (i := 2) dJ14_copyOf_17 rfl (Nat.le_of_ble_eq_true rfl) ?_
  refine A_aload_n (i := 0) dJ14_copyOf_18 rfl rfl ?_
  refine A_iconst (v := 0) dJ14_copyOf_19 (by decide) ?_
  refine A_aload_n (i := 2) dJ14_copyOf_20 rfl rfl ?_
  refine A_iconst (v := 0) dJ14_copyOf_21 (by decide) ?_
  refine A_aload_n (i := 0) dJ14_copyOf_22 rfl rfl ?_
  refine A_alen fσ1_0 (by decide) (v := 34) (rfl) dJ14_copyOf_23 ?_
  refine A_iload_n (i := 1) dJ14_copyOf_24 rfl rfl ?_
  refine A_mmin q471 q472 q150 q473 dJ14_copyOf_25 (by decide) (Nat.le_of_ble_eq_true rfl) ?_
  refine A_int (w := (mn 34 70)) rfl ?_
  refine A_int (w := 34) (by decide) ?_
  refine A_copyi (by decide) rfl fσ1_0 fσ1_1 q474 q476 q475 q152 (by decide) (by decide) (by decide) (by decide) (by decide) (fun i hi => by rw [show (0 : Int32).toNatClampNeg + i = i from Nat.zero_add i]; exact hf i hi) (by decide) (Nat.le_of_ble_eq_true rfl) dJ14_copyOf_28 ?_
  refine A_st (σ' := h_put σ1 σ.2 (.inl (.byte, 70, .inl (va_cpy f (fun _ => 0) 0 0 34)))) (rfl) ?_
  obtain ⟨σ2, eσ2⟩ : ∃ τ, τ = h_put σ1 σ.2 (.inl (.byte, 70, .inl (va_cpy f (fun _ => 0) 0 0 34))) := ⟨_, rfl⟩
  refine A_st (σ' := σ2) eσ2.symm ?_
  have wσ2 : wfh σ2 := by rw [eσ2]; exact wσ1.put fσ1_1
  have fσ2_0 : σ2.1 sa = some (.inl (.byte, 34, .inl f)) := by rw [eσ2]; exact (hp_ne (ne_of (x := .inl (.byte, 34, .inl f)) (y := .inl (.byte, 70, .inl (fun _ => 0))) fσ1_0 fσ1_1 (fun e8 => by simp at e8))).trans fσ1_0
  have fσ2_1 : σ2.1 σ.2 = some (.inl (.byte, 70, .inl (va_cpy f (fun _ => 0) 0 0 34))) := by rw [eσ2]; exact if_pos rfl
  have yσ2 : ext σ σ2 := by rw [eσ2]; exact (yσ1.putN yσ.1)
  refine A_aload_n (i := 2) dJ14_copyOf_31 rfl rfl ?_
  exact A_aret dJ14_copyOf_32 rfl (Or.inr ⟨_, rfl⟩) (Or.inr ⟨_, rfl⟩) (⟨rfl, fσ2_1, yσ2⟩)
theorem c_ens {l : Launch} {g : GC} (σ : AH) (σ0 : AH) (sb sa0 n : Nat) (l9 : List Int32) (h : SX σ0 sb sa0 σ l9 l9.length) (h1 : n ≤ l9.length + 2) (h2 : n ≤ 70) : AMet l g mJ2_ensureCapacityInternal 3 18 [.ref sb, .int (nI n)] σ (fun v τ => v = none ∧ SX σ0 sb sa0 τ l9 n) (A_no) := by
  obtain ⟨sa, cap, ml, f, -, hd0, hfr, h5⟩ := id h
  have hd := id hd0
  obtain ⟨hC, hA, hcp, hlc, hfx⟩ := hd
  by_cases c : n ≤ cap
  · skip
    refine A_of rfl (by decide) (Nat.le_of_ble_eq_true rfl) (L0 := [(0, .ref sb), (1, .int (nI n))]) rfl ?_
    refine A_wfh (fun wσ hgσ => ?_)
    refine A_aload_n (i := 0) dJ2_ensureCapacityInternal_0 rfl rfl ?_
    refine A_getf cb_J3 hC 0 (Nat.le_of_ble_eq_true rfl) q223 rfl (v := .ref sa) rfl dJ2_ensureCapacityInternal_1 ?_
    refine A_alen hA (by decide) (v := nI cap) (rfl) dJ2_ensureCapacityInternal_4 ?_
    refine A_aload_n (i := 0) dJ2_ensureCapacityInternal_5 rfl rfl ?_
    refine A_getf cb_J3 hC 1 (Nat.le_of_ble_eq_true rfl) q224 rfl (v := .int 0) rfl dJ2_ensureCapacityInternal_6 ?_
    refine A_ishr dJ2_ensureCapacityInternal_9 ?_
    refine A_int (w := (nI cap)) (sh0) ?_
    refine A_istore_n (i := 2) dJ2_ensureCapacityInternal_10 rfl (Nat.le_of_ble_eq_true rfl) ?_
    refine A_iload_n (i := 1) dJ2_ensureCapacityInternal_11 rfl rfl ?_
    refine A_iload_n (i := 2) dJ2_ensureCapacityInternal_12 rfl rfl ?_
    refine A_isub dJ2_ensureCapacityInternal_13 ?_
    refine A_if_le_t (tgt := 38) dJ2_ensureCapacityInternal_14 (by decide) ((nsub_t n (by omega) cap (by omega)).1 c) ?_
    exact A_vret dJ2_ensureCapacityInternal_38 rfl (⟨rfl, SX.of hfr h5 fra.rf (Or.inl rfl) c hd0⟩)
  rcases hcp with e | e | e
  · subst e
    refine A_of rfl (by decide) (Nat.le_of_ble_eq_true rfl) (L0 := [(0, .ref sb), (1, .int (nI n))]) rfl ?_
    refine A_wfh (fun wσ hgσ => ?_)
    refine A_aload_n (i := 0) dJ2_ensureCapacityInternal_0 rfl rfl ?_
    refine A_getf cb_J3 hC 0 (Nat.le_of_ble_eq_true rfl) q223 rfl (v := .ref sa) rfl dJ2_ensureCapacityInternal_1 ?_
    refine A_alen hA (by decide) (v := 16) (rfl) dJ2_ensureCapacityInternal_4 ?_
    refine A_aload_n (i := 0) dJ2_ensureCapacityInternal_5 rfl rfl ?_
    refine A_getf cb_J3 hC 1 (Nat.le_of_ble_eq_true rfl) q224 rfl (v := .int 0) rfl dJ2_ensureCapacityInternal_6 ?_
    refine A_ishr dJ2_ensureCapacityInternal_9 ?_
    refine A_int (w := 16) (by decide) ?_
    refine A_istore_n (i := 2) dJ2_ensureCapacityInternal_10 rfl (Nat.le_of_ble_eq_true rfl) ?_
    refine A_iload_n (i := 1) dJ2_ensureCapacityInternal_11 rfl rfl ?_
    refine A_iload_n (i := 2) dJ2_ensureCapacityInternal_12 rfl rfl ?_
    refine A_isub dJ2_ensureCapacityInternal_13 ?_
    refine A_int (w := (nI (n - 16))) (((nsub_t n (by omega) 16 (by omega)).2 (by omega)).2) ?_
    refine A_if_le_f (tgt := 38) dJ2_ensureCapacityInternal_14 (by decide) ((fun q => by have k := (nI_lei (b := 0) (by omega) (by decide)).mp q; omega)) ?_
    refine A_aload_n (i := 0) dJ2_ensureCapacityInternal_17 rfl rfl ?_
    refine A_aload_n (i := 0) dJ2_ensureCapacityInternal_18 rfl rfl ?_
    refine A_getf cb_J3 hC 0 (Nat.le_of_ble_eq_true rfl) q223 rfl (v := .ref sa) rfl dJ2_ensureCapacityInternal_19 ?_
    refine A_aload_n (i := 0) dJ2_ensureCapacityInternal_22 rfl rfl ?_
    refine A_iload_n (i := 1) dJ2_ensureCapacityInternal_23 rfl rfl ?_
    refine A_callP1E (b' := 18) (v := some (.int 34)) (τ := σ) (c_newCap σ sb sa 16 n ml (nI l9.length) f hC hA (by decide) (by omega) (by omega)) tP_J2_newCapacity q446 (Or.inr ⟨_, _, _, hC, rfl, rfl⟩) dJ2_ensureCapacityInternal_24 (by decide) (Nat.le_of_ble_eq_true rfl) (Nat.le_of_ble_eq_true rfl) ?_
    refine A_aload_n (i := 0) dJ2_ensureCapacityInternal_27 rfl rfl ?_
    refine A_getf cb_J3 hC 1 (Nat.le_of_ble_eq_true rfl) q224 rfl (v := .int 0) rfl dJ2_ensureCapacityInternal_28 ?_
    refine A_ishl dJ2_ensureCapacityInternal_31 ?_
    refine A_int (w := 34) (by decide) ?_
    refine A_callS2 (b' := 9) (c_copyB16 σ sa f hA hfx.1) tJ14_copyOf q461 dJ2_ensureCapacityInternal_32 (by decide) (Nat.le_of_ble_eq_true rfl) (Nat.le_of_ble_eq_true rfl) (fun w9 τ9 h9 => ?_) (fun E9 q9 τ9 h9 => h9.elim)
    obtain ⟨e9, f9, y9⟩ := h9
    subst e9
    refine A_wfh (fun wτ9 hgτ9 => ?_)
    have fC9 : τ9.1 sb = some (.inr (.inl (12, [.ref sa, .int 0, .int ml, .int (nI l9.length)]))) := y9.at wσ hC
    refine A_putf cb_J3 fC9 0 (Nat.le_of_ble_eq_true rfl) q223 rfl rfl rfl rfl (Nat.le_of_ble_eq_true rfl) dJ2_ensureCapacityInternal_35 ?_
    obtain ⟨σ1, eσ1⟩ : ∃ τ, τ = h_put τ9 sb (.inr (.inl (12, [.ref σ.2, .int 0, .int ml, .int (nI l9.length)]))) := ⟨_, rfl⟩
    refine A_st (σ' := σ1) eσ1.symm ?_
    have wσ1 : wfh σ1 := by rw [eσ1]; exact wτ9.put fC9
    have fσ1_0 : σ1.1 sb = some (.inr (.inl (12, [.ref σ.2, .int 0, .int ml, .int (nI l9.length)]))) := by rw [eσ1]; exact if_pos rfl
    have fσ1_1 : σ1.1 σ.2 = some (.inl (.byte, 34, .inl (va_cpy f (fun _ => 0) 0 0 16))) := by rw [eσ1]; exact (hp_ne (ne_of (x := .inl (.byte, 34, .inl (va_cpy f (fun _ => 0) 0 0 16))) (y := .inr (.inl (12, [.ref sa, .int 0, .int ml, .int (nI l9.length)]))) f9 fC9 (fun e8 => by simp at e8))).trans f9
    exact A_vret dJ2_ensureCapacityInternal_38 rfl (⟨rfl, SX.of hfr h5 ((fra.rf.ex y9).kx m2a (by rw [eσ1]; exact kx.rf.put)) (Or.inr (Nat.le_refl _)) (by omega) (SBd.grown hfx (by omega) (by decide) hlc fσ1_0 fσ1_1)⟩)
  · subst e
    refine A_of rfl (by decide) (Nat.le_of_ble_eq_true rfl) (L0 := [(0, .ref sb), (1, .int (nI n))]) rfl ?_
    refine A_wfh (fun wσ hgσ => ?_)
    refine A_aload_n (i := 0) dJ2_ensureCapacityInternal_0 rfl rfl ?_
    refine A_getf cb_J3 hC 0 (Nat.le_of_ble_eq_true rfl) q223 rfl (v := .ref sa) rfl dJ2_ensureCapacityInternal_1 ?_
    refine A_alen hA (by decide) (v := 34) (rfl) dJ2_ensureCapacityInternal_4 ?_
    refine A_aload_n (i := 0) dJ2_ensureCapacityInternal_5 rfl rfl ?_
    refine A_getf cb_J3 hC 1 (Nat.le_of_ble_eq_true rfl) q224 rfl (v := .int 0) rfl dJ2_ensureCapacityInternal_6 ?_
    refine A_ishr dJ2_ensureCapacityInternal_9 ?_
    refine A_int (w := 34) (by decide) ?_
    refine A_istore_n (i := 2) dJ2_ensureCapacityInternal_10 rfl (Nat.le_of_ble_eq_true rfl) ?_
    refine A_iload_n (i := 1) dJ2_ensureCapacityInternal_11 rfl rfl ?_
    refine A_iload_n (i := 2) dJ2_ensureCapacityInternal_12 rfl rfl ?_
    refine A_isub dJ2_ensureCapacityInternal_13 ?_
    refine A_int (w := (nI (n - 34))) (((nsub_t n (by omega) 34 (by omega)).2 (by omega)).2) ?_
    refine A_if_le_f (tgt := 38) dJ2_ensureCapacityInternal_14 (by decide) ((fun q => by have k := (nI_lei (b := 0) (by omega) (by decide)).mp q; omega)) ?_
    refine A_aload_n (i := 0) dJ2_ensureCapacityInternal_17 rfl rfl ?_
    refine A_aload_n (i := 0) dJ2_ensureCapacityInternal_18 rfl rfl ?_
    refine A_getf cb_J3 hC 0 (Nat.le_of_ble_eq_true rfl) q223 rfl (v := .ref sa) rfl dJ2_ensureCapacityInternal_19 ?_
    refine A_aload_n (i := 0) dJ2_ensureCapacityInternal_22 rfl rfl ?_
    refine A_iload_n (i := 1) dJ2_ensureCapacityInternal_23 rfl rfl ?_
    refine A_callP1E (b' := 18) (v := some (.int 70)) (τ := σ) (c_newCap σ sb sa 34 n ml (nI l9.length) f hC hA (by decide) (by omega) (by omega)) tP_J2_newCapacity q446 (Or.inr ⟨_, _, _, hC, rfl, rfl⟩) dJ2_ensureCapacityInternal_24 (by decide) (Nat.le_of_ble_eq_true rfl) (Nat.le_of_ble_eq_true rfl) ?_
    refine A_aload_n (i := 0) dJ2_ensureCapacityInternal_27 rfl rfl ?_
    refine A_getf cb_J3 hC 1 (Nat.le_of_ble_eq_true rfl) q224 rfl (v := .int 0) rfl dJ2_ensureCapacityInternal_28 ?_
    refine A_ishl dJ2_ensureCapacityInternal_31 ?_
    refine A_int (w := 70) (by decide) ?_
    refine A_callS2 (b' := 0) (c_copyB34 σ sa f hA hfx.1) tJ14_copyOf q461 dJ2_ensureCapacityInternal_32 (by decide) (Nat.le_of_ble_eq_true rfl) (Nat.le_of_ble_eq_true rfl) (fun w9 τ9 h9 => ?_) (fun E9 q9 τ9 h9 => h9.elim)
    obtain ⟨e9, f9, y9⟩ := h9
    subst e9
    refine A_wfh (fun wτ9 hgτ9 => ?_)
    have fC9 : τ9.1 sb = some (.inr (.inl (12, [.ref sa, .int 0, .int ml, .int (nI l9.length)]))) := y9.at wσ hC
    refine A_putf cb_J3 fC9 0 (Nat.le_of_ble_eq_true rfl) q223 rfl rfl rfl rfl (Nat.le_of_ble_eq_true rfl) dJ2_ensureCapacityInternal_35 ?_
    obtain ⟨σ1, eσ1⟩ : ∃ τ, τ = h_put τ9 sb (.inr (.inl (12, [.ref σ.2, .int 0, .int ml, .int (nI l9.length)]))) := ⟨_, rfl⟩
    refine A_st (σ' := σ1) eσ1.symm ?_
    have wσ1 : wfh σ1 := by rw [eσ1]; exact wτ9.put fC9
    have fσ1_0 : σ1.1 sb = some (.inr (.inl (12, [.ref σ.2, .int 0, .int ml, .int (nI l9.length)]))) := by rw [eσ1]; exact if_pos rfl
    have fσ1_1 : σ1.1 σ.2 = some (.inl (.byte, 70, .inl (va_cpy f (fun _ => 0) 0 0 34))) := by rw [eσ1]; exact (hp_ne (ne_of (x := .inl (.byte, 70, .inl (va_cpy f (fun _ => 0) 0 0 34))) (y := .inr (.inl (12, [.ref sa, .int 0, .int ml, .int (nI l9.length)]))) f9 fC9 (fun e8 => by simp at e8))).trans f9
    exact A_vret dJ2_ensureCapacityInternal_38 rfl (⟨rfl, SX.of hfr h5 ((fra.rf.ex y9).kx m2a (by rw [eσ1]; exact kx.rf.put)) (Or.inr (Nat.le_refl _)) (by omega) (SBd.grown hfx (by omega) (by decide) hlc fσ1_0 fσ1_1)⟩)
  · exact absurd (Nat.le_trans h2 (Nat.le_of_eq e.symm)) c
theorem c_sbApC0 {l : Launch} {g : GC} (σ : AH) (σ0 : AH) (sb sa0 k : Nat) (l9 : List Int32) (h : SX σ0 sb sa0 σ l9 l9.length) (hk : k < 128) (hl : l9.length + 1 ≤ 70) : AMet l g mJ2_append 4 18 [.ref sb, .int (nI k)] σ (fun v τ => v = some (.ref sb) ∧ SX σ0 sb sa0 τ (l9 ++ [nI k]) (l9 ++ [nI k]).length) (A_no) := by
  refine A_of rfl (by decide) (Nat.le_of_ble_eq_true rfl) (L0 := [(0, .ref sb), (1, .int (nI k))]) rfl ?_
  refine A_wfh (fun wσ hgσ => ?_)
  obtain ⟨sa, cap, ml, f, -, hd0, hfr, h5⟩ := id h
  have hC := hd0.1
  refine A_aload_n (i := 0) dJ2_append_0 rfl rfl ?_
  refine A_aload_n (i := 0) dJ2_append_1 rfl rfl ?_
  refine A_getf cb_J3 hC 3 (Nat.le_of_ble_eq_true rfl) q227 rfl (v := .int (nI l9.length)) rfl dJ2_append_2 ?_
  refine A_iconst (v := 1) dJ2_append_5 (by decide) ?_
  refine A_iadd dJ2_append_6 ?_
  refine A_int (w := nI (l9.length + 1)) (nI_add l9.length 1) ?_
  refine A_callP1 (b' := 0) (c_ens σ σ0 sb sa0 (l9.length + 1) l9 h (by omega) hl) tP_J2_ensureCapacityInternal q442 (Or.inr ⟨_, _, _, hC, rfl, rfl⟩) dJ2_append_7 (by decide) (Nat.le_of_ble_eq_true rfl) (Nat.le_of_ble_eq_true rfl) (fun w9 τ9 h9 => ?_) (fun E9 q9 τ9 h9 => h9.elim)
  obtain ⟨e9, h9x⟩ := h9
  subst e9
  refine A_wfh (fun wτ9 hgτ9 => ?_)
  obtain ⟨sa1, cap1, ml1, f1, hn1, hd1, hfr1, h51⟩ := h9x
  refine A_aload_n (i := 0) dJ2_append_10 rfl rfl ?_
  refine A_callU0E (b' := 0) (v := some (.int 1)) (τ := τ9) (c_sbLat τ9 sb sa1 ml1 (nI l9.length) hd1.1) tU_J2_isLatin1 q477 (Or.inr ⟨_, _, _, hd1.1, rfl, rfl⟩) dJ2_append_11 (by decide) (Nat.le_of_ble_eq_true rfl) (Nat.le_of_ble_eq_true rfl) ?_
  refine A_if_eq_f (tgt := 45) dJ2_append_14 (by decide) (by decide) ?_
  refine A_iload_n (i := 1) dJ2_append_17 rfl rfl ?_
  refine A_callS1E (b' := 0) (v := some (.int 1)) (τ := τ9) (c_canEnc τ9 k hk) tJ15_canEncode q482 dJ2_append_18 (by decide) (Nat.le_of_ble_eq_true rfl) (Nat.le_of_ble_eq_true rfl) ?_
  refine A_if_eq_f (tgt := 45) dJ2_append_21 (by decide) (by decide) ?_
  refine A_aload_n (i := 0) dJ2_append_24 rfl rfl ?_
  refine A_getf cb_J3 hd1.1 0 (Nat.le_of_ble_eq_true rfl) q223 rfl (v := .ref sa1) rfl dJ2_append_25 ?_
  refine A_aload_n (i := 0) dJ2_append_28 rfl rfl ?_
  refine A_dup dJ2_append_29 rfl ?_
  refine A_getf cb_J3 hd1.1 3 (Nat.le_of_ble_eq_true rfl) q227 rfl (v := .int (nI l9.length)) rfl dJ2_append_30 ?_
  refine A_dup_x1 dJ2_append_33 rfl rfl ?_
  refine A_iconst (v := 1) dJ2_append_34 (by decide) ?_
  refine A_iadd dJ2_append_35 ?_
  refine A_int (w := nI (l9.length + 1)) (nI_add l9.length 1) ?_
  refine A_putf cb_J3 hd1.1 3 (Nat.le_of_ble_eq_true rfl) q227 rfl rfl rfl rfl (Nat.le_of_ble_eq_true rfl) dJ2_append_36 ?_
  obtain ⟨σ1, eσ1⟩ : ∃ τ, τ = h_put τ9 sb (.inr (.inl (12, [.ref sa1, .int 0, .int ml1, .int (nI (l9.length + 1))]))) := ⟨_, rfl⟩
  refine A_st (σ' := σ1) eσ1.symm ?_
  have wσ1 : wfh σ1 := by rw [eσ1]; exact wτ9.put hd1.1
  have fσ1_0 : σ1.1 sb = some (.inr (.inl (12, [.ref sa1, .int 0, .int ml1, .int (nI (l9.length + 1))]))) := by rw [eσ1]; exact if_pos rfl
  have fσ1_1 : σ1.1 sa1 = some (.inl (.byte, cap1, .inl f1)) := by rw [eσ1]; exact (hp_ne (ne_of (x := .inl (.byte, cap1, .inl f1)) (y := .inr (.inl (12, [.ref sa1, .int 0, .int ml1, .int (nI l9.length)]))) hd1.2.1 hd1.1 (fun e8 => by simp at e8))).trans hd1.2.1
  refine A_iload_n (i := 1) dJ2_append_39 rfl rfl ?_
  refine A_i2b (v := (nI k)) dJ2_append_40 (i2bN hk) ?_
  refine A_bast fσ1_1 (vp_in_nI (by omega : l9.length < cap1) (by have k := hd1.2.2.1; omega)) dJ2_append_41 ?_
  refine A_st (σ' := h_put σ1 sa1 (.inl (.byte, cap1, .inl (va_up f1 l9.length (nI k))))) (by rw [nI_clamp (by omega), narB hk] <;> rfl) ?_
  obtain ⟨σ2, eσ2⟩ : ∃ τ, τ = h_put σ1 sa1 (.inl (.byte, cap1, .inl (va_up f1 l9.length (nI k)))) := ⟨_, rfl⟩
  refine A_st (σ' := σ2) eσ2.symm ?_
  have wσ2 : wfh σ2 := by rw [eσ2]; exact wσ1.put fσ1_1
  have fσ2_0 : σ2.1 sb = some (.inr (.inl (12, [.ref sa1, .int 0, .int ml1, .int (nI (l9.length + 1))]))) := by rw [eσ2]; exact (hp_ne (ne_of (x := .inr (.inl (12, [.ref sa1, .int 0, .int ml1, .int (nI (l9.length + 1))]))) (y := .inl (.byte, cap1, .inl f1)) fσ1_0 fσ1_1 (fun e8 => by simp at e8))).trans fσ1_0
  have fσ2_1 : σ2.1 sa1 = some (.inl (.byte, cap1, .inl (va_up f1 l9.length (nI k)))) := by rw [eσ2]; exact if_pos rfl
  refine A_goto (tgt := 75) dJ2_append_42 (by decide) ?_
  refine A_aload_n (i := 0) dJ2_append_75 rfl rfl ?_
  exact A_aret dJ2_append_76 rfl (Or.inl ⟨_, rfl⟩) (Or.inr ⟨_, rfl⟩) (⟨rfl, SX.room (SX.of (n := 0) hfr1 h51 ((fra.rf.kx m2a (show kx sb τ9 σ1 by rw [eσ1]; exact kx.rf.put)).kx m2b (show kx sa1 σ1 σ2 by rw [eσ2]; exact kx.rf.put)) (Or.inl rfl) (Nat.zero_le _) (SBd.put1 hd1.2.2.2.2 hd1.2.2.1 fσ2_0 fσ2_1 hk hn1))⟩)
theorem c_strSz1 {l : Launch} {g : GC} (σ : AH) (k : Nat) (hk : k ≤ 9) : AMet l g mJ18_stringSize 1 0 [.int (nI k)] σ (A_eq (some (.int 1)) σ) (A_no) := by
  refine A_of rfl (by decide) (Nat.le_of_ble_eq_true rfl) (L0 := [(0, .int (nI k))]) rfl ?_
  refine A_iconst (v := 1) dJ18_stringSize_0 (by decide) ?_
  refine A_istore_n (i := 1) dJ18_stringSize_1 rfl (Nat.le_of_ble_eq_true rfl) ?_
  refine A_iload_n (i := 0) dJ18_stringSize_2 rfl rfl ?_
  refine A_if_lt_f (tgt := 11) dJ18_stringSize_3 (by decide) (nI_pos (by omega)) ?_
  refine A_iconst (v := 0) dJ18_stringSize_6 (by decide) ?_
  refine A_istore_n (i := 1) dJ18_stringSize_7 rfl (Nat.le_of_ble_eq_true rfl) ?_
  refine A_iload_n (i := 0) dJ18_stringSize_8 rfl rfl ?_
  refine A_ineg dJ18_stringSize_9 ?_
  refine A_istore_n (i := 0) dJ18_stringSize_10 rfl (Nat.le_of_ble_eq_true rfl) ?_
  refine A_bipush (v := (-10)) dJ18_stringSize_11 (by decide) ?_
  refine A_istore_n (i := 2) dJ18_stringSize_13 rfl (Nat.le_of_ble_eq_true rfl) ?_
  refine A_iconst (v := 1) dJ18_stringSize_14 (by decide) ?_
  refine A_istore_n (i := 3) dJ18_stringSize_15 rfl (Nat.le_of_ble_eq_true rfl) ?_
  refine A_iload_n (i := 3) dJ18_stringSize_16 rfl rfl ?_
  refine A_bipush (v := 10) dJ18_stringSize_17 (by decide) ?_
  refine A_icmp_ge_f (tgt := 42) dJ18_stringSize_19 (by decide) (by decide) ?_
  refine A_iload_n (i := 0) dJ18_stringSize_22 rfl rfl ?_
  refine A_iload_n (i := 2) dJ18_stringSize_23 rfl rfl ?_
  refine A_icmp_le_f (tgt := 31) dJ18_stringSize_24 (by decide) ((strZ k (by omega)).1 hk) ?_
  refine A_iload_n (i := 3) dJ18_stringSize_27 rfl rfl ?_
  refine A_iload_n (i := 1) dJ18_stringSize_28 rfl rfl ?_
  refine A_iadd dJ18_stringSize_29 ?_
  refine A_int (w := 1) (by decide) ?_
  exact A_iret dJ18_stringSize_30 rfl (⟨rfl, rfl⟩)
theorem c_strSz2 {l : Launch} {g : GC} (σ : AH) (k : Nat) (hk : 9 < k) (hk2 : k < 100) : AMet l g mJ18_stringSize 1 0 [.int (nI k)] σ (A_eq (some (.int 2)) σ) (A_no) := by
  refine A_of rfl (by decide) (Nat.le_of_ble_eq_true rfl) (L0 := [(0, .int (nI k))]) rfl ?_
  refine A_iconst (v := 1) dJ18_stringSize_0 (by decide) ?_
  refine A_istore_n (i := 1) dJ18_stringSize_1 rfl (Nat.le_of_ble_eq_true rfl) ?_
  refine A_iload_n (i := 0) dJ18_stringSize_2 rfl rfl ?_
  refine A_if_lt_f (tgt := 11) dJ18_stringSize_3 (by decide) (nI_pos (by omega)) ?_
  refine A_iconst (v := 0) dJ18_stringSize_6 (by decide) ?_
  refine A_istore_n (i := 1) dJ18_stringSize_7 rfl (Nat.le_of_ble_eq_true rfl) ?_
  refine A_iload_n (i := 0) dJ18_stringSize_8 rfl rfl ?_
  refine A_ineg dJ18_stringSize_9 ?_
  refine A_istore_n (i := 0) dJ18_stringSize_10 rfl (Nat.le_of_ble_eq_true rfl) ?_
  refine A_bipush (v := (-10)) dJ18_stringSize_11 (by decide) ?_
  refine A_istore_n (i := 2) dJ18_stringSize_13 rfl (Nat.le_of_ble_eq_true rfl) ?_
  refine A_iconst (v := 1) dJ18_stringSize_14 (by decide) ?_
  refine A_istore_n (i := 3) dJ18_stringSize_15 rfl (Nat.le_of_ble_eq_true rfl) ?_
  refine A_iload_n (i := 3) dJ18_stringSize_16 rfl rfl ?_
  refine A_bipush (v := 10) dJ18_stringSize_17 (by decide) ?_
  refine A_icmp_ge_f (tgt := 42) dJ18_stringSize_19 (by decide) (by decide) ?_
  refine A_iload_n (i := 0) dJ18_stringSize_22 rfl rfl ?_
  refine A_iload_n (i := 2) dJ18_stringSize_23 rfl rfl ?_
  refine A_icmp_le_t (tgt := 31) dJ18_stringSize_24 (by decide) (((strZ k hk2).2 hk).1) ?_
  refine A_bipush (v := 10) dJ18_stringSize_31 (by decide) ?_
  refine A_iload_n (i := 2) dJ18_stringSize_33 rfl rfl ?_
  refine A_imul dJ18_stringSize_34 ?_
  refine A_int (w := (-100)) (by decide) ?_
  refine A_istore_n (i := 2) dJ18_stringSize_35 rfl (Nat.le_of_ble_eq_true rfl) ?_
  refine A_iinc (v := 2) dJ18_stringSize_36 rfl (by decide) (Nat.le_of_ble_eq_true rfl) ?_
  refine A_goto (tgt := 16) dJ18_stringSize_39 (by decide) ?_
  refine A_sub (L' := [(0, .int (-(nI k))), (1, .int 0), (2, .int (-100)), (3, .int 2)]) ⟨rfl, rfl, rfl, rfl, trivial⟩ ?_
  refine A_iload_n (i := 3) dJ18_stringSize_16 rfl rfl ?_
  refine A_bipush (v := 10) dJ18_stringSize_17 (by decide) ?_
  refine A_icmp_ge_f (tgt := 42) dJ18_stringSize_19 (by decide) (by decide) ?_
  refine A_iload_n (i := 0) dJ18_stringSize_22 rfl rfl ?_
  refine A_iload_n (i := 2) dJ18_stringSize_23 rfl rfl ?_
  refine A_icmp_le_f (tgt := 31) dJ18_stringSize_24 (by decide) (((strZ k hk2).2 hk).2) ?_
  refine A_iload_n (i := 3) dJ18_stringSize_27 rfl rfl ?_
  refine A_iload_n (i := 1) dJ18_stringSize_28 rfl rfl ?_
  refine A_iadd dJ18_stringSize_29 ?_
  refine A_int (w := 2) (by decide) ?_
  exact A_iret dJ18_stringSize_30 rfl (⟨rfl, rfl⟩)
theorem c_getCh1 {l : Launch} {g : GC} (σ : AH) (sa cap p k : Nat) (f : AF) (hA : σ.1 sa = some (bytA cap f)) (hp : p + 1 ≤ cap) (hcp : cap ≤ 70) (hk : k ≤ 9) : AMet l g mJ18_getChars 1 0 [.int (nI k), .int (nI (p + 1)), .ref sa] σ (A_chg (some (.int (nI p))) σ sa (bytA cap (va_up f p (nI (48 + k))))) (A_no) := by
  refine A_of rfl (by decide) (Nat.le_of_ble_eq_true rfl) (L0 := [(0, .int (nI k)), (1, .int (nI (p + 1))), (2, .ref sa)]) rfl ?_
  refine A_wfh (fun wσ hgσ => ?_)
  have zσ : kx sa σ σ := kx.rf
  refine A_gok (fun hgk => ?_)
  obtain ⟨q1, so1, sa1⟩ := s_ones hgk
  obtain ⟨q2, so2, sa2⟩ := s_tens hgk
  refine A_iload_n (i := 1) dJ18_getChars_0 rfl rfl ?_
  refine A_istore dJ18_getChars_1 (Nat.le_of_ble_eq_true rfl) ?_
  refine A_iload_n (i := 0) dJ18_getChars_3 rfl rfl ?_
  refine A_if_ge_t (tgt := 11) dJ18_getChars_4 (by decide) ((Int32.not_lt.mp (nI_pos (by omega)))) ?_
  refine A_iconst (v := 0) dJ18_getChars_11 (by decide) ?_
  refine A_istore dJ18_getChars_12 (Nat.le_of_ble_eq_true rfl) ?_
  refine A_iload dJ18_getChars_14 rfl ?_
  refine A_if_ne_f (tgt := 22) dJ18_getChars_16 (by decide) ((by decide)) ?_
  refine A_iload_n (i := 0) dJ18_getChars_19 rfl rfl ?_
  refine A_ineg dJ18_getChars_20 ?_
  refine A_istore_n (i := 0) dJ18_getChars_21 rfl (Nat.le_of_ble_eq_true rfl) ?_
  refine A_iload_n (i := 0) dJ18_getChars_22 rfl rfl ?_
  refine A_bipush (v := (-100)) dJ18_getChars_23 (by decide) ?_
  refine A_icmp_gt_t (tgt := 72) dJ18_getChars_25 (by decide) ((negT k (by omega)).2.1) ?_
  refine A_aload_n (i := 2) dJ18_getChars_72 rfl rfl ?_
  refine A_iinc (v := nI p) dJ18_getChars_73 rfl (nI_dec _) (Nat.le_of_ble_eq_true rfl) ?_
  refine A_iload dJ18_getChars_76 rfl ?_
  refine A_getsO so1 q589 rfl dJ18_getChars_78 ?_
  refine A_iload_n (i := 0) dJ18_getChars_81 rfl rfl ?_
  refine A_ineg dJ18_getChars_82 ?_
  refine A_int (w := (nI k)) ((negT k (by omega)).1) ?_
  refine A_baldO sa1 (vp_in_nI (by omega : k < 100) (by decide)) (v := .int (nI (48 + k))) (by rw [nI_clamp (by omega)]; exact (digO k (by omega)).trans (by rw [Nat.mod_eq_of_lt (by omega)])) dJ18_getChars_83 ?_
  refine A_bast hA (vp_in_nI (by omega : p < cap) (by omega)) dJ18_getChars_84 ?_
  refine A_st (σ' := h_put σ sa (.inl (.byte, cap, .inl (va_up f p (nI (48 + k)))))) (by rw [nI_clamp (by omega), narB (by omega)] <;> rfl) ?_
  obtain ⟨σ1, eσ1⟩ : ∃ τ, τ = h_put σ sa (.inl (.byte, cap, .inl (va_up f p (nI (48 + k))))) := ⟨_, rfl⟩
  refine A_st (σ' := σ1) eσ1.symm ?_
  have wσ1 : wfh σ1 := by rw [eσ1]; exact wσ.put hA
  have fσ1_0 : σ1.1 sa = some (.inl (.byte, cap, .inl (va_up f p (nI (48 + k))))) := by rw [eσ1]; exact if_pos rfl
  have zσ1 : kx sa σ σ1 := by rw [eσ1]; exact zσ.put
  refine A_iload_n (i := 0) dJ18_getChars_85 rfl rfl ?_
  refine A_bipush (v := (-9)) dJ18_getChars_86 (by decide) ?_
  refine A_icmp_ge_t (tgt := 104) dJ18_getChars_88 (by decide) ((negT k (by omega)).2.2.1 hk) ?_
  refine A_iload dJ18_getChars_104 rfl ?_
  refine A_if_eq_t (tgt := 118) dJ18_getChars_106 (by decide) ((by decide)) ?_
  refine A_iload dJ18_getChars_118 rfl ?_
  exact A_iret dJ18_getChars_120 rfl (⟨rfl, fσ1_0, zσ1⟩)
theorem c_getCh2 {l : Launch} {g : GC} (σ : AH) (sa cap p k : Nat) (f : AF) (hA : σ.1 sa = some (bytA cap f)) (hp : p + 2 ≤ cap) (hcp : cap ≤ 70) (hk : 9 < k) (hk2 : k < 100) : AMet l g mJ18_getChars 1 0 [.int (nI k), .int (nI (p + 2)), .ref sa] σ (A_chg (some (.int (nI p))) σ sa (bytA cap (va_up (va_up f (p + 1) (nI (48 + k % 10))) p (nI (48 + k / 10))))) (A_no) := by
  refine A_of rfl (by decide) (Nat.le_of_ble_eq_true rfl) (L0 := [(0, .int (nI k)), (1, .int (nI (p + 2))), (2, .ref sa)]) rfl ?_
  refine A_wfh (fun wσ hgσ => ?_)
  have zσ : kx sa σ σ := kx.rf
  refine A_gok (fun hgk => ?_)
  obtain ⟨q1, so1, sa1⟩ := s_ones hgk
  obtain ⟨q2, so2, sa2⟩ := s_tens hgk
  refine A_iload_n (i := 1) dJ18_getChars_0 rfl rfl ?_
  refine A_istore dJ18_getChars_1 (Nat.le_of_ble_eq_true rfl) ?_
  refine A_iload_n (i := 0) dJ18_getChars_3 rfl rfl ?_
  refine A_if_ge_t (tgt := 11) dJ18_getChars_4 (by decide) ((Int32.not_lt.mp (nI_pos (by omega)))) ?_
  refine A_iconst (v := 0) dJ18_getChars_11 (by decide) ?_
  refine A_istore dJ18_getChars_12 (Nat.le_of_ble_eq_true rfl) ?_
  refine A_iload dJ18_getChars_14 rfl ?_
  refine A_if_ne_f (tgt := 22) dJ18_getChars_16 (by decide) ((by decide)) ?_
  refine A_iload_n (i := 0) dJ18_getChars_19 rfl rfl ?_
  refine A_ineg dJ18_getChars_20 ?_
  refine A_istore_n (i := 0) dJ18_getChars_21 rfl (Nat.le_of_ble_eq_true rfl) ?_
  refine A_iload_n (i := 0) dJ18_getChars_22 rfl rfl ?_
  refine A_bipush (v := (-100)) dJ18_getChars_23 (by decide) ?_
  refine A_icmp_gt_t (tgt := 72) dJ18_getChars_25 (by decide) ((negT k (by omega)).2.1) ?_
  refine A_aload_n (i := 2) dJ18_getChars_72 rfl rfl ?_
  refine A_iinc (v := nI (p + 1)) dJ18_getChars_73 rfl (nI_dec _) (Nat.le_of_ble_eq_true rfl) ?_
  refine A_iload dJ18_getChars_76 rfl ?_
  refine A_getsO so1 q589 rfl dJ18_getChars_78 ?_
  refine A_iload_n (i := 0) dJ18_getChars_81 rfl rfl ?_
  refine A_ineg dJ18_getChars_82 ?_
  refine A_int (w := (nI k)) ((negT k (by omega)).1) ?_
  refine A_baldO sa1 (vp_in_nI (by omega : k < 100) (by decide)) (v := .int (nI (48 + k % 10))) (by rw [nI_clamp (by omega)]; exact digO k hk2) dJ18_getChars_83 ?_
  refine A_bast hA (vp_in_nI (by omega : (p + 1) < cap) (by omega)) dJ18_getChars_84 ?_
  refine A_st (σ' := h_put σ sa (.inl (.byte, cap, .inl (va_up f (p + 1) (nI (48 + k % 10)))))) (by rw [nI_clamp (by omega), narB (by omega)] <;> rfl) ?_
  obtain ⟨σ1, eσ1⟩ : ∃ τ, τ = h_put σ sa (.inl (.byte, cap, .inl (va_up f (p + 1) (nI (48 + k % 10))))) := ⟨_, rfl⟩
  refine A_st (σ' := σ1) eσ1.symm ?_
  have wσ1 : wfh σ1 := by rw [eσ1]; exact wσ.put hA
  have fσ1_0 : σ1.1 sa = some (.inl (.byte, cap, .inl (va_up f (p + 1) (nI (48 + k % 10))))) := by rw [eσ1]; exact if_pos rfl
  have zσ1 : kx sa σ σ1 := by rw [eσ1]; exact zσ.put
  refine A_iload_n (i := 0) dJ18_getChars_85 rfl rfl ?_
  refine A_bipush (v := (-9)) dJ18_getChars_86 (by decide) ?_
  refine A_icmp_ge_f (tgt := 104) dJ18_getChars_88 (by decide) ((negT k (by omega)).2.2.2 hk) ?_
  refine A_aload_n (i := 2) dJ18_getChars_91 rfl rfl ?_
  refine A_iinc (v := nI p) dJ18_getChars_92 rfl (nI_dec _) (Nat.le_of_ble_eq_true rfl) ?_
  refine A_iload dJ18_getChars_95 rfl ?_
  refine A_getsO so2 q591 rfl dJ18_getChars_97 ?_
  refine A_iload_n (i := 0) dJ18_getChars_100 rfl rfl ?_
  refine A_ineg dJ18_getChars_101 ?_
  refine A_int (w := (nI k)) ((negT k (by omega)).1) ?_
  refine A_baldO sa2 (vp_in_nI (by omega : k < 100) (by decide)) (v := .int (nI (48 + k / 10))) (by rw [nI_clamp (by omega)]; exact digT k hk2) dJ18_getChars_102 ?_
  refine A_bast fσ1_0 (vp_in_nI (by omega : p < cap) (by omega)) dJ18_getChars_103 ?_
  refine A_st (σ' := h_put σ1 sa (.inl (.byte, cap, .inl (va_up (va_up f (p + 1) (nI (48 + k % 10))) p (nI (48 + k / 10)))))) (by rw [nI_clamp (by omega), narB (by omega)] <;> rfl) ?_
  obtain ⟨σ2, eσ2⟩ : ∃ τ, τ = h_put σ1 sa (.inl (.byte, cap, .inl (va_up (va_up f (p + 1) (nI (48 + k % 10))) p (nI (48 + k / 10))))) := ⟨_, rfl⟩
  refine A_st (σ' := σ2) eσ2.symm ?_
  have wσ2 : wfh σ2 := by rw [eσ2]; exact wσ1.put fσ1_0
  have fσ2_0 : σ2.1 sa = some (.inl (.byte, cap, .inl (va_up (va_up f (p + 1) (nI (48 + k % 10))) p (nI (48 + k / 10))))) := by rw [eσ2]; exact if_pos rfl
  have zσ2 : kx sa σ σ2 := by rw [eσ2]; exact zσ1.put
  refine A_iload dJ18_getChars_104 rfl ?_
  refine A_if_eq_t (tgt := 118) dJ18_getChars_106 (by decide) ((by decide)) ?_
  refine A_iload dJ18_getChars_118 rfl ?_
  exact A_iret dJ18_getChars_120 rfl (⟨rfl, fσ2_0, zσ2⟩)
theorem SBd.put2 {σ : AH} {sb sa cap j k : Nat} {ml : Int32} {f : AF} {l : List Int32} (hf : (∀ i, i < cap → fits .byte (.int (f i)) = true) ∧ (∀ i, i < l.length → f i = l.getD i 0) ∧ asc l ∧ (ml = 0 ∨ ml = 1)) (hc : cap = 16 ∨ cap = 34 ∨ cap = 70) (h1 : σ.1 sb = some (sbC sa ml (nI (l.length + 2)))) (h2 : σ.1 sa = some (bytA cap (va_up (va_up f (l.length + 1) (nI j)) l.length (nI k)))) (hk : k < 128) (hj : j < 128) (hl : l.length + 2 ≤ cap) : SBd σ sb sa cap ml (va_up (va_up f (l.length + 1) (nI j)) l.length (nI k)) (l ++ [nI k, nI j]) := by
  obtain ⟨f1, f2, f3, f4⟩ := hf
  have e1 : ∀ i, i < l.length → (l ++ [nI k, nI j]).getD i 0 = l.getD i 0 := fun i hi => by rw [List.getD_eq_getElem?_getD, List.getD_eq_getElem?_getD, List.getElem?_append_left hi]
  refine ⟨by rw [List.length_append]; exact h1, h2, hc, by rw [List.length_append]; exact hl, fun i hi => ?_, fun i hi => ?_, f3.app (fun c hc => ?_), f4⟩
  · by_cases e : i = l.length
    · subst e; rw [va_up_self]; exact fitB hk
    · rw [va_up_ne _ _ e]
      by_cases e' : i = l.length + 1
      · subst e'; rw [va_up_self]; exact fitB hj
      · rw [va_up_ne _ _ e']; exact f1 i hi
  · rw [List.length_append] at hi
    have hi : i < l.length + 2 := hi
    by_cases e : i = l.length
    · subst e; rw [va_up_self, List.getD_eq_getElem?_getD, List.getElem?_append_right (Nat.le_refl _), Nat.sub_self]; rfl
    · rw [va_up_ne _ _ e]
      by_cases e' : i = l.length + 1
      · subst e'; rw [va_up_self, List.getD_eq_getElem?_getD, List.getElem?_append_right (by omega), show l.length + 1 - l.length = 1 by omega]; rfl
      · rw [va_up_ne _ _ e', f2 i (by omega), e1 i (by omega)]
  · simp only [List.mem_cons, List.not_mem_nil, or_false] at hc
    rcases hc with e | e
    · exact ⟨k, hk, e⟩
    · exact ⟨j, hj, e⟩
theorem c_sbApI1 {l : Launch} {g : GC} (σ : AH) (σ0 : AH) (sb sa0 k : Nat) (l9 : List Int32) (h : SX σ0 sb sa0 σ l9 l9.length) (hk : k ≤ 9) (hl : l9.length + 1 ≤ 70) : AMet l g mJ2_append_2 4 18 [.ref sb, .int (nI k)] σ (fun v τ => v = some (.ref sb) ∧ SX σ0 sb sa0 τ (l9 ++ numI (nI k)) (l9 ++ numI (nI k)).length) (A_no) := by
  refine A_of rfl (by decide) (Nat.le_of_ble_eq_true rfl) (L0 := [(0, .ref sb), (1, .int (nI k))]) rfl ?_
  refine A_wfh (fun wσ hgσ => ?_)
  obtain ⟨sa, cap, ml, f, -, hd0, hfr, h5⟩ := id h
  have hC := hd0.1
  refine A_aload_n (i := 0) dJ2_append_2_0 rfl rfl ?_
  refine A_getf cb_J3 hC 3 (Nat.le_of_ble_eq_true rfl) q227 rfl (v := .int (nI l9.length)) rfl dJ2_append_2_1 ?_
  refine A_istore_n (i := 2) dJ2_append_2_4 rfl (Nat.le_of_ble_eq_true rfl) ?_
  refine A_iload_n (i := 2) dJ2_append_2_5 rfl rfl ?_
  refine A_iload_n (i := 1) dJ2_append_2_6 rfl rfl ?_
  refine A_callS1E (b' := 18) (v := some (.int 1)) (τ := σ) (c_strSz1 σ k hk) tJ18_stringSize q583 dJ2_append_2_7 (by decide) (Nat.le_of_ble_eq_true rfl) (Nat.le_of_ble_eq_true rfl) ?_
  refine A_iadd dJ2_append_2_10 ?_
  refine A_int (w := (nI (l9.length + 1))) (nI_add _ 1) ?_
  refine A_istore_n (i := 3) dJ2_append_2_11 rfl (Nat.le_of_ble_eq_true rfl) ?_
  refine A_aload_n (i := 0) dJ2_append_2_12 rfl rfl ?_
  refine A_iload_n (i := 3) dJ2_append_2_13 rfl rfl ?_
  refine A_callP1 (b' := 0) (c_ens σ σ0 sb sa0 (l9.length + 1) l9 h (by omega) hl) tP_J2_ensureCapacityInternal q442 (Or.inr ⟨_, _, _, hC, rfl, rfl⟩) dJ2_append_2_14 (by decide) (Nat.le_of_ble_eq_true rfl) (Nat.le_of_ble_eq_true rfl) (fun w9 τ9 h9 => ?_) (fun E9 q9 τ9 h9 => h9.elim)
  obtain ⟨e9, h9x⟩ := h9
  subst e9
  refine A_wfh (fun wτ9 hgτ9 => ?_)
  obtain ⟨sa1, cap1, ml1, f1, hn1, hd1, hfr1, h51⟩ := h9x
  refine A_aload_n (i := 0) dJ2_append_2_17 rfl rfl ?_
  refine A_callU0E (b' := 0) (v := some (.int 1)) (τ := τ9) (c_sbLat τ9 sb sa1 ml1 (nI l9.length) hd1.1) tU_J2_isLatin1 q477 (Or.inr ⟨_, _, _, hd1.1, rfl, rfl⟩) dJ2_append_2_18 (by decide) (Nat.le_of_ble_eq_true rfl) (Nat.le_of_ble_eq_true rfl) ?_
  refine A_if_eq_f (tgt := 37) dJ2_append_2_21 (by decide) (by decide) ?_
  refine A_iload_n (i := 1) dJ2_append_2_24 rfl rfl ?_
  refine A_iload_n (i := 3) dJ2_append_2_25 rfl rfl ?_
  refine A_aload_n (i := 0) dJ2_append_2_26 rfl rfl ?_
  refine A_getf cb_J3 hd1.1 0 (Nat.le_of_ble_eq_true rfl) q223 rfl (v := .ref sa1) rfl dJ2_append_2_27 ?_
  refine A_callS3 (b' := 0) (c_getCh1 τ9 sa1 cap1 l9.length k f1 hd1.2.1 hn1 (by have q := hd1.2.2.1; omega) hk) tJ18_getChars q586 dJ2_append_2_30 (by decide) (Nat.le_of_ble_eq_true rfl) (Nat.le_of_ble_eq_true rfl) (fun w9 σ1 h9 => ?_) (fun E9 q9 τ9 h9 => h9.elim)
  obtain ⟨e9, fσ1_a, kσ1⟩ := h9
  subst e9
  refine A_wfh (fun wσ1 hgσ1 => ?_)
  have fσ1_0 : σ1.1 sb = some (.inr (.inl (12, [.ref sa1, .int 0, .int ml1, .int (nI l9.length)]))) := kσ1.at wτ9 hd1.1 (ne_of (x := .inr (.inl (12, [.ref sa1, .int 0, .int ml1, .int (nI l9.length)]))) (y := .inl (.byte, cap1, .inl f1)) hd1.1 hd1.2.1 (fun e8 => by simp at e8))
  refine A_pop dJ2_append_2_33 rfl ?_
  refine A_goto (tgt := 48) dJ2_append_2_34 (by decide) ?_
  refine A_aload_n (i := 0) dJ2_append_2_48 rfl rfl ?_
  refine A_iload_n (i := 3) dJ2_append_2_49 rfl rfl ?_
  refine A_putf cb_J3 fσ1_0 3 (Nat.le_of_ble_eq_true rfl) q227 rfl rfl rfl rfl (Nat.le_of_ble_eq_true rfl) dJ2_append_2_50 ?_
  obtain ⟨σ2, eσ2⟩ : ∃ τ, τ = h_put σ1 sb (.inr (.inl (12, [.ref sa1, .int 0, .int ml1, .int (nI (l9.length + 1))]))) := ⟨_, rfl⟩
  refine A_st (σ' := σ2) eσ2.symm ?_
  have wσ2 : wfh σ2 := by rw [eσ2]; exact wσ1.put fσ1_0
  have fσ2_0 : σ2.1 sb = some (.inr (.inl (12, [.ref sa1, .int 0, .int ml1, .int (nI (l9.length + 1))]))) := by rw [eσ2]; exact if_pos rfl
  have fσ2_1 : σ2.1 sa1 = some (.inl (.byte, cap1, .inl (va_up f1 l9.length (nI (48 + k))))) := by rw [eσ2]; exact (hp_ne (ne_of (x := .inl (.byte, cap1, .inl (va_up f1 l9.length (nI (48 + k))))) (y := .inr (.inl (12, [.ref sa1, .int 0, .int ml1, .int (nI l9.length)]))) fσ1_a fσ1_0 (fun e8 => by simp at e8))).trans fσ1_a
  refine A_aload_n (i := 0) dJ2_append_2_53 rfl rfl ?_
  exact A_aret dJ2_append_2_54 rfl (Or.inl ⟨_, rfl⟩) (Or.inr ⟨_, rfl⟩) (⟨rfl, (by rw [(numT k (by omega)).1 hk]; exact SX.room (SX.of (n := 0) hfr1 h51 ((fra.rf.kx m2b kσ1).kx m2a (show kx sb σ1 σ2 by rw [eσ2]; exact kx.rf.put)) (Or.inl rfl) (Nat.zero_le _) (SBd.put1 hd1.2.2.2.2 hd1.2.2.1 fσ2_0 fσ2_1 (by omega) hn1)))⟩)
theorem c_sbApI2 {l : Launch} {g : GC} (σ : AH) (σ0 : AH) (sb sa0 k : Nat) (l9 : List Int32) (h : SX σ0 sb sa0 σ l9 l9.length) (hk : 9 < k) (hk2 : k < 100) (hl : l9.length + 2 ≤ 70) : AMet l g mJ2_append_2 4 18 [.ref sb, .int (nI k)] σ (fun v τ => v = some (.ref sb) ∧ SX σ0 sb sa0 τ (l9 ++ numI (nI k)) (l9 ++ numI (nI k)).length) (A_no) := by
  refine A_of rfl (by decide) (Nat.le_of_ble_eq_true rfl) (L0 := [(0, .ref sb), (1, .int (nI k))]) rfl ?_
  refine A_wfh (fun wσ hgσ => ?_)
  obtain ⟨sa, cap, ml, f, -, hd0, hfr, h5⟩ := id h
  have hC := hd0.1
  refine A_aload_n (i := 0) dJ2_append_2_0 rfl rfl ?_
  refine A_getf cb_J3 hC 3 (Nat.le_of_ble_eq_true rfl) q227 rfl (v := .int (nI l9.length)) rfl dJ2_append_2_1 ?_
  refine A_istore_n (i := 2) dJ2_append_2_4 rfl (Nat.le_of_ble_eq_true rfl) ?_
  refine A_iload_n (i := 2) dJ2_append_2_5 rfl rfl ?_
  refine A_iload_n (i := 1) dJ2_append_2_6 rfl rfl ?_
  refine A_callS1E (b' := 18) (v := some (.int 2)) (τ := σ) (c_strSz2 σ k hk hk2) tJ18_stringSize q583 dJ2_append_2_7 (by decide) (Nat.le_of_ble_eq_true rfl) (Nat.le_of_ble_eq_true rfl) ?_
  refine A_iadd dJ2_append_2_10 ?_
  refine A_int (w := (nI (l9.length + 2))) (nI_add _ 2) ?_
  refine A_istore_n (i := 3) dJ2_append_2_11 rfl (Nat.le_of_ble_eq_true rfl) ?_
  refine A_aload_n (i := 0) dJ2_append_2_12 rfl rfl ?_
  refine A_iload_n (i := 3) dJ2_append_2_13 rfl rfl ?_
  refine A_callP1 (b' := 0) (c_ens σ σ0 sb sa0 (l9.length + 2) l9 h (by omega) hl) tP_J2_ensureCapacityInternal q442 (Or.inr ⟨_, _, _, hC, rfl, rfl⟩) dJ2_append_2_14 (by decide) (Nat.le_of_ble_eq_true rfl) (Nat.le_of_ble_eq_true rfl) (fun w9 τ9 h9 => ?_) (fun E9 q9 τ9 h9 => h9.elim)
  obtain ⟨e9, h9x⟩ := h9
  subst e9
  refine A_wfh (fun wτ9 hgτ9 => ?_)
  obtain ⟨sa1, cap1, ml1, f1, hn1, hd1, hfr1, h51⟩ := h9x
  refine A_aload_n (i := 0) dJ2_append_2_17 rfl rfl ?_
  refine A_callU0E (b' := 0) (v := some (.int 1)) (τ := τ9) (c_sbLat τ9 sb sa1 ml1 (nI l9.length) hd1.1) tU_J2_isLatin1 q477 (Or.inr ⟨_, _, _, hd1.1, rfl, rfl⟩) dJ2_append_2_18 (by decide) (Nat.le_of_ble_eq_true rfl) (Nat.le_of_ble_eq_true rfl) ?_
  refine A_if_eq_f (tgt := 37) dJ2_append_2_21 (by decide) (by decide) ?_
  refine A_iload_n (i := 1) dJ2_append_2_24 rfl rfl ?_
  refine A_iload_n (i := 3) dJ2_append_2_25 rfl rfl ?_
  refine A_aload_n (i := 0) dJ2_append_2_26 rfl rfl ?_
  refine A_getf cb_J3 hd1.1 0 (Nat.le_of_ble_eq_true rfl) q223 rfl (v := .ref sa1) rfl dJ2_append_2_27 ?_
  refine A_callS3 (b' := 0) (c_getCh2 τ9 sa1 cap1 l9.length k f1 hd1.2.1 hn1 (by have q := hd1.2.2.1; omega) hk hk2) tJ18_getChars q586 dJ2_append_2_30 (by decide) (Nat.le_of_ble_eq_true rfl) (Nat.le_of_ble_eq_true rfl) (fun w9 σ1 h9 => ?_) (fun E9 q9 τ9 h9 => h9.elim)
  obtain ⟨e9, fσ1_a, kσ1⟩ := h9
  subst e9
  refine A_wfh (fun wσ1 hgσ1 => ?_)
  have fσ1_0 : σ1.1 sb = some (.inr (.inl (12, [.ref sa1, .int 0, .int ml1, .int (nI l9.length)]))) := kσ1.at wτ9 hd1.1 (ne_of (x := .inr (.inl (12, [.ref sa1, .int 0, .int ml1, .int (nI l9.length)]))) (y := .inl (.byte, cap1, .inl f1)) hd1.1 hd1.2.1 (fun e8 => by simp at e8))
  refine A_pop dJ2_append_2_33 rfl ?_
  refine A_goto (tgt := 48) dJ2_append_2_34 (by decide) ?_
  refine A_aload_n (i := 0) dJ2_append_2_48 rfl rfl ?_
  refine A_iload_n (i := 3) dJ2_append_2_49 rfl rfl ?_
  refine A_putf cb_J3 fσ1_0 3 (Nat.le_of_ble_eq_true rfl) q227 rfl rfl rfl rfl (Nat.le_of_ble_eq_true rfl) dJ2_append_2_50 ?_
  obtain ⟨σ2, eσ2⟩ : ∃ τ, τ = h_put σ1 sb (.inr (.inl (12, [.ref sa1, .int 0, .int ml1, .int (nI (l9.length + 2))]))) := ⟨_, rfl⟩
  refine A_st (σ' := σ2) eσ2.symm ?_
  have wσ2 : wfh σ2 := by rw [eσ2]; exact wσ1.put fσ1_0
  have fσ2_0 : σ2.1 sb = some (.inr (.inl (12, [.ref sa1, .int 0, .int ml1, .int (nI (l9.length + 2))]))) := by rw [eσ2]; exact if_pos rfl
  have fσ2_1 : σ2.1 sa1 = some (.inl (.byte, cap1, .inl (va_up (va_up f1 (l9.length + 1) (nI (48 + k % 10))) l9.length (nI (48 + k / 10))))) := by rw [eσ2]; exact (hp_ne (ne_of (x := .inl (.byte, cap1, .inl (va_up (va_up f1 (l9.length + 1) (nI (48 + k % 10))) l9.length (nI (48 + k / 10))))) (y := .inr (.inl (12, [.ref sa1, .int 0, .int ml1, .int (nI l9.length)]))) fσ1_a fσ1_0 (fun e8 => by simp at e8))).trans fσ1_a
  refine A_aload_n (i := 0) dJ2_append_2_53 rfl rfl ?_
  exact A_aret dJ2_append_2_54 rfl (Or.inl ⟨_, rfl⟩) (Or.inr ⟨_, rfl⟩) (⟨rfl, (by rw [(numT k hk2).2 hk]; exact SX.room (SX.of (n := 0) hfr1 h51 ((fra.rf.kx m2b kσ1).kx m2a (show kx sb σ1 σ2 by rw [eσ2]; exact kx.rf.put)) (Or.inl rfl) (Nat.zero_le _) (SBd.put2 hd1.2.2.2.2 hd1.2.2.1 fσ2_0 fσ2_1 (by omega) (by omega) hn1)))⟩)
theorem c_sbApI0 {l : Launch} {g : GC} (σ : AH) (σ0 : AH) (sb sa0 k : Nat) (l9 : List Int32) (h : SX σ0 sb sa0 σ l9 l9.length) (hk : k < 100) (hl : l9.length + 2 ≤ 70) : AMet l g mJ2_append_2 4 18 [.ref sb, .int (nI k)] σ (fun v τ => v = some (.ref sb) ∧ SX σ0 sb sa0 τ (l9 ++ numI (nI k)) (l9 ++ numI (nI k)).length) (A_no) := by
  by_cases c : k ≤ 9
  · exact c_sbApI1 σ σ0 sb sa0 k l9 h c (by omega)
  · exact c_sbApI2 σ σ0 sb sa0 k l9 h (by omega) hk hl
theorem c_sbApC {l : Launch} {g : GC} (σ : AH) (σ0 : AH) (sb sa0 k : Nat) (l9 : List Int32) (h : SX σ0 sb sa0 σ l9 l9.length) (hk : k < 128) (hl : l9.length + 1 ≤ 70) : AMet l g mJ3_append 5 18 [.ref sb, .int (nI k)] σ (fun v τ => v = some (.ref sb) ∧ SX σ0 sb sa0 τ (l9 ++ [nI k]) (l9 ++ [nI k]).length) (A_no) := by
  refine A_of rfl (by decide) (Nat.le_of_ble_eq_true rfl) (L0 := [(0, .ref sb), (1, .int (nI k))]) rfl ?_
  obtain ⟨sa, cap, ml, f, -, hd0, hfr, h5⟩ := id h
  have hC := hd0.1
  refine A_aload_n (i := 0) dJ3_append_0 rfl rfl ?_
  refine A_iload_n (i := 1) dJ3_append_1 rfl rfl ?_
  refine A_callSp1 (b' := 0) (c_sbApC0 σ σ0 sb sa0 k l9 h hk hl) tSp_J2_append q439 hC rfl dJ3_append_2 (by decide) (Nat.le_of_ble_eq_true rfl) (Nat.le_of_ble_eq_true rfl) (fun w9 τ9 h9 => ?_) (fun E9 q9 τ9 h9 => h9.elim)
  obtain ⟨e9, h9x⟩ := h9
  subst e9
  refine A_pop dJ3_append_5 rfl ?_
  refine A_aload_n (i := 0) dJ3_append_6 rfl rfl ?_
  exact A_aret dJ3_append_7 rfl (Or.inl ⟨_, rfl⟩) (Or.inr ⟨_, rfl⟩) (⟨rfl, h9x⟩)
theorem c_sbApI {l : Launch} {g : GC} (σ : AH) (σ0 : AH) (sb sa0 k : Nat) (l9 : List Int32) (h : SX σ0 sb sa0 σ l9 l9.length) (hk : k < 100) (hl : l9.length + 2 ≤ 70) : AMet l g mJ3_append_2 5 18 [.ref sb, .int (nI k)] σ (fun v τ => v = some (.ref sb) ∧ SX σ0 sb sa0 τ (l9 ++ numI (nI k)) (l9 ++ numI (nI k)).length) (A_no) := by
  refine A_of rfl (by decide) (Nat.le_of_ble_eq_true rfl) (L0 := [(0, .ref sb), (1, .int (nI k))]) rfl ?_
  obtain ⟨sa, cap, ml, f, -, hd0, hfr, h5⟩ := id h
  have hC := hd0.1
  refine A_aload_n (i := 0) dJ3_append_2_0 rfl rfl ?_
  refine A_iload_n (i := 1) dJ3_append_2_1 rfl rfl ?_
  refine A_callSp1 (b' := 0) (c_sbApI0 σ σ0 sb sa0 k l9 h hk hl) tSp_J2_append_2 q580 hC rfl dJ3_append_2_2 (by decide) (Nat.le_of_ble_eq_true rfl) (Nat.le_of_ble_eq_true rfl) (fun w9 τ9 h9 => ?_) (fun E9 q9 τ9 h9 => h9.elim)
  obtain ⟨e9, h9x⟩ := h9
  subst e9
  refine A_pop dJ3_append_2_5 rfl ?_
  refine A_aload_n (i := 0) dJ3_append_2_6 rfl rfl ?_
  exact A_aret dJ3_append_2_7 rfl (Or.inl ⟨_, rfl⟩) (Or.inr ⟨_, rfl⟩) (⟨rfl, h9x⟩)
theorem c_sbLen {l : Launch} {g : GC} (σ : AH) (σ0 : AH) (sb sa0 : Nat) (l9 : List Int32) (h : SX σ0 sb sa0 σ l9 l9.length) : AMet l g mJ3_length 2 0 [.ref sb] σ (A_eq (some (.int (nI l9.length))) σ) (A_no) := by
  refine A_of rfl (by decide) (Nat.le_of_ble_eq_true rfl) (L0 := [(0, .ref sb)]) rfl ?_
  obtain ⟨sa, cap, ml, f, -, hd0, hfr, h5⟩ := id h
  have hC := hd0.1
  refine A_aload_n (i := 0) dJ3_length_0 rfl rfl ?_
  refine A_callSp0E (b' := 0) (v := some (.int (nI l9.length))) (τ := σ) (c_sbLen0 σ sb sa ml (nI l9.length) hC) tSp_J2_length q553 hC rfl dJ3_length_1 (by decide) (Nat.le_of_ble_eq_true rfl) (Nat.le_of_ble_eq_true rfl) ?_
  exact A_iret dJ3_length_4 rfl (⟨rfl, rfl⟩)
theorem mnT {a b : Nat} (h : a ≤ b) (hb : b < 2 ^ 31) : mn (nI a) (nI b) = nI a := by
  unfold mn
  split
  · rename_i c
    have k := (nI_lti hb (by omega)).mp c
    omega
  · rfl
theorem chT : ∀ k, k < 128 → nI k &&& 255 = nI k ∧ ((nI k).toUInt32 % 65536).toInt32 = nI k ∧ narrow .char (.int (nI k)) = .int (nI k) := by decide +kernel
theorem c_sbAt0 {l : Launch} {g : GC} (σ : AH) (σ0 : AH) (sb sa0 : Nat) (l9 : List Int32) (i : Nat) (h : SX σ0 sb sa0 σ l9 l9.length) (hi : i < l9.length) : AMet l g mJ2_charAt 3 0 [.ref sb, .int (nI i)] σ (A_eq (some (.int (l9.getD i 0))) σ) (A_no) := by
  refine A_of rfl (by decide) (Nat.le_of_ble_eq_true rfl) (L0 := [(0, .ref sb), (1, .int (nI i))]) rfl ?_
  obtain ⟨sa, cap, ml, f, -, hd0, hfr, h5⟩ := id h
  have hd := id hd0
  obtain ⟨hC, hA, hcp, hlc, hfx⟩ := hd
  obtain ⟨c9, hc9, ec9⟩ := hfx.2.2.1.at hi
  have hcap : cap ≤ 70 := by omega
  refine A_aload_n (i := 0) dJ2_charAt_0 rfl rfl ?_
  refine A_getf cb_J3 hC 1 (Nat.le_of_ble_eq_true rfl) q224 rfl (v := .int 0) rfl dJ2_charAt_1 ?_
  refine A_istore_n (i := 2) dJ2_charAt_4 rfl (Nat.le_of_ble_eq_true rfl) ?_
  refine A_aload_n (i := 0) dJ2_charAt_5 rfl rfl ?_
  refine A_getf cb_J3 hC 0 (Nat.le_of_ble_eq_true rfl) q223 rfl (v := .ref sa) rfl dJ2_charAt_6 ?_
  refine A_astore_n (i := 3) dJ2_charAt_9 rfl (Nat.le_of_ble_eq_true rfl) ?_
  refine A_aload_n (i := 0) dJ2_charAt_10 rfl rfl ?_
  refine A_getf cb_J3 hC 3 (Nat.le_of_ble_eq_true rfl) q227 rfl (v := .int (nI l9.length)) rfl dJ2_charAt_11 ?_
  refine A_aload_n (i := 3) dJ2_charAt_14 rfl rfl ?_
  refine A_alen hA (by decide) (v := nI cap) (rfl) dJ2_charAt_15 ?_
  refine A_iload_n (i := 2) dJ2_charAt_16 rfl rfl ?_
  refine A_ishr dJ2_charAt_17 ?_
  refine A_int (w := (nI cap)) (sh0) ?_
  refine A_mmin q2030 q472 q150 q473 dJ2_charAt_18 (by decide) (Nat.le_of_ble_eq_true rfl) ?_
  refine A_int (w := (mn (nI l9.length) (nI cap))) rfl ?_
  refine A_int (w := (nI l9.length)) (mnT hlc (by omega)) ?_
  refine A_istore dJ2_charAt_21 (Nat.le_of_ble_eq_true rfl) ?_
  refine A_iload_n (i := 1) dJ2_charAt_23 rfl rfl ?_
  refine A_iload dJ2_charAt_24 rfl ?_
  refine A_callS2E (b' := 0) (v := none) (τ := σ) (c_stridx σ i l9.length hi (by omega)) tJ4_checkIndex q2031 dJ2_charAt_26 (by decide) (Nat.le_of_ble_eq_true rfl) (Nat.le_of_ble_eq_true rfl) ?_
  refine A_iload_n (i := 2) dJ2_charAt_29 rfl rfl ?_
  refine A_if_ne_f (tgt := 42) dJ2_charAt_30 (by decide) (by decide) ?_
  refine A_aload_n (i := 3) dJ2_charAt_33 rfl rfl ?_
  refine A_iload_n (i := 1) dJ2_charAt_34 rfl rfl ?_
  refine A_bald hA (vp_in_nI (by omega : i < cap) (by omega)) dJ2_charAt_35 ?_
  refine A_int (w := (nI c9)) (by rw [nI_clamp (by omega), hfx.2.1 i hi, ec9]) ?_
  refine A_sipush (v := 255) dJ2_charAt_36 (by decide) ?_
  refine A_iand dJ2_charAt_39 ?_
  refine A_int (w := (nI c9)) ((chT c9 hc9).1) ?_
  refine A_i2c (v := (nI c9)) dJ2_charAt_40 ((chT c9 hc9).2.1) ?_
  exact A_zret dJ2_charAt_41 rfl ((chT c9 hc9).2.2) (⟨by rw [ec9], rfl⟩)
theorem c_sbAt {l : Launch} {g : GC} (σ : AH) (σ0 : AH) (sb sa0 : Nat) (l9 : List Int32) (i : Nat) (h : SX σ0 sb sa0 σ l9 l9.length) (hi : i < l9.length) : AMet l g mJ3_charAt 4 0 [.ref sb, .int (nI i)] σ (A_eq (some (.int (l9.getD i 0))) σ) (A_no) := by
  refine A_of rfl (by decide) (Nat.le_of_ble_eq_true rfl) (L0 := [(0, .ref sb), (1, .int (nI i))]) rfl ?_
  obtain ⟨sa, cap, ml, f, -, hd0, hfr, h5⟩ := id h
  have hC := hd0.1
  obtain ⟨c9, hc9, ec9⟩ := hd0.2.2.2.2.2.2.1.at hi
  refine A_aload_n (i := 0) dJ3_charAt_0 rfl rfl ?_
  refine A_iload_n (i := 1) dJ3_charAt_1 rfl rfl ?_
  refine A_callSp1E (b' := 0) (v := some (.int (l9.getD i 0))) (τ := σ) (c_sbAt0 σ σ0 sb sa0 l9 i h hi) tSp_J2_charAt q2027 hC rfl dJ3_charAt_2 (by decide) (Nat.le_of_ble_eq_true rfl) (Nat.le_of_ble_eq_true rfl) ?_
  exact A_zret dJ3_charAt_5 rfl (by rw [ec9]; exact (chT c9 hc9).2.2) (⟨rfl, rfl⟩)
theorem c_sbSet0 {l : Launch} {g : GC} (σ : AH) (σ0 : AH) (sb sa0 : Nat) (l9 : List Int32) (h : SX σ0 sb sa0 σ l9 l9.length) (hl70 : l9.length ≤ 70) : AMet l g mJ2_setLength 4 18 [.ref sb, .int 0] σ (fun v τ => v = none ∧ SX σ0 sb sa0 τ nl 0) (A_no) := by
  refine A_of rfl (by decide) (Nat.le_of_ble_eq_true rfl) (L0 := [(0, .ref sb), (1, .int 0)]) rfl ?_
  refine A_wfh (fun wσ hgσ => ?_)
  obtain ⟨sa, cap, ml, f, -, hd0, hfr, h5⟩ := id h
  have hC := hd0.1
  refine A_iload_n (i := 1) dJ2_setLength_0 rfl rfl ?_
  refine A_if_ge_t (tgt := 13) dJ2_setLength_1 (by decide) (by decide) ?_
  refine A_aload_n (i := 0) dJ2_setLength_13 rfl rfl ?_
  refine A_iload_n (i := 1) dJ2_setLength_14 rfl rfl ?_
  refine A_callP1 (b' := 0) (c_ens σ σ0 sb sa0 0 l9 h (Nat.zero_le _) (Nat.zero_le _)) tP_J2_ensureCapacityInternal q442 (Or.inr ⟨_, _, _, hC, rfl, rfl⟩) dJ2_setLength_15 (by decide) (Nat.le_of_ble_eq_true rfl) (Nat.le_of_ble_eq_true rfl) (fun w9 τ9 h9 => ?_) (fun E9 q9 τ9 h9 => h9.elim)
  obtain ⟨e9, h9x⟩ := h9
  subst e9
  refine A_wfh (fun wτ9 hgτ9 => ?_)
  obtain ⟨sa1, cap1, ml1, f1, hn1, hd1, hfr1, h51⟩ := h9x
  refine A_aload_n (i := 0) dJ2_setLength_18 rfl rfl ?_
  refine A_getf cb_J3 hd1.1 3 (Nat.le_of_ble_eq_true rfl) q227 rfl (v := .int (nI l9.length)) rfl dJ2_setLength_19 ?_
  refine A_iload_n (i := 1) dJ2_setLength_22 rfl rfl ?_
  refine A_icmp_ge_t (tgt := 63) dJ2_setLength_23 (by decide) ((Int32.not_lt.mp (nI_pos (by omega)))) ?_
  refine A_aload_n (i := 0) dJ2_setLength_63 rfl rfl ?_
  refine A_getf cb_J3 hd1.1 3 (Nat.le_of_ble_eq_true rfl) q227 rfl (v := .int (nI l9.length)) rfl dJ2_setLength_64 ?_
  refine A_iload_n (i := 1) dJ2_setLength_67 rfl rfl ?_
  refine A_icmp_le (tgt := 76) dJ2_setLength_68 (by decide) (fun c1 => ?_) (fun c1 => ?_)
  · skip
    refine A_aload_n (i := 0) dJ2_setLength_76 rfl rfl ?_
    refine A_iload_n (i := 1) dJ2_setLength_77 rfl rfl ?_
    refine A_putf cb_J3 hd1.1 3 (Nat.le_of_ble_eq_true rfl) q227 rfl rfl rfl rfl (Nat.le_of_ble_eq_true rfl) dJ2_setLength_78 ?_
    obtain ⟨σ1, eσ1⟩ : ∃ τ, τ = h_put τ9 sb (.inr (.inl (12, [.ref sa1, .int 0, .int ml1, .int 0]))) := ⟨_, rfl⟩
    refine A_st (σ' := σ1) eσ1.symm ?_
    have wσ1 : wfh σ1 := by rw [eσ1]; exact wτ9.put hd1.1
    have fσ1_0 : σ1.1 sb = some (.inr (.inl (12, [.ref sa1, .int 0, .int ml1, .int 0]))) := by rw [eσ1]; exact if_pos rfl
    have fσ1_1 : σ1.1 sa1 = some (.inl (.byte, cap1, .inl f1)) := by rw [eσ1]; exact (hp_ne (ne_of (x := .inl (.byte, cap1, .inl f1)) (y := .inr (.inl (12, [.ref sa1, .int 0, .int ml1, .int (nI l9.length)]))) hd1.2.1 hd1.1 (fun e8 => by simp at e8))).trans hd1.2.1
    exact A_vret dJ2_setLength_81 rfl (⟨rfl, SX.of (n := 0) hfr1 h51 (fra.rf.kx m2a (show kx sb τ9 σ1 by rw [eσ1]; exact kx.rf.put)) (Or.inl rfl) (Nat.zero_le _) ⟨fσ1_0, fσ1_1, hd1.2.2.1, Nat.zero_le _, hd1.2.2.2.2.1, fun i hi => absurd hi (Nat.not_lt_zero _), asc_nil, hd1.2.2.2.2.2.2.2⟩⟩)
  · skip
    refine A_aload_n (i := 0) dJ2_setLength_71 rfl rfl ?_
    refine A_iconst (v := 1) dJ2_setLength_72 (by decide) ?_
    refine A_putf cb_J3 hd1.1 2 (Nat.le_of_ble_eq_true rfl) q225 rfl rfl rfl rfl (Nat.le_of_ble_eq_true rfl) dJ2_setLength_73 ?_
    obtain ⟨σ2, eσ2⟩ : ∃ τ, τ = h_put τ9 sb (.inr (.inl (12, [.ref sa1, .int 0, .int 1, .int (nI l9.length)]))) := ⟨_, rfl⟩
    refine A_st (σ' := σ2) eσ2.symm ?_
    have wσ2 : wfh σ2 := by rw [eσ2]; exact wτ9.put hd1.1
    have fσ2_0 : σ2.1 sb = some (.inr (.inl (12, [.ref sa1, .int 0, .int 1, .int (nI l9.length)]))) := by rw [eσ2]; exact if_pos rfl
    have fσ2_1 : σ2.1 sa1 = some (.inl (.byte, cap1, .inl f1)) := by rw [eσ2]; exact (hp_ne (ne_of (x := .inl (.byte, cap1, .inl f1)) (y := .inr (.inl (12, [.ref sa1, .int 0, .int ml1, .int (nI l9.length)]))) hd1.2.1 hd1.1 (fun e8 => by simp at e8))).trans hd1.2.1
    refine A_aload_n (i := 0) dJ2_setLength_76 rfl rfl ?_
    refine A_iload_n (i := 1) dJ2_setLength_77 rfl rfl ?_
    refine A_putf cb_J3 fσ2_0 3 (Nat.le_of_ble_eq_true rfl) q227 rfl rfl rfl rfl (Nat.le_of_ble_eq_true rfl) dJ2_setLength_78 ?_
    obtain ⟨σ3, eσ3⟩ : ∃ τ, τ = h_put σ2 sb (.inr (.inl (12, [.ref sa1, .int 0, .int 1, .int 0]))) := ⟨_, rfl⟩
    refine A_st (σ' := σ3) eσ3.symm ?_
    have wσ3 : wfh σ3 := by rw [eσ3]; exact wσ2.put fσ2_0
    have fσ3_0 : σ3.1 sb = some (.inr (.inl (12, [.ref sa1, .int 0, .int 1, .int 0]))) := by rw [eσ3]; exact if_pos rfl
    have fσ3_1 : σ3.1 sa1 = some (.inl (.byte, cap1, .inl f1)) := by rw [eσ3]; exact (hp_ne (ne_of (x := .inl (.byte, cap1, .inl f1)) (y := .inr (.inl (12, [.ref sa1, .int 0, .int 1, .int (nI l9.length)]))) fσ2_1 fσ2_0 (fun e8 => by simp at e8))).trans fσ2_1
    exact A_vret dJ2_setLength_81 rfl (⟨rfl, SX.of (n := 0) hfr1 h51 ((fra.rf.kx m2a (show kx sb τ9 σ2 by rw [eσ2]; exact kx.rf.put)).kx m2a (show kx sb σ2 σ3 by rw [eσ3]; exact kx.rf.put)) (Or.inl rfl) (Nat.zero_le _) ⟨fσ3_0, fσ3_1, hd1.2.2.1, Nat.zero_le _, hd1.2.2.2.2.1, fun i hi => absurd hi (Nat.not_lt_zero _), asc_nil, Or.inr rfl⟩⟩)
theorem c_sbSet {l : Launch} {g : GC} (σ : AH) (σ0 : AH) (sb sa0 : Nat) (l9 : List Int32) (h : SX σ0 sb sa0 σ l9 l9.length) (hl70 : l9.length ≤ 70) : AMet l g mJ3_setLength 5 18 [.ref sb, .int 0] σ (fun v τ => v = none ∧ SX σ0 sb sa0 τ nl 0) (A_no) := by
  refine A_of rfl (by decide) (Nat.le_of_ble_eq_true rfl) (L0 := [(0, .ref sb), (1, .int 0)]) rfl ?_
  obtain ⟨sa, cap, ml, f, -, hd0, hfr, h5⟩ := id h
  have hC := hd0.1
  refine A_aload_n (i := 0) dJ3_setLength_0 rfl rfl ?_
  refine A_iload_n (i := 1) dJ3_setLength_1 rfl rfl ?_
  refine A_callSp1 (b' := 0) (c_sbSet0 σ σ0 sb sa0 l9 h hl70) tSp_J2_setLength q1932 hC rfl dJ3_setLength_2 (by decide) (Nat.le_of_ble_eq_true rfl) (Nat.le_of_ble_eq_true rfl) (fun w9 τ9 h9 => ?_) (fun E9 q9 τ9 h9 => h9.elim)
  obtain ⟨e9, h9x⟩ := h9
  subst e9
  exact A_vret dJ3_setLength_5 rfl (⟨rfl, h9x⟩)
theorem c_sbNew0 {l : Launch} {g : GC} (σ : AH) (sb : Nat) (hC : σ.1 sb = some (.inr (.inl (12, [.null, .int 0, .int 0, .int 0])))) : AMet l g mJ2_init 1 4 [.ref sb, .int 16] σ (fun v τ => v = none ∧ SBd τ sb σ.2 16 0 (fun _ => 0) nl ∧ kx sb σ τ) (A_no) := by
  refine A_of rfl (by decide) (Nat.le_of_ble_eq_true rfl) (L0 := [(0, .ref sb), (1, .int 16)]) rfl ?_
  refine A_wfh (fun wσ hgσ => ?_)
  have zσ : kx sb σ σ := kx.rf
  refine A_gok (fun hgk => ?_)
  refine A_aload_n (i := 0) dJ2_init_0 rfl rfl ?_
  refine A_objInit q213 q179 q180 dJ2_init_1 (by decide) (Nat.le_of_ble_eq_true rfl) ?_
  refine A_getsO (s_compact hgk) q214 rfl dJ2_init_4 ?_
  refine A_if_eq_f (tgt := 25) dJ2_init_7 (by decide) (by decide) ?_
  refine A_aload_n (i := 0) dJ2_init_10 rfl rfl ?_
  refine A_iload_n (i := 1) dJ2_init_11 rfl rfl ?_
  refine A_newa (b' := 0) (u := 4) (ta := .byte) (atype := .byte) rfl (by decide) q202 (a0 := (16, .inl (fun _ => 0))) (fun _ => rfl) (by decide) (n' := 16) (by decide) (by decide) (Nat.le_of_ble_eq_true rfl) ⟨Nat.le_of_ble_eq_true rfl, Nat.le_of_ble_eq_true rfl⟩ dJ2_init_12 ?_
  obtain ⟨σ1, eσ1⟩ : ∃ τ, τ = h_new σ (.inl (.byte, 16, .inl (fun _ => 0))) := ⟨_, rfl⟩
  refine A_st (σ' := σ1) eσ1.symm ?_
  have wσ1 : wfh σ1 := by rw [eσ1]; exact wσ.new
  have fσ1_0 : σ1.1 sb = some (.inr (.inl (12, [.null, .int 0, .int 0, .int 0]))) := by rw [eσ1]; exact (hn_ne (Nat.ne_of_lt (wσ _ _ hC))).trans hC
  have fσ1_1 : σ1.1 σ.2 = some (.inl (.byte, 16, .inl (fun _ => 0))) := by rw [eσ1]; exact if_pos rfl
  have xσ1 : ext σ σ1 := by rw [eσ1]; exact ext_new _ _
  have zσ1 : kx sb σ σ1 := by rw [eσ1]; exact zσ.new
  refine A_putf cb_J3 fσ1_0 0 (Nat.le_of_ble_eq_true rfl) q223 rfl rfl rfl rfl (Nat.le_of_ble_eq_true rfl) dJ2_init_14 ?_
  obtain ⟨σ2, eσ2⟩ : ∃ τ, τ = h_put σ1 sb (.inr (.inl (12, [.ref σ.2, .int 0, .int 0, .int 0]))) := ⟨_, rfl⟩
  refine A_st (σ' := σ2) eσ2.symm ?_
  have wσ2 : wfh σ2 := by rw [eσ2]; exact wσ1.put fσ1_0
  have fσ2_0 : σ2.1 sb = some (.inr (.inl (12, [.ref σ.2, .int 0, .int 0, .int 0]))) := by rw [eσ2]; exact if_pos rfl
  have fσ2_1 : σ2.1 σ.2 = some (.inl (.byte, 16, .inl (fun _ => 0))) := by rw [eσ2]; exact (hp_ne (ne_of (x := .inl (.byte, 16, .inl (fun _ => 0))) (y := .inr (.inl (12, [.null, .int 0, .int 0, .int 0]))) fσ1_1 fσ1_0 (fun e8 => by simp at e8))).trans fσ1_1
  have zσ2 : kx sb σ σ2 := by rw [eσ2]; exact zσ1.put
  refine A_aload_n (i := 0) dJ2_init_17 rfl rfl ?_
  refine A_iconst (v := 0) dJ2_init_18 (by decide) ?_
  refine A_putf cb_J3 fσ2_0 1 (Nat.le_of_ble_eq_true rfl) q224 rfl rfl rfl rfl (Nat.le_of_ble_eq_true rfl) dJ2_init_19 ?_
  obtain ⟨σ3, eσ3⟩ : ∃ τ, τ = h_put σ2 sb (.inr (.inl (12, [.ref σ.2, .int 0, .int 0, .int 0]))) := ⟨_, rfl⟩
  refine A_st (σ' := σ3) eσ3.symm ?_
  have wσ3 : wfh σ3 := by rw [eσ3]; exact wσ2.put fσ2_0
  have fσ3_0 : σ3.1 sb = some (.inr (.inl (12, [.ref σ.2, .int 0, .int 0, .int 0]))) := by rw [eσ3]; exact if_pos rfl
  have fσ3_1 : σ3.1 σ.2 = some (.inl (.byte, 16, .inl (fun _ => 0))) := by rw [eσ3]; exact (hp_ne (ne_of (x := .inl (.byte, 16, .inl (fun _ => 0))) (y := .inr (.inl (12, [.ref σ.2, .int 0, .int 0, .int 0]))) fσ2_1 fσ2_0 (fun e8 => by simp at e8))).trans fσ2_1
  have zσ3 : kx sb σ σ3 := by rw [eσ3]; exact zσ2.put
  refine A_goto (tgt := 38) dJ2_init_22 (by decide) ?_
  exact A_vret dJ2_init_38 rfl (⟨rfl, ⟨fσ3_0, fσ3_1, Or.inl rfl, Nat.zero_le _, fun i hi => rfl, fun i hi => absurd hi (Nat.not_lt_zero _), asc_nil, Or.inl rfl⟩, zσ3⟩)
theorem c_sbNew {l : Launch} {g : GC} (σ : AH) (sb : Nat) (hC : σ.1 sb = some (.inr (.inl (12, [.null, .int 0, .int 0, .int 0])))) : AMet l g mJ3_init 3 4 [.ref sb] σ (fun v τ => v = none ∧ SBd τ sb σ.2 16 0 (fun _ => 0) nl ∧ kx sb σ τ) (A_no) := by
  refine A_of rfl (by decide) (Nat.le_of_ble_eq_true rfl) (L0 := [(0, .ref sb)]) rfl ?_
  refine A_aload_n (i := 0) dJ3_init_0 rfl rfl ?_
  refine A_bipush (v := 16) dJ3_init_1 (by decide) ?_
  refine A_callI1 (b' := 0) (c_sbNew0 σ sb hC) tJ2_init q210 dJ3_init_3 (by decide) (Nat.le_of_ble_eq_true rfl) (Nat.le_of_ble_eq_true rfl) (fun w9 τ9 h9 => ?_) (fun E9 q9 τ9 h9 => h9.elim)
  obtain ⟨e9, h9x⟩ := h9
  subst e9
  exact A_vret dJ3_init_6 rfl (⟨rfl, h9x⟩)
