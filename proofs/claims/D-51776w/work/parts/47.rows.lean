/-! MORE ROWS: calls by an interface; checkcast, instanceof -/
def A_MF (C : String) (x : MethodName) (mi : MI) (n : Nat) : Prop := (Cond.selects C x mi.1 ∈ lw_all ∧ Cond.instanceMethod mi.1 ∈ lw_all ∧ Cond.initialized mi.1.cls ∈ lw_all ∧ Cond.code mi.1 mi.2.1 mi.2.2.1 mi.2.2.2.1 ∈ lw_all) ∧ mi.2.2.2.2 = [] ∧ A_len x n ∧ mi.2.2.1 ≤ 21 ∧
  (Cond.declares x ∈ lw_tbl ∧ Cond.interfaceMethod x.cls x.cls x.name x.desc ∈ lw_tbl ∧ Cond.publicMethod mi.1 ∈ lw_tbl ∧ Cond.unhidden C x.name x.desc ∈ lw_tbl ∧ Cond.castable C x.cls ∈ lw_tbl)
theorem lw_F {own : String} {idx : Nat} {C : String} {x y : MethodName} {b : ByteArray} {L : Nat} {r : Option FieldType} (h1 : Cond.methodLink own idx x ∈ lw_all) (h2 : Cond.selects C x y ∈ lw_all) (h3 : Cond.instanceMethod y ∈ lw_all) (h4 : Cond.initialized y.cls ∈ lw_all) (h5 : Cond.code y b L r ∈ lw_all) : GoodIn lw_all (va_wsF own idx C x y (ws_ y b L r)) := by
  refine lw_app ?_ (lw_meth h5)
  intro w hw
  simp only [List.mem_cons, List.not_mem_nil, or_false] at hw
  rcases hw with e | e | e | e
  · rw [e]; exact h1
  · rw [e]; exact h2
  · rw [e]; exact h3
  · rw [e]; exact h4
section ARows
variable {l : Launch} {g : GC} {mi : MI} {d b : Nat} {Q : Option Value → AH → Prop} {X : String → Nat → AH → Prop} {pc : Nat} {L : List (Nat × Value)} {st : List Value} {σ : AH}
theorem A_callF {ci : Nat} {x : MethodName} {mi' : MI} {d' k' b' n : Nat} {As : List Value} {Q' : Option Value → AH → Prop} {X' : String → Nat → AH → Prop} {bR : Nat} {fs : List Value} {r9 : vw_C} (hM : AMet l g mi' d' k' (.ref bR :: As) σ Q' X') (hm : A_MF r9.1 x mi' n) {ix cnt : Nat} (hq : Cond.methodLink mi.1.cls ix x ∈ lw_all) (hO : σ.1 bR = some (.inr (.inl (ci, fs)))) (hcl : vwCl[ci]? = some r9)
    (hd : decode mi.2.1 pc = .ok (.invokeinterface ix cnt, 5)) (hn : As.length = n) (hdp : d' + 1 ≤ d) (hk : k' + b' ≤ b) (hw : (st.map fun v => v.category).sum ≤ 8)
    (kk : ∀ v τ, Q' v τ → AW l g mi d b' Q X (pc + 5) L (v.toList ++ st) τ) (kx : ∀ E q τ, X' E q τ → AX l g mi d b' Q X pc L E q τ) : AW l g mi d b Q X pc L (As.reverse ++ .ref bR :: st) σ := by
  intro p e R s m args below meth c H locs cells slots ls C hP hL hl
  obtain ⟨y, cc, nL, ret, hs⟩ := mi'
  obtain ⟨⟨m1, m2, m3, m4⟩, m5, m6, m7, w1, w2, w3, w4, w5⟩ := hm
  have m5 : hs = [] := m5
  subst m5
  have hc9 := C
  obtain ⟨hx, hb, hr, hlk, hml, hown, hts, hg, hW, ⟨h10, h10'⟩, ⟨h11, h11'⟩, hnm, h13⟩ := C
  have m7 : nL ≤ 21 := m7
  obtain ⟨hS, hfc, kC, hkC, hkind⟩ := (A_K hg hW).1 ci _ hcl
  have hF : va_Fw r9.1 x y s := va_Fw.moved ⟨m6.1, m6.2.1⟩ hW.alike (va_Fw.of (hg.2.1 _ w1) (hg.2.1 _ w2) (hg.2.1 _ w3) (hg.2.1 _ w4) (hg.2.1 _ w5))
  exact A_goes5 (vx_runF (rest := st) (g := F0 m pc ls (As.reverse ++ .ref bR :: st)) (C := r9.1) ⟨hfc, kC, hkC, hkind⟩ ⟨hx, hb, hml, hown, hts⟩ hM (va_cwF n hts (lw_F hq m1 m2 m3 m4) rfl rfl rfl hF m6 ⟨by show d' + 1 ≤ R.frames; omega, by show 8 + (nL + 11) + (3200 + 40 * d') ≤ R.locals; omega⟩) ⟨A_blind, A_recv hg hW hP hO hcl, fun U hU hWU => ⟨rfl, hg, State.WarmedH.trans hW hWU, by rw [hU]; exact hP⟩⟩ rfl hn hl.1 rfl (lv_room hw) hd ⟨by omega, by omega⟩) hk hc9 hL hl kk kx
theorem A_castE {ci a : Nat} {fs : List Value} {r9 : vw_C} {ix : Nat} (hO : σ.1 a = some (.inr (.inl (ci, fs)))) (hcl : vwCl[ci]? = some r9) (hq : Cond.classLink mi.1.cls ix r9.1 ∈ lw_all) (hd : decode mi.2.1 pc = .ok (.checkcast ix, 3)) (kk : AW l g mi d b Q X (pc + 3) L (.ref a :: st) σ) : AW l g mi d b Q X pc L (.ref a :: st) σ := by
  intro p e R s m args below meth c H locs cells slots ls C hP hL hl
  have hc := C
  obtain ⟨hx, hb, hr, hlk, hml, hown, hts, hg, hW, hrest⟩ := C
  exact va_castE hx hb hown (hts _ hq) (A_recv hg hW hP hO hcl) hd (kk p e R s m args below meth c H locs cells slots ls hc hP hL hl)
theorem A_instE {ci a : Nat} {fs : List Value} {r9 : vw_C} {ix : Nat} (hO : σ.1 a = some (.inr (.inl (ci, fs)))) (hcl : vwCl[ci]? = some r9) (hq : Cond.classLink mi.1.cls ix r9.1 ∈ lw_all) (hd : decode mi.2.1 pc = .ok (.instanceof ix, 3)) (kk : AW l g mi d b Q X (pc + 3) L (.int 1 :: st) σ) : AW l g mi d b Q X pc L (.ref a :: st) σ := by
  intro p e R s m args below meth c H locs cells slots ls C hP hL hl
  have hc := C
  obtain ⟨hx, hb, hr, hlk, hml, hown, hts, hg, hW, hrest⟩ := C
  exact va_instE hx hb hown (hts _ hq) (A_recv hg hW hP hO hcl) hd (kk p e R s m args below meth c H locs cells slots ls hc hP hL hl)
theorem A_instNo {ci a : Nat} {fs : List Value} {r9 : vw_C} {ix : Nat} {nm : String} (hO : σ.1 a = some (.inr (.inl (ci, fs)))) (hcl : vwCl[ci]? = some r9) (hf : Cond.not (.castable r9.1 nm) ∈ flatC (Jvm.Cond.and given_1 narrow_1)) (hq : Cond.classLink mi.1.cls ix nm ∈ lw_all) (hd : decode mi.2.1 pc = .ok (.instanceof ix, 3)) (kk : AW l g mi d b Q X (pc + 3) L (.int 0 :: st) σ) : AW l g mi d b Q X pc L (.ref a :: st) σ := by
  intro p e R s m args below meth c H locs cells slots ls C hP hL hl
  have hc := C
  obtain ⟨hx, hb, hr, hlk, hml, hown, hts, hg, hW, hrest⟩ := C
  exact va_instNo hx hb hown (hts _ hq) (va_Nc.moved hW.alike (va_Nc.of (nw_of hg hf))) (A_recv hg hW hP hO hcl) hd (kk p e R s m args below meth c H locs cells slots ls hc hP hL hl)
theorem A_copyi {a0 a : Nat} {ty : FieldType} (ht : ty ∈ g_tys) (hprim : refKind ty = false) {n0 n1 : Nat} {f g9 : Nat → Int32} (h0 : σ.1 a0 = some (.inl (ty, n0, .inl f))) (h1 : σ.1 a = some (.inl (ty, n1, .inl g9))) {ix : Nat} (hq : Cond.methodLink mi.1.cls ix arraycopyName ∈ lw_all) (hnat : Cond.native arraycopyName ∈ lw_all) (hstat : Cond.static arraycopyName ∈ lw_all) (hini : Cond.initialized "java/lang/System" ∈ lw_all)
    {sp dp n : Int32} (p1 : ¬ sp < 0) (p2 : ¬ dp < 0) (p3 : ¬ n < 0) (p4 : sp.toNatClampNeg + n.toNatClampNeg ≤ n0) (p5 : dp.toNatClampNeg + n.toNatClampNeg ≤ n1) (hfit : ∀ i, i < n.toNatClampNeg → fits ty (.int (f (sp.toNatClampNeg + i))) = true) (hdp : 1 ≤ d) (hw : (st.map fun v => v.category).sum ≤ 100)
    (hd : decode mi.2.1 pc = .ok (.invokestatic ix, 3)) (kk : AW l g mi d b Q X (pc + 3) L st (h_put σ a (.inl (ty, n1, .inl (va_cpy f g9 sp.toNatClampNeg dp.toNatClampNeg n.toNatClampNeg))))) : AW l g mi d b Q X pc L (.int n :: .int dp :: .ref a :: .int sp :: .ref a0 :: st) σ := by
  intro p e R s m args below meth c H locs cells slots ls C hP hL hl
  have hc := C
  obtain ⟨hx, hb, hr, hlk, hml, hown, hts, hg, hW, ⟨h10, h10'⟩, h11, hrest⟩ := C
  have nn : ∀ z : Int32, ¬ z < 0 → z.toInt = (z.toNatClampNeg : Int) := by
    intro z hz
    have hz0 : (0 : Int) ≤ z.toInt := by
      have := Int32.not_lt.mp hz
      simpa using Int32.le_iff_toInt_le.mp this
    show z.toInt = ((z.toInt.toNat : Nat) : Int)
    omega
  intro T hT Xs
  have hc0 : H[a0]? = some (vp_cell (g_A g ty) (n0, .inl f)) := (hP.2.2.1 a0 _ h0).2.2
  have hc1 : H[a]? = some (vp_cell (g_A g ty) (n1, .inl g9)) := (hP.2.2.1 a _ h1).2.2
  obtain ⟨-, k0, hk0, cm0, hkk0⟩ := (A_arr hg hW ht).1 n0 (fun j => .int (f j))
  obtain ⟨-, k1, hk1, cm1, hkk1⟩ := (A_arr hg hW ht).1 n1 (fun j => .int (g9 j))
  obtain ⟨vm', X', step⟩ := Xs.arraycopy hx hown (hts _ hq) (hts _ hnat) (hts _ hstat) (hts _ hini) (src := a0) (dst := a) (cs := vp_cell (g_A g ty) (n0, .inl f)) (cd := vp_cell (g_A g ty) (n1, .inl g9)) (srcPos := sp) (destPos := dp) (n := n) (by rw [hT]; exact hc0) (by rw [hT]; exact hc1)
    (fun _ h => by cases h) (fun _ h => by cases h) (fun h => by cases h) (fun h => by cases h) hk0 hk1 hkk0 hkk1 (by simp [hprim]) p1 p2 p3
    (by rw [nn sp p1, nn n p3]; show ¬ _ > ((arrV (g_A g ty) n0 (fun j => .int (f j))).slots.size : Int); rw [arrV_size]; omega)
    (by rw [nn dp p2, nn n p3]; show ¬ _ > ((arrV (g_A g ty) n1 (fun j => .int (g9 j))).slots.size : Int); rw [arrV_size]; omega)
    (fun vm₁ _ i hi => by
      have e : (vp_cell (g_A g ty) (n0, .inl f)).slots.getD (sp.toNatClampNeg + i) .null = .int (f (sp.toNatClampNeg + i)) := by
        show (arrV (g_A g ty) n0 (fun j => .int (f j))).slots.getD _ _ = _
        rw [Array.getD_eq_getD_getElem?, arrV_read _ _ (by omega)]
        rfl
      refine ⟨?_, ?_⟩
      · rw [e]
        exact hfit i hi
      · rw [e]
        exact trivial)
    (g := F0 m pc ls (.int n :: .int dp :: .ref a :: .int sp :: .ref a0 :: st)) rfl (hl.1.trans hml.symm) (rest := st) rfl (by rw [hb]; exact hd) (by omega) (by
      have hz : nativeFrameWords "java/lang/System" "arraycopy" 5 ≤ 1000 := by decide +kernel
      show 2 * 0 + (st.map fun v => v.category).sum + (nativeFrameWords "java/lang/System" "arraycopy" 5 + 11) ≤ R.locals; omega)
  have e1 : copied (vp_cell (g_A g ty) (n0, .inl f)) (vp_cell (g_A g ty) (n1, .inl g9)) sp dp n = vp_cell (g_A g ty) (n1, .inl (va_cpy f g9 sp.toNatClampNeg dp.toNatClampNeg n.toNatClampNeg)) := va_copied (fun z => .int z) (g_A g ty) (g_A g ty) f g9 p4
  rw [e1] at X' step
  have hlt : a < H.size := (Array.getElem?_eq_some_iff.mp hc1).1
  have hheap : ((T.setVm vm').setCell a (vp_cell (g_A g ty) (n1, .inl (va_cpy f g9 sp.toNatClampNeg dp.toNatClampNeg n.toNatClampNeg)))).heap = H.setIfInBounds a (vp_cell (g_A g ty) (n1, .inl (va_cpy f g9 sp.toNatClampNeg dp.toNatClampNeg n.toNatClampNeg))) := by rw [← hT]; rfl
  have oq : ∀ q : Nat, q ≠ a → (H.setIfInBounds a (vp_cell (g_A g ty) (n1, .inl (va_cpy f g9 sp.toNatClampNeg dp.toNatClampNeg n.toNatClampNeg))))[q]? = H[q]? := fun q hq => by simp [Array.getElem?_setIfInBounds, Ne.symm hq]
  have hP1 : g_P g (h_put σ a (.inl (ty, n1, .inl (va_cpy f g9 sp.toNatClampNeg dp.toNatClampNeg n.toNatClampNeg)))) (H.setIfInBounds a (vp_cell (g_A g ty) (n1, .inl (va_cpy f g9 sp.toNatClampNeg dp.toNatClampNeg n.toNatClampNeg)))) :=
    hP.put h1 (by simp) oq (show (H.setIfInBounds a _)[a]? = some _ by simp [Array.getElem?_setIfInBounds, hlt])
  obtain ⟨t, t1, t2⟩ := kk p e R s m args below meth c _ _ cells slots ls hc hP1 (fun z hz => by
      rcases List.mem_append.mp hz with h | h
      · exact hL z h
      · obtain ⟨z', -, hz'⟩ := List.mem_map.mp h
        rw [← hz']
        exact (hP.2.2.1 a _ h1).1) hl _ hheap X'
  exact ⟨t, step t t1, t2⟩
end ARows
