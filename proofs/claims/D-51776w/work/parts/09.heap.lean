/-! ROWS OF THE HEAP AND OF CALLS over the abstract heap -/
def A_CB (ci : Nat) (C : String) (T : u_T) (N : Nat) (ty : Nat → FieldType) : Prop := vwCl[ci]? = some (C, T, N) ∧ (∀ w ∈ u_ws C T N, w ∈ lw_all) ∧ (∀ k, k < N → parseFieldDescriptor (T k).2.2.1 = some (ty k)) ∧ ∀ a, a < N → ∀ b, b < N → a ≠ b → (T a).2.1 ≠ (T b).2.1
theorem A_K {l : Launch} {g : GC} {s : State} (hg : g_ok l g) (hW : g.1.WarmedH s.vm) : va_K g.2.2 vwCl [] s := ⟨fun c q hq => u_Kn_moved hW.alike (hg.2.2.2.1 c q hq), fun k q hk => by simp at hk⟩
theorem A_arr {l : Launch} {g : GC} {s : State} (hg : g_ok l g) (hW : g.1.WarmedH s.vm) {ty : FieldType} (h : ty ∈ g_tys) : ArrOfT s (g_A g ty) ty ∧ s.vm.findClass ("[" ++ ty.toString) = some (g_A g ty) ∧ ∃ (kA : Class) (comp : ClassId), s.vm.classes[g_A g ty]? = some kA ∧ kA.kind = .array comp ty ∧ ∀ C, ty = .object C → s.vm.findClass C = some comp := by
  obtain ⟨kA, comp, h1, h2, h3, h4⟩ := hg.2.2.2.2 ty h
  obtain ⟨k', hk', he⟩ := hW.alike.2.2 _ _ h2
  have h3' : k'.kind = .array comp ty := by rw [he]; exact h3
  exact ⟨fun n z => ⟨fun k h => (by cases h), k', hk', comp, h3'⟩, by rw [hW.alike.findClass]; exact h1, k', comp, hk', h3', fun C hC => by rw [hW.alike.findClass]; exact h4 C hC⟩
theorem A_tys {l : Launch} {g : GC} {s : State} (hg : g_ok l g) (hW : g.1.WarmedH s.vm) {ty : FieldType} (h : ty ∈ g_tys) : va_K g.2.2 vwCl [(g_A g ty, ty)] s := by
  refine ⟨(A_K hg hW).1, fun k q hk => ?_⟩
  have hz : k < 1 := (List.getElem?_eq_some_iff.mp hk).1
  rw [show k = 0 by omega] at hk
  cases hk
  obtain ⟨h1, h2, kA, comp, h3, h4, h5⟩ := A_arr hg hW h
  refine ⟨h1, ?_⟩
  cases ty with
  | object C => exact ⟨kA, comp, h3, h4, h5 C rfl, h2⟩
  | _ => exact h2
theorem A_one {g : GC} {a : Nat} {o : Nat × List Value} {H : Heap} (h : g_cell g a (.inr (.inl o)) H) : va_P g.2.2 vwCl [(a, .inr o)] H := by
  intro k q hk
  have hz : k < 1 := (List.getElem?_eq_some_iff.mp hk).1
  rw [show k = 0 by omega] at hk
  cases hk
  exact h
theorem A_oneA {g : GC} {a : Nat} {x : FieldType × vp_A} {H : Heap} (h : g_cell g a (.inl x) H) : va_P g.2.2 vwCl [(a, .inl (g_A g x.1, x.2))] H := by
  intro k q hk
  have hz : k < 1 := (List.getElem?_eq_some_iff.mp hk).1
  rw [show k = 0 by omega] at hk
  cases hk
  exact h
/-- a word of the tables, at any state of the run -/
theorem A_nestF {l : Launch} {g : GC} {s : State} {args : Array Value} (hg : g_ok l g) (hW : g.1.WarmedH s.vm) {a : String} {i : Nat} {b n d h : String} (hq : Cond.fieldLinkNest a i b n d h ∈ lw_tbl) : (Cond.fieldLinkNest a i b n d h).before args s = true := va_Nw.use rfl (va_Nw.warmF hW (va_Nw.of rfl (hg.2.1 _ hq)))
theorem A_nestM {l : Launch} {g : GC} {s : State} (hg : g_ok l g) (hW : g.1.WarmedH s.vm) {a : String} {i : Nat} {x : MethodName} {h : String} (hq : Cond.methodLinkNest a i x h ∈ lw_tbl) : va_Nw (.methodLinkNest a i x h) s := va_Nw.warmM hW (va_Nw.of rfl (hg.2.1 _ hq))
theorem A_castW {l : Launch} {g : GC} {s : State} (hg : g_ok l g) (hW : g.1.WarmedH s.vm) {C T : String} (hq : Cond.castable C T ∈ lw_tbl) : va_Nw (.castable C T) s := va_Nw.warmC hW (va_Nw.of rfl (hg.2.1 _ hq))
theorem A_locs {g : GC} {locs : List Loc} (hL : ∀ q ∈ locs, g.1.heap.size ≤ q.base) {a k : Nat} (ha : g.1.heap.size ≤ a) : ∀ q ∈ locs ++ [(⟨a, k⟩ : Loc)], g.1.heap.size ≤ q.base := by
  intro q hq
  rcases List.mem_append.mp hq with h | h
  · exact hL q h
  · rw [List.mem_singleton.mp h]; exact ha
section AHeap
variable {l : Launch} {g : GC} {mi : MI} {d b : Nat} {Q : Option Value → AH → Prop} {X : String → Nat → AH → Prop} {pc : Nat} {L : List (Nat × Value)} {st : List Value} {σ : AH}
variable {ci : Nat} {Cn : String} {T : u_T} {N : Nat} {ty : Nat → FieldType}
theorem A_getf (cb : A_CB ci Cn T N ty) {a : Nat} {fs : List Value} (h : σ.1 a = some (.inr (.inl (ci, fs)))) (fk : Nat) (hk : fk < N) {ix : Nat} {ref : String} (hq : Cond.fieldLink mi.1.cls ix ref (T fk).2.1 (T fk).2.2.1 ∈ lw_all) (hs : ref = (T fk).1) {v : Value} (hv : fs[fk]? = some v) (hd : decode mi.2.1 pc = .ok (.getfield ix, 3)) (kk : AW l g mi d b Q X (pc + 3) L (v :: st) σ) : AW l g mi d b Q X pc L (.ref a :: st) σ := by
  intro p e R s m args below meth c H locs cells slots ls C hP hL hl
  have hc := C
  obtain ⟨hx, hb, hr, hlk, hml, hown, hts, hg, hW, hrest⟩ := C
  subst hs
  exact va_get (D := g.2.2) hx hb hts cb.2.1 hown (A_K hg hW) (A_one (hP.2.2.1 a _ h).2.2) 0 rfl cb.1 fk hk (hts _ hq) (fun _ h9 => h9) hv hd (kk p e R s m args below meth c H locs cells slots ls hc hP hL hl)
theorem A_getfN (cb : A_CB ci Cn T N ty) {a : Nat} {fs : List Value} (h : σ.1 a = some (.inr (.inl (ci, fs)))) (fk : Nat) (hk : fk < N) {ix : Nat} {ref host : String} (hq : Cond.fieldLinkNest mi.1.cls ix ref (T fk).2.1 (T fk).2.2.1 host ∈ lw_tbl) (hs : ref = (T fk).1) {v : Value} (hv : fs[fk]? = some v) (hd : decode mi.2.1 pc = .ok (.getfield ix, 3)) (kk : AW l g mi d b Q X (pc + 3) L (v :: st) σ) : AW l g mi d b Q X pc L (.ref a :: st) σ := by
  intro p e R s m args below meth c H locs cells slots ls C hP hL hl
  have hc := C
  obtain ⟨hx, hb, hr, hlk, hml, hown, hts, hg, hW, hrest⟩ := C
  subst hs
  exact va_getN (D := g.2.2) hx hb hts cb.2.1 hown (A_K hg hW) (A_one (hP.2.2.1 a _ h).2.2) 0 rfl cb.1 fk hk (A_nestF hg hW hq) (fun _ h9 => h9) hv hd (kk p e R s m args below meth c H locs cells slots ls hc hP hL hl)
theorem A_putf (cb : A_CB ci Cn T N ty) {a : Nat} {fs : List Value} {v : Value} (h : σ.1 a = some (.inr (.inl (ci, fs)))) (fk : Nat) (hk : fk < N) {ix : Nat} {ref : String} (hq : Cond.fieldLink mi.1.cls ix ref (T fk).2.1 (T fk).2.2.1 ∈ lw_all) (hs : ref = (T fk).1) (hfin : (T fk).2.2.2 = false) (hn : narrow (ty fk) v = v) (hfit : fits (ty fk) v = true) (hlen : fk < fs.length) (hd : decode mi.2.1 pc = .ok (.putfield ix, 3)) (kk : AW l g mi d b Q X (pc + 3) L st (h_put σ a (.inr (.inl (ci, fs.set fk v))))) : AW l g mi d b Q X pc L (v :: .ref a :: st) σ := by
  intro p e R s m args below meth c H locs cells slots ls C hP hL hl
  have hc := C
  obtain ⟨hx, hb, hr, hlk, hml, hown, hts, hg, hW, hrest⟩ := C
  subst hs
  have hK := A_K hg hW
  have hap := va_apart (own := mi.1.cls) hts cb.2.1 ty cb.2.2.1 cb.2.2.2 hK cb.1
  obtain ⟨z1, z2, r, h1, cell, q1, q2, q3, q4⟩ := hP.2.2.1 a _ h
  have hr : r = (Cn, T, N) := Option.some.inj (h1.symm.trans cb.1)
  subst hr
  obtain ⟨hS, hfc, kC, hkC, hkind⟩ := hK.1 ci _ cb.1
  obtain ⟨cf, kf, fi, f, hi, hsl⟩ := hS fk hk
  have hlay := hts _ (cb.2.1 _ (u_in_lay hk))
  unfold u_lay at hlay
  rw [if_neg (by rw [hfin]; decide)] at hlay
  have hst := (u_facts hfc hkC (u_lays hts cb.2.1 hk) hi).1
  have h6 := u_store hfc hkC hkind hlay hi (cb.2.2.1 fk hk) hn hfit
  refine W.putK hx hb (f := f) ⟨hown, hts _ hq, ⟨_, _, _, hi⟩, hst⟩ (by rw [q2]; exact h6) q1 q3 (by rw [hsl]; exact k2_hasslot (q4 fk hk)) rfl rfl hd fun H' e1 e2 e3 => ?_
  rw [hsl] at e1 ⊢
  exact kk p e R s m args below meth c H' _ cells slots ls hc (hP.put h e2 e3 ⟨_, cb.1, t_OB.to (V := updV (vp_V fs) fk v) ⟨_, e1, q2, q3, t_set q4 hap hk v⟩ (fun j _ => vp_updV_set hlen v j)⟩) (A_locs hL z1) hl
theorem A_putfN (cb : A_CB ci Cn T N ty) {a : Nat} {fs : List Value} {v : Value} (h : σ.1 a = some (.inr (.inl (ci, fs)))) (fk : Nat) (hk : fk < N) {ix : Nat} {ref host : String} (hq : Cond.fieldLinkNest mi.1.cls ix ref (T fk).2.1 (T fk).2.2.1 host ∈ lw_tbl) (hs : ref = (T fk).1) (hfin : (T fk).2.2.2 = false) (hn : narrow (ty fk) v = v) (hfit : fits (ty fk) v = true) (hlen : fk < fs.length) (hd : decode mi.2.1 pc = .ok (.putfield ix, 3)) (kk : AW l g mi d b Q X (pc + 3) L st (h_put σ a (.inr (.inl (ci, fs.set fk v))))) : AW l g mi d b Q X pc L (v :: .ref a :: st) σ := by
  intro p e R s m args below meth c H locs cells slots ls C hP hL hl
  have hc := C
  obtain ⟨hx, hb, hr, hlk, hml, hown, hts, hg, hW, hrest⟩ := C
  subst hs
  have hK := A_K hg hW
  have hap := va_apart (own := mi.1.cls) hts cb.2.1 ty cb.2.2.1 cb.2.2.2 hK cb.1
  obtain ⟨z1, z2, r, h1, cell, q1, q2, q3, q4⟩ := hP.2.2.1 a _ h
  have hr : r = (Cn, T, N) := Option.some.inj (h1.symm.trans cb.1)
  subst hr
  obtain ⟨hS, hfc, kC, hkC, hkind⟩ := hK.1 ci _ cb.1
  obtain ⟨cf, kf, fi, f, hi, hsl⟩ := hS fk hk
  have hlay := hts _ (cb.2.1 _ (u_in_lay hk))
  unfold u_lay at hlay
  rw [if_neg (by rw [hfin]; decide)] at hlay
  have hst := (u_facts hfc hkC (u_lays hts cb.2.1 hk) hi).1
  have h6 := u_store hfc hkC hkind hlay hi (cb.2.2.1 fk hk) hn hfit
  refine va_WputK hx hb (f := f) hown (A_nestF hg hW hq) hi hst (by rw [q2]; exact h6) q1 q3 (by rw [hsl]; exact k2_hasslot (q4 fk hk)) rfl rfl hd fun H' e1 e2 e3 => ?_
  rw [hsl] at e1 ⊢
  exact kk p e R s m args below meth c H' _ cells slots ls hc (hP.put h e2 e3 ⟨_, cb.1, t_OB.to (V := updV (vp_V fs) fk v) ⟨_, e1, q2, q3, t_set q4 hap hk v⟩ (fun j _ => vp_updV_set hlen v j)⟩) (A_locs hL z1) hl
theorem A_putfF (cb : A_CB ci Cn T N ty) {a : Nat} {fs : List Value} {v : Value} (h : σ.1 a = some (.inr (.inl (ci, fs)))) (fk : Nat) (hk : fk < N) {ix : Nat} {ref : String} (hq : Cond.fieldLink mi.1.cls ix ref (T fk).2.1 (T fk).2.2.1 ∈ lw_all) (hs : ref = (T fk).1) (hfin : (T fk).2.2.2 = true) (hin2 : mi.1.name = "<init>") (hdecl : (T fk).1 = mi.1.cls) (hn : narrow (ty fk) v = v) (hfit : fits (ty fk) v = true) (hlen : fk < fs.length) (hd : decode mi.2.1 pc = .ok (.putfield ix, 3)) (kk : AW l g mi d b Q X (pc + 3) L st (h_put σ a (.inr (.inl (ci, fs.set fk v))))) : AW l g mi d b Q X pc L (v :: .ref a :: st) σ := by
  intro p e R s m args below meth c H locs cells slots ls C hP hL hl
  have hc := C
  obtain ⟨hx, hb, hr, hlk, hml, hown, hts, hg, hW, h10, h11, hnm, h13⟩ := C
  subst hs
  have hK := A_K hg hW
  have hap := va_apart (own := mi.1.cls) hts cb.2.1 ty cb.2.2.1 cb.2.2.2 hK cb.1
  obtain ⟨z1, z2, r, h1, cell, q1, q2, q3, q4⟩ := hP.2.2.1 a _ h
  have hr : r = (Cn, T, N) := Option.some.inj (h1.symm.trans cb.1)
  subst hr
  obtain ⟨hS, hfc, kC, hkC, hkind⟩ := hK.1 ci _ cb.1
  obtain ⟨cf, kf, fi, f, hi, hsl⟩ := hS fk hk
  have hlay := hts _ (cb.2.1 _ (u_in_lay hk))
  unfold u_lay at hlay
  rw [if_pos hfin] at hlay
  have hst := (u_facts hfc hkC (u_lays hts cb.2.1 hk) hi).1
  have hcf : m.cls = cf := by
    obtain ⟨_, _, c', _, _, _, -, -, hf', -, -, -, hown2, -⟩ := Cond.laysFinal_spec hlay
    have e1 : c' = cf := by have := hi.symm.trans hf'; simp at this; exact this.1.symm
    rw [hdecl] at hown2
    rw [← e1]; exact Option.some.inj (hown.symm.trans hown2)
  have h6 := u_fits hfc hkC hkind (Or.inr hlay) hi (cb.2.2.1 fk hk) hn hfit
  refine W.putFinK hx hb hown (hts _ hq) hi hst hcf (hnm.trans hin2) (by rw [q2]; exact h6) q1 q3 (by rw [hsl]; exact k2_hasslot (q4 fk hk)) rfl rfl hd fun H' e1 e2 e3 => ?_
  rw [hsl] at e1 ⊢
  exact kk p e R s m args below meth c H' _ cells slots ls hc (hP.put h e2 e3 ⟨_, cb.1, t_OB.to (V := updV (vp_V fs) fk v) ⟨_, e1, q2, q3, t_set q4 hap hk v⟩ (fun j _ => vp_updV_set hlen v j)⟩) (A_locs hL z1) hl
/-- room for one cell of so many slots out of u -/
theorem A_room {mi : MI} {b b' u n : Nat} {p : Program} {R : Room} {s : State} {m : MethodId} {args : Array Value} {meth : Method} {c : Code} {cells slots : Nat} (hk : b' + u ≤ b) (hu : 1 ≤ u ∧ n ≤ 4 * u) (C : A_ctx l g mi d b p R s m args meth c cells slots) : cells + 1 ≤ R.cells ∧ slots + n ≤ R.slots ∧ A_ctx l g mi d b' p R s m args meth c (cells + 1) (slots + n) := by
  obtain ⟨c1, c2, c3, c4, c5, c6, c7, c8, c9, c10, ⟨c11, c12⟩, c13⟩ := C
  exact ⟨by omega, by omega, c1, c2, c3, c4, c5, c6, c7, c8, c9, c10, ⟨by omega, by omega⟩, c13⟩
theorem A_new {b' u : Nat} (cb : A_CB ci Cn T N ty) {ix : Nat} (hcl : Cond.classLink mi.1.cls ix Cn ∈ lw_all) (hins : Cond.instantiable Cn N ∈ lw_all) (hini : Cond.initialized Cn ∈ lw_all) {fs : List Value} (hfs : ∀ j, j < N → defaultValue (ty j) = vp_V fs j) (hk : b' + u ≤ b) (hu : 1 ≤ u ∧ N ≤ 4 * u) (hd : decode mi.2.1 pc = .ok (.new ix, 3)) (kk : AW l g mi d b' Q X (pc + 3) L (.ref σ.2 :: st) (h_new σ (.inr (.inl (ci, fs))))) : AW l g mi d b Q X pc L st σ := by
  intro p e R s m args below meth c H locs cells slots ls C hP hL hl
  obtain ⟨r1, r2, C'⟩ := A_room hk hu C
  obtain ⟨hx, hb, hr, hlk, hml, hown, hts, hg, hW, h10, h11, hnm, h13⟩ := C
  have hKn := (A_K hg hW).1 ci _ cb.1
  refine W.newcK hx hb hown (hts _ hcl) (hts _ hins) (hts _ hini) rfl hd r1 r2 hKn.2.1 rfl fun H1 kC hkC e1 z1 o1 => ?_
  have h9 := kk p e R s m args below meth c H1 locs (cells + 1) (slots + N) ls C' (hP.new z1 o1 ⟨_, cb.1, (u_born ty hts cb.2.1 hKn hkC e1 cb.2.2.1).to hfs⟩) hL hl
  rw [← hP.1] at h9
  exact h9
theorem A_newa {b' u : Nat} {ta : FieldType} {atype : ArrayType} (hty : newarray.typeOf atype = ta) (ht : ta ∈ g_tys) (harr : Cond.arrayClass ta ∈ lw_all) {n : Int32} {n' : Nat} {a0 : vp_A} (ha : ∀ cA : ClassId, vp_cell cA a0 = arrV cA n' (fun _ => defaultValue ta)) (hn : ¬ n < 0) (hN : n.toNatClampNeg = n') (hbytes : n' * componentBytes ta ≤ 536870912) (hk : b' + u ≤ b) (hu : 1 ≤ u ∧ n' ≤ 4 * u) (hd : decode mi.2.1 pc = .ok (.newarray atype, 2)) (kk : AW l g mi d b' Q X (pc + 2) L (.ref σ.2 :: st) (h_new σ (.inl (ta, a0)))) : AW l g mi d b Q X pc L (.int n :: st) σ := by
  intro p e R s m args below meth c H locs cells slots ls C hP hL hl
  obtain ⟨r1, r2, C'⟩ := A_room hk hu C
  obtain ⟨hx, hb, hr, hlk, hml, hown, hts, hg, hW, h10, h11, hnm, h13⟩ := C
  subst hty
  refine va_newaK hx hb (hts _ harr) rfl hd rfl hn hN hbytes r1 r2 rfl fun H1 cA e1 z1 o1 hA hfc => ?_
  have hcA : cA = g_A g (newarray.typeOf atype) := Option.some.inj (hfc.symm.trans (A_arr hg hW ht).2.1)
  have h9 := kk p e R s m args below meth c H1 locs (cells + 1) (slots + n') ls C' (hP.new z1 o1 (show H1[H.size]? = some (vp_cell (g_A g (newarray.typeOf atype)) a0) by rw [ha, ← hcA]; exact e1)) hL hl
  rw [← hP.1] at h9
  exact h9
theorem A_anew {b' u : Nat} {K : String} (ht : FieldType.object K ∈ g_tys) {ix : Nat} (hcl : Cond.classLink mi.1.cls ix K ∈ lw_all) (hov : Cond.arrayOver (.object K) ∈ lw_tbl) {n : Int32} {n' : Nat} (hn : ¬ n < 0) (hN : n.toNatClampNeg = n') (hbytes : n' * 4 ≤ 536870912) (hk : b' + u ≤ b) (hu : 1 ≤ u ∧ n' ≤ 4 * u) (hd : decode mi.2.1 pc = .ok (.anewarray ix, 3)) (kk : AW l g mi d b' Q X (pc + 3) L (.ref σ.2 :: st) (h_new σ (.inl (.object K, n', .inr (.inr (.inr (.inr (fun _ => none)))))))) : AW l g mi d b Q X pc L (.int n :: st) σ := by
  intro p e R s m args below meth c H locs cells slots ls C hP hL hl
  obtain ⟨r1, r2, C'⟩ := A_room hk hu C
  obtain ⟨hx, hb, hr, hlk, hml, hown, hts, hg, hW, h10, h11, hnm, h13⟩ := C
  subst hN
  refine W.anew hx hb hown (hts _ hcl) (va_AO.use (va_AO.moved hW.alike (va_AO.of (hg.2.1 _ hov)))) rfl hd rfl hn hbytes r1 r2 fun cA kA comp f1 f2 f3 f4 => ?_
  generalize hH1 : H.push ({ cls := cA, slots := Array.replicate n.toNatClampNeg .null, vm := .none } : Cell) = H1
  have z1 : H1.size = H.size + 1 := by rw [← hH1, Array.size_push]
  have e1 : H1[H.size]? = some (arrV cA n.toNatClampNeg (fun _ => .null)) := by rw [← hH1, Array.getElem?_push_size, ← arrV_new]
  have o1 : ∀ q : Nat, q < H.size → H1[q]? = H[q]? := fun q hq => by rw [← hH1, Array.getElem?_push, if_neg (Nat.ne_of_lt hq)]
  have hcA : cA = g_A g (.object K) := Option.some.inj (f1.symm.trans (A_arr hg hW ht).2.1)
  have h9 := kk p e R s m args below meth c H1 locs (cells + 1) (slots + n.toNatClampNeg) ls C' (hP.new z1 o1 (show H1[H.size]? = some (vp_cell (g_A g (.object K)) (n.toNatClampNeg, .inr (.inr (.inr (.inr (fun _ => none)))))) by rw [← hcA]; exact e1)) hL hl
  rw [← hP.1] at h9
  exact h9
theorem A_alen {a : Nat} {ta : FieldType} {x : vp_A} (h : σ.1 a = some (.inl (ta, x))) (ht : ta ∈ g_tys) {v : Int32} (hv : Int32.ofNat x.1 = v) (hd : decode mi.2.1 pc = .ok (.arraylength, 1)) (kk : AW l g mi d b Q X (pc + 1) L (.int v :: st) σ) : AW l g mi d b Q X pc L (.ref a :: st) σ := by
  intro p e R s m args below meth c H locs cells slots ls C hP hL hl
  exact va_alen (D := g.2.2) C.1 C.2.1 (A_tys C.2.2.2.2.2.2.2.1 C.2.2.2.2.2.2.2.2.1 ht) (A_oneA (hP.2.2.1 a _ h).2.2) 0 0 rfl rfl hv hd (kk p e R s m args below meth c H locs cells slots ls C hP hL hl)
theorem A_iald {a n : Nat} {f : Nat → Int32} (h : σ.1 a = some (.inl (.int, n, .inl f))) {i : Int32} (hin : vp_in i n) (hd : decode mi.2.1 pc = .ok (.iaload, 1)) (kk : AW l g mi d b Q X (pc + 1) L (.int (f i.toNatClampNeg) :: st) σ) : AW l g mi d b Q X pc L (.int i :: .ref a :: st) σ := by
  intro p e R s m args below meth c H locs cells slots ls C hP hL hl
  exact va_iald (D := g.2.2) C.1 C.2.1 (A_tys C.2.2.2.2.2.2.2.1 C.2.2.2.2.2.2.2.2.1 (ty := .int) (by decide)) (A_oneA (hP.2.2.1 a _ h).2.2) 0 0 rfl rfl hin hd (kk p e R s m args below meth c H locs cells slots ls C hP hL hl)
theorem A_bald {a n : Nat} {f : Nat → Int32} (h : σ.1 a = some (.inl (.byte, n, .inl f))) {i : Int32} (hin : vp_in i n) (hd : decode mi.2.1 pc = .ok (.baload, 1)) (kk : AW l g mi d b Q X (pc + 1) L (.int (f i.toNatClampNeg) :: st) σ) : AW l g mi d b Q X pc L (.int i :: .ref a :: st) σ := by
  intro p e R s m args below meth c H locs cells slots ls C hP hL hl
  exact va_bald (D := g.2.2) C.1 C.2.1 (A_tys C.2.2.2.2.2.2.2.1 C.2.2.2.2.2.2.2.2.1 (ty := .byte) (by decide)) (A_oneA (hP.2.2.1 a _ h).2.2) 0 0 rfl rfl hin hd (kk p e R s m args below meth c H locs cells slots ls C hP hL hl)
theorem A_zald {a n : Nat} {f : Nat → Int32} (h : σ.1 a = some (.inl (.boolean, n, .inl f))) {i : Int32} (hin : vp_in i n) (hd : decode mi.2.1 pc = .ok (.baload, 1)) (kk : AW l g mi d b Q X (pc + 1) L (.int (f i.toNatClampNeg) :: st) σ) : AW l g mi d b Q X pc L (.int i :: .ref a :: st) σ := by
  intro p e R s m args below meth c H locs cells slots ls C hP hL hl
  exact va_zald (D := g.2.2) C.1 C.2.1 (A_tys C.2.2.2.2.2.2.2.1 C.2.2.2.2.2.2.2.2.1 (ty := .boolean) (by decide)) (A_oneA (hP.2.2.1 a _ h).2.2) 0 0 rfl rfl hin hd (kk p e R s m args below meth c H locs cells slots ls C hP hL hl)
theorem A_lald {a n : Nat} {f : Nat → Int64} (h : σ.1 a = some (.inl (.long, n, .inr (.inl f)))) {i : Int32} (hin : vp_in i n) (hd : decode mi.2.1 pc = .ok (.laload, 1)) (kk : AW l g mi d b Q X (pc + 1) L (.long (f i.toNatClampNeg) :: st) σ) : AW l g mi d b Q X pc L (.int i :: .ref a :: st) σ := by
  intro p e R s m args below meth c H locs cells slots ls C hP hL hl
  exact va_lald (D := g.2.2) C.1 C.2.1 (A_tys C.2.2.2.2.2.2.2.1 C.2.2.2.2.2.2.2.2.1 (ty := .long) (by decide)) (A_oneA (hP.2.2.1 a _ h).2.2) 0 0 rfl rfl hin hd (kk p e R s m args below meth c H locs cells slots ls C hP hL hl)
theorem A_dald {a n : Nat} {f : Nat → UInt64} (h : σ.1 a = some (.inl (.double, n, .inr (.inr (.inr (.inl f)))))) {i : Int32} (hin : vp_in i n) (hd : decode mi.2.1 pc = .ok (.daload, 1)) (kk : AW l g mi d b Q X (pc + 1) L (.double (f i.toNatClampNeg) :: st) σ) : AW l g mi d b Q X pc L (.int i :: .ref a :: st) σ := by
  intro p e R s m args below meth c H locs cells slots ls C hP hL hl
  exact va_dald (D := g.2.2) C.1 C.2.1 (A_tys C.2.2.2.2.2.2.2.1 C.2.2.2.2.2.2.2.2.1 (ty := .double) (by decide)) (A_oneA (hP.2.2.1 a _ h).2.2) 0 0 rfl rfl hin hd (kk p e R s m args below meth c H locs cells slots ls C hP hL hl)
theorem A_aald {a n : Nat} {K : String} {f : Nat → Option Nat} (h : σ.1 a = some (.inl (.object K, n, .inr (.inr (.inr (.inr f)))))) (ht : FieldType.object K ∈ g_tys) {i : Int32} (hin : vp_in i n) {v : Value} (hv : va_rf (f i.toNatClampNeg) = v) (hd : decode mi.2.1 pc = .ok (.aaload, 1)) (kk : AW l g mi d b Q X (pc + 1) L (v :: st) σ) : AW l g mi d b Q X pc L (.int i :: .ref a :: st) σ := by
  intro p e R s m args below meth c H locs cells slots ls C hP hL hl
  subst hv
  exact va_aldq (D := g.2.2) C.1 C.2.1 (A_tys C.2.2.2.2.2.2.2.1 C.2.2.2.2.2.2.2.2.1 ht) (A_oneA (hP.2.2.1 a _ h).2.2) 0 0 rfl rfl hin hd (kk p e R s m args below meth c H locs cells slots ls C hP hL hl)
theorem A_iast {a n : Nat} {f : Nat → Int32} (h : σ.1 a = some (.inl (.int, n, .inl f))) {i : Int32} {x : Int32} (hin : vp_in i n) (hd : decode mi.2.1 pc = .ok (.iastore, 1)) (kk : AW l g mi d b Q X (pc + 1) L st (h_put σ a (.inl (.int, n, .inl (va_up f i.toNatClampNeg x))))) : AW l g mi d b Q X pc L (.int x :: .int i :: .ref a :: st) σ := by
  intro p e R s m args below meth c H locs cells slots ls C hP hL hl
  obtain ⟨z1, z2, z3⟩ := hP.2.2.1 a _ h
  refine W.iast C.1 C.2.1 z3 ((A_arr C.2.2.2.2.2.2.2.1 C.2.2.2.2.2.2.2.2.1 (ty := .int) (by decide)).1 n (fun j => .int (f j))) (fun q => by cases q) (by show ¬ (i < 0 ∨ (arrV _ _ _).slots.size ≤ _); rw [arrV_size]; exact hin) rfl rfl hd fun H1 e9 z oq => ?_
  refine kk p e R s m args below meth c H1 _ cells slots ls C (hP.put h z oq ?_) (A_locs hL z1) hl
  show H1[a]? = some (vp_cell _ _)
  rw [e9]
  show some ((vp_cell _ _).setSlot _ _) = _
  rw [vp_cell_i, vp_cell_i, arrV_store]
  congr 2
  funext q
  by_cases hq : q = i.toNatClampNeg
  · subst hq
    first | (simp [updV, va_up, vp_nar, narrow]; done) | (simp [updV, va_up])
  · simp [updV, va_up, hq]
theorem A_bast {a n : Nat} {f : Nat → Int32} (h : σ.1 a = some (.inl (.byte, n, .inl f))) {i : Int32} {x : Int32} (hin : vp_in i n) (hd : decode mi.2.1 pc = .ok (.bastore, 1)) (kk : AW l g mi d b Q X (pc + 1) L st (h_put σ a (.inl (.byte, n, .inl (va_up f i.toNatClampNeg (vp_nar .byte x)))))) : AW l g mi d b Q X pc L (.int x :: .int i :: .ref a :: st) σ := by
  intro p e R s m args below meth c H locs cells slots ls C hP hL hl
  obtain ⟨z1, z2, z3⟩ := hP.2.2.1 a _ h
  refine W.bast C.1 C.2.1 z3 ((A_arr C.2.2.2.2.2.2.2.1 C.2.2.2.2.2.2.2.2.1 (ty := .byte) (by decide)).1 n (fun j => .int (f j))) (fun q => by cases q) (by show ¬ (i < 0 ∨ (arrV _ _ _).slots.size ≤ _); rw [arrV_size]; exact hin) rfl rfl hd fun H1 e9 z oq => ?_
  refine kk p e R s m args below meth c H1 _ cells slots ls C (hP.put h z oq ?_) (A_locs hL z1) hl
  show H1[a]? = some (vp_cell _ _)
  rw [e9]
  show some ((vp_cell _ _).setSlot _ _) = _
  rw [vp_cell_i, vp_cell_i, arrV_store]
  congr 2
  funext q
  by_cases hq : q = i.toNatClampNeg
  · subst hq
    first | (simp [updV, va_up, vp_nar, narrow]; done) | (simp [updV, va_up])
  · simp [updV, va_up, hq]
theorem A_zast {a n : Nat} {f : Nat → Int32} (h : σ.1 a = some (.inl (.boolean, n, .inl f))) {i : Int32} {x : Int32} (hin : vp_in i n) (hd : decode mi.2.1 pc = .ok (.bastore, 1)) (kk : AW l g mi d b Q X (pc + 1) L st (h_put σ a (.inl (.boolean, n, .inl (va_up f i.toNatClampNeg (vp_nar .boolean x)))))) : AW l g mi d b Q X pc L (.int x :: .int i :: .ref a :: st) σ := by
  intro p e R s m args below meth c H locs cells slots ls C hP hL hl
  obtain ⟨z1, z2, z3⟩ := hP.2.2.1 a _ h
  refine W.zast C.1 C.2.1 z3 ((A_arr C.2.2.2.2.2.2.2.1 C.2.2.2.2.2.2.2.2.1 (ty := .boolean) (by decide)).1 n (fun j => .int (f j))) (fun q => by cases q) (by show ¬ (i < 0 ∨ (arrV _ _ _).slots.size ≤ _); rw [arrV_size]; exact hin) rfl rfl hd fun H1 e9 z oq => ?_
  refine kk p e R s m args below meth c H1 _ cells slots ls C (hP.put h z oq ?_) (A_locs hL z1) hl
  show H1[a]? = some (vp_cell _ _)
  rw [e9]
  show some ((vp_cell _ _).setSlot _ _) = _
  rw [vp_cell_i, vp_cell_i, arrV_store]
  congr 2
  funext q
  by_cases hq : q = i.toNatClampNeg
  · subst hq
    first | (simp [updV, va_up, vp_nar, narrow]; done) | (simp [updV, va_up])
  · simp [updV, va_up, hq]
theorem A_last {a n : Nat} {f : Nat → Int64} (h : σ.1 a = some (.inl (.long, n, .inr (.inl f)))) {i : Int32} {x : Int64} (hin : vp_in i n) (hd : decode mi.2.1 pc = .ok (.lastore, 1)) (kk : AW l g mi d b Q X (pc + 1) L st (h_put σ a (.inl (.long, n, .inr (.inl (va_up f i.toNatClampNeg x)))))) : AW l g mi d b Q X pc L (.long x :: .int i :: .ref a :: st) σ := by
  intro p e R s m args below meth c H locs cells slots ls C hP hL hl
  obtain ⟨z1, z2, z3⟩ := hP.2.2.1 a _ h
  refine W.last C.1 C.2.1 z3 ((A_arr C.2.2.2.2.2.2.2.1 C.2.2.2.2.2.2.2.2.1 (ty := .long) (by decide)).1 n (fun j => .long (f j))) (fun q => by cases q) (by show ¬ (i < 0 ∨ (arrV _ _ _).slots.size ≤ _); rw [arrV_size]; exact hin) rfl rfl hd fun H1 e9 z oq => ?_
  refine kk p e R s m args below meth c H1 _ cells slots ls C (hP.put h z oq ?_) (A_locs hL z1) hl
  show H1[a]? = some (vp_cell _ _)
  rw [e9]
  show some ((vp_cell _ _).setSlot _ _) = _
  rw [vp_cell_l, vp_cell_l, arrV_store]
  congr 2
  funext q
  by_cases hq : q = i.toNatClampNeg
  · subst hq
    first | (simp [updV, va_up, vp_nar, narrow]; done) | (simp [updV, va_up])
  · simp [updV, va_up, hq]
theorem A_dast {a n : Nat} {f : Nat → UInt64} (h : σ.1 a = some (.inl (.double, n, .inr (.inr (.inr (.inl f)))))) {i : Int32} {x : UInt64} (hin : vp_in i n) (hd : decode mi.2.1 pc = .ok (.dastore, 1)) (kk : AW l g mi d b Q X (pc + 1) L st (h_put σ a (.inl (.double, n, .inr (.inr (.inr (.inl (va_up f i.toNatClampNeg x)))))))) : AW l g mi d b Q X pc L (.double x :: .int i :: .ref a :: st) σ := by
  intro p e R s m args below meth c H locs cells slots ls C hP hL hl
  obtain ⟨z1, z2, z3⟩ := hP.2.2.1 a _ h
  refine W.dast C.1 C.2.1 z3 ((A_arr C.2.2.2.2.2.2.2.1 C.2.2.2.2.2.2.2.2.1 (ty := .double) (by decide)).1 n (fun j => .double (f j))) (fun q => by cases q) (by show ¬ (i < 0 ∨ (arrV _ _ _).slots.size ≤ _); rw [arrV_size]; exact hin) rfl rfl hd fun H1 e9 z oq => ?_
  refine kk p e R s m args below meth c H1 _ cells slots ls C (hP.put h z oq ?_) (A_locs hL z1) hl
  show H1[a]? = some (vp_cell _ _)
  rw [e9]
  show some ((vp_cell _ _).setSlot _ _) = _
  rw [vp_cell_d, vp_cell_d, arrV_store]
  congr 2
  funext q
  by_cases hq : q = i.toNatClampNeg
  · subst hq
    first | (simp [updV, va_up, vp_nar, narrow]; done) | (simp [updV, va_up])
  · simp [updV, va_up, hq]
theorem A_aast {a n v : Nat} {K : String} {f : Nat → Option Nat} (h : σ.1 a = some (.inl (.object K, n, .inr (.inr (.inr (.inr f)))))) (ht : FieldType.object K ∈ g_tys) {vs : List Value} {r : vw_C} (hv : σ.1 v = some (.inr (.inl (ci, vs)))) (hc : vwCl[ci]? = some r) (hca : r.1 = K ∨ Cond.castable r.1 K ∈ lw_tbl) {i : Int32} (hin : vp_in i n) (hd : decode mi.2.1 pc = .ok (.aastore, 1)) (kk : AW l g mi d b Q X (pc + 1) L st (h_put σ a (.inl (.object K, n, .inr (.inr (.inr (.inr (va_up f i.toNatClampNeg (some v)))))))))  : AW l g mi d b Q X pc L (.ref v :: .int i :: .ref a :: st) σ := by
  intro p e R s m args below meth c H locs cells slots ls C hP hL hl
  obtain ⟨z1, z2, z3⟩ := hP.2.2.1 a _ h
  obtain ⟨y1, y2, r', hr', cellV, g1, g2, g3, -⟩ := hP.2.2.1 v _ hv
  have hlt : i.toNatClampNeg < n := Nat.not_le.mp fun q => hin (Or.inr q)
  have h0 : ¬ i < 0 := fun q => hin (Or.inl q)
  have hK := A_K C.2.2.2.2.2.2.2.1 C.2.2.2.2.2.2.2.2.1
  have hcls := (hK.1 ci r hc).2
  obtain ⟨-, -, kA, comp, k1, k2, k3⟩ := A_arr C.2.2.2.2.2.2.2.1 C.2.2.2.2.2.2.2.2.1 ht
  have k3 := k3 K rfl
  obtain ⟨kC, hkC, -⟩ := hcls.2
  obtain ⟨kcomp, hkcomp, -⟩ := Vm.findClass_spec k3
  have hasg : s.vm.assignable cellV.cls comp = true := by
    rw [g2]
    rcases hca with e1 | hca
    · have hcomp : comp = g.2.2.1 ci := Option.some.inj (k3.symm.trans (by rw [← e1]; exact hcls.1))
      rw [hcomp]
      exact va_assign hcls
    · obtain ⟨c0, t0, f1, f2, f3⟩ := Cond.castable_spec (va_Nw.use (A := args) rfl (A_castW C.2.2.2.2.2.2.2.1 C.2.2.2.2.2.2.2.2.1 hca))
      have e1 : c0 = g.2.2.1 ci := Option.some.inj (f1.symm.trans hcls.1)
      have e2 : t0 = comp := Option.some.inj (f2.symm.trans k3)
      rw [← e1, ← e2]
      exact f3
  refine W.aast C.1 C.2.1 z3 (fun q h => by cases h) (fun h => by cases h) k1 k2 rfl hkcomp ⟨h0, by show _ < (arrV _ _ _).slots.size; rw [arrV_size]; exact hlt⟩ g1 (fun q h => by rw [g3] at h; cases h) (by rw [g2]; exact hkC) hasg rfl rfl hd fun H1 e9 z oq => ?_
  refine kk p e R s m args below meth c H1 _ cells slots ls C (hP.put h z oq ?_) (A_locs hL z1) hl
  show H1[a]? = some (vp_cell _ _)
  rw [e9]
  show some ((vp_cell _ _).setSlot _ _) = _
  rw [vp_cell_q, vp_cell_q, arrV_store]
  congr 2
  funext q
  by_cases hq : q = i.toNatClampNeg
  · subst hq
    simp [updV, va_up, va_rf]
  · simp [updV, va_up, hq]
theorem A_aastN {a n : Nat} {K : String} {f : Nat → Option Nat} (h : σ.1 a = some (.inl (.object K, n, .inr (.inr (.inr (.inr f)))))) (ht : FieldType.object K ∈ g_tys) {i : Int32} (hin : vp_in i n) (hd : decode mi.2.1 pc = .ok (.aastore, 1)) (kk : AW l g mi d b Q X (pc + 1) L st (h_put σ a (.inl (.object K, n, .inr (.inr (.inr (.inr (va_up f i.toNatClampNeg none)))))))) : AW l g mi d b Q X pc L (.null :: .int i :: .ref a :: st) σ := by
  intro p e R s m args below meth c H locs cells slots ls C hP hL hl
  obtain ⟨z1, z2, z3⟩ := hP.2.2.1 a _ h
  refine va_WaastN C.1 C.2.1 z3 ((A_arr C.2.2.2.2.2.2.2.1 C.2.2.2.2.2.2.2.2.1 ht).1 n (fun j => va_rf (f j))) (fun q => by cases q) (by show ¬ (i < 0 ∨ (arrV _ _ _).slots.size ≤ _); rw [arrV_size]; exact hin) rfl rfl hd fun H1 e9 z oq => ?_
  refine kk p e R s m args below meth c H1 _ cells slots ls C (hP.put h z oq ?_) (A_locs hL z1) hl
  show H1[a]? = some (vp_cell _ _)
  rw [e9]
  show some ((vp_cell _ _).setSlot _ _) = _
  rw [vp_cell_q, vp_cell_q, arrV_store]
  congr 2
  funext q
  by_cases hq : q = i.toNatClampNeg
  · subst hq
    simp [updV, va_up, va_rf]
  · simp [updV, va_up, hq]
theorem A_objInit {a : Nat} {ix : Nat} (hq : Cond.methodLink mi.1.cls ix Lib.objectInit ∈ lw_all) (hi : Cond.instanceMethod Lib.objectInit ∈ lw_all) (hcd : Cond.code Lib.objectInit ⟨#[0xb1]⟩ 1 none ∈ lw_all) (hd : decode mi.2.1 pc = .ok (.invokespecial ix, 3)) (hdp : 1 ≤ d) (hw : (st.map fun v => v.category).sum ≤ 8) (kk : AW l g mi d b Q X (pc + 3) L st σ) : AW l g mi d b Q X pc L (.ref a :: st) σ := by
  intro p e R s m args below meth c H locs cells slots ls C hP hL hl
  have hc := C
  obtain ⟨hx, hb, hr, hlk, hml, hown, hts, hg, hW, ⟨h10, h10'⟩, h11, hnm, h13⟩ := C
  refine W.objInit hx hb hown (hts _ hq) (hts _ hi) (hts _ hcd) rfl (by rw [hml]; exact hl.1) rfl hd (Nat.le_trans hdp h10) (by show 2 * 0 + _ + 12 ≤ _; omega) (kk p e R s m args below meth c H locs cells slots ls hc hP hL hl)
theorem A_mmax {x y : Int32} {ix : Nat} (hq : Cond.methodLink mi.1.cls ix Lib.Math.max.name ∈ lw_all) (h2 : Cond.static Lib.Math.max.name ∈ lw_all) (h3 : Cond.initialized "java/lang/Math" ∈ lw_all) (h4 : Cond.code Lib.Math.max.name Lib.Math.max.code 2 (some .int) ∈ lw_all) (hd : decode mi.2.1 pc = .ok (.invokestatic ix, 3)) (hdp : 1 ≤ d) (hw : (st.map fun v => v.category).sum ≤ 8) (kk : AW l g mi d b Q X (pc + 3) L (.int (if x < y then y else x) :: st) σ) : AW l g mi d b Q X pc L (.int y :: .int x :: st) σ := by
  intro p e R s m args below meth c H locs cells slots ls C hP hL hl
  have hc := C
  obtain ⟨hx, hb, hr, hlk, hml, hown, hts, hg, hW, ⟨h10, h10'⟩, h11, hnm, h13⟩ := C
  exact va_mmax hx hb (hml.trans hl.1.symm) hown (hts _ hq) (hts _ h2) (hts _ h3) (hts _ h4) (Nat.le_trans hdp h10) (by omega) (by omega) (by omega) hd (kk p e R s m args below meth c H locs cells slots ls hc hP hL hl)
theorem A_mmin {x y : Int32} {ix : Nat} (hq : Cond.methodLink mi.1.cls ix Lib.Math.min.name ∈ lw_all) (h2 : Cond.static Lib.Math.min.name ∈ lw_all) (h3 : Cond.initialized "java/lang/Math" ∈ lw_all) (h4 : Cond.code Lib.Math.min.name Lib.Math.min.code 2 (some .int) ∈ lw_all) (hd : decode mi.2.1 pc = .ok (.invokestatic ix, 3)) (hdp : 1 ≤ d) (hw : (st.map fun v => v.category).sum ≤ 8) (kk : AW l g mi d b Q X (pc + 3) L (.int (if y < x then y else x) :: st) σ) : AW l g mi d b Q X pc L (.int y :: .int x :: st) σ := by
  intro p e R s m args below meth c H locs cells slots ls C hP hL hl
  have hc := C
  obtain ⟨hx, hb, hr, hlk, hml, hown, hts, hg, hW, ⟨h10, h10'⟩, h11, hnm, h13⟩ := C
  exact va_mmin hx hb (hml.trans hl.1.symm) hown (hts _ hq) (hts _ h2) (hts _ h3) (hts _ h4) (Nat.le_trans hdp h10) (by omega) (by omega) (by omega) hd (kk p e R s m args below meth c H locs cells slots ls hc hP hL hl)
-- CALLS
theorem A_mabs {x : Int32} {ix : Nat} (hq : Cond.methodLink mi.1.cls ix Lib.Math.abs.name ∈ lw_all) (h2 : Cond.static Lib.Math.abs.name ∈ lw_all) (h3 : Cond.initialized "java/lang/Math" ∈ lw_all) (h4 : Cond.code Lib.Math.abs.name Lib.Math.abs.code 1 (some .int) ∈ lw_all) (hd : decode mi.2.1 pc = .ok (.invokestatic ix, 3)) (hdp : 1 ≤ d) (hw : (st.map fun v => v.category).sum ≤ 8) (kk : AW l g mi d b Q X (pc + 3) L (.int (if 0 ≤ x then x else 0 - x) :: st) σ) : AW l g mi d b Q X pc L (.int x :: st) σ := by
  intro p e R s m args below meth c H locs cells slots ls C hP hL hl
  have hc := C
  obtain ⟨hx, hb, hr, hlk, hml, hown, hts, hg, hW, ⟨h10, h10'⟩, h11, hnm, h13⟩ := C
  exact va_mabs hx hb (hml.trans hl.1.symm) hown (hts _ hq) (hts _ h2) (hts _ h3) (hts _ h4) (Nat.le_trans hdp h10) (by omega) (by omega) (by omega) hd (kk p e R s m args below meth c H locs cells slots ls hc hP hL hl)
theorem A_goes {p : Program} {e : Env} {R : Room} {s : State} {m : MethodId} {args : Array Value} {below : List Frame} {meth : Method} {c : Code} {H : Heap} {locs : List Loc} {cells slots : Nat} {ls : Array Slot} {st0 : List Value} {a9 : Array Value} {k' b' : Nat} {Q' : Option Value → AH → Prop} {X' : String → Nat → AH → Prop}
    (hrun : vx_Run p l e R s m args below meth c H locs cells slots k' (4 * k') (F0 m pc ls st0) st (A_q g Q' a9) (A_x g X') (fun q => g.1.heap.size ≤ q)) (hk : k' + b' ≤ b) (C : A_ctx l g mi d b p R s m args meth c cells slots) (hL : ∀ q ∈ locs, g.1.heap.size ≤ q.base) (hl : lv_has ls mi.2.2.1 L)
    (kk : ∀ v τ, Q' v τ → AW l g mi d b' Q X (pc + 3) L (v.toList ++ st) τ) (kx : ∀ E q τ, X' E q τ → AX l g mi d b' Q X pc L E q τ) :
    W p l e R s m args below meth c H locs cells slots (vx_MQ below (A_q g Q) (A_x g X) args s R.cells R.slots (fun q => g.1.heap.size ≤ q)) (F0 m pc ls st0) := by
  intro T hT Xs
  obtain ⟨c1, c2, c3, c4, c5, c6, c7, c8, c9, c10, ⟨c11, c12⟩, c13⟩ := C
  have hC' : A_ctx l g mi d b' p R s m args meth c (cells + k') (slots + 4 * k') := ⟨c1, c2, c3, c4, c5, c6, c7, c8, c9, c10, ⟨by omega, by omega⟩, c13⟩
  rcases hrun T hT Xs with ⟨v, st₀, t, T', L', h0, X', hL', e1, e2, ⟨v', τ, hv, hq, hp⟩, stp⟩ | ⟨q, st₀, t, T', L', E, ce, h0, X', hL', e1, e2, ⟨τ, hq, hp⟩, hce, hcv, hcl, stp⟩
  · cases hv
    have hLL : ∀ q ∈ locs ++ L', g.1.heap.size ≤ q.base := fun q hq9 => (List.mem_append.mp hq9).elim (hL q) (hL' q)
    obtain ⟨t2, a1, b1⟩ := kk _ τ hq p e R s m args below meth c T'.heap (locs ++ L') _ _ ls hC' (by rw [e1]; exact hp) hLL hl T' rfl X'
    exact ⟨t2, stp t2 a1, b1⟩
  · have hLL : ∀ q ∈ locs ++ L', g.1.heap.size ≤ q.base := fun q hq9 => (List.mem_append.mp hq9).elim (hL q) (hL' q)
    obtain ⟨t2, a1, b1⟩ := kx E q τ hq p e R s m args below meth c T'.heap (locs ++ L') _ _ ls ce st hC' (by rw [e1]; exact hp) hLL hl (by rw [e1]; exact hce) hcv hcl T' rfl X'
    exact ⟨t2, stp.trans a1, b1⟩
theorem A_goes5 {p : Program} {e : Env} {R : Room} {s : State} {m : MethodId} {args : Array Value} {below : List Frame} {meth : Method} {c : Code} {H : Heap} {locs : List Loc} {cells slots : Nat} {ls : Array Slot} {st0 : List Value} {a9 : Array Value} {k' b' : Nat} {Q' : Option Value → AH → Prop} {X' : String → Nat → AH → Prop}
    (hrun : vx_Run5 p l e R s m args below meth c H locs cells slots k' (4 * k') (F0 m pc ls st0) st (A_q g Q' a9) (A_x g X') (fun q => g.1.heap.size ≤ q)) (hk : k' + b' ≤ b) (C : A_ctx l g mi d b p R s m args meth c cells slots) (hL : ∀ q ∈ locs, g.1.heap.size ≤ q.base) (hl : lv_has ls mi.2.2.1 L)
    (kk : ∀ v τ, Q' v τ → AW l g mi d b' Q X (pc + 5) L (v.toList ++ st) τ) (kx : ∀ E q τ, X' E q τ → AX l g mi d b' Q X pc L E q τ) :
    W p l e R s m args below meth c H locs cells slots (vx_MQ below (A_q g Q) (A_x g X) args s R.cells R.slots (fun q => g.1.heap.size ≤ q)) (F0 m pc ls st0) := by
  intro T hT Xs
  obtain ⟨c1, c2, c3, c4, c5, c6, c7, c8, c9, c10, ⟨c11, c12⟩, c13⟩ := C
  have hC' : A_ctx l g mi d b' p R s m args meth c (cells + k') (slots + 4 * k') := ⟨c1, c2, c3, c4, c5, c6, c7, c8, c9, c10, ⟨by omega, by omega⟩, c13⟩
  rcases hrun T hT Xs with ⟨v, st₀, t, T', L', h0, X', hL', e1, e2, ⟨v', τ, hv, hq, hp⟩, stp⟩ | ⟨q, st₀, t, T', L', E, ce, h0, X', hL', e1, e2, ⟨τ, hq, hp⟩, hce, hcv, hcl, stp⟩
  · cases hv
    have hLL : ∀ q ∈ locs ++ L', g.1.heap.size ≤ q.base := fun q hq9 => (List.mem_append.mp hq9).elim (hL q) (hL' q)
    obtain ⟨t2, a1, b1⟩ := kk _ τ hq p e R s m args below meth c T'.heap (locs ++ L') _ _ ls hC' (by rw [e1]; exact hp) hLL hl T' rfl X'
    exact ⟨t2, stp t2 a1, b1⟩
  · have hLL : ∀ q ∈ locs ++ L', g.1.heap.size ≤ q.base := fun q hq9 => (List.mem_append.mp hq9).elim (hL q) (hL' q)
    obtain ⟨t2, a1, b1⟩ := kx E q τ hq p e R s m args below meth c T'.heap (locs ++ L') _ _ ls ce st hC' (by rw [e1]; exact hp) hLL hl (by rw [e1]; exact hce) hcv hcl T' rfl X'
    exact ⟨t2, stp.trans a1, b1⟩
def A_len (y : MethodName) (n : Nat) : Prop := y.cls ≠ "java/lang/invoke/MethodHandle" ∧ y.cls ≠ "java/lang/invoke/VarHandle" ∧ (parseMethodDescriptor y.desc).map (fun d => d.parameters.length) = some n
/-- what the tables say of an instance method, called on an object of its class -/
def A_MV (mi : MI) (n : Nat) : Prop := Cond.instanceMethod mi.1 ∈ lw_all ∧ Cond.selects mi.1.cls mi.1 mi.1 ∈ lw_all ∧ Cond.initialized mi.1.cls ∈ lw_all ∧ Cond.code mi.1 mi.2.1 mi.2.2.1 mi.2.2.2.1 ∈ lw_all ∧ mi.2.2.2.2 = [] ∧ A_len mi.1 n ∧ mi.2.2.1 ≤ 21
/-- of a static method -/
def A_MS (mi : MI) (n : Nat) : Prop := Cond.static mi.1 ∈ lw_all ∧ Cond.initialized mi.1.cls ∈ lw_all ∧ Cond.code mi.1 mi.2.1 mi.2.2.1 mi.2.2.2.1 ∈ lw_all ∧ mi.2.2.2.2 = [] ∧ A_len mi.1 n ∧ mi.2.2.1 ≤ 21
/-- of a constructor -/
def A_MI (mi : MI) (n : Nat) : Prop := Cond.instanceMethod mi.1 ∈ lw_all ∧ Cond.initialized mi.1.cls ∈ lw_all ∧ Cond.code mi.1 mi.2.1 mi.2.2.1 none ∈ lw_all ∧ mi.2.2.2.2 = [] ∧ mi.2.2.2.1 = none ∧ mi.1.name = "<init>" ∧ A_len mi.1 n ∧ mi.2.2.1 ≤ 21
theorem A_blind {As : List Value} : FrameBlind (fun v U => v = As.toArray ∧ g_H l g σ U) := fun a U g' mk q => q
theorem A_recv {s : State} {H : Heap} {a : Nat} {fs : List Value} {r : vw_C} (hg : g_ok l g) (hW : g.1.WarmedH s.vm) (hP : g_P g σ H) (hO : σ.1 a = some (.inr (.inl (ci, fs)))) (hc : vwCl[ci]? = some r) : ∃ cell : Cell, H[a]? = some cell ∧ cell.vm.isStatics = false ∧ s.vm.findClass r.1 = some cell.cls :=
  va_recv (D := g.2.2) (A_K hg hW) (A_one (hP.2.2.1 a _ hO).2.2) hc (q0 := 0) rfl
theorem A_callV {mi' : MI} {d' k' b' n : Nat} {As : List Value} {Q' : Option Value → AH → Prop} {X' : String → Nat → AH → Prop} {bR : Nat} {fs : List Value} {r9 : vw_C} (hM : AMet l g mi' d' k' (.ref bR :: As) σ Q' X') (hm : A_MV mi' n) {ix : Nat} (hq : Cond.methodLink mi.1.cls ix mi'.1 ∈ lw_all) (hO : σ.1 bR = some (.inr (.inl (ci, fs)))) (hcl : vwCl[ci]? = some r9) (hC : r9.1 = mi'.1.cls)
    (hd : decode mi.2.1 pc = .ok (.invokevirtual ix, 3)) (hn : As.length = n) (hdp : d' + 1 ≤ d) (hk : k' + b' ≤ b) (hw : (st.map fun v => v.category).sum ≤ 8)
    (kk : ∀ v τ, Q' v τ → AW l g mi d b' Q X (pc + 3) L (v.toList ++ st) τ) (kx : ∀ E q τ, X' E q τ → AX l g mi d b' Q X pc L E q τ) : AW l g mi d b Q X pc L (As.reverse ++ .ref bR :: st) σ := by
  intro p e R s m args below meth c H locs cells slots ls C hP hL hl
  obtain ⟨y, cc, nL, ret, hs⟩ := mi'
  obtain ⟨m1, m2, m3, m4, m5, m6, m7⟩ := hm
  have m5 : hs = [] := m5
  subst m5
  have hC : r9.1 = y.cls := hC
  have hc9 := C
  obtain ⟨hx, hb, hr, hlk, hml, hown, hts, hg, hW, ⟨h10, h10'⟩, ⟨h11, h11'⟩, hnm, h13⟩ := C
  have m7 : nL ≤ 21 := m7
  exact A_goes (vx_runV (rest := st) (g := F0 m pc ls (As.reverse ++ .ref bR :: st)) (C := r9.1) ⟨hx, hb, hml, hown, hts⟩ hM (cwV n hts (lw_V hq m1 (by rw [hC]; exact m2) (by rw [hC]; exact m3) m4) rfl rfl rfl ⟨hC.symm, m6⟩ ⟨by show d' + 1 ≤ R.frames; omega, by show 8 + (nL + 11) + (3200 + 40 * d') ≤ R.locals; omega⟩) ⟨A_blind, A_recv hg hW hP hO hcl, fun U hU hWU => ⟨rfl, hg, State.WarmedH.trans hW hWU, by rw [hU]; exact hP⟩⟩ rfl hn hl.1 rfl (lv_room hw) hd ⟨by omega, by omega⟩) hk hc9 hL hl kk kx
theorem A_callVN {mi' : MI} {d' k' b' n : Nat} {As : List Value} {Q' : Option Value → AH → Prop} {X' : String → Nat → AH → Prop} {bR : Nat} {fs : List Value} {r9 : vw_C} (hM : AMet l g mi' d' k' (.ref bR :: As) σ Q' X') (hm : A_MV mi' n) {ix : Nat} {host : String} (hq : Cond.methodLinkNest mi.1.cls ix mi'.1 host ∈ lw_tbl) (hO : σ.1 bR = some (.inr (.inl (ci, fs)))) (hcl : vwCl[ci]? = some r9) (hC : r9.1 = mi'.1.cls)
    (hd : decode mi.2.1 pc = .ok (.invokevirtual ix, 3)) (hn : As.length = n) (hdp : d' + 1 ≤ d) (hk : k' + b' ≤ b) (hw : (st.map fun v => v.category).sum ≤ 8)
    (kk : ∀ v τ, Q' v τ → AW l g mi d b' Q X (pc + 3) L (v.toList ++ st) τ) (kx : ∀ E q τ, X' E q τ → AX l g mi d b' Q X pc L E q τ) : AW l g mi d b Q X pc L (As.reverse ++ .ref bR :: st) σ := by
  intro p e R s m args below meth c H locs cells slots ls C hP hL hl
  obtain ⟨y, cc, nL, ret, hs⟩ := mi'
  obtain ⟨m1, m2, m3, m4, m5, m6, m7⟩ := hm
  have m5 : hs = [] := m5
  subst m5
  have hC : r9.1 = y.cls := hC
  have hc9 := C
  obtain ⟨hx, hb, hr, hlk, hml, hown, hts, hg, hW, ⟨h10, h10'⟩, ⟨h11, h11'⟩, hnm, h13⟩ := C
  have m7 : nL ≤ 21 := m7
  exact A_goes (vx_runVN (rest := st) (g := F0 m pc ls (As.reverse ++ .ref bR :: st)) (C := r9.1) ⟨hx, hb, hml, hown, hts⟩ hM (⟨va_cnB n hts (lw_meth m4) rfl rfl rfl (A_nestM hg hW hq) (hts _ m3) m6 ⟨by show d' + 1 ≤ R.frames; omega, by show 8 + (nL + 11) + (3200 + 40 * d') ≤ R.locals; omega⟩, hts _ m1, by rw [hC]; exact hts _ m2⟩) ⟨A_blind, A_recv hg hW hP hO hcl, fun U hU hWU => ⟨rfl, hg, State.WarmedH.trans hW hWU, by rw [hU]; exact hP⟩⟩ rfl hn hl.1 rfl (lv_room hw) hd ⟨by omega, by omega⟩) hk hc9 hL hl kk kx
theorem A_callS {mi' : MI} {d' k' b' n : Nat} {As : List Value} {Q' : Option Value → AH → Prop} {X' : String → Nat → AH → Prop} (hM : AMet l g mi' d' k' As σ Q' X') (hm : A_MS mi' n) {ix : Nat} (hq : Cond.methodLink mi.1.cls ix mi'.1 ∈ lw_all)
    (hd : decode mi.2.1 pc = .ok (.invokestatic ix, 3)) (hn : As.length = n) (hdp : d' + 1 ≤ d) (hk : k' + b' ≤ b) (hw : (st.map fun v => v.category).sum ≤ 8)
    (kk : ∀ v τ, Q' v τ → AW l g mi d b' Q X (pc + 3) L (v.toList ++ st) τ) (kx : ∀ E q τ, X' E q τ → AX l g mi d b' Q X pc L E q τ) : AW l g mi d b Q X pc L (As.reverse ++ st) σ := by
  intro p e R s m args below meth c H locs cells slots ls C hP hL hl
  obtain ⟨y, cc, nL, ret, hs⟩ := mi'
  obtain ⟨m2, m3, m4, m5, m6, m7⟩ := hm
  have m5 : hs = [] := m5
  subst m5
  have hc9 := C
  obtain ⟨hx, hb, hr, hlk, hml, hown, hts, hg, hW, ⟨h10, h10'⟩, ⟨h11, h11'⟩, hnm, h13⟩ := C
  have m7 : nL ≤ 21 := m7
  exact A_goes (vx_runS (rest := st) (g := F0 m pc ls (As.reverse ++ st)) ⟨hx, hb, hml, hown, hts⟩ hM (va_cwS n hts (lw_S hq m2 m3 m4) rfl rfl rfl m6 ⟨by show d' + 1 ≤ R.frames; omega, by show 8 + (nL + 11) + (3200 + 40 * d') ≤ R.locals; omega⟩) ⟨A_blind, fun U hU hWU => ⟨rfl, hg, State.WarmedH.trans hW hWU, by rw [hU]; exact hP⟩⟩ rfl hn hl.1 rfl (lv_room hw) hd ⟨by omega, by omega⟩) hk hc9 hL hl kk kx
theorem A_callSN {mi' : MI} {d' k' b' n : Nat} {As : List Value} {Q' : Option Value → AH → Prop} {X' : String → Nat → AH → Prop} (hM : AMet l g mi' d' k' As σ Q' X') (hm : A_MS mi' n) {ix : Nat} {host : String} (hq : Cond.methodLinkNest mi.1.cls ix mi'.1 host ∈ lw_tbl)
    (hd : decode mi.2.1 pc = .ok (.invokestatic ix, 3)) (hn : As.length = n) (hdp : d' + 1 ≤ d) (hk : k' + b' ≤ b) (hw : (st.map fun v => v.category).sum ≤ 8)
    (kk : ∀ v τ, Q' v τ → AW l g mi d b' Q X (pc + 3) L (v.toList ++ st) τ) (kx : ∀ E q τ, X' E q τ → AX l g mi d b' Q X pc L E q τ) : AW l g mi d b Q X pc L (As.reverse ++ st) σ := by
  intro p e R s m args below meth c H locs cells slots ls C hP hL hl
  obtain ⟨y, cc, nL, ret, hs⟩ := mi'
  obtain ⟨m2, m3, m4, m5, m6, m7⟩ := hm
  have m5 : hs = [] := m5
  subst m5
  have hc9 := C
  obtain ⟨hx, hb, hr, hlk, hml, hown, hts, hg, hW, ⟨h10, h10'⟩, ⟨h11, h11'⟩, hnm, h13⟩ := C
  have m7 : nL ≤ 21 := m7
  exact A_goes (vx_runSN (rest := st) (g := F0 m pc ls (As.reverse ++ st)) ⟨hx, hb, hml, hown, hts⟩ hM (⟨va_cnB n hts (lw_meth m4) rfl rfl rfl (A_nestM hg hW hq) (hts _ m3) m6 ⟨by show d' + 1 ≤ R.frames; omega, by show 8 + (nL + 11) + (3200 + 40 * d') ≤ R.locals; omega⟩, hts _ m2, trivial⟩) ⟨A_blind, fun U hU hWU => ⟨rfl, hg, State.WarmedH.trans hW hWU, by rw [hU]; exact hP⟩⟩ rfl hn hl.1 rfl (lv_room hw) hd ⟨by omega, by omega⟩) hk hc9 hL hl kk kx
theorem A_callI {mi' : MI} {d' k' b' n : Nat} {As : List Value} {Q' : Option Value → AH → Prop} {X' : String → Nat → AH → Prop} {bR : Nat} (hM : AMet l g mi' d' k' (.ref bR :: As) σ Q' X') (hm : A_MI mi' n) {ix : Nat} (hq : Cond.methodLink mi.1.cls ix mi'.1 ∈ lw_all)
    (hd : decode mi.2.1 pc = .ok (.invokespecial ix, 3)) (hn : As.length = n) (hdp : d' + 1 ≤ d) (hk : k' + b' ≤ b) (hw : (st.map fun v => v.category).sum ≤ 8)
    (kk : ∀ v τ, Q' v τ → AW l g mi d b' Q X (pc + 3) L (v.toList ++ st) τ) (kx : ∀ E q τ, X' E q τ → AX l g mi d b' Q X pc L E q τ) : AW l g mi d b Q X pc L (As.reverse ++ .ref bR :: st) σ := by
  intro p e R s m args below meth c H locs cells slots ls C hP hL hl
  obtain ⟨y, cc, nL, ret, hs⟩ := mi'
  obtain ⟨m1, m3, m4, m5, m8, m9, m6, m7⟩ := hm
  have m5 : hs = [] := m5
  subst m5
  have m8 : ret = none := m8
  subst m8
  have hc9 := C
  obtain ⟨hx, hb, hr, hlk, hml, hown, hts, hg, hW, ⟨h10, h10'⟩, ⟨h11, h11'⟩, hnm, h13⟩ := C
  have m7 : nL ≤ 21 := m7
  exact A_goes (vx_runI (rest := st) (g := F0 m pc ls (As.reverse ++ .ref bR :: st)) ⟨hx, hb, hml, hown, hts⟩ hM (cwI n hts (lw_meth m4) rfl rfl rfl (hts _ m3) (hts _ hq) (hts _ m1) m9 m6 ⟨by show d' + 1 ≤ R.frames; omega, by show 8 + (nL + 11) + (3200 + 40 * d') ≤ R.locals; omega⟩) ⟨A_blind, fun U hU hWU => ⟨rfl, hg, State.WarmedH.trans hW hWU, by rw [hU]; exact hP⟩⟩ rfl hn hl.1 rfl (lv_room hw) hd ⟨by omega, by omega⟩) hk hc9 hL hl kk kx
theorem A_callIN {mi' : MI} {d' k' b' n : Nat} {As : List Value} {Q' : Option Value → AH → Prop} {X' : String → Nat → AH → Prop} {bR : Nat} (hM : AMet l g mi' d' k' (.ref bR :: As) σ Q' X') (hm : A_MI mi' n) {ix : Nat} {host : String} (hq : Cond.methodLinkNest mi.1.cls ix mi'.1 host ∈ lw_tbl)
    (hd : decode mi.2.1 pc = .ok (.invokespecial ix, 3)) (hn : As.length = n) (hdp : d' + 1 ≤ d) (hk : k' + b' ≤ b) (hw : (st.map fun v => v.category).sum ≤ 8)
    (kk : ∀ v τ, Q' v τ → AW l g mi d b' Q X (pc + 3) L (v.toList ++ st) τ) (kx : ∀ E q τ, X' E q τ → AX l g mi d b' Q X pc L E q τ) : AW l g mi d b Q X pc L (As.reverse ++ .ref bR :: st) σ := by
  intro p e R s m args below meth c H locs cells slots ls C hP hL hl
  obtain ⟨y, cc, nL, ret, hs⟩ := mi'
  obtain ⟨m1, m3, m4, m5, m8, m9, m6, m7⟩ := hm
  have m5 : hs = [] := m5
  subst m5
  have m8 : ret = none := m8
  subst m8
  have hc9 := C
  obtain ⟨hx, hb, hr, hlk, hml, hown, hts, hg, hW, ⟨h10, h10'⟩, ⟨h11, h11'⟩, hnm, h13⟩ := C
  have m7 : nL ≤ 21 := m7
  exact A_goes (vx_runIN (rest := st) (g := F0 m pc ls (As.reverse ++ .ref bR :: st)) ⟨hx, hb, hml, hown, hts⟩ hM (⟨va_cnB n hts (lw_meth m4) rfl rfl rfl (A_nestM hg hW hq) (hts _ m3) m6 ⟨by show d' + 1 ≤ R.frames; omega, by show 8 + (nL + 11) + (3200 + 40 * d') ≤ R.locals; omega⟩, m9, hts _ m1⟩) ⟨A_blind, fun U hU hWU => ⟨rfl, hg, State.WarmedH.trans hW hWU, by rw [hU]; exact hP⟩⟩ rfl hn hl.1 rfl (lv_room hw) hd ⟨by omega, by omega⟩) hk hc9 hL hl kk kx
def A_MSH (mi : MI) (n : Nat) : Prop := Cond.static mi.1 ∈ lw_all ∧ Cond.initialized mi.1.cls ∈ lw_all ∧ Cond.codeWith mi.1 mi.2.1 mi.2.2.1 mi.2.2.2.1 mi.2.2.2.2 ∈ lw_all ∧ A_len mi.1 n ∧ mi.2.2.1 ≤ 21
def A_MVH (mi : MI) (n : Nat) : Prop := Cond.instanceMethod mi.1 ∈ lw_all ∧ Cond.selects mi.1.cls mi.1 mi.1 ∈ lw_all ∧ Cond.initialized mi.1.cls ∈ lw_all ∧ Cond.codeWith mi.1 mi.2.1 mi.2.2.1 mi.2.2.2.1 mi.2.2.2.2 ∈ lw_all ∧ A_len mi.1 n ∧ mi.2.2.1 ≤ 21
theorem A_callV0 {mi' : MI} {d' k' b' : Nat} {bR : Nat} {fs : List Value} {r9 : vw_C}  {Q' : Option Value → AH → Prop} {X' : String → Nat → AH → Prop} (hM : AMet l g mi' d' k' (.ref bR :: []) σ Q' X') (hm : A_MV mi' 0) {ix : Nat} (hq : Cond.methodLink mi.1.cls ix mi'.1 ∈ lw_all) (hO : σ.1 bR = some (.inr (.inl (ci, fs)))) (hcl : vwCl[ci]? = some r9) (hC : r9.1 = mi'.1.cls) (hd : decode mi.2.1 pc = .ok (.invokevirtual ix, 3)) (hdp : d' + 1 ≤ d) (hk : k' + b' ≤ b) (hw : (st.map fun v => v.category).sum ≤ 8) (kk : ∀ v τ, Q' v τ → AW l g mi d b' Q X (pc + 3) L (v.toList ++ st) τ) (kx : ∀ E q τ, X' E q τ → AX l g mi d b' Q X pc L E q τ) : AW l g mi d b Q X pc L (.ref bR :: st) σ :=
  A_callV (As := []) hM hm hq hO hcl hC hd rfl hdp hk hw kk kx
theorem A_callV0E {mi' : MI} {d' k' b' : Nat} {bR : Nat} {fs : List Value} {r9 : vw_C}  {v : Option Value} {τ : AH} (hM : AMet l g mi' d' k' (.ref bR :: []) σ (A_eq v τ) A_no) (hm : A_MV mi' 0) {ix : Nat} (hq : Cond.methodLink mi.1.cls ix mi'.1 ∈ lw_all) (hO : σ.1 bR = some (.inr (.inl (ci, fs)))) (hcl : vwCl[ci]? = some r9) (hC : r9.1 = mi'.1.cls) (hd : decode mi.2.1 pc = .ok (.invokevirtual ix, 3)) (hdp : d' + 1 ≤ d) (hk : k' + b' ≤ b) (hw : (st.map fun v => v.category).sum ≤ 8) (kk : AW l g mi d b' Q X (pc + 3) L (v.toList ++ st) τ) : AW l g mi d b Q X pc L (.ref bR :: st) σ :=
  A_callV (As := []) hM hm hq hO hcl hC hd rfl hdp hk hw (fun w τ' h => by obtain ⟨e1, e2⟩ := h; subst e1; subst e2; exact kk) (fun E q τ' h => h.elim)
theorem A_callV1 {mi' : MI} {d' k' b' : Nat} {bR : Nat} {fs : List Value} {r9 : vw_C} {a1 : Value} {Q' : Option Value → AH → Prop} {X' : String → Nat → AH → Prop} (hM : AMet l g mi' d' k' (.ref bR :: [a1]) σ Q' X') (hm : A_MV mi' 1) {ix : Nat} (hq : Cond.methodLink mi.1.cls ix mi'.1 ∈ lw_all) (hO : σ.1 bR = some (.inr (.inl (ci, fs)))) (hcl : vwCl[ci]? = some r9) (hC : r9.1 = mi'.1.cls) (hd : decode mi.2.1 pc = .ok (.invokevirtual ix, 3)) (hdp : d' + 1 ≤ d) (hk : k' + b' ≤ b) (hw : (st.map fun v => v.category).sum ≤ 8) (kk : ∀ v τ, Q' v τ → AW l g mi d b' Q X (pc + 3) L (v.toList ++ st) τ) (kx : ∀ E q τ, X' E q τ → AX l g mi d b' Q X pc L E q τ) : AW l g mi d b Q X pc L (a1 :: .ref bR :: st) σ :=
  A_callV (As := [a1]) hM hm hq hO hcl hC hd rfl hdp hk hw kk kx
theorem A_callV1E {mi' : MI} {d' k' b' : Nat} {bR : Nat} {fs : List Value} {r9 : vw_C} {a1 : Value} {v : Option Value} {τ : AH} (hM : AMet l g mi' d' k' (.ref bR :: [a1]) σ (A_eq v τ) A_no) (hm : A_MV mi' 1) {ix : Nat} (hq : Cond.methodLink mi.1.cls ix mi'.1 ∈ lw_all) (hO : σ.1 bR = some (.inr (.inl (ci, fs)))) (hcl : vwCl[ci]? = some r9) (hC : r9.1 = mi'.1.cls) (hd : decode mi.2.1 pc = .ok (.invokevirtual ix, 3)) (hdp : d' + 1 ≤ d) (hk : k' + b' ≤ b) (hw : (st.map fun v => v.category).sum ≤ 8) (kk : AW l g mi d b' Q X (pc + 3) L (v.toList ++ st) τ) : AW l g mi d b Q X pc L (a1 :: .ref bR :: st) σ :=
  A_callV (As := [a1]) hM hm hq hO hcl hC hd rfl hdp hk hw (fun w τ' h => by obtain ⟨e1, e2⟩ := h; subst e1; subst e2; exact kk) (fun E q τ' h => h.elim)
theorem A_callV2 {mi' : MI} {d' k' b' : Nat} {bR : Nat} {fs : List Value} {r9 : vw_C} {a1 a2 : Value} {Q' : Option Value → AH → Prop} {X' : String → Nat → AH → Prop} (hM : AMet l g mi' d' k' (.ref bR :: [a1, a2]) σ Q' X') (hm : A_MV mi' 2) {ix : Nat} (hq : Cond.methodLink mi.1.cls ix mi'.1 ∈ lw_all) (hO : σ.1 bR = some (.inr (.inl (ci, fs)))) (hcl : vwCl[ci]? = some r9) (hC : r9.1 = mi'.1.cls) (hd : decode mi.2.1 pc = .ok (.invokevirtual ix, 3)) (hdp : d' + 1 ≤ d) (hk : k' + b' ≤ b) (hw : (st.map fun v => v.category).sum ≤ 8) (kk : ∀ v τ, Q' v τ → AW l g mi d b' Q X (pc + 3) L (v.toList ++ st) τ) (kx : ∀ E q τ, X' E q τ → AX l g mi d b' Q X pc L E q τ) : AW l g mi d b Q X pc L (a2 :: a1 :: .ref bR :: st) σ :=
  A_callV (As := [a1, a2]) hM hm hq hO hcl hC hd rfl hdp hk hw kk kx
theorem A_callV2E {mi' : MI} {d' k' b' : Nat} {bR : Nat} {fs : List Value} {r9 : vw_C} {a1 a2 : Value} {v : Option Value} {τ : AH} (hM : AMet l g mi' d' k' (.ref bR :: [a1, a2]) σ (A_eq v τ) A_no) (hm : A_MV mi' 2) {ix : Nat} (hq : Cond.methodLink mi.1.cls ix mi'.1 ∈ lw_all) (hO : σ.1 bR = some (.inr (.inl (ci, fs)))) (hcl : vwCl[ci]? = some r9) (hC : r9.1 = mi'.1.cls) (hd : decode mi.2.1 pc = .ok (.invokevirtual ix, 3)) (hdp : d' + 1 ≤ d) (hk : k' + b' ≤ b) (hw : (st.map fun v => v.category).sum ≤ 8) (kk : AW l g mi d b' Q X (pc + 3) L (v.toList ++ st) τ) : AW l g mi d b Q X pc L (a2 :: a1 :: .ref bR :: st) σ :=
  A_callV (As := [a1, a2]) hM hm hq hO hcl hC hd rfl hdp hk hw (fun w τ' h => by obtain ⟨e1, e2⟩ := h; subst e1; subst e2; exact kk) (fun E q τ' h => h.elim)
theorem A_callV3 {mi' : MI} {d' k' b' : Nat} {bR : Nat} {fs : List Value} {r9 : vw_C} {a1 a2 a3 : Value} {Q' : Option Value → AH → Prop} {X' : String → Nat → AH → Prop} (hM : AMet l g mi' d' k' (.ref bR :: [a1, a2, a3]) σ Q' X') (hm : A_MV mi' 3) {ix : Nat} (hq : Cond.methodLink mi.1.cls ix mi'.1 ∈ lw_all) (hO : σ.1 bR = some (.inr (.inl (ci, fs)))) (hcl : vwCl[ci]? = some r9) (hC : r9.1 = mi'.1.cls) (hd : decode mi.2.1 pc = .ok (.invokevirtual ix, 3)) (hdp : d' + 1 ≤ d) (hk : k' + b' ≤ b) (hw : (st.map fun v => v.category).sum ≤ 8) (kk : ∀ v τ, Q' v τ → AW l g mi d b' Q X (pc + 3) L (v.toList ++ st) τ) (kx : ∀ E q τ, X' E q τ → AX l g mi d b' Q X pc L E q τ) : AW l g mi d b Q X pc L (a3 :: a2 :: a1 :: .ref bR :: st) σ :=
  A_callV (As := [a1, a2, a3]) hM hm hq hO hcl hC hd rfl hdp hk hw kk kx
theorem A_callV3E {mi' : MI} {d' k' b' : Nat} {bR : Nat} {fs : List Value} {r9 : vw_C} {a1 a2 a3 : Value} {v : Option Value} {τ : AH} (hM : AMet l g mi' d' k' (.ref bR :: [a1, a2, a3]) σ (A_eq v τ) A_no) (hm : A_MV mi' 3) {ix : Nat} (hq : Cond.methodLink mi.1.cls ix mi'.1 ∈ lw_all) (hO : σ.1 bR = some (.inr (.inl (ci, fs)))) (hcl : vwCl[ci]? = some r9) (hC : r9.1 = mi'.1.cls) (hd : decode mi.2.1 pc = .ok (.invokevirtual ix, 3)) (hdp : d' + 1 ≤ d) (hk : k' + b' ≤ b) (hw : (st.map fun v => v.category).sum ≤ 8) (kk : AW l g mi d b' Q X (pc + 3) L (v.toList ++ st) τ) : AW l g mi d b Q X pc L (a3 :: a2 :: a1 :: .ref bR :: st) σ :=
  A_callV (As := [a1, a2, a3]) hM hm hq hO hcl hC hd rfl hdp hk hw (fun w τ' h => by obtain ⟨e1, e2⟩ := h; subst e1; subst e2; exact kk) (fun E q τ' h => h.elim)
theorem A_callV4 {mi' : MI} {d' k' b' : Nat} {bR : Nat} {fs : List Value} {r9 : vw_C} {a1 a2 a3 a4 : Value} {Q' : Option Value → AH → Prop} {X' : String → Nat → AH → Prop} (hM : AMet l g mi' d' k' (.ref bR :: [a1, a2, a3, a4]) σ Q' X') (hm : A_MV mi' 4) {ix : Nat} (hq : Cond.methodLink mi.1.cls ix mi'.1 ∈ lw_all) (hO : σ.1 bR = some (.inr (.inl (ci, fs)))) (hcl : vwCl[ci]? = some r9) (hC : r9.1 = mi'.1.cls) (hd : decode mi.2.1 pc = .ok (.invokevirtual ix, 3)) (hdp : d' + 1 ≤ d) (hk : k' + b' ≤ b) (hw : (st.map fun v => v.category).sum ≤ 8) (kk : ∀ v τ, Q' v τ → AW l g mi d b' Q X (pc + 3) L (v.toList ++ st) τ) (kx : ∀ E q τ, X' E q τ → AX l g mi d b' Q X pc L E q τ) : AW l g mi d b Q X pc L (a4 :: a3 :: a2 :: a1 :: .ref bR :: st) σ :=
  A_callV (As := [a1, a2, a3, a4]) hM hm hq hO hcl hC hd rfl hdp hk hw kk kx
theorem A_callV4E {mi' : MI} {d' k' b' : Nat} {bR : Nat} {fs : List Value} {r9 : vw_C} {a1 a2 a3 a4 : Value} {v : Option Value} {τ : AH} (hM : AMet l g mi' d' k' (.ref bR :: [a1, a2, a3, a4]) σ (A_eq v τ) A_no) (hm : A_MV mi' 4) {ix : Nat} (hq : Cond.methodLink mi.1.cls ix mi'.1 ∈ lw_all) (hO : σ.1 bR = some (.inr (.inl (ci, fs)))) (hcl : vwCl[ci]? = some r9) (hC : r9.1 = mi'.1.cls) (hd : decode mi.2.1 pc = .ok (.invokevirtual ix, 3)) (hdp : d' + 1 ≤ d) (hk : k' + b' ≤ b) (hw : (st.map fun v => v.category).sum ≤ 8) (kk : AW l g mi d b' Q X (pc + 3) L (v.toList ++ st) τ) : AW l g mi d b Q X pc L (a4 :: a3 :: a2 :: a1 :: .ref bR :: st) σ :=
  A_callV (As := [a1, a2, a3, a4]) hM hm hq hO hcl hC hd rfl hdp hk hw (fun w τ' h => by obtain ⟨e1, e2⟩ := h; subst e1; subst e2; exact kk) (fun E q τ' h => h.elim)
theorem A_callV5 {mi' : MI} {d' k' b' : Nat} {bR : Nat} {fs : List Value} {r9 : vw_C} {a1 a2 a3 a4 a5 : Value} {Q' : Option Value → AH → Prop} {X' : String → Nat → AH → Prop} (hM : AMet l g mi' d' k' (.ref bR :: [a1, a2, a3, a4, a5]) σ Q' X') (hm : A_MV mi' 5) {ix : Nat} (hq : Cond.methodLink mi.1.cls ix mi'.1 ∈ lw_all) (hO : σ.1 bR = some (.inr (.inl (ci, fs)))) (hcl : vwCl[ci]? = some r9) (hC : r9.1 = mi'.1.cls) (hd : decode mi.2.1 pc = .ok (.invokevirtual ix, 3)) (hdp : d' + 1 ≤ d) (hk : k' + b' ≤ b) (hw : (st.map fun v => v.category).sum ≤ 8) (kk : ∀ v τ, Q' v τ → AW l g mi d b' Q X (pc + 3) L (v.toList ++ st) τ) (kx : ∀ E q τ, X' E q τ → AX l g mi d b' Q X pc L E q τ) : AW l g mi d b Q X pc L (a5 :: a4 :: a3 :: a2 :: a1 :: .ref bR :: st) σ :=
  A_callV (As := [a1, a2, a3, a4, a5]) hM hm hq hO hcl hC hd rfl hdp hk hw kk kx
theorem A_callV5E {mi' : MI} {d' k' b' : Nat} {bR : Nat} {fs : List Value} {r9 : vw_C} {a1 a2 a3 a4 a5 : Value} {v : Option Value} {τ : AH} (hM : AMet l g mi' d' k' (.ref bR :: [a1, a2, a3, a4, a5]) σ (A_eq v τ) A_no) (hm : A_MV mi' 5) {ix : Nat} (hq : Cond.methodLink mi.1.cls ix mi'.1 ∈ lw_all) (hO : σ.1 bR = some (.inr (.inl (ci, fs)))) (hcl : vwCl[ci]? = some r9) (hC : r9.1 = mi'.1.cls) (hd : decode mi.2.1 pc = .ok (.invokevirtual ix, 3)) (hdp : d' + 1 ≤ d) (hk : k' + b' ≤ b) (hw : (st.map fun v => v.category).sum ≤ 8) (kk : AW l g mi d b' Q X (pc + 3) L (v.toList ++ st) τ) : AW l g mi d b Q X pc L (a5 :: a4 :: a3 :: a2 :: a1 :: .ref bR :: st) σ :=
  A_callV (As := [a1, a2, a3, a4, a5]) hM hm hq hO hcl hC hd rfl hdp hk hw (fun w τ' h => by obtain ⟨e1, e2⟩ := h; subst e1; subst e2; exact kk) (fun E q τ' h => h.elim)
theorem A_callVN0 {mi' : MI} {d' k' b' : Nat} {bR : Nat} {fs : List Value} {r9 : vw_C}  {Q' : Option Value → AH → Prop} {X' : String → Nat → AH → Prop} (hM : AMet l g mi' d' k' (.ref bR :: []) σ Q' X') (hm : A_MV mi' 0) {ix : Nat} {host : String} (hq : Cond.methodLinkNest mi.1.cls ix mi'.1 host ∈ lw_tbl) (hO : σ.1 bR = some (.inr (.inl (ci, fs)))) (hcl : vwCl[ci]? = some r9) (hC : r9.1 = mi'.1.cls) (hd : decode mi.2.1 pc = .ok (.invokevirtual ix, 3)) (hdp : d' + 1 ≤ d) (hk : k' + b' ≤ b) (hw : (st.map fun v => v.category).sum ≤ 8) (kk : ∀ v τ, Q' v τ → AW l g mi d b' Q X (pc + 3) L (v.toList ++ st) τ) (kx : ∀ E q τ, X' E q τ → AX l g mi d b' Q X pc L E q τ) : AW l g mi d b Q X pc L (.ref bR :: st) σ :=
  A_callVN (As := []) hM hm hq hO hcl hC hd rfl hdp hk hw kk kx
theorem A_callVN0E {mi' : MI} {d' k' b' : Nat} {bR : Nat} {fs : List Value} {r9 : vw_C}  {v : Option Value} {τ : AH} (hM : AMet l g mi' d' k' (.ref bR :: []) σ (A_eq v τ) A_no) (hm : A_MV mi' 0) {ix : Nat} {host : String} (hq : Cond.methodLinkNest mi.1.cls ix mi'.1 host ∈ lw_tbl) (hO : σ.1 bR = some (.inr (.inl (ci, fs)))) (hcl : vwCl[ci]? = some r9) (hC : r9.1 = mi'.1.cls) (hd : decode mi.2.1 pc = .ok (.invokevirtual ix, 3)) (hdp : d' + 1 ≤ d) (hk : k' + b' ≤ b) (hw : (st.map fun v => v.category).sum ≤ 8) (kk : AW l g mi d b' Q X (pc + 3) L (v.toList ++ st) τ) : AW l g mi d b Q X pc L (.ref bR :: st) σ :=
  A_callVN (As := []) hM hm hq hO hcl hC hd rfl hdp hk hw (fun w τ' h => by obtain ⟨e1, e2⟩ := h; subst e1; subst e2; exact kk) (fun E q τ' h => h.elim)
theorem A_callVN1 {mi' : MI} {d' k' b' : Nat} {bR : Nat} {fs : List Value} {r9 : vw_C} {a1 : Value} {Q' : Option Value → AH → Prop} {X' : String → Nat → AH → Prop} (hM : AMet l g mi' d' k' (.ref bR :: [a1]) σ Q' X') (hm : A_MV mi' 1) {ix : Nat} {host : String} (hq : Cond.methodLinkNest mi.1.cls ix mi'.1 host ∈ lw_tbl) (hO : σ.1 bR = some (.inr (.inl (ci, fs)))) (hcl : vwCl[ci]? = some r9) (hC : r9.1 = mi'.1.cls) (hd : decode mi.2.1 pc = .ok (.invokevirtual ix, 3)) (hdp : d' + 1 ≤ d) (hk : k' + b' ≤ b) (hw : (st.map fun v => v.category).sum ≤ 8) (kk : ∀ v τ, Q' v τ → AW l g mi d b' Q X (pc + 3) L (v.toList ++ st) τ) (kx : ∀ E q τ, X' E q τ → AX l g mi d b' Q X pc L E q τ) : AW l g mi d b Q X pc L (a1 :: .ref bR :: st) σ :=
  A_callVN (As := [a1]) hM hm hq hO hcl hC hd rfl hdp hk hw kk kx
theorem A_callVN1E {mi' : MI} {d' k' b' : Nat} {bR : Nat} {fs : List Value} {r9 : vw_C} {a1 : Value} {v : Option Value} {τ : AH} (hM : AMet l g mi' d' k' (.ref bR :: [a1]) σ (A_eq v τ) A_no) (hm : A_MV mi' 1) {ix : Nat} {host : String} (hq : Cond.methodLinkNest mi.1.cls ix mi'.1 host ∈ lw_tbl) (hO : σ.1 bR = some (.inr (.inl (ci, fs)))) (hcl : vwCl[ci]? = some r9) (hC : r9.1 = mi'.1.cls) (hd : decode mi.2.1 pc = .ok (.invokevirtual ix, 3)) (hdp : d' + 1 ≤ d) (hk : k' + b' ≤ b) (hw : (st.map fun v => v.category).sum ≤ 8) (kk : AW l g mi d b' Q X (pc + 3) L (v.toList ++ st) τ) : AW l g mi d b Q X pc L (a1 :: .ref bR :: st) σ :=
  A_callVN (As := [a1]) hM hm hq hO hcl hC hd rfl hdp hk hw (fun w τ' h => by obtain ⟨e1, e2⟩ := h; subst e1; subst e2; exact kk) (fun E q τ' h => h.elim)
theorem A_callVN2 {mi' : MI} {d' k' b' : Nat} {bR : Nat} {fs : List Value} {r9 : vw_C} {a1 a2 : Value} {Q' : Option Value → AH → Prop} {X' : String → Nat → AH → Prop} (hM : AMet l g mi' d' k' (.ref bR :: [a1, a2]) σ Q' X') (hm : A_MV mi' 2) {ix : Nat} {host : String} (hq : Cond.methodLinkNest mi.1.cls ix mi'.1 host ∈ lw_tbl) (hO : σ.1 bR = some (.inr (.inl (ci, fs)))) (hcl : vwCl[ci]? = some r9) (hC : r9.1 = mi'.1.cls) (hd : decode mi.2.1 pc = .ok (.invokevirtual ix, 3)) (hdp : d' + 1 ≤ d) (hk : k' + b' ≤ b) (hw : (st.map fun v => v.category).sum ≤ 8) (kk : ∀ v τ, Q' v τ → AW l g mi d b' Q X (pc + 3) L (v.toList ++ st) τ) (kx : ∀ E q τ, X' E q τ → AX l g mi d b' Q X pc L E q τ) : AW l g mi d b Q X pc L (a2 :: a1 :: .ref bR :: st) σ :=
  A_callVN (As := [a1, a2]) hM hm hq hO hcl hC hd rfl hdp hk hw kk kx
theorem A_callVN2E {mi' : MI} {d' k' b' : Nat} {bR : Nat} {fs : List Value} {r9 : vw_C} {a1 a2 : Value} {v : Option Value} {τ : AH} (hM : AMet l g mi' d' k' (.ref bR :: [a1, a2]) σ (A_eq v τ) A_no) (hm : A_MV mi' 2) {ix : Nat} {host : String} (hq : Cond.methodLinkNest mi.1.cls ix mi'.1 host ∈ lw_tbl) (hO : σ.1 bR = some (.inr (.inl (ci, fs)))) (hcl : vwCl[ci]? = some r9) (hC : r9.1 = mi'.1.cls) (hd : decode mi.2.1 pc = .ok (.invokevirtual ix, 3)) (hdp : d' + 1 ≤ d) (hk : k' + b' ≤ b) (hw : (st.map fun v => v.category).sum ≤ 8) (kk : AW l g mi d b' Q X (pc + 3) L (v.toList ++ st) τ) : AW l g mi d b Q X pc L (a2 :: a1 :: .ref bR :: st) σ :=
  A_callVN (As := [a1, a2]) hM hm hq hO hcl hC hd rfl hdp hk hw (fun w τ' h => by obtain ⟨e1, e2⟩ := h; subst e1; subst e2; exact kk) (fun E q τ' h => h.elim)
theorem A_callVN3 {mi' : MI} {d' k' b' : Nat} {bR : Nat} {fs : List Value} {r9 : vw_C} {a1 a2 a3 : Value} {Q' : Option Value → AH → Prop} {X' : String → Nat → AH → Prop} (hM : AMet l g mi' d' k' (.ref bR :: [a1, a2, a3]) σ Q' X') (hm : A_MV mi' 3) {ix : Nat} {host : String} (hq : Cond.methodLinkNest mi.1.cls ix mi'.1 host ∈ lw_tbl) (hO : σ.1 bR = some (.inr (.inl (ci, fs)))) (hcl : vwCl[ci]? = some r9) (hC : r9.1 = mi'.1.cls) (hd : decode mi.2.1 pc = .ok (.invokevirtual ix, 3)) (hdp : d' + 1 ≤ d) (hk : k' + b' ≤ b) (hw : (st.map fun v => v.category).sum ≤ 8) (kk : ∀ v τ, Q' v τ → AW l g mi d b' Q X (pc + 3) L (v.toList ++ st) τ) (kx : ∀ E q τ, X' E q τ → AX l g mi d b' Q X pc L E q τ) : AW l g mi d b Q X pc L (a3 :: a2 :: a1 :: .ref bR :: st) σ :=
  A_callVN (As := [a1, a2, a3]) hM hm hq hO hcl hC hd rfl hdp hk hw kk kx
theorem A_callVN3E {mi' : MI} {d' k' b' : Nat} {bR : Nat} {fs : List Value} {r9 : vw_C} {a1 a2 a3 : Value} {v : Option Value} {τ : AH} (hM : AMet l g mi' d' k' (.ref bR :: [a1, a2, a3]) σ (A_eq v τ) A_no) (hm : A_MV mi' 3) {ix : Nat} {host : String} (hq : Cond.methodLinkNest mi.1.cls ix mi'.1 host ∈ lw_tbl) (hO : σ.1 bR = some (.inr (.inl (ci, fs)))) (hcl : vwCl[ci]? = some r9) (hC : r9.1 = mi'.1.cls) (hd : decode mi.2.1 pc = .ok (.invokevirtual ix, 3)) (hdp : d' + 1 ≤ d) (hk : k' + b' ≤ b) (hw : (st.map fun v => v.category).sum ≤ 8) (kk : AW l g mi d b' Q X (pc + 3) L (v.toList ++ st) τ) : AW l g mi d b Q X pc L (a3 :: a2 :: a1 :: .ref bR :: st) σ :=
  A_callVN (As := [a1, a2, a3]) hM hm hq hO hcl hC hd rfl hdp hk hw (fun w τ' h => by obtain ⟨e1, e2⟩ := h; subst e1; subst e2; exact kk) (fun E q τ' h => h.elim)
theorem A_callVN4 {mi' : MI} {d' k' b' : Nat} {bR : Nat} {fs : List Value} {r9 : vw_C} {a1 a2 a3 a4 : Value} {Q' : Option Value → AH → Prop} {X' : String → Nat → AH → Prop} (hM : AMet l g mi' d' k' (.ref bR :: [a1, a2, a3, a4]) σ Q' X') (hm : A_MV mi' 4) {ix : Nat} {host : String} (hq : Cond.methodLinkNest mi.1.cls ix mi'.1 host ∈ lw_tbl) (hO : σ.1 bR = some (.inr (.inl (ci, fs)))) (hcl : vwCl[ci]? = some r9) (hC : r9.1 = mi'.1.cls) (hd : decode mi.2.1 pc = .ok (.invokevirtual ix, 3)) (hdp : d' + 1 ≤ d) (hk : k' + b' ≤ b) (hw : (st.map fun v => v.category).sum ≤ 8) (kk : ∀ v τ, Q' v τ → AW l g mi d b' Q X (pc + 3) L (v.toList ++ st) τ) (kx : ∀ E q τ, X' E q τ → AX l g mi d b' Q X pc L E q τ) : AW l g mi d b Q X pc L (a4 :: a3 :: a2 :: a1 :: .ref bR :: st) σ :=
  A_callVN (As := [a1, a2, a3, a4]) hM hm hq hO hcl hC hd rfl hdp hk hw kk kx
theorem A_callVN4E {mi' : MI} {d' k' b' : Nat} {bR : Nat} {fs : List Value} {r9 : vw_C} {a1 a2 a3 a4 : Value} {v : Option Value} {τ : AH} (hM : AMet l g mi' d' k' (.ref bR :: [a1, a2, a3, a4]) σ (A_eq v τ) A_no) (hm : A_MV mi' 4) {ix : Nat} {host : String} (hq : Cond.methodLinkNest mi.1.cls ix mi'.1 host ∈ lw_tbl) (hO : σ.1 bR = some (.inr (.inl (ci, fs)))) (hcl : vwCl[ci]? = some r9) (hC : r9.1 = mi'.1.cls) (hd : decode mi.2.1 pc = .ok (.invokevirtual ix, 3)) (hdp : d' + 1 ≤ d) (hk : k' + b' ≤ b) (hw : (st.map fun v => v.category).sum ≤ 8) (kk : AW l g mi d b' Q X (pc + 3) L (v.toList ++ st) τ) : AW l g mi d b Q X pc L (a4 :: a3 :: a2 :: a1 :: .ref bR :: st) σ :=
  A_callVN (As := [a1, a2, a3, a4]) hM hm hq hO hcl hC hd rfl hdp hk hw (fun w τ' h => by obtain ⟨e1, e2⟩ := h; subst e1; subst e2; exact kk) (fun E q τ' h => h.elim)
theorem A_callVN5 {mi' : MI} {d' k' b' : Nat} {bR : Nat} {fs : List Value} {r9 : vw_C} {a1 a2 a3 a4 a5 : Value} {Q' : Option Value → AH → Prop} {X' : String → Nat → AH → Prop} (hM : AMet l g mi' d' k' (.ref bR :: [a1, a2, a3, a4, a5]) σ Q' X') (hm : A_MV mi' 5) {ix : Nat} {host : String} (hq : Cond.methodLinkNest mi.1.cls ix mi'.1 host ∈ lw_tbl) (hO : σ.1 bR = some (.inr (.inl (ci, fs)))) (hcl : vwCl[ci]? = some r9) (hC : r9.1 = mi'.1.cls) (hd : decode mi.2.1 pc = .ok (.invokevirtual ix, 3)) (hdp : d' + 1 ≤ d) (hk : k' + b' ≤ b) (hw : (st.map fun v => v.category).sum ≤ 8) (kk : ∀ v τ, Q' v τ → AW l g mi d b' Q X (pc + 3) L (v.toList ++ st) τ) (kx : ∀ E q τ, X' E q τ → AX l g mi d b' Q X pc L E q τ) : AW l g mi d b Q X pc L (a5 :: a4 :: a3 :: a2 :: a1 :: .ref bR :: st) σ :=
  A_callVN (As := [a1, a2, a3, a4, a5]) hM hm hq hO hcl hC hd rfl hdp hk hw kk kx
theorem A_callVN5E {mi' : MI} {d' k' b' : Nat} {bR : Nat} {fs : List Value} {r9 : vw_C} {a1 a2 a3 a4 a5 : Value} {v : Option Value} {τ : AH} (hM : AMet l g mi' d' k' (.ref bR :: [a1, a2, a3, a4, a5]) σ (A_eq v τ) A_no) (hm : A_MV mi' 5) {ix : Nat} {host : String} (hq : Cond.methodLinkNest mi.1.cls ix mi'.1 host ∈ lw_tbl) (hO : σ.1 bR = some (.inr (.inl (ci, fs)))) (hcl : vwCl[ci]? = some r9) (hC : r9.1 = mi'.1.cls) (hd : decode mi.2.1 pc = .ok (.invokevirtual ix, 3)) (hdp : d' + 1 ≤ d) (hk : k' + b' ≤ b) (hw : (st.map fun v => v.category).sum ≤ 8) (kk : AW l g mi d b' Q X (pc + 3) L (v.toList ++ st) τ) : AW l g mi d b Q X pc L (a5 :: a4 :: a3 :: a2 :: a1 :: .ref bR :: st) σ :=
  A_callVN (As := [a1, a2, a3, a4, a5]) hM hm hq hO hcl hC hd rfl hdp hk hw (fun w τ' h => by obtain ⟨e1, e2⟩ := h; subst e1; subst e2; exact kk) (fun E q τ' h => h.elim)
theorem A_callS0 {mi' : MI} {d' k' b' : Nat}   {Q' : Option Value → AH → Prop} {X' : String → Nat → AH → Prop} (hM : AMet l g mi' d' k' ([]) σ Q' X') (hm : A_MS mi' 0) {ix : Nat} (hq : Cond.methodLink mi.1.cls ix mi'.1 ∈ lw_all) (hd : decode mi.2.1 pc = .ok (.invokestatic ix, 3)) (hdp : d' + 1 ≤ d) (hk : k' + b' ≤ b) (hw : (st.map fun v => v.category).sum ≤ 8) (kk : ∀ v τ, Q' v τ → AW l g mi d b' Q X (pc + 3) L (v.toList ++ st) τ) (kx : ∀ E q τ, X' E q τ → AX l g mi d b' Q X pc L E q τ) : AW l g mi d b Q X pc L (st) σ :=
  A_callS (As := []) hM hm hq hd rfl hdp hk hw kk kx
theorem A_callS0E {mi' : MI} {d' k' b' : Nat}   {v : Option Value} {τ : AH} (hM : AMet l g mi' d' k' ([]) σ (A_eq v τ) A_no) (hm : A_MS mi' 0) {ix : Nat} (hq : Cond.methodLink mi.1.cls ix mi'.1 ∈ lw_all) (hd : decode mi.2.1 pc = .ok (.invokestatic ix, 3)) (hdp : d' + 1 ≤ d) (hk : k' + b' ≤ b) (hw : (st.map fun v => v.category).sum ≤ 8) (kk : AW l g mi d b' Q X (pc + 3) L (v.toList ++ st) τ) : AW l g mi d b Q X pc L (st) σ :=
  A_callS (As := []) hM hm hq hd rfl hdp hk hw (fun w τ' h => by obtain ⟨e1, e2⟩ := h; subst e1; subst e2; exact kk) (fun E q τ' h => h.elim)
theorem A_callS1 {mi' : MI} {d' k' b' : Nat}  {a1 : Value} {Q' : Option Value → AH → Prop} {X' : String → Nat → AH → Prop} (hM : AMet l g mi' d' k' ([a1]) σ Q' X') (hm : A_MS mi' 1) {ix : Nat} (hq : Cond.methodLink mi.1.cls ix mi'.1 ∈ lw_all) (hd : decode mi.2.1 pc = .ok (.invokestatic ix, 3)) (hdp : d' + 1 ≤ d) (hk : k' + b' ≤ b) (hw : (st.map fun v => v.category).sum ≤ 8) (kk : ∀ v τ, Q' v τ → AW l g mi d b' Q X (pc + 3) L (v.toList ++ st) τ) (kx : ∀ E q τ, X' E q τ → AX l g mi d b' Q X pc L E q τ) : AW l g mi d b Q X pc L (a1 :: st) σ :=
  A_callS (As := [a1]) hM hm hq hd rfl hdp hk hw kk kx
theorem A_callS1E {mi' : MI} {d' k' b' : Nat}  {a1 : Value} {v : Option Value} {τ : AH} (hM : AMet l g mi' d' k' ([a1]) σ (A_eq v τ) A_no) (hm : A_MS mi' 1) {ix : Nat} (hq : Cond.methodLink mi.1.cls ix mi'.1 ∈ lw_all) (hd : decode mi.2.1 pc = .ok (.invokestatic ix, 3)) (hdp : d' + 1 ≤ d) (hk : k' + b' ≤ b) (hw : (st.map fun v => v.category).sum ≤ 8) (kk : AW l g mi d b' Q X (pc + 3) L (v.toList ++ st) τ) : AW l g mi d b Q X pc L (a1 :: st) σ :=
  A_callS (As := [a1]) hM hm hq hd rfl hdp hk hw (fun w τ' h => by obtain ⟨e1, e2⟩ := h; subst e1; subst e2; exact kk) (fun E q τ' h => h.elim)
theorem A_callS2 {mi' : MI} {d' k' b' : Nat}  {a1 a2 : Value} {Q' : Option Value → AH → Prop} {X' : String → Nat → AH → Prop} (hM : AMet l g mi' d' k' ([a1, a2]) σ Q' X') (hm : A_MS mi' 2) {ix : Nat} (hq : Cond.methodLink mi.1.cls ix mi'.1 ∈ lw_all) (hd : decode mi.2.1 pc = .ok (.invokestatic ix, 3)) (hdp : d' + 1 ≤ d) (hk : k' + b' ≤ b) (hw : (st.map fun v => v.category).sum ≤ 8) (kk : ∀ v τ, Q' v τ → AW l g mi d b' Q X (pc + 3) L (v.toList ++ st) τ) (kx : ∀ E q τ, X' E q τ → AX l g mi d b' Q X pc L E q τ) : AW l g mi d b Q X pc L (a2 :: a1 :: st) σ :=
  A_callS (As := [a1, a2]) hM hm hq hd rfl hdp hk hw kk kx
theorem A_callS2E {mi' : MI} {d' k' b' : Nat}  {a1 a2 : Value} {v : Option Value} {τ : AH} (hM : AMet l g mi' d' k' ([a1, a2]) σ (A_eq v τ) A_no) (hm : A_MS mi' 2) {ix : Nat} (hq : Cond.methodLink mi.1.cls ix mi'.1 ∈ lw_all) (hd : decode mi.2.1 pc = .ok (.invokestatic ix, 3)) (hdp : d' + 1 ≤ d) (hk : k' + b' ≤ b) (hw : (st.map fun v => v.category).sum ≤ 8) (kk : AW l g mi d b' Q X (pc + 3) L (v.toList ++ st) τ) : AW l g mi d b Q X pc L (a2 :: a1 :: st) σ :=
  A_callS (As := [a1, a2]) hM hm hq hd rfl hdp hk hw (fun w τ' h => by obtain ⟨e1, e2⟩ := h; subst e1; subst e2; exact kk) (fun E q τ' h => h.elim)
theorem A_callS3 {mi' : MI} {d' k' b' : Nat}  {a1 a2 a3 : Value} {Q' : Option Value → AH → Prop} {X' : String → Nat → AH → Prop} (hM : AMet l g mi' d' k' ([a1, a2, a3]) σ Q' X') (hm : A_MS mi' 3) {ix : Nat} (hq : Cond.methodLink mi.1.cls ix mi'.1 ∈ lw_all) (hd : decode mi.2.1 pc = .ok (.invokestatic ix, 3)) (hdp : d' + 1 ≤ d) (hk : k' + b' ≤ b) (hw : (st.map fun v => v.category).sum ≤ 8) (kk : ∀ v τ, Q' v τ → AW l g mi d b' Q X (pc + 3) L (v.toList ++ st) τ) (kx : ∀ E q τ, X' E q τ → AX l g mi d b' Q X pc L E q τ) : AW l g mi d b Q X pc L (a3 :: a2 :: a1 :: st) σ :=
  A_callS (As := [a1, a2, a3]) hM hm hq hd rfl hdp hk hw kk kx
theorem A_callS3E {mi' : MI} {d' k' b' : Nat}  {a1 a2 a3 : Value} {v : Option Value} {τ : AH} (hM : AMet l g mi' d' k' ([a1, a2, a3]) σ (A_eq v τ) A_no) (hm : A_MS mi' 3) {ix : Nat} (hq : Cond.methodLink mi.1.cls ix mi'.1 ∈ lw_all) (hd : decode mi.2.1 pc = .ok (.invokestatic ix, 3)) (hdp : d' + 1 ≤ d) (hk : k' + b' ≤ b) (hw : (st.map fun v => v.category).sum ≤ 8) (kk : AW l g mi d b' Q X (pc + 3) L (v.toList ++ st) τ) : AW l g mi d b Q X pc L (a3 :: a2 :: a1 :: st) σ :=
  A_callS (As := [a1, a2, a3]) hM hm hq hd rfl hdp hk hw (fun w τ' h => by obtain ⟨e1, e2⟩ := h; subst e1; subst e2; exact kk) (fun E q τ' h => h.elim)
theorem A_callS4 {mi' : MI} {d' k' b' : Nat}  {a1 a2 a3 a4 : Value} {Q' : Option Value → AH → Prop} {X' : String → Nat → AH → Prop} (hM : AMet l g mi' d' k' ([a1, a2, a3, a4]) σ Q' X') (hm : A_MS mi' 4) {ix : Nat} (hq : Cond.methodLink mi.1.cls ix mi'.1 ∈ lw_all) (hd : decode mi.2.1 pc = .ok (.invokestatic ix, 3)) (hdp : d' + 1 ≤ d) (hk : k' + b' ≤ b) (hw : (st.map fun v => v.category).sum ≤ 8) (kk : ∀ v τ, Q' v τ → AW l g mi d b' Q X (pc + 3) L (v.toList ++ st) τ) (kx : ∀ E q τ, X' E q τ → AX l g mi d b' Q X pc L E q τ) : AW l g mi d b Q X pc L (a4 :: a3 :: a2 :: a1 :: st) σ :=
  A_callS (As := [a1, a2, a3, a4]) hM hm hq hd rfl hdp hk hw kk kx
theorem A_callS4E {mi' : MI} {d' k' b' : Nat}  {a1 a2 a3 a4 : Value} {v : Option Value} {τ : AH} (hM : AMet l g mi' d' k' ([a1, a2, a3, a4]) σ (A_eq v τ) A_no) (hm : A_MS mi' 4) {ix : Nat} (hq : Cond.methodLink mi.1.cls ix mi'.1 ∈ lw_all) (hd : decode mi.2.1 pc = .ok (.invokestatic ix, 3)) (hdp : d' + 1 ≤ d) (hk : k' + b' ≤ b) (hw : (st.map fun v => v.category).sum ≤ 8) (kk : AW l g mi d b' Q X (pc + 3) L (v.toList ++ st) τ) : AW l g mi d b Q X pc L (a4 :: a3 :: a2 :: a1 :: st) σ :=
  A_callS (As := [a1, a2, a3, a4]) hM hm hq hd rfl hdp hk hw (fun w τ' h => by obtain ⟨e1, e2⟩ := h; subst e1; subst e2; exact kk) (fun E q τ' h => h.elim)
theorem A_callS5 {mi' : MI} {d' k' b' : Nat}  {a1 a2 a3 a4 a5 : Value} {Q' : Option Value → AH → Prop} {X' : String → Nat → AH → Prop} (hM : AMet l g mi' d' k' ([a1, a2, a3, a4, a5]) σ Q' X') (hm : A_MS mi' 5) {ix : Nat} (hq : Cond.methodLink mi.1.cls ix mi'.1 ∈ lw_all) (hd : decode mi.2.1 pc = .ok (.invokestatic ix, 3)) (hdp : d' + 1 ≤ d) (hk : k' + b' ≤ b) (hw : (st.map fun v => v.category).sum ≤ 8) (kk : ∀ v τ, Q' v τ → AW l g mi d b' Q X (pc + 3) L (v.toList ++ st) τ) (kx : ∀ E q τ, X' E q τ → AX l g mi d b' Q X pc L E q τ) : AW l g mi d b Q X pc L (a5 :: a4 :: a3 :: a2 :: a1 :: st) σ :=
  A_callS (As := [a1, a2, a3, a4, a5]) hM hm hq hd rfl hdp hk hw kk kx
theorem A_callS5E {mi' : MI} {d' k' b' : Nat}  {a1 a2 a3 a4 a5 : Value} {v : Option Value} {τ : AH} (hM : AMet l g mi' d' k' ([a1, a2, a3, a4, a5]) σ (A_eq v τ) A_no) (hm : A_MS mi' 5) {ix : Nat} (hq : Cond.methodLink mi.1.cls ix mi'.1 ∈ lw_all) (hd : decode mi.2.1 pc = .ok (.invokestatic ix, 3)) (hdp : d' + 1 ≤ d) (hk : k' + b' ≤ b) (hw : (st.map fun v => v.category).sum ≤ 8) (kk : AW l g mi d b' Q X (pc + 3) L (v.toList ++ st) τ) : AW l g mi d b Q X pc L (a5 :: a4 :: a3 :: a2 :: a1 :: st) σ :=
  A_callS (As := [a1, a2, a3, a4, a5]) hM hm hq hd rfl hdp hk hw (fun w τ' h => by obtain ⟨e1, e2⟩ := h; subst e1; subst e2; exact kk) (fun E q τ' h => h.elim)
theorem A_callSN0 {mi' : MI} {d' k' b' : Nat}   {Q' : Option Value → AH → Prop} {X' : String → Nat → AH → Prop} (hM : AMet l g mi' d' k' ([]) σ Q' X') (hm : A_MS mi' 0) {ix : Nat} {host : String} (hq : Cond.methodLinkNest mi.1.cls ix mi'.1 host ∈ lw_tbl) (hd : decode mi.2.1 pc = .ok (.invokestatic ix, 3)) (hdp : d' + 1 ≤ d) (hk : k' + b' ≤ b) (hw : (st.map fun v => v.category).sum ≤ 8) (kk : ∀ v τ, Q' v τ → AW l g mi d b' Q X (pc + 3) L (v.toList ++ st) τ) (kx : ∀ E q τ, X' E q τ → AX l g mi d b' Q X pc L E q τ) : AW l g mi d b Q X pc L (st) σ :=
  A_callSN (As := []) hM hm hq hd rfl hdp hk hw kk kx
theorem A_callSN0E {mi' : MI} {d' k' b' : Nat}   {v : Option Value} {τ : AH} (hM : AMet l g mi' d' k' ([]) σ (A_eq v τ) A_no) (hm : A_MS mi' 0) {ix : Nat} {host : String} (hq : Cond.methodLinkNest mi.1.cls ix mi'.1 host ∈ lw_tbl) (hd : decode mi.2.1 pc = .ok (.invokestatic ix, 3)) (hdp : d' + 1 ≤ d) (hk : k' + b' ≤ b) (hw : (st.map fun v => v.category).sum ≤ 8) (kk : AW l g mi d b' Q X (pc + 3) L (v.toList ++ st) τ) : AW l g mi d b Q X pc L (st) σ :=
  A_callSN (As := []) hM hm hq hd rfl hdp hk hw (fun w τ' h => by obtain ⟨e1, e2⟩ := h; subst e1; subst e2; exact kk) (fun E q τ' h => h.elim)
theorem A_callSN1 {mi' : MI} {d' k' b' : Nat}  {a1 : Value} {Q' : Option Value → AH → Prop} {X' : String → Nat → AH → Prop} (hM : AMet l g mi' d' k' ([a1]) σ Q' X') (hm : A_MS mi' 1) {ix : Nat} {host : String} (hq : Cond.methodLinkNest mi.1.cls ix mi'.1 host ∈ lw_tbl) (hd : decode mi.2.1 pc = .ok (.invokestatic ix, 3)) (hdp : d' + 1 ≤ d) (hk : k' + b' ≤ b) (hw : (st.map fun v => v.category).sum ≤ 8) (kk : ∀ v τ, Q' v τ → AW l g mi d b' Q X (pc + 3) L (v.toList ++ st) τ) (kx : ∀ E q τ, X' E q τ → AX l g mi d b' Q X pc L E q τ) : AW l g mi d b Q X pc L (a1 :: st) σ :=
  A_callSN (As := [a1]) hM hm hq hd rfl hdp hk hw kk kx
theorem A_callSN1E {mi' : MI} {d' k' b' : Nat}  {a1 : Value} {v : Option Value} {τ : AH} (hM : AMet l g mi' d' k' ([a1]) σ (A_eq v τ) A_no) (hm : A_MS mi' 1) {ix : Nat} {host : String} (hq : Cond.methodLinkNest mi.1.cls ix mi'.1 host ∈ lw_tbl) (hd : decode mi.2.1 pc = .ok (.invokestatic ix, 3)) (hdp : d' + 1 ≤ d) (hk : k' + b' ≤ b) (hw : (st.map fun v => v.category).sum ≤ 8) (kk : AW l g mi d b' Q X (pc + 3) L (v.toList ++ st) τ) : AW l g mi d b Q X pc L (a1 :: st) σ :=
  A_callSN (As := [a1]) hM hm hq hd rfl hdp hk hw (fun w τ' h => by obtain ⟨e1, e2⟩ := h; subst e1; subst e2; exact kk) (fun E q τ' h => h.elim)
theorem A_callSN2 {mi' : MI} {d' k' b' : Nat}  {a1 a2 : Value} {Q' : Option Value → AH → Prop} {X' : String → Nat → AH → Prop} (hM : AMet l g mi' d' k' ([a1, a2]) σ Q' X') (hm : A_MS mi' 2) {ix : Nat} {host : String} (hq : Cond.methodLinkNest mi.1.cls ix mi'.1 host ∈ lw_tbl) (hd : decode mi.2.1 pc = .ok (.invokestatic ix, 3)) (hdp : d' + 1 ≤ d) (hk : k' + b' ≤ b) (hw : (st.map fun v => v.category).sum ≤ 8) (kk : ∀ v τ, Q' v τ → AW l g mi d b' Q X (pc + 3) L (v.toList ++ st) τ) (kx : ∀ E q τ, X' E q τ → AX l g mi d b' Q X pc L E q τ) : AW l g mi d b Q X pc L (a2 :: a1 :: st) σ :=
  A_callSN (As := [a1, a2]) hM hm hq hd rfl hdp hk hw kk kx
theorem A_callSN2E {mi' : MI} {d' k' b' : Nat}  {a1 a2 : Value} {v : Option Value} {τ : AH} (hM : AMet l g mi' d' k' ([a1, a2]) σ (A_eq v τ) A_no) (hm : A_MS mi' 2) {ix : Nat} {host : String} (hq : Cond.methodLinkNest mi.1.cls ix mi'.1 host ∈ lw_tbl) (hd : decode mi.2.1 pc = .ok (.invokestatic ix, 3)) (hdp : d' + 1 ≤ d) (hk : k' + b' ≤ b) (hw : (st.map fun v => v.category).sum ≤ 8) (kk : AW l g mi d b' Q X (pc + 3) L (v.toList ++ st) τ) : AW l g mi d b Q X pc L (a2 :: a1 :: st) σ :=
  A_callSN (As := [a1, a2]) hM hm hq hd rfl hdp hk hw (fun w τ' h => by obtain ⟨e1, e2⟩ := h; subst e1; subst e2; exact kk) (fun E q τ' h => h.elim)
theorem A_callSN3 {mi' : MI} {d' k' b' : Nat}  {a1 a2 a3 : Value} {Q' : Option Value → AH → Prop} {X' : String → Nat → AH → Prop} (hM : AMet l g mi' d' k' ([a1, a2, a3]) σ Q' X') (hm : A_MS mi' 3) {ix : Nat} {host : String} (hq : Cond.methodLinkNest mi.1.cls ix mi'.1 host ∈ lw_tbl) (hd : decode mi.2.1 pc = .ok (.invokestatic ix, 3)) (hdp : d' + 1 ≤ d) (hk : k' + b' ≤ b) (hw : (st.map fun v => v.category).sum ≤ 8) (kk : ∀ v τ, Q' v τ → AW l g mi d b' Q X (pc + 3) L (v.toList ++ st) τ) (kx : ∀ E q τ, X' E q τ → AX l g mi d b' Q X pc L E q τ) : AW l g mi d b Q X pc L (a3 :: a2 :: a1 :: st) σ :=
  A_callSN (As := [a1, a2, a3]) hM hm hq hd rfl hdp hk hw kk kx
theorem A_callSN3E {mi' : MI} {d' k' b' : Nat}  {a1 a2 a3 : Value} {v : Option Value} {τ : AH} (hM : AMet l g mi' d' k' ([a1, a2, a3]) σ (A_eq v τ) A_no) (hm : A_MS mi' 3) {ix : Nat} {host : String} (hq : Cond.methodLinkNest mi.1.cls ix mi'.1 host ∈ lw_tbl) (hd : decode mi.2.1 pc = .ok (.invokestatic ix, 3)) (hdp : d' + 1 ≤ d) (hk : k' + b' ≤ b) (hw : (st.map fun v => v.category).sum ≤ 8) (kk : AW l g mi d b' Q X (pc + 3) L (v.toList ++ st) τ) : AW l g mi d b Q X pc L (a3 :: a2 :: a1 :: st) σ :=
  A_callSN (As := [a1, a2, a3]) hM hm hq hd rfl hdp hk hw (fun w τ' h => by obtain ⟨e1, e2⟩ := h; subst e1; subst e2; exact kk) (fun E q τ' h => h.elim)
theorem A_callSN4 {mi' : MI} {d' k' b' : Nat}  {a1 a2 a3 a4 : Value} {Q' : Option Value → AH → Prop} {X' : String → Nat → AH → Prop} (hM : AMet l g mi' d' k' ([a1, a2, a3, a4]) σ Q' X') (hm : A_MS mi' 4) {ix : Nat} {host : String} (hq : Cond.methodLinkNest mi.1.cls ix mi'.1 host ∈ lw_tbl) (hd : decode mi.2.1 pc = .ok (.invokestatic ix, 3)) (hdp : d' + 1 ≤ d) (hk : k' + b' ≤ b) (hw : (st.map fun v => v.category).sum ≤ 8) (kk : ∀ v τ, Q' v τ → AW l g mi d b' Q X (pc + 3) L (v.toList ++ st) τ) (kx : ∀ E q τ, X' E q τ → AX l g mi d b' Q X pc L E q τ) : AW l g mi d b Q X pc L (a4 :: a3 :: a2 :: a1 :: st) σ :=
  A_callSN (As := [a1, a2, a3, a4]) hM hm hq hd rfl hdp hk hw kk kx
theorem A_callSN4E {mi' : MI} {d' k' b' : Nat}  {a1 a2 a3 a4 : Value} {v : Option Value} {τ : AH} (hM : AMet l g mi' d' k' ([a1, a2, a3, a4]) σ (A_eq v τ) A_no) (hm : A_MS mi' 4) {ix : Nat} {host : String} (hq : Cond.methodLinkNest mi.1.cls ix mi'.1 host ∈ lw_tbl) (hd : decode mi.2.1 pc = .ok (.invokestatic ix, 3)) (hdp : d' + 1 ≤ d) (hk : k' + b' ≤ b) (hw : (st.map fun v => v.category).sum ≤ 8) (kk : AW l g mi d b' Q X (pc + 3) L (v.toList ++ st) τ) : AW l g mi d b Q X pc L (a4 :: a3 :: a2 :: a1 :: st) σ :=
  A_callSN (As := [a1, a2, a3, a4]) hM hm hq hd rfl hdp hk hw (fun w τ' h => by obtain ⟨e1, e2⟩ := h; subst e1; subst e2; exact kk) (fun E q τ' h => h.elim)
theorem A_callSN5 {mi' : MI} {d' k' b' : Nat}  {a1 a2 a3 a4 a5 : Value} {Q' : Option Value → AH → Prop} {X' : String → Nat → AH → Prop} (hM : AMet l g mi' d' k' ([a1, a2, a3, a4, a5]) σ Q' X') (hm : A_MS mi' 5) {ix : Nat} {host : String} (hq : Cond.methodLinkNest mi.1.cls ix mi'.1 host ∈ lw_tbl) (hd : decode mi.2.1 pc = .ok (.invokestatic ix, 3)) (hdp : d' + 1 ≤ d) (hk : k' + b' ≤ b) (hw : (st.map fun v => v.category).sum ≤ 8) (kk : ∀ v τ, Q' v τ → AW l g mi d b' Q X (pc + 3) L (v.toList ++ st) τ) (kx : ∀ E q τ, X' E q τ → AX l g mi d b' Q X pc L E q τ) : AW l g mi d b Q X pc L (a5 :: a4 :: a3 :: a2 :: a1 :: st) σ :=
  A_callSN (As := [a1, a2, a3, a4, a5]) hM hm hq hd rfl hdp hk hw kk kx
theorem A_callSN5E {mi' : MI} {d' k' b' : Nat}  {a1 a2 a3 a4 a5 : Value} {v : Option Value} {τ : AH} (hM : AMet l g mi' d' k' ([a1, a2, a3, a4, a5]) σ (A_eq v τ) A_no) (hm : A_MS mi' 5) {ix : Nat} {host : String} (hq : Cond.methodLinkNest mi.1.cls ix mi'.1 host ∈ lw_tbl) (hd : decode mi.2.1 pc = .ok (.invokestatic ix, 3)) (hdp : d' + 1 ≤ d) (hk : k' + b' ≤ b) (hw : (st.map fun v => v.category).sum ≤ 8) (kk : AW l g mi d b' Q X (pc + 3) L (v.toList ++ st) τ) : AW l g mi d b Q X pc L (a5 :: a4 :: a3 :: a2 :: a1 :: st) σ :=
  A_callSN (As := [a1, a2, a3, a4, a5]) hM hm hq hd rfl hdp hk hw (fun w τ' h => by obtain ⟨e1, e2⟩ := h; subst e1; subst e2; exact kk) (fun E q τ' h => h.elim)
theorem A_callI0 {mi' : MI} {d' k' b' : Nat} {bR : Nat}  {Q' : Option Value → AH → Prop} {X' : String → Nat → AH → Prop} (hM : AMet l g mi' d' k' (.ref bR :: []) σ Q' X') (hm : A_MI mi' 0) {ix : Nat} (hq : Cond.methodLink mi.1.cls ix mi'.1 ∈ lw_all) (hd : decode mi.2.1 pc = .ok (.invokespecial ix, 3)) (hdp : d' + 1 ≤ d) (hk : k' + b' ≤ b) (hw : (st.map fun v => v.category).sum ≤ 8) (kk : ∀ v τ, Q' v τ → AW l g mi d b' Q X (pc + 3) L (v.toList ++ st) τ) (kx : ∀ E q τ, X' E q τ → AX l g mi d b' Q X pc L E q τ) : AW l g mi d b Q X pc L (.ref bR :: st) σ :=
  A_callI (As := []) hM hm hq hd rfl hdp hk hw kk kx
theorem A_callI0E {mi' : MI} {d' k' b' : Nat} {bR : Nat}  {v : Option Value} {τ : AH} (hM : AMet l g mi' d' k' (.ref bR :: []) σ (A_eq v τ) A_no) (hm : A_MI mi' 0) {ix : Nat} (hq : Cond.methodLink mi.1.cls ix mi'.1 ∈ lw_all) (hd : decode mi.2.1 pc = .ok (.invokespecial ix, 3)) (hdp : d' + 1 ≤ d) (hk : k' + b' ≤ b) (hw : (st.map fun v => v.category).sum ≤ 8) (kk : AW l g mi d b' Q X (pc + 3) L (v.toList ++ st) τ) : AW l g mi d b Q X pc L (.ref bR :: st) σ :=
  A_callI (As := []) hM hm hq hd rfl hdp hk hw (fun w τ' h => by obtain ⟨e1, e2⟩ := h; subst e1; subst e2; exact kk) (fun E q τ' h => h.elim)
theorem A_callI1 {mi' : MI} {d' k' b' : Nat} {bR : Nat} {a1 : Value} {Q' : Option Value → AH → Prop} {X' : String → Nat → AH → Prop} (hM : AMet l g mi' d' k' (.ref bR :: [a1]) σ Q' X') (hm : A_MI mi' 1) {ix : Nat} (hq : Cond.methodLink mi.1.cls ix mi'.1 ∈ lw_all) (hd : decode mi.2.1 pc = .ok (.invokespecial ix, 3)) (hdp : d' + 1 ≤ d) (hk : k' + b' ≤ b) (hw : (st.map fun v => v.category).sum ≤ 8) (kk : ∀ v τ, Q' v τ → AW l g mi d b' Q X (pc + 3) L (v.toList ++ st) τ) (kx : ∀ E q τ, X' E q τ → AX l g mi d b' Q X pc L E q τ) : AW l g mi d b Q X pc L (a1 :: .ref bR :: st) σ :=
  A_callI (As := [a1]) hM hm hq hd rfl hdp hk hw kk kx
theorem A_callI1E {mi' : MI} {d' k' b' : Nat} {bR : Nat} {a1 : Value} {v : Option Value} {τ : AH} (hM : AMet l g mi' d' k' (.ref bR :: [a1]) σ (A_eq v τ) A_no) (hm : A_MI mi' 1) {ix : Nat} (hq : Cond.methodLink mi.1.cls ix mi'.1 ∈ lw_all) (hd : decode mi.2.1 pc = .ok (.invokespecial ix, 3)) (hdp : d' + 1 ≤ d) (hk : k' + b' ≤ b) (hw : (st.map fun v => v.category).sum ≤ 8) (kk : AW l g mi d b' Q X (pc + 3) L (v.toList ++ st) τ) : AW l g mi d b Q X pc L (a1 :: .ref bR :: st) σ :=
  A_callI (As := [a1]) hM hm hq hd rfl hdp hk hw (fun w τ' h => by obtain ⟨e1, e2⟩ := h; subst e1; subst e2; exact kk) (fun E q τ' h => h.elim)
theorem A_callI2 {mi' : MI} {d' k' b' : Nat} {bR : Nat} {a1 a2 : Value} {Q' : Option Value → AH → Prop} {X' : String → Nat → AH → Prop} (hM : AMet l g mi' d' k' (.ref bR :: [a1, a2]) σ Q' X') (hm : A_MI mi' 2) {ix : Nat} (hq : Cond.methodLink mi.1.cls ix mi'.1 ∈ lw_all) (hd : decode mi.2.1 pc = .ok (.invokespecial ix, 3)) (hdp : d' + 1 ≤ d) (hk : k' + b' ≤ b) (hw : (st.map fun v => v.category).sum ≤ 8) (kk : ∀ v τ, Q' v τ → AW l g mi d b' Q X (pc + 3) L (v.toList ++ st) τ) (kx : ∀ E q τ, X' E q τ → AX l g mi d b' Q X pc L E q τ) : AW l g mi d b Q X pc L (a2 :: a1 :: .ref bR :: st) σ :=
  A_callI (As := [a1, a2]) hM hm hq hd rfl hdp hk hw kk kx
theorem A_callI2E {mi' : MI} {d' k' b' : Nat} {bR : Nat} {a1 a2 : Value} {v : Option Value} {τ : AH} (hM : AMet l g mi' d' k' (.ref bR :: [a1, a2]) σ (A_eq v τ) A_no) (hm : A_MI mi' 2) {ix : Nat} (hq : Cond.methodLink mi.1.cls ix mi'.1 ∈ lw_all) (hd : decode mi.2.1 pc = .ok (.invokespecial ix, 3)) (hdp : d' + 1 ≤ d) (hk : k' + b' ≤ b) (hw : (st.map fun v => v.category).sum ≤ 8) (kk : AW l g mi d b' Q X (pc + 3) L (v.toList ++ st) τ) : AW l g mi d b Q X pc L (a2 :: a1 :: .ref bR :: st) σ :=
  A_callI (As := [a1, a2]) hM hm hq hd rfl hdp hk hw (fun w τ' h => by obtain ⟨e1, e2⟩ := h; subst e1; subst e2; exact kk) (fun E q τ' h => h.elim)
theorem A_callI3 {mi' : MI} {d' k' b' : Nat} {bR : Nat} {a1 a2 a3 : Value} {Q' : Option Value → AH → Prop} {X' : String → Nat → AH → Prop} (hM : AMet l g mi' d' k' (.ref bR :: [a1, a2, a3]) σ Q' X') (hm : A_MI mi' 3) {ix : Nat} (hq : Cond.methodLink mi.1.cls ix mi'.1 ∈ lw_all) (hd : decode mi.2.1 pc = .ok (.invokespecial ix, 3)) (hdp : d' + 1 ≤ d) (hk : k' + b' ≤ b) (hw : (st.map fun v => v.category).sum ≤ 8) (kk : ∀ v τ, Q' v τ → AW l g mi d b' Q X (pc + 3) L (v.toList ++ st) τ) (kx : ∀ E q τ, X' E q τ → AX l g mi d b' Q X pc L E q τ) : AW l g mi d b Q X pc L (a3 :: a2 :: a1 :: .ref bR :: st) σ :=
  A_callI (As := [a1, a2, a3]) hM hm hq hd rfl hdp hk hw kk kx
theorem A_callI3E {mi' : MI} {d' k' b' : Nat} {bR : Nat} {a1 a2 a3 : Value} {v : Option Value} {τ : AH} (hM : AMet l g mi' d' k' (.ref bR :: [a1, a2, a3]) σ (A_eq v τ) A_no) (hm : A_MI mi' 3) {ix : Nat} (hq : Cond.methodLink mi.1.cls ix mi'.1 ∈ lw_all) (hd : decode mi.2.1 pc = .ok (.invokespecial ix, 3)) (hdp : d' + 1 ≤ d) (hk : k' + b' ≤ b) (hw : (st.map fun v => v.category).sum ≤ 8) (kk : AW l g mi d b' Q X (pc + 3) L (v.toList ++ st) τ) : AW l g mi d b Q X pc L (a3 :: a2 :: a1 :: .ref bR :: st) σ :=
  A_callI (As := [a1, a2, a3]) hM hm hq hd rfl hdp hk hw (fun w τ' h => by obtain ⟨e1, e2⟩ := h; subst e1; subst e2; exact kk) (fun E q τ' h => h.elim)
theorem A_callI4 {mi' : MI} {d' k' b' : Nat} {bR : Nat} {a1 a2 a3 a4 : Value} {Q' : Option Value → AH → Prop} {X' : String → Nat → AH → Prop} (hM : AMet l g mi' d' k' (.ref bR :: [a1, a2, a3, a4]) σ Q' X') (hm : A_MI mi' 4) {ix : Nat} (hq : Cond.methodLink mi.1.cls ix mi'.1 ∈ lw_all) (hd : decode mi.2.1 pc = .ok (.invokespecial ix, 3)) (hdp : d' + 1 ≤ d) (hk : k' + b' ≤ b) (hw : (st.map fun v => v.category).sum ≤ 8) (kk : ∀ v τ, Q' v τ → AW l g mi d b' Q X (pc + 3) L (v.toList ++ st) τ) (kx : ∀ E q τ, X' E q τ → AX l g mi d b' Q X pc L E q τ) : AW l g mi d b Q X pc L (a4 :: a3 :: a2 :: a1 :: .ref bR :: st) σ :=
  A_callI (As := [a1, a2, a3, a4]) hM hm hq hd rfl hdp hk hw kk kx
theorem A_callI4E {mi' : MI} {d' k' b' : Nat} {bR : Nat} {a1 a2 a3 a4 : Value} {v : Option Value} {τ : AH} (hM : AMet l g mi' d' k' (.ref bR :: [a1, a2, a3, a4]) σ (A_eq v τ) A_no) (hm : A_MI mi' 4) {ix : Nat} (hq : Cond.methodLink mi.1.cls ix mi'.1 ∈ lw_all) (hd : decode mi.2.1 pc = .ok (.invokespecial ix, 3)) (hdp : d' + 1 ≤ d) (hk : k' + b' ≤ b) (hw : (st.map fun v => v.category).sum ≤ 8) (kk : AW l g mi d b' Q X (pc + 3) L (v.toList ++ st) τ) : AW l g mi d b Q X pc L (a4 :: a3 :: a2 :: a1 :: .ref bR :: st) σ :=
  A_callI (As := [a1, a2, a3, a4]) hM hm hq hd rfl hdp hk hw (fun w τ' h => by obtain ⟨e1, e2⟩ := h; subst e1; subst e2; exact kk) (fun E q τ' h => h.elim)
theorem A_callI5 {mi' : MI} {d' k' b' : Nat} {bR : Nat} {a1 a2 a3 a4 a5 : Value} {Q' : Option Value → AH → Prop} {X' : String → Nat → AH → Prop} (hM : AMet l g mi' d' k' (.ref bR :: [a1, a2, a3, a4, a5]) σ Q' X') (hm : A_MI mi' 5) {ix : Nat} (hq : Cond.methodLink mi.1.cls ix mi'.1 ∈ lw_all) (hd : decode mi.2.1 pc = .ok (.invokespecial ix, 3)) (hdp : d' + 1 ≤ d) (hk : k' + b' ≤ b) (hw : (st.map fun v => v.category).sum ≤ 8) (kk : ∀ v τ, Q' v τ → AW l g mi d b' Q X (pc + 3) L (v.toList ++ st) τ) (kx : ∀ E q τ, X' E q τ → AX l g mi d b' Q X pc L E q τ) : AW l g mi d b Q X pc L (a5 :: a4 :: a3 :: a2 :: a1 :: .ref bR :: st) σ :=
  A_callI (As := [a1, a2, a3, a4, a5]) hM hm hq hd rfl hdp hk hw kk kx
theorem A_callI5E {mi' : MI} {d' k' b' : Nat} {bR : Nat} {a1 a2 a3 a4 a5 : Value} {v : Option Value} {τ : AH} (hM : AMet l g mi' d' k' (.ref bR :: [a1, a2, a3, a4, a5]) σ (A_eq v τ) A_no) (hm : A_MI mi' 5) {ix : Nat} (hq : Cond.methodLink mi.1.cls ix mi'.1 ∈ lw_all) (hd : decode mi.2.1 pc = .ok (.invokespecial ix, 3)) (hdp : d' + 1 ≤ d) (hk : k' + b' ≤ b) (hw : (st.map fun v => v.category).sum ≤ 8) (kk : AW l g mi d b' Q X (pc + 3) L (v.toList ++ st) τ) : AW l g mi d b Q X pc L (a5 :: a4 :: a3 :: a2 :: a1 :: .ref bR :: st) σ :=
  A_callI (As := [a1, a2, a3, a4, a5]) hM hm hq hd rfl hdp hk hw (fun w τ' h => by obtain ⟨e1, e2⟩ := h; subst e1; subst e2; exact kk) (fun E q τ' h => h.elim)
theorem A_callIN0 {mi' : MI} {d' k' b' : Nat} {bR : Nat}  {Q' : Option Value → AH → Prop} {X' : String → Nat → AH → Prop} (hM : AMet l g mi' d' k' (.ref bR :: []) σ Q' X') (hm : A_MI mi' 0) {ix : Nat} {host : String} (hq : Cond.methodLinkNest mi.1.cls ix mi'.1 host ∈ lw_tbl) (hd : decode mi.2.1 pc = .ok (.invokespecial ix, 3)) (hdp : d' + 1 ≤ d) (hk : k' + b' ≤ b) (hw : (st.map fun v => v.category).sum ≤ 8) (kk : ∀ v τ, Q' v τ → AW l g mi d b' Q X (pc + 3) L (v.toList ++ st) τ) (kx : ∀ E q τ, X' E q τ → AX l g mi d b' Q X pc L E q τ) : AW l g mi d b Q X pc L (.ref bR :: st) σ :=
  A_callIN (As := []) hM hm hq hd rfl hdp hk hw kk kx
theorem A_callIN0E {mi' : MI} {d' k' b' : Nat} {bR : Nat}  {v : Option Value} {τ : AH} (hM : AMet l g mi' d' k' (.ref bR :: []) σ (A_eq v τ) A_no) (hm : A_MI mi' 0) {ix : Nat} {host : String} (hq : Cond.methodLinkNest mi.1.cls ix mi'.1 host ∈ lw_tbl) (hd : decode mi.2.1 pc = .ok (.invokespecial ix, 3)) (hdp : d' + 1 ≤ d) (hk : k' + b' ≤ b) (hw : (st.map fun v => v.category).sum ≤ 8) (kk : AW l g mi d b' Q X (pc + 3) L (v.toList ++ st) τ) : AW l g mi d b Q X pc L (.ref bR :: st) σ :=
  A_callIN (As := []) hM hm hq hd rfl hdp hk hw (fun w τ' h => by obtain ⟨e1, e2⟩ := h; subst e1; subst e2; exact kk) (fun E q τ' h => h.elim)
theorem A_callIN1 {mi' : MI} {d' k' b' : Nat} {bR : Nat} {a1 : Value} {Q' : Option Value → AH → Prop} {X' : String → Nat → AH → Prop} (hM : AMet l g mi' d' k' (.ref bR :: [a1]) σ Q' X') (hm : A_MI mi' 1) {ix : Nat} {host : String} (hq : Cond.methodLinkNest mi.1.cls ix mi'.1 host ∈ lw_tbl) (hd : decode mi.2.1 pc = .ok (.invokespecial ix, 3)) (hdp : d' + 1 ≤ d) (hk : k' + b' ≤ b) (hw : (st.map fun v => v.category).sum ≤ 8) (kk : ∀ v τ, Q' v τ → AW l g mi d b' Q X (pc + 3) L (v.toList ++ st) τ) (kx : ∀ E q τ, X' E q τ → AX l g mi d b' Q X pc L E q τ) : AW l g mi d b Q X pc L (a1 :: .ref bR :: st) σ :=
  A_callIN (As := [a1]) hM hm hq hd rfl hdp hk hw kk kx
theorem A_callIN1E {mi' : MI} {d' k' b' : Nat} {bR : Nat} {a1 : Value} {v : Option Value} {τ : AH} (hM : AMet l g mi' d' k' (.ref bR :: [a1]) σ (A_eq v τ) A_no) (hm : A_MI mi' 1) {ix : Nat} {host : String} (hq : Cond.methodLinkNest mi.1.cls ix mi'.1 host ∈ lw_tbl) (hd : decode mi.2.1 pc = .ok (.invokespecial ix, 3)) (hdp : d' + 1 ≤ d) (hk : k' + b' ≤ b) (hw : (st.map fun v => v.category).sum ≤ 8) (kk : AW l g mi d b' Q X (pc + 3) L (v.toList ++ st) τ) : AW l g mi d b Q X pc L (a1 :: .ref bR :: st) σ :=
  A_callIN (As := [a1]) hM hm hq hd rfl hdp hk hw (fun w τ' h => by obtain ⟨e1, e2⟩ := h; subst e1; subst e2; exact kk) (fun E q τ' h => h.elim)
theorem A_callIN2 {mi' : MI} {d' k' b' : Nat} {bR : Nat} {a1 a2 : Value} {Q' : Option Value → AH → Prop} {X' : String → Nat → AH → Prop} (hM : AMet l g mi' d' k' (.ref bR :: [a1, a2]) σ Q' X') (hm : A_MI mi' 2) {ix : Nat} {host : String} (hq : Cond.methodLinkNest mi.1.cls ix mi'.1 host ∈ lw_tbl) (hd : decode mi.2.1 pc = .ok (.invokespecial ix, 3)) (hdp : d' + 1 ≤ d) (hk : k' + b' ≤ b) (hw : (st.map fun v => v.category).sum ≤ 8) (kk : ∀ v τ, Q' v τ → AW l g mi d b' Q X (pc + 3) L (v.toList ++ st) τ) (kx : ∀ E q τ, X' E q τ → AX l g mi d b' Q X pc L E q τ) : AW l g mi d b Q X pc L (a2 :: a1 :: .ref bR :: st) σ :=
  A_callIN (As := [a1, a2]) hM hm hq hd rfl hdp hk hw kk kx
theorem A_callIN2E {mi' : MI} {d' k' b' : Nat} {bR : Nat} {a1 a2 : Value} {v : Option Value} {τ : AH} (hM : AMet l g mi' d' k' (.ref bR :: [a1, a2]) σ (A_eq v τ) A_no) (hm : A_MI mi' 2) {ix : Nat} {host : String} (hq : Cond.methodLinkNest mi.1.cls ix mi'.1 host ∈ lw_tbl) (hd : decode mi.2.1 pc = .ok (.invokespecial ix, 3)) (hdp : d' + 1 ≤ d) (hk : k' + b' ≤ b) (hw : (st.map fun v => v.category).sum ≤ 8) (kk : AW l g mi d b' Q X (pc + 3) L (v.toList ++ st) τ) : AW l g mi d b Q X pc L (a2 :: a1 :: .ref bR :: st) σ :=
  A_callIN (As := [a1, a2]) hM hm hq hd rfl hdp hk hw (fun w τ' h => by obtain ⟨e1, e2⟩ := h; subst e1; subst e2; exact kk) (fun E q τ' h => h.elim)
theorem A_callIN3 {mi' : MI} {d' k' b' : Nat} {bR : Nat} {a1 a2 a3 : Value} {Q' : Option Value → AH → Prop} {X' : String → Nat → AH → Prop} (hM : AMet l g mi' d' k' (.ref bR :: [a1, a2, a3]) σ Q' X') (hm : A_MI mi' 3) {ix : Nat} {host : String} (hq : Cond.methodLinkNest mi.1.cls ix mi'.1 host ∈ lw_tbl) (hd : decode mi.2.1 pc = .ok (.invokespecial ix, 3)) (hdp : d' + 1 ≤ d) (hk : k' + b' ≤ b) (hw : (st.map fun v => v.category).sum ≤ 8) (kk : ∀ v τ, Q' v τ → AW l g mi d b' Q X (pc + 3) L (v.toList ++ st) τ) (kx : ∀ E q τ, X' E q τ → AX l g mi d b' Q X pc L E q τ) : AW l g mi d b Q X pc L (a3 :: a2 :: a1 :: .ref bR :: st) σ :=
  A_callIN (As := [a1, a2, a3]) hM hm hq hd rfl hdp hk hw kk kx
theorem A_callIN3E {mi' : MI} {d' k' b' : Nat} {bR : Nat} {a1 a2 a3 : Value} {v : Option Value} {τ : AH} (hM : AMet l g mi' d' k' (.ref bR :: [a1, a2, a3]) σ (A_eq v τ) A_no) (hm : A_MI mi' 3) {ix : Nat} {host : String} (hq : Cond.methodLinkNest mi.1.cls ix mi'.1 host ∈ lw_tbl) (hd : decode mi.2.1 pc = .ok (.invokespecial ix, 3)) (hdp : d' + 1 ≤ d) (hk : k' + b' ≤ b) (hw : (st.map fun v => v.category).sum ≤ 8) (kk : AW l g mi d b' Q X (pc + 3) L (v.toList ++ st) τ) : AW l g mi d b Q X pc L (a3 :: a2 :: a1 :: .ref bR :: st) σ :=
  A_callIN (As := [a1, a2, a3]) hM hm hq hd rfl hdp hk hw (fun w τ' h => by obtain ⟨e1, e2⟩ := h; subst e1; subst e2; exact kk) (fun E q τ' h => h.elim)
theorem A_callIN4 {mi' : MI} {d' k' b' : Nat} {bR : Nat} {a1 a2 a3 a4 : Value} {Q' : Option Value → AH → Prop} {X' : String → Nat → AH → Prop} (hM : AMet l g mi' d' k' (.ref bR :: [a1, a2, a3, a4]) σ Q' X') (hm : A_MI mi' 4) {ix : Nat} {host : String} (hq : Cond.methodLinkNest mi.1.cls ix mi'.1 host ∈ lw_tbl) (hd : decode mi.2.1 pc = .ok (.invokespecial ix, 3)) (hdp : d' + 1 ≤ d) (hk : k' + b' ≤ b) (hw : (st.map fun v => v.category).sum ≤ 8) (kk : ∀ v τ, Q' v τ → AW l g mi d b' Q X (pc + 3) L (v.toList ++ st) τ) (kx : ∀ E q τ, X' E q τ → AX l g mi d b' Q X pc L E q τ) : AW l g mi d b Q X pc L (a4 :: a3 :: a2 :: a1 :: .ref bR :: st) σ :=
  A_callIN (As := [a1, a2, a3, a4]) hM hm hq hd rfl hdp hk hw kk kx
theorem A_callIN4E {mi' : MI} {d' k' b' : Nat} {bR : Nat} {a1 a2 a3 a4 : Value} {v : Option Value} {τ : AH} (hM : AMet l g mi' d' k' (.ref bR :: [a1, a2, a3, a4]) σ (A_eq v τ) A_no) (hm : A_MI mi' 4) {ix : Nat} {host : String} (hq : Cond.methodLinkNest mi.1.cls ix mi'.1 host ∈ lw_tbl) (hd : decode mi.2.1 pc = .ok (.invokespecial ix, 3)) (hdp : d' + 1 ≤ d) (hk : k' + b' ≤ b) (hw : (st.map fun v => v.category).sum ≤ 8) (kk : AW l g mi d b' Q X (pc + 3) L (v.toList ++ st) τ) : AW l g mi d b Q X pc L (a4 :: a3 :: a2 :: a1 :: .ref bR :: st) σ :=
  A_callIN (As := [a1, a2, a3, a4]) hM hm hq hd rfl hdp hk hw (fun w τ' h => by obtain ⟨e1, e2⟩ := h; subst e1; subst e2; exact kk) (fun E q τ' h => h.elim)
theorem A_callIN5 {mi' : MI} {d' k' b' : Nat} {bR : Nat} {a1 a2 a3 a4 a5 : Value} {Q' : Option Value → AH → Prop} {X' : String → Nat → AH → Prop} (hM : AMet l g mi' d' k' (.ref bR :: [a1, a2, a3, a4, a5]) σ Q' X') (hm : A_MI mi' 5) {ix : Nat} {host : String} (hq : Cond.methodLinkNest mi.1.cls ix mi'.1 host ∈ lw_tbl) (hd : decode mi.2.1 pc = .ok (.invokespecial ix, 3)) (hdp : d' + 1 ≤ d) (hk : k' + b' ≤ b) (hw : (st.map fun v => v.category).sum ≤ 8) (kk : ∀ v τ, Q' v τ → AW l g mi d b' Q X (pc + 3) L (v.toList ++ st) τ) (kx : ∀ E q τ, X' E q τ → AX l g mi d b' Q X pc L E q τ) : AW l g mi d b Q X pc L (a5 :: a4 :: a3 :: a2 :: a1 :: .ref bR :: st) σ :=
  A_callIN (As := [a1, a2, a3, a4, a5]) hM hm hq hd rfl hdp hk hw kk kx
theorem A_callIN5E {mi' : MI} {d' k' b' : Nat} {bR : Nat} {a1 a2 a3 a4 a5 : Value} {v : Option Value} {τ : AH} (hM : AMet l g mi' d' k' (.ref bR :: [a1, a2, a3, a4, a5]) σ (A_eq v τ) A_no) (hm : A_MI mi' 5) {ix : Nat} {host : String} (hq : Cond.methodLinkNest mi.1.cls ix mi'.1 host ∈ lw_tbl) (hd : decode mi.2.1 pc = .ok (.invokespecial ix, 3)) (hdp : d' + 1 ≤ d) (hk : k' + b' ≤ b) (hw : (st.map fun v => v.category).sum ≤ 8) (kk : AW l g mi d b' Q X (pc + 3) L (v.toList ++ st) τ) : AW l g mi d b Q X pc L (a5 :: a4 :: a3 :: a2 :: a1 :: .ref bR :: st) σ :=
  A_callIN (As := [a1, a2, a3, a4, a5]) hM hm hq hd rfl hdp hk hw (fun w τ' h => by obtain ⟨e1, e2⟩ := h; subst e1; subst e2; exact kk) (fun E q τ' h => h.elim)
end AHeap
