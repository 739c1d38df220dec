/-! fields named by a class that inherits them -/
section AHeapU
variable {l : Launch} {g : GC} {mi : MI} {d b : Nat} {Q : Option Value → AH → Prop} {X : String → Nat → AH → Prop} {pc : Nat} {L : List (Nat × Value)} {st : List Value} {σ : AH}
variable {ci : Nat} {Cn : String} {T : u_T} {N : Nat} {ty : Nat → FieldType}
theorem A_getfU (cb : A_CB ci Cn T N ty) {a : Nat} {fs : List Value} (h : σ.1 a = some (.inr (.inl (ci, fs)))) (fk : Nat) (hk : fk < N) {ix : Nat} {ref : String} (hq : Cond.fieldLink mi.1.cls ix ref (T fk).2.1 (T fk).2.2.1 ∈ lw_all) (hs : Cond.sameField ref (T fk).1 (T fk).2.1 (T fk).2.2.1 ∈ lw_all) {v : Value} (hv : fs[fk]? = some v) (hd : decode mi.2.1 pc = .ok (.getfield ix, 3)) (kk : AW l g mi d b Q X (pc + 3) L (v :: st) σ) : AW l g mi d b Q X pc L (.ref a :: st) σ := by
  intro p e R s m args below meth c H locs cells slots ls C hP hL hl
  have hc := C
  obtain ⟨hx, hb, hr, hlk, hml, hown, hts, hg, hW, hrest⟩ := C
  exact va_get (D := g.2.2) hx hb hts cb.2.1 hown (A_K hg hW) (A_one (hP.2.2.1 a _ h).2.2) 0 rfl cb.1 fk hk (hts _ hq) (fun z h9 => u_same (hts _ hs) z h9) hv hd (kk p e R s m args below meth c H locs cells slots ls hc hP hL hl)
theorem A_putfU (cb : A_CB ci Cn T N ty) {a : Nat} {fs : List Value} {v : Value} (h : σ.1 a = some (.inr (.inl (ci, fs)))) (fk : Nat) (hk : fk < N) {ix : Nat} {ref : String} (hq : Cond.fieldLink mi.1.cls ix ref (T fk).2.1 (T fk).2.2.1 ∈ lw_all) (hs : Cond.sameField ref (T fk).1 (T fk).2.1 (T fk).2.2.1 ∈ lw_all) (hfin : (T fk).2.2.2 = false) (hn : narrow (ty fk) v = v) (hfit : fits (ty fk) v = true) (hlen : fk < fs.length) (hd : decode mi.2.1 pc = .ok (.putfield ix, 3)) (kk : AW l g mi d b Q X (pc + 3) L st (h_put σ a (.inr (.inl (ci, fs.set fk v))))) : AW l g mi d b Q X pc L (v :: .ref a :: st) σ := by
  intro p e R s m args below meth c H locs cells slots ls C hP hL hl
  have hc := C
  obtain ⟨hx, hb, hr, hlk, hml, hown, hts, hg, hW, hrest⟩ := C
  have hK := A_K hg hW
  have hap := va_apart (own := mi.1.cls) hts cb.2.1 ty cb.2.2.1 cb.2.2.2 hK cb.1
  obtain ⟨z1, z2, r, h1, cell, q1, q2, q3, q4⟩ := hP.2.2.1 a _ h
  have hr : r = (Cn, T, N) := Option.some.inj (h1.symm.trans cb.1)
  subst hr
  obtain ⟨hS, hfc, kC, hkC, hkind⟩ := hK.1 ci _ cb.1
  obtain ⟨cf, kf, fi, f, hi, hsl⟩ := hS fk hk
  have hlay := hts _ (cb.2.1 _ (u_in_lay hk))
  unfold u_lay at hlay
  rw [if_neg (by rw [hfin]; decide)] at hlay
  have hst := (u_facts hfc hkC (u_lays hts cb.2.1 hk) hi).1
  have h6 := u_store hfc hkC hkind hlay hi (cb.2.2.1 fk hk) hn hfit
  refine W.putK hx hb (f := f) ⟨hown, hts _ hq, ⟨_, _, _, u_same (hts _ hs) _ hi⟩, hst⟩ (by rw [q2]; exact h6) q1 q3 (by rw [hsl]; exact k2_hasslot (q4 fk hk)) rfl rfl hd fun H' e1 e2 e3 => ?_
  rw [hsl] at e1 ⊢
  exact kk p e R s m args below meth c H' _ cells slots ls hc (hP.put h e2 e3 ⟨_, cb.1, t_OB.to (V := updV (vp_V fs) fk v) ⟨_, e1, q2, q3, t_set q4 hap hk v⟩ (fun j _ => vp_updV_set hlen v j)⟩) (A_locs hL z1) hl
end AHeapU
