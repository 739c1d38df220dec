/-! LAMBDAS 3: an invokedynamic that makes an object -/
theorem la_types {e : Setting} {s : State} {args : Array Value} {d c : ClassId} {sh : Lambda.Shape} {dk : Class} {T : Array FieldType} (h : Lambda.isMade e s.vm d sh c = true) (hd : s.vm.classes[d]? = some dk)
    (hO : (Cond.instantiable "java/lang/Object" 0).before args s = true) (hlay : ((sh.file dk.name).bind (layoutFields · 0)).map (·.2.1) = some T) :
    ∃ k, s.vm.classes[c]? = some k ∧ k.instanceTypes = T ∧ k.kind = .ordinary := by
  obtain ⟨dk', k, ok, tk, file, cf, object, iface, t, lay, methods, target, found, h1, h2, h3, h4, h5, h6, h7, h8, h9, h10, h11, h12, h13, ⟨-, hkind, -⟩, -, hhid, -, -, -, -, -, ⟨hty, -⟩, -⟩ := Lambda.isMade_spec h
  cases hd.symm.trans h1
  obtain ⟨cO, kO, hfO, hkO, -, -, -, hsz⟩ := Cond.instantiable_spec hO
  cases hfO.symm.trans h5
  cases hkO.symm.trans h7
  have hemp : ok.instanceTypes = #[] := Array.eq_empty_of_size_eq_zero hsz
  rw [hsz] at h8
  rw [h4, Option.bind_some, h8, Option.map_some] at hlay
  exact ⟨k, h2, by rw [hty, hemp, Option.some.inj hlay]; simp, hkind⟩
section AIndyM
variable {l : Launch} {g : GC} {mi : MI} {d b : Nat} {Q : Option Value → AH → Prop} {X : String → Nat → AH → Prop} {pc : Nat} {L : List (Nat × Value)} {st : List Value} {σ : AH}
theorem A_indyM {i ix b' : Nat} {sh : Lambda.Shape} {vals : List Value} {Ts : Array FieldType} (hi : g_sites[i]? = some (.lambdaSite mi.1 pc ix sh)) (hf : Cond.lambdaSite mi.1 pc ix sh ∈ flatC (Jvm.Cond.and given_1 narrow_1)) (hlen : vals.length = sh.captured.length) (hne : sh.captured ≠ [])
    (hlay : ((sh.file mi.1.cls).bind (layoutFields · 0)).map (·.2.1) = some Ts) (hnar : (Ts.toList.zip vals).map (fun (t, v) => narrow t v) = vals) (hfit : ∀ (j : Nat) (v : Value), vals[j]? = some v → (Ts[j]?).any (fun t => fits t v) = true)
    (hd : decode mi.2.1 pc = .ok (.invokedynamic ix, 5)) (hw : ((vals.reverse ++ st).map fun v => v.category).sum ≤ 100) (h4 : vals.length ≤ 4) (hk : b' + 1 ≤ b)
    (kk : AW l g mi d b' Q X (pc + 5) L (.ref σ.2 :: st) (h_new σ (.inr (.inr (i, vals))))) : AW l g mi d b Q X pc L (vals.reverse ++ st) σ := by
  intro p e R s m args below meth c H locs cells slots ls C hP hL hl
  have hc := C
  obtain ⟨hx, hb, hr, hlk, hml, hown, hts, hg, hW, ⟨h10, h10'⟩, ⟨h11, h11'⟩, hnm, h13, hmn⟩ := C
  obtain ⟨cK, one, hat⟩ := la_of hg hf
  obtain ⟨m', kS, cfS, i0, p0, lk, hm', hkS, hcfS, hshape, -, hfind, hmade, -, hlk9⟩ := State.lambdaAt?_spec hat
  cases (la_named hW hmn).symm.trans hm'
  obtain ⟨rfl, rfl⟩ : lk = .makes cK ∧ one = none := by
    rcases hlk9 with ⟨_, _, -, -, h, -⟩ | ⟨h1, h2, -⟩
    · exact absurd h hne
    · exact ⟨h1, h2⟩
  obtain ⟨kN, hkN, hnameN⟩ := className_of_methodNamed hm'
  cases hkS.symm.trans hkN
  obtain ⟨k', hk', he'⟩ := hW.alike.2.2 _ _ hkS
  have hfind' : (k'.callSites.find? fun y => y.1 == m.idx && y.2.1 == pc) = some (i0, p0, .makes cK) := by rw [he']; exact hfind
  have hcf' : k'.cf = some cfS := by rw [he']; exact hcfS
  have hn' : k'.name = mi.1.cls := by rw [he']; exact hnameN
  obtain ⟨bm, nt, desc, site, hcp, hnt, hsite, hpar⟩ := la_site hshape
  obtain ⟨kK, hkK, htyK, hkindK⟩ := la_types (s := s) (args := args) (Lambda.isMade_warmer hW hmade) hk' (hts _ q3036) (by rw [hn']; exact hlay)
  have hslotsE : ((kK.instanceTypes.toList.zip vals).map fun (t, v) => narrow t v) = vals := by rw [htyK]; exact hnar
  intro T hT Xs
  obtain ⟨X₁, st1⟩ := Xs.lambdaMakes hx (g := F0 m pc ls (vals.reverse ++ st)) rfl (hl.1.trans hml.symm) (by rw [hb]; exact hd) (vals := vals) (rest := st) hk' hfind' hcf' hcp hnt (parseLong_of_parse hsite) (by rw [hpar]; exact hlen) rfl hkK
    (by rw [la_plat Xs.admits]; show 2 * 0 + ((vals.reverse ++ st).map fun v => v.category).sum + 3072 ≤ R.locals; omega) (by omega) (by rw [hslotsE]; omega)
    (fun j v hv => by
      rw [hslotsE] at hv
      have hv' : vals[j]? = some v := by simpa using hv
      have hz := hfit j v hv'
      rw [← htyK] at hz
      cases hq : kK.instanceTypes[j]? with
      | none => rw [hq] at hz; cases hz
      | some t =>
        rw [hq] at hz
        simp [State.fitsSlot, State.slotType?, hkK, hkindK, hq]
        simpa using hz)
  rw [hslotsE] at X₁ st1
  have hLa : g_L g i = cK := by
    unfold g_L g_La
    rw [hi]
    show ((g.1.lambdaAt? mi.1 pc ix sh).getD (0, none)).1 = cK
    rw [hat]
    rfl
  have hsz : T.heap.size = σ.2 := by rw [hT]; exact hP.1
  have hP1 : g_P g (h_new σ (.inr (.inr (i, vals)))) (T.pushCell { cls := cK, slots := vals.toArray, vm := .none }).heap := by
    refine g_P.new (H := H) hP ?_ ?_ ?_
    · rw [← hT]; simp [State.pushCell]
    · intro q hq
      rw [← hT] at hq ⊢
      exact State.heap_pushCell_of_lt _ _ hq
    · refine ⟨{ cls := cK, slots := vals.toArray, vm := .none }, ?_, hLa.symm, rfl, rfl⟩
      rw [← hT]
      exact State.heap_pushCell_size _ _
  have hC' : A_ctx l g mi d b' p R s m args meth c (cells + 1) (slots + vals.toArray.size) := by
    obtain ⟨c1, c2, c3, c4, c5, c6, c7, c8, c9, c10, ⟨c11, c12⟩, c13⟩ := hc
    exact ⟨c1, c2, c3, c4, c5, c6, c7, c8, c9, c10, ⟨by omega, by simp; omega⟩, c13⟩
  obtain ⟨t, t1, t2⟩ := kk p e R s m args below meth c _ locs _ _ ls hC' hP1 hL hl _ rfl X₁
  refine ⟨t, st1 t ?_, t2⟩
  rw [hsz]
  exact t1
end AIndyM
