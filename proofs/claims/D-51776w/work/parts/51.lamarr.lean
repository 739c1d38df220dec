/-! A lambda's object into an array of tests -/
section ALamArr
variable {l : Launch} {g : GC} {mi : MI} {d b : Nat} {Q : Option Value → AH → Prop} {X : String → Nat → AH → Prop} {pc : Nat} {L : List (Nat × Value)} {st : List Value} {σ : AH}
theorem A_aastL {a n v j : Nat} {f : Nat → Option Nat} (h : σ.1 a = some (.inl (.object "FlagLaundry$Test", n, .inr (.inr (.inr (.inr f)))))) {caps : List Value} (hO : lamO g σ j caps v) {x : MethodName} {pcS ixS : Nat} {sh : Lambda.Shape} (hi : g_sites[j]? = some (.lambdaSite x pcS ixS sh)) (hf : Cond.lambdaSite x pcS ixS sh ∈ flatC (Jvm.Cond.and given_1 narrow_1)) (hif : sh.iface = "FlagLaundry$Test")
    {i : Int32} (hin : vp_in i n) (hd : decode mi.2.1 pc = .ok (.aastore, 1)) (kk : AW l g mi d b Q X (pc + 1) L st (h_put σ a (.inl (.object "FlagLaundry$Test", n, .inr (.inr (.inr (.inr (va_up f i.toNatClampNeg (some v)))))))) ) : AW l g mi d b Q X pc L (.ref v :: .int i :: .ref a :: st) σ := by
  intro p e R s m args below meth c H locs cells slots ls C hP hL hl
  obtain ⟨z1, z2, z3⟩ := hP.2.2.1 a _ h
  have hg : g_ok l g := C.2.2.2.2.2.2.2.1
  have hW : g.1.WarmedH s.vm := C.2.2.2.2.2.2.2.2.1
  obtain ⟨cK, one, hat⟩ := la_of hg hf
  obtain ⟨cellV, g1, g2, g3, -⟩ := lamO_cell hg hP hO hi hat
  obtain ⟨mS, kS, cfS, i0, p0, lk, hmS, hkS, -, -, -, -, hmade, hcall, -⟩ := State.lambdaAt?_spec hat
  have hcall1 : s.lambdaCallable sh cK = true := by
    have hA := hW.alike
    simp only [State.lambdaCallable, hA.findClass, hA.assignable, hA.superclasses, hA.declaredIn] at hcall ⊢
    exact hcall
  obtain ⟨i2, hi2, hasg, -⟩ := State.lambdaCallable_spec hcall1
  obtain ⟨-, kC, -, -, -, -, -, -, -, -, -, -, -, -, hkC, -⟩ := Lambda.isMade_spec (Lambda.isMade_warmer hW hmade)
  have hlt : i.toNatClampNeg < n := Nat.not_le.mp fun q => hin (Or.inr q)
  have h0 : ¬ i < 0 := fun q => hin (Or.inl q)
  obtain ⟨-, -, kA, comp, k1, k2, k3⟩ := A_arr hg hW (ty := .object "FlagLaundry$Test") (by decide)
  have k3 := k3 "FlagLaundry$Test" rfl
  have hcomp : comp = i2 := Option.some.inj (k3.symm.trans (by rw [← hif]; exact hi2))
  obtain ⟨kcomp, hkcomp, -⟩ := Vm.findClass_spec k3
  refine W.aast C.1 C.2.1 z3 (fun q h => by cases h) (fun h => by cases h) k1 k2 rfl hkcomp ⟨h0, by show _ < (arrV _ _ _).slots.size; rw [arrV_size]; exact hlt⟩ g1 (fun q h => by rw [g3] at h; cases h) (by rw [g2]; exact hkC) (by rw [g2, hcomp]; exact hasg) rfl rfl hd fun H1 e9 z oq => ?_
  refine kk p e R s m args below meth c H1 _ cells slots ls C (hP.put h z oq ?_) (A_locs hL z1) hl
  show H1[a]? = some (vp_cell _ _)
  rw [e9]
  show some ((vp_cell _ _).setSlot _ _) = _
  rw [vp_cell_q, vp_cell_q, arrV_store]
  congr 2
  funext q
  by_cases hq : q = i.toNatClampNeg
  · subst hq
    simp [updV, va_up, va_rf]
  · simp [updV, va_up, hq]
end ALamArr
