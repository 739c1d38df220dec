/-! FLAGLAUNDRY 8: a change begins -/
/-- but for these cells, what was there is there -/
def fra (l : List Nat) (σ τ : AH) : Prop := σ.2 ≤ τ.2 ∧ ∀ a, a < σ.2 → ¬ a ∈ l → τ.1 a = σ.1 a
theorem fra.rf {l : List Nat} {σ : AH} : fra l σ σ := ⟨Nat.le_refl _, fun _ _ _ => rfl⟩
theorem fra.tr {l : List Nat} {σ τ ρ : AH} (h : fra l σ τ) (k : fra l τ ρ) : fra l σ ρ := ⟨Nat.le_trans h.1 k.1, fun a ha hl => (k.2 a (Nat.lt_of_lt_of_le ha h.1) hl).trans (h.2 a ha hl)⟩
theorem ext.fra {l : List Nat} {σ τ : AH} (h : ext σ τ) : fra l σ τ := ⟨h.1, fun a ha _ => h.2 a ha⟩
theorem fra.ex {l : List Nat} {σ τ ρ : AH} (h : fra l σ τ) (k : ext τ ρ) : fra l σ ρ := h.tr k.fra
theorem fra.kx {l : List Nat} {σ τ ρ : AH} {a : Nat} (h : fra l σ τ) (ha : a ∈ l) (k : kx a τ ρ) : fra l σ ρ := h.tr ⟨k.1, fun b hb hl => k.2 b hb (fun e => hl (e ▸ ha))⟩
theorem fra.k2 {l : List Nat} {σ τ ρ : AH} {a b : Nat} (h : fra l σ τ) (ha : a ∈ l) (hb : b ∈ l) (k : k2 a b τ ρ) : fra l σ ρ := h.tr ⟨k.1, fun c hc hl => k.2 c hc (fun e => hl (e ▸ ha)) (fun e => hl (e ▸ hb))⟩
theorem fra.kl {l : List Nat} {σ τ ρ : AH} (h : fra l σ τ) (k : kl σ.2 τ ρ) : fra l σ ρ := ⟨Nat.le_trans h.1 k.1, fun a ha hl => (k.2 a ha).trans (h.2 a ha hl)⟩
theorem fra.sub {l l' : List Nat} {σ τ : AH} (h : fra l σ τ) (hs : ∀ a, a ∈ l → a ∈ l') : fra l' σ τ := ⟨h.1, fun a ha hl => h.2 a ha (fun q => hl (hs a q))⟩
theorem fra.at {l : List Nat} {σ τ : AH} (h : fra l σ τ) (w : wfh σ) {a : Nat} {e : AE} (k : σ.1 a = some e) (hl : ¬ a ∈ l) : τ.1 a = some e := (h.2 a (w a e k) hl).trans k
theorem nw.k2 {σ τ ρ : AH} {a b : Nat} {c d : AE} (h : nw σ τ) (w : wfh τ) (hc : τ.1 a = some c) (hn : ¬ isW c) (hd : τ.1 b = some d) (hm : ¬ isW d) (k : k2 a b τ ρ) : nw σ ρ := h.tr ⟨k.1, fun q e hq i => k.at w hq (fun z => hn (by rw [z] at hq; rw [Option.some.inj (hc.symm.trans hq)]; exact i)) (fun z => hm (by rw [z] at hq; rw [Option.some.inj (hd.symm.trans hq)]; exact i))⟩
theorem isW_oa {n : Nat} {x : (Nat → Int32) ⊕ (Nat → Int64) ⊕ (Nat → UInt32) ⊕ (Nat → UInt64) ⊕ (Nat → Option Nat)} (h : ¬ (n = 4 ∨ n = 12)) : ¬ isW (.inl (.object "java/lang/Object", n, x)) := by
  rintro (⟨c', vs', e, h'⟩ | ⟨n, f, e, h'⟩ | ⟨n, f, e, h'⟩ | ⟨f, e⟩)
  · cases e
  · injection e with e; injection e with e1 e2; cases e1
  · injection e with e; injection e with e1 e2; injection e2 with e2 e3; subst e2; exact h h'
  · injection e with e; injection e with e1 e2; injection e1 with e1; exact absurd e1 (by decide)
theorem DQ.nw {σ τ ρ : AH} {dq da h u : Nat} {e : Nat → Nat} (hd : DQ τ dq da h u e) (n : nw σ τ) (w : wfh τ) (k : _root_.Jvm.Pilot.CFlagLaundryLaw_law_r9784_83ea13.k2 dq da τ ρ) : _root_.Jvm.Pilot.CFlagLaundryLaw_law_r9784_83ea13.nw σ ρ := by
  obtain ⟨-, -, h1, f, h2, -⟩ := hd
  exact n.k2 w h1 (isW_no (by decide)) h2 (isW_oa (by decide)) k
theorem DQ.kl {σ τ : AH} {dq da h u lo : Nat} {e : Nat → Nat} (hd : DQ σ dq da h u e) (k : kl lo σ τ) (h1 : dq < lo) (h2 : da < lo) : DQ τ dq da h u e := by
  obtain ⟨a, b, c, f, d, i⟩ := hd
  exact ⟨a, b, (k.2 dq h1).trans c, f, (k.2 da h2).trans d, i⟩
theorem DQ.lt {σ : AH} {dq da h u : Nat} {e : Nat → Nat} (hd : DQ σ dq da h u e) (w : wfh σ) : dq < σ.2 ∧ da < σ.2 := by
  obtain ⟨a, b, c, f, d, i⟩ := hd
  exact ⟨w _ _ c, w _ _ d⟩
theorem DQ.ex {σ τ : AH} {dq da h u : Nat} {e : Nat → Nat} (hd : DQ σ dq da h u e) (w : wfh σ) (k : ext σ τ) : DQ τ dq da h u e := by
  obtain ⟨a, b, c, f, d, i⟩ := hd
  exact ⟨a, b, k.at w c, f, k.at w d, i⟩
theorem DQ.kx {σ τ : AH} {dq da h u A : Nat} {e : Nat → Nat} {c : AE} (hd : DQ σ dq da h u e) (w : wfh σ) (hA : σ.1 A = some c) (h1 : ∀ vs, ¬ c = .inr (.inl (11, vs))) (h2 : ∀ v, ¬ c = .inl (.object "java/lang/Object", v)) (k : kx A σ τ) : DQ τ dq da h u e := by
  obtain ⟨a, b, c, f, d, i⟩ := hd
  exact ⟨a, b, k.at w c (fun z => by rw [z] at c; exact h1 _ (Option.some.inj (hA.symm.trans c))), f, k.at w d (fun z => by rw [z] at d; exact h2 _ (Option.some.inj (hA.symm.trans d))), i⟩
/-- the worlds of before, behind a change -/
def chE (u : Nat) (e : Nat → Nat) (w : Nat) : Nat → Nat := if u = 8 then upP (fun i => e (i + 1)) 7 w else upP e u w
def chW (u : Nat) (Ws : Nat → WA) (W : WA) : Nat → WA := fun i => if u = 8 then (if i = 7 then W else Ws (i + 1)) else if i = u then W else Ws i
theorem chE_W (u : Nat) (Ws : Nat → WA) (W : WA) : chE u (fun i => wW (Ws i)) (wW W) = fun i => wW (chW u Ws W i) := by
  funext i
  unfold chE chW
  by_cases c : u = 8
  · rw [if_pos c, if_pos c]
    by_cases d : i = 7
    · rw [if_pos d, d]; exact upP_s _ _ _
    · rw [if_neg d]; exact upP_n _ _ d
  · rw [if_neg c, if_neg c]
    by_cases d : i = u
    · rw [if_pos d, d]; exact upP_s _ _ _
    · rw [if_neg d]; exact upP_n _ _ d
theorem DQ.cg {σ : AH} {dq da h u : Nat} {e e' : Nat → Nat} (hd : DQ σ dq da h u e) (k : ∀ i, i < u → e' i = e i) : DQ σ dq da h u e' := by
  obtain ⟨a, b, c, f, d, i⟩ := hd
  exact ⟨a, b, c, f, d, fun j hj => by rw [k j hj]; exact i j hj⟩
theorem wld_set (A N : AF) {k j : Nat} (hj : j < 173) : wld (setWld A N k) k j = N j := by
  show (if k * 173 ≤ k * 173 + j ∧ k * 173 + j < k * 173 + 173 then N (k * 173 + j - k * 173) else _) = _
  rw [if_pos (by omega), show k * 173 + j - k * 173 = j by omega]
theorem wld_setN (A N : AF) {k i j : Nat} (hi : ¬ i = k) (hj : j < 173) : wld (setWld A N k) i j = wld A i j := by
  show (if k * 173 ≤ i * 173 + j ∧ i * 173 + j < k * 173 + 173 then _ else A (i * 173 + j)) = _
  rw [if_neg (by omega)]
  rfl
theorem wld_sh (A : AF) {i j : Nat} (hi : i < 7) (hj : j < 173) : wld (shU A 1211) i j = wld A (i + 1) j := by
  show (if i * 173 + j < 1211 then A (i * 173 + j + 173) else _) = A ((i + 1) * 173 + j)
  rw [if_pos (by omega), show i * 173 + j + 173 = (i + 1) * 173 + j by omega]
theorem RW.cg {g : GC} {σ : AH} {W : WA} {N N' : AF} (h : RW g σ W N) (hW : WFc N) (k : ∀ j, j < 173 → N' j = N j) : RW g σ W N' := by
  obtain ⟨h1, ⟨f2, h2, h2'⟩, ⟨f3, h3, h3'⟩, ⟨m4, f4, h4, h4', h4''⟩, ⟨m5, f5, h5, h5', h5''⟩, ⟨f6, h6, h6'⟩, h7, h8, h9, h10, h11⟩ := h
  have e6 : nC N' = nC N := by unfold nC; rw [k 6 (by decide)]
  have e7 : nN N' = nN N := by unfold nN; rw [k 7 (by decide)]
  have e8 : nT N' = nT N := by unfold nT; rw [k 8 (by decide)]
  have e10 : nF N' = nF N := by unfold nF; rw [k 10 (by decide)]
  have hF : nF N ≤ 12 := hW.2.2.2.2.2
  have hN4 : nN N ≤ 4 := hW.2.1.2
  have hC6 : nC N ≤ 6 := hW.1.2
  have hT3 : nT N ≤ 3 := hW.2.2.1.2
  have qf : ∀ i j, i < nF N → j < 11 → fl N' i j = fl N i j := fun i j hi hj => k _ (by omega)
  have qn : ∀ i j, i < nN N → j < 5 → na N' i j = na N i j := fun i j hi hj => k _ (by omega)
  refine ⟨by rw [wld_h (W := W) (W' := W) ⟨rfl, rfl, rfl, rfl, rfl⟩ (fun j hj => k j (by omega))]; exact h1, ⟨f2, h2, fun c hc => ?_⟩, ⟨f3, h3, fun t ht => ?_⟩, ⟨m4, f4, by rw [e7]; exact h4, h4', fun n hn => h4'' n (e7 ▸ hn)⟩, ⟨m5, f5, by rw [e10]; exact h5, h5', fun n hn => h5'' n (e10 ▸ hn)⟩, ⟨f6, h6, h6'⟩, fun i hi => ?_, fun i hi => ?_, fun i hi => ?_, fun i j hi hj => h10 i j (e10 ▸ hi) (e10 ▸ hj), fun i j hi hj => h11 i j (e7 ▸ hi) (e7 ▸ hj)⟩
  · rw [e6] at hc; rw [k _ (by omega)]; exact h2' c hc
  · rw [e8] at ht; rw [k _ (by omega)]; exact h3' t ht
  · rw [e10] at hi; rw [flg_eq _ (fun j hj => qf i j hi hj)]; exact h7 i hi
  · rw [e10] at hi; rw [qf i 8 hi (by decide), qf i 9 hi (by decide), qf i 10 hi (by decide)]; exact h8 i hi
  · rw [e7] at hi
    obtain ⟨x, k1, k2⟩ := h9 i hi
    refine ⟨x, ?_, ?_⟩
    · rw [qn i 0 hi (by decide), qn i 1 hi (by decide), qn i 2 hi (by decide)]; exact k1
    · unfold HD; rw [qn i 0 hi (by decide), qn i 3 hi (by decide), qn i 4 hi (by decide)]; exact k2
/-- a world that is well-formed, not later than hb -/
def WN (N : AF) (hb : Nat) : Prop := WFd N ∧ WFw N ∧ ∃ h, h ≤ hb ∧ N 0 = nI h
theorem WN.cg {N N' : AF} {hb : Nat} (h : WN N hb) (k : ∀ j, j < 173 → N' j = N j) : WN N' hb := by
  obtain ⟨⟨hW, hF⟩, hw, x, hx, ex⟩ := h
  have e : nC N' = nC N ∧ nN N' = nN N ∧ nT N' = nT N ∧ nP N' = nP N ∧ nF N' = nF N := by
    unfold nC nN nT nP nF
    rw [k 6 (by decide), k 7 (by decide), k 8 (by decide), k 9 (by decide), k 10 (by decide)]
    exact ⟨rfl, rfl, rfl, rfl, rfl⟩
  have hF12 : nF N ≤ 12 := hW.2.2.2.2.2
  refine ⟨⟨hW.hdr (fun j _ _ => k j (by omega)), fun f hf => ?_⟩, ?_, x, hx, (k 0 (by decide)).trans ex⟩
  · rw [e.2.2.2.2] at hf
    exact (FK.congr (hF f hf) e (fun j hj => k _ (by omega)) : FK N' (fl N' f))
  · unfold WFw; rw [k 1 (by decide)]; exact hw
theorem WN.le {N : AF} {a b : Nat} (h : WN N a) (k : a ≤ b) : WN N b := ⟨h.1, h.2.1, h.2.2.choose, Nat.le_trans h.2.2.choose_spec.1 k, h.2.2.choose_spec.2⟩
/-- what a change leaves: the copy V, now; the rest as it was -/
def A_chd (g : GC) (bf : Nat) (bd pe ep : Int32) (dq sv ou x da u : Nat) (e : Nat → Nat) (W : WA) (N : AF) (σ : AH) : Option Value → AH → Prop := fun v τ => ∃ V h, v = some (.ref (wW V)) ∧ τ.1 x = some (lauC bf bd pe ep (.ref (wW V)) dq sv ou) ∧ RW g τ V N ∧ own σ.2 V N ∧ DQ τ dq da h (remC u) (chE u e (wW W)) ∧ fra [x, dq, da] σ τ ∧ nw σ τ
theorem c_changed {l : Launch} {g : GC} (σ : AH) (x bf dq sv ou : Nat) (bd pe ep : Int32) (W : WA) (N : AF) (da h u : Nat) (e : Nat → Nat) (hX : σ.1 x = some (lauC bf bd pe ep (.ref (wW W)) dq sv ou)) (hR : RW g σ W N) (hD : WFd N) (hQ : DQ σ dq da h u e) (hu : u ≤ 8) : AMet l g mX1_changed 9 69 [.ref x] σ (A_chd g bf bd pe ep dq sv ou x da u e W N σ) (A_no) := by
  refine A_of rfl (by decide) (Nat.le_of_ble_eq_true rfl) (L0 := [(0, .ref x)]) rfl ?_
  refine A_wfh (fun wσ hgσ => ?_)
  have hW := hD.1
  have hR9 := hR
  obtain ⟨h1, ⟨fr, h2, h2p⟩, ⟨fm, h3, h3p⟩, ⟨mcn, fnA, h4, h4p, h4q⟩, ⟨mcf, ffA, h5, h5p, h5q⟩, ⟨fu, h6, h6p⟩, h7, h8, h9, h10, h11⟩ := hR
  have hF12 : nF N ≤ 12 := hW.2.2.2.2.2
  have hN4 : nN N ≤ 4 := hW.2.1.2
  have hC6 : nC N ≤ 6 := hW.1.2
  have hT3 : nT N ≤ 3 := hW.2.2.1.2
  have hP8 : nP N ≤ 8 := hW.2.2.2.1.2
  have hxq : ¬ x = dq := ne_of hX hQ.2.2.1 (fun q => by simp at q)
  have hxa : ¬ x = da := by obtain ⟨_, _, _, f, hA, _⟩ := hQ; exact ne_of hX hA (fun q => by simp at q)
  have nσ : nw σ σ := nw.rf
  have frσ : fra [x, dq, da] σ σ := fra.rf
  have hRσ := hR9
  refine A_aload_n (i := 0) dX1_changed_0 rfl rfl ?_
  refine A_getf cb_X1 hX 5 (Nat.le_of_ble_eq_true rfl) q243 rfl (v := .ref dq) rfl dX1_changed_1 ?_
  refine A_callV0E (b' := 69) (v := some (.int (nI u))) (τ := σ) (c_dqSize σ dq da h u e hQ) tJ1_size q284 hQ.2.2.1 rfl rfl dX1_changed_4 (by decide) (Nat.le_of_ble_eq_true rfl) (Nat.le_of_ble_eq_true rfl) ?_
  refine A_bipush (v := 8) dX1_changed_7 (by decide) ?_
  refine A_icmp_ne (tgt := 20) dX1_changed_9 (by decide) (fun c1 => ?_) (fun c1 => ?_)
  · skip
    have hu8 : ¬ u = 8 := fun q => c1 (by rw [q]; rfl)
    refine A_aload_n (i := 0) dX1_changed_20 rfl rfl ?_
    refine A_getf cb_X1 hX 5 (Nat.le_of_ble_eq_true rfl) q243 rfl (v := .ref dq) rfl dX1_changed_21 ?_
    refine A_aload_n (i := 0) dX1_changed_24 rfl rfl ?_
    refine A_getf cb_X1 hX 4 (Nat.le_of_ble_eq_true rfl) q242 rfl (v := .ref (wW W)) rfl dX1_changed_25 ?_
    refine A_callV1 (b' := 69) (c_dqAdd σ dq da h u e (wW W) _ hQ h1 (by omega)) tJ1_addLast q2058 hQ.2.2.1 rfl rfl dX1_changed_28 (by decide) (Nat.le_of_ble_eq_true rfl) (Nat.le_of_ble_eq_true rfl) (fun w9 τ9 h9 => ?_) (fun E9 q9 τ9 h9 => h9.elim)
    obtain ⟨e8, hd8, k8⟩ := h9
    subst e8
    have kk : k2 dq da σ τ9 := k8
    refine A_wfh (fun wτ9 hgτ9 => ?_)
    have nτ9 : nw σ τ9 := hQ.nw nw.rf wσ kk
    have hRτ9 : RW g τ9 W N := hR9.nw nτ9
    have frτ9 : fra [x, dq, da] σ τ9 := fra.rf.k2 (by simp) (by simp) kk
    have fxτ9 : τ9.1 x = some (.inr (.inl (0, [.ref bf, .int bd, .int pe, .int ep, .ref (wW W), .ref dq, .ref sv, .ref ou]))) := kk.at wσ hX hxq hxa
    have fwτ9 : τ9.1 (wW W) = some (.inr (.inl (4, [.int (N 9), .ref (wR W), .ref (wM W), .ref (wNL W), .ref (wFL W), .ref (wUN W), .int (N 6), .int (N 8), .int (N 0), .int (N 1), .int (N 2), .int (N 3), .int (N 4), .int (N 5), .int (N 11)]))) := hRτ9.1
    have hDQ : DQ τ9 dq da h (remC u) (chE u e (wW W)) := by
      unfold remC chE
      rw [if_neg hu8, if_neg hu8]
      exact hd8
    refine A_aload_n (i := 0) dX1_changed_31 rfl rfl ?_
    refine A_new (b' := 65) (u := 4) cb_X5 q203 q755 q159 (fs := [.int 0, .null, .null, .null, .null, .null, .int 0, .int 0, .int 0, .int 0, .int 0, .int 0, .int 0, .int 0, .int 0]) (by intro j hj; rcases j with _ | j; exact rfl; rcases j with _ | j; exact rfl; rcases j with _ | j; exact rfl; rcases j with _ | j; exact rfl; rcases j with _ | j; exact rfl; rcases j with _ | j; exact rfl; rcases j with _ | j; exact rfl; rcases j with _ | j; exact rfl; rcases j with _ | j; exact rfl; rcases j with _ | j; exact rfl; rcases j with _ | j; exact rfl; rcases j with _ | j; exact rfl; rcases j with _ | j; exact rfl; rcases j with _ | j; exact rfl; rcases j with _ | j; exact rfl; omega) (Nat.le_of_ble_eq_true rfl) ⟨Nat.le_of_ble_eq_true rfl, Nat.le_of_ble_eq_true rfl⟩ dX1_changed_32 ?_
    obtain ⟨σ1, eσ1⟩ : ∃ τ, τ = h_new τ9 (.inr (.inl (4, [.int 0, .null, .null, .null, .null, .null, .int 0, .int 0, .int 0, .int 0, .int 0, .int 0, .int 0, .int 0, .int 0]))) := ⟨_, rfl⟩
    refine A_st (σ' := σ1) eσ1.symm ?_
    have wσ1 : wfh σ1 := by rw [eσ1]; exact wτ9.new
    have fσ1_0 : σ1.1 x = some (.inr (.inl (0, [.ref bf, .int bd, .int pe, .int ep, .ref (wW W), .ref dq, .ref sv, .ref ou]))) := by rw [eσ1]; exact (hn_ne (Nat.ne_of_lt (wτ9 _ _ fxτ9))).trans fxτ9
    have fσ1_1 : σ1.1 (wW W) = some (.inr (.inl (4, [.int (N 9), .ref (wR W), .ref (wM W), .ref (wNL W), .ref (wFL W), .ref (wUN W), .int (N 6), .int (N 8), .int (N 0), .int (N 1), .int (N 2), .int (N 3), .int (N 4), .int (N 5), .int (N 11)]))) := by rw [eσ1]; exact (hn_ne (Nat.ne_of_lt (wτ9 _ _ fwτ9))).trans fwτ9
    have fσ1_2 : σ1.1 τ9.2 = some (.inr (.inl (4, [.int 0, .null, .null, .null, .null, .null, .int 0, .int 0, .int 0, .int 0, .int 0, .int 0, .int 0, .int 0, .int 0]))) := by rw [eσ1]; exact if_pos rfl
    have xσ1 : ext τ9 σ1 := by rw [eσ1]; exact ext_new _ _
    have hRσ1 : RW g σ1 W N := hRτ9.ext wτ9 xσ1
    refine A_dup dX1_changed_35 rfl ?_
    refine A_aload_n (i := 0) dX1_changed_36 rfl rfl ?_
    refine A_getf cb_X1 fσ1_0 4 (Nat.le_of_ble_eq_true rfl) q242 rfl (v := .ref (wW W)) rfl dX1_changed_37 ?_
    refine A_callI1 (b' := 0) (c_wCopy σ1 W N τ9.2 fσ1_2 (RW_cut hRτ9 wτ9 xσ1) hD (xσ1.1)) tX5_init_2 q1820 dX1_changed_40 (by decide) (Nat.le_of_ble_eq_true rfl) (Nat.le_of_ble_eq_true rfl) (fun w9 τ7 h7 => ?_) (fun E9 q9 τ9 h9 => h9.elim)
    obtain ⟨e9, kV, V, hV, hO, hRV⟩ := h7
    subst e9
    refine A_wfh (fun wτ7 hgτ7 => ?_)
    rw [← hV]
    have xV : ext τ9 τ7 := ⟨Nat.le_trans xσ1.1 kV.1, fun b hb => (kV.2 b hb).trans (xσ1.2 b hb)⟩
    have fxV : τ7.1 x = some (.inr (.inl (0, [.ref bf, .int bd, .int pe, .int ep, .ref (wW W), .ref dq, .ref sv, .ref ou]))) := xV.at wτ9 fxτ9
    have fvV : τ7.1 (wW V) = some (.inr (.inl (4, [.int (N 9), .ref (wR V), .ref (wM V), .ref (wNL V), .ref (wFL V), .ref (wUN V), .int (N 6), .int (N 8), .int (N 0), .int (N 1), .int (N 2), .int (N 3), .int (N 4), .int (N 5), .int (N 11)]))) := hRV.1
    have nV : nw σ τ7 := nτ9.ex wτ9 xV
    have frV : fra [x, dq, da] σ τ7 := frτ9.ex xV
    have hDQV := hDQ.ex wτ9 xV
    have hOV : own σ.2 V N := ⟨Nat.le_trans frτ9.1 hO.1, Nat.le_trans frτ9.1 hO.2.1, Nat.le_trans frτ9.1 hO.2.2.1, Nat.le_trans frτ9.1 hO.2.2.2.1, Nat.le_trans frτ9.1 hO.2.2.2.2.1, Nat.le_trans frτ9.1 hO.2.2.2.2.2.1, Nat.le_trans frτ9.1 hO.2.2.2.2.2.2.1, fun f hf => Nat.le_trans frτ9.1 (hO.2.2.2.2.2.2.2.1 f hf), fun n hn => Nat.le_trans frτ9.1 (hO.2.2.2.2.2.2.2.2 n hn)⟩
    refine A_putf cb_X1 fxV 4 (Nat.le_of_ble_eq_true rfl) q242 rfl rfl rfl rfl (Nat.le_of_ble_eq_true rfl) dX1_changed_43 ?_
    obtain ⟨σ2, eσ2⟩ : ∃ τ, τ = h_put τ7 x (.inr (.inl (0, [.ref bf, .int bd, .int pe, .int ep, .ref (wW V), .ref dq, .ref sv, .ref ou]))) := ⟨_, rfl⟩
    refine A_st (σ' := σ2) eσ2.symm ?_
    have wσ2 : wfh σ2 := by rw [eσ2]; exact wτ7.put fxV
    have fσ2_0 : σ2.1 x = some (.inr (.inl (0, [.ref bf, .int bd, .int pe, .int ep, .ref (wW V), .ref dq, .ref sv, .ref ou]))) := by rw [eσ2]; exact if_pos rfl
    have fσ2_1 : σ2.1 (wW V) = some (.inr (.inl (4, [.int (N 9), .ref (wR V), .ref (wM V), .ref (wNL V), .ref (wFL V), .ref (wUN V), .int (N 6), .int (N 8), .int (N 0), .int (N 1), .int (N 2), .int (N 3), .int (N 4), .int (N 5), .int (N 11)]))) := by rw [eσ2]; exact (hp_ne (ne_of (x := .inr (.inl (4, [.int (N 9), .ref (wR V), .ref (wM V), .ref (wNL V), .ref (wFL V), .ref (wUN V), .int (N 6), .int (N 8), .int (N 0), .int (N 1), .int (N 2), .int (N 3), .int (N 4), .int (N 5), .int (N 11)]))) (y := .inr (.inl (0, [.ref bf, .int bd, .int pe, .int ep, .ref (wW W), .ref dq, .ref sv, .ref ou]))) fvV fxV (fun e8 => by simp at e8))).trans fvV
    have kx7 : kx x τ7 σ2 := by rw [eσ2]; exact kx.rf.put
    have hRf : RW g σ2 V N := (RW.oth hRV wτ7 fxV (isW_no (by decide)) kx7)
    have hDf := hDQV.kx wτ7 fxV (fun vs q => by simp at q) (fun v q => by simp at q) kx7
    have frf : fra [x, dq, da] σ σ2 := frV.kx (by simp) kx7
    have nf : nw σ σ2 := nV.kx wτ7 fxV (isW_no (by decide)) kx7
    refine A_aload_n (i := 0) dX1_changed_46 rfl rfl ?_
    refine A_getf cb_X1 fσ2_0 4 (Nat.le_of_ble_eq_true rfl) q242 rfl (v := .ref (wW V)) rfl dX1_changed_47 ?_
    exact A_aret dX1_changed_50 rfl (Or.inl ⟨_, rfl⟩) (Or.inr ⟨_, rfl⟩) (⟨V, _, rfl, fσ2_0, hRf, hOV, hDf, frf, nf⟩)
  · skip
    have hu8 : u = 8 := (nI_eqi (by omega) (by omega)).mp c1
    have h0u : 0 < u := by omega
    refine A_aload_n (i := 0) dX1_changed_12 rfl rfl ?_
    refine A_getf cb_X1 hX 5 (Nat.le_of_ble_eq_true rfl) q243 rfl (v := .ref dq) rfl dX1_changed_13 ?_
    refine A_callV0 (b' := 69) (c_dqRemF σ dq da h u e hQ h0u) tJ1_removeFirst q2044 hQ.2.2.1 rfl rfl dX1_changed_16 (by decide) (Nat.le_of_ble_eq_true rfl) (Nat.le_of_ble_eq_true rfl) (fun w9 τ9 h9 => ?_) (fun E9 q9 τ9 h9 => h9.elim)
    obtain ⟨e9, hd9, k9⟩ := h9
    subst e9
    refine A_wfh (fun wτ9 hgτ9 => ?_)
    have nτ9 : nw σ τ9 := hQ.nw nw.rf wσ k9
    have hRτ9 : RW g τ9 W N := hR9.nw nτ9
    have frτ9 : fra [x, dq, da] σ τ9 := fra.rf.k2 (by simp) (by simp) k9
    have fxτ9 : τ9.1 x = some (.inr (.inl (0, [.ref bf, .int bd, .int pe, .int ep, .ref (wW W), .ref dq, .ref sv, .ref ou]))) := k9.at wσ hX hxq hxa
    have fwτ9 : τ9.1 (wW W) = some (.inr (.inl (4, [.int (N 9), .ref (wR W), .ref (wM W), .ref (wNL W), .ref (wFL W), .ref (wUN W), .int (N 6), .int (N 8), .int (N 0), .int (N 1), .int (N 2), .int (N 3), .int (N 4), .int (N 5), .int (N 11)]))) := hRτ9.1
    have fqτ9 : τ9.1 dq = some (dqC da ((h + 1) % 17) (u - 1)) := hd9.2.2.1
    refine A_pop dX1_changed_19 rfl ?_
    skip
    refine A_aload_n (i := 0) dX1_changed_20 rfl rfl ?_
    refine A_getf cb_X1 fxτ9 5 (Nat.le_of_ble_eq_true rfl) q243 rfl (v := .ref dq) rfl dX1_changed_21 ?_
    refine A_aload_n (i := 0) dX1_changed_24 rfl rfl ?_
    refine A_getf cb_X1 fxτ9 4 (Nat.le_of_ble_eq_true rfl) q242 rfl (v := .ref (wW W)) rfl dX1_changed_25 ?_
    refine A_callV1 (b' := 69) (c_dqAdd τ9 dq da ((h + 1) % 17) (u - 1) (fun i => e (i + 1)) (wW W) _ hd9 fwτ9 (by omega)) tJ1_addLast q2058 fqτ9 rfl rfl dX1_changed_28 (by decide) (Nat.le_of_ble_eq_true rfl) (Nat.le_of_ble_eq_true rfl) (fun w9 τ8 h8 => ?_) (fun E9 q9 τ9 h9 => h9.elim)
    obtain ⟨e8, hd8, k8⟩ := h8
    subst e8
    have kk : k2 dq da σ τ8 := k9.tr k8
    refine A_wfh (fun wτ8 hgτ8 => ?_)
    have nτ8 : nw σ τ8 := hQ.nw nw.rf wσ kk
    have hRτ8 : RW g τ8 W N := hR9.nw nτ8
    have frτ8 : fra [x, dq, da] σ τ8 := fra.rf.k2 (by simp) (by simp) kk
    have fxτ8 : τ8.1 x = some (.inr (.inl (0, [.ref bf, .int bd, .int pe, .int ep, .ref (wW W), .ref dq, .ref sv, .ref ou]))) := kk.at wσ hX hxq hxa
    have fwτ8 : τ8.1 (wW W) = some (.inr (.inl (4, [.int (N 9), .ref (wR W), .ref (wM W), .ref (wNL W), .ref (wFL W), .ref (wUN W), .int (N 6), .int (N 8), .int (N 0), .int (N 1), .int (N 2), .int (N 3), .int (N 4), .int (N 5), .int (N 11)]))) := hRτ8.1
    have hDQ : DQ τ8 dq da ((h + 1) % 17) (remC u) (chE u e (wW W)) := by
      unfold remC chE
      subst hu8
      exact hd8
    refine A_aload_n (i := 0) dX1_changed_31 rfl rfl ?_
    refine A_new (b' := 65) (u := 4) cb_X5 q203 q755 q159 (fs := [.int 0, .null, .null, .null, .null, .null, .int 0, .int 0, .int 0, .int 0, .int 0, .int 0, .int 0, .int 0, .int 0]) (by intro j hj; rcases j with _ | j; exact rfl; rcases j with _ | j; exact rfl; rcases j with _ | j; exact rfl; rcases j with _ | j; exact rfl; rcases j with _ | j; exact rfl; rcases j with _ | j; exact rfl; rcases j with _ | j; exact rfl; rcases j with _ | j; exact rfl; rcases j with _ | j; exact rfl; rcases j with _ | j; exact rfl; rcases j with _ | j; exact rfl; rcases j with _ | j; exact rfl; rcases j with _ | j; exact rfl; rcases j with _ | j; exact rfl; rcases j with _ | j; exact rfl; omega) (Nat.le_of_ble_eq_true rfl) ⟨Nat.le_of_ble_eq_true rfl, Nat.le_of_ble_eq_true rfl⟩ dX1_changed_32 ?_
    obtain ⟨σ3, eσ3⟩ : ∃ τ, τ = h_new τ8 (.inr (.inl (4, [.int 0, .null, .null, .null, .null, .null, .int 0, .int 0, .int 0, .int 0, .int 0, .int 0, .int 0, .int 0, .int 0]))) := ⟨_, rfl⟩
    refine A_st (σ' := σ3) eσ3.symm ?_
    have wσ3 : wfh σ3 := by rw [eσ3]; exact wτ8.new
    have fσ3_0 : σ3.1 x = some (.inr (.inl (0, [.ref bf, .int bd, .int pe, .int ep, .ref (wW W), .ref dq, .ref sv, .ref ou]))) := by rw [eσ3]; exact (hn_ne (Nat.ne_of_lt (wτ8 _ _ fxτ8))).trans fxτ8
    have fσ3_1 : σ3.1 (wW W) = some (.inr (.inl (4, [.int (N 9), .ref (wR W), .ref (wM W), .ref (wNL W), .ref (wFL W), .ref (wUN W), .int (N 6), .int (N 8), .int (N 0), .int (N 1), .int (N 2), .int (N 3), .int (N 4), .int (N 5), .int (N 11)]))) := by rw [eσ3]; exact (hn_ne (Nat.ne_of_lt (wτ8 _ _ fwτ8))).trans fwτ8
    have fσ3_2 : σ3.1 τ8.2 = some (.inr (.inl (4, [.int 0, .null, .null, .null, .null, .null, .int 0, .int 0, .int 0, .int 0, .int 0, .int 0, .int 0, .int 0, .int 0]))) := by rw [eσ3]; exact if_pos rfl
    have xσ3 : ext τ8 σ3 := by rw [eσ3]; exact ext_new _ _
    have hRσ3 : RW g σ3 W N := hRτ8.ext wτ8 xσ3
    refine A_dup dX1_changed_35 rfl ?_
    refine A_aload_n (i := 0) dX1_changed_36 rfl rfl ?_
    refine A_getf cb_X1 fσ3_0 4 (Nat.le_of_ble_eq_true rfl) q242 rfl (v := .ref (wW W)) rfl dX1_changed_37 ?_
    refine A_callI1 (b' := 0) (c_wCopy σ3 W N τ8.2 fσ3_2 (RW_cut hRτ8 wτ8 xσ3) hD (xσ3.1)) tX5_init_2 q1820 dX1_changed_40 (by decide) (Nat.le_of_ble_eq_true rfl) (Nat.le_of_ble_eq_true rfl) (fun w9 τ7 h7 => ?_) (fun E9 q9 τ9 h9 => h9.elim)
    obtain ⟨e9, kV, V, hV, hO, hRV⟩ := h7
    subst e9
    refine A_wfh (fun wτ7 hgτ7 => ?_)
    rw [← hV]
    have xV : ext τ8 τ7 := ⟨Nat.le_trans xσ3.1 kV.1, fun b hb => (kV.2 b hb).trans (xσ3.2 b hb)⟩
    have fxV : τ7.1 x = some (.inr (.inl (0, [.ref bf, .int bd, .int pe, .int ep, .ref (wW W), .ref dq, .ref sv, .ref ou]))) := xV.at wτ8 fxτ8
    have fvV : τ7.1 (wW V) = some (.inr (.inl (4, [.int (N 9), .ref (wR V), .ref (wM V), .ref (wNL V), .ref (wFL V), .ref (wUN V), .int (N 6), .int (N 8), .int (N 0), .int (N 1), .int (N 2), .int (N 3), .int (N 4), .int (N 5), .int (N 11)]))) := hRV.1
    have nV : nw σ τ7 := nτ8.ex wτ8 xV
    have frV : fra [x, dq, da] σ τ7 := frτ8.ex xV
    have hDQV := hDQ.ex wτ8 xV
    have hOV : own σ.2 V N := ⟨Nat.le_trans frτ8.1 hO.1, Nat.le_trans frτ8.1 hO.2.1, Nat.le_trans frτ8.1 hO.2.2.1, Nat.le_trans frτ8.1 hO.2.2.2.1, Nat.le_trans frτ8.1 hO.2.2.2.2.1, Nat.le_trans frτ8.1 hO.2.2.2.2.2.1, Nat.le_trans frτ8.1 hO.2.2.2.2.2.2.1, fun f hf => Nat.le_trans frτ8.1 (hO.2.2.2.2.2.2.2.1 f hf), fun n hn => Nat.le_trans frτ8.1 (hO.2.2.2.2.2.2.2.2 n hn)⟩
    refine A_putf cb_X1 fxV 4 (Nat.le_of_ble_eq_true rfl) q242 rfl rfl rfl rfl (Nat.le_of_ble_eq_true rfl) dX1_changed_43 ?_
    obtain ⟨σ4, eσ4⟩ : ∃ τ, τ = h_put τ7 x (.inr (.inl (0, [.ref bf, .int bd, .int pe, .int ep, .ref (wW V), .ref dq, .ref sv, .ref ou]))) := ⟨_, rfl⟩
    refine A_st (σ' := σ4) eσ4.symm ?_
    have wσ4 : wfh σ4 := by rw [eσ4]; exact wτ7.put fxV
    have fσ4_0 : σ4.1 x = some (.inr (.inl (0, [.ref bf, .int bd, .int pe, .int ep, .ref (wW V), .ref dq, .ref sv, .ref ou]))) := by rw [eσ4]; exact if_pos rfl
    have fσ4_1 : σ4.1 (wW V) = some (.inr (.inl (4, [.int (N 9), .ref (wR V), .ref (wM V), .ref (wNL V), .ref (wFL V), .ref (wUN V), .int (N 6), .int (N 8), .int (N 0), .int (N 1), .int (N 2), .int (N 3), .int (N 4), .int (N 5), .int (N 11)]))) := by rw [eσ4]; exact (hp_ne (ne_of (x := .inr (.inl (4, [.int (N 9), .ref (wR V), .ref (wM V), .ref (wNL V), .ref (wFL V), .ref (wUN V), .int (N 6), .int (N 8), .int (N 0), .int (N 1), .int (N 2), .int (N 3), .int (N 4), .int (N 5), .int (N 11)]))) (y := .inr (.inl (0, [.ref bf, .int bd, .int pe, .int ep, .ref (wW W), .ref dq, .ref sv, .ref ou]))) fvV fxV (fun e8 => by simp at e8))).trans fvV
    have kx7 : kx x τ7 σ4 := by rw [eσ4]; exact kx.rf.put
    have hRf : RW g σ4 V N := (RW.oth hRV wτ7 fxV (isW_no (by decide)) kx7)
    have hDf := hDQV.kx wτ7 fxV (fun vs q => by simp at q) (fun v q => by simp at q) kx7
    have frf : fra [x, dq, da] σ σ4 := frV.kx (by simp) kx7
    have nf : nw σ σ4 := nV.kx wτ7 fxV (isW_no (by decide)) kx7
    refine A_aload_n (i := 0) dX1_changed_46 rfl rfl ?_
    refine A_getf cb_X1 fσ4_0 4 (Nat.le_of_ble_eq_true rfl) q242 rfl (v := .ref (wW V)) rfl dX1_changed_47 ?_
    exact A_aret dX1_changed_50 rfl (Or.inl ⟨_, rfl⟩) (Or.inr ⟨_, rfl⟩) (⟨V, _, rfl, fσ4_0, hRf, hOV, hDf, frf, nf⟩)
