/-! THE PARSER 7: the words -/
theorem word_of {B : AF} {w : List Int32} {p : PT} (hk : isP 2 p) (e : wls B p.2.2.1 (p.2.1 - p.2.2.1) = w) : wordP B w p := by
  refine ⟨hk, by rw [← e, wls_len], fun k h => ?_⟩
  rw [← e] at h ⊢
  rw [wls_len] at h
  exact (wls_at h).symm
theorem word_eq {B : AF} {w : List Int32} {p : PT} (h : wordP B w p) : wls B p.2.2.1 (p.2.1 - p.2.2.1) = w := by
  refine list_eq (by rw [wls_len]; exact h.2.1) (fun i hi => ?_)
  rw [wls_len] at hi
  rw [wls_at hi]
  exact h.2.2 i (by rw [← h.2.1]; exact hi)
theorem word_iff {B : AF} {u w : List Int32} {p : PT} (hk : isP 2 p) (e : wls B p.2.2.1 (p.2.1 - p.2.2.1) = u) : wordP B w p ↔ u = w := ⟨fun h => e.symm.trans (word_eq h), fun h => word_of hk (e.trans h)⟩
/-- what the line is by its word -/
def lnS (B : AF) (n : Nat) (u : List Int32) (p : PT) : PT := if u = wColour then coS B n p else if u = wNation then naS B n p else if u = wTub then tuS B n p else if u = wFlag then fgS B n p else if u = wPut then puS B n p else if u = wWash then waS B n p else if u = wHang then haS B n p else if u = wWind then wiS B n p else if u = wPass then paS B n p else fltS 1 p
theorem th_word {B : AF} {n : Nat} {u : List Int32} {p : PT} (hk : isP 2 p) (e : wls B p.2.2.1 (p.2.1 - p.2.2.1) = u) : thS B n p = lnS B n u p := by
  have w := fun {w : List Int32} => word_iff (w := w) hk e
  unfold thS deS lnS
  simp only [w]
theorem th_no {B : AF} {n : Nat} {p : PT} (hk : ¬ p.2.2.2.1 = 2) : thS B n p = fltS 1 p := by
  have w : ∀ w, ¬ wordP B w p := fun w h => hk h.1.2
  unfold thS deS
  simp only [w, if_false]
theorem LQ.tr {g : GC} {y x bf n lw wa : Nat} {S : Int32 → Nat} {B : AF} {p' : PT} {σ σ' τ : AH} {w : Option Value} (h : LQ g y x bf S B n lw wa p' σ' w τ) (k : ky y lw σ σ') : LQ g y x bf S B n lw wa p' σ w τ := ⟨h.1, h.2.1, h.2.2.1, h.2.2.2.1, h.2.2.2.2.1, k.tr h.2.2.2.2.2⟩
theorem LX.tr {y lw : Nat} {p' : PT} {σ σ' τ : AH} {E : String} {q : Nat} (h : LX y lw p' σ' E q τ) (k : ky y lw σ σ') : LX y lw p' σ E q τ := ⟨h.1, h.2.1, h.2.2.1, k.tr h.2.2.2⟩
theorem lt_cnt2 {M : Int32} {c m : Nat} (hM : M = nI c) (hc : c ≤ m) (hm : m < 100) : M < nI m ↔ ¬ M = nI m := by
  have k := lt_cnt hM hc hm
  rw [← hM] at k
  exact k
theorem wld_co (W : WA) {N : AF} (hC : nC N ≤ 6) (v : Int32) : wldC W (coN N v) = .inr (.inl (4, [.int (N 9), .ref (wR W), .ref (wM W), .ref (wNL W), .ref (wFL W), .ref (wUN W), .int (N 6 + 1), .int (N 8), .int (N 0), .int (N 1), .int (N 2), .int (N 3), .int (N 4), .int (N 5), .int (N 11)])) := by
  show (.inr (.inl (4, _)) : AE) = _
  rw [coN_6, coN_ne N v (j := 9) (by decide) (by omega), coN_ne N v (j := 8) (by decide) (by omega), coN_ne N v (j := 0) (by decide) (by omega), coN_ne N v (j := 1) (by decide) (by omega), coN_ne N v (j := 2) (by decide) (by omega), coN_ne N v (j := 3) (by decide) (by omega), coN_ne N v (j := 4) (by decide) (by omega), coN_ne N v (j := 5) (by decide) (by omega), coN_ne N v (j := 11) (by decide) (by omega)]
theorem wld_tu (W : WA) {N : AF} (v : Int32) : wldC W (tuN N v) = .inr (.inl (4, [.int (N 9), .ref (wR W), .ref (wM W), .ref (wNL W), .ref (wFL W), .ref (wUN W), .int (N 6), .int (N 8 + 1), .int (N 0), .int (N 1), .int (N 2), .int (N 3), .int (N 4), .int (N 5), .int (N 11)])) := by
  show (.inr (.inl (4, _)) : AE) = _
  rw [tuN_8, tuN_ne N v (j := 9) (by decide) (by omega), tuN_ne N v (j := 6) (by decide) (by omega), tuN_ne N v (j := 0) (by decide) (by omega), tuN_ne N v (j := 1) (by decide) (by omega), tuN_ne N v (j := 2) (by decide) (by omega), tuN_ne N v (j := 3) (by decide) (by omega), tuN_ne N v (j := 4) (by decide) (by omega), tuN_ne N v (j := 5) (by decide) (by omega), tuN_ne N v (j := 11) (by decide) (by omega)]
theorem own.wi {lo : Nat} {W : WA} {N : AF} (h : own lo W N) (v : Int32) : own lo W (va_up N 1 v) := h.up (by unfold nN; rw [va_up_ne _ _ (by decide)]) (by unfold nF; rw [va_up_ne _ _ (by decide)])
theorem c_lnFlag {l : Launch} {g : GC} (σ : AH) (y x bf n lo : Nat) (S : Int32 → Nat) (W : WA) (B N : AF) (p : PT) (h : PRW g σ y x bf S B n (.ref (wW W)) p) (hS : SRT g S) (h0 : pcd p = 0) (hN : p.1 = N) (hR : RW g σ W N) (hO : own lo W N) (hG : GN N) (hl0 : lo ≤ σ.2) (hy : y < lo) (hx : x < lo) (hb : bf < lo) (hk2 : p.2.2.2.1 = 2) (hwd : wls B p.2.2.1 (p.2.1 - p.2.2.1) = wFlag) : AMet l g mX3_line 46 150 [.ref y] σ (LQ g y x bf S B n lo (wW W) (thS B n p) σ) (LX y lo (thS B n p) σ) := by
  refine A_of rfl (by decide) (Nat.le_of_ble_eq_true rfl) (L0 := [(0, .ref y)]) rfl ?_
  refine A_wfh (fun wσ hgσ => ?_)
  have qσ : kl lo σ σ := kl.rf
  refine A_gok (fun hgk => ?_)
  have hD := hG.1
  have hw := hG.2.1
  have hl := hl0
  obtain ⟨v, wd, ⟨hC, ⟨⟨bd, pe, ep, nv, dq, sv, ou, hX⟩, hBf, hn5, hby⟩, hvv, htk, hcn, hsc⟩, hPW⟩ := id h
  have hW := hD.1
  have hR9 := hR
  obtain ⟨h1, ⟨fr, h2, h2p⟩, ⟨fm, h3, h3p⟩, ⟨mcn, fnA, h4, h4p, h4q⟩, ⟨mcf, ffA, h5, h5p, h5q⟩, ⟨fu, h6, h6p⟩, h7, h8, h9, h10, h11⟩ := hR
  have hF12 : nF N ≤ 12 := hW.2.2.2.2.2
  have hN4 : nN N ≤ 4 := hW.2.1.2
  have hC6 : nC N ≤ 6 := hW.1.2
  have hT3 : nT N ≤ 3 := hW.2.2.1.2
  have hP8 : nP N ≤ 8 := hW.2.2.2.1.2
  obtain ⟨_, hw6, hw0, va, hNS⟩ : p.2.2.2.1 = 2 ∧ p.2.1 - p.2.2.1 ≤ 6 ∧ 0 < p.2.1 - p.2.2.1 ∧ ∃ va, NST σ wd va 0 0 (wls B p.2.2.1 (p.2.1 - p.2.2.1)) := hPW.resolve_right (fun q => q.1 hk2)
  rw [hwd] at hNS
  have hlu : (wls B p.2.2.1 (p.2.1 - p.2.2.1)).length = p.2.1 - p.2.2.1 := wls_len _ _ _
  rw [hwd] at hlu
  have hu6 : wFlag.length ≤ 6 := by rw [hlu]; exact hw6
  have hu0 : 0 < wFlag.length := by rw [hlu]; exact hw0
  refine A_aload_n (i := 0) dX3_line_0 rfl rfl ?_
  refine A_aload_n (i := 0) dX3_line_1 rfl rfl ?_
  refine A_getf cb_X3 hC 4 (Nat.le_of_ble_eq_true rfl) q688 rfl (v := .ref (S p.2.2.2.1)) rfl dX3_line_2 ?_
  refine A_getsO hS.2.2.1 q429 rfl dX3_line_5 ?_
  refine A_acmp_ne_f (tgt := 15) (x := (some (S p.2.2.2.1))) (y := (some (S 2))) dX3_line_8 (by decide) (by rw [hk2]) ?_
  refine A_iconst (v := 1) dX3_line_11 (by decide) ?_
  refine A_goto (tgt := 16) dX3_line_12 (by decide) ?_
  refine A_iconst (v := 1) dX3_line_16 (by decide) ?_
  refine A_callV2E (b' := 150) (v := none) (τ := σ) (c_pChk σ y 1) tX3_check q722 hC rfl rfl dX3_line_17 (by decide) (Nat.le_of_ble_eq_true rfl) (Nat.le_of_ble_eq_true rfl) ?_
  refine A_aload_n (i := 0) dX3_line_20 rfl rfl ?_
  refine A_getf cb_X3 hC 5 (Nat.le_of_ble_eq_true rfl) q689 rfl (v := .ref wd) rfl dX3_line_21 ?_
  refine A_astore_n (i := 1) dX3_line_24 rfl (Nat.le_of_ble_eq_true rfl) ?_
  obtain ⟨ac, hac, hsc9⟩ := litP197 hgk
  refine A_iconst (v := (-1)) dX3_line_25 (by decide) ?_
  refine A_istore_n (i := 2) dX3_line_26 rfl (Nat.le_of_ble_eq_true rfl) ?_
  refine A_aload_n (i := 1) dX3_line_27 rfl rfl ?_
  have hth : thS B n p = fgS B n p := (th_word ⟨h0, hk2⟩ hwd).trans (by unfold lnS; rw [if_neg (by decide)]; rw [if_neg (by decide)]; rw [if_neg (by decide)]; rw [if_pos rfl])
  refine A_callV0 (b' := 150) (c_strHash σ wd va wFlag hNS hu6 hu0) tJ4_hashCode q893 hNS.1 rfl rfl dX3_line_28 (by decide) (Nat.le_of_ble_eq_true rfl) (Nat.le_of_ble_eq_true rfl) (fun w9 τh hh => ?_) (fun E9 q9 τ9 h9 => h9.elim)
  obtain ⟨e9, ⟨hh9, hz9, hN9⟩, k9⟩ := hh
  rw [show hsU wFlag wFlag.length = 3145580 by decide +kernel] at e9
  subst e9
  refine A_wfh (fun wτh hgτh => ?_)
  have kyτh : ky y lo σ τh := ky.rf.st hNS.1 k9 hl0
  have hl : lo ≤ τh.2 := Nat.le_trans hl0 kyτh.1
  have qτh : kl lo τh τh := kl.rf
  have hRh : RW g τh W N := hR9.oth wσ hNS.1 (isW_no (by decide)) k9
  have hRc := hRh
  obtain ⟨h1_h, ⟨fr_h, h2_h, h2p_h⟩, ⟨fm_h, h3_h, h3p_h⟩, ⟨mcn_h, fnA_h, h4_h, h4p_h, h4q_h⟩, ⟨mcf_h, ffA_h, h5_h, h5p_h, h5q_h⟩, ⟨fu_h, h6_h, h6p_h⟩, h7_h, h8_h, h9_h, h10_h, h11_h⟩ := hRc
  have fτh_h_0 : τh.1 (wW W) = some (.inr (.inl (4, [.int (N 9), .ref (wR W), .ref (wM W), .ref (wNL W), .ref (wFL W), .ref (wUN W), .int (N 6), .int (N 8), .int (N 0), .int (N 1), .int (N 2), .int (N 3), .int (N 4), .int (N 5), .int (N 11)]))) := h1_h
  have fτh_h_1 : τh.1 (wFL W) = some (.inr (.inl (14, [.int mcf_h, .ref (wFA W), .int (nI (nF N))]))) := h5_h
  have fτh_h_2 : τh.1 (wFA W) = some (.inl (.object "java/lang/Object", 12, .inr (.inr (.inr (.inr ffA_h))))) := h5p_h
  have fτh_h_3 : τh.1 (wNL W) = some (.inr (.inl (14, [.int mcn_h, .ref (wNA W), .int (nI (nN N))]))) := h4_h
  have fτh_h_4 : τh.1 (wNA W) = some (.inl (.object "java/lang/Object", 4, .inr (.inr (.inr (.inr fnA_h))))) := h4p_h
  have fτh_h_5 : τh.1 (wR W) = some (.inl (.int, 6, .inl fr_h)) := h2_h
  have fτh_h_6 : τh.1 (wM W) = some (.inl (.int, 3, .inl fm_h)) := h3_h
  have fτh_h_7 : τh.1 (wUN W) = some (.inl (.object "FlagLaundry$Test", 7, .inr (.inr (.inr (.inr fu_h))))) := h6_h
  have gyh : τh.1 y = some (.inr (.inl (2, [.int (nI n), .int (nI p.2.1), .int (nI p.2.2.1), .int v, .ref (S p.2.2.2.1), .ref wd, .ref (wW W), .ref x]))) := k9.at wσ hC (ne_of hC hNS.1 (fun q => by simp at q))
  have gxh : τh.1 x = some (.inr (.inl (0, [.ref bf, .int bd, .int pe, .int ep, nv, .ref dq, .ref sv, .ref ou]))) := k9.at wσ hX (ne_of hX hNS.1 (fun q => by simp at q))
  have gbfh : τh.1 bf = some (.inl (.byte, 500, .inl B)) := k9.at wσ hBf (ne_of hBf hNS.1 (fun q => by simp at q))
  refine A_lookup (off := 123) (tgt := 154) dX3_line_31 (by decide +kernel) (by decide +kernel) (by decide) ?_
  refine A_aload_n (i := 1) dX3_line_154 rfl rfl ?_
  refine A_ldcO hac dX3_line_155 ?_
  refine A_callV1E (b' := 150) (v := some (.int (bi (wFlag = wFlag)))) (τ := τh) (c_strEq τh wd va ac hh9 hz9 wFlag wFlag hN9 hsc9 (Nat.lt_of_le_of_lt hu6 (by decide)) (by decide)) tJ4_equals q714 hN9.1 rfl rfl dX3_line_157 (by decide) (Nat.le_of_ble_eq_true rfl) (Nat.le_of_ble_eq_true rfl) ?_
  refine A_int (w := 1) (bi_t rfl) ?_
  refine A_if_eq_f (tgt := 238) dX3_line_160 (by decide) (by decide) ?_
  refine A_iconst (v := 3) dX3_line_163 (by decide) ?_
  refine A_istore_n (i := 2) dX3_line_164 rfl (Nat.le_of_ble_eq_true rfl) ?_
  refine A_goto (tgt := 238) dX3_line_165 (by decide) ?_
  refine A_iload_n (i := 2) dX3_line_238 rfl rfl ?_
  refine A_tableIn (tgt := 449) dX3_line_239 (by decide) (by decide) rfl (by decide) ?_
  refine A_aload_n (i := 0) dX3_line_449 rfl rfl ?_
  refine A_callV0 (b' := 10) (c_pFlag τh y x bf n lo S W B N p ⟨v, wd, gyh, ⟨⟨bd, pe, ep, nv, dq, sv, ou, gxh⟩, gbfh, hn5, hby⟩, hvv, htk, hcn, hsc⟩ hS h0 hN hRh hO hG hl hy hx hb) tX3_flagLine q1070 gyh rfl rfl dX3_line_450 (by decide) (Nat.le_of_ble_eq_true rfl) (Nat.le_of_ble_eq_true rfl) (fun w9 τlq hlq => ?_) (fun E9 q9 τ9 h9 => A_out rfl (by rw [hth]; exact h9.tr kyτh))
  have e9 := hlq.1
  subst e9
  refine A_goto (tgt := 527) dX3_line_453 (by decide) ?_
  exact A_vret dX3_line_527 rfl (by rw [hth]; exact hlq.tr kyτh)
theorem c_lnPut {l : Launch} {g : GC} (σ : AH) (y x bf n lo : Nat) (S : Int32 → Nat) (W : WA) (B N : AF) (p : PT) (h : PRW g σ y x bf S B n (.ref (wW W)) p) (hS : SRT g S) (h0 : pcd p = 0) (hN : p.1 = N) (hR : RW g σ W N) (hO : own lo W N) (hG : GN N) (hl0 : lo ≤ σ.2) (hy : y < lo) (hx : x < lo) (hb : bf < lo) (hk2 : p.2.2.2.1 = 2) (hwd : wls B p.2.2.1 (p.2.1 - p.2.2.1) = wPut) : AMet l g mX3_line 46 150 [.ref y] σ (LQ g y x bf S B n lo (wW W) (thS B n p) σ) (LX y lo (thS B n p) σ) := by
  refine A_of rfl (by decide) (Nat.le_of_ble_eq_true rfl) (L0 := [(0, .ref y)]) rfl ?_
  refine A_wfh (fun wσ hgσ => ?_)
  have qσ : kl lo σ σ := kl.rf
  refine A_gok (fun hgk => ?_)
  have hD := hG.1
  have hw := hG.2.1
  have hl := hl0
  obtain ⟨v, wd, ⟨hC, ⟨⟨bd, pe, ep, nv, dq, sv, ou, hX⟩, hBf, hn5, hby⟩, hvv, htk, hcn, hsc⟩, hPW⟩ := id h
  have hW := hD.1
  have hR9 := hR
  obtain ⟨h1, ⟨fr, h2, h2p⟩, ⟨fm, h3, h3p⟩, ⟨mcn, fnA, h4, h4p, h4q⟩, ⟨mcf, ffA, h5, h5p, h5q⟩, ⟨fu, h6, h6p⟩, h7, h8, h9, h10, h11⟩ := hR
  have hF12 : nF N ≤ 12 := hW.2.2.2.2.2
  have hN4 : nN N ≤ 4 := hW.2.1.2
  have hC6 : nC N ≤ 6 := hW.1.2
  have hT3 : nT N ≤ 3 := hW.2.2.1.2
  have hP8 : nP N ≤ 8 := hW.2.2.2.1.2
  obtain ⟨_, hw6, hw0, va, hNS⟩ : p.2.2.2.1 = 2 ∧ p.2.1 - p.2.2.1 ≤ 6 ∧ 0 < p.2.1 - p.2.2.1 ∧ ∃ va, NST σ wd va 0 0 (wls B p.2.2.1 (p.2.1 - p.2.2.1)) := hPW.resolve_right (fun q => q.1 hk2)
  rw [hwd] at hNS
  have hlu : (wls B p.2.2.1 (p.2.1 - p.2.2.1)).length = p.2.1 - p.2.2.1 := wls_len _ _ _
  rw [hwd] at hlu
  have hu6 : wPut.length ≤ 6 := by rw [hlu]; exact hw6
  have hu0 : 0 < wPut.length := by rw [hlu]; exact hw0
  refine A_aload_n (i := 0) dX3_line_0 rfl rfl ?_
  refine A_aload_n (i := 0) dX3_line_1 rfl rfl ?_
  refine A_getf cb_X3 hC 4 (Nat.le_of_ble_eq_true rfl) q688 rfl (v := .ref (S p.2.2.2.1)) rfl dX3_line_2 ?_
  refine A_getsO hS.2.2.1 q429 rfl dX3_line_5 ?_
  refine A_acmp_ne_f (tgt := 15) (x := (some (S p.2.2.2.1))) (y := (some (S 2))) dX3_line_8 (by decide) (by rw [hk2]) ?_
  refine A_iconst (v := 1) dX3_line_11 (by decide) ?_
  refine A_goto (tgt := 16) dX3_line_12 (by decide) ?_
  refine A_iconst (v := 1) dX3_line_16 (by decide) ?_
  refine A_callV2E (b' := 150) (v := none) (τ := σ) (c_pChk σ y 1) tX3_check q722 hC rfl rfl dX3_line_17 (by decide) (Nat.le_of_ble_eq_true rfl) (Nat.le_of_ble_eq_true rfl) ?_
  refine A_aload_n (i := 0) dX3_line_20 rfl rfl ?_
  refine A_getf cb_X3 hC 5 (Nat.le_of_ble_eq_true rfl) q689 rfl (v := .ref wd) rfl dX3_line_21 ?_
  refine A_astore_n (i := 1) dX3_line_24 rfl (Nat.le_of_ble_eq_true rfl) ?_
  obtain ⟨ac, hac, hsc9⟩ := litP199 hgk
  refine A_iconst (v := (-1)) dX3_line_25 (by decide) ?_
  refine A_istore_n (i := 2) dX3_line_26 rfl (Nat.le_of_ble_eq_true rfl) ?_
  refine A_aload_n (i := 1) dX3_line_27 rfl rfl ?_
  have hth : thS B n p = puS B n p := (th_word ⟨h0, hk2⟩ hwd).trans (by unfold lnS; rw [if_neg (by decide)]; rw [if_neg (by decide)]; rw [if_neg (by decide)]; rw [if_neg (by decide)]; rw [if_pos rfl])
  refine A_callV0 (b' := 150) (c_strHash σ wd va wPut hNS hu6 hu0) tJ4_hashCode q893 hNS.1 rfl rfl dX3_line_28 (by decide) (Nat.le_of_ble_eq_true rfl) (Nat.le_of_ble_eq_true rfl) (fun w9 τh hh => ?_) (fun E9 q9 τ9 h9 => h9.elim)
  obtain ⟨e9, ⟨hh9, hz9, hN9⟩, k9⟩ := hh
  rw [show hsU wPut wPut.length = 111375 by decide +kernel] at e9
  subst e9
  refine A_wfh (fun wτh hgτh => ?_)
  have kyτh : ky y lo σ τh := ky.rf.st hNS.1 k9 hl0
  have hl : lo ≤ τh.2 := Nat.le_trans hl0 kyτh.1
  have qτh : kl lo τh τh := kl.rf
  have hRh : RW g τh W N := hR9.oth wσ hNS.1 (isW_no (by decide)) k9
  have hRc := hRh
  obtain ⟨h1_h, ⟨fr_h, h2_h, h2p_h⟩, ⟨fm_h, h3_h, h3p_h⟩, ⟨mcn_h, fnA_h, h4_h, h4p_h, h4q_h⟩, ⟨mcf_h, ffA_h, h5_h, h5p_h, h5q_h⟩, ⟨fu_h, h6_h, h6p_h⟩, h7_h, h8_h, h9_h, h10_h, h11_h⟩ := hRc
  have fτh_h_0 : τh.1 (wW W) = some (.inr (.inl (4, [.int (N 9), .ref (wR W), .ref (wM W), .ref (wNL W), .ref (wFL W), .ref (wUN W), .int (N 6), .int (N 8), .int (N 0), .int (N 1), .int (N 2), .int (N 3), .int (N 4), .int (N 5), .int (N 11)]))) := h1_h
  have fτh_h_1 : τh.1 (wFL W) = some (.inr (.inl (14, [.int mcf_h, .ref (wFA W), .int (nI (nF N))]))) := h5_h
  have fτh_h_2 : τh.1 (wFA W) = some (.inl (.object "java/lang/Object", 12, .inr (.inr (.inr (.inr ffA_h))))) := h5p_h
  have fτh_h_3 : τh.1 (wNL W) = some (.inr (.inl (14, [.int mcn_h, .ref (wNA W), .int (nI (nN N))]))) := h4_h
  have fτh_h_4 : τh.1 (wNA W) = some (.inl (.object "java/lang/Object", 4, .inr (.inr (.inr (.inr fnA_h))))) := h4p_h
  have fτh_h_5 : τh.1 (wR W) = some (.inl (.int, 6, .inl fr_h)) := h2_h
  have fτh_h_6 : τh.1 (wM W) = some (.inl (.int, 3, .inl fm_h)) := h3_h
  have fτh_h_7 : τh.1 (wUN W) = some (.inl (.object "FlagLaundry$Test", 7, .inr (.inr (.inr (.inr fu_h))))) := h6_h
  have gyh : τh.1 y = some (.inr (.inl (2, [.int (nI n), .int (nI p.2.1), .int (nI p.2.2.1), .int v, .ref (S p.2.2.2.1), .ref wd, .ref (wW W), .ref x]))) := k9.at wσ hC (ne_of hC hNS.1 (fun q => by simp at q))
  have gxh : τh.1 x = some (.inr (.inl (0, [.ref bf, .int bd, .int pe, .int ep, nv, .ref dq, .ref sv, .ref ou]))) := k9.at wσ hX (ne_of hX hNS.1 (fun q => by simp at q))
  have gbfh : τh.1 bf = some (.inl (.byte, 500, .inl B)) := k9.at wσ hBf (ne_of hBf hNS.1 (fun q => by simp at q))
  refine A_lookup (off := 137) (tgt := 168) dX3_line_31 (by decide +kernel) (by decide +kernel) (by decide) ?_
  refine A_aload_n (i := 1) dX3_line_168 rfl rfl ?_
  refine A_ldcO hac dX3_line_169 ?_
  refine A_callV1E (b' := 150) (v := some (.int (bi (wPut = wPut)))) (τ := τh) (c_strEq τh wd va ac hh9 hz9 wPut wPut hN9 hsc9 (Nat.lt_of_le_of_lt hu6 (by decide)) (by decide)) tJ4_equals q714 hN9.1 rfl rfl dX3_line_171 (by decide) (Nat.le_of_ble_eq_true rfl) (Nat.le_of_ble_eq_true rfl) ?_
  refine A_int (w := 1) (bi_t rfl) ?_
  refine A_if_eq_f (tgt := 238) dX3_line_174 (by decide) (by decide) ?_
  refine A_iconst (v := 4) dX3_line_177 (by decide) ?_
  refine A_istore_n (i := 2) dX3_line_178 rfl (Nat.le_of_ble_eq_true rfl) ?_
  refine A_goto (tgt := 238) dX3_line_179 (by decide) ?_
  refine A_iload_n (i := 2) dX3_line_238 rfl rfl ?_
  refine A_tableIn (tgt := 456) dX3_line_239 (by decide) (by decide) rfl (by decide) ?_
  refine A_aload_n (i := 0) dX3_line_456 rfl rfl ?_
  refine A_callV0 (b' := 100) (c_pPut τh y x bf n lo S W B N p ⟨v, wd, gyh, ⟨⟨bd, pe, ep, nv, dq, sv, ou, gxh⟩, gbfh, hn5, hby⟩, hvv, htk, hcn, hsc⟩ hS h0 hN hRh hO hG hl hy hx hb) tX3_putLine q1146 gyh rfl rfl dX3_line_457 (by decide) (Nat.le_of_ble_eq_true rfl) (Nat.le_of_ble_eq_true rfl) (fun w9 τlq hlq => ?_) (fun E9 q9 τ9 h9 => A_out rfl (by rw [hth]; exact h9.tr kyτh))
  have e9 := hlq.1
  subst e9
  refine A_goto (tgt := 527) dX3_line_460 (by decide) ?_
  exact A_vret dX3_line_527 rfl (by rw [hth]; exact hlq.tr kyτh)
theorem c_lnWash {l : Launch} {g : GC} (σ : AH) (y x bf n lo : Nat) (S : Int32 → Nat) (W : WA) (B N : AF) (p : PT) (h : PRW g σ y x bf S B n (.ref (wW W)) p) (hS : SRT g S) (h0 : pcd p = 0) (hN : p.1 = N) (hR : RW g σ W N) (hO : own lo W N) (hG : GN N) (hl0 : lo ≤ σ.2) (hy : y < lo) (hx : x < lo) (hb : bf < lo) (hk2 : p.2.2.2.1 = 2) (hwd : wls B p.2.2.1 (p.2.1 - p.2.2.1) = wWash) : AMet l g mX3_line 46 150 [.ref y] σ (LQ g y x bf S B n lo (wW W) (thS B n p) σ) (LX y lo (thS B n p) σ) := by
  refine A_of rfl (by decide) (Nat.le_of_ble_eq_true rfl) (L0 := [(0, .ref y)]) rfl ?_
  refine A_wfh (fun wσ hgσ => ?_)
  have qσ : kl lo σ σ := kl.rf
  refine A_gok (fun hgk => ?_)
  have hD := hG.1
  have hw := hG.2.1
  have hl := hl0
  obtain ⟨v, wd, ⟨hC, ⟨⟨bd, pe, ep, nv, dq, sv, ou, hX⟩, hBf, hn5, hby⟩, hvv, htk, hcn, hsc⟩, hPW⟩ := id h
  have hW := hD.1
  have hR9 := hR
  obtain ⟨h1, ⟨fr, h2, h2p⟩, ⟨fm, h3, h3p⟩, ⟨mcn, fnA, h4, h4p, h4q⟩, ⟨mcf, ffA, h5, h5p, h5q⟩, ⟨fu, h6, h6p⟩, h7, h8, h9, h10, h11⟩ := hR
  have hF12 : nF N ≤ 12 := hW.2.2.2.2.2
  have hN4 : nN N ≤ 4 := hW.2.1.2
  have hC6 : nC N ≤ 6 := hW.1.2
  have hT3 : nT N ≤ 3 := hW.2.2.1.2
  have hP8 : nP N ≤ 8 := hW.2.2.2.1.2
  obtain ⟨_, hw6, hw0, va, hNS⟩ : p.2.2.2.1 = 2 ∧ p.2.1 - p.2.2.1 ≤ 6 ∧ 0 < p.2.1 - p.2.2.1 ∧ ∃ va, NST σ wd va 0 0 (wls B p.2.2.1 (p.2.1 - p.2.2.1)) := hPW.resolve_right (fun q => q.1 hk2)
  rw [hwd] at hNS
  have hlu : (wls B p.2.2.1 (p.2.1 - p.2.2.1)).length = p.2.1 - p.2.2.1 := wls_len _ _ _
  rw [hwd] at hlu
  have hu6 : wWash.length ≤ 6 := by rw [hlu]; exact hw6
  have hu0 : 0 < wWash.length := by rw [hlu]; exact hw0
  refine A_aload_n (i := 0) dX3_line_0 rfl rfl ?_
  refine A_aload_n (i := 0) dX3_line_1 rfl rfl ?_
  refine A_getf cb_X3 hC 4 (Nat.le_of_ble_eq_true rfl) q688 rfl (v := .ref (S p.2.2.2.1)) rfl dX3_line_2 ?_
  refine A_getsO hS.2.2.1 q429 rfl dX3_line_5 ?_
  refine A_acmp_ne_f (tgt := 15) (x := (some (S p.2.2.2.1))) (y := (some (S 2))) dX3_line_8 (by decide) (by rw [hk2]) ?_
  refine A_iconst (v := 1) dX3_line_11 (by decide) ?_
  refine A_goto (tgt := 16) dX3_line_12 (by decide) ?_
  refine A_iconst (v := 1) dX3_line_16 (by decide) ?_
  refine A_callV2E (b' := 150) (v := none) (τ := σ) (c_pChk σ y 1) tX3_check q722 hC rfl rfl dX3_line_17 (by decide) (Nat.le_of_ble_eq_true rfl) (Nat.le_of_ble_eq_true rfl) ?_
  refine A_aload_n (i := 0) dX3_line_20 rfl rfl ?_
  refine A_getf cb_X3 hC 5 (Nat.le_of_ble_eq_true rfl) q689 rfl (v := .ref wd) rfl dX3_line_21 ?_
  refine A_astore_n (i := 1) dX3_line_24 rfl (Nat.le_of_ble_eq_true rfl) ?_
  obtain ⟨ac, hac, hsc9⟩ := litP201 hgk
  refine A_iconst (v := (-1)) dX3_line_25 (by decide) ?_
  refine A_istore_n (i := 2) dX3_line_26 rfl (Nat.le_of_ble_eq_true rfl) ?_
  refine A_aload_n (i := 1) dX3_line_27 rfl rfl ?_
  have hth : thS B n p = waS B n p := (th_word ⟨h0, hk2⟩ hwd).trans (by unfold lnS; rw [if_neg (by decide)]; rw [if_neg (by decide)]; rw [if_neg (by decide)]; rw [if_neg (by decide)]; rw [if_neg (by decide)]; rw [if_pos rfl])
  refine A_callV0 (b' := 150) (c_strHash σ wd va wWash hNS hu6 hu0) tJ4_hashCode q893 hNS.1 rfl rfl dX3_line_28 (by decide) (Nat.le_of_ble_eq_true rfl) (Nat.le_of_ble_eq_true rfl) (fun w9 τh hh => ?_) (fun E9 q9 τ9 h9 => h9.elim)
  obtain ⟨e9, ⟨hh9, hz9, hN9⟩, k9⟩ := hh
  rw [show hsU wWash wWash.length = 3642015 by decide +kernel] at e9
  subst e9
  refine A_wfh (fun wτh hgτh => ?_)
  have kyτh : ky y lo σ τh := ky.rf.st hNS.1 k9 hl0
  have hl : lo ≤ τh.2 := Nat.le_trans hl0 kyτh.1
  have qτh : kl lo τh τh := kl.rf
  have hRh : RW g τh W N := hR9.oth wσ hNS.1 (isW_no (by decide)) k9
  have hRc := hRh
  obtain ⟨h1_h, ⟨fr_h, h2_h, h2p_h⟩, ⟨fm_h, h3_h, h3p_h⟩, ⟨mcn_h, fnA_h, h4_h, h4p_h, h4q_h⟩, ⟨mcf_h, ffA_h, h5_h, h5p_h, h5q_h⟩, ⟨fu_h, h6_h, h6p_h⟩, h7_h, h8_h, h9_h, h10_h, h11_h⟩ := hRc
  have fτh_h_0 : τh.1 (wW W) = some (.inr (.inl (4, [.int (N 9), .ref (wR W), .ref (wM W), .ref (wNL W), .ref (wFL W), .ref (wUN W), .int (N 6), .int (N 8), .int (N 0), .int (N 1), .int (N 2), .int (N 3), .int (N 4), .int (N 5), .int (N 11)]))) := h1_h
  have fτh_h_1 : τh.1 (wFL W) = some (.inr (.inl (14, [.int mcf_h, .ref (wFA W), .int (nI (nF N))]))) := h5_h
  have fτh_h_2 : τh.1 (wFA W) = some (.inl (.object "java/lang/Object", 12, .inr (.inr (.inr (.inr ffA_h))))) := h5p_h
  have fτh_h_3 : τh.1 (wNL W) = some (.inr (.inl (14, [.int mcn_h, .ref (wNA W), .int (nI (nN N))]))) := h4_h
  have fτh_h_4 : τh.1 (wNA W) = some (.inl (.object "java/lang/Object", 4, .inr (.inr (.inr (.inr fnA_h))))) := h4p_h
  have fτh_h_5 : τh.1 (wR W) = some (.inl (.int, 6, .inl fr_h)) := h2_h
  have fτh_h_6 : τh.1 (wM W) = some (.inl (.int, 3, .inl fm_h)) := h3_h
  have fτh_h_7 : τh.1 (wUN W) = some (.inl (.object "FlagLaundry$Test", 7, .inr (.inr (.inr (.inr fu_h))))) := h6_h
  have gyh : τh.1 y = some (.inr (.inl (2, [.int (nI n), .int (nI p.2.1), .int (nI p.2.2.1), .int v, .ref (S p.2.2.2.1), .ref wd, .ref (wW W), .ref x]))) := k9.at wσ hC (ne_of hC hNS.1 (fun q => by simp at q))
  have gxh : τh.1 x = some (.inr (.inl (0, [.ref bf, .int bd, .int pe, .int ep, nv, .ref dq, .ref sv, .ref ou]))) := k9.at wσ hX (ne_of hX hNS.1 (fun q => by simp at q))
  have gbfh : τh.1 bf = some (.inl (.byte, 500, .inl B)) := k9.at wσ hBf (ne_of hBf hNS.1 (fun q => by simp at q))
  refine A_lookup (off := 151) (tgt := 182) dX3_line_31 (by decide +kernel) (by decide +kernel) (by decide) ?_
  refine A_aload_n (i := 1) dX3_line_182 rfl rfl ?_
  refine A_ldcO hac dX3_line_183 ?_
  refine A_callV1E (b' := 150) (v := some (.int (bi (wWash = wWash)))) (τ := τh) (c_strEq τh wd va ac hh9 hz9 wWash wWash hN9 hsc9 (Nat.lt_of_le_of_lt hu6 (by decide)) (by decide)) tJ4_equals q714 hN9.1 rfl rfl dX3_line_185 (by decide) (Nat.le_of_ble_eq_true rfl) (Nat.le_of_ble_eq_true rfl) ?_
  refine A_int (w := 1) (bi_t rfl) ?_
  refine A_if_eq_f (tgt := 238) dX3_line_188 (by decide) (by decide) ?_
  refine A_iconst (v := 5) dX3_line_191 (by decide) ?_
  refine A_istore_n (i := 2) dX3_line_192 rfl (Nat.le_of_ble_eq_true rfl) ?_
  refine A_goto (tgt := 238) dX3_line_193 (by decide) ?_
  refine A_iload_n (i := 2) dX3_line_238 rfl rfl ?_
  refine A_tableIn (tgt := 463) dX3_line_239 (by decide) (by decide) rfl (by decide) ?_
  refine A_aload_n (i := 0) dX3_line_463 rfl rfl ?_
  refine A_callV0 (b' := 100) (c_pWash τh y x bf n lo S W B N p ⟨v, wd, gyh, ⟨⟨bd, pe, ep, nv, dq, sv, ou, gxh⟩, gbfh, hn5, hby⟩, hvv, htk, hcn, hsc⟩ hS h0 hN hRh hO hG hl hy hx hb) tX3_washLine q1234 gyh rfl rfl dX3_line_464 (by decide) (Nat.le_of_ble_eq_true rfl) (Nat.le_of_ble_eq_true rfl) (fun w9 τlq hlq => ?_) (fun E9 q9 τ9 h9 => A_out rfl (by rw [hth]; exact h9.tr kyτh))
  have e9 := hlq.1
  subst e9
  refine A_goto (tgt := 527) dX3_line_467 (by decide) ?_
  exact A_vret dX3_line_527 rfl (by rw [hth]; exact hlq.tr kyτh)
theorem c_lnHang {l : Launch} {g : GC} (σ : AH) (y x bf n lo : Nat) (S : Int32 → Nat) (W : WA) (B N : AF) (p : PT) (h : PRW g σ y x bf S B n (.ref (wW W)) p) (hS : SRT g S) (h0 : pcd p = 0) (hN : p.1 = N) (hR : RW g σ W N) (hO : own lo W N) (hG : GN N) (hl0 : lo ≤ σ.2) (hy : y < lo) (hx : x < lo) (hb : bf < lo) (hk2 : p.2.2.2.1 = 2) (hwd : wls B p.2.2.1 (p.2.1 - p.2.2.1) = wHang) : AMet l g mX3_line 46 150 [.ref y] σ (LQ g y x bf S B n lo (wW W) (thS B n p) σ) (LX y lo (thS B n p) σ) := by
  refine A_of rfl (by decide) (Nat.le_of_ble_eq_true rfl) (L0 := [(0, .ref y)]) rfl ?_
  refine A_wfh (fun wσ hgσ => ?_)
  have qσ : kl lo σ σ := kl.rf
  refine A_gok (fun hgk => ?_)
  have hD := hG.1
  have hw := hG.2.1
  have hl := hl0
  obtain ⟨v, wd, ⟨hC, ⟨⟨bd, pe, ep, nv, dq, sv, ou, hX⟩, hBf, hn5, hby⟩, hvv, htk, hcn, hsc⟩, hPW⟩ := id h
  have hW := hD.1
  have hR9 := hR
  obtain ⟨h1, ⟨fr, h2, h2p⟩, ⟨fm, h3, h3p⟩, ⟨mcn, fnA, h4, h4p, h4q⟩, ⟨mcf, ffA, h5, h5p, h5q⟩, ⟨fu, h6, h6p⟩, h7, h8, h9, h10, h11⟩ := hR
  have hF12 : nF N ≤ 12 := hW.2.2.2.2.2
  have hN4 : nN N ≤ 4 := hW.2.1.2
  have hC6 : nC N ≤ 6 := hW.1.2
  have hT3 : nT N ≤ 3 := hW.2.2.1.2
  have hP8 : nP N ≤ 8 := hW.2.2.2.1.2
  obtain ⟨_, hw6, hw0, va, hNS⟩ : p.2.2.2.1 = 2 ∧ p.2.1 - p.2.2.1 ≤ 6 ∧ 0 < p.2.1 - p.2.2.1 ∧ ∃ va, NST σ wd va 0 0 (wls B p.2.2.1 (p.2.1 - p.2.2.1)) := hPW.resolve_right (fun q => q.1 hk2)
  rw [hwd] at hNS
  have hlu : (wls B p.2.2.1 (p.2.1 - p.2.2.1)).length = p.2.1 - p.2.2.1 := wls_len _ _ _
  rw [hwd] at hlu
  have hu6 : wHang.length ≤ 6 := by rw [hlu]; exact hw6
  have hu0 : 0 < wHang.length := by rw [hlu]; exact hw0
  refine A_aload_n (i := 0) dX3_line_0 rfl rfl ?_
  refine A_aload_n (i := 0) dX3_line_1 rfl rfl ?_
  refine A_getf cb_X3 hC 4 (Nat.le_of_ble_eq_true rfl) q688 rfl (v := .ref (S p.2.2.2.1)) rfl dX3_line_2 ?_
  refine A_getsO hS.2.2.1 q429 rfl dX3_line_5 ?_
  refine A_acmp_ne_f (tgt := 15) (x := (some (S p.2.2.2.1))) (y := (some (S 2))) dX3_line_8 (by decide) (by rw [hk2]) ?_
  refine A_iconst (v := 1) dX3_line_11 (by decide) ?_
  refine A_goto (tgt := 16) dX3_line_12 (by decide) ?_
  refine A_iconst (v := 1) dX3_line_16 (by decide) ?_
  refine A_callV2E (b' := 150) (v := none) (τ := σ) (c_pChk σ y 1) tX3_check q722 hC rfl rfl dX3_line_17 (by decide) (Nat.le_of_ble_eq_true rfl) (Nat.le_of_ble_eq_true rfl) ?_
  refine A_aload_n (i := 0) dX3_line_20 rfl rfl ?_
  refine A_getf cb_X3 hC 5 (Nat.le_of_ble_eq_true rfl) q689 rfl (v := .ref wd) rfl dX3_line_21 ?_
  refine A_astore_n (i := 1) dX3_line_24 rfl (Nat.le_of_ble_eq_true rfl) ?_
  obtain ⟨ac, hac, hsc9⟩ := litP203 hgk
  refine A_iconst (v := (-1)) dX3_line_25 (by decide) ?_
  refine A_istore_n (i := 2) dX3_line_26 rfl (Nat.le_of_ble_eq_true rfl) ?_
  refine A_aload_n (i := 1) dX3_line_27 rfl rfl ?_
  have hth : thS B n p = haS B n p := (th_word ⟨h0, hk2⟩ hwd).trans (by unfold lnS; rw [if_neg (by decide)]; rw [if_neg (by decide)]; rw [if_neg (by decide)]; rw [if_neg (by decide)]; rw [if_neg (by decide)]; rw [if_neg (by decide)]; rw [if_pos rfl])
  refine A_callV0 (b' := 150) (c_strHash σ wd va wHang hNS hu6 hu0) tJ4_hashCode q893 hNS.1 rfl rfl dX3_line_28 (by decide) (Nat.le_of_ble_eq_true rfl) (Nat.le_of_ble_eq_true rfl) (fun w9 τh hh => ?_) (fun E9 q9 τ9 h9 => h9.elim)
  obtain ⟨e9, ⟨hh9, hz9, hN9⟩, k9⟩ := hh
  rw [show hsU wHang wHang.length = 3194994 by decide +kernel] at e9
  subst e9
  refine A_wfh (fun wτh hgτh => ?_)
  have kyτh : ky y lo σ τh := ky.rf.st hNS.1 k9 hl0
  have hl : lo ≤ τh.2 := Nat.le_trans hl0 kyτh.1
  have qτh : kl lo τh τh := kl.rf
  have hRh : RW g τh W N := hR9.oth wσ hNS.1 (isW_no (by decide)) k9
  have hRc := hRh
  obtain ⟨h1_h, ⟨fr_h, h2_h, h2p_h⟩, ⟨fm_h, h3_h, h3p_h⟩, ⟨mcn_h, fnA_h, h4_h, h4p_h, h4q_h⟩, ⟨mcf_h, ffA_h, h5_h, h5p_h, h5q_h⟩, ⟨fu_h, h6_h, h6p_h⟩, h7_h, h8_h, h9_h, h10_h, h11_h⟩ := hRc
  have fτh_h_0 : τh.1 (wW W) = some (.inr (.inl (4, [.int (N 9), .ref (wR W), .ref (wM W), .ref (wNL W), .ref (wFL W), .ref (wUN W), .int (N 6), .int (N 8), .int (N 0), .int (N 1), .int (N 2), .int (N 3), .int (N 4), .int (N 5), .int (N 11)]))) := h1_h
  have fτh_h_1 : τh.1 (wFL W) = some (.inr (.inl (14, [.int mcf_h, .ref (wFA W), .int (nI (nF N))]))) := h5_h
  have fτh_h_2 : τh.1 (wFA W) = some (.inl (.object "java/lang/Object", 12, .inr (.inr (.inr (.inr ffA_h))))) := h5p_h
  have fτh_h_3 : τh.1 (wNL W) = some (.inr (.inl (14, [.int mcn_h, .ref (wNA W), .int (nI (nN N))]))) := h4_h
  have fτh_h_4 : τh.1 (wNA W) = some (.inl (.object "java/lang/Object", 4, .inr (.inr (.inr (.inr fnA_h))))) := h4p_h
  have fτh_h_5 : τh.1 (wR W) = some (.inl (.int, 6, .inl fr_h)) := h2_h
  have fτh_h_6 : τh.1 (wM W) = some (.inl (.int, 3, .inl fm_h)) := h3_h
  have fτh_h_7 : τh.1 (wUN W) = some (.inl (.object "FlagLaundry$Test", 7, .inr (.inr (.inr (.inr fu_h))))) := h6_h
  have gyh : τh.1 y = some (.inr (.inl (2, [.int (nI n), .int (nI p.2.1), .int (nI p.2.2.1), .int v, .ref (S p.2.2.2.1), .ref wd, .ref (wW W), .ref x]))) := k9.at wσ hC (ne_of hC hNS.1 (fun q => by simp at q))
  have gxh : τh.1 x = some (.inr (.inl (0, [.ref bf, .int bd, .int pe, .int ep, nv, .ref dq, .ref sv, .ref ou]))) := k9.at wσ hX (ne_of hX hNS.1 (fun q => by simp at q))
  have gbfh : τh.1 bf = some (.inl (.byte, 500, .inl B)) := k9.at wσ hBf (ne_of hBf hNS.1 (fun q => by simp at q))
  refine A_lookup (off := 165) (tgt := 196) dX3_line_31 (by decide +kernel) (by decide +kernel) (by decide) ?_
  refine A_aload_n (i := 1) dX3_line_196 rfl rfl ?_
  refine A_ldcO hac dX3_line_197 ?_
  refine A_callV1E (b' := 150) (v := some (.int (bi (wHang = wHang)))) (τ := τh) (c_strEq τh wd va ac hh9 hz9 wHang wHang hN9 hsc9 (Nat.lt_of_le_of_lt hu6 (by decide)) (by decide)) tJ4_equals q714 hN9.1 rfl rfl dX3_line_199 (by decide) (Nat.le_of_ble_eq_true rfl) (Nat.le_of_ble_eq_true rfl) ?_
  refine A_int (w := 1) (bi_t rfl) ?_
  refine A_if_eq_f (tgt := 238) dX3_line_202 (by decide) (by decide) ?_
  refine A_bipush (v := 6) dX3_line_205 (by decide) ?_
  refine A_istore_n (i := 2) dX3_line_207 rfl (Nat.le_of_ble_eq_true rfl) ?_
  refine A_goto (tgt := 238) dX3_line_208 (by decide) ?_
  refine A_iload_n (i := 2) dX3_line_238 rfl rfl ?_
  refine A_tableIn (tgt := 470) dX3_line_239 (by decide) (by decide) rfl (by decide) ?_
  refine A_aload_n (i := 0) dX3_line_470 rfl rfl ?_
  refine A_callV0 (b' := 100) (c_pHang τh y x bf n lo S W B N p ⟨v, wd, gyh, ⟨⟨bd, pe, ep, nv, dq, sv, ou, gxh⟩, gbfh, hn5, hby⟩, hvv, htk, hcn, hsc⟩ hS h0 hN hRh hO hG hl hy hx hb) tX3_hangLine q1316 gyh rfl rfl dX3_line_471 (by decide) (Nat.le_of_ble_eq_true rfl) (Nat.le_of_ble_eq_true rfl) (fun w9 τlq hlq => ?_) (fun E9 q9 τ9 h9 => A_out rfl (by rw [hth]; exact h9.tr kyτh))
  have e9 := hlq.1
  subst e9
  refine A_goto (tgt := 527) dX3_line_474 (by decide) ?_
  exact A_vret dX3_line_527 rfl (by rw [hth]; exact hlq.tr kyτh)
theorem c_lnColour {l : Launch} {g : GC} (σ : AH) (y x bf n lo : Nat) (S : Int32 → Nat) (W : WA) (B N : AF) (p : PT) (h : PRW g σ y x bf S B n (.ref (wW W)) p) (hS : SRT g S) (h0 : pcd p = 0) (hN : p.1 = N) (hR : RW g σ W N) (hO : own lo W N) (hG : GN N) (hl0 : lo ≤ σ.2) (hy : y < lo) (hx : x < lo) (hb : bf < lo) (hk2 : p.2.2.2.1 = 2) (hwd : wls B p.2.2.1 (p.2.1 - p.2.2.1) = wColour) : AMet l g mX3_line 46 150 [.ref y] σ (LQ g y x bf S B n lo (wW W) (thS B n p) σ) (LX y lo (thS B n p) σ) := by
  refine A_of rfl (by decide) (Nat.le_of_ble_eq_true rfl) (L0 := [(0, .ref y)]) rfl ?_
  refine A_wfh (fun wσ hgσ => ?_)
  have qσ : kl lo σ σ := kl.rf
  refine A_gok (fun hgk => ?_)
  have hD := hG.1
  have hw := hG.2.1
  have hl := hl0
  obtain ⟨v, wd, ⟨hC, ⟨⟨bd, pe, ep, nv, dq, sv, ou, hX⟩, hBf, hn5, hby⟩, hvv, htk, hcn, hsc⟩, hPW⟩ := id h
  have hW := hD.1
  have hR9 := hR
  obtain ⟨h1, ⟨fr, h2, h2p⟩, ⟨fm, h3, h3p⟩, ⟨mcn, fnA, h4, h4p, h4q⟩, ⟨mcf, ffA, h5, h5p, h5q⟩, ⟨fu, h6, h6p⟩, h7, h8, h9, h10, h11⟩ := hR
  have hF12 : nF N ≤ 12 := hW.2.2.2.2.2
  have hN4 : nN N ≤ 4 := hW.2.1.2
  have hC6 : nC N ≤ 6 := hW.1.2
  have hT3 : nT N ≤ 3 := hW.2.2.1.2
  have hP8 : nP N ≤ 8 := hW.2.2.2.1.2
  obtain ⟨_, hw6, hw0, va, hNS⟩ : p.2.2.2.1 = 2 ∧ p.2.1 - p.2.2.1 ≤ 6 ∧ 0 < p.2.1 - p.2.2.1 ∧ ∃ va, NST σ wd va 0 0 (wls B p.2.2.1 (p.2.1 - p.2.2.1)) := hPW.resolve_right (fun q => q.1 hk2)
  rw [hwd] at hNS
  have hlu : (wls B p.2.2.1 (p.2.1 - p.2.2.1)).length = p.2.1 - p.2.2.1 := wls_len _ _ _
  rw [hwd] at hlu
  have hu6 : wColour.length ≤ 6 := by rw [hlu]; exact hw6
  have hu0 : 0 < wColour.length := by rw [hlu]; exact hw0
  refine A_aload_n (i := 0) dX3_line_0 rfl rfl ?_
  refine A_aload_n (i := 0) dX3_line_1 rfl rfl ?_
  refine A_getf cb_X3 hC 4 (Nat.le_of_ble_eq_true rfl) q688 rfl (v := .ref (S p.2.2.2.1)) rfl dX3_line_2 ?_
  refine A_getsO hS.2.2.1 q429 rfl dX3_line_5 ?_
  refine A_acmp_ne_f (tgt := 15) (x := (some (S p.2.2.2.1))) (y := (some (S 2))) dX3_line_8 (by decide) (by rw [hk2]) ?_
  refine A_iconst (v := 1) dX3_line_11 (by decide) ?_
  refine A_goto (tgt := 16) dX3_line_12 (by decide) ?_
  refine A_iconst (v := 1) dX3_line_16 (by decide) ?_
  refine A_callV2E (b' := 150) (v := none) (τ := σ) (c_pChk σ y 1) tX3_check q722 hC rfl rfl dX3_line_17 (by decide) (Nat.le_of_ble_eq_true rfl) (Nat.le_of_ble_eq_true rfl) ?_
  refine A_aload_n (i := 0) dX3_line_20 rfl rfl ?_
  refine A_getf cb_X3 hC 5 (Nat.le_of_ble_eq_true rfl) q689 rfl (v := .ref wd) rfl dX3_line_21 ?_
  refine A_astore_n (i := 1) dX3_line_24 rfl (Nat.le_of_ble_eq_true rfl) ?_
  obtain ⟨ac, hac, hsc9⟩ := litP187 hgk
  refine A_iconst (v := (-1)) dX3_line_25 (by decide) ?_
  refine A_istore_n (i := 2) dX3_line_26 rfl (Nat.le_of_ble_eq_true rfl) ?_
  refine A_aload_n (i := 1) dX3_line_27 rfl rfl ?_
  have hth : thS B n p = coS B n p := (th_word ⟨h0, hk2⟩ hwd).trans (by unfold lnS; rw [if_pos rfl])
  refine A_callV0 (b' := 150) (c_strHash σ wd va wColour hNS hu6 hu0) tJ4_hashCode q893 hNS.1 rfl rfl dX3_line_28 (by decide) (Nat.le_of_ble_eq_true rfl) (Nat.le_of_ble_eq_true rfl) (fun w9 τh hh => ?_) (fun E9 q9 τ9 h9 => h9.elim)
  obtain ⟨e9, ⟨hh9, hz9, hN9⟩, k9⟩ := hh
  rw [show hsU wColour wColour.length = -1354842676 by decide +kernel] at e9
  subst e9
  refine A_wfh (fun wτh hgτh => ?_)
  have kyτh : ky y lo σ τh := ky.rf.st hNS.1 k9 hl0
  have hl : lo ≤ τh.2 := Nat.le_trans hl0 kyτh.1
  have qτh : kl lo τh τh := kl.rf
  have hRh : RW g τh W N := hR9.oth wσ hNS.1 (isW_no (by decide)) k9
  have hRc := hRh
  obtain ⟨h1_h, ⟨fr_h, h2_h, h2p_h⟩, ⟨fm_h, h3_h, h3p_h⟩, ⟨mcn_h, fnA_h, h4_h, h4p_h, h4q_h⟩, ⟨mcf_h, ffA_h, h5_h, h5p_h, h5q_h⟩, ⟨fu_h, h6_h, h6p_h⟩, h7_h, h8_h, h9_h, h10_h, h11_h⟩ := hRc
  have fτh_h_0 : τh.1 (wW W) = some (.inr (.inl (4, [.int (N 9), .ref (wR W), .ref (wM W), .ref (wNL W), .ref (wFL W), .ref (wUN W), .int (N 6), .int (N 8), .int (N 0), .int (N 1), .int (N 2), .int (N 3), .int (N 4), .int (N 5), .int (N 11)]))) := h1_h
  have fτh_h_1 : τh.1 (wFL W) = some (.inr (.inl (14, [.int mcf_h, .ref (wFA W), .int (nI (nF N))]))) := h5_h
  have fτh_h_2 : τh.1 (wFA W) = some (.inl (.object "java/lang/Object", 12, .inr (.inr (.inr (.inr ffA_h))))) := h5p_h
  have fτh_h_3 : τh.1 (wNL W) = some (.inr (.inl (14, [.int mcn_h, .ref (wNA W), .int (nI (nN N))]))) := h4_h
  have fτh_h_4 : τh.1 (wNA W) = some (.inl (.object "java/lang/Object", 4, .inr (.inr (.inr (.inr fnA_h))))) := h4p_h
  have fτh_h_5 : τh.1 (wR W) = some (.inl (.int, 6, .inl fr_h)) := h2_h
  have fτh_h_6 : τh.1 (wM W) = some (.inl (.int, 3, .inl fm_h)) := h3_h
  have fτh_h_7 : τh.1 (wUN W) = some (.inl (.object "FlagLaundry$Test", 7, .inr (.inr (.inr (.inr fu_h))))) := h6_h
  have gyh : τh.1 y = some (.inr (.inl (2, [.int (nI n), .int (nI p.2.1), .int (nI p.2.2.1), .int v, .ref (S p.2.2.2.1), .ref wd, .ref (wW W), .ref x]))) := k9.at wσ hC (ne_of hC hNS.1 (fun q => by simp at q))
  have gxh : τh.1 x = some (.inr (.inl (0, [.ref bf, .int bd, .int pe, .int ep, nv, .ref dq, .ref sv, .ref ou]))) := k9.at wσ hX (ne_of hX hNS.1 (fun q => by simp at q))
  have gbfh : τh.1 bf = some (.inl (.byte, 500, .inl B)) := k9.at wσ hBf (ne_of hBf hNS.1 (fun q => by simp at q))
  refine A_lookup (off := 81) (tgt := 112) dX3_line_31 (by decide +kernel) (by decide +kernel) (by decide) ?_
  refine A_aload_n (i := 1) dX3_line_112 rfl rfl ?_
  refine A_ldcO hac dX3_line_113 ?_
  refine A_callV1E (b' := 150) (v := some (.int (bi (wColour = wColour)))) (τ := τh) (c_strEq τh wd va ac hh9 hz9 wColour wColour hN9 hsc9 (Nat.lt_of_le_of_lt hu6 (by decide)) (by decide)) tJ4_equals q714 hN9.1 rfl rfl dX3_line_115 (by decide) (Nat.le_of_ble_eq_true rfl) (Nat.le_of_ble_eq_true rfl) ?_
  refine A_int (w := 1) (bi_t rfl) ?_
  refine A_if_eq_f (tgt := 238) dX3_line_118 (by decide) (by decide) ?_
  refine A_iconst (v := 0) dX3_line_121 (by decide) ?_
  refine A_istore_n (i := 2) dX3_line_122 rfl (Nat.le_of_ble_eq_true rfl) ?_
  refine A_goto (tgt := 238) dX3_line_123 (by decide) ?_
  refine A_iload_n (i := 2) dX3_line_238 rfl rfl ?_
  refine A_tableIn (tgt := 288) dX3_line_239 (by decide) (by decide) rfl (by decide) ?_
  refine A_aload_n (i := 0) dX3_line_288 rfl rfl ?_
  refine A_aload_n (i := 0) dX3_line_289 rfl rfl ?_
  refine A_getf cb_X3 gyh 6 (Nat.le_of_ble_eq_true rfl) q690 rfl (v := .ref (wW W)) rfl dX3_line_290 ?_
  refine A_getfN cb_X5 fτh_h_0 6 (Nat.le_of_ble_eq_true rfl) q838 rfl (v := .int (N 6)) rfl dX3_line_293 ?_
  refine A_bipush (v := 6) dX3_line_296 (by decide) ?_
  refine A_callV2 (b' := 142) (c_pBeg τh y x bf n S (.ref (wW W)) B p 6 (N 6) 6 (⟨v, wd, gyh, ⟨⟨bd, pe, ep, nv, dq, sv, ou, gxh⟩, gbfh, hn5, hby⟩, hvv, htk, hcn, hsc⟩) hS h0 (by rw [hN]; exact lt_cnt2 (m := 6) hW.1.1 hC6 (by decide))) tX3_begins q963 gyh rfl rfl dX3_line_298 (by decide) (Nat.le_of_ble_eq_true rfl) (Nat.le_of_ble_eq_true rfl) (fun w9 τs1 hs1 => ?_) (fun E9 q9 τ9 h9 => A_out rfl (LX.of kyτh hl0 h9 (by rw [hth]; exact co_x1 rfl h9.2.1)))
  obtain ⟨hc9, e9, hWτs1, kτs1⟩ := hs1
  subst e9
  obtain ⟨p1, e1⟩ : ∃ q9, q9 = bgS B n 6 6 p := ⟨_, rfl⟩
  rw [← e1] at hWτs1
  have z0_1 : pcd p1 = 0 := by rw [e1]; exact hc9
  have n9_1 : p1.1 = N := by rw [e1, bg_1]; exact hN
  refine A_wfh (fun wτs1 hgτs1 => ?_)
  have kyτs1 : ky y lo σ τs1 := kyτh.kx kτs1 hl0
  have hl : lo ≤ τs1.2 := Nat.le_trans hl0 kyτs1.1
  have qτs1 : kl lo τs1 τs1 := kl.rf
  have hRlτs1 : RW g τs1 W N := hRh.oth wτh gyh (isW_no (by decide)) kτs1
  obtain ⟨v_1, wd_1, ⟨hC_1, ⟨⟨bd_1, pe_1, ep_1, nv_1, dq_1, sv_1, ou_1, hX_1⟩, hBf_1, hn5_1, hby_1⟩, hvv_1, htk_1, hcn_1, hsc_1⟩, hPW_1⟩ := id hWτs1
  have hRc := hRlτs1
  obtain ⟨h1_1, ⟨fr_1, h2_1, h2p_1⟩, ⟨fm_1, h3_1, h3p_1⟩, ⟨mcn_1, fnA_1, h4_1, h4p_1, h4q_1⟩, ⟨mcf_1, ffA_1, h5_1, h5p_1, h5q_1⟩, ⟨fu_1, h6_1, h6p_1⟩, h7_1, h8_1, h9_1, h10_1, h11_1⟩ := hRc
  have fτs1_1_0 : τs1.1 (wW W) = some (.inr (.inl (4, [.int (N 9), .ref (wR W), .ref (wM W), .ref (wNL W), .ref (wFL W), .ref (wUN W), .int (N 6), .int (N 8), .int (N 0), .int (N 1), .int (N 2), .int (N 3), .int (N 4), .int (N 5), .int (N 11)]))) := h1_1
  have fτs1_1_1 : τs1.1 (wFL W) = some (.inr (.inl (14, [.int mcf_1, .ref (wFA W), .int (nI (nF N))]))) := h5_1
  have fτs1_1_2 : τs1.1 (wFA W) = some (.inl (.object "java/lang/Object", 12, .inr (.inr (.inr (.inr ffA_1))))) := h5p_1
  have fτs1_1_3 : τs1.1 (wNL W) = some (.inr (.inl (14, [.int mcn_1, .ref (wNA W), .int (nI (nN N))]))) := h4_1
  have fτs1_1_4 : τs1.1 (wNA W) = some (.inl (.object "java/lang/Object", 4, .inr (.inr (.inr (.inr fnA_1))))) := h4p_1
  have fτs1_1_5 : τs1.1 (wR W) = some (.inl (.int, 6, .inl fr_1)) := h2_1
  have fτs1_1_6 : τs1.1 (wM W) = some (.inl (.int, 3, .inl fm_1)) := h3_1
  have fτs1_1_7 : τs1.1 (wUN W) = some (.inl (.object "FlagLaundry$Test", 7, .inr (.inr (.inr (.inr fu_1))))) := h6_1
  refine A_aload_n (i := 0) dX3_line_301 rfl rfl ?_
  refine A_getf cb_X3 hC_1 6 (Nat.le_of_ble_eq_true rfl) q690 rfl (v := .ref (wW W)) rfl dX3_line_302 ?_
  refine A_getfN cb_X5 fτs1_1_0 1 (Nat.le_of_ble_eq_true rfl) q825 rfl (v := .ref (wR W)) rfl dX3_line_305 ?_
  refine A_aload_n (i := 0) dX3_line_308 rfl rfl ?_
  refine A_getf cb_X3 hC_1 6 (Nat.le_of_ble_eq_true rfl) q690 rfl (v := .ref (wW W)) rfl dX3_line_309 ?_
  refine A_getfN cb_X5 fτs1_1_0 6 (Nat.le_of_ble_eq_true rfl) q838 rfl (v := .int (N 6)) rfl dX3_line_312 ?_
  refine A_int (w := (nI (nC N))) (hW.1.1) ?_
  refine A_aload_n (i := 0) dX3_line_315 rfl rfl ?_
  refine A_iconst (v := 0) dX3_line_316 (by decide) ?_
  refine A_iconst (v := 4) dX3_line_317 (by decide) ?_
  refine A_callV2 (b' := 132) (c_pNum τs1 y x bf n S (.ref (wW W)) B p1 0 4 (⟨v_1, wd_1, hC_1, ⟨⟨bd_1, pe_1, ep_1, nv_1, dq_1, sv_1, ou_1, hX_1⟩, hBf_1, hn5_1, hby_1⟩, hvv_1, htk_1, hcn_1, hsc_1⟩) hS z0_1) tX3_number q756 hC_1 rfl rfl dX3_line_318 (by decide) (Nat.le_of_ble_eq_true rfl) (Nat.le_of_ble_eq_true rfl) (fun w9 τs2 hs2 => ?_) (fun E9 q9 τ9 h9 => A_out rfl (LX.of kyτs1 hl0 h9 (by rw [hth]; exact co_x2 e1 rfl)))
  obtain ⟨hc9, e9, hWτs2, kτs2⟩ := hs2
  have in9_2 := (nu_in hc9).1
  subst e9
  have hc9_2 := hc9
  obtain ⟨p2, e2⟩ : ∃ q9, q9 = nuS B n 0 4 p1 := ⟨_, rfl⟩
  rw [← e2] at hWτs2
  have z0_2 : pcd p2 = 0 := by rw [e2]; exact hc9
  have n9_2 : p2.1 = N := by rw [e2, nu_1]; exact n9_1
  refine A_wfh (fun wτs2 hgτs2 => ?_)
  have kyτs2 : ky y lo σ τs2 := kyτs1.kx kτs2 hl0
  have hl : lo ≤ τs2.2 := Nat.le_trans hl0 kyτs2.1
  have qτs2 : kl lo τs2 τs2 := kl.rf
  have hRlτs2 : RW g τs2 W N := hRlτs1.oth wτs1 hC_1 (isW_no (by decide)) kτs2
  obtain ⟨v_2, wd_2, ⟨hC_2, ⟨⟨bd_2, pe_2, ep_2, nv_2, dq_2, sv_2, ou_2, hX_2⟩, hBf_2, hn5_2, hby_2⟩, hvv_2, htk_2, hcn_2, hsc_2⟩, hPW_2⟩ := id hWτs2
  have hRc := hRlτs2
  obtain ⟨h1_2, ⟨fr_2, h2_2, h2p_2⟩, ⟨fm_2, h3_2, h3p_2⟩, ⟨mcn_2, fnA_2, h4_2, h4p_2, h4q_2⟩, ⟨mcf_2, ffA_2, h5_2, h5p_2, h5q_2⟩, ⟨fu_2, h6_2, h6p_2⟩, h7_2, h8_2, h9_2, h10_2, h11_2⟩ := hRc
  have fτs2_2_0 : τs2.1 (wW W) = some (.inr (.inl (4, [.int (N 9), .ref (wR W), .ref (wM W), .ref (wNL W), .ref (wFL W), .ref (wUN W), .int (N 6), .int (N 8), .int (N 0), .int (N 1), .int (N 2), .int (N 3), .int (N 4), .int (N 5), .int (N 11)]))) := h1_2
  have fτs2_2_1 : τs2.1 (wFL W) = some (.inr (.inl (14, [.int mcf_2, .ref (wFA W), .int (nI (nF N))]))) := h5_2
  have fτs2_2_2 : τs2.1 (wFA W) = some (.inl (.object "java/lang/Object", 12, .inr (.inr (.inr (.inr ffA_2))))) := h5p_2
  have fτs2_2_3 : τs2.1 (wNL W) = some (.inr (.inl (14, [.int mcn_2, .ref (wNA W), .int (nI (nN N))]))) := h4_2
  have fτs2_2_4 : τs2.1 (wNA W) = some (.inl (.object "java/lang/Object", 4, .inr (.inr (.inr (.inr fnA_2))))) := h4p_2
  have fτs2_2_5 : τs2.1 (wR W) = some (.inl (.int, 6, .inl fr_2)) := h2_2
  have fτs2_2_6 : τs2.1 (wM W) = some (.inl (.int, 3, .inl fm_2)) := h3_2
  have fτs2_2_7 : τs2.1 (wUN W) = some (.inl (.object "FlagLaundry$Test", 7, .inr (.inr (.inr (.inr fu_2))))) := h6_2
  refine A_iast fτs2_2_5 (vp_in_nI (Nat.lt_of_le_of_ne hC6 (fun q8 => (fun q9 => bg_ne (le_of0 (show (bgS B n 6 6 p).2.2.2.2.2.1 = 0 by rw [← e1]; exact z0_1)) (by rw [hN]; exact q9)) (by rw [hW.1.1, q8]; decide))) (by decide)) dX3_line_321 ?_
  refine A_st (σ' := h_put τs2 (wR W) (.inl (.int, 6, .inl (va_up fr_2 (nC N) (nhV 0 4 p1))))) (by rw [nI_clamp (by omega)] <;> rfl) ?_
  obtain ⟨σ1, eσ1⟩ : ∃ τ, τ = h_put τs2 (wR W) (.inl (.int, 6, .inl (va_up fr_2 (nC N) (nhV 0 4 p1)))) := ⟨_, rfl⟩
  refine A_st (σ' := σ1) eσ1.symm ?_
  have wσ1 : wfh σ1 := by rw [eσ1]; exact wτs2.put fτs2_2_5
  have fσ1_0 : σ1.1 (wW W) = some (.inr (.inl (4, [.int (N 9), .ref (wR W), .ref (wM W), .ref (wNL W), .ref (wFL W), .ref (wUN W), .int (N 6), .int (N 8), .int (N 0), .int (N 1), .int (N 2), .int (N 3), .int (N 4), .int (N 5), .int (N 11)]))) := by rw [eσ1]; exact (hp_ne (ne_of (x := .inr (.inl (4, [.int (N 9), .ref (wR W), .ref (wM W), .ref (wNL W), .ref (wFL W), .ref (wUN W), .int (N 6), .int (N 8), .int (N 0), .int (N 1), .int (N 2), .int (N 3), .int (N 4), .int (N 5), .int (N 11)]))) (y := .inl (.int, 6, .inl fr_2)) fτs2_2_0 fτs2_2_5 (fun e8 => by simp at e8))).trans fτs2_2_0
  have fσ1_1 : σ1.1 (wFL W) = some (.inr (.inl (14, [.int mcf_2, .ref (wFA W), .int (nI (nF N))]))) := by rw [eσ1]; exact (hp_ne (ne_of (x := .inr (.inl (14, [.int mcf_2, .ref (wFA W), .int (nI (nF N))]))) (y := .inl (.int, 6, .inl fr_2)) fτs2_2_1 fτs2_2_5 (fun e8 => by simp at e8))).trans fτs2_2_1
  have fσ1_2 : σ1.1 (wFA W) = some (.inl (.object "java/lang/Object", 12, .inr (.inr (.inr (.inr ffA_2))))) := by rw [eσ1]; exact (hp_ne (ne_of (x := .inl (.object "java/lang/Object", 12, .inr (.inr (.inr (.inr ffA_2))))) (y := .inl (.int, 6, .inl fr_2)) fτs2_2_2 fτs2_2_5 (fun e8 => by simp at e8))).trans fτs2_2_2
  have fσ1_3 : σ1.1 (wNL W) = some (.inr (.inl (14, [.int mcn_2, .ref (wNA W), .int (nI (nN N))]))) := by rw [eσ1]; exact (hp_ne (ne_of (x := .inr (.inl (14, [.int mcn_2, .ref (wNA W), .int (nI (nN N))]))) (y := .inl (.int, 6, .inl fr_2)) fτs2_2_3 fτs2_2_5 (fun e8 => by simp at e8))).trans fτs2_2_3
  have fσ1_4 : σ1.1 (wNA W) = some (.inl (.object "java/lang/Object", 4, .inr (.inr (.inr (.inr fnA_2))))) := by rw [eσ1]; exact (hp_ne (ne_of (x := .inl (.object "java/lang/Object", 4, .inr (.inr (.inr (.inr fnA_2))))) (y := .inl (.int, 6, .inl fr_2)) fτs2_2_4 fτs2_2_5 (fun e8 => by simp at e8))).trans fτs2_2_4
  have fσ1_5 : σ1.1 (wR W) = some (.inl (.int, 6, .inl (va_up fr_2 (nC N) (nhV 0 4 p1)))) := by rw [eσ1]; exact if_pos rfl
  have fσ1_6 : σ1.1 (wM W) = some (.inl (.int, 3, .inl fm_2)) := by rw [eσ1]; exact (hp_ne (ne_of (x := .inl (.int, 3, .inl fm_2)) (y := .inl (.int, 6, .inl fr_2)) fτs2_2_6 fτs2_2_5 (fun e8 => by simp at e8))).trans fτs2_2_6
  have fσ1_7 : σ1.1 (wUN W) = some (.inl (.object "FlagLaundry$Test", 7, .inr (.inr (.inr (.inr fu_2))))) := by rw [eσ1]; exact (hp_ne (ne_of (x := .inl (.object "FlagLaundry$Test", 7, .inr (.inr (.inr (.inr fu_2))))) (y := .inl (.int, 6, .inl fr_2)) fτs2_2_7 fτs2_2_5 (fun e8 => by simp at e8))).trans fτs2_2_7
  have fσ1_8 : σ1.1 y = some (.inr (.inl (2, [.int (nI n), .int (nI p2.2.1), .int (nI p2.2.2.1), .int v_2, .ref (S p2.2.2.2.1), .ref wd_2, .ref (wW W), .ref x]))) := by rw [eσ1]; exact (hp_ne (ne_of (x := .inr (.inl (2, [.int (nI n), .int (nI p2.2.1), .int (nI p2.2.2.1), .int v_2, .ref (S p2.2.2.2.1), .ref wd_2, .ref (wW W), .ref x]))) (y := .inl (.int, 6, .inl fr_2)) hC_2 fτs2_2_5 (fun e8 => by simp at e8))).trans hC_2
  have fσ1_9 : σ1.1 x = some (.inr (.inl (0, [.ref bf, .int bd_2, .int pe_2, .int ep_2, nv_2, .ref dq_2, .ref sv_2, .ref ou_2]))) := by rw [eσ1]; exact (hp_ne (ne_of (x := .inr (.inl (0, [.ref bf, .int bd_2, .int pe_2, .int ep_2, nv_2, .ref dq_2, .ref sv_2, .ref ou_2]))) (y := .inl (.int, 6, .inl fr_2)) hX_2 fτs2_2_5 (fun e8 => by simp at e8))).trans hX_2
  have fσ1_10 : σ1.1 bf = some (.inl (.byte, 500, .inl B)) := by rw [eσ1]; exact (hp_ne (ne_of (x := .inl (.byte, 500, .inl B)) (y := .inl (.int, 6, .inl fr_2)) hBf_2 fτs2_2_5 (fun e8 => by simp at e8))).trans hBf_2
  have qσ1 : kl lo τs2 σ1 := by rw [eσ1]; exact qτs2.put hO.2.1
  refine A_aload_n (i := 0) dX3_line_322 rfl rfl ?_
  refine A_getf cb_X3 fσ1_8 6 (Nat.le_of_ble_eq_true rfl) q690 rfl (v := .ref (wW W)) rfl dX3_line_323 ?_
  refine A_dup dX3_line_326 rfl ?_
  refine A_getfN cb_X5 fσ1_0 6 (Nat.le_of_ble_eq_true rfl) q838 rfl (v := .int (N 6)) rfl dX3_line_327 ?_
  refine A_iconst (v := 1) dX3_line_330 (by decide) ?_
  refine A_iadd dX3_line_331 ?_
  refine A_putfN cb_X5 fσ1_0 6 (Nat.le_of_ble_eq_true rfl) q838 rfl rfl rfl rfl (Nat.le_of_ble_eq_true rfl) dX3_line_332 ?_
  obtain ⟨σ2, eσ2⟩ : ∃ τ, τ = h_put σ1 (wW W) (.inr (.inl (4, [.int (N 9), .ref (wR W), .ref (wM W), .ref (wNL W), .ref (wFL W), .ref (wUN W), .int ((N 6) + 1), .int (N 8), .int (N 0), .int (N 1), .int (N 2), .int (N 3), .int (N 4), .int (N 5), .int (N 11)]))) := ⟨_, rfl⟩
  refine A_st (σ' := σ2) eσ2.symm ?_
  have wσ2 : wfh σ2 := by rw [eσ2]; exact wσ1.put fσ1_0
  have fσ2_0 : σ2.1 (wW W) = some (.inr (.inl (4, [.int (N 9), .ref (wR W), .ref (wM W), .ref (wNL W), .ref (wFL W), .ref (wUN W), .int ((N 6) + 1), .int (N 8), .int (N 0), .int (N 1), .int (N 2), .int (N 3), .int (N 4), .int (N 5), .int (N 11)]))) := by rw [eσ2]; exact if_pos rfl
  have fσ2_1 : σ2.1 (wFL W) = some (.inr (.inl (14, [.int mcf_2, .ref (wFA W), .int (nI (nF N))]))) := by rw [eσ2]; exact (hp_ne (ne_of (x := .inr (.inl (14, [.int mcf_2, .ref (wFA W), .int (nI (nF N))]))) (y := .inr (.inl (4, [.int (N 9), .ref (wR W), .ref (wM W), .ref (wNL W), .ref (wFL W), .ref (wUN W), .int (N 6), .int (N 8), .int (N 0), .int (N 1), .int (N 2), .int (N 3), .int (N 4), .int (N 5), .int (N 11)]))) fσ1_1 fσ1_0 (fun e8 => by simp at e8))).trans fσ1_1
  have fσ2_2 : σ2.1 (wFA W) = some (.inl (.object "java/lang/Object", 12, .inr (.inr (.inr (.inr ffA_2))))) := by rw [eσ2]; exact (hp_ne (ne_of (x := .inl (.object "java/lang/Object", 12, .inr (.inr (.inr (.inr ffA_2))))) (y := .inr (.inl (4, [.int (N 9), .ref (wR W), .ref (wM W), .ref (wNL W), .ref (wFL W), .ref (wUN W), .int (N 6), .int (N 8), .int (N 0), .int (N 1), .int (N 2), .int (N 3), .int (N 4), .int (N 5), .int (N 11)]))) fσ1_2 fσ1_0 (fun e8 => by simp at e8))).trans fσ1_2
  have fσ2_3 : σ2.1 (wNL W) = some (.inr (.inl (14, [.int mcn_2, .ref (wNA W), .int (nI (nN N))]))) := by rw [eσ2]; exact (hp_ne (ne_of (x := .inr (.inl (14, [.int mcn_2, .ref (wNA W), .int (nI (nN N))]))) (y := .inr (.inl (4, [.int (N 9), .ref (wR W), .ref (wM W), .ref (wNL W), .ref (wFL W), .ref (wUN W), .int (N 6), .int (N 8), .int (N 0), .int (N 1), .int (N 2), .int (N 3), .int (N 4), .int (N 5), .int (N 11)]))) fσ1_3 fσ1_0 (fun e8 => by simp at e8))).trans fσ1_3
  have fσ2_4 : σ2.1 (wNA W) = some (.inl (.object "java/lang/Object", 4, .inr (.inr (.inr (.inr fnA_2))))) := by rw [eσ2]; exact (hp_ne (ne_of (x := .inl (.object "java/lang/Object", 4, .inr (.inr (.inr (.inr fnA_2))))) (y := .inr (.inl (4, [.int (N 9), .ref (wR W), .ref (wM W), .ref (wNL W), .ref (wFL W), .ref (wUN W), .int (N 6), .int (N 8), .int (N 0), .int (N 1), .int (N 2), .int (N 3), .int (N 4), .int (N 5), .int (N 11)]))) fσ1_4 fσ1_0 (fun e8 => by simp at e8))).trans fσ1_4
  have fσ2_5 : σ2.1 (wR W) = some (.inl (.int, 6, .inl (va_up fr_2 (nC N) (nhV 0 4 p1)))) := by rw [eσ2]; exact (hp_ne (ne_of (x := .inl (.int, 6, .inl (va_up fr_2 (nC N) (nhV 0 4 p1)))) (y := .inr (.inl (4, [.int (N 9), .ref (wR W), .ref (wM W), .ref (wNL W), .ref (wFL W), .ref (wUN W), .int (N 6), .int (N 8), .int (N 0), .int (N 1), .int (N 2), .int (N 3), .int (N 4), .int (N 5), .int (N 11)]))) fσ1_5 fσ1_0 (fun e8 => by simp at e8))).trans fσ1_5
  have fσ2_6 : σ2.1 (wM W) = some (.inl (.int, 3, .inl fm_2)) := by rw [eσ2]; exact (hp_ne (ne_of (x := .inl (.int, 3, .inl fm_2)) (y := .inr (.inl (4, [.int (N 9), .ref (wR W), .ref (wM W), .ref (wNL W), .ref (wFL W), .ref (wUN W), .int (N 6), .int (N 8), .int (N 0), .int (N 1), .int (N 2), .int (N 3), .int (N 4), .int (N 5), .int (N 11)]))) fσ1_6 fσ1_0 (fun e8 => by simp at e8))).trans fσ1_6
  have fσ2_7 : σ2.1 (wUN W) = some (.inl (.object "FlagLaundry$Test", 7, .inr (.inr (.inr (.inr fu_2))))) := by rw [eσ2]; exact (hp_ne (ne_of (x := .inl (.object "FlagLaundry$Test", 7, .inr (.inr (.inr (.inr fu_2))))) (y := .inr (.inl (4, [.int (N 9), .ref (wR W), .ref (wM W), .ref (wNL W), .ref (wFL W), .ref (wUN W), .int (N 6), .int (N 8), .int (N 0), .int (N 1), .int (N 2), .int (N 3), .int (N 4), .int (N 5), .int (N 11)]))) fσ1_7 fσ1_0 (fun e8 => by simp at e8))).trans fσ1_7
  have fσ2_8 : σ2.1 y = some (.inr (.inl (2, [.int (nI n), .int (nI p2.2.1), .int (nI p2.2.2.1), .int v_2, .ref (S p2.2.2.2.1), .ref wd_2, .ref (wW W), .ref x]))) := by rw [eσ2]; exact (hp_ne (ne_of (x := .inr (.inl (2, [.int (nI n), .int (nI p2.2.1), .int (nI p2.2.2.1), .int v_2, .ref (S p2.2.2.2.1), .ref wd_2, .ref (wW W), .ref x]))) (y := .inr (.inl (4, [.int (N 9), .ref (wR W), .ref (wM W), .ref (wNL W), .ref (wFL W), .ref (wUN W), .int (N 6), .int (N 8), .int (N 0), .int (N 1), .int (N 2), .int (N 3), .int (N 4), .int (N 5), .int (N 11)]))) fσ1_8 fσ1_0 (fun e8 => by simp at e8))).trans fσ1_8
  have fσ2_9 : σ2.1 x = some (.inr (.inl (0, [.ref bf, .int bd_2, .int pe_2, .int ep_2, nv_2, .ref dq_2, .ref sv_2, .ref ou_2]))) := by rw [eσ2]; exact (hp_ne (ne_of (x := .inr (.inl (0, [.ref bf, .int bd_2, .int pe_2, .int ep_2, nv_2, .ref dq_2, .ref sv_2, .ref ou_2]))) (y := .inr (.inl (4, [.int (N 9), .ref (wR W), .ref (wM W), .ref (wNL W), .ref (wFL W), .ref (wUN W), .int (N 6), .int (N 8), .int (N 0), .int (N 1), .int (N 2), .int (N 3), .int (N 4), .int (N 5), .int (N 11)]))) fσ1_9 fσ1_0 (fun e8 => by simp at e8))).trans fσ1_9
  have fσ2_10 : σ2.1 bf = some (.inl (.byte, 500, .inl B)) := by rw [eσ2]; exact (hp_ne (ne_of (x := .inl (.byte, 500, .inl B)) (y := .inr (.inl (4, [.int (N 9), .ref (wR W), .ref (wM W), .ref (wNL W), .ref (wFL W), .ref (wUN W), .int (N 6), .int (N 8), .int (N 0), .int (N 1), .int (N 2), .int (N 3), .int (N 4), .int (N 5), .int (N 11)]))) fσ1_10 fσ1_0 (fun e8 => by simp at e8))).trans fσ1_10
  have qσ2 : kl lo τs2 σ2 := by rw [eσ2]; exact qσ1.put hO.1
  have hk6 : ¬ N 6 = 6 := fun q9 => bg_ne (le_of0 (show (bgS B n 6 6 p).2.2.2.2.2.1 = 0 by rw [← e1]; exact z0_1)) (by rw [hN]; exact q9)
  have hR7 : RW g σ2 W (coN N (nhV 0 4 p1)) := hRlτs2.co wτs2 hW hk6 (by rw [eσ2, eσ1]; exact k2.rf.pa.pb) fσ2_5 h2p_2 (by rw [wld_co W hC6]; exact fσ2_0)
  have hE7 : coS B n p = pN (coN N (nhV 0 4 p1)) p2 := (co_0 e1 e2 z0_2).trans (by rw [n9_2])
  refine A_goto (tgt := 527) dX3_line_335 (by decide) ?_
  exact A_vret dX3_line_527 rfl (by rw [hth, hE7]; exact ⟨rfl, z0_2, ⟨v_2, wd_2, fσ2_8, ⟨⟨bd_2, pe_2, ep_2, nv_2, dq_2, sv_2, ou_2, fσ2_9⟩, fσ2_10, hn5_2, hby_2⟩, hvv_2, htk_2, hcn_2, hsc_2⟩, ⟨W, rfl, by first | exact hR7 | (rw [rfl]; exact hR7), by first | exact (hO.co hW _) | (rw [rfl]; exact (hO.co hW _))⟩, by first | exact (GN_co hG hk6 _) | (rw [rfl]; exact (GN_co hG hk6 _)), (kyτs2.kl qσ2)⟩)
theorem c_lnTub {l : Launch} {g : GC} (σ : AH) (y x bf n lo : Nat) (S : Int32 → Nat) (W : WA) (B N : AF) (p : PT) (h : PRW g σ y x bf S B n (.ref (wW W)) p) (hS : SRT g S) (h0 : pcd p = 0) (hN : p.1 = N) (hR : RW g σ W N) (hO : own lo W N) (hG : GN N) (hl0 : lo ≤ σ.2) (hy : y < lo) (hx : x < lo) (hb : bf < lo) (hk2 : p.2.2.2.1 = 2) (hwd : wls B p.2.2.1 (p.2.1 - p.2.2.1) = wTub) : AMet l g mX3_line 46 150 [.ref y] σ (LQ g y x bf S B n lo (wW W) (thS B n p) σ) (LX y lo (thS B n p) σ) := by
  refine A_of rfl (by decide) (Nat.le_of_ble_eq_true rfl) (L0 := [(0, .ref y)]) rfl ?_
  refine A_wfh (fun wσ hgσ => ?_)
  have qσ : kl lo σ σ := kl.rf
  refine A_gok (fun hgk => ?_)
  have hD := hG.1
  have hw := hG.2.1
  have hl := hl0
  obtain ⟨v, wd, ⟨hC, ⟨⟨bd, pe, ep, nv, dq, sv, ou, hX⟩, hBf, hn5, hby⟩, hvv, htk, hcn, hsc⟩, hPW⟩ := id h
  have hW := hD.1
  have hR9 := hR
  obtain ⟨h1, ⟨fr, h2, h2p⟩, ⟨fm, h3, h3p⟩, ⟨mcn, fnA, h4, h4p, h4q⟩, ⟨mcf, ffA, h5, h5p, h5q⟩, ⟨fu, h6, h6p⟩, h7, h8, h9, h10, h11⟩ := hR
  have hF12 : nF N ≤ 12 := hW.2.2.2.2.2
  have hN4 : nN N ≤ 4 := hW.2.1.2
  have hC6 : nC N ≤ 6 := hW.1.2
  have hT3 : nT N ≤ 3 := hW.2.2.1.2
  have hP8 : nP N ≤ 8 := hW.2.2.2.1.2
  obtain ⟨_, hw6, hw0, va, hNS⟩ : p.2.2.2.1 = 2 ∧ p.2.1 - p.2.2.1 ≤ 6 ∧ 0 < p.2.1 - p.2.2.1 ∧ ∃ va, NST σ wd va 0 0 (wls B p.2.2.1 (p.2.1 - p.2.2.1)) := hPW.resolve_right (fun q => q.1 hk2)
  rw [hwd] at hNS
  have hlu : (wls B p.2.2.1 (p.2.1 - p.2.2.1)).length = p.2.1 - p.2.2.1 := wls_len _ _ _
  rw [hwd] at hlu
  have hu6 : wTub.length ≤ 6 := by rw [hlu]; exact hw6
  have hu0 : 0 < wTub.length := by rw [hlu]; exact hw0
  refine A_aload_n (i := 0) dX3_line_0 rfl rfl ?_
  refine A_aload_n (i := 0) dX3_line_1 rfl rfl ?_
  refine A_getf cb_X3 hC 4 (Nat.le_of_ble_eq_true rfl) q688 rfl (v := .ref (S p.2.2.2.1)) rfl dX3_line_2 ?_
  refine A_getsO hS.2.2.1 q429 rfl dX3_line_5 ?_
  refine A_acmp_ne_f (tgt := 15) (x := (some (S p.2.2.2.1))) (y := (some (S 2))) dX3_line_8 (by decide) (by rw [hk2]) ?_
  refine A_iconst (v := 1) dX3_line_11 (by decide) ?_
  refine A_goto (tgt := 16) dX3_line_12 (by decide) ?_
  refine A_iconst (v := 1) dX3_line_16 (by decide) ?_
  refine A_callV2E (b' := 150) (v := none) (τ := σ) (c_pChk σ y 1) tX3_check q722 hC rfl rfl dX3_line_17 (by decide) (Nat.le_of_ble_eq_true rfl) (Nat.le_of_ble_eq_true rfl) ?_
  refine A_aload_n (i := 0) dX3_line_20 rfl rfl ?_
  refine A_getf cb_X3 hC 5 (Nat.le_of_ble_eq_true rfl) q689 rfl (v := .ref wd) rfl dX3_line_21 ?_
  refine A_astore_n (i := 1) dX3_line_24 rfl (Nat.le_of_ble_eq_true rfl) ?_
  obtain ⟨ac, hac, hsc9⟩ := litP195 hgk
  refine A_iconst (v := (-1)) dX3_line_25 (by decide) ?_
  refine A_istore_n (i := 2) dX3_line_26 rfl (Nat.le_of_ble_eq_true rfl) ?_
  refine A_aload_n (i := 1) dX3_line_27 rfl rfl ?_
  have hth : thS B n p = tuS B n p := (th_word ⟨h0, hk2⟩ hwd).trans (by unfold lnS; rw [if_neg (by decide)]; rw [if_neg (by decide)]; rw [if_pos rfl])
  refine A_callV0 (b' := 150) (c_strHash σ wd va wTub hNS hu6 hu0) tJ4_hashCode q893 hNS.1 rfl rfl dX3_line_28 (by decide) (Nat.le_of_ble_eq_true rfl) (Nat.le_of_ble_eq_true rfl) (fun w9 τh hh => ?_) (fun E9 q9 τ9 h9 => h9.elim)
  obtain ⟨e9, ⟨hh9, hz9, hN9⟩, k9⟩ := hh
  rw [show hsU wTub wTub.length = 115201 by decide +kernel] at e9
  subst e9
  refine A_wfh (fun wτh hgτh => ?_)
  have kyτh : ky y lo σ τh := ky.rf.st hNS.1 k9 hl0
  have hl : lo ≤ τh.2 := Nat.le_trans hl0 kyτh.1
  have qτh : kl lo τh τh := kl.rf
  have hRh : RW g τh W N := hR9.oth wσ hNS.1 (isW_no (by decide)) k9
  have hRc := hRh
  obtain ⟨h1_h, ⟨fr_h, h2_h, h2p_h⟩, ⟨fm_h, h3_h, h3p_h⟩, ⟨mcn_h, fnA_h, h4_h, h4p_h, h4q_h⟩, ⟨mcf_h, ffA_h, h5_h, h5p_h, h5q_h⟩, ⟨fu_h, h6_h, h6p_h⟩, h7_h, h8_h, h9_h, h10_h, h11_h⟩ := hRc
  have fτh_h_0 : τh.1 (wW W) = some (.inr (.inl (4, [.int (N 9), .ref (wR W), .ref (wM W), .ref (wNL W), .ref (wFL W), .ref (wUN W), .int (N 6), .int (N 8), .int (N 0), .int (N 1), .int (N 2), .int (N 3), .int (N 4), .int (N 5), .int (N 11)]))) := h1_h
  have fτh_h_1 : τh.1 (wFL W) = some (.inr (.inl (14, [.int mcf_h, .ref (wFA W), .int (nI (nF N))]))) := h5_h
  have fτh_h_2 : τh.1 (wFA W) = some (.inl (.object "java/lang/Object", 12, .inr (.inr (.inr (.inr ffA_h))))) := h5p_h
  have fτh_h_3 : τh.1 (wNL W) = some (.inr (.inl (14, [.int mcn_h, .ref (wNA W), .int (nI (nN N))]))) := h4_h
  have fτh_h_4 : τh.1 (wNA W) = some (.inl (.object "java/lang/Object", 4, .inr (.inr (.inr (.inr fnA_h))))) := h4p_h
  have fτh_h_5 : τh.1 (wR W) = some (.inl (.int, 6, .inl fr_h)) := h2_h
  have fτh_h_6 : τh.1 (wM W) = some (.inl (.int, 3, .inl fm_h)) := h3_h
  have fτh_h_7 : τh.1 (wUN W) = some (.inl (.object "FlagLaundry$Test", 7, .inr (.inr (.inr (.inr fu_h))))) := h6_h
  have gyh : τh.1 y = some (.inr (.inl (2, [.int (nI n), .int (nI p.2.1), .int (nI p.2.2.1), .int v, .ref (S p.2.2.2.1), .ref wd, .ref (wW W), .ref x]))) := k9.at wσ hC (ne_of hC hNS.1 (fun q => by simp at q))
  have gxh : τh.1 x = some (.inr (.inl (0, [.ref bf, .int bd, .int pe, .int ep, nv, .ref dq, .ref sv, .ref ou]))) := k9.at wσ hX (ne_of hX hNS.1 (fun q => by simp at q))
  have gbfh : τh.1 bf = some (.inl (.byte, 500, .inl B)) := k9.at wσ hBf (ne_of hBf hNS.1 (fun q => by simp at q))
  refine A_lookup (off := 109) (tgt := 140) dX3_line_31 (by decide +kernel) (by decide +kernel) (by decide) ?_
  refine A_aload_n (i := 1) dX3_line_140 rfl rfl ?_
  refine A_ldcO hac dX3_line_141 ?_
  refine A_callV1E (b' := 150) (v := some (.int (bi (wTub = wTub)))) (τ := τh) (c_strEq τh wd va ac hh9 hz9 wTub wTub hN9 hsc9 (Nat.lt_of_le_of_lt hu6 (by decide)) (by decide)) tJ4_equals q714 hN9.1 rfl rfl dX3_line_143 (by decide) (Nat.le_of_ble_eq_true rfl) (Nat.le_of_ble_eq_true rfl) ?_
  refine A_int (w := 1) (bi_t rfl) ?_
  refine A_if_eq_f (tgt := 238) dX3_line_146 (by decide) (by decide) ?_
  refine A_iconst (v := 2) dX3_line_149 (by decide) ?_
  refine A_istore_n (i := 2) dX3_line_150 rfl (Nat.le_of_ble_eq_true rfl) ?_
  refine A_goto (tgt := 238) dX3_line_151 (by decide) ?_
  refine A_iload_n (i := 2) dX3_line_238 rfl rfl ?_
  refine A_tableIn (tgt := 399) dX3_line_239 (by decide) (by decide) rfl (by decide) ?_
  refine A_aload_n (i := 0) dX3_line_399 rfl rfl ?_
  refine A_aload_n (i := 0) dX3_line_400 rfl rfl ?_
  refine A_getf cb_X3 gyh 6 (Nat.le_of_ble_eq_true rfl) q690 rfl (v := .ref (wW W)) rfl dX3_line_401 ?_
  refine A_getfN cb_X5 fτh_h_0 7 (Nat.le_of_ble_eq_true rfl) q841 rfl (v := .int (N 8)) rfl dX3_line_404 ?_
  refine A_iconst (v := 3) dX3_line_407 (by decide) ?_
  refine A_callV2 (b' := 142) (c_pBeg τh y x bf n S (.ref (wW W)) B p 8 (N 8) 3 (⟨v, wd, gyh, ⟨⟨bd, pe, ep, nv, dq, sv, ou, gxh⟩, gbfh, hn5, hby⟩, hvv, htk, hcn, hsc⟩) hS h0 (by rw [hN]; exact lt_cnt2 (m := 3) hW.2.2.1.1 hT3 (by decide))) tX3_begins q963 gyh rfl rfl dX3_line_408 (by decide) (Nat.le_of_ble_eq_true rfl) (Nat.le_of_ble_eq_true rfl) (fun w9 τs1 hs1 => ?_) (fun E9 q9 τ9 h9 => A_out rfl (LX.of kyτh hl0 h9 (by rw [hth]; exact tu_x1 rfl h9.2.1)))
  obtain ⟨hc9, e9, hWτs1, kτs1⟩ := hs1
  subst e9
  obtain ⟨p1, e1⟩ : ∃ q9, q9 = bgS B n 8 3 p := ⟨_, rfl⟩
  rw [← e1] at hWτs1
  have z0_1 : pcd p1 = 0 := by rw [e1]; exact hc9
  have n9_1 : p1.1 = N := by rw [e1, bg_1]; exact hN
  refine A_wfh (fun wτs1 hgτs1 => ?_)
  have kyτs1 : ky y lo σ τs1 := kyτh.kx kτs1 hl0
  have hl : lo ≤ τs1.2 := Nat.le_trans hl0 kyτs1.1
  have qτs1 : kl lo τs1 τs1 := kl.rf
  have hRlτs1 : RW g τs1 W N := hRh.oth wτh gyh (isW_no (by decide)) kτs1
  obtain ⟨v_1, wd_1, ⟨hC_1, ⟨⟨bd_1, pe_1, ep_1, nv_1, dq_1, sv_1, ou_1, hX_1⟩, hBf_1, hn5_1, hby_1⟩, hvv_1, htk_1, hcn_1, hsc_1⟩, hPW_1⟩ := id hWτs1
  have hRc := hRlτs1
  obtain ⟨h1_1, ⟨fr_1, h2_1, h2p_1⟩, ⟨fm_1, h3_1, h3p_1⟩, ⟨mcn_1, fnA_1, h4_1, h4p_1, h4q_1⟩, ⟨mcf_1, ffA_1, h5_1, h5p_1, h5q_1⟩, ⟨fu_1, h6_1, h6p_1⟩, h7_1, h8_1, h9_1, h10_1, h11_1⟩ := hRc
  have fτs1_1_0 : τs1.1 (wW W) = some (.inr (.inl (4, [.int (N 9), .ref (wR W), .ref (wM W), .ref (wNL W), .ref (wFL W), .ref (wUN W), .int (N 6), .int (N 8), .int (N 0), .int (N 1), .int (N 2), .int (N 3), .int (N 4), .int (N 5), .int (N 11)]))) := h1_1
  have fτs1_1_1 : τs1.1 (wFL W) = some (.inr (.inl (14, [.int mcf_1, .ref (wFA W), .int (nI (nF N))]))) := h5_1
  have fτs1_1_2 : τs1.1 (wFA W) = some (.inl (.object "java/lang/Object", 12, .inr (.inr (.inr (.inr ffA_1))))) := h5p_1
  have fτs1_1_3 : τs1.1 (wNL W) = some (.inr (.inl (14, [.int mcn_1, .ref (wNA W), .int (nI (nN N))]))) := h4_1
  have fτs1_1_4 : τs1.1 (wNA W) = some (.inl (.object "java/lang/Object", 4, .inr (.inr (.inr (.inr fnA_1))))) := h4p_1
  have fτs1_1_5 : τs1.1 (wR W) = some (.inl (.int, 6, .inl fr_1)) := h2_1
  have fτs1_1_6 : τs1.1 (wM W) = some (.inl (.int, 3, .inl fm_1)) := h3_1
  have fτs1_1_7 : τs1.1 (wUN W) = some (.inl (.object "FlagLaundry$Test", 7, .inr (.inr (.inr (.inr fu_1))))) := h6_1
  refine A_aload_n (i := 0) dX3_line_411 rfl rfl ?_
  refine A_getf cb_X3 hC_1 6 (Nat.le_of_ble_eq_true rfl) q690 rfl (v := .ref (wW W)) rfl dX3_line_412 ?_
  refine A_getfN cb_X5 fτs1_1_0 2 (Nat.le_of_ble_eq_true rfl) q828 rfl (v := .ref (wM W)) rfl dX3_line_415 ?_
  refine A_aload_n (i := 0) dX3_line_418 rfl rfl ?_
  refine A_getf cb_X3 hC_1 6 (Nat.le_of_ble_eq_true rfl) q690 rfl (v := .ref (wW W)) rfl dX3_line_419 ?_
  refine A_getfN cb_X5 fτs1_1_0 7 (Nat.le_of_ble_eq_true rfl) q841 rfl (v := .int (N 8)) rfl dX3_line_422 ?_
  refine A_int (w := (nI (nT N))) (hW.2.2.1.1) ?_
  refine A_aload_n (i := 0) dX3_line_425 rfl rfl ?_
  refine A_iconst (v := 1) dX3_line_426 (by decide) ?_
  refine A_bipush (v := 6) dX3_line_427 (by decide) ?_
  refine A_callV2 (b' := 132) (c_pNum τs1 y x bf n S (.ref (wW W)) B p1 1 6 (⟨v_1, wd_1, hC_1, ⟨⟨bd_1, pe_1, ep_1, nv_1, dq_1, sv_1, ou_1, hX_1⟩, hBf_1, hn5_1, hby_1⟩, hvv_1, htk_1, hcn_1, hsc_1⟩) hS z0_1) tX3_number q756 hC_1 rfl rfl dX3_line_429 (by decide) (Nat.le_of_ble_eq_true rfl) (Nat.le_of_ble_eq_true rfl) (fun w9 τs2 hs2 => ?_) (fun E9 q9 τ9 h9 => A_out rfl (LX.of kyτs1 hl0 h9 (by rw [hth]; exact tu_x2 e1 rfl)))
  obtain ⟨hc9, e9, hWτs2, kτs2⟩ := hs2
  have in9_2 := (nu_in hc9).1
  subst e9
  have hc9_2 := hc9
  obtain ⟨p2, e2⟩ : ∃ q9, q9 = nuS B n 1 6 p1 := ⟨_, rfl⟩
  rw [← e2] at hWτs2
  have z0_2 : pcd p2 = 0 := by rw [e2]; exact hc9
  have n9_2 : p2.1 = N := by rw [e2, nu_1]; exact n9_1
  refine A_wfh (fun wτs2 hgτs2 => ?_)
  have kyτs2 : ky y lo σ τs2 := kyτs1.kx kτs2 hl0
  have hl : lo ≤ τs2.2 := Nat.le_trans hl0 kyτs2.1
  have qτs2 : kl lo τs2 τs2 := kl.rf
  have hRlτs2 : RW g τs2 W N := hRlτs1.oth wτs1 hC_1 (isW_no (by decide)) kτs2
  obtain ⟨v_2, wd_2, ⟨hC_2, ⟨⟨bd_2, pe_2, ep_2, nv_2, dq_2, sv_2, ou_2, hX_2⟩, hBf_2, hn5_2, hby_2⟩, hvv_2, htk_2, hcn_2, hsc_2⟩, hPW_2⟩ := id hWτs2
  have hRc := hRlτs2
  obtain ⟨h1_2, ⟨fr_2, h2_2, h2p_2⟩, ⟨fm_2, h3_2, h3p_2⟩, ⟨mcn_2, fnA_2, h4_2, h4p_2, h4q_2⟩, ⟨mcf_2, ffA_2, h5_2, h5p_2, h5q_2⟩, ⟨fu_2, h6_2, h6p_2⟩, h7_2, h8_2, h9_2, h10_2, h11_2⟩ := hRc
  have fτs2_2_0 : τs2.1 (wW W) = some (.inr (.inl (4, [.int (N 9), .ref (wR W), .ref (wM W), .ref (wNL W), .ref (wFL W), .ref (wUN W), .int (N 6), .int (N 8), .int (N 0), .int (N 1), .int (N 2), .int (N 3), .int (N 4), .int (N 5), .int (N 11)]))) := h1_2
  have fτs2_2_1 : τs2.1 (wFL W) = some (.inr (.inl (14, [.int mcf_2, .ref (wFA W), .int (nI (nF N))]))) := h5_2
  have fτs2_2_2 : τs2.1 (wFA W) = some (.inl (.object "java/lang/Object", 12, .inr (.inr (.inr (.inr ffA_2))))) := h5p_2
  have fτs2_2_3 : τs2.1 (wNL W) = some (.inr (.inl (14, [.int mcn_2, .ref (wNA W), .int (nI (nN N))]))) := h4_2
  have fτs2_2_4 : τs2.1 (wNA W) = some (.inl (.object "java/lang/Object", 4, .inr (.inr (.inr (.inr fnA_2))))) := h4p_2
  have fτs2_2_5 : τs2.1 (wR W) = some (.inl (.int, 6, .inl fr_2)) := h2_2
  have fτs2_2_6 : τs2.1 (wM W) = some (.inl (.int, 3, .inl fm_2)) := h3_2
  have fτs2_2_7 : τs2.1 (wUN W) = some (.inl (.object "FlagLaundry$Test", 7, .inr (.inr (.inr (.inr fu_2))))) := h6_2
  refine A_iast fτs2_2_6 (vp_in_nI (Nat.lt_of_le_of_ne hT3 (fun q8 => (fun q9 => bg_ne (le_of0 (show (bgS B n 8 3 p).2.2.2.2.2.1 = 0 by rw [← e1]; exact z0_1)) (by rw [hN]; exact q9)) (by rw [hW.2.2.1.1, q8]; decide))) (by decide)) dX3_line_432 ?_
  refine A_st (σ' := h_put τs2 (wM W) (.inl (.int, 3, .inl (va_up fm_2 (nT N) (nhV 1 6 p1))))) (by rw [nI_clamp (by omega)] <;> rfl) ?_
  obtain ⟨σ1, eσ1⟩ : ∃ τ, τ = h_put τs2 (wM W) (.inl (.int, 3, .inl (va_up fm_2 (nT N) (nhV 1 6 p1)))) := ⟨_, rfl⟩
  refine A_st (σ' := σ1) eσ1.symm ?_
  have wσ1 : wfh σ1 := by rw [eσ1]; exact wτs2.put fτs2_2_6
  have fσ1_0 : σ1.1 (wW W) = some (.inr (.inl (4, [.int (N 9), .ref (wR W), .ref (wM W), .ref (wNL W), .ref (wFL W), .ref (wUN W), .int (N 6), .int (N 8), .int (N 0), .int (N 1), .int (N 2), .int (N 3), .int (N 4), .int (N 5), .int (N 11)]))) := by rw [eσ1]; exact (hp_ne (ne_of (x := .inr (.inl (4, [.int (N 9), .ref (wR W), .ref (wM W), .ref (wNL W), .ref (wFL W), .ref (wUN W), .int (N 6), .int (N 8), .int (N 0), .int (N 1), .int (N 2), .int (N 3), .int (N 4), .int (N 5), .int (N 11)]))) (y := .inl (.int, 3, .inl fm_2)) fτs2_2_0 fτs2_2_6 (fun e8 => by simp at e8))).trans fτs2_2_0
  have fσ1_1 : σ1.1 (wFL W) = some (.inr (.inl (14, [.int mcf_2, .ref (wFA W), .int (nI (nF N))]))) := by rw [eσ1]; exact (hp_ne (ne_of (x := .inr (.inl (14, [.int mcf_2, .ref (wFA W), .int (nI (nF N))]))) (y := .inl (.int, 3, .inl fm_2)) fτs2_2_1 fτs2_2_6 (fun e8 => by simp at e8))).trans fτs2_2_1
  have fσ1_2 : σ1.1 (wFA W) = some (.inl (.object "java/lang/Object", 12, .inr (.inr (.inr (.inr ffA_2))))) := by rw [eσ1]; exact (hp_ne (ne_of (x := .inl (.object "java/lang/Object", 12, .inr (.inr (.inr (.inr ffA_2))))) (y := .inl (.int, 3, .inl fm_2)) fτs2_2_2 fτs2_2_6 (fun e8 => by simp at e8))).trans fτs2_2_2
  have fσ1_3 : σ1.1 (wNL W) = some (.inr (.inl (14, [.int mcn_2, .ref (wNA W), .int (nI (nN N))]))) := by rw [eσ1]; exact (hp_ne (ne_of (x := .inr (.inl (14, [.int mcn_2, .ref (wNA W), .int (nI (nN N))]))) (y := .inl (.int, 3, .inl fm_2)) fτs2_2_3 fτs2_2_6 (fun e8 => by simp at e8))).trans fτs2_2_3
  have fσ1_4 : σ1.1 (wNA W) = some (.inl (.object "java/lang/Object", 4, .inr (.inr (.inr (.inr fnA_2))))) := by rw [eσ1]; exact (hp_ne (ne_of (x := .inl (.object "java/lang/Object", 4, .inr (.inr (.inr (.inr fnA_2))))) (y := .inl (.int, 3, .inl fm_2)) fτs2_2_4 fτs2_2_6 (fun e8 => by simp at e8))).trans fτs2_2_4
  have fσ1_5 : σ1.1 (wR W) = some (.inl (.int, 6, .inl fr_2)) := by rw [eσ1]; exact (hp_ne (ne_of (x := .inl (.int, 6, .inl fr_2)) (y := .inl (.int, 3, .inl fm_2)) fτs2_2_5 fτs2_2_6 (fun e8 => by simp at e8))).trans fτs2_2_5
  have fσ1_6 : σ1.1 (wM W) = some (.inl (.int, 3, .inl (va_up fm_2 (nT N) (nhV 1 6 p1)))) := by rw [eσ1]; exact if_pos rfl
  have fσ1_7 : σ1.1 (wUN W) = some (.inl (.object "FlagLaundry$Test", 7, .inr (.inr (.inr (.inr fu_2))))) := by rw [eσ1]; exact (hp_ne (ne_of (x := .inl (.object "FlagLaundry$Test", 7, .inr (.inr (.inr (.inr fu_2))))) (y := .inl (.int, 3, .inl fm_2)) fτs2_2_7 fτs2_2_6 (fun e8 => by simp at e8))).trans fτs2_2_7
  have fσ1_8 : σ1.1 y = some (.inr (.inl (2, [.int (nI n), .int (nI p2.2.1), .int (nI p2.2.2.1), .int v_2, .ref (S p2.2.2.2.1), .ref wd_2, .ref (wW W), .ref x]))) := by rw [eσ1]; exact (hp_ne (ne_of (x := .inr (.inl (2, [.int (nI n), .int (nI p2.2.1), .int (nI p2.2.2.1), .int v_2, .ref (S p2.2.2.2.1), .ref wd_2, .ref (wW W), .ref x]))) (y := .inl (.int, 3, .inl fm_2)) hC_2 fτs2_2_6 (fun e8 => by simp at e8))).trans hC_2
  have fσ1_9 : σ1.1 x = some (.inr (.inl (0, [.ref bf, .int bd_2, .int pe_2, .int ep_2, nv_2, .ref dq_2, .ref sv_2, .ref ou_2]))) := by rw [eσ1]; exact (hp_ne (ne_of (x := .inr (.inl (0, [.ref bf, .int bd_2, .int pe_2, .int ep_2, nv_2, .ref dq_2, .ref sv_2, .ref ou_2]))) (y := .inl (.int, 3, .inl fm_2)) hX_2 fτs2_2_6 (fun e8 => by simp at e8))).trans hX_2
  have fσ1_10 : σ1.1 bf = some (.inl (.byte, 500, .inl B)) := by rw [eσ1]; exact (hp_ne (ne_of (x := .inl (.byte, 500, .inl B)) (y := .inl (.int, 3, .inl fm_2)) hBf_2 fτs2_2_6 (fun e8 => by simp at e8))).trans hBf_2
  have qσ1 : kl lo τs2 σ1 := by rw [eσ1]; exact qτs2.put hO.2.2.1
  refine A_aload_n (i := 0) dX3_line_433 rfl rfl ?_
  refine A_getf cb_X3 fσ1_8 6 (Nat.le_of_ble_eq_true rfl) q690 rfl (v := .ref (wW W)) rfl dX3_line_434 ?_
  refine A_dup dX3_line_437 rfl ?_
  refine A_getfN cb_X5 fσ1_0 7 (Nat.le_of_ble_eq_true rfl) q841 rfl (v := .int (N 8)) rfl dX3_line_438 ?_
  refine A_iconst (v := 1) dX3_line_441 (by decide) ?_
  refine A_iadd dX3_line_442 ?_
  refine A_putfN cb_X5 fσ1_0 7 (Nat.le_of_ble_eq_true rfl) q841 rfl rfl rfl rfl (Nat.le_of_ble_eq_true rfl) dX3_line_443 ?_
  obtain ⟨σ2, eσ2⟩ : ∃ τ, τ = h_put σ1 (wW W) (.inr (.inl (4, [.int (N 9), .ref (wR W), .ref (wM W), .ref (wNL W), .ref (wFL W), .ref (wUN W), .int (N 6), .int ((N 8) + 1), .int (N 0), .int (N 1), .int (N 2), .int (N 3), .int (N 4), .int (N 5), .int (N 11)]))) := ⟨_, rfl⟩
  refine A_st (σ' := σ2) eσ2.symm ?_
  have wσ2 : wfh σ2 := by rw [eσ2]; exact wσ1.put fσ1_0
  have fσ2_0 : σ2.1 (wW W) = some (.inr (.inl (4, [.int (N 9), .ref (wR W), .ref (wM W), .ref (wNL W), .ref (wFL W), .ref (wUN W), .int (N 6), .int ((N 8) + 1), .int (N 0), .int (N 1), .int (N 2), .int (N 3), .int (N 4), .int (N 5), .int (N 11)]))) := by rw [eσ2]; exact if_pos rfl
  have fσ2_1 : σ2.1 (wFL W) = some (.inr (.inl (14, [.int mcf_2, .ref (wFA W), .int (nI (nF N))]))) := by rw [eσ2]; exact (hp_ne (ne_of (x := .inr (.inl (14, [.int mcf_2, .ref (wFA W), .int (nI (nF N))]))) (y := .inr (.inl (4, [.int (N 9), .ref (wR W), .ref (wM W), .ref (wNL W), .ref (wFL W), .ref (wUN W), .int (N 6), .int (N 8), .int (N 0), .int (N 1), .int (N 2), .int (N 3), .int (N 4), .int (N 5), .int (N 11)]))) fσ1_1 fσ1_0 (fun e8 => by simp at e8))).trans fσ1_1
  have fσ2_2 : σ2.1 (wFA W) = some (.inl (.object "java/lang/Object", 12, .inr (.inr (.inr (.inr ffA_2))))) := by rw [eσ2]; exact (hp_ne (ne_of (x := .inl (.object "java/lang/Object", 12, .inr (.inr (.inr (.inr ffA_2))))) (y := .inr (.inl (4, [.int (N 9), .ref (wR W), .ref (wM W), .ref (wNL W), .ref (wFL W), .ref (wUN W), .int (N 6), .int (N 8), .int (N 0), .int (N 1), .int (N 2), .int (N 3), .int (N 4), .int (N 5), .int (N 11)]))) fσ1_2 fσ1_0 (fun e8 => by simp at e8))).trans fσ1_2
  have fσ2_3 : σ2.1 (wNL W) = some (.inr (.inl (14, [.int mcn_2, .ref (wNA W), .int (nI (nN N))]))) := by rw [eσ2]; exact (hp_ne (ne_of (x := .inr (.inl (14, [.int mcn_2, .ref (wNA W), .int (nI (nN N))]))) (y := .inr (.inl (4, [.int (N 9), .ref (wR W), .ref (wM W), .ref (wNL W), .ref (wFL W), .ref (wUN W), .int (N 6), .int (N 8), .int (N 0), .int (N 1), .int (N 2), .int (N 3), .int (N 4), .int (N 5), .int (N 11)]))) fσ1_3 fσ1_0 (fun e8 => by simp at e8))).trans fσ1_3
  have fσ2_4 : σ2.1 (wNA W) = some (.inl (.object "java/lang/Object", 4, .inr (.inr (.inr (.inr fnA_2))))) := by rw [eσ2]; exact (hp_ne (ne_of (x := .inl (.object "java/lang/Object", 4, .inr (.inr (.inr (.inr fnA_2))))) (y := .inr (.inl (4, [.int (N 9), .ref (wR W), .ref (wM W), .ref (wNL W), .ref (wFL W), .ref (wUN W), .int (N 6), .int (N 8), .int (N 0), .int (N 1), .int (N 2), .int (N 3), .int (N 4), .int (N 5), .int (N 11)]))) fσ1_4 fσ1_0 (fun e8 => by simp at e8))).trans fσ1_4
  have fσ2_5 : σ2.1 (wR W) = some (.inl (.int, 6, .inl fr_2)) := by rw [eσ2]; exact (hp_ne (ne_of (x := .inl (.int, 6, .inl fr_2)) (y := .inr (.inl (4, [.int (N 9), .ref (wR W), .ref (wM W), .ref (wNL W), .ref (wFL W), .ref (wUN W), .int (N 6), .int (N 8), .int (N 0), .int (N 1), .int (N 2), .int (N 3), .int (N 4), .int (N 5), .int (N 11)]))) fσ1_5 fσ1_0 (fun e8 => by simp at e8))).trans fσ1_5
  have fσ2_6 : σ2.1 (wM W) = some (.inl (.int, 3, .inl (va_up fm_2 (nT N) (nhV 1 6 p1)))) := by rw [eσ2]; exact (hp_ne (ne_of (x := .inl (.int, 3, .inl (va_up fm_2 (nT N) (nhV 1 6 p1)))) (y := .inr (.inl (4, [.int (N 9), .ref (wR W), .ref (wM W), .ref (wNL W), .ref (wFL W), .ref (wUN W), .int (N 6), .int (N 8), .int (N 0), .int (N 1), .int (N 2), .int (N 3), .int (N 4), .int (N 5), .int (N 11)]))) fσ1_6 fσ1_0 (fun e8 => by simp at e8))).trans fσ1_6
  have fσ2_7 : σ2.1 (wUN W) = some (.inl (.object "FlagLaundry$Test", 7, .inr (.inr (.inr (.inr fu_2))))) := by rw [eσ2]; exact (hp_ne (ne_of (x := .inl (.object "FlagLaundry$Test", 7, .inr (.inr (.inr (.inr fu_2))))) (y := .inr (.inl (4, [.int (N 9), .ref (wR W), .ref (wM W), .ref (wNL W), .ref (wFL W), .ref (wUN W), .int (N 6), .int (N 8), .int (N 0), .int (N 1), .int (N 2), .int (N 3), .int (N 4), .int (N 5), .int (N 11)]))) fσ1_7 fσ1_0 (fun e8 => by simp at e8))).trans fσ1_7
  have fσ2_8 : σ2.1 y = some (.inr (.inl (2, [.int (nI n), .int (nI p2.2.1), .int (nI p2.2.2.1), .int v_2, .ref (S p2.2.2.2.1), .ref wd_2, .ref (wW W), .ref x]))) := by rw [eσ2]; exact (hp_ne (ne_of (x := .inr (.inl (2, [.int (nI n), .int (nI p2.2.1), .int (nI p2.2.2.1), .int v_2, .ref (S p2.2.2.2.1), .ref wd_2, .ref (wW W), .ref x]))) (y := .inr (.inl (4, [.int (N 9), .ref (wR W), .ref (wM W), .ref (wNL W), .ref (wFL W), .ref (wUN W), .int (N 6), .int (N 8), .int (N 0), .int (N 1), .int (N 2), .int (N 3), .int (N 4), .int (N 5), .int (N 11)]))) fσ1_8 fσ1_0 (fun e8 => by simp at e8))).trans fσ1_8
  have fσ2_9 : σ2.1 x = some (.inr (.inl (0, [.ref bf, .int bd_2, .int pe_2, .int ep_2, nv_2, .ref dq_2, .ref sv_2, .ref ou_2]))) := by rw [eσ2]; exact (hp_ne (ne_of (x := .inr (.inl (0, [.ref bf, .int bd_2, .int pe_2, .int ep_2, nv_2, .ref dq_2, .ref sv_2, .ref ou_2]))) (y := .inr (.inl (4, [.int (N 9), .ref (wR W), .ref (wM W), .ref (wNL W), .ref (wFL W), .ref (wUN W), .int (N 6), .int (N 8), .int (N 0), .int (N 1), .int (N 2), .int (N 3), .int (N 4), .int (N 5), .int (N 11)]))) fσ1_9 fσ1_0 (fun e8 => by simp at e8))).trans fσ1_9
  have fσ2_10 : σ2.1 bf = some (.inl (.byte, 500, .inl B)) := by rw [eσ2]; exact (hp_ne (ne_of (x := .inl (.byte, 500, .inl B)) (y := .inr (.inl (4, [.int (N 9), .ref (wR W), .ref (wM W), .ref (wNL W), .ref (wFL W), .ref (wUN W), .int (N 6), .int (N 8), .int (N 0), .int (N 1), .int (N 2), .int (N 3), .int (N 4), .int (N 5), .int (N 11)]))) fσ1_10 fσ1_0 (fun e8 => by simp at e8))).trans fσ1_10
  have qσ2 : kl lo τs2 σ2 := by rw [eσ2]; exact qσ1.put hO.1
  have hk6 : ¬ N 8 = 3 := fun q9 => bg_ne (le_of0 (show (bgS B n 8 3 p).2.2.2.2.2.1 = 0 by rw [← e1]; exact z0_1)) (by rw [hN]; exact q9)
  have hR7 : RW g σ2 W (tuN N (nhV 1 6 p1)) := hRlτs2.tu wτs2 hW hk6 (by rw [eσ2, eσ1]; exact k2.rf.pa.pb) fσ2_6 h3p_2 (by rw [wld_tu W]; exact fσ2_0)
  have hE7 : tuS B n p = pN (tuN N (nhV 1 6 p1)) p2 := (tu_0 e1 e2 z0_2).trans (by rw [n9_2])
  refine A_goto (tgt := 527) dX3_line_446 (by decide) ?_
  exact A_vret dX3_line_527 rfl (by rw [hth, hE7]; exact ⟨rfl, z0_2, ⟨v_2, wd_2, fσ2_8, ⟨⟨bd_2, pe_2, ep_2, nv_2, dq_2, sv_2, ou_2, fσ2_9⟩, fσ2_10, hn5_2, hby_2⟩, hvv_2, htk_2, hcn_2, hsc_2⟩, ⟨W, rfl, by first | exact hR7 | (rw [rfl]; exact hR7), by first | exact (hO.tu _) | (rw [rfl]; exact (hO.tu _))⟩, by first | exact (GN_tu hG hk6 _) | (rw [rfl]; exact (GN_tu hG hk6 _)), (kyτs2.kl qσ2)⟩)
theorem c_lnWind {l : Launch} {g : GC} (σ : AH) (y x bf n lo : Nat) (S : Int32 → Nat) (W : WA) (B N : AF) (p : PT) (h : PRW g σ y x bf S B n (.ref (wW W)) p) (hS : SRT g S) (h0 : pcd p = 0) (hN : p.1 = N) (hR : RW g σ W N) (hO : own lo W N) (hG : GN N) (hl0 : lo ≤ σ.2) (hy : y < lo) (hx : x < lo) (hb : bf < lo) (hk2 : p.2.2.2.1 = 2) (hwd : wls B p.2.2.1 (p.2.1 - p.2.2.1) = wWind) : AMet l g mX3_line 46 150 [.ref y] σ (LQ g y x bf S B n lo (wW W) (thS B n p) σ) (LX y lo (thS B n p) σ) := by
  refine A_of rfl (by decide) (Nat.le_of_ble_eq_true rfl) (L0 := [(0, .ref y)]) rfl ?_
  refine A_wfh (fun wσ hgσ => ?_)
  have qσ : kl lo σ σ := kl.rf
  refine A_gok (fun hgk => ?_)
  have hD := hG.1
  have hw := hG.2.1
  have hl := hl0
  obtain ⟨v, wd, ⟨hC, ⟨⟨bd, pe, ep, nv, dq, sv, ou, hX⟩, hBf, hn5, hby⟩, hvv, htk, hcn, hsc⟩, hPW⟩ := id h
  have hW := hD.1
  have hR9 := hR
  obtain ⟨h1, ⟨fr, h2, h2p⟩, ⟨fm, h3, h3p⟩, ⟨mcn, fnA, h4, h4p, h4q⟩, ⟨mcf, ffA, h5, h5p, h5q⟩, ⟨fu, h6, h6p⟩, h7, h8, h9, h10, h11⟩ := hR
  have hF12 : nF N ≤ 12 := hW.2.2.2.2.2
  have hN4 : nN N ≤ 4 := hW.2.1.2
  have hC6 : nC N ≤ 6 := hW.1.2
  have hT3 : nT N ≤ 3 := hW.2.2.1.2
  have hP8 : nP N ≤ 8 := hW.2.2.2.1.2
  obtain ⟨_, hw6, hw0, va, hNS⟩ : p.2.2.2.1 = 2 ∧ p.2.1 - p.2.2.1 ≤ 6 ∧ 0 < p.2.1 - p.2.2.1 ∧ ∃ va, NST σ wd va 0 0 (wls B p.2.2.1 (p.2.1 - p.2.2.1)) := hPW.resolve_right (fun q => q.1 hk2)
  rw [hwd] at hNS
  have hlu : (wls B p.2.2.1 (p.2.1 - p.2.2.1)).length = p.2.1 - p.2.2.1 := wls_len _ _ _
  rw [hwd] at hlu
  have hu6 : wWind.length ≤ 6 := by rw [hlu]; exact hw6
  have hu0 : 0 < wWind.length := by rw [hlu]; exact hw0
  refine A_aload_n (i := 0) dX3_line_0 rfl rfl ?_
  refine A_aload_n (i := 0) dX3_line_1 rfl rfl ?_
  refine A_getf cb_X3 hC 4 (Nat.le_of_ble_eq_true rfl) q688 rfl (v := .ref (S p.2.2.2.1)) rfl dX3_line_2 ?_
  refine A_getsO hS.2.2.1 q429 rfl dX3_line_5 ?_
  refine A_acmp_ne_f (tgt := 15) (x := (some (S p.2.2.2.1))) (y := (some (S 2))) dX3_line_8 (by decide) (by rw [hk2]) ?_
  refine A_iconst (v := 1) dX3_line_11 (by decide) ?_
  refine A_goto (tgt := 16) dX3_line_12 (by decide) ?_
  refine A_iconst (v := 1) dX3_line_16 (by decide) ?_
  refine A_callV2E (b' := 150) (v := none) (τ := σ) (c_pChk σ y 1) tX3_check q722 hC rfl rfl dX3_line_17 (by decide) (Nat.le_of_ble_eq_true rfl) (Nat.le_of_ble_eq_true rfl) ?_
  refine A_aload_n (i := 0) dX3_line_20 rfl rfl ?_
  refine A_getf cb_X3 hC 5 (Nat.le_of_ble_eq_true rfl) q689 rfl (v := .ref wd) rfl dX3_line_21 ?_
  refine A_astore_n (i := 1) dX3_line_24 rfl (Nat.le_of_ble_eq_true rfl) ?_
  obtain ⟨ac, hac, hsc9⟩ := litP205 hgk
  refine A_iconst (v := (-1)) dX3_line_25 (by decide) ?_
  refine A_istore_n (i := 2) dX3_line_26 rfl (Nat.le_of_ble_eq_true rfl) ?_
  refine A_aload_n (i := 1) dX3_line_27 rfl rfl ?_
  have hth : thS B n p = wiS B n p := (th_word ⟨h0, hk2⟩ hwd).trans (by unfold lnS; rw [if_neg (by decide)]; rw [if_neg (by decide)]; rw [if_neg (by decide)]; rw [if_neg (by decide)]; rw [if_neg (by decide)]; rw [if_neg (by decide)]; rw [if_neg (by decide)]; rw [if_pos rfl])
  refine A_callV0 (b' := 150) (c_strHash σ wd va wWind hNS hu6 hu0) tJ4_hashCode q893 hNS.1 rfl rfl dX3_line_28 (by decide) (Nat.le_of_ble_eq_true rfl) (Nat.le_of_ble_eq_true rfl) (fun w9 τh hh => ?_) (fun E9 q9 τ9 h9 => h9.elim)
  obtain ⟨e9, ⟨hh9, hz9, hN9⟩, k9⟩ := hh
  rw [show hsU wWind wWind.length = 3649544 by decide +kernel] at e9
  subst e9
  refine A_wfh (fun wτh hgτh => ?_)
  have kyτh : ky y lo σ τh := ky.rf.st hNS.1 k9 hl0
  have hl : lo ≤ τh.2 := Nat.le_trans hl0 kyτh.1
  have qτh : kl lo τh τh := kl.rf
  have hRh : RW g τh W N := hR9.oth wσ hNS.1 (isW_no (by decide)) k9
  have hRc := hRh
  obtain ⟨h1_h, ⟨fr_h, h2_h, h2p_h⟩, ⟨fm_h, h3_h, h3p_h⟩, ⟨mcn_h, fnA_h, h4_h, h4p_h, h4q_h⟩, ⟨mcf_h, ffA_h, h5_h, h5p_h, h5q_h⟩, ⟨fu_h, h6_h, h6p_h⟩, h7_h, h8_h, h9_h, h10_h, h11_h⟩ := hRc
  have fτh_h_0 : τh.1 (wW W) = some (.inr (.inl (4, [.int (N 9), .ref (wR W), .ref (wM W), .ref (wNL W), .ref (wFL W), .ref (wUN W), .int (N 6), .int (N 8), .int (N 0), .int (N 1), .int (N 2), .int (N 3), .int (N 4), .int (N 5), .int (N 11)]))) := h1_h
  have fτh_h_1 : τh.1 (wFL W) = some (.inr (.inl (14, [.int mcf_h, .ref (wFA W), .int (nI (nF N))]))) := h5_h
  have fτh_h_2 : τh.1 (wFA W) = some (.inl (.object "java/lang/Object", 12, .inr (.inr (.inr (.inr ffA_h))))) := h5p_h
  have fτh_h_3 : τh.1 (wNL W) = some (.inr (.inl (14, [.int mcn_h, .ref (wNA W), .int (nI (nN N))]))) := h4_h
  have fτh_h_4 : τh.1 (wNA W) = some (.inl (.object "java/lang/Object", 4, .inr (.inr (.inr (.inr fnA_h))))) := h4p_h
  have fτh_h_5 : τh.1 (wR W) = some (.inl (.int, 6, .inl fr_h)) := h2_h
  have fτh_h_6 : τh.1 (wM W) = some (.inl (.int, 3, .inl fm_h)) := h3_h
  have fτh_h_7 : τh.1 (wUN W) = some (.inl (.object "FlagLaundry$Test", 7, .inr (.inr (.inr (.inr fu_h))))) := h6_h
  have gyh : τh.1 y = some (.inr (.inl (2, [.int (nI n), .int (nI p.2.1), .int (nI p.2.2.1), .int v, .ref (S p.2.2.2.1), .ref wd, .ref (wW W), .ref x]))) := k9.at wσ hC (ne_of hC hNS.1 (fun q => by simp at q))
  have gxh : τh.1 x = some (.inr (.inl (0, [.ref bf, .int bd, .int pe, .int ep, nv, .ref dq, .ref sv, .ref ou]))) := k9.at wσ hX (ne_of hX hNS.1 (fun q => by simp at q))
  have gbfh : τh.1 bf = some (.inl (.byte, 500, .inl B)) := k9.at wσ hBf (ne_of hBf hNS.1 (fun q => by simp at q))
  refine A_lookup (off := 180) (tgt := 211) dX3_line_31 (by decide +kernel) (by decide +kernel) (by decide) ?_
  refine A_aload_n (i := 1) dX3_line_211 rfl rfl ?_
  refine A_ldcO hac dX3_line_212 ?_
  refine A_callV1E (b' := 150) (v := some (.int (bi (wWind = wWind)))) (τ := τh) (c_strEq τh wd va ac hh9 hz9 wWind wWind hN9 hsc9 (Nat.lt_of_le_of_lt hu6 (by decide)) (by decide)) tJ4_equals q714 hN9.1 rfl rfl dX3_line_214 (by decide) (Nat.le_of_ble_eq_true rfl) (Nat.le_of_ble_eq_true rfl) ?_
  refine A_int (w := 1) (bi_t rfl) ?_
  refine A_if_eq_f (tgt := 238) dX3_line_217 (by decide) (by decide) ?_
  refine A_bipush (v := 7) dX3_line_220 (by decide) ?_
  refine A_istore_n (i := 2) dX3_line_222 rfl (Nat.le_of_ble_eq_true rfl) ?_
  refine A_goto (tgt := 238) dX3_line_223 (by decide) ?_
  refine A_iload_n (i := 2) dX3_line_238 rfl rfl ?_
  refine A_tableIn (tgt := 477) dX3_line_239 (by decide) (by decide) rfl (by decide) ?_
  refine A_aload_n (i := 0) dX3_line_477 rfl rfl ?_
  refine A_callV0 (b' := 142) (c_pStep τh y x bf n S (.ref (wW W)) B p (⟨v, wd, gyh, ⟨⟨bd, pe, ep, nv, dq, sv, ou, gxh⟩, gbfh, hn5, hby⟩, hvv, htk, hcn, hsc⟩) hS h0) tX3_step q414 gyh rfl rfl dX3_line_478 (by decide) (Nat.le_of_ble_eq_true rfl) (Nat.le_of_ble_eq_true rfl) (fun w9 τs1 hs1 => ?_) (fun E9 q9 τ9 h9 => h9.elim)
  obtain ⟨e8, hWτs1, kτs1⟩ := hs1
  subst e8
  obtain ⟨p1, e1⟩ : ∃ q9, q9 = goesS B n p := ⟨_, rfl⟩
  rw [← e1] at hWτs1
  have z0_1 : pcd p1 = 0 := by rw [e1]; exact goes_pcd h0
  have n9_1 : p1.1 = N := by rw [e1, goes_1] <;> exact hN
  refine A_wfh (fun wτs1 hgτs1 => ?_)
  have kyτs1 : ky y lo σ τs1 := kyτh.kx kτs1 hl0
  have hl : lo ≤ τs1.2 := Nat.le_trans hl0 kyτs1.1
  have qτs1 : kl lo τs1 τs1 := kl.rf
  have hRlτs1 : RW g τs1 W N := hRh.oth wτh gyh (isW_no (by decide)) kτs1
  obtain ⟨v_1, wd_1, ⟨hC_1, ⟨⟨bd_1, pe_1, ep_1, nv_1, dq_1, sv_1, ou_1, hX_1⟩, hBf_1, hn5_1, hby_1⟩, hvv_1, htk_1, hcn_1, hsc_1⟩, hPW_1⟩ := id hWτs1
  have hRc := hRlτs1
  obtain ⟨h1_1, ⟨fr_1, h2_1, h2p_1⟩, ⟨fm_1, h3_1, h3p_1⟩, ⟨mcn_1, fnA_1, h4_1, h4p_1, h4q_1⟩, ⟨mcf_1, ffA_1, h5_1, h5p_1, h5q_1⟩, ⟨fu_1, h6_1, h6p_1⟩, h7_1, h8_1, h9_1, h10_1, h11_1⟩ := hRc
  have fτs1_1_0 : τs1.1 (wW W) = some (.inr (.inl (4, [.int (N 9), .ref (wR W), .ref (wM W), .ref (wNL W), .ref (wFL W), .ref (wUN W), .int (N 6), .int (N 8), .int (N 0), .int (N 1), .int (N 2), .int (N 3), .int (N 4), .int (N 5), .int (N 11)]))) := h1_1
  have fτs1_1_1 : τs1.1 (wFL W) = some (.inr (.inl (14, [.int mcf_1, .ref (wFA W), .int (nI (nF N))]))) := h5_1
  have fτs1_1_2 : τs1.1 (wFA W) = some (.inl (.object "java/lang/Object", 12, .inr (.inr (.inr (.inr ffA_1))))) := h5p_1
  have fτs1_1_3 : τs1.1 (wNL W) = some (.inr (.inl (14, [.int mcn_1, .ref (wNA W), .int (nI (nN N))]))) := h4_1
  have fτs1_1_4 : τs1.1 (wNA W) = some (.inl (.object "java/lang/Object", 4, .inr (.inr (.inr (.inr fnA_1))))) := h4p_1
  have fτs1_1_5 : τs1.1 (wR W) = some (.inl (.int, 6, .inl fr_1)) := h2_1
  have fτs1_1_6 : τs1.1 (wM W) = some (.inl (.int, 3, .inl fm_1)) := h3_1
  have fτs1_1_7 : τs1.1 (wUN W) = some (.inl (.object "FlagLaundry$Test", 7, .inr (.inr (.inr (.inr fu_1))))) := h6_1
  refine A_aload_n (i := 0) dX3_line_481 rfl rfl ?_
  refine A_getf cb_X3 hC_1 6 (Nat.le_of_ble_eq_true rfl) q690 rfl (v := .ref (wW W)) rfl dX3_line_482 ?_
  refine A_aload_n (i := 0) dX3_line_485 rfl rfl ?_
  refine A_iconst (v := 0) dX3_line_486 (by decide) ?_
  refine A_bipush (v := 9) dX3_line_487 (by decide) ?_
  refine A_callV2 (b' := 132) (c_pNum τs1 y x bf n S (.ref (wW W)) B p1 0 9 (⟨v_1, wd_1, hC_1, ⟨⟨bd_1, pe_1, ep_1, nv_1, dq_1, sv_1, ou_1, hX_1⟩, hBf_1, hn5_1, hby_1⟩, hvv_1, htk_1, hcn_1, hsc_1⟩) hS z0_1) tX3_number q756 hC_1 rfl rfl dX3_line_489 (by decide) (Nat.le_of_ble_eq_true rfl) (Nat.le_of_ble_eq_true rfl) (fun w9 τs2 hs2 => ?_) (fun E9 q9 τ9 h9 => A_out rfl (LX.of kyτs1 hl0 h9 (by rw [hth]; exact wi_x2 e1 rfl)))
  obtain ⟨hc9, e9, hWτs2, kτs2⟩ := hs2
  have in9_2 := (nu_in hc9).1
  subst e9
  have hc9_2 := hc9
  obtain ⟨p2, e2⟩ : ∃ q9, q9 = nuS B n 0 9 p1 := ⟨_, rfl⟩
  rw [← e2] at hWτs2
  have z0_2 : pcd p2 = 0 := by rw [e2]; exact hc9
  have n9_2 : p2.1 = N := by rw [e2, nu_1]; exact n9_1
  refine A_wfh (fun wτs2 hgτs2 => ?_)
  have kyτs2 : ky y lo σ τs2 := kyτs1.kx kτs2 hl0
  have hl : lo ≤ τs2.2 := Nat.le_trans hl0 kyτs2.1
  have qτs2 : kl lo τs2 τs2 := kl.rf
  have hRlτs2 : RW g τs2 W N := hRlτs1.oth wτs1 hC_1 (isW_no (by decide)) kτs2
  obtain ⟨v_2, wd_2, ⟨hC_2, ⟨⟨bd_2, pe_2, ep_2, nv_2, dq_2, sv_2, ou_2, hX_2⟩, hBf_2, hn5_2, hby_2⟩, hvv_2, htk_2, hcn_2, hsc_2⟩, hPW_2⟩ := id hWτs2
  have hRc := hRlτs2
  obtain ⟨h1_2, ⟨fr_2, h2_2, h2p_2⟩, ⟨fm_2, h3_2, h3p_2⟩, ⟨mcn_2, fnA_2, h4_2, h4p_2, h4q_2⟩, ⟨mcf_2, ffA_2, h5_2, h5p_2, h5q_2⟩, ⟨fu_2, h6_2, h6p_2⟩, h7_2, h8_2, h9_2, h10_2, h11_2⟩ := hRc
  have fτs2_2_0 : τs2.1 (wW W) = some (.inr (.inl (4, [.int (N 9), .ref (wR W), .ref (wM W), .ref (wNL W), .ref (wFL W), .ref (wUN W), .int (N 6), .int (N 8), .int (N 0), .int (N 1), .int (N 2), .int (N 3), .int (N 4), .int (N 5), .int (N 11)]))) := h1_2
  have fτs2_2_1 : τs2.1 (wFL W) = some (.inr (.inl (14, [.int mcf_2, .ref (wFA W), .int (nI (nF N))]))) := h5_2
  have fτs2_2_2 : τs2.1 (wFA W) = some (.inl (.object "java/lang/Object", 12, .inr (.inr (.inr (.inr ffA_2))))) := h5p_2
  have fτs2_2_3 : τs2.1 (wNL W) = some (.inr (.inl (14, [.int mcn_2, .ref (wNA W), .int (nI (nN N))]))) := h4_2
  have fτs2_2_4 : τs2.1 (wNA W) = some (.inl (.object "java/lang/Object", 4, .inr (.inr (.inr (.inr fnA_2))))) := h4p_2
  have fτs2_2_5 : τs2.1 (wR W) = some (.inl (.int, 6, .inl fr_2)) := h2_2
  have fτs2_2_6 : τs2.1 (wM W) = some (.inl (.int, 3, .inl fm_2)) := h3_2
  have fτs2_2_7 : τs2.1 (wUN W) = some (.inl (.object "FlagLaundry$Test", 7, .inr (.inr (.inr (.inr fu_2))))) := h6_2
  refine A_putfN cb_X5 fτs2_2_0 9 (Nat.le_of_ble_eq_true rfl) q846 rfl rfl rfl rfl (Nat.le_of_ble_eq_true rfl) dX3_line_492 ?_
  obtain ⟨σ1, eσ1⟩ : ∃ τ, τ = h_put τs2 (wW W) (.inr (.inl (4, [.int (N 9), .ref (wR W), .ref (wM W), .ref (wNL W), .ref (wFL W), .ref (wUN W), .int (N 6), .int (N 8), .int (N 0), .int (nhV 0 9 p1), .int (N 2), .int (N 3), .int (N 4), .int (N 5), .int (N 11)]))) := ⟨_, rfl⟩
  refine A_st (σ' := σ1) eσ1.symm ?_
  have wσ1 : wfh σ1 := by rw [eσ1]; exact wτs2.put fτs2_2_0
  have fσ1_0 : σ1.1 (wW W) = some (.inr (.inl (4, [.int (N 9), .ref (wR W), .ref (wM W), .ref (wNL W), .ref (wFL W), .ref (wUN W), .int (N 6), .int (N 8), .int (N 0), .int (nhV 0 9 p1), .int (N 2), .int (N 3), .int (N 4), .int (N 5), .int (N 11)]))) := by rw [eσ1]; exact if_pos rfl
  have fσ1_1 : σ1.1 (wFL W) = some (.inr (.inl (14, [.int mcf_2, .ref (wFA W), .int (nI (nF N))]))) := by rw [eσ1]; exact (hp_ne (ne_of (x := .inr (.inl (14, [.int mcf_2, .ref (wFA W), .int (nI (nF N))]))) (y := .inr (.inl (4, [.int (N 9), .ref (wR W), .ref (wM W), .ref (wNL W), .ref (wFL W), .ref (wUN W), .int (N 6), .int (N 8), .int (N 0), .int (N 1), .int (N 2), .int (N 3), .int (N 4), .int (N 5), .int (N 11)]))) fτs2_2_1 fτs2_2_0 (fun e8 => by simp at e8))).trans fτs2_2_1
  have fσ1_2 : σ1.1 (wFA W) = some (.inl (.object "java/lang/Object", 12, .inr (.inr (.inr (.inr ffA_2))))) := by rw [eσ1]; exact (hp_ne (ne_of (x := .inl (.object "java/lang/Object", 12, .inr (.inr (.inr (.inr ffA_2))))) (y := .inr (.inl (4, [.int (N 9), .ref (wR W), .ref (wM W), .ref (wNL W), .ref (wFL W), .ref (wUN W), .int (N 6), .int (N 8), .int (N 0), .int (N 1), .int (N 2), .int (N 3), .int (N 4), .int (N 5), .int (N 11)]))) fτs2_2_2 fτs2_2_0 (fun e8 => by simp at e8))).trans fτs2_2_2
  have fσ1_3 : σ1.1 (wNL W) = some (.inr (.inl (14, [.int mcn_2, .ref (wNA W), .int (nI (nN N))]))) := by rw [eσ1]; exact (hp_ne (ne_of (x := .inr (.inl (14, [.int mcn_2, .ref (wNA W), .int (nI (nN N))]))) (y := .inr (.inl (4, [.int (N 9), .ref (wR W), .ref (wM W), .ref (wNL W), .ref (wFL W), .ref (wUN W), .int (N 6), .int (N 8), .int (N 0), .int (N 1), .int (N 2), .int (N 3), .int (N 4), .int (N 5), .int (N 11)]))) fτs2_2_3 fτs2_2_0 (fun e8 => by simp at e8))).trans fτs2_2_3
  have fσ1_4 : σ1.1 (wNA W) = some (.inl (.object "java/lang/Object", 4, .inr (.inr (.inr (.inr fnA_2))))) := by rw [eσ1]; exact (hp_ne (ne_of (x := .inl (.object "java/lang/Object", 4, .inr (.inr (.inr (.inr fnA_2))))) (y := .inr (.inl (4, [.int (N 9), .ref (wR W), .ref (wM W), .ref (wNL W), .ref (wFL W), .ref (wUN W), .int (N 6), .int (N 8), .int (N 0), .int (N 1), .int (N 2), .int (N 3), .int (N 4), .int (N 5), .int (N 11)]))) fτs2_2_4 fτs2_2_0 (fun e8 => by simp at e8))).trans fτs2_2_4
  have fσ1_5 : σ1.1 (wR W) = some (.inl (.int, 6, .inl fr_2)) := by rw [eσ1]; exact (hp_ne (ne_of (x := .inl (.int, 6, .inl fr_2)) (y := .inr (.inl (4, [.int (N 9), .ref (wR W), .ref (wM W), .ref (wNL W), .ref (wFL W), .ref (wUN W), .int (N 6), .int (N 8), .int (N 0), .int (N 1), .int (N 2), .int (N 3), .int (N 4), .int (N 5), .int (N 11)]))) fτs2_2_5 fτs2_2_0 (fun e8 => by simp at e8))).trans fτs2_2_5
  have fσ1_6 : σ1.1 (wM W) = some (.inl (.int, 3, .inl fm_2)) := by rw [eσ1]; exact (hp_ne (ne_of (x := .inl (.int, 3, .inl fm_2)) (y := .inr (.inl (4, [.int (N 9), .ref (wR W), .ref (wM W), .ref (wNL W), .ref (wFL W), .ref (wUN W), .int (N 6), .int (N 8), .int (N 0), .int (N 1), .int (N 2), .int (N 3), .int (N 4), .int (N 5), .int (N 11)]))) fτs2_2_6 fτs2_2_0 (fun e8 => by simp at e8))).trans fτs2_2_6
  have fσ1_7 : σ1.1 (wUN W) = some (.inl (.object "FlagLaundry$Test", 7, .inr (.inr (.inr (.inr fu_2))))) := by rw [eσ1]; exact (hp_ne (ne_of (x := .inl (.object "FlagLaundry$Test", 7, .inr (.inr (.inr (.inr fu_2))))) (y := .inr (.inl (4, [.int (N 9), .ref (wR W), .ref (wM W), .ref (wNL W), .ref (wFL W), .ref (wUN W), .int (N 6), .int (N 8), .int (N 0), .int (N 1), .int (N 2), .int (N 3), .int (N 4), .int (N 5), .int (N 11)]))) fτs2_2_7 fτs2_2_0 (fun e8 => by simp at e8))).trans fτs2_2_7
  have fσ1_8 : σ1.1 y = some (.inr (.inl (2, [.int (nI n), .int (nI p2.2.1), .int (nI p2.2.2.1), .int v_2, .ref (S p2.2.2.2.1), .ref wd_2, .ref (wW W), .ref x]))) := by rw [eσ1]; exact (hp_ne (ne_of (x := .inr (.inl (2, [.int (nI n), .int (nI p2.2.1), .int (nI p2.2.2.1), .int v_2, .ref (S p2.2.2.2.1), .ref wd_2, .ref (wW W), .ref x]))) (y := .inr (.inl (4, [.int (N 9), .ref (wR W), .ref (wM W), .ref (wNL W), .ref (wFL W), .ref (wUN W), .int (N 6), .int (N 8), .int (N 0), .int (N 1), .int (N 2), .int (N 3), .int (N 4), .int (N 5), .int (N 11)]))) hC_2 fτs2_2_0 (fun e8 => by simp at e8))).trans hC_2
  have fσ1_9 : σ1.1 x = some (.inr (.inl (0, [.ref bf, .int bd_2, .int pe_2, .int ep_2, nv_2, .ref dq_2, .ref sv_2, .ref ou_2]))) := by rw [eσ1]; exact (hp_ne (ne_of (x := .inr (.inl (0, [.ref bf, .int bd_2, .int pe_2, .int ep_2, nv_2, .ref dq_2, .ref sv_2, .ref ou_2]))) (y := .inr (.inl (4, [.int (N 9), .ref (wR W), .ref (wM W), .ref (wNL W), .ref (wFL W), .ref (wUN W), .int (N 6), .int (N 8), .int (N 0), .int (N 1), .int (N 2), .int (N 3), .int (N 4), .int (N 5), .int (N 11)]))) hX_2 fτs2_2_0 (fun e8 => by simp at e8))).trans hX_2
  have fσ1_10 : σ1.1 bf = some (.inl (.byte, 500, .inl B)) := by rw [eσ1]; exact (hp_ne (ne_of (x := .inl (.byte, 500, .inl B)) (y := .inr (.inl (4, [.int (N 9), .ref (wR W), .ref (wM W), .ref (wNL W), .ref (wFL W), .ref (wUN W), .int (N 6), .int (N 8), .int (N 0), .int (N 1), .int (N 2), .int (N 3), .int (N 4), .int (N 5), .int (N 11)]))) hBf_2 fτs2_2_0 (fun e8 => by simp at e8))).trans hBf_2
  have qσ1 : kl lo τs2 σ1 := by rw [eσ1]; exact qτs2.put hO.1
  have hR7 : RW g σ1 W (va_up N 1 (nhV 0 9 p1)) := hRlτs2.scal wτs2 (by rw [eσ1]; exact kx.rf.put) fσ1_0 (scl_va _ (by decide) _)
  have hE7 : wiS B n p = pN (va_up N 1 (nhV 0 9 p1)) p2 := (wi_0 e1 e2 z0_2).trans (by rw [n9_2])
  refine A_goto (tgt := 527) dX3_line_495 (by decide) ?_
  exact A_vret dX3_line_527 rfl (by rw [hth, hE7]; exact ⟨rfl, z0_2, ⟨v_2, wd_2, fσ1_8, ⟨⟨bd_2, pe_2, ep_2, nv_2, dq_2, sv_2, ou_2, fσ1_9⟩, fσ1_10, hn5_2, hby_2⟩, hvv_2, htk_2, hcn_2, hsc_2⟩, ⟨W, rfl, by first | exact hR7 | (rw [rfl]; exact hR7), by first | exact (hO.wi _) | (rw [rfl]; exact (hO.wi _))⟩, by first | exact (GN_wind hG in9_2) | (rw [rfl]; exact (GN_wind hG in9_2)), (kyτs2.kl qσ1)⟩)
theorem c_lnPass {l : Launch} {g : GC} (σ : AH) (y x bf n lo : Nat) (S : Int32 → Nat) (W : WA) (B N : AF) (p : PT) (h : PRW g σ y x bf S B n (.ref (wW W)) p) (hS : SRT g S) (h0 : pcd p = 0) (hN : p.1 = N) (hR : RW g σ W N) (hO : own lo W N) (hG : GN N) (hl0 : lo ≤ σ.2) (hy : y < lo) (hx : x < lo) (hb : bf < lo) (hk2 : p.2.2.2.1 = 2) (hwd : wls B p.2.2.1 (p.2.1 - p.2.2.1) = wPass) : AMet l g mX3_line 46 150 [.ref y] σ (LQ g y x bf S B n lo (wW W) (thS B n p) σ) (LX y lo (thS B n p) σ) := by
  refine A_of rfl (by decide) (Nat.le_of_ble_eq_true rfl) (L0 := [(0, .ref y)]) rfl ?_
  refine A_wfh (fun wσ hgσ => ?_)
  have qσ : kl lo σ σ := kl.rf
  refine A_gok (fun hgk => ?_)
  have hD := hG.1
  have hw := hG.2.1
  have hl := hl0
  obtain ⟨v, wd, ⟨hC, ⟨⟨bd, pe, ep, nv, dq, sv, ou, hX⟩, hBf, hn5, hby⟩, hvv, htk, hcn, hsc⟩, hPW⟩ := id h
  have hW := hD.1
  have hR9 := hR
  obtain ⟨h1, ⟨fr, h2, h2p⟩, ⟨fm, h3, h3p⟩, ⟨mcn, fnA, h4, h4p, h4q⟩, ⟨mcf, ffA, h5, h5p, h5q⟩, ⟨fu, h6, h6p⟩, h7, h8, h9, h10, h11⟩ := hR
  have hF12 : nF N ≤ 12 := hW.2.2.2.2.2
  have hN4 : nN N ≤ 4 := hW.2.1.2
  have hC6 : nC N ≤ 6 := hW.1.2
  have hT3 : nT N ≤ 3 := hW.2.2.1.2
  have hP8 : nP N ≤ 8 := hW.2.2.2.1.2
  obtain ⟨_, hw6, hw0, va, hNS⟩ : p.2.2.2.1 = 2 ∧ p.2.1 - p.2.2.1 ≤ 6 ∧ 0 < p.2.1 - p.2.2.1 ∧ ∃ va, NST σ wd va 0 0 (wls B p.2.2.1 (p.2.1 - p.2.2.1)) := hPW.resolve_right (fun q => q.1 hk2)
  rw [hwd] at hNS
  have hlu : (wls B p.2.2.1 (p.2.1 - p.2.2.1)).length = p.2.1 - p.2.2.1 := wls_len _ _ _
  rw [hwd] at hlu
  have hu6 : wPass.length ≤ 6 := by rw [hlu]; exact hw6
  have hu0 : 0 < wPass.length := by rw [hlu]; exact hw0
  refine A_aload_n (i := 0) dX3_line_0 rfl rfl ?_
  refine A_aload_n (i := 0) dX3_line_1 rfl rfl ?_
  refine A_getf cb_X3 hC 4 (Nat.le_of_ble_eq_true rfl) q688 rfl (v := .ref (S p.2.2.2.1)) rfl dX3_line_2 ?_
  refine A_getsO hS.2.2.1 q429 rfl dX3_line_5 ?_
  refine A_acmp_ne_f (tgt := 15) (x := (some (S p.2.2.2.1))) (y := (some (S 2))) dX3_line_8 (by decide) (by rw [hk2]) ?_
  refine A_iconst (v := 1) dX3_line_11 (by decide) ?_
  refine A_goto (tgt := 16) dX3_line_12 (by decide) ?_
  refine A_iconst (v := 1) dX3_line_16 (by decide) ?_
  refine A_callV2E (b' := 150) (v := none) (τ := σ) (c_pChk σ y 1) tX3_check q722 hC rfl rfl dX3_line_17 (by decide) (Nat.le_of_ble_eq_true rfl) (Nat.le_of_ble_eq_true rfl) ?_
  refine A_aload_n (i := 0) dX3_line_20 rfl rfl ?_
  refine A_getf cb_X3 hC 5 (Nat.le_of_ble_eq_true rfl) q689 rfl (v := .ref wd) rfl dX3_line_21 ?_
  refine A_astore_n (i := 1) dX3_line_24 rfl (Nat.le_of_ble_eq_true rfl) ?_
  obtain ⟨ac, hac, hsc9⟩ := litP207 hgk
  refine A_iconst (v := (-1)) dX3_line_25 (by decide) ?_
  refine A_istore_n (i := 2) dX3_line_26 rfl (Nat.le_of_ble_eq_true rfl) ?_
  refine A_aload_n (i := 1) dX3_line_27 rfl rfl ?_
  have hth : thS B n p = paS B n p := (th_word ⟨h0, hk2⟩ hwd).trans (by unfold lnS; rw [if_neg (by decide)]; rw [if_neg (by decide)]; rw [if_neg (by decide)]; rw [if_neg (by decide)]; rw [if_neg (by decide)]; rw [if_neg (by decide)]; rw [if_neg (by decide)]; rw [if_neg (by decide)]; rw [if_pos rfl])
  refine A_callV0 (b' := 150) (c_strHash σ wd va wPass hNS hu6 hu0) tJ4_hashCode q893 hNS.1 rfl rfl dX3_line_28 (by decide) (Nat.le_of_ble_eq_true rfl) (Nat.le_of_ble_eq_true rfl) (fun w9 τh hh => ?_) (fun E9 q9 τ9 h9 => h9.elim)
  obtain ⟨e9, ⟨hh9, hz9, hN9⟩, k9⟩ := hh
  rw [show hsU wPass wPass.length = 3433489 by decide +kernel] at e9
  subst e9
  refine A_wfh (fun wτh hgτh => ?_)
  have kyτh : ky y lo σ τh := ky.rf.st hNS.1 k9 hl0
  have hl : lo ≤ τh.2 := Nat.le_trans hl0 kyτh.1
  have qτh : kl lo τh τh := kl.rf
  have hRh : RW g τh W N := hR9.oth wσ hNS.1 (isW_no (by decide)) k9
  have hRc := hRh
  obtain ⟨h1_h, ⟨fr_h, h2_h, h2p_h⟩, ⟨fm_h, h3_h, h3p_h⟩, ⟨mcn_h, fnA_h, h4_h, h4p_h, h4q_h⟩, ⟨mcf_h, ffA_h, h5_h, h5p_h, h5q_h⟩, ⟨fu_h, h6_h, h6p_h⟩, h7_h, h8_h, h9_h, h10_h, h11_h⟩ := hRc
  have fτh_h_0 : τh.1 (wW W) = some (.inr (.inl (4, [.int (N 9), .ref (wR W), .ref (wM W), .ref (wNL W), .ref (wFL W), .ref (wUN W), .int (N 6), .int (N 8), .int (N 0), .int (N 1), .int (N 2), .int (N 3), .int (N 4), .int (N 5), .int (N 11)]))) := h1_h
  have fτh_h_1 : τh.1 (wFL W) = some (.inr (.inl (14, [.int mcf_h, .ref (wFA W), .int (nI (nF N))]))) := h5_h
  have fτh_h_2 : τh.1 (wFA W) = some (.inl (.object "java/lang/Object", 12, .inr (.inr (.inr (.inr ffA_h))))) := h5p_h
  have fτh_h_3 : τh.1 (wNL W) = some (.inr (.inl (14, [.int mcn_h, .ref (wNA W), .int (nI (nN N))]))) := h4_h
  have fτh_h_4 : τh.1 (wNA W) = some (.inl (.object "java/lang/Object", 4, .inr (.inr (.inr (.inr fnA_h))))) := h4p_h
  have fτh_h_5 : τh.1 (wR W) = some (.inl (.int, 6, .inl fr_h)) := h2_h
  have fτh_h_6 : τh.1 (wM W) = some (.inl (.int, 3, .inl fm_h)) := h3_h
  have fτh_h_7 : τh.1 (wUN W) = some (.inl (.object "FlagLaundry$Test", 7, .inr (.inr (.inr (.inr fu_h))))) := h6_h
  have gyh : τh.1 y = some (.inr (.inl (2, [.int (nI n), .int (nI p.2.1), .int (nI p.2.2.1), .int v, .ref (S p.2.2.2.1), .ref wd, .ref (wW W), .ref x]))) := k9.at wσ hC (ne_of hC hNS.1 (fun q => by simp at q))
  have gxh : τh.1 x = some (.inr (.inl (0, [.ref bf, .int bd, .int pe, .int ep, nv, .ref dq, .ref sv, .ref ou]))) := k9.at wσ hX (ne_of hX hNS.1 (fun q => by simp at q))
  have gbfh : τh.1 bf = some (.inl (.byte, 500, .inl B)) := k9.at wσ hBf (ne_of hBf hNS.1 (fun q => by simp at q))
  refine A_lookup (off := 195) (tgt := 226) dX3_line_31 (by decide +kernel) (by decide +kernel) (by decide) ?_
  refine A_aload_n (i := 1) dX3_line_226 rfl rfl ?_
  refine A_ldcO hac dX3_line_227 ?_
  refine A_callV1E (b' := 150) (v := some (.int (bi (wPass = wPass)))) (τ := τh) (c_strEq τh wd va ac hh9 hz9 wPass wPass hN9 hsc9 (Nat.lt_of_le_of_lt hu6 (by decide)) (by decide)) tJ4_equals q714 hN9.1 rfl rfl dX3_line_229 (by decide) (Nat.le_of_ble_eq_true rfl) (Nat.le_of_ble_eq_true rfl) ?_
  refine A_int (w := 1) (bi_t rfl) ?_
  refine A_if_eq_f (tgt := 238) dX3_line_232 (by decide) (by decide) ?_
  refine A_bipush (v := 8) dX3_line_235 (by decide) ?_
  refine A_istore_n (i := 2) dX3_line_237 rfl (Nat.le_of_ble_eq_true rfl) ?_
  refine A_iload_n (i := 2) dX3_line_238 rfl rfl ?_
  refine A_tableIn (tgt := 498) dX3_line_239 (by decide) (by decide) rfl (by decide) ?_
  refine A_aload_n (i := 0) dX3_line_498 rfl rfl ?_
  refine A_callV0 (b' := 142) (c_pStep τh y x bf n S (.ref (wW W)) B p (⟨v, wd, gyh, ⟨⟨bd, pe, ep, nv, dq, sv, ou, gxh⟩, gbfh, hn5, hby⟩, hvv, htk, hcn, hsc⟩) hS h0) tX3_step q414 gyh rfl rfl dX3_line_499 (by decide) (Nat.le_of_ble_eq_true rfl) (Nat.le_of_ble_eq_true rfl) (fun w9 τs1 hs1 => ?_) (fun E9 q9 τ9 h9 => h9.elim)
  obtain ⟨e8, hWτs1, kτs1⟩ := hs1
  subst e8
  obtain ⟨p1, e1⟩ : ∃ q9, q9 = goesS B n p := ⟨_, rfl⟩
  rw [← e1] at hWτs1
  have z0_1 : pcd p1 = 0 := by rw [e1]; exact goes_pcd h0
  have n9_1 : p1.1 = N := by rw [e1, goes_1] <;> exact hN
  refine A_wfh (fun wτs1 hgτs1 => ?_)
  have kyτs1 : ky y lo σ τs1 := kyτh.kx kτs1 hl0
  have hl : lo ≤ τs1.2 := Nat.le_trans hl0 kyτs1.1
  have qτs1 : kl lo τs1 τs1 := kl.rf
  have hRlτs1 : RW g τs1 W N := hRh.oth wτh gyh (isW_no (by decide)) kτs1
  obtain ⟨v_1, wd_1, ⟨hC_1, ⟨⟨bd_1, pe_1, ep_1, nv_1, dq_1, sv_1, ou_1, hX_1⟩, hBf_1, hn5_1, hby_1⟩, hvv_1, htk_1, hcn_1, hsc_1⟩, hPW_1⟩ := id hWτs1
  have hRc := hRlτs1
  obtain ⟨h1_1, ⟨fr_1, h2_1, h2p_1⟩, ⟨fm_1, h3_1, h3p_1⟩, ⟨mcn_1, fnA_1, h4_1, h4p_1, h4q_1⟩, ⟨mcf_1, ffA_1, h5_1, h5p_1, h5q_1⟩, ⟨fu_1, h6_1, h6p_1⟩, h7_1, h8_1, h9_1, h10_1, h11_1⟩ := hRc
  have fτs1_1_0 : τs1.1 (wW W) = some (.inr (.inl (4, [.int (N 9), .ref (wR W), .ref (wM W), .ref (wNL W), .ref (wFL W), .ref (wUN W), .int (N 6), .int (N 8), .int (N 0), .int (N 1), .int (N 2), .int (N 3), .int (N 4), .int (N 5), .int (N 11)]))) := h1_1
  have fτs1_1_1 : τs1.1 (wFL W) = some (.inr (.inl (14, [.int mcf_1, .ref (wFA W), .int (nI (nF N))]))) := h5_1
  have fτs1_1_2 : τs1.1 (wFA W) = some (.inl (.object "java/lang/Object", 12, .inr (.inr (.inr (.inr ffA_1))))) := h5p_1
  have fτs1_1_3 : τs1.1 (wNL W) = some (.inr (.inl (14, [.int mcn_1, .ref (wNA W), .int (nI (nN N))]))) := h4_1
  have fτs1_1_4 : τs1.1 (wNA W) = some (.inl (.object "java/lang/Object", 4, .inr (.inr (.inr (.inr fnA_1))))) := h4p_1
  have fτs1_1_5 : τs1.1 (wR W) = some (.inl (.int, 6, .inl fr_1)) := h2_1
  have fτs1_1_6 : τs1.1 (wM W) = some (.inl (.int, 3, .inl fm_1)) := h3_1
  have fτs1_1_7 : τs1.1 (wUN W) = some (.inl (.object "FlagLaundry$Test", 7, .inr (.inr (.inr (.inr fu_1))))) := h6_1
  refine A_aload_n (i := 0) dX3_line_502 rfl rfl ?_
  refine A_getf cb_X3 hC_1 6 (Nat.le_of_ble_eq_true rfl) q690 rfl (v := .ref (wW W)) rfl dX3_line_503 ?_
  refine A_aload_n (i := 0) dX3_line_506 rfl rfl ?_
  refine A_iconst (v := 1) dX3_line_507 (by decide) ?_
  refine A_bipush (v := 50) dX3_line_508 (by decide) ?_
  refine A_callV2 (b' := 132) (c_pNum τs1 y x bf n S (.ref (wW W)) B p1 1 50 (⟨v_1, wd_1, hC_1, ⟨⟨bd_1, pe_1, ep_1, nv_1, dq_1, sv_1, ou_1, hX_1⟩, hBf_1, hn5_1, hby_1⟩, hvv_1, htk_1, hcn_1, hsc_1⟩) hS z0_1) tX3_number q756 hC_1 rfl rfl dX3_line_510 (by decide) (Nat.le_of_ble_eq_true rfl) (Nat.le_of_ble_eq_true rfl) (fun w9 τs2 hs2 => ?_) (fun E9 q9 τ9 h9 => A_out rfl (LX.of kyτs1 hl0 h9 (by rw [hth]; exact pa_x2 e1 rfl)))
  obtain ⟨hc9, e9, hWτs2, kτs2⟩ := hs2
  have in9_2 := (nu_in hc9).1
  obtain ⟨jh, hjh, ejh⟩ := in1_e2 (n := 50) (by decide) in9_2
  have bjh : jh < 2000 := Nat.lt_of_le_of_lt hjh (by decide)
  rw [ejh] at e9
  subst e9
  have hc9_2 := hc9
  obtain ⟨p2, e2⟩ : ∃ q9, q9 = nuS B n 1 50 p1 := ⟨_, rfl⟩
  rw [← e2] at hWτs2
  have z0_2 : pcd p2 = 0 := by rw [e2]; exact hc9
  have n9_2 : p2.1 = N := by rw [e2, nu_1]; exact n9_1
  refine A_wfh (fun wτs2 hgτs2 => ?_)
  have kyτs2 : ky y lo σ τs2 := kyτs1.kx kτs2 hl0
  have hl : lo ≤ τs2.2 := Nat.le_trans hl0 kyτs2.1
  have qτs2 : kl lo τs2 τs2 := kl.rf
  have hRlτs2 : RW g τs2 W N := hRlτs1.oth wτs1 hC_1 (isW_no (by decide)) kτs2
  obtain ⟨v_2, wd_2, ⟨hC_2, ⟨⟨bd_2, pe_2, ep_2, nv_2, dq_2, sv_2, ou_2, hX_2⟩, hBf_2, hn5_2, hby_2⟩, hvv_2, htk_2, hcn_2, hsc_2⟩, hPW_2⟩ := id hWτs2
  have hRc := hRlτs2
  obtain ⟨h1_2, ⟨fr_2, h2_2, h2p_2⟩, ⟨fm_2, h3_2, h3p_2⟩, ⟨mcn_2, fnA_2, h4_2, h4p_2, h4q_2⟩, ⟨mcf_2, ffA_2, h5_2, h5p_2, h5q_2⟩, ⟨fu_2, h6_2, h6p_2⟩, h7_2, h8_2, h9_2, h10_2, h11_2⟩ := hRc
  have fτs2_2_0 : τs2.1 (wW W) = some (.inr (.inl (4, [.int (N 9), .ref (wR W), .ref (wM W), .ref (wNL W), .ref (wFL W), .ref (wUN W), .int (N 6), .int (N 8), .int (N 0), .int (N 1), .int (N 2), .int (N 3), .int (N 4), .int (N 5), .int (N 11)]))) := h1_2
  have fτs2_2_1 : τs2.1 (wFL W) = some (.inr (.inl (14, [.int mcf_2, .ref (wFA W), .int (nI (nF N))]))) := h5_2
  have fτs2_2_2 : τs2.1 (wFA W) = some (.inl (.object "java/lang/Object", 12, .inr (.inr (.inr (.inr ffA_2))))) := h5p_2
  have fτs2_2_3 : τs2.1 (wNL W) = some (.inr (.inl (14, [.int mcn_2, .ref (wNA W), .int (nI (nN N))]))) := h4_2
  have fτs2_2_4 : τs2.1 (wNA W) = some (.inl (.object "java/lang/Object", 4, .inr (.inr (.inr (.inr fnA_2))))) := h4p_2
  have fτs2_2_5 : τs2.1 (wR W) = some (.inl (.int, 6, .inl fr_2)) := h2_2
  have fτs2_2_6 : τs2.1 (wM W) = some (.inl (.int, 3, .inl fm_2)) := h3_2
  have fτs2_2_7 : τs2.1 (wUN W) = some (.inl (.object "FlagLaundry$Test", 7, .inr (.inr (.inr (.inr fu_2))))) := h6_2
  refine A_callV1 (b' := 32) (c_passes5 τs2 W N lo jh hRlτs2 hD hO hl hw (Nat.le_trans hjh (by decide))) tX5_passes q1347 fτs2_2_0 rfl rfl dX3_line_513 (by decide) (Nat.le_of_ble_eq_true rfl) (Nat.le_of_ble_eq_true rfl) (fun w9 σ1 h9 => ?_) (fun E9 q9 τ9 h9 => h9.elim)
  obtain ⟨e9, ⟨Pσ1, hRσ1⟩, kσ1⟩ := h9
  subst e9
  refine A_wfh (fun wσ1 hgσ1 => ?_)
  have qσ1 : kl lo τs2 σ1 := qτs2.tr kσ1
  have hRσ1 : RW g σ1 (setP W Pσ1) (itr passN N jh) := hRσ1
  have hDσ1 : WFd (itr passN N jh) := (GN_pass hG jh).1
  have hGσ1 : GN (itr passN N jh) := GN_pass hG jh
  have hRc := hRσ1
  obtain ⟨h1σ1, ⟨frσ1, h2σ1, h2pσ1⟩, ⟨fmσ1, h3σ1, h3pσ1⟩, ⟨mcnσ1, fnAσ1, h4σ1, h4pσ1, h4qσ1⟩, ⟨mcfσ1, ffAσ1, h5σ1, h5pσ1, h5qσ1⟩, ⟨fuσ1, h6σ1, h6pσ1⟩, h7σ1, h8σ1, h9σ1, h10σ1, h11σ1⟩ := hRc
  have fσ1σ1_0 : σ1.1 (wW W) = some (.inr (.inl (4, [.int ((itr passN N jh) 9), .ref (wR W), .ref (wM W), .ref (wNL W), .ref (wFL W), .ref (wUN W), .int ((itr passN N jh) 6), .int ((itr passN N jh) 8), .int ((itr passN N jh) 0), .int ((itr passN N jh) 1), .int ((itr passN N jh) 2), .int ((itr passN N jh) 3), .int ((itr passN N jh) 4), .int ((itr passN N jh) 5), .int ((itr passN N jh) 11)]))) := h1σ1
  have fσ1σ1_1 : σ1.1 (wFL W) = some (.inr (.inl (14, [.int mcfσ1, .ref (wFA W), .int (nI (nF (itr passN N jh)))]))) := h5σ1
  have fσ1σ1_2 : σ1.1 (wFA W) = some (.inl (.object "java/lang/Object", 12, .inr (.inr (.inr (.inr ffAσ1))))) := h5pσ1
  have fσ1σ1_3 : σ1.1 (wNL W) = some (.inr (.inl (14, [.int mcnσ1, .ref (wNA W), .int (nI (nN (itr passN N jh)))]))) := h4σ1
  have fσ1σ1_4 : σ1.1 (wNA W) = some (.inl (.object "java/lang/Object", 4, .inr (.inr (.inr (.inr fnAσ1))))) := h4pσ1
  have fσ1σ1_5 : σ1.1 (wR W) = some (.inl (.int, 6, .inl frσ1)) := h2σ1
  have fσ1σ1_6 : σ1.1 (wM W) = some (.inl (.int, 3, .inl fmσ1)) := h3σ1
  have fσ1σ1_7 : σ1.1 (wUN W) = some (.inl (.object "FlagLaundry$Test", 7, .inr (.inr (.inr (.inr fuσ1))))) := h6σ1
  have gyσ1 : σ1.1 y = some (.inr (.inl (2, [.int (nI n), .int (nI p2.2.1), .int (nI p2.2.2.1), .int v_2, .ref (S p2.2.2.2.1), .ref wd_2, .ref (wW W), .ref x]))) := (kσ1.2 y hy).trans hC_2
  have gxσ1 : σ1.1 x = some (.inr (.inl (0, [.ref bf, .int bd_2, .int pe_2, .int ep_2, nv_2, .ref dq_2, .ref sv_2, .ref ou_2]))) := (kσ1.2 x hx).trans hX_2
  have gbfσ1 : σ1.1 bf = some (.inl (.byte, 500, .inl B)) := (kσ1.2 bf hb).trans hBf_2
  have hOσ1 : own lo (setP W Pσ1) (itr passN N jh) := hO.sP (by unfold nN; rw [itr_cnt N jh 7 (by decide) (by decide)]) (by unfold nF; rw [itr_cnt N jh 10 (by decide) (by decide)])
  refine A_istore dX3_line_516 (Nat.le_of_ble_eq_true rfl) ?_
  have hE7 : paS B n p = pN (itr passN N jh) p2 := (pa_0 e1 e2 z0_2).trans (by rw [n9_2, ejh, ixn bjh])
  refine A_goto (tgt := 527) dX3_line_518 (by decide) ?_
  exact A_vret dX3_line_527 rfl (by rw [hth, hE7]; exact ⟨rfl, z0_2, ⟨v_2, wd_2, gyσ1, ⟨⟨bd_2, pe_2, ep_2, nv_2, dq_2, sv_2, ou_2, gxσ1⟩, gbfσ1, hn5_2, hby_2⟩, hvv_2, htk_2, hcn_2, hsc_2⟩, ⟨(setP W Pσ1), rfl, by first | exact hRσ1 | (rw [rfl]; exact hRσ1), by first | exact hOσ1 | (rw [rfl]; exact hOσ1)⟩, by first | exact hGσ1 | (rw [rfl]; exact hGσ1), (kyτs2.kl qσ1)⟩)
theorem c_lnNation {l : Launch} {g : GC} (σ : AH) (y x bf n lo : Nat) (S : Int32 → Nat) (W : WA) (B N : AF) (p : PT) (h : PRW g σ y x bf S B n (.ref (wW W)) p) (hS : SRT g S) (h0 : pcd p = 0) (hN : p.1 = N) (hR : RW g σ W N) (hO : own lo W N) (hG : GN N) (hl0 : lo ≤ σ.2) (hy : y < lo) (hx : x < lo) (hb : bf < lo) (hk2 : p.2.2.2.1 = 2) (hwd : wls B p.2.2.1 (p.2.1 - p.2.2.1) = wNation) : AMet l g mX3_line 46 150 [.ref y] σ (LQ g y x bf S B n lo (wW W) (thS B n p) σ) (LX y lo (thS B n p) σ) := by
  refine A_of rfl (by decide) (Nat.le_of_ble_eq_true rfl) (L0 := [(0, .ref y)]) rfl ?_
  refine A_wfh (fun wσ hgσ => ?_)
  have qσ : kl lo σ σ := kl.rf
  refine A_gok (fun hgk => ?_)
  have hD := hG.1
  have hw := hG.2.1
  have hl := hl0
  obtain ⟨v, wd, ⟨hC, ⟨⟨bd, pe, ep, nv, dq, sv, ou, hX⟩, hBf, hn5, hby⟩, hvv, htk, hcn, hsc⟩, hPW⟩ := id h
  have hW := hD.1
  have hR9 := hR
  obtain ⟨h1, ⟨fr, h2, h2p⟩, ⟨fm, h3, h3p⟩, ⟨mcn, fnA, h4, h4p, h4q⟩, ⟨mcf, ffA, h5, h5p, h5q⟩, ⟨fu, h6, h6p⟩, h7, h8, h9, h10, h11⟩ := hR
  have hF12 : nF N ≤ 12 := hW.2.2.2.2.2
  have hN4 : nN N ≤ 4 := hW.2.1.2
  have hC6 : nC N ≤ 6 := hW.1.2
  have hT3 : nT N ≤ 3 := hW.2.2.1.2
  have hP8 : nP N ≤ 8 := hW.2.2.2.1.2
  obtain ⟨_, hw6, hw0, va, hNS⟩ : p.2.2.2.1 = 2 ∧ p.2.1 - p.2.2.1 ≤ 6 ∧ 0 < p.2.1 - p.2.2.1 ∧ ∃ va, NST σ wd va 0 0 (wls B p.2.2.1 (p.2.1 - p.2.2.1)) := hPW.resolve_right (fun q => q.1 hk2)
  rw [hwd] at hNS
  have hlu : (wls B p.2.2.1 (p.2.1 - p.2.2.1)).length = p.2.1 - p.2.2.1 := wls_len _ _ _
  rw [hwd] at hlu
  have hu6 : wNation.length ≤ 6 := by rw [hlu]; exact hw6
  have hu0 : 0 < wNation.length := by rw [hlu]; exact hw0
  refine A_aload_n (i := 0) dX3_line_0 rfl rfl ?_
  refine A_aload_n (i := 0) dX3_line_1 rfl rfl ?_
  refine A_getf cb_X3 hC 4 (Nat.le_of_ble_eq_true rfl) q688 rfl (v := .ref (S p.2.2.2.1)) rfl dX3_line_2 ?_
  refine A_getsO hS.2.2.1 q429 rfl dX3_line_5 ?_
  refine A_acmp_ne_f (tgt := 15) (x := (some (S p.2.2.2.1))) (y := (some (S 2))) dX3_line_8 (by decide) (by rw [hk2]) ?_
  refine A_iconst (v := 1) dX3_line_11 (by decide) ?_
  refine A_goto (tgt := 16) dX3_line_12 (by decide) ?_
  refine A_iconst (v := 1) dX3_line_16 (by decide) ?_
  refine A_callV2E (b' := 150) (v := none) (τ := σ) (c_pChk σ y 1) tX3_check q722 hC rfl rfl dX3_line_17 (by decide) (Nat.le_of_ble_eq_true rfl) (Nat.le_of_ble_eq_true rfl) ?_
  refine A_aload_n (i := 0) dX3_line_20 rfl rfl ?_
  refine A_getf cb_X3 hC 5 (Nat.le_of_ble_eq_true rfl) q689 rfl (v := .ref wd) rfl dX3_line_21 ?_
  refine A_astore_n (i := 1) dX3_line_24 rfl (Nat.le_of_ble_eq_true rfl) ?_
  obtain ⟨ac, hac, hsc9⟩ := litP193 hgk
  refine A_iconst (v := (-1)) dX3_line_25 (by decide) ?_
  refine A_istore_n (i := 2) dX3_line_26 rfl (Nat.le_of_ble_eq_true rfl) ?_
  refine A_aload_n (i := 1) dX3_line_27 rfl rfl ?_
  have hth : thS B n p = naS B n p := (th_word ⟨h0, hk2⟩ hwd).trans (by unfold lnS; rw [if_neg (by decide)]; rw [if_pos rfl])
  refine A_callV0 (b' := 150) (c_strHash σ wd va wNation hNS hu6 hu0) tJ4_hashCode q893 hNS.1 rfl rfl dX3_line_28 (by decide) (Nat.le_of_ble_eq_true rfl) (Nat.le_of_ble_eq_true rfl) (fun w9 τh hh => ?_) (fun E9 q9 τ9 h9 => h9.elim)
  obtain ⟨e9, ⟨hh9, hz9, hN9⟩, k9⟩ := hh
  rw [show hsU wNation wNation.length = -1052618937 by decide +kernel] at e9
  subst e9
  refine A_wfh (fun wτh hgτh => ?_)
  have kyτh : ky y lo σ τh := ky.rf.st hNS.1 k9 hl0
  have hl : lo ≤ τh.2 := Nat.le_trans hl0 kyτh.1
  have qτh : kl lo τh τh := kl.rf
  have hRh : RW g τh W N := hR9.oth wσ hNS.1 (isW_no (by decide)) k9
  have hRc := hRh
  obtain ⟨h1_h, ⟨fr_h, h2_h, h2p_h⟩, ⟨fm_h, h3_h, h3p_h⟩, ⟨mcn_h, fnA_h, h4_h, h4p_h, h4q_h⟩, ⟨mcf_h, ffA_h, h5_h, h5p_h, h5q_h⟩, ⟨fu_h, h6_h, h6p_h⟩, h7_h, h8_h, h9_h, h10_h, h11_h⟩ := hRc
  have fτh_h_0 : τh.1 (wW W) = some (.inr (.inl (4, [.int (N 9), .ref (wR W), .ref (wM W), .ref (wNL W), .ref (wFL W), .ref (wUN W), .int (N 6), .int (N 8), .int (N 0), .int (N 1), .int (N 2), .int (N 3), .int (N 4), .int (N 5), .int (N 11)]))) := h1_h
  have fτh_h_1 : τh.1 (wFL W) = some (.inr (.inl (14, [.int mcf_h, .ref (wFA W), .int (nI (nF N))]))) := h5_h
  have fτh_h_2 : τh.1 (wFA W) = some (.inl (.object "java/lang/Object", 12, .inr (.inr (.inr (.inr ffA_h))))) := h5p_h
  have fτh_h_3 : τh.1 (wNL W) = some (.inr (.inl (14, [.int mcn_h, .ref (wNA W), .int (nI (nN N))]))) := h4_h
  have fτh_h_4 : τh.1 (wNA W) = some (.inl (.object "java/lang/Object", 4, .inr (.inr (.inr (.inr fnA_h))))) := h4p_h
  have fτh_h_5 : τh.1 (wR W) = some (.inl (.int, 6, .inl fr_h)) := h2_h
  have fτh_h_6 : τh.1 (wM W) = some (.inl (.int, 3, .inl fm_h)) := h3_h
  have fτh_h_7 : τh.1 (wUN W) = some (.inl (.object "FlagLaundry$Test", 7, .inr (.inr (.inr (.inr fu_h))))) := h6_h
  have gyh : τh.1 y = some (.inr (.inl (2, [.int (nI n), .int (nI p.2.1), .int (nI p.2.2.1), .int v, .ref (S p.2.2.2.1), .ref wd, .ref (wW W), .ref x]))) := k9.at wσ hC (ne_of hC hNS.1 (fun q => by simp at q))
  have gxh : τh.1 x = some (.inr (.inl (0, [.ref bf, .int bd, .int pe, .int ep, nv, .ref dq, .ref sv, .ref ou]))) := k9.at wσ hX (ne_of hX hNS.1 (fun q => by simp at q))
  have gbfh : τh.1 bf = some (.inl (.byte, 500, .inl B)) := k9.at wσ hBf (ne_of hBf hNS.1 (fun q => by simp at q))
  refine A_lookup (off := 95) (tgt := 126) dX3_line_31 (by decide +kernel) (by decide +kernel) (by decide) ?_
  refine A_aload_n (i := 1) dX3_line_126 rfl rfl ?_
  refine A_ldcO hac dX3_line_127 ?_
  refine A_callV1E (b' := 150) (v := some (.int (bi (wNation = wNation)))) (τ := τh) (c_strEq τh wd va ac hh9 hz9 wNation wNation hN9 hsc9 (Nat.lt_of_le_of_lt hu6 (by decide)) (by decide)) tJ4_equals q714 hN9.1 rfl rfl dX3_line_129 (by decide) (Nat.le_of_ble_eq_true rfl) (Nat.le_of_ble_eq_true rfl) ?_
  refine A_int (w := 1) (bi_t rfl) ?_
  refine A_if_eq_f (tgt := 238) dX3_line_132 (by decide) (by decide) ?_
  refine A_iconst (v := 1) dX3_line_135 (by decide) ?_
  refine A_istore_n (i := 2) dX3_line_136 rfl (Nat.le_of_ble_eq_true rfl) ?_
  refine A_goto (tgt := 238) dX3_line_137 (by decide) ?_
  refine A_iload_n (i := 2) dX3_line_238 rfl rfl ?_
  refine A_tableIn (tgt := 338) dX3_line_239 (by decide) (by decide) rfl (by decide) ?_
  refine A_aload_n (i := 0) dX3_line_338 rfl rfl ?_
  refine A_aload_n (i := 0) dX3_line_339 rfl rfl ?_
  refine A_getf cb_X3 gyh 6 (Nat.le_of_ble_eq_true rfl) q690 rfl (v := .ref (wW W)) rfl dX3_line_340 ?_
  refine A_getfN cb_X5 fτh_h_0 3 (Nat.le_of_ble_eq_true rfl) q831 rfl (v := .ref (wNL W)) rfl dX3_line_343 ?_
  refine A_callF0E (b' := 150) (v := some (.int (nI (nN N)))) (τ := τh) (c_lSize τh (wNL W) (wNA W) (nN N) mcn_h fτh_h_3) tF_size q968 fτh_h_3 rfl dX3_line_346 (by decide) (Nat.le_of_ble_eq_true rfl) (Nat.le_of_ble_eq_true rfl) ?_
  refine A_iconst (v := 4) dX3_line_351 (by decide) ?_
  refine A_callV2 (b' := 142) (c_pBeg τh y x bf n S (.ref (wW W)) B p 7 (nI (nN N)) 4 (⟨v, wd, gyh, ⟨⟨bd, pe, ep, nv, dq, sv, ou, gxh⟩, gbfh, hn5, hby⟩, hvv, htk, hcn, hsc⟩) hS h0 (by rw [hN]; exact lt_cnt (m := 4) hW.2.1.1 hN4 (by decide))) tX3_begins q963 gyh rfl rfl dX3_line_352 (by decide) (Nat.le_of_ble_eq_true rfl) (Nat.le_of_ble_eq_true rfl) (fun w9 τs1 hs1 => ?_) (fun E9 q9 τ9 h9 => A_out rfl (LX.of kyτh hl0 h9 (by rw [hth]; exact na_x1 rfl h9.2.1)))
  obtain ⟨hc9, e9, hWτs1, kτs1⟩ := hs1
  subst e9
  obtain ⟨p1, e1⟩ : ∃ q9, q9 = bgS B n 7 4 p := ⟨_, rfl⟩
  rw [← e1] at hWτs1
  have z0_1 : pcd p1 = 0 := by rw [e1]; exact hc9
  have n9_1 : p1.1 = N := by rw [e1, bg_1]; exact hN
  refine A_wfh (fun wτs1 hgτs1 => ?_)
  have kyτs1 : ky y lo σ τs1 := kyτh.kx kτs1 hl0
  have hl : lo ≤ τs1.2 := Nat.le_trans hl0 kyτs1.1
  have qτs1 : kl lo τs1 τs1 := kl.rf
  have hRlτs1 : RW g τs1 W N := hRh.oth wτh gyh (isW_no (by decide)) kτs1
  obtain ⟨v_1, wd_1, ⟨hC_1, ⟨⟨bd_1, pe_1, ep_1, nv_1, dq_1, sv_1, ou_1, hX_1⟩, hBf_1, hn5_1, hby_1⟩, hvv_1, htk_1, hcn_1, hsc_1⟩, hPW_1⟩ := id hWτs1
  have hRc := hRlτs1
  obtain ⟨h1_1, ⟨fr_1, h2_1, h2p_1⟩, ⟨fm_1, h3_1, h3p_1⟩, ⟨mcn_1, fnA_1, h4_1, h4p_1, h4q_1⟩, ⟨mcf_1, ffA_1, h5_1, h5p_1, h5q_1⟩, ⟨fu_1, h6_1, h6p_1⟩, h7_1, h8_1, h9_1, h10_1, h11_1⟩ := hRc
  have fτs1_1_0 : τs1.1 (wW W) = some (.inr (.inl (4, [.int (N 9), .ref (wR W), .ref (wM W), .ref (wNL W), .ref (wFL W), .ref (wUN W), .int (N 6), .int (N 8), .int (N 0), .int (N 1), .int (N 2), .int (N 3), .int (N 4), .int (N 5), .int (N 11)]))) := h1_1
  have fτs1_1_1 : τs1.1 (wFL W) = some (.inr (.inl (14, [.int mcf_1, .ref (wFA W), .int (nI (nF N))]))) := h5_1
  have fτs1_1_2 : τs1.1 (wFA W) = some (.inl (.object "java/lang/Object", 12, .inr (.inr (.inr (.inr ffA_1))))) := h5p_1
  have fτs1_1_3 : τs1.1 (wNL W) = some (.inr (.inl (14, [.int mcn_1, .ref (wNA W), .int (nI (nN N))]))) := h4_1
  have fτs1_1_4 : τs1.1 (wNA W) = some (.inl (.object "java/lang/Object", 4, .inr (.inr (.inr (.inr fnA_1))))) := h4p_1
  have fτs1_1_5 : τs1.1 (wR W) = some (.inl (.int, 6, .inl fr_1)) := h2_1
  have fτs1_1_6 : τs1.1 (wM W) = some (.inl (.int, 3, .inl fm_1)) := h3_1
  have fτs1_1_7 : τs1.1 (wUN W) = some (.inl (.object "FlagLaundry$Test", 7, .inr (.inr (.inr (.inr fu_1))))) := h6_1
  refine A_aload_n (i := 0) dX3_line_355 rfl rfl ?_
  refine A_iconst (v := 0) dX3_line_356 (by decide) ?_
  refine A_bipush (v := 99) dX3_line_357 (by decide) ?_
  refine A_callV2 (b' := 132) (c_pNum τs1 y x bf n S (.ref (wW W)) B p1 0 99 (⟨v_1, wd_1, hC_1, ⟨⟨bd_1, pe_1, ep_1, nv_1, dq_1, sv_1, ou_1, hX_1⟩, hBf_1, hn5_1, hby_1⟩, hvv_1, htk_1, hcn_1, hsc_1⟩) hS z0_1) tX3_number q756 hC_1 rfl rfl dX3_line_359 (by decide) (Nat.le_of_ble_eq_true rfl) (Nat.le_of_ble_eq_true rfl) (fun w9 τs2 hs2 => ?_) (fun E9 q9 τ9 h9 => A_out rfl (LX.of kyτs1 hl0 h9 (by rw [hth]; exact na_x2 e1 rfl h9.2.1)))
  obtain ⟨hc9, e9, hWτs2, kτs2⟩ := hs2
  have in9_2 := (nu_in hc9).1
  subst e9
  have hc9_2 := hc9
  obtain ⟨p2, e2⟩ : ∃ q9, q9 = nuS B n 0 99 p1 := ⟨_, rfl⟩
  rw [← e2] at hWτs2
  have z0_2 : pcd p2 = 0 := by rw [e2]; exact hc9
  have n9_2 : p2.1 = N := by rw [e2, nu_1]; exact n9_1
  refine A_wfh (fun wτs2 hgτs2 => ?_)
  have kyτs2 : ky y lo σ τs2 := kyτs1.kx kτs2 hl0
  have hl : lo ≤ τs2.2 := Nat.le_trans hl0 kyτs2.1
  have qτs2 : kl lo τs2 τs2 := kl.rf
  have hRlτs2 : RW g τs2 W N := hRlτs1.oth wτs1 hC_1 (isW_no (by decide)) kτs2
  obtain ⟨v_2, wd_2, ⟨hC_2, ⟨⟨bd_2, pe_2, ep_2, nv_2, dq_2, sv_2, ou_2, hX_2⟩, hBf_2, hn5_2, hby_2⟩, hvv_2, htk_2, hcn_2, hsc_2⟩, hPW_2⟩ := id hWτs2
  have hRc := hRlτs2
  obtain ⟨h1_2, ⟨fr_2, h2_2, h2p_2⟩, ⟨fm_2, h3_2, h3p_2⟩, ⟨mcn_2, fnA_2, h4_2, h4p_2, h4q_2⟩, ⟨mcf_2, ffA_2, h5_2, h5p_2, h5q_2⟩, ⟨fu_2, h6_2, h6p_2⟩, h7_2, h8_2, h9_2, h10_2, h11_2⟩ := hRc
  have fτs2_2_0 : τs2.1 (wW W) = some (.inr (.inl (4, [.int (N 9), .ref (wR W), .ref (wM W), .ref (wNL W), .ref (wFL W), .ref (wUN W), .int (N 6), .int (N 8), .int (N 0), .int (N 1), .int (N 2), .int (N 3), .int (N 4), .int (N 5), .int (N 11)]))) := h1_2
  have fτs2_2_1 : τs2.1 (wFL W) = some (.inr (.inl (14, [.int mcf_2, .ref (wFA W), .int (nI (nF N))]))) := h5_2
  have fτs2_2_2 : τs2.1 (wFA W) = some (.inl (.object "java/lang/Object", 12, .inr (.inr (.inr (.inr ffA_2))))) := h5p_2
  have fτs2_2_3 : τs2.1 (wNL W) = some (.inr (.inl (14, [.int mcn_2, .ref (wNA W), .int (nI (nN N))]))) := h4_2
  have fτs2_2_4 : τs2.1 (wNA W) = some (.inl (.object "java/lang/Object", 4, .inr (.inr (.inr (.inr fnA_2))))) := h4p_2
  have fτs2_2_5 : τs2.1 (wR W) = some (.inl (.int, 6, .inl fr_2)) := h2_2
  have fτs2_2_6 : τs2.1 (wM W) = some (.inl (.int, 3, .inl fm_2)) := h3_2
  have fτs2_2_7 : τs2.1 (wUN W) = some (.inl (.object "FlagLaundry$Test", 7, .inr (.inr (.inr (.inr fu_2))))) := h6_2
  refine A_istore_n (i := 3) dX3_line_362 rfl (Nat.le_of_ble_eq_true rfl) ?_
  refine A_aload_n (i := 0) dX3_line_363 rfl rfl ?_
  refine A_iconst (v := 1) dX3_line_364 (by decide) ?_
  refine A_bipush (v := 99) dX3_line_365 (by decide) ?_
  refine A_callV2 (b' := 122) (c_pNum τs2 y x bf n S (.ref (wW W)) B p2 1 99 (⟨v_2, wd_2, hC_2, ⟨⟨bd_2, pe_2, ep_2, nv_2, dq_2, sv_2, ou_2, hX_2⟩, hBf_2, hn5_2, hby_2⟩, hvv_2, htk_2, hcn_2, hsc_2⟩) hS z0_2) tX3_number q756 hC_2 rfl rfl dX3_line_367 (by decide) (Nat.le_of_ble_eq_true rfl) (Nat.le_of_ble_eq_true rfl) (fun w9 τs3 hs3 => ?_) (fun E9 q9 τ9 h9 => A_out rfl (LX.of kyτs2 hl0 h9 (by rw [hth]; exact na_x3 e1 e2 rfl h9.2.1)))
  obtain ⟨hc9, e9, hWτs3, kτs3⟩ := hs3
  have in9_3 := (nu_in hc9).1
  subst e9
  have hc9_3 := hc9
  obtain ⟨p3, e3⟩ : ∃ q9, q9 = nuS B n 1 99 p2 := ⟨_, rfl⟩
  rw [← e3] at hWτs3
  have z0_3 : pcd p3 = 0 := by rw [e3]; exact hc9
  have n9_3 : p3.1 = N := by rw [e3, nu_1]; exact n9_2
  refine A_wfh (fun wτs3 hgτs3 => ?_)
  have kyτs3 : ky y lo σ τs3 := kyτs2.kx kτs3 hl0
  have hl : lo ≤ τs3.2 := Nat.le_trans hl0 kyτs3.1
  have qτs3 : kl lo τs3 τs3 := kl.rf
  have hRlτs3 : RW g τs3 W N := hRlτs2.oth wτs2 hC_2 (isW_no (by decide)) kτs3
  obtain ⟨v_3, wd_3, ⟨hC_3, ⟨⟨bd_3, pe_3, ep_3, nv_3, dq_3, sv_3, ou_3, hX_3⟩, hBf_3, hn5_3, hby_3⟩, hvv_3, htk_3, hcn_3, hsc_3⟩, hPW_3⟩ := id hWτs3
  have hRc := hRlτs3
  obtain ⟨h1_3, ⟨fr_3, h2_3, h2p_3⟩, ⟨fm_3, h3_3, h3p_3⟩, ⟨mcn_3, fnA_3, h4_3, h4p_3, h4q_3⟩, ⟨mcf_3, ffA_3, h5_3, h5p_3, h5q_3⟩, ⟨fu_3, h6_3, h6p_3⟩, h7_3, h8_3, h9_3, h10_3, h11_3⟩ := hRc
  have fτs3_3_0 : τs3.1 (wW W) = some (.inr (.inl (4, [.int (N 9), .ref (wR W), .ref (wM W), .ref (wNL W), .ref (wFL W), .ref (wUN W), .int (N 6), .int (N 8), .int (N 0), .int (N 1), .int (N 2), .int (N 3), .int (N 4), .int (N 5), .int (N 11)]))) := h1_3
  have fτs3_3_1 : τs3.1 (wFL W) = some (.inr (.inl (14, [.int mcf_3, .ref (wFA W), .int (nI (nF N))]))) := h5_3
  have fτs3_3_2 : τs3.1 (wFA W) = some (.inl (.object "java/lang/Object", 12, .inr (.inr (.inr (.inr ffA_3))))) := h5p_3
  have fτs3_3_3 : τs3.1 (wNL W) = some (.inr (.inl (14, [.int mcn_3, .ref (wNA W), .int (nI (nN N))]))) := h4_3
  have fτs3_3_4 : τs3.1 (wNA W) = some (.inl (.object "java/lang/Object", 4, .inr (.inr (.inr (.inr fnA_3))))) := h4p_3
  have fτs3_3_5 : τs3.1 (wR W) = some (.inl (.int, 6, .inl fr_3)) := h2_3
  have fτs3_3_6 : τs3.1 (wM W) = some (.inl (.int, 3, .inl fm_3)) := h3_3
  have fτs3_3_7 : τs3.1 (wUN W) = some (.inl (.object "FlagLaundry$Test", 7, .inr (.inr (.inr (.inr fu_3))))) := h6_3
  refine A_istore dX3_line_370 (Nat.le_of_ble_eq_true rfl) ?_
  refine A_aload_n (i := 0) dX3_line_372 rfl rfl ?_
  refine A_getf cb_X3 hC_3 6 (Nat.le_of_ble_eq_true rfl) q690 rfl (v := .ref (wW W)) rfl dX3_line_373 ?_
  refine A_new (b' := 121) (u := 1) cb_X6 q977 q978 q162 (fs := [.int 0, .int 0, .int 0, .int 0]) (by intro j hj; rcases j with _ | j; exact rfl; rcases j with _ | j; exact rfl; rcases j with _ | j; exact rfl; rcases j with _ | j; exact rfl; omega) (Nat.le_of_ble_eq_true rfl) ⟨Nat.le_of_ble_eq_true rfl, Nat.le_of_ble_eq_true rfl⟩ dX3_line_376 ?_
  obtain ⟨σ1, eσ1⟩ : ∃ τ, τ = h_new τs3 (.inr (.inl (5, [.int 0, .int 0, .int 0, .int 0]))) := ⟨_, rfl⟩
  refine A_st (σ' := σ1) eσ1.symm ?_
  have wσ1 : wfh σ1 := by rw [eσ1]; exact wτs3.new
  have fσ1_0 : σ1.1 (wW W) = some (.inr (.inl (4, [.int (N 9), .ref (wR W), .ref (wM W), .ref (wNL W), .ref (wFL W), .ref (wUN W), .int (N 6), .int (N 8), .int (N 0), .int (N 1), .int (N 2), .int (N 3), .int (N 4), .int (N 5), .int (N 11)]))) := by rw [eσ1]; exact (hn_ne (Nat.ne_of_lt (wτs3 _ _ fτs3_3_0))).trans fτs3_3_0
  have fσ1_1 : σ1.1 (wFL W) = some (.inr (.inl (14, [.int mcf_3, .ref (wFA W), .int (nI (nF N))]))) := by rw [eσ1]; exact (hn_ne (Nat.ne_of_lt (wτs3 _ _ fτs3_3_1))).trans fτs3_3_1
  have fσ1_2 : σ1.1 (wFA W) = some (.inl (.object "java/lang/Object", 12, .inr (.inr (.inr (.inr ffA_3))))) := by rw [eσ1]; exact (hn_ne (Nat.ne_of_lt (wτs3 _ _ fτs3_3_2))).trans fτs3_3_2
  have fσ1_3 : σ1.1 (wNL W) = some (.inr (.inl (14, [.int mcn_3, .ref (wNA W), .int (nI (nN N))]))) := by rw [eσ1]; exact (hn_ne (Nat.ne_of_lt (wτs3 _ _ fτs3_3_3))).trans fτs3_3_3
  have fσ1_4 : σ1.1 (wNA W) = some (.inl (.object "java/lang/Object", 4, .inr (.inr (.inr (.inr fnA_3))))) := by rw [eσ1]; exact (hn_ne (Nat.ne_of_lt (wτs3 _ _ fτs3_3_4))).trans fτs3_3_4
  have fσ1_5 : σ1.1 (wR W) = some (.inl (.int, 6, .inl fr_3)) := by rw [eσ1]; exact (hn_ne (Nat.ne_of_lt (wτs3 _ _ fτs3_3_5))).trans fτs3_3_5
  have fσ1_6 : σ1.1 (wM W) = some (.inl (.int, 3, .inl fm_3)) := by rw [eσ1]; exact (hn_ne (Nat.ne_of_lt (wτs3 _ _ fτs3_3_6))).trans fτs3_3_6
  have fσ1_7 : σ1.1 (wUN W) = some (.inl (.object "FlagLaundry$Test", 7, .inr (.inr (.inr (.inr fu_3))))) := by rw [eσ1]; exact (hn_ne (Nat.ne_of_lt (wτs3 _ _ fτs3_3_7))).trans fτs3_3_7
  have fσ1_8 : σ1.1 y = some (.inr (.inl (2, [.int (nI n), .int (nI p3.2.1), .int (nI p3.2.2.1), .int v_3, .ref (S p3.2.2.2.1), .ref wd_3, .ref (wW W), .ref x]))) := by rw [eσ1]; exact (hn_ne (Nat.ne_of_lt (wτs3 _ _ hC_3))).trans hC_3
  have fσ1_9 : σ1.1 x = some (.inr (.inl (0, [.ref bf, .int bd_3, .int pe_3, .int ep_3, nv_3, .ref dq_3, .ref sv_3, .ref ou_3]))) := by rw [eσ1]; exact (hn_ne (Nat.ne_of_lt (wτs3 _ _ hX_3))).trans hX_3
  have fσ1_10 : σ1.1 bf = some (.inl (.byte, 500, .inl B)) := by rw [eσ1]; exact (hn_ne (Nat.ne_of_lt (wτs3 _ _ hBf_3))).trans hBf_3
  have fσ1_11 : σ1.1 τs3.2 = some (.inr (.inl (5, [.int 0, .int 0, .int 0, .int 0]))) := by rw [eσ1]; exact if_pos rfl
  have xσ1 : ext τs3 σ1 := by rw [eσ1]; exact ext_new _ _
  have qσ1 : kl lo τs3 σ1 := by rw [eσ1]; exact qτs3.new hl
  have hRσ1 : RW g σ1 W N := hRlτs3.ext wτs3 xσ1
  skip
  refine A_dup dX3_line_379 rfl ?_
  refine A_iload_n (i := 3) dX3_line_380 rfl rfl ?_
  refine A_iload dX3_line_381 rfl ?_
  refine A_aload_n (i := 0) dX3_line_383 rfl rfl ?_
  refine A_iconst (v := 0) dX3_line_384 (by decide) ?_
  refine A_bipush (v := 9) dX3_line_385 (by decide) ?_
  refine A_callV2 (b' := 111) (c_pNum σ1 y x bf n S (.ref (wW W)) B p3 0 9 (⟨v_3, wd_3, fσ1_8, ⟨⟨bd_3, pe_3, ep_3, nv_3, dq_3, sv_3, ou_3, fσ1_9⟩, fσ1_10, hn5_3, hby_3⟩, hvv_3, htk_3, hcn_3, hsc_3⟩) hS z0_3) tX3_number q756 fσ1_8 rfl rfl dX3_line_387 (by decide) (Nat.le_of_ble_eq_true rfl) (Nat.le_of_ble_eq_true rfl) (fun w9 τs4 hs4 => ?_) (fun E9 q9 τ9 h9 => A_out rfl (LX.of (kyτs3.kl qσ1) hl0 h9 (by rw [hth]; exact na_x4 e1 e2 e3 rfl)))
  obtain ⟨hc9, e9, hWτs4, kτs4⟩ := hs4
  have in9_4 := (nu_in hc9).1
  subst e9
  have hc9_4 := hc9
  obtain ⟨p4, e4⟩ : ∃ q9, q9 = nuS B n 0 9 p3 := ⟨_, rfl⟩
  rw [← e4] at hWτs4
  have z0_4 : pcd p4 = 0 := by rw [e4]; exact hc9
  have n9_4 : p4.1 = N := by rw [e4, nu_1]; exact n9_3
  refine A_wfh (fun wτs4 hgτs4 => ?_)
  have kyτs4 : ky y lo σ τs4 := (kyτs3.kl qσ1).kx kτs4 hl0
  have hl : lo ≤ τs4.2 := Nat.le_trans hl0 kyτs4.1
  have qτs4 : kl lo τs4 τs4 := kl.rf
  have hRlτs4 : RW g τs4 W N := hRσ1.oth wσ1 fσ1_8 (isW_no (by decide)) kτs4
  obtain ⟨v_4, wd_4, ⟨hC_4, ⟨⟨bd_4, pe_4, ep_4, nv_4, dq_4, sv_4, ou_4, hX_4⟩, hBf_4, hn5_4, hby_4⟩, hvv_4, htk_4, hcn_4, hsc_4⟩, hPW_4⟩ := id hWτs4
  have mτs4_τs3_2 : τs4.1 τs3.2 = some (.inr (.inl (5, [.int 0, .int 0, .int 0, .int 0]))) := kτs4.at wσ1 fσ1_11 (ne_of fσ1_11 fσ1_8 (fun q => by simp at q))
  have hRc := hRlτs4
  obtain ⟨h1_4, ⟨fr_4, h2_4, h2p_4⟩, ⟨fm_4, h3_4, h3p_4⟩, ⟨mcn_4, fnA_4, h4_4, h4p_4, h4q_4⟩, ⟨mcf_4, ffA_4, h5_4, h5p_4, h5q_4⟩, ⟨fu_4, h6_4, h6p_4⟩, h7_4, h8_4, h9_4, h10_4, h11_4⟩ := hRc
  have fτs4_4_0 : τs4.1 (wW W) = some (.inr (.inl (4, [.int (N 9), .ref (wR W), .ref (wM W), .ref (wNL W), .ref (wFL W), .ref (wUN W), .int (N 6), .int (N 8), .int (N 0), .int (N 1), .int (N 2), .int (N 3), .int (N 4), .int (N 5), .int (N 11)]))) := h1_4
  have fτs4_4_1 : τs4.1 (wFL W) = some (.inr (.inl (14, [.int mcf_4, .ref (wFA W), .int (nI (nF N))]))) := h5_4
  have fτs4_4_2 : τs4.1 (wFA W) = some (.inl (.object "java/lang/Object", 12, .inr (.inr (.inr (.inr ffA_4))))) := h5p_4
  have fτs4_4_3 : τs4.1 (wNL W) = some (.inr (.inl (14, [.int mcn_4, .ref (wNA W), .int (nI (nN N))]))) := h4_4
  have fτs4_4_4 : τs4.1 (wNA W) = some (.inl (.object "java/lang/Object", 4, .inr (.inr (.inr (.inr fnA_4))))) := h4p_4
  have fτs4_4_5 : τs4.1 (wR W) = some (.inl (.int, 6, .inl fr_4)) := h2_4
  have fτs4_4_6 : τs4.1 (wM W) = some (.inl (.int, 3, .inl fm_4)) := h3_4
  have fτs4_4_7 : τs4.1 (wUN W) = some (.inl (.object "FlagLaundry$Test", 7, .inr (.inr (.inr (.inr fu_4))))) := h6_4
  refine A_callI3 (b' := 111) (c_nInit τs4 τs3.2 (nhV 0 99 p1) (nhV 1 99 p2) (nhV 0 9 p3) mτs4_τs3_2) tX6_init q979 dX3_line_390 (by decide) (Nat.le_of_ble_eq_true rfl) (Nat.le_of_ble_eq_true rfl) (fun w9 σ2 h9 => ?_) (fun E9 q9 τ9 h9 => h9.elim)
  obtain ⟨e9, fσ2_a, kσ2⟩ := h9
  subst e9
  refine A_wfh (fun wσ2 hgσ2 => ?_)
  have qσ2 : kl lo τs4 σ2 := qτs4.kx hl (Nat.le_trans hl0 kyτs3.1) kσ2
  have fσ2_0 : σ2.1 (wW W) = some (.inr (.inl (4, [.int (N 9), .ref (wR W), .ref (wM W), .ref (wNL W), .ref (wFL W), .ref (wUN W), .int (N 6), .int (N 8), .int (N 0), .int (N 1), .int (N 2), .int (N 3), .int (N 4), .int (N 5), .int (N 11)]))) := kσ2.at wτs4 fτs4_4_0 (ne_of (x := .inr (.inl (4, [.int (N 9), .ref (wR W), .ref (wM W), .ref (wNL W), .ref (wFL W), .ref (wUN W), .int (N 6), .int (N 8), .int (N 0), .int (N 1), .int (N 2), .int (N 3), .int (N 4), .int (N 5), .int (N 11)]))) (y := .inr (.inl (5, [.int 0, .int 0, .int 0, .int 0]))) fτs4_4_0 mτs4_τs3_2 (fun e8 => by simp at e8))
  have fσ2_1 : σ2.1 (wFL W) = some (.inr (.inl (14, [.int mcf_4, .ref (wFA W), .int (nI (nF N))]))) := kσ2.at wτs4 fτs4_4_1 (ne_of (x := .inr (.inl (14, [.int mcf_4, .ref (wFA W), .int (nI (nF N))]))) (y := .inr (.inl (5, [.int 0, .int 0, .int 0, .int 0]))) fτs4_4_1 mτs4_τs3_2 (fun e8 => by simp at e8))
  have fσ2_2 : σ2.1 (wFA W) = some (.inl (.object "java/lang/Object", 12, .inr (.inr (.inr (.inr ffA_4))))) := kσ2.at wτs4 fτs4_4_2 (ne_of (x := .inl (.object "java/lang/Object", 12, .inr (.inr (.inr (.inr ffA_4))))) (y := .inr (.inl (5, [.int 0, .int 0, .int 0, .int 0]))) fτs4_4_2 mτs4_τs3_2 (fun e8 => by simp at e8))
  have fσ2_3 : σ2.1 (wNL W) = some (.inr (.inl (14, [.int mcn_4, .ref (wNA W), .int (nI (nN N))]))) := kσ2.at wτs4 fτs4_4_3 (ne_of (x := .inr (.inl (14, [.int mcn_4, .ref (wNA W), .int (nI (nN N))]))) (y := .inr (.inl (5, [.int 0, .int 0, .int 0, .int 0]))) fτs4_4_3 mτs4_τs3_2 (fun e8 => by simp at e8))
  have fσ2_4 : σ2.1 (wNA W) = some (.inl (.object "java/lang/Object", 4, .inr (.inr (.inr (.inr fnA_4))))) := kσ2.at wτs4 fτs4_4_4 (ne_of (x := .inl (.object "java/lang/Object", 4, .inr (.inr (.inr (.inr fnA_4))))) (y := .inr (.inl (5, [.int 0, .int 0, .int 0, .int 0]))) fτs4_4_4 mτs4_τs3_2 (fun e8 => by simp at e8))
  have fσ2_5 : σ2.1 (wR W) = some (.inl (.int, 6, .inl fr_4)) := kσ2.at wτs4 fτs4_4_5 (ne_of (x := .inl (.int, 6, .inl fr_4)) (y := .inr (.inl (5, [.int 0, .int 0, .int 0, .int 0]))) fτs4_4_5 mτs4_τs3_2 (fun e8 => by simp at e8))
  have fσ2_6 : σ2.1 (wM W) = some (.inl (.int, 3, .inl fm_4)) := kσ2.at wτs4 fτs4_4_6 (ne_of (x := .inl (.int, 3, .inl fm_4)) (y := .inr (.inl (5, [.int 0, .int 0, .int 0, .int 0]))) fτs4_4_6 mτs4_τs3_2 (fun e8 => by simp at e8))
  have fσ2_7 : σ2.1 (wUN W) = some (.inl (.object "FlagLaundry$Test", 7, .inr (.inr (.inr (.inr fu_4))))) := kσ2.at wτs4 fτs4_4_7 (ne_of (x := .inl (.object "FlagLaundry$Test", 7, .inr (.inr (.inr (.inr fu_4))))) (y := .inr (.inl (5, [.int 0, .int 0, .int 0, .int 0]))) fτs4_4_7 mτs4_τs3_2 (fun e8 => by simp at e8))
  have fσ2_8 : σ2.1 y = some (.inr (.inl (2, [.int (nI n), .int (nI p4.2.1), .int (nI p4.2.2.1), .int v_4, .ref (S p4.2.2.2.1), .ref wd_4, .ref (wW W), .ref x]))) := kσ2.at wτs4 hC_4 (ne_of (x := .inr (.inl (2, [.int (nI n), .int (nI p4.2.1), .int (nI p4.2.2.1), .int v_4, .ref (S p4.2.2.2.1), .ref wd_4, .ref (wW W), .ref x]))) (y := .inr (.inl (5, [.int 0, .int 0, .int 0, .int 0]))) hC_4 mτs4_τs3_2 (fun e8 => by simp at e8))
  have fσ2_9 : σ2.1 x = some (.inr (.inl (0, [.ref bf, .int bd_4, .int pe_4, .int ep_4, nv_4, .ref dq_4, .ref sv_4, .ref ou_4]))) := kσ2.at wτs4 hX_4 (ne_of (x := .inr (.inl (0, [.ref bf, .int bd_4, .int pe_4, .int ep_4, nv_4, .ref dq_4, .ref sv_4, .ref ou_4]))) (y := .inr (.inl (5, [.int 0, .int 0, .int 0, .int 0]))) hX_4 mτs4_τs3_2 (fun e8 => by simp at e8))
  have fσ2_10 : σ2.1 bf = some (.inl (.byte, 500, .inl B)) := kσ2.at wτs4 hBf_4 (ne_of (x := .inl (.byte, 500, .inl B)) (y := .inr (.inl (5, [.int 0, .int 0, .int 0, .int 0]))) hBf_4 mτs4_τs3_2 (fun e8 => by simp at e8))
  have hk7 : ¬ N 7 = 4 := fun q9 => bg_ne (le_of0 (show (bgS B n 7 4 p).2.2.2.2.2.1 = 0 by rw [← e1]; exact z0_1)) (by rw [hN]; exact q9)
  have hN4q : nN N < 4 := Nat.lt_of_le_of_ne hN4 (fun q8 => hk7 (by rw [hW.2.1.1, q8]; decide))
  refine A_callV1E (b' := 111) (v := none) (τ := h_put (h_put (h_put σ2 (wNL W) (.inr (.inl (14, [.int (mcn_4 + 1), .ref (wNA W), .int (nI (nN N))])))) (wNA W) (.inl (.object "java/lang/Object", 4, .inr (.inr (.inr (.inr (va_up fnA_4 (nN N) (some τs3.2)))))))) (wNL W) (.inr (.inl (14, [.int (mcn_4 + 1), .ref (wNA W), .int (nI (nN N + 1))])))) (c_addsN σ2 W N (nN N) τs3.2 mcn_4 fnA_4 _ fσ2_0 fσ2_3 fσ2_4 fσ2_a hN4q) tX5_adds q1002 fσ2_0 rfl rfl dX3_line_393 (by decide) (Nat.le_of_ble_eq_true rfl) (Nat.le_of_ble_eq_true rfl) ?_
  obtain ⟨σ3, eσ3⟩ : ∃ τ, τ = h_put (h_put (h_put σ2 (wNL W) (.inr (.inl (14, [.int (mcn_4 + 1), .ref (wNA W), .int (nI (nN N))])))) (wNA W) (.inl (.object "java/lang/Object", 4, .inr (.inr (.inr (.inr (va_up fnA_4 (nN N) (some τs3.2)))))))) (wNL W) (.inr (.inl (14, [.int (mcn_4 + 1), .ref (wNA W), .int (nI (nN N + 1))]))) := ⟨_, rfl⟩
  refine A_st (σ' := σ3) eσ3.symm ?_
  have wσ3 : wfh σ3 := by rw [eσ3]; exact (((wσ2.put fσ2_3).put ((hp_ne (ne_of (x := .inl (.object "java/lang/Object", 4, .inr (.inr (.inr (.inr fnA_4))))) (y := .inr (.inl (14, [.int mcn_4, .ref (wNA W), .int (nI (nN N))]))) fσ2_4 fσ2_3 (fun e8 => by simp at e8))).trans fσ2_4)).put ((hp_ne (ne_of (x := .inr (.inl (14, [.int mcn_4, .ref (wNA W), .int (nI (nN N))]))) (y := .inl (.object "java/lang/Object", 4, .inr (.inr (.inr (.inr fnA_4))))) fσ2_3 fσ2_4 (fun e8 => by simp at e8))).trans (if_pos rfl)))
  have qσ3 : kl lo τs4 σ3 := by rw [eσ3]; exact (((qσ2.put hO.2.2.2.1).put hO.2.2.2.2.1).put hO.2.2.2.1)
  have fσ3_0 : σ3.1 (wW W) = some (.inr (.inl (4, [.int (N 9), .ref (wR W), .ref (wM W), .ref (wNL W), .ref (wFL W), .ref (wUN W), .int (N 6), .int (N 8), .int (N 0), .int (N 1), .int (N 2), .int (N 3), .int (N 4), .int (N 5), .int (N 11)]))) := by rw [eσ3]; exact ((hp_ne (ne_of (x := .inr (.inl (4, [.int (N 9), .ref (wR W), .ref (wM W), .ref (wNL W), .ref (wFL W), .ref (wUN W), .int (N 6), .int (N 8), .int (N 0), .int (N 1), .int (N 2), .int (N 3), .int (N 4), .int (N 5), .int (N 11)]))) (y := .inr (.inl (14, [.int mcn_4, .ref (wNA W), .int (nI (nN N))]))) fσ2_0 fσ2_3 (fun e8 => by simp at e8))).trans ((hp_ne (ne_of (x := .inr (.inl (4, [.int (N 9), .ref (wR W), .ref (wM W), .ref (wNL W), .ref (wFL W), .ref (wUN W), .int (N 6), .int (N 8), .int (N 0), .int (N 1), .int (N 2), .int (N 3), .int (N 4), .int (N 5), .int (N 11)]))) (y := .inl (.object "java/lang/Object", 4, .inr (.inr (.inr (.inr fnA_4))))) fσ2_0 fσ2_4 (fun e8 => by simp at e8))).trans ((hp_ne (ne_of (x := .inr (.inl (4, [.int (N 9), .ref (wR W), .ref (wM W), .ref (wNL W), .ref (wFL W), .ref (wUN W), .int (N 6), .int (N 8), .int (N 0), .int (N 1), .int (N 2), .int (N 3), .int (N 4), .int (N 5), .int (N 11)]))) (y := .inr (.inl (14, [.int mcn_4, .ref (wNA W), .int (nI (nN N))]))) fσ2_0 fσ2_3 (fun e8 => by simp at e8))).trans fσ2_0)))
  have fσ3_1 : σ3.1 (wNL W) = some (.inr (.inl (14, [.int (mcn_4 + 1), .ref (wNA W), .int (nI (nN N + 1))]))) := by rw [eσ3]; exact (if_pos rfl)
  have fσ3_2 : σ3.1 (wNA W) = some (.inl (.object "java/lang/Object", 4, .inr (.inr (.inr (.inr (va_up fnA_4 (nN N) (some τs3.2))))))) := by rw [eσ3]; exact ((hp_ne (ne_of (x := .inl (.object "java/lang/Object", 4, .inr (.inr (.inr (.inr fnA_4))))) (y := .inr (.inl (14, [.int mcn_4, .ref (wNA W), .int (nI (nN N))]))) fσ2_4 fσ2_3 (fun e8 => by simp at e8))).trans (if_pos rfl))
  have fσ3_3 : σ3.1 (wR W) = some (.inl (.int, 6, .inl fr_4)) := by rw [eσ3]; exact ((hp_ne (ne_of (x := .inl (.int, 6, .inl fr_4)) (y := .inr (.inl (14, [.int mcn_4, .ref (wNA W), .int (nI (nN N))]))) fσ2_5 fσ2_3 (fun e8 => by simp at e8))).trans ((hp_ne (ne_of (x := .inl (.int, 6, .inl fr_4)) (y := .inl (.object "java/lang/Object", 4, .inr (.inr (.inr (.inr fnA_4))))) fσ2_5 fσ2_4 (fun e8 => by simp at e8))).trans ((hp_ne (ne_of (x := .inl (.int, 6, .inl fr_4)) (y := .inr (.inl (14, [.int mcn_4, .ref (wNA W), .int (nI (nN N))]))) fσ2_5 fσ2_3 (fun e8 => by simp at e8))).trans fσ2_5)))
  have fσ3_4 : σ3.1 (wM W) = some (.inl (.int, 3, .inl fm_4)) := by rw [eσ3]; exact ((hp_ne (ne_of (x := .inl (.int, 3, .inl fm_4)) (y := .inr (.inl (14, [.int mcn_4, .ref (wNA W), .int (nI (nN N))]))) fσ2_6 fσ2_3 (fun e8 => by simp at e8))).trans ((hp_ne (ne_of (x := .inl (.int, 3, .inl fm_4)) (y := .inl (.object "java/lang/Object", 4, .inr (.inr (.inr (.inr fnA_4))))) fσ2_6 fσ2_4 (fun e8 => by simp at e8))).trans ((hp_ne (ne_of (x := .inl (.int, 3, .inl fm_4)) (y := .inr (.inl (14, [.int mcn_4, .ref (wNA W), .int (nI (nN N))]))) fσ2_6 fσ2_3 (fun e8 => by simp at e8))).trans fσ2_6)))
  have fσ3_5 : σ3.1 (wUN W) = some (.inl (.object "FlagLaundry$Test", 7, .inr (.inr (.inr (.inr fu_4))))) := by rw [eσ3]; exact ((hp_ne (ne_of (x := .inl (.object "FlagLaundry$Test", 7, .inr (.inr (.inr (.inr fu_4))))) (y := .inr (.inl (14, [.int mcn_4, .ref (wNA W), .int (nI (nN N))]))) fσ2_7 fσ2_3 (fun e8 => by simp at e8))).trans ((hp_ne (ne_of (x := .inl (.object "FlagLaundry$Test", 7, .inr (.inr (.inr (.inr fu_4))))) (y := .inl (.object "java/lang/Object", 4, .inr (.inr (.inr (.inr fnA_4))))) fσ2_7 fσ2_4 (fun e8 => by simp at e8))).trans ((hp_ne (ne_of (x := .inl (.object "FlagLaundry$Test", 7, .inr (.inr (.inr (.inr fu_4))))) (y := .inr (.inl (14, [.int mcn_4, .ref (wNA W), .int (nI (nN N))]))) fσ2_7 fσ2_3 (fun e8 => by simp at e8))).trans fσ2_7)))
  have fσ3_6 : σ3.1 y = some (.inr (.inl (2, [.int (nI n), .int (nI p4.2.1), .int (nI p4.2.2.1), .int v_4, .ref (S p4.2.2.2.1), .ref wd_4, .ref (wW W), .ref x]))) := by rw [eσ3]; exact ((hp_ne (ne_of (x := .inr (.inl (2, [.int (nI n), .int (nI p4.2.1), .int (nI p4.2.2.1), .int v_4, .ref (S p4.2.2.2.1), .ref wd_4, .ref (wW W), .ref x]))) (y := .inr (.inl (14, [.int mcn_4, .ref (wNA W), .int (nI (nN N))]))) fσ2_8 fσ2_3 (fun e8 => by simp at e8))).trans ((hp_ne (ne_of (x := .inr (.inl (2, [.int (nI n), .int (nI p4.2.1), .int (nI p4.2.2.1), .int v_4, .ref (S p4.2.2.2.1), .ref wd_4, .ref (wW W), .ref x]))) (y := .inl (.object "java/lang/Object", 4, .inr (.inr (.inr (.inr fnA_4))))) fσ2_8 fσ2_4 (fun e8 => by simp at e8))).trans ((hp_ne (ne_of (x := .inr (.inl (2, [.int (nI n), .int (nI p4.2.1), .int (nI p4.2.2.1), .int v_4, .ref (S p4.2.2.2.1), .ref wd_4, .ref (wW W), .ref x]))) (y := .inr (.inl (14, [.int mcn_4, .ref (wNA W), .int (nI (nN N))]))) fσ2_8 fσ2_3 (fun e8 => by simp at e8))).trans fσ2_8)))
  have fσ3_7 : σ3.1 x = some (.inr (.inl (0, [.ref bf, .int bd_4, .int pe_4, .int ep_4, nv_4, .ref dq_4, .ref sv_4, .ref ou_4]))) := by rw [eσ3]; exact ((hp_ne (ne_of (x := .inr (.inl (0, [.ref bf, .int bd_4, .int pe_4, .int ep_4, nv_4, .ref dq_4, .ref sv_4, .ref ou_4]))) (y := .inr (.inl (14, [.int mcn_4, .ref (wNA W), .int (nI (nN N))]))) fσ2_9 fσ2_3 (fun e8 => by simp at e8))).trans ((hp_ne (ne_of (x := .inr (.inl (0, [.ref bf, .int bd_4, .int pe_4, .int ep_4, nv_4, .ref dq_4, .ref sv_4, .ref ou_4]))) (y := .inl (.object "java/lang/Object", 4, .inr (.inr (.inr (.inr fnA_4))))) fσ2_9 fσ2_4 (fun e8 => by simp at e8))).trans ((hp_ne (ne_of (x := .inr (.inl (0, [.ref bf, .int bd_4, .int pe_4, .int ep_4, nv_4, .ref dq_4, .ref sv_4, .ref ou_4]))) (y := .inr (.inl (14, [.int mcn_4, .ref (wNA W), .int (nI (nN N))]))) fσ2_9 fσ2_3 (fun e8 => by simp at e8))).trans fσ2_9)))
  have fσ3_8 : σ3.1 bf = some (.inl (.byte, 500, .inl B)) := by rw [eσ3]; exact ((hp_ne (ne_of (x := .inl (.byte, 500, .inl B)) (y := .inr (.inl (14, [.int mcn_4, .ref (wNA W), .int (nI (nN N))]))) fσ2_10 fσ2_3 (fun e8 => by simp at e8))).trans ((hp_ne (ne_of (x := .inl (.byte, 500, .inl B)) (y := .inl (.object "java/lang/Object", 4, .inr (.inr (.inr (.inr fnA_4))))) fσ2_10 fσ2_4 (fun e8 => by simp at e8))).trans ((hp_ne (ne_of (x := .inl (.byte, 500, .inl B)) (y := .inr (.inl (14, [.int mcn_4, .ref (wNA W), .int (nI (nN N))]))) fσ2_10 fσ2_3 (fun e8 => by simp at e8))).trans fσ2_10)))
  have fσ3_9 : σ3.1 τs3.2 = some (.inr (.inl (5, [.int (nhV 0 99 p1), .int (nhV 1 99 p2), .int (nhV 0 9 p3), .int (-1)]))) := by rw [eσ3]; exact ((hp_ne (ne_of (x := .inr (.inl (5, [.int (nhV 0 99 p1), .int (nhV 1 99 p2), .int (nhV 0 9 p3), .int (-1)]))) (y := .inr (.inl (14, [.int mcn_4, .ref (wNA W), .int (nI (nN N))]))) fσ2_a fσ2_3 (fun e8 => by simp at e8))).trans ((hp_ne (ne_of (x := .inr (.inl (5, [.int (nhV 0 99 p1), .int (nhV 1 99 p2), .int (nhV 0 9 p3), .int (-1)]))) (y := .inl (.object "java/lang/Object", 4, .inr (.inr (.inr (.inr fnA_4))))) fσ2_a fσ2_4 (fun e8 => by simp at e8))).trans ((hp_ne (ne_of (x := .inr (.inl (5, [.int (nhV 0 99 p1), .int (nhV 1 99 p2), .int (nhV 0 9 p3), .int (-1)]))) (y := .inr (.inl (14, [.int mcn_4, .ref (wNA W), .int (nI (nN N))]))) fσ2_a fσ2_3 (fun e8 => by simp at e8))).trans fσ2_a)))
  have n9a : nw τs3 σ1 := by rw [eσ1]; exact nw.rf.new wτs3
  have n9b : nw τs3 τs4 := n9a.kx wσ1 fσ1_8 (isW_no (by decide)) kτs4
  have n9c : nw τs3 σ2 := n9b.kxF wτs3 (Nat.le_refl _) kσ2
  have hRo2 : RW g σ2 W N := hRlτs3.nw n9c
  have hne9 : ¬ wNA W = wNL W := ne_of hRo2.2.2.2.1.choose_spec.choose_spec.2.1 hRo2.2.2.2.1.choose_spec.choose_spec.1 ne_arr
  obtain ⟨-, ⟨mcA, hLA⟩, hAA, hk9⟩ := add_of (v := none) (n := nN N) (cap := 4) (f := fnA_4) (x := τs3.2) hne9 eσ3
  have hR7 : RW g σ3 (setNt W (upP (wN W) (nN N) τs3.2)) (nanN N (nhV 0 99 p1) (nhV 1 99 p2) (nhV 0 9 p3)) := hRo2.nan wσ2 hG hk7 hk9 hLA hAA h4q_4 fσ2_a (fun i hi => (hRlτs3.2.2.2.2.2.2.2.2.1 i hi).elim (fun _ q => Nat.ne_of_lt (wτs3 _ _ q.1)))
  have hE7 : naS B n p = pN (nanN N (nhV 0 99 p1) (nhV 1 99 p2) (nhV 0 9 p3)) p4 := (na_0 e1 e2 e3 e4 z0_4).trans (by rw [n9_4])
  refine A_goto (tgt := 527) dX3_line_396 (by decide) ?_
  exact A_vret dX3_line_527 rfl (by rw [hth, hE7]; exact ⟨rfl, z0_4, ⟨v_4, wd_4, fσ3_6, ⟨⟨bd_4, pe_4, ep_4, nv_4, dq_4, sv_4, ou_4, fσ3_7⟩, fσ3_8, hn5_4, hby_4⟩, hvv_4, htk_4, hcn_4, hsc_4⟩, ⟨(setNt W (upP (wN W) (nN N) τs3.2)), rfl, by first | exact hR7 | (rw [rfl]; exact hR7), by first | exact (hO.nan hW _ _ _ (Nat.le_trans hl0 kyτs3.1)) | (rw [rfl]; exact (hO.nan hW _ _ _ (Nat.le_trans hl0 kyτs3.1)))⟩, by first | exact (GN_nan hG hk7 _ _ _) | (rw [rfl]; exact (GN_nan hG hk7 _ _ _)), (kyτs4.kl qσ3)⟩)
theorem c_lnNone {l : Launch} {g : GC} (σ : AH) (y x bf n lo : Nat) (S : Int32 → Nat) (W : WA) (B N : AF) (p : PT) (u : List Int32) (h : PRW g σ y x bf S B n (.ref (wW W)) p) (hS : SRT g S) (h0 : pcd p = 0) (hN : p.1 = N) (hR : RW g σ W N) (hO : own lo W N) (hG : GN N) (hl0 : lo ≤ σ.2) (hy : y < lo) (hx : x < lo) (hb : bf < lo) (hk2 : p.2.2.2.1 = 2) (hwd : wls B p.2.2.1 (p.2.1 - p.2.2.1) = u) (hnw0 : ¬ u = wColour) (hnw1 : ¬ u = wNation) (hnw2 : ¬ u = wTub) (hnw3 : ¬ u = wFlag) (hnw4 : ¬ u = wPut) (hnw5 : ¬ u = wWash) (hnw6 : ¬ u = wHang) (hnw7 : ¬ u = wWind) (hnw8 : ¬ u = wPass) : AMet l g mX3_line 46 150 [.ref y] σ (LQ g y x bf S B n lo (wW W) (thS B n p) σ) (LX y lo (thS B n p) σ) := by
  refine A_of rfl (by decide) (Nat.le_of_ble_eq_true rfl) (L0 := [(0, .ref y)]) rfl ?_
  refine A_wfh (fun wσ hgσ => ?_)
  have qσ : kl lo σ σ := kl.rf
  refine A_gok (fun hgk => ?_)
  have hD := hG.1
  have hw := hG.2.1
  have hl := hl0
  obtain ⟨v, wd, ⟨hC, ⟨⟨bd, pe, ep, nv, dq, sv, ou, hX⟩, hBf, hn5, hby⟩, hvv, htk, hcn, hsc⟩, hPW⟩ := id h
  have hW := hD.1
  have hR9 := hR
  obtain ⟨h1, ⟨fr, h2, h2p⟩, ⟨fm, h3, h3p⟩, ⟨mcn, fnA, h4, h4p, h4q⟩, ⟨mcf, ffA, h5, h5p, h5q⟩, ⟨fu, h6, h6p⟩, h7, h8, h9, h10, h11⟩ := hR
  have hF12 : nF N ≤ 12 := hW.2.2.2.2.2
  have hN4 : nN N ≤ 4 := hW.2.1.2
  have hC6 : nC N ≤ 6 := hW.1.2
  have hT3 : nT N ≤ 3 := hW.2.2.1.2
  have hP8 : nP N ≤ 8 := hW.2.2.2.1.2
  obtain ⟨_, hw6, hw0, va, hNS⟩ : p.2.2.2.1 = 2 ∧ p.2.1 - p.2.2.1 ≤ 6 ∧ 0 < p.2.1 - p.2.2.1 ∧ ∃ va, NST σ wd va 0 0 (wls B p.2.2.1 (p.2.1 - p.2.2.1)) := hPW.resolve_right (fun q => q.1 hk2)
  rw [hwd] at hNS
  have hlu : (wls B p.2.2.1 (p.2.1 - p.2.2.1)).length = p.2.1 - p.2.2.1 := wls_len _ _ _
  rw [hwd] at hlu
  have hu6 : u.length ≤ 6 := by rw [hlu]; exact hw6
  have hu0 : 0 < u.length := by rw [hlu]; exact hw0
  refine A_aload_n (i := 0) dX3_line_0 rfl rfl ?_
  refine A_aload_n (i := 0) dX3_line_1 rfl rfl ?_
  refine A_getf cb_X3 hC 4 (Nat.le_of_ble_eq_true rfl) q688 rfl (v := .ref (S p.2.2.2.1)) rfl dX3_line_2 ?_
  refine A_getsO hS.2.2.1 q429 rfl dX3_line_5 ?_
  refine A_acmp_ne_f (tgt := 15) (x := (some (S p.2.2.2.1))) (y := (some (S 2))) dX3_line_8 (by decide) (by rw [hk2]) ?_
  refine A_iconst (v := 1) dX3_line_11 (by decide) ?_
  refine A_goto (tgt := 16) dX3_line_12 (by decide) ?_
  refine A_iconst (v := 1) dX3_line_16 (by decide) ?_
  refine A_callV2E (b' := 150) (v := none) (τ := σ) (c_pChk σ y 1) tX3_check q722 hC rfl rfl dX3_line_17 (by decide) (Nat.le_of_ble_eq_true rfl) (Nat.le_of_ble_eq_true rfl) ?_
  refine A_aload_n (i := 0) dX3_line_20 rfl rfl ?_
  refine A_getf cb_X3 hC 5 (Nat.le_of_ble_eq_true rfl) q689 rfl (v := .ref wd) rfl dX3_line_21 ?_
  refine A_astore_n (i := 1) dX3_line_24 rfl (Nat.le_of_ble_eq_true rfl) ?_
  obtain ⟨ac0, hac0, hsc09⟩ := litP187 hgk
  obtain ⟨ac1, hac1, hsc19⟩ := litP193 hgk
  obtain ⟨ac2, hac2, hsc29⟩ := litP195 hgk
  obtain ⟨ac3, hac3, hsc39⟩ := litP197 hgk
  obtain ⟨ac4, hac4, hsc49⟩ := litP199 hgk
  obtain ⟨ac5, hac5, hsc59⟩ := litP201 hgk
  obtain ⟨ac6, hac6, hsc69⟩ := litP203 hgk
  obtain ⟨ac7, hac7, hsc79⟩ := litP205 hgk
  obtain ⟨ac8, hac8, hsc89⟩ := litP207 hgk
  refine A_iconst (v := (-1)) dX3_line_25 (by decide) ?_
  refine A_istore_n (i := 2) dX3_line_26 rfl (Nat.le_of_ble_eq_true rfl) ?_
  refine A_aload_n (i := 1) dX3_line_27 rfl rfl ?_
  have hth : thS B n p = fltS 1 p := (th_word ⟨h0, hk2⟩ hwd).trans (by unfold lnS; rw [if_neg hnw0, if_neg hnw1, if_neg hnw2, if_neg hnw3, if_neg hnw4, if_neg hnw5, if_neg hnw6, if_neg hnw7, if_neg hnw8])
  refine A_callV0 (b' := 150) (c_strHash σ wd va u hNS hu6 hu0) tJ4_hashCode q893 hNS.1 rfl rfl dX3_line_28 (by decide) (Nat.le_of_ble_eq_true rfl) (Nat.le_of_ble_eq_true rfl) (fun w9 τh hh => ?_) (fun E9 q9 τ9 h9 => h9.elim)
  obtain ⟨e9, ⟨hh9, hz9, hN9⟩, k9⟩ := hh
  subst e9
  refine A_wfh (fun wτh hgτh => ?_)
  have kyτh : ky y lo σ τh := ky.rf.st hNS.1 k9 hl0
  have hl : lo ≤ τh.2 := Nat.le_trans hl0 kyτh.1
  have qτh : kl lo τh τh := kl.rf
  have hRh : RW g τh W N := hR9.oth wσ hNS.1 (isW_no (by decide)) k9
  have hRc := hRh
  obtain ⟨h1_h, ⟨fr_h, h2_h, h2p_h⟩, ⟨fm_h, h3_h, h3p_h⟩, ⟨mcn_h, fnA_h, h4_h, h4p_h, h4q_h⟩, ⟨mcf_h, ffA_h, h5_h, h5p_h, h5q_h⟩, ⟨fu_h, h6_h, h6p_h⟩, h7_h, h8_h, h9_h, h10_h, h11_h⟩ := hRc
  have fτh_h_0 : τh.1 (wW W) = some (.inr (.inl (4, [.int (N 9), .ref (wR W), .ref (wM W), .ref (wNL W), .ref (wFL W), .ref (wUN W), .int (N 6), .int (N 8), .int (N 0), .int (N 1), .int (N 2), .int (N 3), .int (N 4), .int (N 5), .int (N 11)]))) := h1_h
  have fτh_h_1 : τh.1 (wFL W) = some (.inr (.inl (14, [.int mcf_h, .ref (wFA W), .int (nI (nF N))]))) := h5_h
  have fτh_h_2 : τh.1 (wFA W) = some (.inl (.object "java/lang/Object", 12, .inr (.inr (.inr (.inr ffA_h))))) := h5p_h
  have fτh_h_3 : τh.1 (wNL W) = some (.inr (.inl (14, [.int mcn_h, .ref (wNA W), .int (nI (nN N))]))) := h4_h
  have fτh_h_4 : τh.1 (wNA W) = some (.inl (.object "java/lang/Object", 4, .inr (.inr (.inr (.inr fnA_h))))) := h4p_h
  have fτh_h_5 : τh.1 (wR W) = some (.inl (.int, 6, .inl fr_h)) := h2_h
  have fτh_h_6 : τh.1 (wM W) = some (.inl (.int, 3, .inl fm_h)) := h3_h
  have fτh_h_7 : τh.1 (wUN W) = some (.inl (.object "FlagLaundry$Test", 7, .inr (.inr (.inr (.inr fu_h))))) := h6_h
  have gyh : τh.1 y = some (.inr (.inl (2, [.int (nI n), .int (nI p.2.1), .int (nI p.2.2.1), .int v, .ref (S p.2.2.2.1), .ref wd, .ref (wW W), .ref x]))) := k9.at wσ hC (ne_of hC hNS.1 (fun q => by simp at q))
  have gxh : τh.1 x = some (.inr (.inl (0, [.ref bf, .int bd, .int pe, .int ep, nv, .ref dq, .ref sv, .ref ou]))) := k9.at wσ hX (ne_of hX hNS.1 (fun q => by simp at q))
  have gbfh : τh.1 bf = some (.inl (.byte, 500, .inl B)) := k9.at wσ hBf (ne_of hBf hNS.1 (fun q => by simp at q))
  by_cases c1 : (hsU u u.length) = (-1354842676)
  · skip
    refine A_int (w := (-1354842676)) c1 ?_
    refine A_lookup (off := 81) (tgt := 112) dX3_line_31 (by decide +kernel) (by decide +kernel) (by decide) ?_
    refine A_aload_n (i := 1) dX3_line_112 rfl rfl ?_
    refine A_ldcO hac0 dX3_line_113 ?_
    refine A_callV1E (b' := 150) (v := some (.int (bi (u = wColour)))) (τ := τh) (c_strEq τh wd va ac0 hh9 hz9 u wColour hN9 hsc09 (Nat.lt_of_le_of_lt hu6 (by decide)) (by decide)) tJ4_equals q714 hN9.1 rfl rfl dX3_line_115 (by decide) (Nat.le_of_ble_eq_true rfl) (Nat.le_of_ble_eq_true rfl) ?_
    refine A_int (w := 0) (bi_f hnw0) ?_
    refine A_if_eq_t (tgt := 238) dX3_line_118 (by decide) (by decide) ?_
    refine A_iload_n (i := 2) dX3_line_238 rfl rfl ?_
    refine A_tableOut (tgt := 521) dX3_line_239 (by decide) (by decide) ?_
    refine A_aload_n (i := 0) dX3_line_521 rfl rfl ?_
    refine A_iconst (v := 0) dX3_line_522 (by decide) ?_
    refine A_iconst (v := 1) dX3_line_523 (by decide) ?_
    refine A_callV2 (b' := 0) (c_pChkNo τh y n p.2.1 p.2.2.1 x v (S p.2.2.2.1) wd (.ref (wW W)) 1 gyh) tX3_check q722 gyh rfl rfl dX3_line_524 (by decide) (Nat.le_of_ble_eq_true rfl) (Nat.le_of_ble_eq_true rfl) (fun w9 τ9 h9 => h9.elim) (fun E9 q9 τ9 h9 => A_out rfl (LX.ck kyτh hl0 h9 h0 (by decide) (by rw [hth])))
  by_cases c2 : (hsU u u.length) = (-1052618937)
  · skip
    refine A_int (w := (-1052618937)) c2 ?_
    refine A_lookup (off := 95) (tgt := 126) dX3_line_31 (by decide +kernel) (by decide +kernel) (by decide) ?_
    refine A_aload_n (i := 1) dX3_line_126 rfl rfl ?_
    refine A_ldcO hac1 dX3_line_127 ?_
    refine A_callV1E (b' := 150) (v := some (.int (bi (u = wNation)))) (τ := τh) (c_strEq τh wd va ac1 hh9 hz9 u wNation hN9 hsc19 (Nat.lt_of_le_of_lt hu6 (by decide)) (by decide)) tJ4_equals q714 hN9.1 rfl rfl dX3_line_129 (by decide) (Nat.le_of_ble_eq_true rfl) (Nat.le_of_ble_eq_true rfl) ?_
    refine A_int (w := 0) (bi_f hnw1) ?_
    refine A_if_eq_t (tgt := 238) dX3_line_132 (by decide) (by decide) ?_
    refine A_iload_n (i := 2) dX3_line_238 rfl rfl ?_
    refine A_tableOut (tgt := 521) dX3_line_239 (by decide) (by decide) ?_
    refine A_aload_n (i := 0) dX3_line_521 rfl rfl ?_
    refine A_iconst (v := 0) dX3_line_522 (by decide) ?_
    refine A_iconst (v := 1) dX3_line_523 (by decide) ?_
    refine A_callV2 (b' := 0) (c_pChkNo τh y n p.2.1 p.2.2.1 x v (S p.2.2.2.1) wd (.ref (wW W)) 1 gyh) tX3_check q722 gyh rfl rfl dX3_line_524 (by decide) (Nat.le_of_ble_eq_true rfl) (Nat.le_of_ble_eq_true rfl) (fun w9 τ9 h9 => h9.elim) (fun E9 q9 τ9 h9 => A_out rfl (LX.ck kyτh hl0 h9 h0 (by decide) (by rw [hth])))
  by_cases c3 : (hsU u u.length) = 111375
  · skip
    refine A_int (w := 111375) c3 ?_
    refine A_lookup (off := 137) (tgt := 168) dX3_line_31 (by decide +kernel) (by decide +kernel) (by decide) ?_
    refine A_aload_n (i := 1) dX3_line_168 rfl rfl ?_
    refine A_ldcO hac4 dX3_line_169 ?_
    refine A_callV1E (b' := 150) (v := some (.int (bi (u = wPut)))) (τ := τh) (c_strEq τh wd va ac4 hh9 hz9 u wPut hN9 hsc49 (Nat.lt_of_le_of_lt hu6 (by decide)) (by decide)) tJ4_equals q714 hN9.1 rfl rfl dX3_line_171 (by decide) (Nat.le_of_ble_eq_true rfl) (Nat.le_of_ble_eq_true rfl) ?_
    refine A_int (w := 0) (bi_f hnw4) ?_
    refine A_if_eq_t (tgt := 238) dX3_line_174 (by decide) (by decide) ?_
    refine A_iload_n (i := 2) dX3_line_238 rfl rfl ?_
    refine A_tableOut (tgt := 521) dX3_line_239 (by decide) (by decide) ?_
    refine A_aload_n (i := 0) dX3_line_521 rfl rfl ?_
    refine A_iconst (v := 0) dX3_line_522 (by decide) ?_
    refine A_iconst (v := 1) dX3_line_523 (by decide) ?_
    refine A_callV2 (b' := 0) (c_pChkNo τh y n p.2.1 p.2.2.1 x v (S p.2.2.2.1) wd (.ref (wW W)) 1 gyh) tX3_check q722 gyh rfl rfl dX3_line_524 (by decide) (Nat.le_of_ble_eq_true rfl) (Nat.le_of_ble_eq_true rfl) (fun w9 τ9 h9 => h9.elim) (fun E9 q9 τ9 h9 => A_out rfl (LX.ck kyτh hl0 h9 h0 (by decide) (by rw [hth])))
  by_cases c4 : (hsU u u.length) = 115201
  · skip
    refine A_int (w := 115201) c4 ?_
    refine A_lookup (off := 109) (tgt := 140) dX3_line_31 (by decide +kernel) (by decide +kernel) (by decide) ?_
    refine A_aload_n (i := 1) dX3_line_140 rfl rfl ?_
    refine A_ldcO hac2 dX3_line_141 ?_
    refine A_callV1E (b' := 150) (v := some (.int (bi (u = wTub)))) (τ := τh) (c_strEq τh wd va ac2 hh9 hz9 u wTub hN9 hsc29 (Nat.lt_of_le_of_lt hu6 (by decide)) (by decide)) tJ4_equals q714 hN9.1 rfl rfl dX3_line_143 (by decide) (Nat.le_of_ble_eq_true rfl) (Nat.le_of_ble_eq_true rfl) ?_
    refine A_int (w := 0) (bi_f hnw2) ?_
    refine A_if_eq_t (tgt := 238) dX3_line_146 (by decide) (by decide) ?_
    refine A_iload_n (i := 2) dX3_line_238 rfl rfl ?_
    refine A_tableOut (tgt := 521) dX3_line_239 (by decide) (by decide) ?_
    refine A_aload_n (i := 0) dX3_line_521 rfl rfl ?_
    refine A_iconst (v := 0) dX3_line_522 (by decide) ?_
    refine A_iconst (v := 1) dX3_line_523 (by decide) ?_
    refine A_callV2 (b' := 0) (c_pChkNo τh y n p.2.1 p.2.2.1 x v (S p.2.2.2.1) wd (.ref (wW W)) 1 gyh) tX3_check q722 gyh rfl rfl dX3_line_524 (by decide) (Nat.le_of_ble_eq_true rfl) (Nat.le_of_ble_eq_true rfl) (fun w9 τ9 h9 => h9.elim) (fun E9 q9 τ9 h9 => A_out rfl (LX.ck kyτh hl0 h9 h0 (by decide) (by rw [hth])))
  by_cases c5 : (hsU u u.length) = 3145580
  · skip
    refine A_int (w := 3145580) c5 ?_
    refine A_lookup (off := 123) (tgt := 154) dX3_line_31 (by decide +kernel) (by decide +kernel) (by decide) ?_
    refine A_aload_n (i := 1) dX3_line_154 rfl rfl ?_
    refine A_ldcO hac3 dX3_line_155 ?_
    refine A_callV1E (b' := 150) (v := some (.int (bi (u = wFlag)))) (τ := τh) (c_strEq τh wd va ac3 hh9 hz9 u wFlag hN9 hsc39 (Nat.lt_of_le_of_lt hu6 (by decide)) (by decide)) tJ4_equals q714 hN9.1 rfl rfl dX3_line_157 (by decide) (Nat.le_of_ble_eq_true rfl) (Nat.le_of_ble_eq_true rfl) ?_
    refine A_int (w := 0) (bi_f hnw3) ?_
    refine A_if_eq_t (tgt := 238) dX3_line_160 (by decide) (by decide) ?_
    refine A_iload_n (i := 2) dX3_line_238 rfl rfl ?_
    refine A_tableOut (tgt := 521) dX3_line_239 (by decide) (by decide) ?_
    refine A_aload_n (i := 0) dX3_line_521 rfl rfl ?_
    refine A_iconst (v := 0) dX3_line_522 (by decide) ?_
    refine A_iconst (v := 1) dX3_line_523 (by decide) ?_
    refine A_callV2 (b' := 0) (c_pChkNo τh y n p.2.1 p.2.2.1 x v (S p.2.2.2.1) wd (.ref (wW W)) 1 gyh) tX3_check q722 gyh rfl rfl dX3_line_524 (by decide) (Nat.le_of_ble_eq_true rfl) (Nat.le_of_ble_eq_true rfl) (fun w9 τ9 h9 => h9.elim) (fun E9 q9 τ9 h9 => A_out rfl (LX.ck kyτh hl0 h9 h0 (by decide) (by rw [hth])))
  by_cases c6 : (hsU u u.length) = 3194994
  · skip
    refine A_int (w := 3194994) c6 ?_
    refine A_lookup (off := 165) (tgt := 196) dX3_line_31 (by decide +kernel) (by decide +kernel) (by decide) ?_
    refine A_aload_n (i := 1) dX3_line_196 rfl rfl ?_
    refine A_ldcO hac6 dX3_line_197 ?_
    refine A_callV1E (b' := 150) (v := some (.int (bi (u = wHang)))) (τ := τh) (c_strEq τh wd va ac6 hh9 hz9 u wHang hN9 hsc69 (Nat.lt_of_le_of_lt hu6 (by decide)) (by decide)) tJ4_equals q714 hN9.1 rfl rfl dX3_line_199 (by decide) (Nat.le_of_ble_eq_true rfl) (Nat.le_of_ble_eq_true rfl) ?_
    refine A_int (w := 0) (bi_f hnw6) ?_
    refine A_if_eq_t (tgt := 238) dX3_line_202 (by decide) (by decide) ?_
    refine A_iload_n (i := 2) dX3_line_238 rfl rfl ?_
    refine A_tableOut (tgt := 521) dX3_line_239 (by decide) (by decide) ?_
    refine A_aload_n (i := 0) dX3_line_521 rfl rfl ?_
    refine A_iconst (v := 0) dX3_line_522 (by decide) ?_
    refine A_iconst (v := 1) dX3_line_523 (by decide) ?_
    refine A_callV2 (b' := 0) (c_pChkNo τh y n p.2.1 p.2.2.1 x v (S p.2.2.2.1) wd (.ref (wW W)) 1 gyh) tX3_check q722 gyh rfl rfl dX3_line_524 (by decide) (Nat.le_of_ble_eq_true rfl) (Nat.le_of_ble_eq_true rfl) (fun w9 τ9 h9 => h9.elim) (fun E9 q9 τ9 h9 => A_out rfl (LX.ck kyτh hl0 h9 h0 (by decide) (by rw [hth])))
  by_cases c7 : (hsU u u.length) = 3433489
  · skip
    refine A_int (w := 3433489) c7 ?_
    refine A_lookup (off := 195) (tgt := 226) dX3_line_31 (by decide +kernel) (by decide +kernel) (by decide) ?_
    refine A_aload_n (i := 1) dX3_line_226 rfl rfl ?_
    refine A_ldcO hac8 dX3_line_227 ?_
    refine A_callV1E (b' := 150) (v := some (.int (bi (u = wPass)))) (τ := τh) (c_strEq τh wd va ac8 hh9 hz9 u wPass hN9 hsc89 (Nat.lt_of_le_of_lt hu6 (by decide)) (by decide)) tJ4_equals q714 hN9.1 rfl rfl dX3_line_229 (by decide) (Nat.le_of_ble_eq_true rfl) (Nat.le_of_ble_eq_true rfl) ?_
    refine A_int (w := 0) (bi_f hnw8) ?_
    refine A_if_eq_t (tgt := 238) dX3_line_232 (by decide) (by decide) ?_
    refine A_iload_n (i := 2) dX3_line_238 rfl rfl ?_
    refine A_tableOut (tgt := 521) dX3_line_239 (by decide) (by decide) ?_
    refine A_aload_n (i := 0) dX3_line_521 rfl rfl ?_
    refine A_iconst (v := 0) dX3_line_522 (by decide) ?_
    refine A_iconst (v := 1) dX3_line_523 (by decide) ?_
    refine A_callV2 (b' := 0) (c_pChkNo τh y n p.2.1 p.2.2.1 x v (S p.2.2.2.1) wd (.ref (wW W)) 1 gyh) tX3_check q722 gyh rfl rfl dX3_line_524 (by decide) (Nat.le_of_ble_eq_true rfl) (Nat.le_of_ble_eq_true rfl) (fun w9 τ9 h9 => h9.elim) (fun E9 q9 τ9 h9 => A_out rfl (LX.ck kyτh hl0 h9 h0 (by decide) (by rw [hth])))
  by_cases c8 : (hsU u u.length) = 3642015
  · skip
    refine A_int (w := 3642015) c8 ?_
    refine A_lookup (off := 151) (tgt := 182) dX3_line_31 (by decide +kernel) (by decide +kernel) (by decide) ?_
    refine A_aload_n (i := 1) dX3_line_182 rfl rfl ?_
    refine A_ldcO hac5 dX3_line_183 ?_
    refine A_callV1E (b' := 150) (v := some (.int (bi (u = wWash)))) (τ := τh) (c_strEq τh wd va ac5 hh9 hz9 u wWash hN9 hsc59 (Nat.lt_of_le_of_lt hu6 (by decide)) (by decide)) tJ4_equals q714 hN9.1 rfl rfl dX3_line_185 (by decide) (Nat.le_of_ble_eq_true rfl) (Nat.le_of_ble_eq_true rfl) ?_
    refine A_int (w := 0) (bi_f hnw5) ?_
    refine A_if_eq_t (tgt := 238) dX3_line_188 (by decide) (by decide) ?_
    refine A_iload_n (i := 2) dX3_line_238 rfl rfl ?_
    refine A_tableOut (tgt := 521) dX3_line_239 (by decide) (by decide) ?_
    refine A_aload_n (i := 0) dX3_line_521 rfl rfl ?_
    refine A_iconst (v := 0) dX3_line_522 (by decide) ?_
    refine A_iconst (v := 1) dX3_line_523 (by decide) ?_
    refine A_callV2 (b' := 0) (c_pChkNo τh y n p.2.1 p.2.2.1 x v (S p.2.2.2.1) wd (.ref (wW W)) 1 gyh) tX3_check q722 gyh rfl rfl dX3_line_524 (by decide) (Nat.le_of_ble_eq_true rfl) (Nat.le_of_ble_eq_true rfl) (fun w9 τ9 h9 => h9.elim) (fun E9 q9 τ9 h9 => A_out rfl (LX.ck kyτh hl0 h9 h0 (by decide) (by rw [hth])))
  by_cases c9 : (hsU u u.length) = 3649544
  · skip
    refine A_int (w := 3649544) c9 ?_
    refine A_lookup (off := 180) (tgt := 211) dX3_line_31 (by decide +kernel) (by decide +kernel) (by decide) ?_
    refine A_aload_n (i := 1) dX3_line_211 rfl rfl ?_
    refine A_ldcO hac7 dX3_line_212 ?_
    refine A_callV1E (b' := 150) (v := some (.int (bi (u = wWind)))) (τ := τh) (c_strEq τh wd va ac7 hh9 hz9 u wWind hN9 hsc79 (Nat.lt_of_le_of_lt hu6 (by decide)) (by decide)) tJ4_equals q714 hN9.1 rfl rfl dX3_line_214 (by decide) (Nat.le_of_ble_eq_true rfl) (Nat.le_of_ble_eq_true rfl) ?_
    refine A_int (w := 0) (bi_f hnw7) ?_
    refine A_if_eq_t (tgt := 238) dX3_line_217 (by decide) (by decide) ?_
    refine A_iload_n (i := 2) dX3_line_238 rfl rfl ?_
    refine A_tableOut (tgt := 521) dX3_line_239 (by decide) (by decide) ?_
    refine A_aload_n (i := 0) dX3_line_521 rfl rfl ?_
    refine A_iconst (v := 0) dX3_line_522 (by decide) ?_
    refine A_iconst (v := 1) dX3_line_523 (by decide) ?_
    refine A_callV2 (b' := 0) (c_pChkNo τh y n p.2.1 p.2.2.1 x v (S p.2.2.2.1) wd (.ref (wW W)) 1 gyh) tX3_check q722 gyh rfl rfl dX3_line_524 (by decide) (Nat.le_of_ble_eq_true rfl) (Nat.le_of_ble_eq_true rfl) (fun w9 τ9 h9 => h9.elim) (fun E9 q9 τ9 h9 => A_out rfl (LX.ck kyτh hl0 h9 h0 (by decide) (by rw [hth])))
  refine A_lookup (off := 207) (tgt := 238) dX3_line_31 (by decide +kernel) ((lv_osw (k := (-1354842676)) c1 (by decide)).trans ((lv_osw (k := (-1052618937)) c2 (by decide)).trans ((lv_osw (k := 111375) c3 (by decide)).trans ((lv_osw (k := 115201) c4 (by decide)).trans ((lv_osw (k := 3145580) c5 (by decide)).trans ((lv_osw (k := 3194994) c6 (by decide)).trans ((lv_osw (k := 3433489) c7 (by decide)).trans ((lv_osw (k := 3642015) c8 (by decide)).trans ((lv_osw (k := 3649544) c9 (by decide)).trans (rfl)))))))))) (by decide) ?_
  refine A_iload_n (i := 2) dX3_line_238 rfl rfl ?_
  refine A_tableOut (tgt := 521) dX3_line_239 (by decide) (by decide) ?_
  refine A_aload_n (i := 0) dX3_line_521 rfl rfl ?_
  refine A_iconst (v := 0) dX3_line_522 (by decide) ?_
  refine A_iconst (v := 1) dX3_line_523 (by decide) ?_
  refine A_callV2 (b' := 0) (c_pChkNo τh y n p.2.1 p.2.2.1 x v (S p.2.2.2.1) wd (.ref (wW W)) 1 gyh) tX3_check q722 gyh rfl rfl dX3_line_524 (by decide) (Nat.le_of_ble_eq_true rfl) (Nat.le_of_ble_eq_true rfl) (fun w9 τ9 h9 => h9.elim) (fun E9 q9 τ9 h9 => A_out rfl (LX.ck kyτh hl0 h9 h0 (by decide) (by rw [hth])))
theorem c_lnNo {l : Launch} {g : GC} (σ : AH) (y x bf n lo : Nat) (S : Int32 → Nat) (W : WA) (B N : AF) (p : PT) (h : PRW g σ y x bf S B n (.ref (wW W)) p) (hS : SRT g S) (h0 : pcd p = 0) (hN : p.1 = N) (hR : RW g σ W N) (hO : own lo W N) (hG : GN N) (hl0 : lo ≤ σ.2) (hy : y < lo) (hx : x < lo) (hb : bf < lo) (hk2 : ¬ p.2.2.2.1 = 2) : AMet l g mX3_line 46 150 [.ref y] σ (LQ g y x bf S B n lo (wW W) (thS B n p) σ) (LX y lo (thS B n p) σ) := by
  refine A_of rfl (by decide) (Nat.le_of_ble_eq_true rfl) (L0 := [(0, .ref y)]) rfl ?_
  refine A_wfh (fun wσ hgσ => ?_)
  have qσ : kl lo σ σ := kl.rf
  refine A_gok (fun hgk => ?_)
  have hD := hG.1
  have hw := hG.2.1
  have hl := hl0
  obtain ⟨v, wd, ⟨hC, ⟨⟨bd, pe, ep, nv, dq, sv, ou, hX⟩, hBf, hn5, hby⟩, hvv, htk, hcn, hsc⟩, hPW⟩ := id h
  have hW := hD.1
  have hR9 := hR
  obtain ⟨h1, ⟨fr, h2, h2p⟩, ⟨fm, h3, h3p⟩, ⟨mcn, fnA, h4, h4p, h4q⟩, ⟨mcf, ffA, h5, h5p, h5q⟩, ⟨fu, h6, h6p⟩, h7, h8, h9, h10, h11⟩ := hR
  have hF12 : nF N ≤ 12 := hW.2.2.2.2.2
  have hN4 : nN N ≤ 4 := hW.2.1.2
  have hC6 : nC N ≤ 6 := hW.1.2
  have hT3 : nT N ≤ 3 := hW.2.2.1.2
  have hP8 : nP N ≤ 8 := hW.2.2.2.1.2
  refine A_aload_n (i := 0) dX3_line_0 rfl rfl ?_
  refine A_aload_n (i := 0) dX3_line_1 rfl rfl ?_
  refine A_getf cb_X3 hC 4 (Nat.le_of_ble_eq_true rfl) q688 rfl (v := .ref (S p.2.2.2.1)) rfl dX3_line_2 ?_
  refine A_getsO hS.2.2.1 q429 rfl dX3_line_5 ?_
  refine A_acmp_ne_t (tgt := 15) (x := (some (S p.2.2.2.1))) (y := (some (S 2))) dX3_line_8 (by decide) ((hS.ne htk (Or.inr (Or.inr (Or.inl rfl))) hk2)) ?_
  refine A_iconst (v := 0) dX3_line_15 (by decide) ?_
  refine A_iconst (v := 1) dX3_line_16 (by decide) ?_
  refine A_callV2 (b' := 0) (c_pChkNo σ y n p.2.1 p.2.2.1 x v (S p.2.2.2.1) wd (.ref (wW W)) 1 hC) tX3_check q722 hC rfl rfl dX3_line_17 (by decide) (Nat.le_of_ble_eq_true rfl) (Nat.le_of_ble_eq_true rfl) (fun w9 τ9 h9 => h9.elim) (fun E9 q9 τ9 h9 => A_out rfl (LX.ck ky.rf hl0 h9 h0 (by decide) (by rw [th_no hk2])))
theorem c_pLine {l : Launch} {g : GC} (σ : AH) (y x bf n lo : Nat) (S : Int32 → Nat) (W : WA) (B N : AF) (p : PT) (h : PRW g σ y x bf S B n (.ref (wW W)) p) (hS : SRT g S) (h0 : pcd p = 0) (hN : p.1 = N) (hR : RW g σ W N) (hO : own lo W N) (hG : GN N) (hl0 : lo ≤ σ.2) (hy : y < lo) (hx : x < lo) (hb : bf < lo) : AMet l g mX3_line 46 150 [.ref y] σ (LQ g y x bf S B n lo (wW W) (thS B n p) σ) (LX y lo (thS B n p) σ) := by
  by_cases hk2 : p.2.2.2.1 = 2
  · obtain ⟨u, hwd⟩ : ∃ u, u = wls B p.2.2.1 (p.2.1 - p.2.2.1) := ⟨_, rfl⟩
    have hwd := hwd.symm
    by_cases hu0 : u = wColour
    · exact c_lnColour σ y x bf n lo S W B N p h hS h0 hN hR hO hG hl0 hy hx hb hk2 (by rw [hwd]; exact hu0)
    by_cases hu1 : u = wNation
    · exact c_lnNation σ y x bf n lo S W B N p h hS h0 hN hR hO hG hl0 hy hx hb hk2 (by rw [hwd]; exact hu1)
    by_cases hu2 : u = wTub
    · exact c_lnTub σ y x bf n lo S W B N p h hS h0 hN hR hO hG hl0 hy hx hb hk2 (by rw [hwd]; exact hu2)
    by_cases hu3 : u = wFlag
    · exact c_lnFlag σ y x bf n lo S W B N p h hS h0 hN hR hO hG hl0 hy hx hb hk2 (by rw [hwd]; exact hu3)
    by_cases hu4 : u = wPut
    · exact c_lnPut σ y x bf n lo S W B N p h hS h0 hN hR hO hG hl0 hy hx hb hk2 (by rw [hwd]; exact hu4)
    by_cases hu5 : u = wWash
    · exact c_lnWash σ y x bf n lo S W B N p h hS h0 hN hR hO hG hl0 hy hx hb hk2 (by rw [hwd]; exact hu5)
    by_cases hu6 : u = wHang
    · exact c_lnHang σ y x bf n lo S W B N p h hS h0 hN hR hO hG hl0 hy hx hb hk2 (by rw [hwd]; exact hu6)
    by_cases hu7 : u = wWind
    · exact c_lnWind σ y x bf n lo S W B N p h hS h0 hN hR hO hG hl0 hy hx hb hk2 (by rw [hwd]; exact hu7)
    by_cases hu8 : u = wPass
    · exact c_lnPass σ y x bf n lo S W B N p h hS h0 hN hR hO hG hl0 hy hx hb hk2 (by rw [hwd]; exact hu8)
    exact c_lnNone σ y x bf n lo S W B N p u h hS h0 hN hR hO hG hl0 hy hx hb hk2 hwd hu0 hu1 hu2 hu3 hu4 hu5 hu6 hu7 hu8
  · exact c_lnNo σ y x bf n lo S W B N p h hS h0 hN hR hO hG hl0 hy hx hb hk2
