/-! THE COMPONENT 7: changes of one cell; flags, nations, places are made -/
/-- but for the cell A, what was there is there -/
def kx (A : Nat) (σ τ : AH) : Prop := σ.2 ≤ τ.2 ∧ ∀ a, a < σ.2 → ¬ a = A → τ.1 a = σ.1 a
theorem kx.rf {A : Nat} {σ : AH} : kx A σ σ := ⟨Nat.le_refl _, fun _ _ _ => rfl⟩
theorem kx.new {A : Nat} {σ τ : AH} {e : AE} (h : kx A σ τ) : kx A σ (h_new τ e) := ⟨Nat.le_succ_of_le h.1, fun a ha hn => (hn_ne (Nat.ne_of_lt (Nat.lt_of_lt_of_le ha h.1))).trans (h.2 a ha hn)⟩
theorem kx.put {A : Nat} {σ τ : AH} {e : AE} (h : kx A σ τ) : kx A σ (h_put τ A e) := ⟨h.1, fun a ha hn => (hp_ne hn).trans (h.2 a ha hn)⟩
theorem kx.putN {A b : Nat} {σ τ : AH} {e : AE} (h : kx A σ τ) (hb : σ.2 ≤ b) : kx A σ (h_put τ b e) := ⟨h.1, fun a ha hn => (hp_ne (Nat.ne_of_lt (Nat.lt_of_lt_of_le ha hb))).trans (h.2 a ha hn)⟩
theorem kx.ex {A : Nat} {σ τ ρ : AH} (h : kx A σ τ) (k : ext τ ρ) : kx A σ ρ := ⟨Nat.le_trans h.1 k.1, fun a ha hn => (k.2 a (Nat.lt_of_lt_of_le ha h.1)).trans (h.2 a ha hn)⟩
theorem kx.trx {A : Nat} {σ τ ρ : AH} (h : kx A σ τ) (k : kx A τ ρ) : kx A σ ρ := ⟨Nat.le_trans h.1 k.1, fun a ha hn => (k.2 a (Nat.lt_of_lt_of_le ha h.1) hn).trans (h.2 a ha hn)⟩
theorem kx.trN {A b : Nat} {σ τ ρ : AH} (h : kx A σ τ) (hb : σ.2 ≤ b) (k : kx b τ ρ) : kx A σ ρ := ⟨Nat.le_trans h.1 k.1, fun a ha hn => (k.2 a (Nat.lt_of_lt_of_le ha h.1) (Nat.ne_of_lt (Nat.lt_of_lt_of_le ha hb))).trans (h.2 a ha hn)⟩
theorem kx.at {A : Nat} {σ τ : AH} (h : kx A σ τ) (w : wfh σ) {a : Nat} {e : AE} (k : σ.1 a = some e) (hn : ¬ a = A) : τ.1 a = some e := (h.2 a (w a e k) hn).trans k
/-- the answer v; the cell a is now c; the rest has but grown -/
def A_chg (v : Option Value) (σ : AH) (a : Nat) (c : AE) : Option Value → AH → Prop := fun w τ => w = v ∧ τ.1 a = some c ∧ kx a σ τ
def A_chgB (v : Option Value) (σ : AH) (a : Nat) (c : Nat → AE) (cb : AE) : Option Value → AH → Prop := fun w τ => ∃ b, w = v ∧ τ.1 a = some (c b) ∧ τ.1 b = some cb ∧ kx a σ τ
theorem sub_12 (x h : Int32) : x - (1 + 2 * h) = (x - 1) - 2 * h := (Int32.sub_sub _ _ _).symm
set_option maxHeartbeats 200000 in
theorem c_X8init {l : Launch} {g : GC} (σ : AH) (a : Nat)  : AMet l g mX8_init 1 0 [.ref a] σ (A_eq none σ) (A_no) := by
  refine A_of rfl (by decide) (Nat.le_of_ble_eq_true rfl) (L0 := [(0, .ref a)]) rfl ?_
  refine A_aload_n (i := 0) dX8_init_0 rfl rfl ?_
  refine A_objInit q1094 q179 q180 dX8_init_1 (by decide) (Nat.le_of_ble_eq_true rfl) ?_
  exact A_vret dX8_init_4 rfl (⟨rfl, rfl⟩)
set_option maxHeartbeats 200000 in
theorem c_X12init {l : Launch} {g : GC} (σ : AH) (a : Nat)  : AMet l g mX12_init 1 0 [.ref a] σ (A_eq none σ) (A_no) := by
  refine A_of rfl (by decide) (Nat.le_of_ble_eq_true rfl) (L0 := [(0, .ref a)]) rfl ?_
  refine A_aload_n (i := 0) dX12_init_0 rfl rfl ?_
  refine A_objInit q2161 q179 q180 dX12_init_1 (by decide) (Nat.le_of_ble_eq_true rfl) ?_
  exact A_vret dX12_init_4 rfl (⟨rfl, rfl⟩)
set_option maxHeartbeats 200000 in
theorem c_X9init {l : Launch} {g : GC} (σ : AH) (a : Nat) (t r : Int32) (hO : σ.1 a = some (.inr (.inl (8, [.int 0, .int 0])))) : AMet l g mX9_init 1 0 [.ref a, .int t, .int r] σ (A_chg none σ a (.inr (.inl (8, [.int t, .int r])))) (A_no) := by
  refine A_of rfl (by decide) (Nat.le_of_ble_eq_true rfl) (L0 := [(0, .ref a), (1, .int t), (2, .int r)]) rfl ?_
  refine A_wfh (fun wσ hgσ => ?_)
  have zσ : kx a σ σ := kx.rf
  refine A_aload_n (i := 0) dX9_init_0 rfl rfl ?_
  refine A_objInit q1221 q179 q180 dX9_init_1 (by decide) (Nat.le_of_ble_eq_true rfl) ?_
  refine A_aload_n (i := 0) dX9_init_4 rfl rfl ?_
  refine A_iload_n (i := 1) dX9_init_5 rfl rfl ?_
  refine A_putfF cb_X9 hO 0 (Nat.le_of_ble_eq_true rfl) q1222 rfl rfl rfl rfl rfl rfl (Nat.le_of_ble_eq_true rfl) dX9_init_6 ?_
  obtain ⟨σ1, eσ1⟩ : ∃ τ, τ = h_put σ a (.inr (.inl (8, [.int t, .int 0]))) := ⟨_, rfl⟩
  refine A_st (σ' := σ1) eσ1.symm ?_
  have wσ1 : wfh σ1 := by rw [eσ1]; exact wσ.put hO
  have fσ1_0 : σ1.1 a = some (.inr (.inl (8, [.int t, .int 0]))) := by rw [eσ1]; exact if_pos rfl
  have zσ1 : kx a σ σ1 := by rw [eσ1]; exact zσ.put
  refine A_aload_n (i := 0) dX9_init_9 rfl rfl ?_
  refine A_iload_n (i := 2) dX9_init_10 rfl rfl ?_
  refine A_putfF cb_X9 fσ1_0 1 (Nat.le_of_ble_eq_true rfl) q1226 rfl rfl rfl rfl rfl rfl (Nat.le_of_ble_eq_true rfl) dX9_init_11 ?_
  obtain ⟨σ2, eσ2⟩ : ∃ τ, τ = h_put σ1 a (.inr (.inl (8, [.int t, .int r]))) := ⟨_, rfl⟩
  refine A_st (σ' := σ2) eσ2.symm ?_
  have wσ2 : wfh σ2 := by rw [eσ2]; exact wσ1.put fσ1_0
  have fσ2_0 : σ2.1 a = some (.inr (.inl (8, [.int t, .int r]))) := by rw [eσ2]; exact if_pos rfl
  have zσ2 : kx a σ σ2 := by rw [eσ2]; exact zσ1.put
  exact A_vret dX9_init_14 rfl (⟨rfl, fσ2_0, zσ2⟩)
set_option maxHeartbeats 200000 in
theorem c_X11init {l : Launch} {g : GC} (σ : AH) (a : Nat) (t : Int32) (hO : σ.1 a = some (.inr (.inl (9, [.int 0])))) : AMet l g mX11_init 1 0 [.ref a, .int t] σ (A_chg none σ a (.inr (.inl (9, [.int t])))) (A_no) := by
  refine A_of rfl (by decide) (Nat.le_of_ble_eq_true rfl) (L0 := [(0, .ref a), (1, .int t)]) rfl ?_
  refine A_wfh (fun wσ hgσ => ?_)
  have zσ : kx a σ σ := kx.rf
  refine A_aload_n (i := 0) dX11_init_0 rfl rfl ?_
  refine A_objInit q1340 q179 q180 dX11_init_1 (by decide) (Nat.le_of_ble_eq_true rfl) ?_
  refine A_aload_n (i := 0) dX11_init_4 rfl rfl ?_
  refine A_iload_n (i := 1) dX11_init_5 rfl rfl ?_
  refine A_putfF cb_X11 hO 0 (Nat.le_of_ble_eq_true rfl) q1341 rfl rfl rfl rfl rfl rfl (Nat.le_of_ble_eq_true rfl) dX11_init_6 ?_
  obtain ⟨σ1, eσ1⟩ : ∃ τ, τ = h_put σ a (.inr (.inl (9, [.int t]))) := ⟨_, rfl⟩
  refine A_st (σ' := σ1) eσ1.symm ?_
  have wσ1 : wfh σ1 := by rw [eσ1]; exact wσ.put hO
  have fσ1_0 : σ1.1 a = some (.inr (.inl (9, [.int t]))) := by rw [eσ1]; exact if_pos rfl
  have zσ1 : kx a σ σ1 := by rw [eσ1]; exact zσ.put
  exact A_vret dX11_init_9 rfl (⟨rfl, fσ1_0, zσ1⟩)
set_option maxHeartbeats 200000 in
theorem c_fInit {l : Launch} {g : GC} (σ : AH) (a : Nat) (n c k d : Int32) (hF : σ.1 a = some (.inr (.inl (6, [.int 0, .int 0, .int 0, .int 0, .int 0, .int 0, .int 0, .int 0, .null])))) : AMet l g mX7_init 3 1 [.ref a, .int n, .int c, .int k, .int d] σ (A_chgB none σ a (fun b => .inr (.inl (6, [.int n, .int c, .int k, .int d, .int 0, .int 0, .int 0, .int 0, .ref b]))) (.inr (.inl (7, [])))) (A_no) := by
  refine A_of rfl (by decide) (Nat.le_of_ble_eq_true rfl) (L0 := [(0, .ref a), (1, .int n), (2, .int c), (3, .int k), (4, .int d)]) rfl ?_
  refine A_wfh (fun wσ hgσ => ?_)
  have zσ : kx a σ σ := kx.rf
  refine A_aload_n (i := 0) dX7_init_0 rfl rfl ?_
  refine A_objInit q1088 q179 q180 dX7_init_1 (by decide) (Nat.le_of_ble_eq_true rfl) ?_
  refine A_aload_n (i := 0) dX7_init_4 rfl rfl ?_
  refine A_new (b' := 0) (u := 1) cb_X8 q1089 q1090 q164 (fs := []) (fun j hj => absurd hj (Nat.not_lt_zero j)) (Nat.le_of_ble_eq_true rfl) ⟨Nat.le_of_ble_eq_true rfl, Nat.le_of_ble_eq_true rfl⟩ dX7_init_5 ?_
  obtain ⟨σ1, eσ1⟩ : ∃ τ, τ = h_new σ (.inr (.inl (7, []))) := ⟨_, rfl⟩
  refine A_st (σ' := σ1) eσ1.symm ?_
  have wσ1 : wfh σ1 := by rw [eσ1]; exact wσ.new
  have fσ1_0 : σ1.1 a = some (.inr (.inl (6, [.int 0, .int 0, .int 0, .int 0, .int 0, .int 0, .int 0, .int 0, .null]))) := by rw [eσ1]; exact (hn_ne (Nat.ne_of_lt (wσ _ _ hF))).trans hF
  have fσ1_1 : σ1.1 σ.2 = some (.inr (.inl (7, []))) := by rw [eσ1]; exact if_pos rfl
  have xσ1 : ext σ σ1 := by rw [eσ1]; exact ext_new _ _
  have zσ1 : kx a σ σ1 := by rw [eσ1]; exact zσ.new
  refine A_dup dX7_init_8 rfl ?_
  refine A_callIN0E (b' := 0) (v := none) (τ := σ1) (c_X8init σ1 σ.2) tX8_init q1091 dX7_init_9 (by decide) (Nat.le_of_ble_eq_true rfl) (Nat.le_of_ble_eq_true rfl) ?_
  refine A_putf cb_X7 fσ1_0 8 (Nat.le_of_ble_eq_true rfl) q1119 rfl rfl rfl rfl (Nat.le_of_ble_eq_true rfl) dX7_init_12 ?_
  obtain ⟨σ2, eσ2⟩ : ∃ τ, τ = h_put σ1 a (.inr (.inl (6, [.int 0, .int 0, .int 0, .int 0, .int 0, .int 0, .int 0, .int 0, .ref σ.2]))) := ⟨_, rfl⟩
  refine A_st (σ' := σ2) eσ2.symm ?_
  have wσ2 : wfh σ2 := by rw [eσ2]; exact wσ1.put fσ1_0
  have fσ2_0 : σ2.1 a = some (.inr (.inl (6, [.int 0, .int 0, .int 0, .int 0, .int 0, .int 0, .int 0, .int 0, .ref σ.2]))) := by rw [eσ2]; exact if_pos rfl
  have fσ2_1 : σ2.1 σ.2 = some (.inr (.inl (7, []))) := by rw [eσ2]; exact (hp_ne (fun e9 => by rw [e9] at fσ1_1; have e8 := fσ1_1.symm.trans fσ1_0; simp at e8)).trans fσ1_1
  have zσ2 : kx a σ σ2 := by rw [eσ2]; exact zσ1.put
  refine A_aload_n (i := 0) dX7_init_15 rfl rfl ?_
  refine A_iload_n (i := 1) dX7_init_16 rfl rfl ?_
  refine A_putfF cb_X7 fσ2_0 0 (Nat.le_of_ble_eq_true rfl) q1096 rfl rfl rfl rfl rfl rfl (Nat.le_of_ble_eq_true rfl) dX7_init_17 ?_
  obtain ⟨σ3, eσ3⟩ : ∃ τ, τ = h_put σ2 a (.inr (.inl (6, [.int n, .int 0, .int 0, .int 0, .int 0, .int 0, .int 0, .int 0, .ref σ.2]))) := ⟨_, rfl⟩
  refine A_st (σ' := σ3) eσ3.symm ?_
  have wσ3 : wfh σ3 := by rw [eσ3]; exact wσ2.put fσ2_0
  have fσ3_0 : σ3.1 a = some (.inr (.inl (6, [.int n, .int 0, .int 0, .int 0, .int 0, .int 0, .int 0, .int 0, .ref σ.2]))) := by rw [eσ3]; exact if_pos rfl
  have fσ3_1 : σ3.1 σ.2 = some (.inr (.inl (7, []))) := by rw [eσ3]; exact (hp_ne (fun e9 => by rw [e9] at fσ2_1; have e8 := fσ2_1.symm.trans fσ2_0; simp at e8)).trans fσ2_1
  have zσ3 : kx a σ σ3 := by rw [eσ3]; exact zσ2.put
  refine A_aload_n (i := 0) dX7_init_20 rfl rfl ?_
  refine A_iload_n (i := 2) dX7_init_21 rfl rfl ?_
  refine A_putfF cb_X7 fσ3_0 1 (Nat.le_of_ble_eq_true rfl) q1099 rfl rfl rfl rfl rfl rfl (Nat.le_of_ble_eq_true rfl) dX7_init_22 ?_
  obtain ⟨σ4, eσ4⟩ : ∃ τ, τ = h_put σ3 a (.inr (.inl (6, [.int n, .int c, .int 0, .int 0, .int 0, .int 0, .int 0, .int 0, .ref σ.2]))) := ⟨_, rfl⟩
  refine A_st (σ' := σ4) eσ4.symm ?_
  have wσ4 : wfh σ4 := by rw [eσ4]; exact wσ3.put fσ3_0
  have fσ4_0 : σ4.1 a = some (.inr (.inl (6, [.int n, .int c, .int 0, .int 0, .int 0, .int 0, .int 0, .int 0, .ref σ.2]))) := by rw [eσ4]; exact if_pos rfl
  have fσ4_1 : σ4.1 σ.2 = some (.inr (.inl (7, []))) := by rw [eσ4]; exact (hp_ne (fun e9 => by rw [e9] at fσ3_1; have e8 := fσ3_1.symm.trans fσ3_0; simp at e8)).trans fσ3_1
  have zσ4 : kx a σ σ4 := by rw [eσ4]; exact zσ3.put
  refine A_aload_n (i := 0) dX7_init_25 rfl rfl ?_
  refine A_iload_n (i := 3) dX7_init_26 rfl rfl ?_
  refine A_putfF cb_X7 fσ4_0 2 (Nat.le_of_ble_eq_true rfl) q1102 rfl rfl rfl rfl rfl rfl (Nat.le_of_ble_eq_true rfl) dX7_init_27 ?_
  obtain ⟨σ5, eσ5⟩ : ∃ τ, τ = h_put σ4 a (.inr (.inl (6, [.int n, .int c, .int k, .int 0, .int 0, .int 0, .int 0, .int 0, .ref σ.2]))) := ⟨_, rfl⟩
  refine A_st (σ' := σ5) eσ5.symm ?_
  have wσ5 : wfh σ5 := by rw [eσ5]; exact wσ4.put fσ4_0
  have fσ5_0 : σ5.1 a = some (.inr (.inl (6, [.int n, .int c, .int k, .int 0, .int 0, .int 0, .int 0, .int 0, .ref σ.2]))) := by rw [eσ5]; exact if_pos rfl
  have fσ5_1 : σ5.1 σ.2 = some (.inr (.inl (7, []))) := by rw [eσ5]; exact (hp_ne (fun e9 => by rw [e9] at fσ4_1; have e8 := fσ4_1.symm.trans fσ4_0; simp at e8)).trans fσ4_1
  have zσ5 : kx a σ σ5 := by rw [eσ5]; exact zσ4.put
  refine A_aload_n (i := 0) dX7_init_30 rfl rfl ?_
  refine A_iload dX7_init_31 rfl ?_
  refine A_putf cb_X7 fσ5_0 3 (Nat.le_of_ble_eq_true rfl) q1105 rfl rfl rfl rfl (Nat.le_of_ble_eq_true rfl) dX7_init_33 ?_
  obtain ⟨σ6, eσ6⟩ : ∃ τ, τ = h_put σ5 a (.inr (.inl (6, [.int n, .int c, .int k, .int d, .int 0, .int 0, .int 0, .int 0, .ref σ.2]))) := ⟨_, rfl⟩
  refine A_st (σ' := σ6) eσ6.symm ?_
  have wσ6 : wfh σ6 := by rw [eσ6]; exact wσ5.put fσ5_0
  have fσ6_0 : σ6.1 a = some (.inr (.inl (6, [.int n, .int c, .int k, .int d, .int 0, .int 0, .int 0, .int 0, .ref σ.2]))) := by rw [eσ6]; exact if_pos rfl
  have fσ6_1 : σ6.1 σ.2 = some (.inr (.inl (7, []))) := by rw [eσ6]; exact (hp_ne (fun e9 => by rw [e9] at fσ5_1; have e8 := fσ5_1.symm.trans fσ5_0; simp at e8)).trans fσ5_1
  have zσ6 : kx a σ σ6 := by rw [eσ6]; exact zσ5.put
  exact A_vret dX7_init_36 rfl (⟨_, rfl, fσ6_0, fσ6_1, zσ6⟩)
set_option maxHeartbeats 200000 in
theorem c_fInit2 {l : Launch} {g : GC} (σ : AH) (a o pl : Nat) (F : Nat → Int32) (hF : σ.1 a = some (.inr (.inl (6, [.int 0, .int 0, .int 0, .int 0, .int 0, .int 0, .int 0, .int 0, .null])))) (hO : σ.1 o = some (.inr (.inl (6, [.int (F 0), .int (F 1), .int (F 2), .int (F 3), .int (F 4), .int (F 5), .int (F 6), .int (F 7), .ref pl])))) (hne : ¬ o = a) : AMet l g mX7_init_2 5 1 [.ref a, .ref o] σ (A_chg none σ a (flgC F pl)) (A_no) := by
  refine A_of rfl (by decide) (Nat.le_of_ble_eq_true rfl) (L0 := [(0, .ref a), (1, .ref o)]) rfl ?_
  refine A_wfh (fun wσ hgσ => ?_)
  have zσ : kx a σ σ := kx.rf
  refine A_aload_n (i := 0) dX7_init_2_0 rfl rfl ?_
  refine A_aload_n (i := 1) dX7_init_2_1 rfl rfl ?_
  refine A_getf cb_X7 hO 0 (Nat.le_of_ble_eq_true rfl) q1096 rfl (v := .int (F 0)) rfl dX7_init_2_2 ?_
  refine A_aload_n (i := 1) dX7_init_2_5 rfl rfl ?_
  refine A_getf cb_X7 hO 1 (Nat.le_of_ble_eq_true rfl) q1099 rfl (v := .int (F 1)) rfl dX7_init_2_6 ?_
  refine A_aload_n (i := 1) dX7_init_2_9 rfl rfl ?_
  refine A_getf cb_X7 hO 2 (Nat.le_of_ble_eq_true rfl) q1102 rfl (v := .int (F 2)) rfl dX7_init_2_10 ?_
  refine A_aload_n (i := 1) dX7_init_2_13 rfl rfl ?_
  refine A_getf cb_X7 hO 3 (Nat.le_of_ble_eq_true rfl) q1105 rfl (v := .int (F 3)) rfl dX7_init_2_14 ?_
  refine A_callI4 (b' := 0) (c_fInit σ a (F 0) (F 1) (F 2) (F 3) hF) tX7_init q1833 dX7_init_2_17 (by decide) (Nat.le_of_ble_eq_true rfl) (Nat.le_of_ble_eq_true rfl) (fun w9 σ1 h9 => ?_) (fun E9 q9 τ9 h9 => h9.elim)
  obtain ⟨b9, e9, fσ1_a, fσ1_x0, kσ1⟩ := h9
  subst e9
  refine A_wfh (fun wσ1 hgσ1 => ?_)
  have zσ1 : kx a σ σ1 := zσ.trx kσ1
  have fσ1_0 : σ1.1 o = some (.inr (.inl (6, [.int (F 0), .int (F 1), .int (F 2), .int (F 3), .int (F 4), .int (F 5), .int (F 6), .int (F 7), .ref pl]))) := kσ1.at wσ hO hne
  refine A_aload_n (i := 0) dX7_init_2_20 rfl rfl ?_
  refine A_aload_n (i := 1) dX7_init_2_21 rfl rfl ?_
  refine A_getf cb_X7 fσ1_0 4 (Nat.le_of_ble_eq_true rfl) q1108 rfl (v := .int (F 4)) rfl dX7_init_2_22 ?_
  refine A_putf cb_X7 fσ1_a 4 (Nat.le_of_ble_eq_true rfl) q1108 rfl rfl rfl rfl (Nat.le_of_ble_eq_true rfl) dX7_init_2_25 ?_
  obtain ⟨σ2, eσ2⟩ : ∃ τ, τ = h_put σ1 a (.inr (.inl (6, [.int (F 0), .int (F 1), .int (F 2), .int (F 3), .int (F 4), .int 0, .int 0, .int 0, .ref b9]))) := ⟨_, rfl⟩
  refine A_st (σ' := σ2) eσ2.symm ?_
  have wσ2 : wfh σ2 := by rw [eσ2]; exact wσ1.put fσ1_a
  have fσ2_0 : σ2.1 o = some (.inr (.inl (6, [.int (F 0), .int (F 1), .int (F 2), .int (F 3), .int (F 4), .int (F 5), .int (F 6), .int (F 7), .ref pl]))) := by rw [eσ2]; exact (hp_ne hne).trans fσ1_0
  have fσ2_1 : σ2.1 a = some (.inr (.inl (6, [.int (F 0), .int (F 1), .int (F 2), .int (F 3), .int (F 4), .int 0, .int 0, .int 0, .ref b9]))) := by rw [eσ2]; exact if_pos rfl
  have fσ2_2 : σ2.1 b9 = some (.inr (.inl (7, []))) := by rw [eσ2]; exact (hp_ne (fun e9 => by rw [e9] at fσ1_x0; have e8 := fσ1_x0.symm.trans fσ1_a; simp at e8)).trans fσ1_x0
  have zσ2 : kx a σ σ2 := by rw [eσ2]; exact zσ1.put
  refine A_aload_n (i := 0) dX7_init_2_28 rfl rfl ?_
  refine A_aload_n (i := 1) dX7_init_2_29 rfl rfl ?_
  refine A_getf cb_X7 fσ2_0 5 (Nat.le_of_ble_eq_true rfl) q1111 rfl (v := .int (F 5)) rfl dX7_init_2_30 ?_
  refine A_putf cb_X7 fσ2_1 5 (Nat.le_of_ble_eq_true rfl) q1111 rfl rfl rfl rfl (Nat.le_of_ble_eq_true rfl) dX7_init_2_33 ?_
  obtain ⟨σ3, eσ3⟩ : ∃ τ, τ = h_put σ2 a (.inr (.inl (6, [.int (F 0), .int (F 1), .int (F 2), .int (F 3), .int (F 4), .int (F 5), .int 0, .int 0, .ref b9]))) := ⟨_, rfl⟩
  refine A_st (σ' := σ3) eσ3.symm ?_
  have wσ3 : wfh σ3 := by rw [eσ3]; exact wσ2.put fσ2_1
  have fσ3_0 : σ3.1 o = some (.inr (.inl (6, [.int (F 0), .int (F 1), .int (F 2), .int (F 3), .int (F 4), .int (F 5), .int (F 6), .int (F 7), .ref pl]))) := by rw [eσ3]; exact (hp_ne hne).trans fσ2_0
  have fσ3_1 : σ3.1 a = some (.inr (.inl (6, [.int (F 0), .int (F 1), .int (F 2), .int (F 3), .int (F 4), .int (F 5), .int 0, .int 0, .ref b9]))) := by rw [eσ3]; exact if_pos rfl
  have fσ3_2 : σ3.1 b9 = some (.inr (.inl (7, []))) := by rw [eσ3]; exact (hp_ne (fun e9 => by rw [e9] at fσ2_2; have e8 := fσ2_2.symm.trans fσ2_1; simp at e8)).trans fσ2_2
  have zσ3 : kx a σ σ3 := by rw [eσ3]; exact zσ2.put
  refine A_aload_n (i := 0) dX7_init_2_36 rfl rfl ?_
  refine A_aload_n (i := 1) dX7_init_2_37 rfl rfl ?_
  refine A_getf cb_X7 fσ3_0 6 (Nat.le_of_ble_eq_true rfl) q1114 rfl (v := .int (F 6)) rfl dX7_init_2_38 ?_
  refine A_putf cb_X7 fσ3_1 6 (Nat.le_of_ble_eq_true rfl) q1114 rfl rfl rfl rfl (Nat.le_of_ble_eq_true rfl) dX7_init_2_41 ?_
  obtain ⟨σ4, eσ4⟩ : ∃ τ, τ = h_put σ3 a (.inr (.inl (6, [.int (F 0), .int (F 1), .int (F 2), .int (F 3), .int (F 4), .int (F 5), .int (F 6), .int 0, .ref b9]))) := ⟨_, rfl⟩
  refine A_st (σ' := σ4) eσ4.symm ?_
  have wσ4 : wfh σ4 := by rw [eσ4]; exact wσ3.put fσ3_1
  have fσ4_0 : σ4.1 o = some (.inr (.inl (6, [.int (F 0), .int (F 1), .int (F 2), .int (F 3), .int (F 4), .int (F 5), .int (F 6), .int (F 7), .ref pl]))) := by rw [eσ4]; exact (hp_ne hne).trans fσ3_0
  have fσ4_1 : σ4.1 a = some (.inr (.inl (6, [.int (F 0), .int (F 1), .int (F 2), .int (F 3), .int (F 4), .int (F 5), .int (F 6), .int 0, .ref b9]))) := by rw [eσ4]; exact if_pos rfl
  have fσ4_2 : σ4.1 b9 = some (.inr (.inl (7, []))) := by rw [eσ4]; exact (hp_ne (fun e9 => by rw [e9] at fσ3_2; have e8 := fσ3_2.symm.trans fσ3_1; simp at e8)).trans fσ3_2
  have zσ4 : kx a σ σ4 := by rw [eσ4]; exact zσ3.put
  refine A_aload_n (i := 0) dX7_init_2_44 rfl rfl ?_
  refine A_aload_n (i := 1) dX7_init_2_45 rfl rfl ?_
  refine A_getf cb_X7 fσ4_0 7 (Nat.le_of_ble_eq_true rfl) q1117 rfl (v := .int (F 7)) rfl dX7_init_2_46 ?_
  refine A_putf cb_X7 fσ4_1 7 (Nat.le_of_ble_eq_true rfl) q1117 rfl rfl rfl rfl (Nat.le_of_ble_eq_true rfl) dX7_init_2_49 ?_
  obtain ⟨σ5, eσ5⟩ : ∃ τ, τ = h_put σ4 a (.inr (.inl (6, [.int (F 0), .int (F 1), .int (F 2), .int (F 3), .int (F 4), .int (F 5), .int (F 6), .int (F 7), .ref b9]))) := ⟨_, rfl⟩
  refine A_st (σ' := σ5) eσ5.symm ?_
  have wσ5 : wfh σ5 := by rw [eσ5]; exact wσ4.put fσ4_1
  have fσ5_0 : σ5.1 o = some (.inr (.inl (6, [.int (F 0), .int (F 1), .int (F 2), .int (F 3), .int (F 4), .int (F 5), .int (F 6), .int (F 7), .ref pl]))) := by rw [eσ5]; exact (hp_ne hne).trans fσ4_0
  have fσ5_1 : σ5.1 a = some (.inr (.inl (6, [.int (F 0), .int (F 1), .int (F 2), .int (F 3), .int (F 4), .int (F 5), .int (F 6), .int (F 7), .ref b9]))) := by rw [eσ5]; exact if_pos rfl
  have fσ5_2 : σ5.1 b9 = some (.inr (.inl (7, []))) := by rw [eσ5]; exact (hp_ne (fun e9 => by rw [e9] at fσ4_2; have e8 := fσ4_2.symm.trans fσ4_1; simp at e8)).trans fσ4_2
  have zσ5 : kx a σ σ5 := by rw [eσ5]; exact zσ4.put
  refine A_aload_n (i := 0) dX7_init_2_52 rfl rfl ?_
  refine A_aload_n (i := 1) dX7_init_2_53 rfl rfl ?_
  refine A_getf cb_X7 fσ5_0 8 (Nat.le_of_ble_eq_true rfl) q1119 rfl (v := .ref pl) rfl dX7_init_2_54 ?_
  refine A_putf cb_X7 fσ5_1 8 (Nat.le_of_ble_eq_true rfl) q1119 rfl rfl rfl rfl (Nat.le_of_ble_eq_true rfl) dX7_init_2_57 ?_
  obtain ⟨σ6, eσ6⟩ : ∃ τ, τ = h_put σ5 a (.inr (.inl (6, [.int (F 0), .int (F 1), .int (F 2), .int (F 3), .int (F 4), .int (F 5), .int (F 6), .int (F 7), .ref pl]))) := ⟨_, rfl⟩
  refine A_st (σ' := σ6) eσ6.symm ?_
  have wσ6 : wfh σ6 := by rw [eσ6]; exact wσ5.put fσ5_1
  have fσ6_0 : σ6.1 o = some (.inr (.inl (6, [.int (F 0), .int (F 1), .int (F 2), .int (F 3), .int (F 4), .int (F 5), .int (F 6), .int (F 7), .ref pl]))) := by rw [eσ6]; exact (hp_ne hne).trans fσ5_0
  have fσ6_1 : σ6.1 a = some (.inr (.inl (6, [.int (F 0), .int (F 1), .int (F 2), .int (F 3), .int (F 4), .int (F 5), .int (F 6), .int (F 7), .ref pl]))) := by rw [eσ6]; exact if_pos rfl
  have fσ6_2 : σ6.1 b9 = some (.inr (.inl (7, []))) := by rw [eσ6]; exact (hp_ne (fun e9 => by rw [e9] at fσ5_2; have e8 := fσ5_2.symm.trans fσ5_1; simp at e8)).trans fσ5_2
  have zσ6 : kx a σ σ6 := by rw [eσ6]; exact zσ5.put
  exact A_vret dX7_init_2_60 rfl (⟨rfl, fσ6_1, zσ6⟩)
set_option maxHeartbeats 200000 in
theorem c_nInit {l : Launch} {g : GC} (σ : AH) (a : Nat) (x y z : Int32) (hN : σ.1 a = some (.inr (.inl (5, [.int 0, .int 0, .int 0, .int 0])))) : AMet l g mX6_init 1 0 [.ref a, .int x, .int y, .int z] σ (A_chg none σ a (natC x y z (-1))) (A_no) := by
  refine A_of rfl (by decide) (Nat.le_of_ble_eq_true rfl) (L0 := [(0, .ref a), (1, .int x), (2, .int y), (3, .int z)]) rfl ?_
  refine A_wfh (fun wσ hgσ => ?_)
  have zσ : kx a σ σ := kx.rf
  refine A_aload_n (i := 0) dX6_init_0 rfl rfl ?_
  refine A_objInit q982 q179 q180 dX6_init_1 (by decide) (Nat.le_of_ble_eq_true rfl) ?_
  refine A_aload_n (i := 0) dX6_init_4 rfl rfl ?_
  refine A_iload_n (i := 1) dX6_init_5 rfl rfl ?_
  refine A_putfF cb_X6 hN 0 (Nat.le_of_ble_eq_true rfl) q983 rfl rfl rfl rfl rfl rfl (Nat.le_of_ble_eq_true rfl) dX6_init_6 ?_
  obtain ⟨σ1, eσ1⟩ : ∃ τ, τ = h_put σ a (.inr (.inl (5, [.int x, .int 0, .int 0, .int 0]))) := ⟨_, rfl⟩
  refine A_st (σ' := σ1) eσ1.symm ?_
  have wσ1 : wfh σ1 := by rw [eσ1]; exact wσ.put hN
  have fσ1_0 : σ1.1 a = some (.inr (.inl (5, [.int x, .int 0, .int 0, .int 0]))) := by rw [eσ1]; exact if_pos rfl
  have zσ1 : kx a σ σ1 := by rw [eσ1]; exact zσ.put
  refine A_aload_n (i := 0) dX6_init_9 rfl rfl ?_
  refine A_iload_n (i := 2) dX6_init_10 rfl rfl ?_
  refine A_putfF cb_X6 fσ1_0 1 (Nat.le_of_ble_eq_true rfl) q985 rfl rfl rfl rfl rfl rfl (Nat.le_of_ble_eq_true rfl) dX6_init_11 ?_
  obtain ⟨σ2, eσ2⟩ : ∃ τ, τ = h_put σ1 a (.inr (.inl (5, [.int x, .int y, .int 0, .int 0]))) := ⟨_, rfl⟩
  refine A_st (σ' := σ2) eσ2.symm ?_
  have wσ2 : wfh σ2 := by rw [eσ2]; exact wσ1.put fσ1_0
  have fσ2_0 : σ2.1 a = some (.inr (.inl (5, [.int x, .int y, .int 0, .int 0]))) := by rw [eσ2]; exact if_pos rfl
  have zσ2 : kx a σ σ2 := by rw [eσ2]; exact zσ1.put
  refine A_aload_n (i := 0) dX6_init_14 rfl rfl ?_
  refine A_iload_n (i := 3) dX6_init_15 rfl rfl ?_
  refine A_putfF cb_X6 fσ2_0 2 (Nat.le_of_ble_eq_true rfl) q988 rfl rfl rfl rfl rfl rfl (Nat.le_of_ble_eq_true rfl) dX6_init_16 ?_
  obtain ⟨σ3, eσ3⟩ : ∃ τ, τ = h_put σ2 a (.inr (.inl (5, [.int x, .int y, .int z, .int 0]))) := ⟨_, rfl⟩
  refine A_st (σ' := σ3) eσ3.symm ?_
  have wσ3 : wfh σ3 := by rw [eσ3]; exact wσ2.put fσ2_0
  have fσ3_0 : σ3.1 a = some (.inr (.inl (5, [.int x, .int y, .int z, .int 0]))) := by rw [eσ3]; exact if_pos rfl
  have zσ3 : kx a σ σ3 := by rw [eσ3]; exact zσ2.put
  refine A_aload_n (i := 0) dX6_init_19 rfl rfl ?_
  refine A_iconst (v := (-1)) dX6_init_20 (by decide) ?_
  refine A_putf cb_X6 fσ3_0 3 (Nat.le_of_ble_eq_true rfl) q990 rfl rfl rfl rfl (Nat.le_of_ble_eq_true rfl) dX6_init_21 ?_
  obtain ⟨σ4, eσ4⟩ : ∃ τ, τ = h_put σ3 a (.inr (.inl (5, [.int x, .int y, .int z, .int (-1)]))) := ⟨_, rfl⟩
  refine A_st (σ' := σ4) eσ4.symm ?_
  have wσ4 : wfh σ4 := by rw [eσ4]; exact wσ3.put fσ3_0
  have fσ4_0 : σ4.1 a = some (.inr (.inl (5, [.int x, .int y, .int z, .int (-1)]))) := by rw [eσ4]; exact if_pos rfl
  have zσ4 : kx a σ σ4 := by rw [eσ4]; exact zσ3.put
  exact A_vret dX6_init_24 rfl (⟨rfl, fσ4_0, zσ4⟩)
set_option maxHeartbeats 200000 in
theorem c_nInit2 {l : Launch} {g : GC} (σ : AH) (a o : Nat) (x y z h : Int32) (hN : σ.1 a = some (.inr (.inl (5, [.int 0, .int 0, .int 0, .int 0])))) (hO : σ.1 o = some (.inr (.inl (5, [.int x, .int y, .int z, .int h])))) (hne : ¬ o = a) : AMet l g mX6_init_2 3 0 [.ref a, .ref o] σ (A_chg none σ a (natC x y z h)) (A_no) := by
  refine A_of rfl (by decide) (Nat.le_of_ble_eq_true rfl) (L0 := [(0, .ref a), (1, .ref o)]) rfl ?_
  refine A_wfh (fun wσ hgσ => ?_)
  have zσ : kx a σ σ := kx.rf
  refine A_aload_n (i := 0) dX6_init_2_0 rfl rfl ?_
  refine A_aload_n (i := 1) dX6_init_2_1 rfl rfl ?_
  refine A_getf cb_X6 hO 0 (Nat.le_of_ble_eq_true rfl) q983 rfl (v := .int x) rfl dX6_init_2_2 ?_
  refine A_aload_n (i := 1) dX6_init_2_5 rfl rfl ?_
  refine A_getf cb_X6 hO 1 (Nat.le_of_ble_eq_true rfl) q985 rfl (v := .int y) rfl dX6_init_2_6 ?_
  refine A_aload_n (i := 1) dX6_init_2_9 rfl rfl ?_
  refine A_getf cb_X6 hO 2 (Nat.le_of_ble_eq_true rfl) q988 rfl (v := .int z) rfl dX6_init_2_10 ?_
  refine A_callI3 (b' := 0) (c_nInit σ a x y z hN) tX6_init q1828 dX6_init_2_13 (by decide) (Nat.le_of_ble_eq_true rfl) (Nat.le_of_ble_eq_true rfl) (fun w9 σ1 h9 => ?_) (fun E9 q9 τ9 h9 => h9.elim)
  obtain ⟨e9, fσ1_a, kσ1⟩ := h9
  subst e9
  refine A_wfh (fun wσ1 hgσ1 => ?_)
  have zσ1 : kx a σ σ1 := zσ.trx kσ1
  have fσ1_0 : σ1.1 o = some (.inr (.inl (5, [.int x, .int y, .int z, .int h]))) := kσ1.at wσ hO hne
  refine A_aload_n (i := 0) dX6_init_2_16 rfl rfl ?_
  refine A_aload_n (i := 1) dX6_init_2_17 rfl rfl ?_
  refine A_getf cb_X6 fσ1_0 3 (Nat.le_of_ble_eq_true rfl) q990 rfl (v := .int h) rfl dX6_init_2_18 ?_
  refine A_putf cb_X6 fσ1_a 3 (Nat.le_of_ble_eq_true rfl) q990 rfl rfl rfl rfl (Nat.le_of_ble_eq_true rfl) dX6_init_2_21 ?_
  obtain ⟨σ2, eσ2⟩ : ∃ τ, τ = h_put σ1 a (.inr (.inl (5, [.int x, .int y, .int z, .int h]))) := ⟨_, rfl⟩
  refine A_st (σ' := σ2) eσ2.symm ?_
  have wσ2 : wfh σ2 := by rw [eσ2]; exact wσ1.put fσ1_a
  have fσ2_0 : σ2.1 o = some (.inr (.inl (5, [.int x, .int y, .int z, .int h]))) := by rw [eσ2]; exact (hp_ne hne).trans fσ1_0
  have fσ2_1 : σ2.1 a = some (.inr (.inl (5, [.int x, .int y, .int z, .int h]))) := by rw [eσ2]; exact if_pos rfl
  have zσ2 : kx a σ σ2 := by rw [eσ2]; exact zσ1.put
  exact A_vret dX6_init_2_24 rfl (⟨rfl, fσ2_1, zσ2⟩)
set_option maxHeartbeats 200000 in
theorem c_fWashed {l : Launch} {g : GC} (σ : AH) (a pl : Nat) (F : Nat → Int32) (k qh : Nat)  (hF : σ.1 a = some (.inr (.inl (6, [.int (F 0), .int (F 1), .int (F 2), .int (F 3), .int (F 4), .int (F 5), .int (F 6), .int (F 7), .ref pl])))) (hh : heatO g k qh) : AMet l g mX7_washed 1 0 [.ref a, .ref qh] σ (A_eq (some (.int (mx 0 ((F 3 - 1) - (2 * nI k))))) σ) (A_no) := by
  refine A_of rfl (by decide) (Nat.le_of_ble_eq_true rfl) (L0 := [(0, .ref a), (1, .ref qh)]) rfl ?_
  refine A_iconst (v := 0) dX7_washed_0 (by decide) ?_
  refine A_aload_n (i := 0) dX7_washed_1 rfl rfl ?_
  refine A_getf cb_X7 hF 3 (Nat.le_of_ble_eq_true rfl) q1105 rfl (v := .int (F 3)) rfl dX7_washed_2 ?_
  refine A_aload_n (i := 1) dX7_washed_5 rfl rfl ?_
  refine A_cleans hh q1281 dX7_washed_6 (by decide) (Nat.le_of_ble_eq_true rfl) ?_
  refine A_isub dX7_washed_9 ?_
  refine A_mmax q1296 q454 q150 q455 dX7_washed_10 (by decide) (Nat.le_of_ble_eq_true rfl) ?_
  refine A_int (w := (mx 0 ((F 3) - (1 + 2 * nI k)))) rfl ?_
  exact A_iret dX7_washed_13 rfl (⟨by rw [sub_12], rfl⟩)
set_option maxHeartbeats 200000 in
theorem c_fWashes {l : Launch} {g : GC} (σ : AH) (a pl : Nat) (F : Nat → Int32) (k qh : Nat) (r : Int32) (hF : σ.1 a = some (.inr (.inl (6, [.int (F 0), .int (F 1), .int (F 2), .int (F 3), .int (F 4), .int (F 5), .int (F 6), .int (F 7), .ref pl])))) (hh : heatO g k qh) : AMet l g mX7_washes 4 1 [.ref a, .ref qh, .int r] σ (A_chgB (some (.int (bi (¬ ((r &&& (F 1 ^^^ (-1))) &&& (F 6 ^^^ (-1))) = 0)))) σ a (fun b => .inr (.inl (6, [.int (F 0), .int (F 1), .int (F 2), .int (mx 0 ((F 3 - 1) - (2 * nI k))), .int 9, .int (mn 9 (F 5 + nI (k + 1))), .int (F 6 ||| ((r &&& (F 1 ^^^ (-1))) &&& (F 6 ^^^ (-1)))), .int (F 7), .ref b]))) (.inr (.inl (7, [])))) (A_no) := by
  refine A_of rfl (by decide) (Nat.le_of_ble_eq_true rfl) (L0 := [(0, .ref a), (1, .ref qh), (2, .int r)]) rfl ?_
  refine A_wfh (fun wσ hgσ => ?_)
  have zσ : kx a σ σ := kx.rf
  refine A_aload_n (i := 0) dX7_washes_0 rfl rfl ?_
  refine A_iload_n (i := 2) dX7_washes_1 rfl rfl ?_
  refine A_callV1E (b' := 1) (v := some (.int ((r &&& (F 1 ^^^ (-1))) &&& (F 6 ^^^ (-1))))) (τ := σ) (c_fGets σ a pl F r hF) tX7_gets q1273 hF rfl rfl dX7_washes_2 (by decide) (Nat.le_of_ble_eq_true rfl) (Nat.le_of_ble_eq_true rfl) ?_
  refine A_istore_n (i := 3) dX7_washes_5 rfl (Nat.le_of_ble_eq_true rfl) ?_
  refine A_aload_n (i := 0) dX7_washes_6 rfl rfl ?_
  refine A_dup dX7_washes_7 rfl ?_
  refine A_getf cb_X7 hF 6 (Nat.le_of_ble_eq_true rfl) q1114 rfl (v := .int (F 6)) rfl dX7_washes_8 ?_
  refine A_iload_n (i := 3) dX7_washes_11 rfl rfl ?_
  refine A_ior dX7_washes_12 ?_
  refine A_putf cb_X7 hF 6 (Nat.le_of_ble_eq_true rfl) q1114 rfl rfl rfl rfl (Nat.le_of_ble_eq_true rfl) dX7_washes_13 ?_
  obtain ⟨σ1, eσ1⟩ : ∃ τ, τ = h_put σ a (.inr (.inl (6, [.int (F 0), .int (F 1), .int (F 2), .int (F 3), .int (F 4), .int (F 5), .int ((F 6) ||| ((r &&& (F 1 ^^^ (-1))) &&& (F 6 ^^^ (-1)))), .int (F 7), .ref pl]))) := ⟨_, rfl⟩
  refine A_st (σ' := σ1) eσ1.symm ?_
  have wσ1 : wfh σ1 := by rw [eσ1]; exact wσ.put hF
  have fσ1_0 : σ1.1 a = some (.inr (.inl (6, [.int (F 0), .int (F 1), .int (F 2), .int (F 3), .int (F 4), .int (F 5), .int ((F 6) ||| ((r &&& (F 1 ^^^ (-1))) &&& (F 6 ^^^ (-1)))), .int (F 7), .ref pl]))) := by rw [eσ1]; exact if_pos rfl
  have zσ1 : kx a σ σ1 := by rw [eσ1]; exact zσ.put
  refine A_aload_n (i := 0) dX7_washes_16 rfl rfl ?_
  refine A_aload_n (i := 0) dX7_washes_17 rfl rfl ?_
  refine A_aload_n (i := 1) dX7_washes_18 rfl rfl ?_
  refine A_callV1E (b' := 1) (v := some (.int (mx 0 ((F 3 - 1) - (2 * nI k))))) (τ := σ1) (c_fWashed σ1 a pl (fun j => if j = 6 then F 6 ||| ((r &&& (F 1 ^^^ (-1))) &&& (F 6 ^^^ (-1))) else F j) k qh fσ1_0 hh) tX7_washed q1277 fσ1_0 rfl rfl dX7_washes_19 (by decide) (Nat.le_of_ble_eq_true rfl) (Nat.le_of_ble_eq_true rfl) ?_
  refine A_putf cb_X7 fσ1_0 3 (Nat.le_of_ble_eq_true rfl) q1105 rfl rfl rfl rfl (Nat.le_of_ble_eq_true rfl) dX7_washes_22 ?_
  obtain ⟨σ2, eσ2⟩ : ∃ τ, τ = h_put σ1 a (.inr (.inl (6, [.int (F 0), .int (F 1), .int (F 2), .int (mx 0 ((F 3 - 1) - (2 * nI k))), .int (F 4), .int (F 5), .int ((F 6) ||| ((r &&& (F 1 ^^^ (-1))) &&& (F 6 ^^^ (-1)))), .int (F 7), .ref pl]))) := ⟨_, rfl⟩
  refine A_st (σ' := σ2) eσ2.symm ?_
  have wσ2 : wfh σ2 := by rw [eσ2]; exact wσ1.put fσ1_0
  have fσ2_0 : σ2.1 a = some (.inr (.inl (6, [.int (F 0), .int (F 1), .int (F 2), .int (mx 0 ((F 3 - 1) - (2 * nI k))), .int (F 4), .int (F 5), .int ((F 6) ||| ((r &&& (F 1 ^^^ (-1))) &&& (F 6 ^^^ (-1)))), .int (F 7), .ref pl]))) := by rw [eσ2]; exact if_pos rfl
  have zσ2 : kx a σ σ2 := by rw [eσ2]; exact zσ1.put
  refine A_aload_n (i := 0) dX7_washes_25 rfl rfl ?_
  refine A_bipush (v := 9) dX7_washes_26 (by decide) ?_
  refine A_putf cb_X7 fσ2_0 4 (Nat.le_of_ble_eq_true rfl) q1108 rfl rfl rfl rfl (Nat.le_of_ble_eq_true rfl) dX7_washes_28 ?_
  obtain ⟨σ3, eσ3⟩ : ∃ τ, τ = h_put σ2 a (.inr (.inl (6, [.int (F 0), .int (F 1), .int (F 2), .int (mx 0 ((F 3 - 1) - (2 * nI k))), .int 9, .int (F 5), .int ((F 6) ||| ((r &&& (F 1 ^^^ (-1))) &&& (F 6 ^^^ (-1)))), .int (F 7), .ref pl]))) := ⟨_, rfl⟩
  refine A_st (σ' := σ3) eσ3.symm ?_
  have wσ3 : wfh σ3 := by rw [eσ3]; exact wσ2.put fσ2_0
  have fσ3_0 : σ3.1 a = some (.inr (.inl (6, [.int (F 0), .int (F 1), .int (F 2), .int (mx 0 ((F 3 - 1) - (2 * nI k))), .int 9, .int (F 5), .int ((F 6) ||| ((r &&& (F 1 ^^^ (-1))) &&& (F 6 ^^^ (-1)))), .int (F 7), .ref pl]))) := by rw [eσ3]; exact if_pos rfl
  have zσ3 : kx a σ σ3 := by rw [eσ3]; exact zσ2.put
  refine A_aload_n (i := 0) dX7_washes_31 rfl rfl ?_
  refine A_bipush (v := 9) dX7_washes_32 (by decide) ?_
  refine A_aload_n (i := 0) dX7_washes_34 rfl rfl ?_
  refine A_getf cb_X7 fσ3_0 5 (Nat.le_of_ble_eq_true rfl) q1111 rfl (v := .int (F 5)) rfl dX7_washes_35 ?_
  refine A_aload_n (i := 1) dX7_washes_38 rfl rfl ?_
  refine A_hcre (v := some (.int (nI (k + 1)))) (τ := σ3) hh (c_hCre σ3 k qh hh) q1297 dX7_washes_39 (by decide) (Nat.le_of_eq (Nat.zero_add _)) (Nat.le_of_ble_eq_true rfl) ?_
  refine A_iadd dX7_washes_42 ?_
  refine A_mmin q1314 q472 q150 q473 dX7_washes_43 (by decide) (Nat.le_of_ble_eq_true rfl) ?_
  refine A_int (w := (mn 9 ((F 5) + (nI (k + 1))))) rfl ?_
  refine A_putf cb_X7 fσ3_0 5 (Nat.le_of_ble_eq_true rfl) q1111 rfl rfl rfl rfl (Nat.le_of_ble_eq_true rfl) dX7_washes_46 ?_
  obtain ⟨σ4, eσ4⟩ : ∃ τ, τ = h_put σ3 a (.inr (.inl (6, [.int (F 0), .int (F 1), .int (F 2), .int (mx 0 ((F 3 - 1) - (2 * nI k))), .int 9, .int (mn 9 ((F 5) + (nI (k + 1)))), .int ((F 6) ||| ((r &&& (F 1 ^^^ (-1))) &&& (F 6 ^^^ (-1)))), .int (F 7), .ref pl]))) := ⟨_, rfl⟩
  refine A_st (σ' := σ4) eσ4.symm ?_
  have wσ4 : wfh σ4 := by rw [eσ4]; exact wσ3.put fσ3_0
  have fσ4_0 : σ4.1 a = some (.inr (.inl (6, [.int (F 0), .int (F 1), .int (F 2), .int (mx 0 ((F 3 - 1) - (2 * nI k))), .int 9, .int (mn 9 ((F 5) + (nI (k + 1)))), .int ((F 6) ||| ((r &&& (F 1 ^^^ (-1))) &&& (F 6 ^^^ (-1)))), .int (F 7), .ref pl]))) := by rw [eσ4]; exact if_pos rfl
  have zσ4 : kx a σ σ4 := by rw [eσ4]; exact zσ3.put
  refine A_aload_n (i := 0) dX7_washes_49 rfl rfl ?_
  refine A_new (b' := 0) (u := 1) cb_X8 q1089 q1090 q164 (fs := []) (fun j hj => absurd hj (Nat.not_lt_zero j)) (Nat.le_of_ble_eq_true rfl) ⟨Nat.le_of_ble_eq_true rfl, Nat.le_of_ble_eq_true rfl⟩ dX7_washes_50 ?_
  obtain ⟨σ5, eσ5⟩ : ∃ τ, τ = h_new σ4 (.inr (.inl (7, []))) := ⟨_, rfl⟩
  refine A_st (σ' := σ5) eσ5.symm ?_
  have wσ5 : wfh σ5 := by rw [eσ5]; exact wσ4.new
  have fσ5_0 : σ5.1 a = some (.inr (.inl (6, [.int (F 0), .int (F 1), .int (F 2), .int (mx 0 ((F 3 - 1) - (2 * nI k))), .int 9, .int (mn 9 ((F 5) + (nI (k + 1)))), .int ((F 6) ||| ((r &&& (F 1 ^^^ (-1))) &&& (F 6 ^^^ (-1)))), .int (F 7), .ref pl]))) := by rw [eσ5]; exact (hn_ne (Nat.ne_of_lt (wσ4 _ _ fσ4_0))).trans fσ4_0
  have fσ5_1 : σ5.1 σ4.2 = some (.inr (.inl (7, []))) := by rw [eσ5]; exact if_pos rfl
  have xσ5 : ext σ4 σ5 := by rw [eσ5]; exact ext_new _ _
  have zσ5 : kx a σ σ5 := by rw [eσ5]; exact zσ4.new
  refine A_dup dX7_washes_53 rfl ?_
  refine A_callIN0E (b' := 0) (v := none) (τ := σ5) (c_X8init σ5 σ4.2) tX8_init q1091 dX7_washes_54 (by decide) (Nat.le_of_ble_eq_true rfl) (Nat.le_of_ble_eq_true rfl) ?_
  refine A_putf cb_X7 fσ5_0 8 (Nat.le_of_ble_eq_true rfl) q1119 rfl rfl rfl rfl (Nat.le_of_ble_eq_true rfl) dX7_washes_57 ?_
  obtain ⟨σ6, eσ6⟩ : ∃ τ, τ = h_put σ5 a (.inr (.inl (6, [.int (F 0), .int (F 1), .int (F 2), .int (mx 0 ((F 3 - 1) - (2 * nI k))), .int 9, .int (mn 9 ((F 5) + (nI (k + 1)))), .int ((F 6) ||| ((r &&& (F 1 ^^^ (-1))) &&& (F 6 ^^^ (-1)))), .int (F 7), .ref σ4.2]))) := ⟨_, rfl⟩
  refine A_st (σ' := σ6) eσ6.symm ?_
  have wσ6 : wfh σ6 := by rw [eσ6]; exact wσ5.put fσ5_0
  have fσ6_0 : σ6.1 a = some (.inr (.inl (6, [.int (F 0), .int (F 1), .int (F 2), .int (mx 0 ((F 3 - 1) - (2 * nI k))), .int 9, .int (mn 9 ((F 5) + (nI (k + 1)))), .int ((F 6) ||| ((r &&& (F 1 ^^^ (-1))) &&& (F 6 ^^^ (-1)))), .int (F 7), .ref σ4.2]))) := by rw [eσ6]; exact if_pos rfl
  have fσ6_1 : σ6.1 σ4.2 = some (.inr (.inl (7, []))) := by rw [eσ6]; exact (hp_ne (fun e9 => by rw [e9] at fσ5_1; have e8 := fσ5_1.symm.trans fσ5_0; simp at e8)).trans fσ5_1
  have zσ6 : kx a σ σ6 := by rw [eσ6]; exact zσ5.put
  refine A_iload_n (i := 3) dX7_washes_60 rfl rfl ?_
  refine A_if_eq (tgt := 68) dX7_washes_61 (by decide) (fun c1 => ?_) (fun c1 => ?_)
  · skip
    refine A_iconst (v := 0) dX7_washes_68 (by decide) ?_
    refine A_callSN1E (b' := 0) (v := some (.int (oneI 0))) (τ := σ6) (c_one1 σ6 0) tX1_one q1315 dX7_washes_69 (by decide) (Nat.le_of_ble_eq_true rfl) (Nat.le_of_ble_eq_true rfl) ?_
    exact A_iret dX7_washes_72 rfl (⟨_, by rw [bi_f (not_not_intro c1)] <;> rfl, fσ6_0, fσ6_1, zσ6⟩)
  · skip
    refine A_iconst (v := 1) dX7_washes_64 (by decide) ?_
    refine A_goto (tgt := 69) dX7_washes_65 (by decide) ?_
    refine A_callSN1E (b' := 0) (v := some (.int (oneI 1))) (τ := σ6) (c_one1 σ6 1) tX1_one q1315 dX7_washes_69 (by decide) (Nat.le_of_ble_eq_true rfl) (Nat.le_of_ble_eq_true rfl) ?_
    exact A_iret dX7_washes_72 rfl (⟨_, by rw [bi_t c1] <;> rfl, fσ6_0, fσ6_1, zσ6⟩)
