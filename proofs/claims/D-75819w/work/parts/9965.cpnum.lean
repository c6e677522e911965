set_option maxRecDepth 100000
section CPK
variable {G : sx_G} {σ τ ρ σ0 : sx_St} {pa ps sel onl x0 inp o wd lo n0 s0 wb : Nat} {tt : Nat → Nat} {t : List Int32} {k : k_T} {w0 w1 w2 w3 w6 w7 w8 : Value} {S : p_S} {ow : Nat → Nat} {Λ : Nat → Nat → Nat → Nat} {T : List (Nat × Nat × (a_M → Bool))}
/-- what comes of reading a thing: an error that is thrown, or the thing -/
def y_U {α : Type} (lo n0 s0 : Nat) (σ0 : sx_St) (x : p_E ⊕ α) (good : α → sx_O → sx_St → Prop) (oc : sx_O) (τ : sx_St) : Prop := match x with
  | .inl e => y_Z lo n0 s0 σ0 e oc τ
  | .inr a => good a oc τ
theorem y_U_thr {α : Type} {x : p_E ⊕ α} {good : α → sx_O → sx_St → Prop} {z : String × Nat} (h : y_U lo n0 s0 σ0 x good (.inr z) τ) (hg : ∀ a oc τ, good a oc τ → ∃ v, oc = .inl v) : ∃ e, x = .inl e ∧ y_Z lo n0 s0 σ0 e (.inr z) τ := by
  cases x with
  | inl e => exact ⟨e, rfl, h⟩
  | inr a =>
    obtain ⟨v, hv⟩ := hg a _ _ h
    cases hv
theorem y_U_ret {α : Type} {x : p_E ⊕ α} {good : α → sx_O → sx_St → Prop} {v : Option Value} (h : y_U lo n0 s0 σ0 x good (.inl v) τ) : ∃ a, x = .inr a ∧ good a (.inl v) τ := by
  cases x with
  | inl e =>
    obtain ⟨q, hq, _⟩ := h
    cases hq
  | inr a => exact ⟨a, rfl, h⟩
theorem y_U_l {α : Type} {x : p_E ⊕ α} {good : α → sx_O → sx_St → Prop} {e : p_E} {oc : sx_O} (hx : x = .inl e) (h : y_Z lo n0 s0 σ0 e oc τ) : y_U lo n0 s0 σ0 x good oc τ := by rw [hx]; exact h
theorem y_U_r {α : Type} {x : p_E ⊕ α} {good : α → sx_O → sx_St → Prop} {a : α} {oc : sx_O} (hx : x = .inr a) (h : good a oc τ) : y_U lo n0 s0 σ0 x good oc τ := by rw [hx]; exact h
theorem tk_e {tk i : Nat} (hG9 : g_Y G lo tt) (hk : k_ok t k) (h : sg_z G k.1 = .ref tk) (hi : i < 4) : (some tk = some (tt i)) ↔ k.1 = i := by
  have h3 := hk.2.2.1
  have h9 := hG9.2.2.2.2.1 k.1 (by omega)
  rw [h] at h9
  injection h9 with h9
  rw [h9]
  exact ⟨fun z => hG9.2.2.2.2.2.1 _ _ (by omega) hi (Option.some.inj z), fun z => by rw [z]⟩
theorem num_in7 {v lo hi : Nat} (hl : lo ≤ hi) (hh : hi ≤ 9999) : decide ((nI lo).toInt64 ≤ (nI (min 10000000 v)).toInt64 ∧ (nI (min 10000000 v)).toInt64 ≤ (nI hi).toInt64) = decide (lo ≤ v ∧ v ≤ hi) := by
  rw [decide_eq_decide, nI_l (by omega), nI_l (by omega), nI_l (by omega), lN_le (by omega) (by omega), lN_le (by omega) (by omega)]
  omega
def p_rn (t : List Int32) (k : k_T) : p_E ⊕ Unit := if p_nm t k = true then .inr () else .inl (p_er 1 k)
def p_ex (t : List Int32) (k : k_T) (i : Nat) : p_E ⊕ k_T := if p_is t k i = true then .inr (p_nx t k) else .inl (p_er 1 k)
theorem fb_w {V : a_V} {w : List Nat} (h : p_OV V) (hw : ∀ c ∈ w, c < 128) : f_bx V (w.map nI) = p_fb V w := by
  unfold f_bx p_fb
  refine fix_c (fun b hb => ?_)
  have := o_V_nb (p_OV_o h) b hb
  exact mapnI_i (fun c hc => by have := this.2.2 c hc; omega) hw
theorem fs_w {V : a_V} {w : List Nat} (h : p_OV V) (hw : ∀ c ∈ w, c < 128) : f_se V (w.map nI) = p_fs V w := by
  unfold f_se p_fs
  refine fix_c (fun b hb => ?_)
  have := o_V_ns (p_OV_o h) b hb
  exact mapnI_i (fun c hc => by have := this.2.2 c hc; omega) hw
theorem J_num (hG9 : g_Y G lo tt) (hb : b_B t) (hJ : y_J G lo n0 s0 wb σ0 pa ps sel onl x0 inp w0 w1 w2 w3 w6 w7 w8 t σ S k ow Λ wd o T) {a b : Nat} (hab : a ≤ b) (hb9 : b ≤ 9999) : sx_C G 10 YX4_number [.ref pa, .int (nI a), .int (nI b)] σ (y_U lo n0 s0 σ0 (p_num t k a b) (fun x oc τ => oc = .inl (some (.int (nI x.1))) ∧ ∃ wd2, y_J G lo n0 s0 wb σ0 pa ps sel onl x0 inp w0 w1 w2 w3 w6 w7 w8 t τ S x.2 ow Λ wd2 o T)) := by
  refine sx_body (by decide) (Nat.le_of_ble_eq_true rfl) ?_
  obtain ⟨⟨tkJ1, vvJ1, hpJ1, kzJ1, hvvJ1, wwJ1, koJ1⟩, wlJ1⟩ := id hJ.1
  obtain ⟨vsJ1, wrJ1⟩ := k_Sr_rd (y_w_r hG9 wwJ1 (by have := p_w_ll koJ1 (J_7 hJ); omega))
  refine sv_aload_n dX4_number_0 rfl ?_
  refine sv_aload_n dX4_number_1 rfl ?_
  refine sv_get fg_X4_70 dX4_number_2 (sx_rd_c hpJ1) rfl ?_
  refine sv_gets 2 rfl q679 dX4_number_5 ?_
  rw [hG9.2.2.2.2.1 2 (by decide)]
  refine sv_acmp_ne (rx := (some tkJ1)) (ry := (some ((tt 2)))) (tgt := 15) dX4_number_8 (by decide) (fun c8 => ?_) (fun c8 => ?_)
  · have h2 : ¬ k.1 = 2 := fun z => c8 ((tk_e hG9 koJ1 kzJ1 (by decide)).mpr z)
    refine sv_iconst (nI 0) dX4_number_15 (by decide +kernel) ?_
    refine sv_tI b0_I ?_
    refine sv_iconst (nI 1) dX4_number_16 (by decide +kernel) ?_
    refine sv_cv _ (J_req0 hG9 hJ (c := 1)) okX4_require (sx_rd_c hpJ1) rfl kv_X4_115.1 kv_X4_115.2.1 kv_X4_115.2.2 dX4_number_17 rfl rfl (by omega) (Nat.le_of_ble_eq_true rfl) (fun v τ h => by obtain ⟨q, e, _⟩ := h; cases e) (fun E q τ h => ?_)
    obtain ⟨q9, e9, F9⟩ := id h
    cases e9
    refine sv_out (fun x hx => by cases hx) ?_
    exact y_U_l (by unfold p_num; rw [if_neg h2]) h
  · have h2 : k.1 = 2 := (tk_e hG9 koJ1 kzJ1 (by decide)).mp c8
    refine sv_iconst (nI 1) dX4_number_11 (by decide +kernel) ?_
    refine sv_goto (tgt := 16) dX4_number_12 (by decide) ?_
    refine sv_tI b1_I ?_
    refine sv_iconst (nI 1) dX4_number_16 (by decide +kernel) ?_
    refine sv_cvR _ J_req1 okX4_require kv_X4_115 (sx_rd_c hpJ1) rfl dX4_number_17 rfl rfl (by omega) (Nat.le_of_ble_eq_true rfl) ?_
    refine sv_aload_n dX4_number_20 rfl ?_
    refine sv_aload_n dX4_number_21 rfl ?_
    refine sv_get fg_X4_61 dX4_number_22 (sx_rd_c hpJ1) rfl ?_
    refine sv_tI (y := nI (min 10000000 k.2.2.2)) (hvvJ1 h2) ?_
    refine sv_i2l dX4_number_25 ?_
    refine sv_iload_n dX4_number_26 rfl ?_
    refine sv_i2l dX4_number_27 ?_
    refine sv_iload_n dX4_number_28 rfl ?_
    refine sv_i2l dX4_number_29 ?_
    refine sv_cnR _ cc_inRange okX1_inRange ks_X4_50 dX4_number_30 rfl rfl (by omega) (Nat.le_of_ble_eq_true rfl) ?_
    rw [num_in7 hab hb9]
    refine sv_iconst (nI 2) dX4_number_33 (by decide +kernel) ?_
    by_cases q34 : ((decide (a ≤ k.2.2.2 ∧ k.2.2.2 ≤ b))) = false
    · rw [q34]
      refine sv_cv _ (J_req0 hG9 hJ (c := 2)) okX4_require (sx_rd_c hpJ1) rfl kv_X4_115.1 kv_X4_115.2.1 kv_X4_115.2.2 dX4_number_34 rfl rfl (by omega) (Nat.le_of_ble_eq_true rfl) (fun v τ h => by obtain ⟨q, e, _⟩ := h; cases e) (fun E q τ h => ?_)
      obtain ⟨q9, e9, F9⟩ := id h
      cases e9
      refine sv_out (fun x hx => by cases hx) ?_
      exact y_U_l (by unfold p_num; rw [if_pos h2, if_neg (of_decide_eq_false q34)]) h
    have r34 : ((decide (a ≤ k.2.2.2 ∧ k.2.2.2 ≤ b))) = true := by
      cases hz : ((decide (a ≤ k.2.2.2 ∧ k.2.2.2 ≤ b))) with
      | true => rfl
      | false => exact absurd hz q34
    rw [r34]
    refine sv_cvR _ J_req1 okX4_require kv_X4_115 (sx_rd_c hpJ1) rfl dX4_number_34 rfl rfl (by omega) (Nat.le_of_ble_eq_true rfl) ?_
    have h9 := of_decide_eq_true r34
    refine sv_aload_n dX4_number_37 rfl ?_
    refine sv_get fg_X4_61 dX4_number_38 (sx_rd_c hpJ1) rfl ?_
    refine sv_tI (y := nI k.2.2.2) (by rw [hvvJ1 h2, Nat.min_eq_right (by omega)]) ?_
    refine sv_istore_n dX4_number_41 (by decide) ?_
    refine sv_aload_n dX4_number_42 rfl ?_
    refine sv_cvP _ (J_next hG9 hb hJ) okX4_next kv_X4_36 (sx_rd_c hpJ1) rfl dX4_number_43 rfl rfl (by omega) (Nat.le_of_ble_eq_true rfl) ?_
    intro v2 τ3 hp4
    obtain ⟨rfl, wd6, hJ5⟩ := hp4
    obtain ⟨⟨tkJ7, vvJ7, hpJ7, kzJ7, hvvJ7, wwJ7, koJ7⟩, wlJ7⟩ := id hJ5.1
    obtain ⟨vsJ7, wrJ7⟩ := k_Sr_rd (y_w_r hG9 wwJ7 (by have := p_w_ll koJ7 (J_7 hJ5); omega))
    refine sv_iload_n dX4_number_46 rfl ?_
    refine sv_iret rfl rfl dX4_number_47 ?_
    exact y_U_r (show p_num t k a b = .inr (k.2.2.2, p_nx t k) by unfold p_num; rw [if_pos h2, if_pos h9]) ⟨rfl, wd6, hJ5⟩
theorem J_rn (hG9 : g_Y G lo tt) (hb : b_B t) (hJ : y_J G lo n0 s0 wb σ0 pa ps sel onl x0 inp w0 w1 w2 w3 w6 w7 w8 t σ S k ow Λ wd o T) : sx_C G 10 YX4_requireName [.ref pa] σ (y_U lo n0 s0 σ0 (p_rn t k) (fun _ oc τ => oc = .inl none ∧ y_J G lo n0 s0 wb σ0 pa ps sel onl x0 inp w0 w1 w2 w3 w6 w7 w8 t τ S k ow Λ wd o T)) := by
  refine sx_body (by decide) (Nat.le_of_ble_eq_true rfl) ?_
  have h7 := J_7 hJ
  obtain ⟨⟨tkJ8, vvJ8, hpJ8, kzJ8, hvvJ8, wwJ8, koJ8⟩, wlJ8⟩ := id hJ.1
  obtain ⟨vsJ8, wrJ8⟩ := k_Sr_rd (y_w_r hG9 wwJ8 (by have := p_w_ll koJ8 (J_7 hJ); omega))
  refine sv_aload_n dX4_requireName_0 rfl ?_
  refine sv_aload_n dX4_requireName_1 rfl ?_
  refine sv_get fg_X4_70 dX4_requireName_2 (sx_rd_c hpJ8) rfl ?_
  refine sv_gets 1 rfl q652 dX4_requireName_5 ?_
  rw [hG9.2.2.2.2.1 1 (by decide)]
  refine sv_acmp_ne (rx := (some tkJ8)) (ry := (some ((tt 1)))) (tgt := 34) dX4_requireName_8 (by decide) (fun c8 => ?_) (fun c8 => ?_)
  · have h1 : ¬ k.1 = 1 := fun z => c8 ((tk_e hG9 koJ8 kzJ8 (by decide)).mpr z)
    have hno : p_nm t k = false := by unfold p_nm; rw [decide_eq_false h1]; rfl
    refine sv_iconst (nI 0) dX4_requireName_34 (by decide +kernel) ?_
    refine sv_tI b0_I ?_
    refine sv_iconst (nI 1) dX4_requireName_35 (by decide +kernel) ?_
    refine sv_cv _ (J_req0 hG9 hJ (c := 1)) okX4_require (sx_rd_c hpJ8) rfl kv_X4_115.1 kv_X4_115.2.1 kv_X4_115.2.2 dX4_requireName_36 rfl rfl (by omega) (Nat.le_of_ble_eq_true rfl) (fun v τ h => by obtain ⟨q, e, _⟩ := h; cases e) (fun E q τ h => ?_)
    obtain ⟨q9, e9, F9⟩ := id h
    cases e9
    refine sv_out (fun x hx => by cases hx) ?_
    exact y_U_l (by unfold p_rn; rw [if_neg (bf_n hno)]) h
  · have h1 : k.1 = 1 := (tk_e hG9 koJ8 kzJ8 (by decide)).mp c8
    have hpl := p_w_l koJ8 h1
    have hk2 := (koJ8).2.1
    refine sv_aload_n dX4_requireName_11 rfl ?_
    refine sv_get fg_X4_32 dX4_requireName_12 (sx_rd_c hpJ8) rfl ?_
    refine sv_cvR _ (cs_len hG9.1 (y_w_r hG9 wwJ8 (by have := p_w_ll koJ8 h7; omega))) okJ9_length kv_X4_156 wrJ8 rfl dX4_requireName_15 rfl rfl (by omega) (Nat.le_of_ble_eq_true rfl) ?_
    refine sv_tI (y := nI (p_w t k).length) (by rw [List.length_map]) ?_
    refine sv_bipush (nI 6) dX4_requireName_18 (by decide +kernel) ?_
    refine sv_icmp_gtN (tgt := 34) dX4_requireName_20 (by decide) (by omega) (by omega) (fun c20 => ?_) (fun c20 => ?_)
    · have hno : p_nm t k = false := by unfold p_nm; rw [decide_eq_false (show ¬ k.2.2.1 - k.2.1 ≤ 6 by omega), Bool.and_false]; rfl
      refine sv_iconst (nI 0) dX4_requireName_34 (by decide +kernel) ?_
      refine sv_tI b0_I ?_
      refine sv_iconst (nI 1) dX4_requireName_35 (by decide +kernel) ?_
      refine sv_cv _ (J_req0 hG9 hJ (c := 1)) okX4_require (sx_rd_c hpJ8) rfl kv_X4_115.1 kv_X4_115.2.1 kv_X4_115.2.2 dX4_requireName_36 rfl rfl (by omega) (Nat.le_of_ble_eq_true rfl) (fun v τ h => by obtain ⟨q, e, _⟩ := h; cases e) (fun E q τ h => ?_)
      obtain ⟨q9, e9, F9⟩ := id h
      cases e9
      refine sv_out (fun x hx => by cases hx) ?_
      exact y_U_l (by unfold p_rn; rw [if_neg (bf_n hno)]) h
    · have h6 : k.2.2.1 - k.2.1 ≤ 6 := by omega
      refine sv_aload_n dX4_requireName_23 rfl ?_
      refine sv_cvP _ (J_kw hG9 hb hJ) okX4_isKeyword kv_X4_159 (sx_rd_c hpJ8) rfl dX4_requireName_24 rfl rfl (by omega) (Nat.le_of_ble_eq_true rfl) ?_
      intro v9 τ10 hp11
      obtain ⟨rfl, hJ12⟩ := hp11
      obtain ⟨⟨tkJ14, vvJ14, hpJ14, kzJ14, hvvJ14, wwJ14, koJ14⟩, wlJ14⟩ := id hJ12.1
      obtain ⟨vsJ14, wrJ14⟩ := k_Sr_rd (y_w_r hG9 wwJ14 (by have := p_w_ll koJ14 (J_7 hJ12); omega))
      refine sv_if_neB (tgt := 34) dX4_requireName_27 (by decide) (fun c27 => ?_) (fun c27 => ?_)
      · have hno : p_nm t k = false := by unfold p_nm; rw [c27]; simp
        refine sv_iconst (nI 0) dX4_requireName_34 (by decide +kernel) ?_
        refine sv_tI b0_I ?_
        refine sv_iconst (nI 1) dX4_requireName_35 (by decide +kernel) ?_
        refine sv_cv _ (J_req0 hG9 hJ12 (c := 1)) okX4_require (sx_rd_c hpJ14) rfl kv_X4_115.1 kv_X4_115.2.1 kv_X4_115.2.2 dX4_requireName_36 rfl rfl (by omega) (Nat.le_of_ble_eq_true rfl) (fun v τ h => by obtain ⟨q, e, _⟩ := h; cases e) (fun E q τ h => ?_)
        obtain ⟨q9, e9, F9⟩ := id h
        cases e9
        refine sv_out (fun x hx => by cases hx) ?_
        exact y_U_l (by unfold p_rn; rw [if_neg (bf_n hno)]) h
      · have hyes : p_nm t k = true := by unfold p_nm; rw [decide_eq_true h1, decide_eq_true h6, c27]; rfl
        refine sv_iconst (nI 1) dX4_requireName_30 (by decide +kernel) ?_
        refine sv_goto (tgt := 35) dX4_requireName_31 (by decide) ?_
        refine sv_tI b1_I ?_
        refine sv_iconst (nI 1) dX4_requireName_35 (by decide +kernel) ?_
        refine sv_cvR _ J_req1 okX4_require kv_X4_115 (sx_rd_c hpJ14) rfl dX4_requireName_36 rfl rfl (by omega) (Nat.le_of_ble_eq_true rfl) ?_
        refine sv_vret rfl dX4_requireName_39 ?_
        exact y_U_r (a := ()) (by unfold p_rn; rw [if_pos hyes]) ⟨rfl, hJ12⟩
theorem J_ex (hG9 : g_Y G lo tt) (hb : b_B t) (hJ : y_J G lo n0 s0 wb σ0 pa ps sel onl x0 inp w0 w1 w2 w3 w6 w7 w8 t σ S k ow Λ wd o T) {i : Nat} (h1 : 1 ≤ i) (hi : i < 16) : sx_C G 10 YX4_expect [.ref pa, .ref (sg_t G i)] σ (y_U lo n0 s0 σ0 (p_ex t k i) (fun k2 oc τ => oc = .inl none ∧ ∃ wd2, y_J G lo n0 s0 wb σ0 pa ps sel onl x0 inp w0 w1 w2 w3 w6 w7 w8 t τ S k2 ow Λ wd2 o T)) := by
  refine sx_body (by decide) (Nat.le_of_ble_eq_true rfl) ?_
  obtain ⟨⟨tkJ15, vvJ15, hpJ15, kzJ15, hvvJ15, wwJ15, koJ15⟩, wlJ15⟩ := id hJ.1
  obtain ⟨vsJ15, wrJ15⟩ := k_Sr_rd (y_w_r hG9 wwJ15 (by have := p_w_ll koJ15 (J_7 hJ); omega))
  refine sv_aload_n dX4_expect_0 rfl ?_
  refine sv_aload_n dX4_expect_1 rfl ?_
  refine sv_aload_n dX4_expect_2 rfl ?_
  refine sv_cvR _ (J_word hG9 hb hJ h1 hi) okX4_isWord kv_X4_111 (sx_rd_c hpJ15) rfl dX4_expect_3 rfl rfl (by omega) (Nat.le_of_ble_eq_true rfl) ?_
  refine sv_iconst (nI 1) dX4_expect_6 (by decide +kernel) ?_
  by_cases q7 : ((p_is t k i)) = false
  · rw [q7]
    refine sv_cv _ (J_req0 hG9 hJ (c := 1)) okX4_require (sx_rd_c hpJ15) rfl kv_X4_115.1 kv_X4_115.2.1 kv_X4_115.2.2 dX4_expect_7 rfl rfl (by omega) (Nat.le_of_ble_eq_true rfl) (fun v τ h => by obtain ⟨q, e, _⟩ := h; cases e) (fun E q τ h => ?_)
    obtain ⟨q9, e9, F9⟩ := id h
    cases e9
    refine sv_out (fun x hx => by cases hx) ?_
    exact y_U_l (by unfold p_ex; rw [if_neg (bf_n q7)]) h
  have r7 : ((p_is t k i)) = true := by
    cases hz : ((p_is t k i)) with
    | true => rfl
    | false => exact absurd hz q7
  rw [r7]
  refine sv_cvR _ J_req1 okX4_require kv_X4_115 (sx_rd_c hpJ15) rfl dX4_expect_7 rfl rfl (by omega) (Nat.le_of_ble_eq_true rfl) ?_
  refine sv_aload_n dX4_expect_10 rfl ?_
  refine sv_cvP _ (J_next hG9 hb hJ) okX4_next kv_X4_36 (sx_rd_c hpJ15) rfl dX4_expect_11 rfl rfl (by omega) (Nat.le_of_ble_eq_true rfl) ?_
  intro v16 τ17 hp18
  obtain ⟨rfl, wd20, hJ19⟩ := hp18
  obtain ⟨⟨tkJ21, vvJ21, hpJ21, kzJ21, hvvJ21, wwJ21, koJ21⟩, wlJ21⟩ := id hJ19.1
  obtain ⟨vsJ21, wrJ21⟩ := k_Sr_rd (y_w_r hG9 wwJ21 (by have := p_w_ll koJ21 (J_7 hJ19); omega))
  refine sv_vret rfl dX4_expect_14 ?_
  exact y_U_r (show p_ex t k i = .inr (p_nx t k) by unfold p_ex; rw [if_pos r7]) ⟨rfl, wd20, hJ19⟩
theorem J_bh (hG9 : g_Y G lo tt) (hb : b_B t) (hJ : y_J G lo n0 s0 wb σ0 pa ps sel onl x0 inp w0 w1 w2 w3 w6 w7 w8 t σ S k ow Λ wd o T) : sx_C G 11 YX4_boxHere [.ref pa] σ (y_U lo n0 s0 σ0 (p_bh t S.1 k) (fun b oc τ => oc = .inl (some (.int (nI b))) ∧ y_J G lo n0 s0 wb σ0 pa ps sel onl x0 inp w0 w1 w2 w3 w6 w7 w8 t τ S k ow Λ wd o T)) := by
  refine sx_body (by decide) (Nat.le_of_ble_eq_true rfl) ?_
  obtain ⟨⟨tkJ22, vvJ22, hpJ22, kzJ22, hvvJ22, wwJ22, koJ22⟩, wlJ22⟩ := id hJ.1
  obtain ⟨vsJ22, wrJ22⟩ := k_Sr_rd (y_w_r hG9 wwJ22 (by have := p_w_ll koJ22 (J_7 hJ); omega))
  refine sv_aload_n dX4_boxHere_0 rfl ?_
  refine sv_cv _ (J_rn hG9 hb hJ) okX4_requireName (sx_rd_c hpJ22) rfl kv_X4_183.1 kv_X4_183.2.1 kv_X4_183.2.2 dX4_boxHere_1 rfl rfl (by omega) (Nat.le_of_ble_eq_true rfl) (fun v23 τ24 h25 => ?_) (fun E q τ h => ?_)
  rotate_left
  · have hU := y_U_thr h (fun _ _ _ z => ⟨_, z.1⟩)
    refine sv_out (fun x hx => by cases hx) ?_
    obtain ⟨e, he, hz⟩ := hU
    have he2 : p_bh t S.1 k = .inl e := by
      unfold p_rn at he
      unfold p_bh
      by_cases h : p_nm t k = true
      · rw [if_pos h] at he; cases he
      · rw [if_neg h] at he ⊢; cases he; rfl
    exact y_U_l he2 hz
  have hU := y_U_ret h25
  obtain ⟨_, hx9, hv9, hJ26⟩ := hU
  have hyes : p_nm t k = true := by
    cases hz : p_nm t k with
    | true => rfl
    | false => unfold p_rn at hx9; rw [if_neg (bf_n hz)] at hx9; cases hx9
  cases hv9
  obtain ⟨⟨tkJ27, vvJ27, hpJ27, kzJ27, hvvJ27, wwJ27, koJ27⟩, wlJ27⟩ := id hJ26.1
  obtain ⟨vsJ27, wrJ27⟩ := k_Sr_rd (y_w_r hG9 wwJ27 (by have := p_w_ll koJ27 (J_7 hJ26); omega))
  have hsv28 := (hJ26).2.1.1.1.1
  refine sv_aload_n dX4_boxHere_4 rfl ?_
  refine sv_get fg_X4_18 dX4_boxHere_5 (sx_rd_c hpJ27) rfl ?_
  refine sv_aload_n dX4_boxHere_8 rfl ?_
  refine sv_get fg_X4_32 dX4_boxHere_9 (sx_rd_c hpJ27) rfl ?_
  refine sv_cvR _ (cc_fbx hG9.1 (hJ26).2.1.1.1 (p_OV_w (hJ26).2.2.2.2.2.2.1.1) (y_w_r hG9 wwJ27 (by have := p_w_ll koJ27 (J_7 hJ26); omega)) (fun k9 hk9 => by have := ((hJ26).2.2.2.2.2.2.1.1.2.2.2.1 k9 hk9).1.2.1; omega) (fun k9 hk9 => ((hJ26).2.2.2.2.1.1 k9 hk9).1.2)) okX2_findBox kv_X4_186 (sx_rd_c hsv28) rfl dX4_boxHere_12 rfl rfl (by omega) (Nat.le_of_ble_eq_true rfl) ?_
  rw [fb_w (hJ26).2.2.2.2.2.2.1.1 (p_w_128 hb koJ27)]
  refine sv_istore_n dX4_boxHere_15 (by decide) ?_
  refine sv_aload_n dX4_boxHere_16 rfl ?_
  refine sv_iload_n dX4_boxHere_17 rfl ?_
  refine sv_iconst (-1) dX4_boxHere_18 (by decide +kernel) ?_
  refine sv_icmp_eq (tgt := 26) dX4_boxHere_19 (by decide) (fun c19 => ?_) (fun c19 => ?_)
  · have hno : p_fb S.1 (p_w t k) = none := (o_I_m1 _ (fun b z => by have h8 := p_fb_lt z; have h9 := (hJ26).2.2.2.2.2.2.1.1.2.1; omega)).mp c19
    refine sv_iconst (nI 0) dX4_boxHere_26 (by decide +kernel) ?_
    refine sv_tI b0_I ?_
    refine sv_iconst (nI 3) dX4_boxHere_27 (by decide +kernel) ?_
    refine sv_cv _ (J_req0 hG9 hJ26 (c := 3)) okX4_require (sx_rd_c hpJ27) rfl kv_X4_115.1 kv_X4_115.2.1 kv_X4_115.2.2 dX4_boxHere_28 rfl rfl (by omega) (Nat.le_of_ble_eq_true rfl) (fun v τ h => by obtain ⟨q, e, _⟩ := h; cases e) (fun E q τ h => ?_)
    obtain ⟨q9, e9, F9⟩ := id h
    cases e9
    refine sv_out (fun x hx => by cases hx) ?_
    exact y_U_l (by unfold p_bh; rw [if_pos hyes, hno]) h
  · obtain ⟨b, hfb⟩ : ∃ b, p_fb S.1 (p_w t k) = some b := by
      cases hz : p_fb S.1 (p_w t k) with
      | none => exact absurd (by rw [hz]; rfl) c19
      | some b => exact ⟨b, rfl⟩
    refine sv_iconst (nI 1) dX4_boxHere_22 (by decide +kernel) ?_
    refine sv_goto (tgt := 27) dX4_boxHere_23 (by decide) ?_
    refine sv_tI b1_I ?_
    refine sv_iconst (nI 3) dX4_boxHere_27 (by decide +kernel) ?_
    refine sv_cvR _ J_req1 okX4_require kv_X4_115 (sx_rd_c hpJ27) rfl dX4_boxHere_28 rfl rfl (by omega) (Nat.le_of_ble_eq_true rfl) ?_
    refine sv_iload_n dX4_boxHere_31 rfl ?_
    refine sv_iret rfl rfl dX4_boxHere_32 ?_
    exact y_U_r (show p_bh t S.1 k = .inr b by unfold p_bh; rw [if_pos hyes, hfb]) ⟨by rw [hfb]; rfl, hJ26⟩
end CPK
