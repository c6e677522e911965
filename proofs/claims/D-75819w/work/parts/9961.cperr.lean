set_option maxRecDepth 100000
section CPE
variable {G : sx_G} {σ τ ρ : sx_St} {pa ps sel onl x0 inp o wb : Nat} {t : List Int32} {k : k_T} {hl : Bool} {v0 v1 v2 v3 v4 v5 v6 v7 v8 v9 : Value} {w0 w1 w2 w3 w6 w7 w8 : Value}
/-- statics that are a reference or null; the tokens' constants -/
def g_P (G : sx_G) : Prop := (∃ r, sg_z G 9 = va_rf r) ∧ ∃ r, sg_z G 10 = va_rf r
def g_T (G : sx_G) : Prop := ∃ tt : Nat → Nat, (∀ i, i < 4 → sg_z G i = .ref (tt i)) ∧ ∀ i j, i < 4 → j < 4 → tt i = tt j → i = j
theorem va_rf_narA (r : Option Nat) {c : FieldType} : narrow (.array c) (va_rf r) = va_rf r := by cases r <;> rfl
theorem va_rf_fitA (r : Option Nat) {c : FieldType} : fits (.array c) (va_rf r) = true := by cases r <;> rfl
theorem cx_T3 (hP : g_P G) {e0 : Nat} (hq : sx_c σ e0 = some (.inr (4, [.null, .null, .null, .null, .null, .int (nI 0), .int (nI 0), .int (nI 0)]))) : sx_Cp G 1 YJ3_init_3 [.ref e0, .null, .null, .int (nI 0), .int (nI 0)] σ (fun v τ => v = none ∧ sx_c τ e0 = some (.inr (4, [.null, .null, .null, .null, .null, .int (nI 0), .int (nI 0), .int (nI 0)])) ∧ h_F (fun q => q = e0) 0 0 σ τ) := by
  refine sx_body (by decide) (Nat.le_of_ble_eq_true rfl) ?_
  obtain ⟨⟨r9, hr9⟩, r10, hr10⟩ := hP
  have FF0 : h_F (fun q => q = e0) 0 0 σ σ := h_F_r
  refine sv_aload_n dJ3_init_3_0 rfl ?_
  refine sv_oi q243 q194 q195 dJ3_init_3_1 (by decide) (Nat.le_of_ble_eq_true rfl) ?_
  refine sv_aload_n dJ3_init_3_4 rfl ?_
  refine sv_aload_n dJ3_init_3_5 rfl ?_
  refine sv_put fp_J3_7 dJ3_init_3_6 hq rfl rfl (Nat.le_of_ble_eq_true rfl) ?_
  refine hs_up hq (fun τ1 F2 h3 N4 Z5 => ?_)
  have h3 : sx_c τ1 e0 = some (.inr (4, [.ref e0, .null, .null, .null, .null, .int (nI 0), .int (nI 0), .int (nI 0)])) := h3
  have FF6 := h_F_u FF0 F2 (fun _ _ z => z) (by intro q hq hz; omega) (Nat.le_refl _) (Nat.le_refl _)
  refine sv_aload_n dJ3_init_3_9 rfl ?_
  refine sv_gets 9 rfl q244 dJ3_init_3_10 ?_
  rw [hr9]
  refine sv_put fp_J3_17 dJ3_init_3_13 h3 (va_rf_narA _) (va_rf_fitA _) (Nat.le_of_ble_eq_true rfl) ?_
  refine hs_up h3 (fun τ7 F8 h9 N10 Z11 => ?_)
  have h9 : sx_c τ7 e0 = some (.inr (4, [.ref e0, va_rf r9, .null, .null, .null, .int (nI 0), .int (nI 0), .int (nI 0)])) := h9
  have FF12 := h_F_u FF6 F8 (fun _ _ z => z) (by intro q hq hz; omega) (Nat.le_refl _) (Nat.le_refl _)
  refine sv_aload_n dJ3_init_3_16 rfl ?_
  refine sv_gets 10 rfl q246 dJ3_init_3_17 ?_
  rw [hr10]
  refine sv_put fp_J3_24 dJ3_init_3_20 h9 (va_rf_nar _) (va_rf_fit _) (Nat.le_of_ble_eq_true rfl) ?_
  refine hs_up h9 (fun τ13 F14 h15 N16 Z17 => ?_)
  have h15 : sx_c τ13 e0 = some (.inr (4, [.ref e0, va_rf r9, va_rf r10, .null, .null, .int (nI 0), .int (nI 0), .int (nI 0)])) := h15
  have FF18 := h_F_u FF12 F14 (fun _ _ z => z) (by intro q hq hz; omega) (Nat.le_refl _) (Nat.le_refl _)
  refine sv_iload dJ3_init_3_23 rfl ?_
  refine sv_if_eqN (tgt := 36) dJ3_init_3_25 (by decide) (by omega) (fun c25 => ?_) (fun c25 => ?_)
  · refine sv_aload_n dJ3_init_3_36 rfl ?_
    refine sv_null dJ3_init_3_37 ?_
    refine sv_put fp_J3_17 dJ3_init_3_38 h15 rfl rfl (Nat.le_of_ble_eq_true rfl) ?_
    refine hs_up h15 (fun τ19 F20 h21 N22 Z23 => ?_)
    have h21 : sx_c τ19 e0 = some (.inr (4, [.ref e0, .null, va_rf r10, .null, .null, .int (nI 0), .int (nI 0), .int (nI 0)])) := h21
    have FF24 := h_F_u FF18 F20 (fun _ _ z => z) (by intro q hq hz; omega) (Nat.le_refl _) (Nat.le_refl _)
    refine sv_aload_n dJ3_init_3_41 rfl ?_
    refine sv_aload_nN dJ3_init_3_42 rfl ?_
    refine sv_put fp_J3_31 dJ3_init_3_43 h21 rfl rfl (Nat.le_of_ble_eq_true rfl) ?_
    refine hs_up h21 (fun τ25 F26 h27 N28 Z29 => ?_)
    have h27 : sx_c τ25 e0 = some (.inr (4, [.ref e0, .null, va_rf r10, .null, .null, .int (nI 0), .int (nI 0), .int (nI 0)])) := h27
    have FF30 := h_F_u FF24 F26 (fun _ _ z => z) (by intro q hq hz; omega) (Nat.le_refl _) (Nat.le_refl _)
    refine sv_aload_n dJ3_init_3_46 rfl ?_
    refine sv_aload_nN dJ3_init_3_47 rfl ?_
    refine sv_put fp_J3_7 dJ3_init_3_48 h27 rfl rfl (Nat.le_of_ble_eq_true rfl) ?_
    refine hs_up h27 (fun τ31 F32 h33 N34 Z35 => ?_)
    have h33 : sx_c τ31 e0 = some (.inr (4, [.null, .null, va_rf r10, .null, .null, .int (nI 0), .int (nI 0), .int (nI 0)])) := h33
    have FF36 := h_F_u FF30 F32 (fun _ _ z => z) (by intro q hq hz; omega) (Nat.le_refl _) (Nat.le_refl _)
    refine sv_iload_n dJ3_init_3_51 rfl ?_
    refine sv_if_neN (tgt := 60) dJ3_init_3_52 (by decide) (by omega) (fun c52 => ?_) (fun c52 => ?_)
    · exact absurd c52 (by decide)
    · refine sv_aload_n dJ3_init_3_55 rfl ?_
      refine sv_null dJ3_init_3_56 ?_
      refine sv_put fp_J3_24 dJ3_init_3_57 h33 rfl rfl (Nat.le_of_ble_eq_true rfl) ?_
      refine hs_up h33 (fun τ37 F38 h39 N40 Z41 => ?_)
      have h39 : sx_c τ37 e0 = some (.inr (4, [.null, .null, .null, .null, .null, .int (nI 0), .int (nI 0), .int (nI 0)])) := h39
      have FF42 := h_F_u FF36 F38 (fun _ _ z => z) (by intro q hq hz; omega) (Nat.le_refl _) (Nat.le_refl _)
      refine sv_vret rfl dJ3_init_3_60 ?_
      exact ⟨_, rfl, rfl, h39, h_F_w FF42 (fun _ _ z => z) (by omega) (by omega)⟩
  · exact absurd c25 (by decide)
theorem cx_X4 (hP : g_P G) {e0 : Nat} (hq : sx_c σ e0 = some (.inr (4, [.null, .null, .null, .null, .null, .int (nI 0), .int (nI 0), .int (nI 0)]))) : sx_Cp G 2 YJ4_init_2 [.ref e0, .null, .null, .int (nI 0), .int (nI 0)] σ (fun v τ => v = none ∧ sx_c τ e0 = some (.inr (4, [.null, .null, .null, .null, .null, .int (nI 0), .int (nI 0), .int (nI 0)])) ∧ h_F (fun q => q = e0) 0 0 σ τ) := by
  refine sx_body (by decide) (Nat.le_of_ble_eq_true rfl) ?_
  have FF0 : h_F (fun q => q = e0) 0 0 σ σ := h_F_r
  refine sv_aload_n dJ4_init_2_0 rfl ?_
  refine sv_aload_nN dJ4_init_2_1 rfl ?_
  refine sv_aload_nN dJ4_init_2_2 rfl ?_
  refine sv_iload_n dJ4_init_2_3 rfl ?_
  refine sv_iload dJ4_init_2_4 rfl ?_
  refine sv_ciP _ (cx_T3 hP hq) okJ3_init_3 ki_J4_16 dJ4_init_2_6 rfl rfl (by omega) (Nat.le_of_ble_eq_true rfl) ?_
  intro v47 τ45 hp46
  obtain ⟨rfl, h44, F43⟩ := hp46
  have N48 := (F43).1.1
  have FF49 := h_F_u FF0 F43 (fun _ _ z => z) (by intro q hq hz; omega) (Nat.le_refl _) (Nat.le_refl _)
  refine sv_vret rfl dJ4_init_2_9 ?_
  exact ⟨_, rfl, rfl, h44, h_F_w FF49 (fun _ _ z => z) (by omega) (by omega)⟩
/-- an error that is thrown -/
def y_E (σ : sx_St) (q c s : Nat) : Prop := sx_c σ q = some (.inr (4, [.null, .null, .null, .null, .null, .int (nI 0), .int (nI c), .int (nI s)]))
def y_X (c s : Nat) (σ : sx_St) (oc : sx_O) (τ : sx_St) : Prop := ∃ q, oc = .inr ("MailSessions$ParseError", q) ∧ y_E τ q c s ∧ h_F (fun _ => False) 1 8 σ τ
theorem cx_PE (hP : g_P G) {e0 : Nat} (hq : sx_c σ e0 = some (.inr (4, [.null, .null, .null, .null, .null, .int (nI 0), .int (nI 0), .int (nI 0)]))) {c s : Nat} : sx_Cp G 3 YX5_init [.ref e0, .int (nI c), .int (nI s)] σ (fun v τ => v = none ∧ y_E τ e0 c s ∧ h_F (fun q => q = e0) 0 0 σ τ) := by
  refine sx_body (by decide) (Nat.le_of_ble_eq_true rfl) ?_
  have FF0 : h_F (fun q => q = e0) 0 0 σ σ := h_F_r
  refine sv_aload_n dX5_init_0 rfl ?_
  refine sv_null dX5_init_1 ?_
  refine sv_null dX5_init_2 ?_
  refine sv_iconst (nI 0) dX5_init_3 (by decide +kernel) ?_
  refine sv_iconst (nI 0) dX5_init_4 (by decide +kernel) ?_
  refine sv_ciP _ (cx_X4 hP hq) okJ4_init_2 ki_X5_1 dX5_init_5 rfl rfl (by omega) (Nat.le_of_ble_eq_true rfl) ?_
  intro v54 τ52 hp53
  obtain ⟨rfl, h51, F50⟩ := hp53
  have N55 := (F50).1.1
  have FF56 := h_F_u FF0 F50 (fun _ _ z => z) (by intro q hq hz; omega) (Nat.le_refl _) (Nat.le_refl _)
  refine sv_aload_n dX5_init_8 rfl ?_
  refine sv_iload_n dX5_init_9 rfl ?_
  refine sv_put fp_X5_7 dX5_init_10 h51 rfl rfl (Nat.le_of_ble_eq_true rfl) ?_
  refine hs_up h51 (fun τ57 F58 h59 N60 Z61 => ?_)
  have h59 : sx_c τ57 e0 = some (.inr (4, [.null, .null, .null, .null, .null, .int (nI 0), .int (nI c), .int (nI 0)])) := h59
  have FF62 := h_F_u FF56 F58 (fun _ _ z => z) (by intro q hq hz; omega) (Nat.le_refl _) (Nat.le_refl _)
  refine sv_aload_n dX5_init_13 rfl ?_
  refine sv_iload_n dX5_init_14 rfl ?_
  refine sv_put fp_X5_13 dX5_init_15 h59 rfl rfl (Nat.le_of_ble_eq_true rfl) ?_
  refine hs_up h59 (fun τ63 F64 h65 N66 Z67 => ?_)
  have h65 : sx_c τ63 e0 = some (.inr (4, [.null, .null, .null, .null, .null, .int (nI 0), .int (nI c), .int (nI s)])) := h65
  have FF68 := h_F_u FF62 F64 (fun _ _ z => z) (by intro q hq hz; omega) (Nat.le_refl _) (Nat.le_refl _)
  refine sv_vret rfl dX5_init_18 ?_
  exact ⟨_, rfl, rfl, h65, h_F_w FF68 (fun _ _ z => z) (by omega) (by omega)⟩
theorem cq_ok {c : Nat} {s : Nat} : sx_Cr G 5 YX4_require [.ref pa, .int (b_I true), .int (nI c)] σ none σ := by
  refine sx_body (by decide) (Nat.le_of_ble_eq_true rfl) ?_
  refine sv_iload_n dX4_require_0 rfl ?_
  refine sv_if_neB (tgt := 17) dX4_require_1 (by decide) (fun c1 => ?_) (fun c1 => ?_)
  · refine sv_vret rfl dX4_require_17 ?_
    exact ⟨_, rfl, rfl, rfl⟩
  · exact absurd c1 (by decide)
theorem cq_no (hP : g_P G) {c s : Nat} (hp : sx_c σ pa = some (.inr (3, [.ref ps, .ref sel, .ref onl, v3, .int (nI s), v5, v6, v7, v8, v9, .ref x0]))) : sx_C G 5 YX4_require [.ref pa, .int (b_I false), .int (nI c)] σ (y_X c s σ) := by
  refine sx_body (by decide) (Nat.le_of_ble_eq_true rfl) ?_
  have FF0 : h_F (fun q => False) 0 0 σ σ := h_F_r
  refine sv_iload_n dX4_require_0 rfl ?_
  refine sv_if_neB (tgt := 17) dX4_require_1 (by decide) (fun c1 => ?_) (fun c1 => ?_)
  · exact absurd c1 (by decide)
  · refine sv_new fn_X4_100 dX4_require_4 ?_
    refine hs_al (fun e9 τ69 E74 F70 h71 N72 Z73 => ?_)
    have hp' := h_F_c F70 hp (fun z => z)
    have FF75 := h_F_u FF0 F70 (fun _ _ z => z) (fun _ _ z => z.elim) (Nat.le_refl _) (Nat.le_refl _)
    have h71 : sx_c τ69 e9 = some (.inr (4, [.null, .null, .null, .null, .null, .int (nI 0), .int (nI 0), .int (nI 0)])) := by rw [nI_0]; exact h71
    refine sv_dup dX4_require_7 rfl ?_
    refine sv_iload_n dX4_require_8 rfl ?_
    refine sv_aload_n dX4_require_9 rfl ?_
    refine sv_get fg_X4_58 dX4_require_10 (sx_rd_c hp') rfl ?_
    refine sv_ciP _ (cx_PE hP h71) okX5_init ki_X4_102 dX4_require_13 rfl rfl (by omega) (Nat.le_of_ble_eq_true rfl) ?_
    intro v79 τ77 hp78
    obtain ⟨rfl, hE9, F76⟩ := hp78
    have N80 := (F76).1.1
    have hp'' := h_F_c F76 hp' (e_kn hp' h71 rfl)
    have FF81 := h_F_u FF75 F76 (fun _ _ z => z) (by intro q hq hz; omega) (Nat.le_refl _) (Nat.le_refl _)
    refine sv_athrow (sx_rd_c hE9) rfl dX4_require_16 ?_
    refine sv_out (fun x hx => by cases hx) ?_
    exact ⟨_, rfl, hE9, h_F_w FF81 (fun _ _ z => z) (by omega) (by omega)⟩
theorem b_ain {lo hi : Nat} (hlh : lo ≤ hi) (h1 : hi < 128) (hb : b_B t) {i : Nat} (hil : i < t.length) : decide ((nI lo).toInt64 ≤ (t.getD i 0).toInt64 ∧ (t.getD i 0).toInt64 ≤ (nI hi).toInt64) = a_in (k_b t i) (nI lo) (nI hi) := by
  unfold a_in
  rw [decide_eq_decide]
  constructor
  · rintro ⟨g1, g2⟩
    rw [i64_le, Int32.le_iff_toInt_le, nI_toInt (by omega)] at g1 g2
    obtain ⟨e1, e2⟩ := i32_nat (x := t.getD i 0) (by omega)
    have e3 := (k_b_x hb hil (c := (t.getD i 0).toNatClampNeg) (by omega)).mpr e1
    rw [e3, i64_le, i64_le, Int32.le_iff_toInt_le, Int32.le_iff_toInt_le, nI_toInt (by omega), nI_toInt (by omega), nI_toInt (by omega)]
    omega
  · rintro ⟨g1, g2⟩
    rw [i64_le, Int32.le_iff_toInt_le, nI_toInt (by omega)] at g1 g2
    obtain ⟨e1, e2⟩ := i32_nat (x := k_b t i) (by omega)
    have e3 := (k_b_x hb hil (c := (k_b t i).toNatClampNeg) (by omega)).mp e1
    rw [e3, i64_le, i64_le, Int32.le_iff_toInt_le, Int32.le_iff_toInt_le, nI_toInt (by omega), nI_toInt (by omega), nI_toInt (by omega)]
    omega
theorem b_ain_n {lo hi : Nat} (h1 : hi < 128) (hlh : lo ≤ hi) {i : Nat} (hil : ¬ i < t.length) : a_in (k_b t i) (nI lo) (nI hi) = false := by
  rw [k_b_m1.mpr hil]
  unfold a_in
  refine decide_eq_false (fun z => ?_)
  have g := z.1
  rw [i64_le, Int32.le_iff_toInt_le, nI_toInt (by omega), show (-1 : Int32).toInt = -1 from rfl] at g
  omega
theorem cy_isAt {i lo hi : Nat} (hp : sx_c σ pa = some (.inr (3, [.ref ps, .ref sel, .ref onl, .int (nI i), v4, v5, v6, v7, v8, v9, .ref x0]))) (hI : k_I G σ x0 inp w0 w1 w2 w3 w6 w7 w8 t) (hb : b_B t) (hi7 : i ≤ t.length) (hlh : lo ≤ hi) (h1 : hi < 128) : sx_Cr G 1 YX4_isAt [.ref pa, .int (nI lo), .int (nI hi)] σ (some (.int (b_I (a_in (k_b t i) (nI lo) (nI hi))))) σ := by
  refine sx_body (by decide) (Nat.le_of_ble_eq_true rfl) ?_
  obtain ⟨hx, fi, hin, ht7, hfi⟩ := id hI
  refine sv_aload_n dX4_isAt_0 rfl ?_
  refine sv_get fg_X4_39 dX4_isAt_1 (sx_rd_c hp) rfl ?_
  refine sv_aload_n dX4_isAt_4 rfl ?_
  refine sv_get fg_X4_3 dX4_isAt_5 (sx_rd_c hp) rfl ?_
  refine sv_get fg_X4_43 dX4_isAt_8 (sx_rd_c hx) rfl ?_
  refine sv_icmp_geN (tgt := 41) dX4_isAt_11 (by decide) (by omega) (by omega) (fun c11 => ?_) (fun c11 => ?_)
  · have hv : nI 0 = b_I (a_in (k_b t i) (nI lo) (nI hi)) := by rw [b_ain_n h1 hlh (by omega)]; rfl
    refine sv_iconst (nI 0) dX4_isAt_41 (by decide +kernel) ?_
    refine sv_iret (by first | exact b_I_nar _ | rfl) rfl dX4_isAt_42 ?_
    exact ⟨_, rfl, r_I hv, rfl⟩
  · have hil : i < t.length := by omega
    refine sv_aload_n dX4_isAt_14 rfl ?_
    refine sv_get fg_X4_3 dX4_isAt_15 (sx_rd_c hp) rfl ?_
    refine sv_get fg_X4_46 dX4_isAt_18 (sx_rd_c hx) rfl ?_
    refine sv_aload_n dX4_isAt_21 rfl ?_
    refine sv_get fg_X4_39 dX4_isAt_22 (sx_rd_c hp) rfl ?_
    refine sv_bald dX4_isAt_25 (sx_rd_c hin) (vp_in_nI (by omega) (by omega)) ?_
    rw [nI_clamp (show i < 2 ^ 31 by omega)]
    refine sv_tI (y := t.getD i 0) (hfi i hil) ?_
    refine sv_i2l dX4_isAt_26 ?_
    refine sv_iload_n dX4_isAt_27 rfl ?_
    refine sv_i2l dX4_isAt_28 ?_
    refine sv_iload_n dX4_isAt_29 rfl ?_
    refine sv_i2l dX4_isAt_30 ?_
    refine sv_cnR _ cc_inRange okX1_inRange ks_X4_50 dX4_isAt_31 rfl rfl (by omega) (Nat.le_of_ble_eq_true rfl) ?_
    refine sv_if_eqB (tgt := 41) dX4_isAt_34 (by decide) (fun c34 => ?_) (fun c34 => ?_)
    · rw [b_ain hlh h1 hb hil] at c34
      have hv : nI 0 = b_I (a_in (k_b t i) (nI lo) (nI hi)) := by rw [c34]; rfl
      refine sv_iconst (nI 0) dX4_isAt_41 (by decide +kernel) ?_
      refine sv_iret (by first | exact b_I_nar _ | rfl) rfl dX4_isAt_42 ?_
      exact ⟨_, rfl, r_I hv, rfl⟩
    · rw [b_ain hlh h1 hb hil] at c34
      have hv : nI 1 = b_I (a_in (k_b t i) (nI lo) (nI hi)) := by rw [c34]; rfl
      refine sv_iconst (nI 1) dX4_isAt_37 (by decide +kernel) ?_
      refine sv_goto (tgt := 42) dX4_isAt_38 (by decide) ?_
      refine sv_iret (by first | exact b_I_nar _ | rfl) rfl dX4_isAt_42 ?_
      exact ⟨_, rfl, r_I hv, rfl⟩
end CPE
