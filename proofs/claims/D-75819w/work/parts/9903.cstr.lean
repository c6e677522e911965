set_option maxRecDepth 100000
section JB3
variable {G : sx_G} {σ τ ρ : sx_St} {sb sa cap : Nat} {O : List Int32}
theorem cb_ckl {a b : Nat} (h : a ≤ b) (hb : b < 2 ^ 31) : sx_Cr G 0 YJ13_checkLength [.int (nI a), .int (nI b)] σ none σ := by
  refine sx_body (by decide) (Nat.le_of_ble_eq_true rfl) ?_
  refine sv_iload_n dJ13_checkLength_0 rfl ?_
  refine sv_iload_n dJ13_checkLength_1 rfl ?_
  refine sv_icmp_geN (tgt := 37) dJ13_checkLength_2 (by decide) (by omega) (by omega) (fun c2 => ?_) (fun c2 => ?_)
  · refine sv_vret rfl dJ13_checkLength_37 ?_
    exact ⟨_, rfl, rfl, rfl⟩
  · exact absurd h c2
theorem cb_crb {a cap n : Nat} {f : Nat → Int32} (ha : sx_c σ a = some (.inl (sg_a G 2, cap, .inl f))) (hf : ∀ i, fits .byte (.int (f i)) = true) (hn : n ≤ cap) (hc : cap ≤ 200000) : sx_Cp G 1 YJ13_copyOfRangeByte [.ref a, .int (nI 0), .int (nI n)] σ (fun v τ => ∃ a2 g, v = some (.ref a2) ∧ sx_n σ ≤ a2 ∧ sx_c τ a2 = some (.inl (sg_a G 2, n, .inl g)) ∧ (∀ i, i < n → g i = f i) ∧ h_F (fun _ => False) 1 n σ τ) := by
  refine sx_body (by decide) (Nat.le_of_ble_eq_true rfl) ?_
  have FF0 : h_F (fun q => False) 0 0 σ σ := h_F_r
  refine sv_iload_n dJ13_copyOfRangeByte_0 rfl ?_
  refine sv_iload_n dJ13_copyOfRangeByte_1 rfl ?_
  refine sv_csR _ (cb_ckl (Nat.zero_le _) (by omega)) okJ13_checkLength ks_J13_343 dJ13_copyOfRangeByte_2 rfl rfl (by omega) (Nat.le_of_ble_eq_true rfl) ?_
  refine sv_iload_n dJ13_copyOfRangeByte_5 rfl ?_
  refine sv_iload_n dJ13_copyOfRangeByte_6 rfl ?_
  refine sv_isubN dJ13_copyOfRangeByte_7 (by omega) ?_
  refine sv_tI (y := nI n) rfl ?_
  refine sv_istore_n dJ13_copyOfRangeByte_8 (by decide) ?_
  refine sv_iload_n dJ13_copyOfRangeByte_9 rfl ?_
  refine sv_newa_byte n q295 dJ13_copyOfRangeByte_10 (nI_pos (by omega)) (nI_clamp (by omega)) (by omega) ?_
  refine hs_al (fun a1 τ2 E7 F3 h4 N5 Z6 => ?_)
  have e8 : a ≠ a1 := by have := sx_lt ha; omega
  have ha' := h_F_c F3 ha (fun z => z)
  have FF9 := h_F_u FF0 F3 (fun _ _ z => z) (fun _ _ z => z.elim) (Nat.le_refl _) (Nat.le_refl _)
  have h4 : sx_c τ2 a1 = some (.inl (sg_a G 2, n, .inl ((fun _ => 0)))) := h4
  refine sv_astore dJ13_copyOfRangeByte_12 (by decide) ?_
  refine sv_aload_n dJ13_copyOfRangeByte_14 rfl ?_
  refine sv_iload_n dJ13_copyOfRangeByte_15 rfl ?_
  refine sv_aload dJ13_copyOfRangeByte_16 rfl ?_
  refine sv_iconst (nI 0) dJ13_copyOfRangeByte_18 (by decide +kernel) ?_
  refine sv_aload_n dJ13_copyOfRangeByte_19 rfl ?_
  refine sv_alen 2 rfl (nI cap) dJ13_copyOfRangeByte_20 (sx_rd_c ha') rfl ?_
  refine sv_iload_n dJ13_copyOfRangeByte_21 rfl ?_
  refine sv_isubN dJ13_copyOfRangeByte_22 (by omega) ?_
  refine sv_tI (y := nI cap) rfl ?_
  refine sv_iload_n dJ13_copyOfRangeByte_23 rfl ?_
  refine sv_jmin q337 q338 q165 q339 dJ13_copyOfRangeByte_24 (by decide) (Nat.le_of_ble_eq_true rfl) ?_
  refine sv_tI (y := nI n) (by rw [nI_mn (by omega) (by omega), Nat.min_eq_right (by omega)]) ?_
  refine sv_copyI 2 q340 rfl rfl (sx_rd_c ha') h4 (nI_pos (by omega)) (nI_pos (by omega)) (nI_pos (by omega)) (by rw [(nI_clamp (show 0 < 2 ^ 31 by omega)), (nI_clamp (show n < 2 ^ 31 by omega))]; omega) (by rw [(nI_clamp (show 0 < 2 ^ 31 by omega)), (nI_clamp (show n < 2 ^ 31 by omega))]; omega) (fun i _ => hf _) dJ13_copyOfRangeByte_27 (by decide) (Nat.le_of_ble_eq_true rfl) ?_
  rw [(nI_clamp (show 0 < 2 ^ 31 by omega)), (nI_clamp (show n < 2 ^ 31 by omega))]
  refine hs_up h4 (fun τ10 F11 h12 N13 Z14 => ?_)
  have h12 : sx_c τ10 a1 = some (.inl (sg_a G 2, n, .inl ((va_cpy f ((fun _ => 0)) 0 0 n)))) := h12
  have ha'' := h_F_c F11 ha' e8
  have FF15 := h_F_u FF9 F11 (fun _ _ z => z) (by intro q hq hz; omega) (Nat.le_refl _) (Nat.le_refl _)
  refine sv_aload dJ13_copyOfRangeByte_30 rfl ?_
  refine sv_aret (Or.inr ⟨_, rfl⟩) (Or.inr ⟨_, rfl⟩) rfl dJ13_copyOfRangeByte_32 ?_
  exact ⟨_, rfl, _, _, rfl, by omega, h12, fun i hi => by unfold va_cpy; rw [if_pos ⟨by omega, by omega⟩, Nat.zero_add, Nat.sub_zero], h_F_w FF15 (fun _ _ z => z) (by omega) (by omega)⟩
theorem cb_cr {a cap n : Nat} {f : Nat → Int32} (ha : sx_c σ a = some (.inl (sg_a G 2, cap, .inl f))) (hf : ∀ i, fits .byte (.int (f i)) = true) (hn : n ≤ cap) (hc : cap ≤ 200000) : sx_Cp G 2 YJ13_copyOfRange [.ref a, .int (nI 0), .int (nI n)] σ (fun v τ => ∃ a2 g, v = some (.ref a2) ∧ sx_n σ ≤ a2 ∧ sx_c τ a2 = some (.inl (sg_a G 2, n, .inl g)) ∧ (∀ i, i < n → g i = f i) ∧ h_F (fun _ => False) 1 n σ τ) := by
  refine sx_body (by decide) (Nat.le_of_ble_eq_true rfl) ?_
  have FF0 : h_F (fun q => False) 0 0 σ σ := h_F_r
  refine sv_iload_n dJ13_copyOfRange_0 rfl ?_
  refine sv_if_neN (tgt := 10) dJ13_copyOfRange_1 (by decide) (by omega) (fun c1 => ?_) (fun c1 => ?_)
  · exact absurd c1 (by omega)
  · refine sv_iload_n dJ13_copyOfRange_4 rfl ?_
    refine sv_aload_n dJ13_copyOfRange_5 rfl ?_
    refine sv_alen 2 rfl (nI cap) dJ13_copyOfRange_6 (sx_rd_c ha) rfl ?_
    refine sv_icmp_eqN (tgt := 17) dJ13_copyOfRange_7 (by decide) (by omega) (by omega) (fun c7 => ?_) (fun c7 => ?_)
    · refine sv_aload_n dJ13_copyOfRange_17 rfl ?_
      refine sv_clone 2 rfl (sx_rd_c ha) rfl (by decide) (fun i _ => hf i) q330 q331 q332 q333 q334 q335 dJ13_copyOfRange_18 (by decide) (Nat.le_of_ble_eq_true rfl) ?_
      refine hs_al (fun a16 τ17 E22 F18 h19 N20 Z21 => ?_)
      have e23 : a ≠ a16 := by have := sx_lt ha; omega
      have ha' := h_F_c F18 ha (fun z => z)
      have FF24 := h_F_u FF0 F18 (fun _ _ z => z) (fun _ _ z => z.elim) (Nat.le_refl _) (Nat.le_refl _)
      have h19 : sx_c τ17 a16 = some (.inl (sg_a G 2, cap, .inl f)) := h19
      refine sv_castA 2 rfl (by decide) (sx_rd_c h19) q336 dJ13_copyOfRange_21 ?_
      refine sv_aret (Or.inr ⟨_, rfl⟩) (Or.inr ⟨_, rfl⟩) rfl dJ13_copyOfRange_24 ?_
      subst c7
      exact ⟨_, rfl, a16, f, rfl, by omega, h19, fun i hi => rfl, h_F_w FF24 (fun _ _ z => z) (by omega) (by omega)⟩
    · refine sv_aload_n dJ13_copyOfRange_10 rfl ?_
      refine sv_iload_n dJ13_copyOfRange_11 rfl ?_
      refine sv_iload_n dJ13_copyOfRange_12 rfl ?_
      refine sv_csP _ (cb_crb ha hf hn hc) okJ13_copyOfRangeByte ks_J13_339 dJ13_copyOfRange_13 rfl rfl (by omega) (Nat.le_of_ble_eq_true rfl) ?_
      intro v28 τ26 hp27
      obtain ⟨a2, g2, rfl, h1, h2, h3, F25⟩ := hp27
      have N29 := (F25).1.1
      have ha' := h_F_c F25 ha (fun z => z)
      have FF30 := h_F_u FF0 F25 (fun _ _ z => z) (fun _ _ z => z.elim) (Nat.le_refl _) (Nat.le_refl _)
      refine sv_aret (Or.inr ⟨_, rfl⟩) (Or.inr ⟨_, rfl⟩) rfl dJ13_copyOfRange_16 ?_
      exact ⟨_, rfl, a2, g2, rfl, h1, h2, h3, h_F_w FF30 (fun _ _ z => z) (by omega) (by omega)⟩
/-- a string of the run's own, fresh: its bytes -/
def k_Sf (G : sx_G) (σ : sx_St) (nm nb : Nat) (B : List Int32) : Prop := ∃ f, sx_c σ nm = some (.inr (12, [.ref nb, .int (nI 0), .int (nI 0), .int (b_I false)])) ∧ sx_c σ nb = some (.inl (sg_a G 2, B.length, .inl f)) ∧ ∀ i, i < B.length → f i = B.getD i 0
theorem cb_si2 (hC : g_C G) (hU : k_U G σ sb sa cap O) {nm : Nat} (hn0 : sx_c σ nm = some (.inr (12, [.null, .int (nI 0), .int (nI 0), .int (b_I false)]))) : sx_Cp G 4 YJ9_init_2 [.ref nm, .ref sb, .null] σ (fun v τ => v = none ∧ ∃ nb, sx_n σ ≤ nb ∧ k_Sf G τ nm nb O ∧ h_F (fun q => q = nm) 1 O.length σ τ) := by
  refine sx_body (by decide) (Nat.le_of_ble_eq_true rfl) ?_
  have hU0 := hU
  obtain ⟨fo, z0, hsb, hsa, hle, hcp, hfo, hfi⟩ := hU
  have FF0 : h_F (fun q => q = nm) 0 0 σ σ := h_F_r
  refine sv_aload_n dJ9_init_2_0 rfl ?_
  refine sv_oi q454 q194 q195 dJ9_init_2_1 (by decide) (Nat.le_of_ble_eq_true rfl) ?_
  refine sv_aload_n dJ9_init_2_4 rfl ?_
  refine sv_cuR (x := yJ7_getValue) _ (cb_gv hU0) okJ7_getValue rfl (sx_rd_c hsb) rfl rfl q455 q457 q456 q458 dJ9_init_2_5 rfl rfl (by omega) (Nat.le_of_ble_eq_true rfl) ?_
  refine sv_astore_n dJ9_init_2_8 (by decide) ?_
  refine sv_aload_n dJ9_init_2_9 rfl ?_
  refine sv_coR (x := yJ7_length) _ (cb_len hU0) okJ8_length rfl (sx_rd_c hsb) rfl q467 (by decide) rfl q460 q462 q461 q464 q463 dJ9_init_2_10 rfl rfl (by omega) (Nat.le_of_ble_eq_true rfl) ?_
  refine sv_istore dJ9_init_2_13 (by decide) ?_
  refine sv_aload_n dJ9_init_2_15 rfl ?_
  refine sv_cuR (x := yJ7_isLatin1) _ (cb_lat hC hU0) okJ7_isLatin1 rfl (sx_rd_c hsb) rfl rfl q468 q345 q344 q346 dJ9_init_2_16 rfl rfl (by omega) (Nat.le_of_ble_eq_true rfl) ?_
  refine sv_if_eqB (tgt := 41) dJ9_init_2_19 (by decide) (fun c19 => ?_) (fun c19 => ?_)
  · exact absurd c19 (by decide)
  · refine sv_aload_n dJ9_init_2_22 rfl ?_
    refine sv_iconst (nI 0) dJ9_init_2_23 (by decide +kernel) ?_
    refine sv_put fp_J9_15 dJ9_init_2_24 hn0 rfl rfl (Nat.le_of_ble_eq_true rfl) ?_
    refine hs_up hn0 (fun τ31 F32 h33 N34 Z35 => ?_)
    have h33 : sx_c τ31 nm = some (.inr (12, [.null, .int (nI 0), .int (nI 0), .int (b_I false)])) := h33
    have hsb' := h_F_c F32 hsb (e_kn hsb hn0 rfl)
    have hsa' := h_F_c F32 hsa (e_kn hsa hn0 rfl)
    have FF36 := h_F_u FF0 F32 (fun _ _ z => z) (by intro q hq hz; omega) (Nat.le_refl _) (Nat.le_refl _)
    refine sv_aload_n dJ9_init_2_27 rfl ?_
    refine sv_aload_n dJ9_init_2_28 rfl ?_
    refine sv_iconst (nI 0) dJ9_init_2_29 (by decide +kernel) ?_
    refine sv_iload dJ9_init_2_30 rfl ?_
    refine sv_csP _ (cb_cr hsa' hfi hle (by omega)) okJ13_copyOfRange ks_J9_54 dJ9_init_2_32 rfl rfl (by omega) (Nat.le_of_ble_eq_true rfl) ?_
    intro v40 τ38 hp39
    obtain ⟨a2, g2, rfl, h1, h2, h3, F37⟩ := hp39
    have N41 := (F37).1.1
    have hsb'' := h_F_c F37 hsb' (fun z => z)
    have hsa'' := h_F_c F37 hsa' (fun z => z)
    have h33' := h_F_c F37 h33 (fun z => z)
    have FF42 := h_F_u FF36 F37 (fun _ _ z => z) (fun _ _ z => z.elim) (Nat.le_refl _) (Nat.le_refl _)
    refine sv_put fp_J9_9 dJ9_init_2_35 h33' rfl rfl (Nat.le_of_ble_eq_true rfl) ?_
    refine hs_up h33' (fun τ43 F44 h45 N46 Z47 => ?_)
    have h45 : sx_c τ43 nm = some (.inr (12, [.ref a2, .int (nI 0), .int (nI 0), .int (b_I false)])) := h45
    have hsb''' := h_F_c F44 hsb'' (e_kn hsb'' h33' rfl)
    have hsa''' := h_F_c F44 hsa'' (e_kn hsa'' h33' rfl)
    have h2' := h_F_c F44 h2 (e_kn h2 h33' rfl)
    have FF48 := h_F_u FF42 F44 (fun _ _ z => z) (by intro q hq hz; omega) (Nat.le_refl _) (Nat.le_refl _)
    refine sv_goto (tgt := 97) dJ9_init_2_38 (by decide) ?_
    refine sv_vret rfl dJ9_init_2_97 ?_
    exact ⟨_, rfl, rfl, a2, by omega, ⟨_, h45, h2', fun i hi => (h3 i hi).trans (hfo i hi)⟩, h_F_w FF48 (fun _ _ z => z) (by omega) (by omega)⟩
theorem cb_si (hC : g_C G) (hU : k_U G σ sb sa cap O) {nm : Nat} (hn0 : sx_c σ nm = some (.inr (12, [.null, .int (nI 0), .int (nI 0), .int (b_I false)]))) : sx_Cp G 5 YJ9_init [.ref nm, .ref sb] σ (fun v τ => v = none ∧ ∃ nb, sx_n σ ≤ nb ∧ k_Sf G τ nm nb O ∧ h_F (fun q => q = nm) 1 O.length σ τ) := by
  refine sx_body (by decide) (Nat.le_of_ble_eq_true rfl) ?_
  have hU0 := hU
  obtain ⟨fo, z0, hsb, hsa, hle, hcp, hfo, hfi⟩ := hU
  refine sv_aload_n dJ9_init_0 rfl ?_
  refine sv_aload_n dJ9_init_1 rfl ?_
  refine sv_null dJ9_init_2 ?_
  refine sv_ciP _ (cb_si2 hC hU0 hn0) okJ9_init_2 ki_J9_489 dJ9_init_3 rfl rfl (by omega) (Nat.le_of_ble_eq_true rfl) ?_
  intro v52 τ50 hp51
  obtain ⟨rfl, nb, h1, h2, F49⟩ := hp51
  have N53 := (F49).1.1
  have hsb' := h_F_c F49 hsb (e_kn hsb hn0 rfl)
  have hsa' := h_F_c F49 hsa (e_kn hsa hn0 rfl)
  refine sv_vret rfl dJ9_init_6 ?_
  exact ⟨_, rfl, rfl, nb, h1, h2, F49⟩
theorem cb_str (hC : g_C G) (hU : k_U G σ sb sa cap O) : sx_Cp G 6 YJ8_toString [.ref sb] σ (fun v τ => ∃ nm nb, v = some (.ref nm) ∧ sx_n σ ≤ nm ∧ sx_n σ ≤ nb ∧ k_Sf G τ nm nb O ∧ h_F (fun _ => False) 2 (O.length + 4) σ τ) := by
  refine sx_body (by decide) (Nat.le_of_ble_eq_true rfl) ?_
  have hU0 := hU
  obtain ⟨fo, z0, hsb, hsa, hle, hcp, hfo, hfi⟩ := hU
  have FF0 : h_F (fun q => False) 0 0 σ σ := h_F_r
  refine sv_new fn_J8_18 dJ8_toString_0 ?_
  refine hs_al (fun nm τ54 E59 F55 h56 N57 Z58 => ?_)
  have hsb' := h_F_c F55 hsb (fun z => z)
  have hsa' := h_F_c F55 hsa (fun z => z)
  have FF60 := h_F_u FF0 F55 (fun _ _ z => z) (fun _ _ z => z.elim) (Nat.le_refl _) (Nat.le_refl _)
  have h56 : sx_c τ54 nm = some (.inr (12, [.null, .int (nI 0), .int (nI 0), .int (b_I false)])) := by rw [nI_0, b_I_f]; exact h56
  refine sv_dup dJ8_toString_3 rfl ?_
  refine sv_aload_n dJ8_toString_4 rfl ?_
  refine sv_ciP _ (cb_si hC (k_U_fr F55 hU0 (fun z => z) (fun z => z)) h56) okJ9_init ki_J8_137 dJ8_toString_5 rfl rfl (by omega) (Nat.le_of_ble_eq_true rfl) ?_
  intro v64 τ62 hp63
  obtain ⟨rfl, nb, h1, h2, F61⟩ := hp63
  have N65 := (F61).1.1
  have hsb'' := h_F_c F61 hsb' (e_kn hsb' h56 rfl)
  have hsa'' := h_F_c F61 hsa' (e_kn hsa' h56 rfl)
  have FF66 := h_F_u FF60 F61 (fun _ _ z => z) (by intro q hq hz; omega) (Nat.le_refl _) (Nat.le_refl _)
  refine sv_aret (Or.inr ⟨_, rfl⟩) (Or.inl ⟨_, rfl⟩) rfl dJ8_toString_8 ?_
  exact ⟨_, rfl, nm, nb, rfl, by omega, by omega, h2, h_F_w FF66 (fun _ _ z => z) (by omega) (by omega)⟩
/-- a string: its bytes; own or constant -/
def k_Sr (G : sx_G) (σ : sx_St) (nm : Nat) (B : List Int32) : Prop := ∃ (nb : Nat) (h : Int32) (z : Bool) (f : Nat → Int32), sx_rd G σ nm (.inr (12, [.ref nb, .int (nI 0), .int h, .int (b_I z)])) ∧ sx_rd G σ nb (.inl (sg_a G 2, B.length, .inl f)) ∧ B.length ≤ 100000 ∧ ∀ i, i < B.length → f i = B.getD i 0
theorem cs_cod (hC : g_C G) {a : Nat} {B : List Int32} (hSa : k_Sr G σ a B) : sx_Cr G 0 YJ9_coder [.ref a] σ (some (.int (nI 0))) σ := by
  refine sx_body (by decide) (Nat.le_of_ble_eq_true rfl) ?_
  obtain ⟨nba, hha, zza, fa, ha, hba, hla, hfa⟩ := id hSa
  refine sv_gets 6 rfl q382 dJ9_coder_0 ?_
  rw [hC.1]
  refine sv_if_eq (tgt := 13) dJ9_coder_3 (by decide) (fun c3 => ?_) (fun c3 => ?_)
  · exact absurd c3 (by decide)
  · refine sv_aload_n dJ9_coder_6 rfl ?_
    refine sv_get fg_J9_15 dJ9_coder_7 ha rfl ?_
    refine sv_goto (tgt := 14) dJ9_coder_10 (by decide) ?_
    refine sv_iret (by rfl) rfl dJ9_coder_14 ?_
    exact ⟨_, rfl, rfl, rfl⟩
theorem cs_len (hC : g_C G) {a : Nat} {B : List Int32} (hSa : k_Sr G σ a B) : sx_Cr G 1 YJ9_length [.ref a] σ (some (.int (nI B.length))) σ := by
  refine sx_body (by decide) (Nat.le_of_ble_eq_true rfl) ?_
  obtain ⟨nba, hha, zza, fa, ha, hba, hla, hfa⟩ := id hSa
  refine sv_aload_n dJ9_length_0 rfl ?_
  refine sv_get fg_J9_9 dJ9_length_1 ha rfl ?_
  refine sv_alen 2 rfl (nI B.length) dJ9_length_4 hba rfl ?_
  refine sv_aload_n dJ9_length_5 rfl ?_
  refine sv_cvR _ (cs_cod hC hSa) okJ9_coder kv_J9_335 ha rfl dJ9_length_6 rfl rfl (by omega) (Nat.le_of_ble_eq_true rfl) ?_
  refine sv_ishr dJ9_length_9 ?_
  refine sv_tI (y := nI B.length) (nI_shr0 _) ?_
  refine sv_iret rfl rfl dJ9_length_10 ?_
  exact ⟨_, rfl, rfl, rfl⟩
theorem cs_lat (hC : g_C G) {a : Nat} {B : List Int32} (hSa : k_Sr G σ a B) : sx_Cr G 0 YJ9_isLatin1 [.ref a] σ (some (.int (b_I true))) σ := by
  refine sx_body (by decide) (Nat.le_of_ble_eq_true rfl) ?_
  obtain ⟨nba, hha, zza, fa, ha, hba, hla, hfa⟩ := id hSa
  refine sv_gets 6 rfl q382 dJ9_isLatin1_0 ?_
  rw [hC.1]
  refine sv_if_eq (tgt := 17) dJ9_isLatin1_3 (by decide) (fun c3 => ?_) (fun c3 => ?_)
  · exact absurd c3 (by decide)
  · refine sv_aload_n dJ9_isLatin1_6 rfl ?_
    refine sv_get fg_J9_15 dJ9_isLatin1_7 ha rfl ?_
    refine sv_if_neN (tgt := 17) dJ9_isLatin1_10 (by decide) (by omega) (fun c10 => ?_) (fun c10 => ?_)
    · exact absurd c10 (by omega)
    · refine sv_iconst (nI 1) dJ9_isLatin1_13 (by decide +kernel) ?_
      refine sv_goto (tgt := 18) dJ9_isLatin1_14 (by decide) ?_
      refine sv_iret (by first | exact b_I_nar _ | rfl) rfl dJ9_isLatin1_18 ?_
      exact ⟨_, rfl, r_I (by decide +kernel), rfl⟩
theorem cs_chr15 (hC : g_C G) {nba : Nat} {B : List Int32} {fa : Nat → Int32} (hba : sx_rd G σ nba (.inl (sg_a G 2, B.length, .inl fa))) (hl : B.length ≤ 100000) (hfa : ∀ i, i < B.length → fa i = B.getD i 0) {i : Nat} (hi : i < B.length) : sx_Cr G 2 YJ15_charAt [.ref nba, .int (nI i)] σ (some (.int (B.getD i 0 &&& 255))) σ := by
  refine sx_body (by decide) (Nat.le_of_ble_eq_true rfl) ?_
  refine sv_iload_n dJ15_charAt_0 rfl ?_
  refine sv_aload_n dJ15_charAt_1 rfl ?_
  refine sv_alen 2 rfl (nI B.length) dJ15_charAt_2 hba rfl ?_
  refine sv_csR _ (cb_cki hC hi (by omega)) okJ9_checkIndex ks_J15_9 dJ15_charAt_3 rfl rfl (by omega) (Nat.le_of_ble_eq_true rfl) ?_
  refine sv_aload_n dJ15_charAt_6 rfl ?_
  refine sv_iload_n dJ15_charAt_7 rfl ?_
  refine sv_bald dJ15_charAt_8 hba (vp_in_nI (by omega) (by omega)) ?_
  rw [nI_clamp (show i < 2 ^ 31 by omega)]
  refine sv_tI (y := B.getD i 0) (hfa i hi) ?_
  refine sv_sipush (nI 255) dJ15_charAt_9 (by decide +kernel) ?_
  refine sv_tI (y := 255) (by decide +kernel) ?_
  refine sv_iand dJ15_charAt_12 ?_
  refine sv_i2c dJ15_charAt_13 ?_
  refine sv_tI (y := B.getD i 0 &&& 255) (i2c_255 _) ?_
  refine sv_iret (ch_nar _) rfl dJ15_charAt_14 ?_
  exact ⟨_, rfl, rfl, rfl⟩
theorem cs_chr (hC : g_C G) {a : Nat} {B : List Int32} (hSa : k_Sr G σ a B) {i : Nat} (hi : i < B.length) : sx_Cr G 3 YJ9_charAt [.ref a, .int (nI i)] σ (some (.int (B.getD i 0 &&& 255))) σ := by
  refine sx_body (by decide) (Nat.le_of_ble_eq_true rfl) ?_
  obtain ⟨nba, hha, zza, fa, ha, hba, hla, hfa⟩ := id hSa
  refine sv_aload_n dJ9_charAt_0 rfl ?_
  refine sv_cvR _ (cs_lat hC hSa) okJ9_isLatin1 kv_J9_492 ha rfl dJ9_charAt_1 rfl rfl (by omega) (Nat.le_of_ble_eq_true rfl) ?_
  refine sv_if_eqB (tgt := 16) dJ9_charAt_4 (by decide) (fun c4 => ?_) (fun c4 => ?_)
  · exact absurd c4 (by decide)
  · refine sv_aload_n dJ9_charAt_7 rfl ?_
    refine sv_get fg_J9_9 dJ9_charAt_8 ha rfl ?_
    refine sv_iload_n dJ9_charAt_11 rfl ?_
    refine sv_csR _ (cs_chr15 hC hba hla hfa hi) okJ15_charAt ks_J9_495 dJ9_charAt_12 rfl rfl (by omega) (Nat.le_of_ble_eq_true rfl) ?_
    refine sv_iret (ch_nar _) rfl dJ9_charAt_15 ?_
    exact ⟨_, rfl, rfl, rfl⟩
theorem l_ext {A B : List Int32} (hl : A.length = B.length) (h : ∀ i, i < A.length → A.getD i 0 = B.getD i 0) : A = B := by
  apply List.ext_getElem hl
  intro i h1 h2
  have := h i h1
  rw [List.getD_eq_getElem?_getD, List.getD_eq_getElem?_getD, List.getElem?_eq_getElem h1, List.getElem?_eq_getElem h2] at this
  exact this
theorem cs_eq15 {na nb : Nat} {A B : List Int32} {fa fb : Nat → Int32} (hba : sx_rd G σ na (.inl (sg_a G 2, A.length, .inl fa))) (hbb : sx_rd G σ nb (.inl (sg_a G 2, B.length, .inl fb))) (hla : A.length ≤ 100000) (hlb : B.length ≤ 100000) (hfa : ∀ i, i < A.length → fa i = A.getD i 0) (hfb : ∀ i, i < B.length → fb i = B.getD i 0) : sx_Cr G 0 YJ15_equals [.ref na, .ref nb] σ (some (.int (b_I (decide (A = B))))) σ := by
  have loop : ∀ r k, A.length = B.length → k ≤ A.length → A.length + 1 ≤ k + r → (∀ j, j < k → A.getD j 0 = B.getD j 0) → sx_V G 0 YJ15_equals 9 [some (.ref na), some (.ref nb), some (.int (nI k))] [] σ (fun o τ => ∃ v, o = .inl v ∧ v = some (.int (b_I (decide (A = B)))) ∧ τ = σ) := by
    intro r
    induction r with
    | zero => intro k h0 h1 h2; omega
    | succ r ih =>
    intro k h0 h1 h2 h3
    refine sv_iload_n dJ15_equals_9 rfl ?_
    refine sv_aload_n dJ15_equals_10 rfl ?_
    refine sv_alen 2 rfl (nI A.length) dJ15_equals_11 hba rfl ?_
    refine sv_icmp_geN (tgt := 32) dJ15_equals_12 (by decide) (by omega) (by omega) (fun c12 => ?_) (fun c12 => ?_)
    · refine sv_iconst (nI 1) dJ15_equals_32 (by decide +kernel) ?_
      refine sv_iret (by first | exact b_I_nar _ | rfl) rfl dJ15_equals_33 ?_
      exact ⟨_, rfl, r_I (by rw [decide_eq_true (l_ext h0 (fun i hi => h3 i (by omega)))]; decide +kernel), rfl⟩
    · refine sv_aload_n dJ15_equals_15 rfl ?_
      refine sv_iload_n dJ15_equals_16 rfl ?_
      refine sv_bald dJ15_equals_17 hba (vp_in_nI (by omega) (by omega)) ?_
      rw [nI_clamp (show k < 2 ^ 31 by omega)]
      refine sv_aload_n dJ15_equals_18 rfl ?_
      refine sv_iload_n dJ15_equals_19 rfl ?_
      refine sv_bald dJ15_equals_20 hbb (vp_in_nI (by omega) (by omega)) ?_
      rw [nI_clamp (show k < 2 ^ 31 by omega)]
      refine sv_icmp_eq (tgt := 26) dJ15_equals_21 (by decide) (fun c21 => ?_) (fun c21 => ?_)
      · refine sv_iincN dJ15_equals_26 rfl (by decide) ?_
        refine sv_goto (tgt := 9) dJ15_equals_29 (by decide) ?_
        exact ih (k + 1) h0 (by omega) (by omega) (fun j hj => by
          by_cases hjk : j = k
          · rw [hjk, ← hfa k (by omega), ← hfb k (by omega)]; exact c21
          · exact h3 j (by omega))
      · refine sv_iconst (nI 0) dJ15_equals_24 (by decide +kernel) ?_
        refine sv_iret (by first | exact b_I_nar _ | rfl) rfl dJ15_equals_25 ?_
        exact ⟨_, rfl, r_I (by rw [decide_eq_false (fun z => c21 (by rw [hfa k (by omega), hfb k (by omega), z]))]; decide +kernel), rfl⟩
  refine sx_body (by decide) (Nat.le_of_ble_eq_true rfl) ?_
  refine sv_aload_n dJ15_equals_0 rfl ?_
  refine sv_alen 2 rfl (nI A.length) dJ15_equals_1 hba rfl ?_
  refine sv_aload_n dJ15_equals_2 rfl ?_
  refine sv_alen 2 rfl (nI B.length) dJ15_equals_3 hbb rfl ?_
  refine sv_icmp_neN (tgt := 34) dJ15_equals_4 (by decide) (by omega) (by omega) (fun c4 => ?_) (fun c4 => ?_)
  · refine sv_iconst (nI 0) dJ15_equals_34 (by decide +kernel) ?_
    refine sv_iret (by first | exact b_I_nar _ | rfl) rfl dJ15_equals_35 ?_
    exact ⟨_, rfl, r_I (by rw [decide_eq_false (fun z => c4 (by rw [z]))]; decide +kernel), rfl⟩
  · refine sv_iconst (nI 0) dJ15_equals_7 (by decide +kernel) ?_
    refine sv_istore_n dJ15_equals_8 (by decide) ?_
    exact loop (A.length + 1) 0 c4 (by omega) (by omega) (fun j hj => absurd hj (Nat.not_lt_zero j))
theorem cs_eq (hC : g_C G) {a b : Nat} {A B : List Int32} (hSa : k_Sr G σ a A) (hSb : k_Sr G σ b B) (hab : a = b → A = B) : sx_Cr G 1 YJ9_equals [.ref a, .ref b] σ (some (.int (b_I (decide (A = B))))) σ := by
  refine sx_body (by decide) (Nat.le_of_ble_eq_true rfl) ?_
  obtain ⟨nba, hha, zza, fa, ha, hba, hla, hfa⟩ := id hSa
  obtain ⟨nbb, hhb, zzb, fb, hb, hbb, hlb, hfb⟩ := id hSb
  refine sv_aload_n dJ9_equals_0 rfl ?_
  refine sv_aload_n dJ9_equals_1 rfl ?_
  refine sv_acmp_ne (rx := (some a)) (ry := (some b)) (tgt := 7) dJ9_equals_2 (by decide) (fun c2 => ?_) (fun c2 => ?_)
  · refine sv_aload_n dJ9_equals_7 rfl ?_
    refine sv_instS hb rfl q795 dJ9_equals_8 ?_
    refine sv_if_eq (tgt := 54) dJ9_equals_11 (by decide) (fun c11 => ?_) (fun c11 => ?_)
    · exact absurd c11 (by decide)
    · refine sv_aload_n dJ9_equals_14 rfl ?_
      refine sv_cast (C0 := "") hb rfl q795 dJ9_equals_15 ?_
      refine sv_astore_n dJ9_equals_18 (by decide) ?_
      refine sv_gets 6 rfl q382 dJ9_equals_19 ?_
      rw [hC.1]
      refine sv_if_eq (tgt := 36) dJ9_equals_22 (by decide) (fun c22 => ?_) (fun c22 => ?_)
      · exact absurd c22 (by decide)
      · refine sv_aload_n dJ9_equals_25 rfl ?_
        refine sv_get fg_J9_15 dJ9_equals_26 ha rfl ?_
        refine sv_aload_n dJ9_equals_29 rfl ?_
        refine sv_get fg_J9_15 dJ9_equals_30 hb rfl ?_
        refine sv_icmp_neN (tgt := 54) dJ9_equals_33 (by decide) (by omega) (by omega) (fun c33 => ?_) (fun c33 => ?_)
        · exact absurd rfl c33
        · refine sv_aload_n dJ9_equals_36 rfl ?_
          refine sv_get fg_J9_9 dJ9_equals_37 ha rfl ?_
          refine sv_aload_n dJ9_equals_40 rfl ?_
          refine sv_get fg_J9_9 dJ9_equals_41 hb rfl ?_
          refine sv_csR _ (cs_eq15 hba hbb hla hlb hfa hfb) okJ15_equals ks_J9_541 dJ9_equals_44 rfl rfl (by omega) (Nat.le_of_ble_eq_true rfl) ?_
          refine sv_if_eqB (tgt := 54) dJ9_equals_47 (by decide) (fun c47 => ?_) (fun c47 => ?_)
          · refine sv_iconst (nI 0) dJ9_equals_54 (by decide +kernel) ?_
            refine sv_iret (by first | exact b_I_nar _ | rfl) rfl dJ9_equals_55 ?_
            first
            | exact ⟨_, rfl, r_I (by rw [c47]; decide +kernel), rfl⟩
          · refine sv_iconst (nI 1) dJ9_equals_50 (by decide +kernel) ?_
            refine sv_goto (tgt := 55) dJ9_equals_51 (by decide) ?_
            refine sv_iret (by first | exact b_I_nar _ | rfl) rfl dJ9_equals_55 ?_
            first
            | exact ⟨_, rfl, r_I (by rw [c47]; decide +kernel), rfl⟩
  · refine sv_iconst (nI 1) dJ9_equals_5 (by decide +kernel) ?_
    refine sv_iret (by first | exact b_I_nar _ | rfl) rfl dJ9_equals_6 ?_
    exact ⟨_, rfl, r_I (by rw [decide_eq_true (hab (Option.some.inj c2))]; decide +kernel), rfl⟩
end JB3
