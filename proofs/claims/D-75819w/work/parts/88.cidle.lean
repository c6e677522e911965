set_option maxRecDepth 100000
section CTO
variable {G : sx_G} {σ τ : sx_St} {ow : Nat → Nat} {a lo nl cap : Nat} {Λ : Nat → Nat → Nat → Nat} {A : a_A} {V : a_V}
theorem ti_s {q k : Nat} {B : a_A} : s_ti (q + 1) B k = if k < (A_v B).2.2.length then s_ti q (if a_id (A_v B) k then s_te B k true else B) (k + 1) else B := rfl
theorem cc_tellIdle (hJ : c_J G lo σ ow a Λ nl cap A) (hlen : (A_n A).length + 700 ≤ 5000) : sx_Cp G 10 YX2_tellIdle [.ref a, .ref nl] σ (fun v ρ => v = none ∧ ∃ ow3 cap3, c_J G lo ρ ow3 a Λ nl cap3 (s_ti 5 A 0) ∧ c_T lo σ ρ A (s_ti 5 A 0) cap cap3) := by
  have loop : ∀ q k (τ : sx_St) (ow2 : Nat → Nat) (cap2 : Nat) (B : a_A) (x : Int32), c_J G lo τ ow2 a Λ nl cap2 B → k ≤ (A_v B).2.2.length → (A_v B).2.2.length + 1 ≤ k + q → (A_n B).length + 123 * q ≤ 5000 → sx_V G 10 YX2_tellIdle 4 [some (.ref a), some (.ref nl), some (.int x), some (.int (nI k))] [] τ (fun o ρ => ∃ v, o = .inl v ∧ (v = none ∧ ∃ ow3 cap3, c_J G lo ρ ow3 a Λ nl cap3 (s_ti q B k) ∧ c_T lo τ ρ B (s_ti q B k) cap2 cap3)) := by
    intro q
    induction q with
    | zero => intro k τ ow2 cap2 B x h1 h2 h3; omega
    | succ q ih =>
    intro k τ ow2 cap2 B x hJ2 hk1 hk2 hn2
    have hns2 := hJ2.2.2.1.1.2.1
    obtain ⟨hv1, hv2, hv3, hv4, hv5⟩ := id hJ2.1.1
    obtain ⟨mcb, fb, hlb, hab, b1, b2, b3, -⟩ := id hv2
    obtain ⟨mcs, fs, hls, has, s1, s2, s3, -⟩ := id hv3
    refine sv_iload_n dX2_tellIdle_4 rfl ?_
    refine sv_aload_n dX2_tellIdle_5 rfl ?_
    refine sv_get fg_X2_20 dX2_tellIdle_6 (sx_rd_c hv1) rfl ?_
    refine sv_cvR _ (cj_size hv3) okJ2_size kv_X2_27 (sx_rd_c hls) rfl dX2_tellIdle_9 rfl rfl (by omega) (Nat.le_of_ble_eq_true rfl) ?_
    refine sv_icmp_geN (tgt := 48) dX2_tellIdle_12 (by decide) (by omega) (by omega) (fun c12 => ?_) (fun c12 => ?_)
    · have hg : s_ti (q + 1) B k = B := by rw [ti_s, if_neg (by omega)]
      refine sv_vret rfl dX2_tellIdle_48 ?_
      rw [hg]
      exact ⟨_, rfl, rfl, ow2, cap2, hJ2, c_T_r⟩
    · refine sv_aload_n dX2_tellIdle_15 rfl ?_
      refine sv_get fg_X2_20 dX2_tellIdle_16 (sx_rd_c hv1) rfl ?_
      refine sv_iload_n dX2_tellIdle_19 rfl ?_
      refine sv_cvR _ (cj_get hv3 (i := k) (by omega)) okJ2_get kv_X2_33 (sx_rd_c hls) rfl dX2_tellIdle_20 rfl rfl (by omega) (Nat.le_of_ble_eq_true rfl) ?_
      obtain ⟨fu, ft, fa, hso, hu, ht, hac, ⟨n1, n2, n3⟩, hl, eu, et, ea⟩ := k_V_ses hJ2.1.1 (show k < (A_v B).2.2.length by omega)
      refine sv_cast (C0 := "") (sx_rd_c hso) rfl q1037 dX2_tellIdle_23 ?_
      refine sv_get fg_X2_157 dX2_tellIdle_26 (sx_rd_c hso) rfl ?_
      refine sv_if_eqB (tgt := 42) dX2_tellIdle_29 (by decide) (fun c29 => ?_) (fun c29 => ?_)
      · have hg : s_ti (q + 1) B k = s_ti q B (k + 1) := by rw [ti_s, if_pos (by omega), c29]; rfl
        refine sv_iincN dX2_tellIdle_42 rfl (by decide) ?_
        refine sv_goto (tgt := 4) dX2_tellIdle_45 (by decide) ?_
        rw [hg]
        exact ih (k + 1) τ ow2 cap2 B x hJ2 (by omega) (by omega) (by omega)
      · have hg : s_ti (q + 1) B k = s_ti q (s_te B k true) (k + 1) := by rw [ti_s, if_pos (by omega), c29]; rfl
        refine sv_iload_n dX2_tellIdle_32 rfl ?_
        refine sv_aload_n dX2_tellIdle_33 rfl ?_
        refine sv_iload_n dX2_tellIdle_34 rfl ?_
        refine sv_iconst (nI 1) dX2_tellIdle_35 (by decide +kernel) ?_
        refine sv_aload_n dX2_tellIdle_36 rfl ?_
        refine sv_cvP _ (cc_tell hJ2 (s := k) (by omega) (all := true) (by omega)) okX2_tell kv_X2_160 (sx_rd_c hv1) rfl dX2_tellIdle_37 rfl rfl (by omega) (Nat.le_of_ble_eq_true rfl) ?_
        intro v34 τ32 hp33
        obtain ⟨rfl, ow4, cap4, hJ4, hT4⟩ := hp33
        refine sv_iadd dX2_tellIdle_40 ?_
        refine sv_istore_n dX2_tellIdle_41 (by decide) ?_
        refine sv_iincN dX2_tellIdle_42 rfl (by decide) ?_
        refine sv_goto (tgt := 4) dX2_tellIdle_45 (by decide) ?_
        rw [hg]
        refine sx_V_Q (ih (k + 1) _ ow4 cap4 _ _ hJ4 (by have := (kp_te B k true).2.2.1; omega) (by have := (kp_te B k true).2.2.1; omega) (by have := (kp_te B k true).2.2.2.2.2.1; omega)) ?_
        rintro o ρ ⟨v, e1, e2, ow5, cap5, hJ5, hT5⟩
        exact ⟨v, e1, e2, ow5, cap5, hJ5, c_T_t hT4 hT5⟩
  refine sx_body (by decide) (Nat.le_of_ble_eq_true rfl) ?_
  have hns : (A_v A).2.2.length ≤ 4 := hJ.2.2.1.1.2.1
  refine sv_iconst (nI 0) dX2_tellIdle_0 (by decide +kernel) ?_
  refine sv_istore_n dX2_tellIdle_1 (by decide) ?_
  refine sv_iconst (nI 0) dX2_tellIdle_2 (by decide +kernel) ?_
  refine sv_istore_n dX2_tellIdle_3 (by decide) ?_
  exact loop 5 0 σ ow cap A _ hJ (by omega) (by omega) (by omega)
def e_of (m : a_M) : a_E := (m.1, m.2.2)
theorem cc_select (hV : k_V G σ a Λ V) (ht9 : k_t ow a Λ V) {s b : Nat} {rd : Bool} (hs : s < V.2.2.length) (hb : b < V.2.1.length) (hms : (a_ms V b).length ≤ 30) : sx_Cp G 4 YX2_select [.ref a, .ref (Λ 3 s 0), .int (nI b), .int (b_I rd)] σ (fun v ρ => v = none ∧ k_S G ρ (Λ 3 s 0) (Λ 3 s 1) (Λ 3 s 2) (Λ 3 s 3) (Λ 3 s 4) (a_s (v_se V s b rd) s) ∧ h_F (fun q => q = Λ 3 s 0 ∨ q = Λ 3 s 1 ∨ q = Λ 3 s 2) 0 0 σ ρ) := by
  have loop : ∀ r k (τ : sx_St) (x : Int32), k ≤ (a_ms V b).length → (a_ms V b).length + 1 ≤ k + r → h_F (fun q => q = Λ 3 s 0 ∨ q = Λ 3 s 1 ∨ q = Λ 3 s 2) 0 0 σ τ → k_S G τ (Λ 3 s 0) (Λ 3 s 1) (Λ 3 s 2) (Λ 3 s 3) (Λ 3 s 4) ((a_s V s).1, some b, rd, (a_s V s).2.2.2.1, x, (a_s V s).2.2.2.2.2.1, (((a_ms V b)).take k).map e_of) → sx_V G 4 YX2_select 30 [some (.ref a), some (.ref (Λ 3 s 0)), some (.int (nI b)), some (.int (b_I rd)), some (.ref (Λ 1 b 0)), some (.int (nI k))] [] τ (fun o ρ => ∃ v, o = .inl v ∧ (v = none ∧ k_S G ρ (Λ 3 s 0) (Λ 3 s 1) (Λ 3 s 2) (Λ 3 s 3) (Λ 3 s 4) (a_s (v_se V s b rd) s) ∧ h_F (fun q => q = Λ 3 s 0 ∨ q = Λ 3 s 1 ∨ q = Λ 3 s 2) 0 0 σ ρ)) := by
    intro r
    induction r with
    | zero => intro k τ x h1 h2; omega
    | succ r ih =>
    intro k τ x hk1 hk2 FF hS2
    have hs0 : s < V.2.2.length := hs
    have htg := ht9.2.2.2.2.2.2 s hs
    have hV2 := k_V_s FF hV ht9 hs (fun q z => by rcases z with z | z | z <;> rw [z] <;> omega) hS2 rfl
    have hB2 : k_B G τ (Λ 1 b 0) (Λ 1 b 1) (Λ 1 b 2) (Λ 1 b 3) (Λ 1 b 4) (Λ 2 b) (a_b V b) := (hV2.2.2.2.1 b hb).1
    obtain ⟨hbb, hL2, hm2⟩ := hB2
    have hL2 : k_L G τ (Λ 1 b 1) (Λ 1 b 2) (Λ 1 b 3) (a_ms V b).length (Λ 2 b) := hL2
    obtain ⟨mcm, fm, hlm, -⟩ := id hL2
    have htl : (((a_ms V b).take k).map e_of).length = k := by rw [List.length_map, List.length_take]; omega
    have hS3 := hS2
    obtain ⟨fu, ft, fa, hso, hu, ht, hac, ⟨n1, n2, n3⟩, hl, eu, et, ea⟩ := hS2
    refine sv_iload dX2_select_30 rfl ?_
    refine sv_aload dX2_select_32 rfl ?_
    refine sv_get fg_X2_59 dX2_select_34 (sx_rd_c hbb) rfl ?_
    refine sv_cvR _ (cj_size hL2) okJ2_size kv_X2_27 (sx_rd_c hlm) rfl dX2_select_37 rfl rfl (by omega) (Nat.le_of_ble_eq_true rfl) ?_
    refine sv_icmp_geN (tgt := 66) dX2_select_40 (by decide) (by omega) (by omega) (fun c40 => ?_) (fun c40 => ?_)
    · refine sv_aload_n dX2_select_66 rfl ?_
      refine sv_aload dX2_select_67 rfl ?_
      refine sv_get fg_X2_77 dX2_select_69 (sx_rd_c hbb) rfl ?_
      refine sv_iconst (nI 1) dX2_select_72 (by decide +kernel) ?_
      refine sv_isub dX2_select_73 ?_
      refine sv_put fp_X2_80 dX2_select_74 hso rfl rfl (Nat.le_of_ble_eq_true rfl) ?_
      refine hs_up hso (fun τ35 F36 h37 N38 Z39 => ?_)
      have h37 : sx_c τ35 ((Λ 3 s 0)) = some (.inr (7, [.ref (Λ 3 s 4), .int (nI b), .int (nI ((((a_ms V b)).take k).map e_of).length), .int _, .int (b_I rd), .int (b_I (a_s V s).2.2.2.1), .ref (Λ 3 s 1), .ref (Λ 3 s 2), .ref (Λ 3 s 3)])) := h37
      have hu' := h_F_c F36 hu (e_kn hu hso rfl)
      have ht' := h_F_c F36 ht (e_kn ht hso rfl)
      have hac' := h_F_c F36 hac (e_kn hac hso rfl)
      have hbb' := h_F_c F36 hbb (e_kn hbb hso rfl)
      refine sv_vret rfl dX2_select_77 ?_
      refine ⟨_, rfl, rfl, ?_, h_F_u FF F36 (fun _ _ z => z) (fun _ _ z => Or.inl z) (Nat.le_refl _) (Nat.le_refl _)⟩
      have e9 : a_s (v_se V s b rd) s = ((a_s V s).1, some b, rd, (a_s V s).2.2.2.1, (a_b V b).2.1 - 1, (a_s V s).2.2.2.2.2.1, (a_ms V b).map e_of) := a_us_s _ hs
      rw [e9]
      have h8 := h37
      rw [show (nI 1 : Int32) = 1 from by decide +kernel, List.take_of_length_le (by omega)] at h8
      rw [List.take_of_length_le (by omega)] at hl eu et
      exact ⟨fu, ft, fa, h8, hu', ht', hac', ⟨n1, n2, n3⟩, hl, eu, et, ea⟩
    · refine sv_aload_n dX2_select_43 rfl ?_
      refine sv_aload dX2_select_44 rfl ?_
      refine sv_get fg_X2_59 dX2_select_46 (sx_rd_c hbb) rfl ?_
      refine sv_iload dX2_select_49 rfl ?_
      refine sv_cvR _ (cj_get hL2 (i := k) (by omega)) okJ2_get kv_X2_33 (sx_rd_c hlm) rfl dX2_select_51 rfl rfl (by omega) (Nat.le_of_ble_eq_true rfl) ?_
      have hmm : k_M τ (Λ 2 b k) (a_m V b k) := hm2 k (by show k < (a_ms V b).length; omega)
      refine sv_cast (C0 := "") (sx_rd_c hmm) rfl q1100 dX2_select_54 ?_
      refine sv_cvP _ (cc_sadd hS3 hmm (by show (((a_ms V b).take k).map e_of).length < 60; omega)) okX8_add kv_X2_74 (sx_rd_c hso) rfl dX2_select_57 rfl rfl (by omega) (Nat.le_of_ble_eq_true rfl) ?_
      intro v42 τ40 hp41
      obtain ⟨rfl, hS4, F4⟩ := hp41
      refine sv_iincN dX2_select_60 rfl (by decide) ?_
      refine sv_goto (tgt := 30) dX2_select_63 (by decide) ?_
      have e9 : ((a_ms V b).take (k + 1)).map e_of = ((a_ms V b).take k).map e_of ++ [((a_m V b k).1, (a_m V b k).2.2)] := by rw [tk_s (0, 0, 0) (by omega), List.map_append]; rfl
      refine ih (k + 1) _ (a_m V b k).1 (by omega) (by omega) (h_F_u FF F4 (fun _ _ z => z) (fun _ _ z => z) (Nat.le_refl _) (Nat.le_refl _)) ?_
      rw [e9]
      exact hS4
  refine sx_body (by decide) (Nat.le_of_ble_eq_true rfl) ?_
  have hV0 := hV
  obtain ⟨hv1, hv2, hv3, hv4, hv5⟩ := hV
  obtain ⟨mcb, fb, hlb, hab, b1, b2, b3, -⟩ := id hv2
  obtain ⟨mcs, fs, hls, has, s1, s2, s3, -⟩ := id hv3
  obtain ⟨fu, ft, fa, hso, hu, ht, hac, ⟨n1, n2, n3⟩, hl, eu, et, ea⟩ := k_V_ses hV0 hs
  have FF0 : h_F (fun q => q = Λ 3 s 0 ∨ q = Λ 3 s 1 ∨ q = Λ 3 s 2) 0 0 σ σ := h_F_r
  refine sv_aload_n dX2_select_0 rfl ?_
  refine sv_get fg_X2_14 dX2_select_1 (sx_rd_c hv1) rfl ?_
  refine sv_iload_n dX2_select_4 rfl ?_
  refine sv_cvR _ (cj_get hv2 (i := b) hb) okJ2_get kv_X2_33 (sx_rd_c hlb) rfl dX2_select_5 rfl rfl (by omega) (Nat.le_of_ble_eq_true rfl) ?_
  have hbb := (hv4 b hb).1.1
  refine sv_cast (C0 := "") (sx_rd_c hbb) rfl q826 dX2_select_8 ?_
  refine sv_astore dX2_select_11 (by decide) ?_
  refine sv_aload_n dX2_select_13 rfl ?_
  refine sv_cvP _ (cc_leave (hv5 s hs).1) okX8_leave kv_X2_62 (sx_rd_c hso) rfl dX2_select_14 rfl rfl (by omega) (Nat.le_of_ble_eq_true rfl) ?_
  intro v46 τ44 hp45
  obtain ⟨rfl, hS1, F43⟩ := hp45
  have N47 := (F43).1.1
  have hv1' := h_F_c F43 hv1 (e_kn hv1 hso rfl)
  have hlb' := h_F_c F43 hlb (e_kn hlb hso rfl)
  have hls' := h_F_c F43 hls (e_kn hls hso rfl)
  have hu' := h_F_c F43 hu (e_kn hu hso rfl)
  have ht' := h_F_c F43 ht (e_kn ht hso rfl)
  have hac' := h_F_c F43 hac (e_kn hac hso rfl)
  have hbb' := h_F_c F43 hbb (e_kn hbb hso rfl)
  have FF48 := h_F_u FF0 F43 (fun _ _ z => z) (by intro q hq hz; omega) (Nat.le_refl _) (Nat.le_refl _)
  obtain ⟨_, _, _, hso1, -⟩ := id hS1
  refine sv_aload_n dX2_select_17 rfl ?_
  refine sv_iload_n dX2_select_18 rfl ?_
  refine sv_put fp_X2_65 dX2_select_19 hso1 rfl rfl (Nat.le_of_ble_eq_true rfl) ?_
  refine hs_up hso1 (fun τ49 F50 h51 N52 Z53 => ?_)
  have h51 : sx_c τ49 ((Λ 3 s 0)) = some (.inr (7, [.ref (Λ 3 s 4), .int (nI b), .int (nI 0), .int (a_ls V s), .int (b_I (a_rd V s)), .int (b_I (a_id V s)), .ref (Λ 3 s 1), .ref (Λ 3 s 2), .ref (Λ 3 s 3)])) := h51
  have hv1'' := h_F_c F50 hv1' (e_kn hv1' hso1 rfl)
  have hlb'' := h_F_c F50 hlb' (e_kn hlb' hso1 rfl)
  have hls'' := h_F_c F50 hls' (e_kn hls' hso1 rfl)
  have hu'' := h_F_c F50 hu' (e_kn hu' hso1 rfl)
  have ht'' := h_F_c F50 ht' (e_kn ht' hso1 rfl)
  have hac'' := h_F_c F50 hac' (e_kn hac' hso1 rfl)
  have hbb'' := h_F_c F50 hbb' (e_kn hbb' hso1 rfl)
  have FF54 := h_F_u FF48 F50 (fun _ _ z => z) (by intro q hq hz; omega) (Nat.le_refl _) (Nat.le_refl _)
  refine sv_aload_n dX2_select_22 rfl ?_
  refine sv_iload_n dX2_select_23 rfl ?_
  refine sv_put fp_X2_68 dX2_select_24 h51 (b_I_nar _) (b_I_fit _) (Nat.le_of_ble_eq_true rfl) ?_
  refine hs_up h51 (fun τ55 F56 h57 N58 Z59 => ?_)
  have h57 : sx_c τ55 ((Λ 3 s 0)) = some (.inr (7, [.ref (Λ 3 s 4), .int (nI b), .int (nI 0), .int (a_ls V s), .int (b_I rd), .int (b_I (a_id V s)), .ref (Λ 3 s 1), .ref (Λ 3 s 2), .ref (Λ 3 s 3)])) := h57
  have hv1''' := h_F_c F56 hv1'' (e_kn hv1'' h51 rfl)
  have hlb''' := h_F_c F56 hlb'' (e_kn hlb'' h51 rfl)
  have hls''' := h_F_c F56 hls'' (e_kn hls'' h51 rfl)
  have hu''' := h_F_c F56 hu'' (e_kn hu'' h51 rfl)
  have ht''' := h_F_c F56 ht'' (e_kn ht'' h51 rfl)
  have hac''' := h_F_c F56 hac'' (e_kn hac'' h51 rfl)
  have hbb''' := h_F_c F56 hbb'' (e_kn hbb'' h51 rfl)
  have FF60 := h_F_u FF54 F56 (fun _ _ z => z) (by intro q hq hz; omega) (Nat.le_refl _) (Nat.le_refl _)
  refine sv_iconst (nI 0) dX2_select_27 (by decide +kernel) ?_
  refine sv_istore dX2_select_28 (by decide) ?_
  refine loop 31 0 _ _ (by omega) (by omega) ?_ ⟨fu, ft, fa, h57, hu''', ht''', hac''', ⟨n1, n2, n3⟩, Nat.zero_le 60, fun i hi => absurd hi (Nat.not_lt_zero i), fun i hi => absurd hi (Nat.not_lt_zero i), ea⟩
  exact FF60
end CTO
