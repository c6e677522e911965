set_option maxRecDepth 100000
section CHS
variable {G : sx_G} {σ τ : sx_St} {nm nb : Nat} {w : List Nat}
theorem t_h_s {j : Nat} (hj : j < w.length) : 31 * t_h (w.take j) + nI (w.getD j 0) = t_h (w.take (j + 1)) := by
  rw [tk_s 0 hj]
  unfold t_h
  rw [List.foldl_append]
  rfl
theorem t_h_0 : nI 0 = t_h [] := by decide +kernel
theorem t_h_1 (c : Nat) : nI c = t_h [c] := by
  show nI c = 31 * 0 + nI c
  rw [Int32.mul_zero, Int32.zero_add]
theorem ch_sig {a : Nat} {f : Nat → Int32} (ha : sx_rd G σ a (.inl (sg_a G 2, w.length, .inl f))) (hl : w.length ≤ 1000) (hf : ∀ i, i < w.length → f i = nI (w.getD i 0)) (hw : ∀ c ∈ w, c < 128) : sx_Cr G 0 YJ11_signedHashCode [.int (nI 0), .ref a, .int (nI 0), .int (nI w.length)] σ (some (.int (t_h w))) σ := by
  have loop : ∀ r j, j ≤ w.length → w.length + 1 ≤ j + r → sx_V G 0 YJ11_signedHashCode 8 [some (.int (t_h (w.take j))), some (.ref a), some (.int (nI 0)), some (.int (nI w.length)), some (.int (nI (0 + w.length))), some (.int (nI (0 + j)))] [] σ (fun o τ => ∃ v, o = .inl v ∧ v = some (.int (t_h w)) ∧ τ = σ) := by
    intro r
    induction r with
    | zero => intro j h1 h2; omega
    | succ r ih =>
    intro j h1 h2
    refine sv_iload dJ11_signedHashCode_8 rfl ?_
    refine sv_iload dJ11_signedHashCode_10 rfl ?_
    refine sv_icmp_geN (tgt := 35) dJ11_signedHashCode_12 (by decide) (by omega) (by omega) (fun c12 => ?_) (fun c12 => ?_)
    · obtain rfl : j = w.length := by omega
      rw [List.take_length]
      refine sv_iload_n dJ11_signedHashCode_35 rfl ?_
      refine sv_iret rfl rfl dJ11_signedHashCode_36 ?_
      exact ⟨_, rfl, rfl, rfl⟩
    · have hj : j < w.length := by omega
      refine sv_bipush (nI 31) dJ11_signedHashCode_15 (by decide +kernel) ?_
      refine sv_tI (y := 31) (by decide +kernel) ?_
      refine sv_iload_n dJ11_signedHashCode_17 rfl ?_
      refine sv_imul dJ11_signedHashCode_18 ?_
      refine sv_aload_n dJ11_signedHashCode_19 rfl ?_
      refine sv_iload dJ11_signedHashCode_20 rfl ?_
      refine sv_bald dJ11_signedHashCode_22 ha (vp_in_nI (by omega) (by omega)) ?_
      rw [nI_clamp (show (0 + j) < 2 ^ 31 by omega)]
      refine sv_tI (y := nI (w.getD j 0)) (by rw [Nat.zero_add]; exact hf j hj) ?_
      refine sv_sipush (nI 255) dJ11_signedHashCode_23 (by decide +kernel) ?_
      refine sv_tI (y := 255) (by decide +kernel) ?_
      refine sv_iand dJ11_signedHashCode_26 ?_
      refine sv_tI (y := nI (w.getD j 0)) (b_255 _ (hw _ (gdn_mem hj))) ?_
      refine sv_iadd dJ11_signedHashCode_27 ?_
      refine sv_tI (y := t_h (w.take (j + 1))) (t_h_s hj) ?_
      refine sv_istore_n dJ11_signedHashCode_28 (by decide) ?_
      refine sv_iincN dJ11_signedHashCode_29 rfl (by decide) ?_
      refine sv_goto (tgt := 8) dJ11_signedHashCode_32 (by decide) ?_
      exact ih (j + 1) (by omega) (by omega)
  refine sx_body (by decide) (Nat.le_of_ble_eq_true rfl) ?_
  refine sv_iload_n dJ11_signedHashCode_0 rfl ?_
  refine sv_iload_n dJ11_signedHashCode_1 rfl ?_
  refine sv_iaddN dJ11_signedHashCode_2 ?_
  refine sv_istore dJ11_signedHashCode_3 (by decide) ?_
  refine sv_iload_n dJ11_signedHashCode_5 rfl ?_
  refine sv_istore dJ11_signedHashCode_6 (by decide) ?_
  have hl0 := loop 1002 0 (Nat.zero_le _) (by omega)
  rw [List.take_zero, ← t_h_0] at hl0
  exact hl0
theorem ch_vec {a : Nat} {f : Nat → Int32} (ha : sx_rd G σ a (.inl (sg_a G 2, w.length, .inl f))) (hl : w.length ≤ 1000) (hf : ∀ i, i < w.length → f i = nI (w.getD i 0)) (hw : ∀ c ∈ w, c < 128) : sx_Cr G 1 YJ11_vectorizedHashCode [.ref a, .int (nI 0), .int (nI w.length), .int (nI 0), .int (nI 4)] σ (some (.int (t_h w))) σ := by
  refine sx_body (by decide) (Nat.le_of_ble_eq_true rfl) ?_
  refine sv_iload dJ11_vectorizedHashCode_0 rfl ?_
  refine sv_tableIn (off := 42) (tgt := 44) dJ11_vectorizedHashCode_2 (by decide +kernel) (by decide +kernel) (by decide +kernel) (by decide) ?_
  refine sv_iload_n dJ11_vectorizedHashCode_44 rfl ?_
  refine sv_aload_n dJ11_vectorizedHashCode_45 rfl ?_
  refine sv_castA 2 rfl (by decide) ha q743 dJ11_vectorizedHashCode_46 ?_
  refine sv_iload_n dJ11_vectorizedHashCode_49 rfl ?_
  refine sv_iload_n dJ11_vectorizedHashCode_50 rfl ?_
  refine sv_csR _ (ch_sig ha hl hf hw) okJ11_signedHashCode ks_J11_62 dJ11_vectorizedHashCode_51 rfl rfl (by omega) (Nat.le_of_ble_eq_true rfl) ?_
  refine sv_goto (tgt := 157) dJ11_vectorizedHashCode_54 (by decide) ?_
  refine sv_iret rfl rfl dJ11_vectorizedHashCode_157 ?_
  exact ⟨_, rfl, rfl, rfl⟩
theorem ch_15 {a : Nat} {f : Nat → Int32} (ha : sx_rd G σ a (.inl (sg_a G 2, w.length, .inl f))) (hl : w.length ≤ 1000) (hf : ∀ i, i < w.length → f i = nI (w.getD i 0)) (hw : ∀ c ∈ w, c < 128) : sx_Cr G 2 YJ15_hashCode [.ref a] σ (some (.int (t_h w))) σ := by
  refine sx_body (by decide) (Nat.le_of_ble_eq_true rfl) ?_
  refine sv_aload_n dJ15_hashCode_0 rfl ?_
  refine sv_alen 2 rfl (nI w.length) dJ15_hashCode_1 ha rfl ?_
  by_cases h0 : w.length = 0
  · refine sv_lookup (off := 26) (tgt := 28) dJ15_hashCode_2 (by decide) (by rw [h0]; decide +kernel) (by decide) ?_
    refine sv_iconst (nI 0) dJ15_hashCode_28 (by decide +kernel) ?_
    refine sv_goto (tgt := 51) dJ15_hashCode_29 (by decide) ?_
    refine sv_iret rfl rfl dJ15_hashCode_51 ?_
    first
    | exact ⟨_, rfl, rfl, rfl⟩
    | exact ⟨_, rfl, r_I (by rw [List.length_eq_zero_iff.mp h0]; exact t_h_0), rfl⟩
    | exact ⟨_, rfl, r_I (by
        obtain ⟨c, rfl⟩ := List.length_eq_one_iff.mp h1
        exact t_h_1 c), rfl⟩
  by_cases h1 : w.length = 1
  · refine sv_lookup (off := 30) (tgt := 32) dJ15_hashCode_2 (by decide) (by rw [h1]; decide +kernel) (by decide) ?_
    refine sv_aload_n dJ15_hashCode_32 rfl ?_
    refine sv_iconst (nI 0) dJ15_hashCode_33 (by decide +kernel) ?_
    refine sv_bald dJ15_hashCode_34 ha (vp_in_nI (by omega) (by omega)) ?_
    rw [nI_clamp (show 0 < 2 ^ 31 by omega)]
    refine sv_tI (y := nI (w.getD 0 0)) (hf 0 (by omega)) ?_
    refine sv_sipush (nI 255) dJ15_hashCode_35 (by decide +kernel) ?_
    refine sv_tI (y := 255) (by decide +kernel) ?_
    refine sv_iand dJ15_hashCode_38 ?_
    refine sv_tI (y := nI (w.getD 0 0)) (b_255 _ (hw _ (gdn_mem (by omega)))) ?_
    refine sv_goto (tgt := 51) dJ15_hashCode_39 (by decide) ?_
    refine sv_iret rfl rfl dJ15_hashCode_51 ?_
    first
    | exact ⟨_, rfl, rfl, rfl⟩
    | exact ⟨_, rfl, r_I (by rw [List.length_eq_zero_iff.mp h0]; exact t_h_0), rfl⟩
    | exact ⟨_, rfl, r_I (by
        obtain ⟨c, rfl⟩ := List.length_eq_one_iff.mp h1
        exact t_h_1 c), rfl⟩
  refine sv_lookup (off := 40) (tgt := 42) dJ15_hashCode_2 (by decide) (by show (if _ = _ then _ else (if _ = _ then _ else _)) = _; rw [nI_toInt (by omega), if_neg (by omega), if_neg (by omega)]; rfl) (by decide) ?_
  refine sv_aload_n dJ15_hashCode_42 rfl ?_
  refine sv_iconst (nI 0) dJ15_hashCode_43 (by decide +kernel) ?_
  refine sv_aload_n dJ15_hashCode_44 rfl ?_
  refine sv_alen 2 rfl (nI w.length) dJ15_hashCode_45 ha rfl ?_
  refine sv_iconst (nI 0) dJ15_hashCode_46 (by decide +kernel) ?_
  refine sv_iconst (nI 4) dJ15_hashCode_47 (by decide +kernel) ?_
  refine sv_csR _ (ch_vec ha hl hf hw) okJ11_vectorizedHashCode ks_J15_84 dJ15_hashCode_48 rfl rfl (by omega) (Nat.le_of_ble_eq_true rfl) ?_
  refine sv_iret rfl rfl dJ15_hashCode_51 ?_
  first
  | exact ⟨_, rfl, rfl, rfl⟩
  | exact ⟨_, rfl, r_I (by rw [List.length_eq_zero_iff.mp h0]; exact t_h_0), rfl⟩
  | exact ⟨_, rfl, r_I (by
      obtain ⟨c, rfl⟩ := List.length_eq_one_iff.mp h1
      exact t_h_1 c), rfl⟩
theorem ch_str (hC : g_C G) (hS : k_Sn G σ nm nb w) (hl : w.length ≤ 1000) (hw : ∀ c ∈ w, c < 128) : sx_Cp G 3 YJ9_hashCode [.ref nm] σ (fun v τ => v = some (.int (t_h w)) ∧ k_Sn G τ nm nb w ∧ h_F (fun q => q = nm) 0 0 σ τ) := by
  refine sx_body (by decide) (Nat.le_of_ble_eq_true rfl) ?_
  obtain ⟨hv, z, fb, hn1, hn2, hn3, hn4, hn5⟩ := id hS
  have hSr := k_Sn_r hS (by omega)
  have FF0 : h_F (fun q => q = nm) 0 0 σ σ := h_F_r
  refine sv_aload_n dJ9_hashCode_0 rfl ?_
  refine sv_get fg_J9_19 dJ9_hashCode_1 (sx_rd_c hn1) rfl ?_
  refine sv_istore_n dJ9_hashCode_4 (by decide) ?_
  refine sv_iload_n dJ9_hashCode_5 rfl ?_
  refine sv_if_ne (tgt := 58) dJ9_hashCode_6 (by decide) (fun c6 => ?_) (fun c6 => ?_)
  · have hv9 : hv = t_h w := hn4.elim (fun e => absurd e c6) (fun e => e)
    refine sv_iload_n dJ9_hashCode_58 rfl ?_
    refine sv_iret rfl rfl dJ9_hashCode_59 ?_
    have hFz := FF0
    first
    | exact ⟨_, rfl, r_I hv9, hS, hFz⟩
    | exact ⟨_, rfl, rfl, ⟨_, true, fb, hn1, hn2, hn3, Or.inl c6, fun _ => h42⟩, hFz⟩
    | exact ⟨_, rfl, rfl, ⟨_, z, fb, hn1, hn2, hn3, Or.inr rfl, hn5⟩, hFz⟩
  · refine sv_aload_n dJ9_hashCode_9 rfl ?_
    refine sv_get fg_J9_23 dJ9_hashCode_10 (sx_rd_c hn1) rfl ?_
    refine sv_if_neB (tgt := 58) dJ9_hashCode_13 (by decide) (fun c13 => ?_) (fun c13 => ?_)
    · have hv9 : hv = t_h w := c6.trans (hn5 c13).symm
      refine sv_iload_n dJ9_hashCode_58 rfl ?_
      refine sv_iret rfl rfl dJ9_hashCode_59 ?_
      have hFz := FF0
      first
      | exact ⟨_, rfl, r_I hv9, hS, hFz⟩
      | exact ⟨_, rfl, rfl, ⟨_, true, fb, hn1, hn2, hn3, Or.inl c6, fun _ => h42⟩, hFz⟩
      | exact ⟨_, rfl, rfl, ⟨_, z, fb, hn1, hn2, hn3, Or.inr rfl, hn5⟩, hFz⟩
    · refine sv_aload_n dJ9_hashCode_16 rfl ?_
      refine sv_cvR _ (cs_lat hC hSr) okJ9_isLatin1 kv_J9_492 (sx_rd_c hn1) rfl dJ9_hashCode_17 rfl rfl (by omega) (Nat.le_of_ble_eq_true rfl) ?_
      refine sv_if_eqB (tgt := 33) dJ9_hashCode_20 (by decide) (fun c20 => ?_) (fun c20 => ?_)
      · exact absurd c20 (by decide)
      · refine sv_aload_n dJ9_hashCode_23 rfl ?_
        refine sv_get fg_J9_9 dJ9_hashCode_24 (sx_rd_c hn1) rfl ?_
        refine sv_csR _ (ch_15 (sx_rd_c hn2) hl hn3 hw) okJ15_hashCode ks_J9_628 dJ9_hashCode_27 rfl rfl (by omega) (Nat.le_of_ble_eq_true rfl) ?_
        refine sv_goto (tgt := 40) dJ9_hashCode_30 (by decide) ?_
        refine sv_istore_n dJ9_hashCode_40 (by decide) ?_
        refine sv_iload_n dJ9_hashCode_41 rfl ?_
        refine sv_if_ne (tgt := 53) dJ9_hashCode_42 (by decide) (fun c42 => ?_) (fun c42 => ?_)
        · have h42 := c42
          refine sv_aload_n dJ9_hashCode_53 rfl ?_
          refine sv_iload_n dJ9_hashCode_54 rfl ?_
          refine sv_put fp_J9_19 dJ9_hashCode_55 hn1 rfl rfl (Nat.le_of_ble_eq_true rfl) ?_
          refine hs_up hn1 (fun τ1 F2 h3 N4 Z5 => ?_)
          have h3 : sx_c τ1 nm = some (.inr (12, [.ref nb, .int (nI 0), .int (t_h w), .int (b_I z)])) := h3
          have hn2' := h_F_c F2 hn2 (e_kn hn2 hn1 rfl)
          have FF6 := h_F_u FF0 F2 (fun _ _ z => z) (by intro q hq hz; omega) (Nat.le_refl _) (Nat.le_refl _)
          refine sv_iload_n dJ9_hashCode_58 rfl ?_
          refine sv_iret rfl rfl dJ9_hashCode_59 ?_
          have hFz := FF6
          first
          | exact ⟨_, rfl, r_I hv9, hS, hFz⟩
          | exact ⟨_, rfl, rfl, ⟨_, true, fb, h3, hn2', hn3, Or.inl c6, fun _ => h42⟩, hFz⟩
          | exact ⟨_, rfl, rfl, ⟨_, z, fb, h3, hn2', hn3, Or.inr rfl, hn5⟩, hFz⟩
        · have h42 := c42
          refine sv_aload_n dJ9_hashCode_45 rfl ?_
          refine sv_iconst (nI 1) dJ9_hashCode_46 (by decide +kernel) ?_
          refine sv_put fp_J9_23 dJ9_hashCode_47 hn1 (by decide) (by decide) (Nat.le_of_ble_eq_true rfl) ?_
          refine hs_up hn1 (fun τ7 F8 h9 N10 Z11 => ?_)
          have h9 : sx_c τ7 nm = some (.inr (12, [.ref nb, .int (nI 0), .int hv, .int (nI 1)])) := h9
          have hn2' := h_F_c F8 hn2 (e_kn hn2 hn1 rfl)
          have FF12 := h_F_u FF0 F8 (fun _ _ z => z) (by intro q hq hz; omega) (Nat.le_refl _) (Nat.le_refl _)
          refine sv_goto (tgt := 58) dJ9_hashCode_50 (by decide) ?_
          refine sv_iload_n dJ9_hashCode_58 rfl ?_
          refine sv_iret rfl rfl dJ9_hashCode_59 ?_
          have hFz := FF12
          first
          | exact ⟨_, rfl, r_I hv9, hS, hFz⟩
          | exact ⟨_, rfl, rfl, ⟨_, true, fb, h9, hn2', hn3, Or.inl c6, fun _ => h42⟩, hFz⟩
          | exact ⟨_, rfl, rfl, ⟨_, z, fb, h9, hn2', hn3, Or.inr rfl, hn5⟩, hFz⟩
/-- the constant "" -/
def g_E (G : sx_G) : Prop := ∃ nb f, sg_k G (sg_t G 0) = some (.inr (12, [.ref nb, .int (nI 0), .int (nI 0), .int (b_I true)])) ∧ sg_k G nb = some (.inl (sg_a G 2, 0, .inl f))
theorem ch_emp (hE : g_E G) : sx_Cr G 3 YJ9_hashCode [.ref (sg_t G 0)] σ (some (.int (nI 0))) σ := by
  refine sx_body (by decide) (Nat.le_of_ble_eq_true rfl) ?_
  obtain ⟨nb, f, hk1, hk2⟩ := hE
  refine sv_aload_n dJ9_hashCode_0 rfl ?_
  refine sv_get fg_J9_19 dJ9_hashCode_1 (Or.inr hk1) rfl ?_
  refine sv_istore_n dJ9_hashCode_4 (by decide) ?_
  refine sv_iload_n dJ9_hashCode_5 rfl ?_
  refine sv_if_neN (tgt := 58) dJ9_hashCode_6 (by decide) (by omega) (fun c6 => ?_) (fun c6 => ?_)
  · exact absurd c6 (by decide)
  · refine sv_aload_n dJ9_hashCode_9 rfl ?_
    refine sv_get fg_J9_23 dJ9_hashCode_10 (Or.inr hk1) rfl ?_
    refine sv_if_neB (tgt := 58) dJ9_hashCode_13 (by decide) (fun c13 => ?_) (fun c13 => ?_)
    · refine sv_iload_n dJ9_hashCode_58 rfl ?_
      refine sv_iret rfl rfl dJ9_hashCode_59 ?_
      exact ⟨_, rfl, rfl, rfl⟩
    · exact absurd c13 (by decide)
end CHS
