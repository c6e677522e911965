set_option maxRecDepth 100000
section CSR
variable {G : sx_G} {σ τ : sx_St} {a : Nat} {Λ : Nat → Nat → Nat → Nat} {V : a_V}
theorem k_V_ses {s : Nat} (h : k_V G σ a Λ V) (hs : s < V.2.2.length) : ∃ fu ft fa, sx_c σ (Λ 3 s 0) = some (.inr (7, [.ref (Λ 3 s 4), .int (o_I (a_bx V s)), .int (nI (a_es V s).length), .int (a_ls V s), .int (b_I (a_rd V s)), .int (b_I (a_id V s)), .ref (Λ 3 s 1), .ref (Λ 3 s 2), .ref (Λ 3 s 3)])) ∧ sx_c σ (Λ 3 s 1) = some (.inl (sg_a G 0, 60, .inl fu)) ∧ sx_c σ (Λ 3 s 2) = some (.inl (sg_a G 0, 60, .inl ft)) ∧ sx_c σ (Λ 3 s 3) = some (.inl (sg_a G 0, 5, .inl fa)) ∧ (Λ 3 s 1 ≠ Λ 3 s 2 ∧ Λ 3 s 1 ≠ Λ 3 s 3 ∧ Λ 3 s 2 ≠ Λ 3 s 3) ∧ (a_es V s).length ≤ 60 ∧ (∀ i, i < (a_es V s).length → fu i = (a_e V s i).1) ∧ (∀ i, i < (a_es V s).length → ft i = (a_e V s i).2) ∧ ∀ i, i < 5 → fa i = a_ac V s i := (h.2.2.2.2 s hs).1
theorem a_mo_b {s b k : Nat} (hbx : a_bx V s = some b) : a_mo V s k = a_find (a_ms V b) (a_e V s k).1 := by
  unfold a_mo
  rw [hbx]
theorem a_mo_n {s k : Nat} (hbx : a_bx V s = none) : a_mo V s k = none := by
  unfold a_mo
  rw [hbx]
theorem a_fl_b {s b k m : Nat} (hbx : a_bx V s = some b) (hm : a_mo V s k = some m) : a_fl V s k = (a_m V b m).2.2 := by
  unfold a_fl
  rw [hbx, hm]
theorem cc_messages (hV : k_V G σ a Λ V) : sx_Cr G 3 YX2_messages [.ref a] σ (some (.int (nI (a_all V V.2.1.length)))) σ := by
  have loop : ∀ r k, k ≤ V.2.1.length → V.2.1.length + 1 ≤ k + r → sx_V G 3 YX2_messages 4 [some (.ref a), some (.int (nI (a_all V k))), some (.int (nI k))] [] σ (fun o τ => ∃ v, o = .inl v ∧ v = (some (.int (nI (a_all V V.2.1.length)))) ∧ τ = σ) := by
    have hV0 := hV
    obtain ⟨hv1, hv2, hv3, hv4, hv5⟩ := hV
    obtain ⟨mcb, fb, hlb, hab, b1, b2, b3, -⟩ := id hv2
    obtain ⟨mcs, fs, hls, has, s1, s2, s3, -⟩ := id hv3
    intro r
    induction r with
    | zero => intro k h1 h2; omega
    | succ r ih =>
    intro k hk1 hk2
    refine sv_iload_n dX2_messages_4 rfl ?_
    refine sv_aload_n dX2_messages_5 rfl ?_
    refine sv_get fg_X2_14 dX2_messages_6 (sx_rd_c hv1) rfl ?_
    refine sv_cvR _ (cj_size hv2) okJ2_size kv_X2_27 (sx_rd_c hlb) rfl dX2_messages_9 rfl rfl (by omega) (Nat.le_of_ble_eq_true rfl) ?_
    refine sv_icmp_geN (tgt := 41) dX2_messages_12 (by decide) (by omega) (by omega) (fun c12 => ?_) (fun c12 => ?_)
    · refine sv_iload_n dX2_messages_41 rfl ?_
      refine sv_iret rfl rfl dX2_messages_42 ?_
      exact ⟨_, rfl, r_I (by rw [show k = V.2.1.length by omega]), rfl⟩
    · refine sv_iload_n dX2_messages_15 rfl ?_
      refine sv_aload_n dX2_messages_16 rfl ?_
      refine sv_get fg_X2_14 dX2_messages_17 (sx_rd_c hv1) rfl ?_
      refine sv_iload_n dX2_messages_20 rfl ?_
      refine sv_cvR _ (cj_get hv2 (i := k) (by omega)) okJ2_get kv_X2_33 (sx_rd_c hlb) rfl dX2_messages_21 rfl rfl (by omega) (Nat.le_of_ble_eq_true rfl) ?_
      have hbb1 := (hv4 k (by omega)).1.1
      refine sv_cast (C0 := "") (sx_rd_c hbb1) rfl q826 dX2_messages_24 ?_
      refine sv_get fg_X2_59 dX2_messages_27 (sx_rd_c hbb1) rfl ?_
      obtain ⟨mcm, fm, hlm, -⟩ := id (hv4 k (by omega)).1.2.1
      refine sv_cvR _ (cj_size (hv4 k (by omega)).1.2.1) okJ2_size kv_X2_27 (sx_rd_c hlm) rfl dX2_messages_30 rfl rfl (by omega) (Nat.le_of_ble_eq_true rfl) ?_
      refine sv_iaddN dX2_messages_33 ?_
      refine sv_istore_n dX2_messages_34 (by decide) ?_
      refine sv_iincN dX2_messages_35 rfl (by decide) ?_
      refine sv_goto (tgt := 4) dX2_messages_38 (by decide) ?_
      exact ih (k + 1) (by omega) (by omega)
  refine sx_body (by decide) (Nat.le_of_ble_eq_true rfl) ?_
  have hnb : V.2.1.length ≤ 100000 := by obtain ⟨_, ⟨_, _, _, _, h, _, h2, _⟩, _⟩ := hV; omega
  refine sv_iconst (nI 0) dX2_messages_0 (by decide +kernel) ?_
  refine sv_istore_n dX2_messages_1 (by decide) ?_
  refine sv_iconst (nI 0) dX2_messages_2 (by decide +kernel) ?_
  refine sv_istore_n dX2_messages_3 (by decide) ?_
  exact loop (V.2.1.length + 1) 0 (by omega) (by omega)
theorem cc_isFull (hV : k_V G σ a Λ V) {b : Nat} (hb : b < V.2.1.length) : sx_Cr G 3 YX2_isFull [.ref a, .int (nI b)] σ (some (.int (b_I (decide (V.1 ≤ nI (a_ms V b).length))))) σ := by
  refine sx_body (by decide) (Nat.le_of_ble_eq_true rfl) ?_
  have hV0 := hV
  obtain ⟨hv1, hv2, hv3, hv4, hv5⟩ := hV
  obtain ⟨mcb, fb, hlb, hab, b1, b2, b3, -⟩ := id hv2
  obtain ⟨mcs, fs, hls, has, s1, s2, s3, -⟩ := id hv3
  refine sv_aload_n dX2_isFull_0 rfl ?_
  refine sv_get fg_X2_14 dX2_isFull_1 (sx_rd_c hv1) rfl ?_
  refine sv_iload_n dX2_isFull_4 rfl ?_
  refine sv_cvR _ (cj_get hv2 (i := b) hb) okJ2_get kv_X2_33 (sx_rd_c hlb) rfl dX2_isFull_5 rfl rfl (by omega) (Nat.le_of_ble_eq_true rfl) ?_
  have hbb2 := (hv4 b hb).1.1
  refine sv_cast (C0 := "") (sx_rd_c hbb2) rfl q826 dX2_isFull_8 ?_
  refine sv_get fg_X2_59 dX2_isFull_11 (sx_rd_c hbb2) rfl ?_
  obtain ⟨mcm, fm, hlm, -⟩ := id (hv4 b hb).1.2.1
  refine sv_cvR _ (cj_size (hv4 b hb).1.2.1) okJ2_size kv_X2_27 (sx_rd_c hlm) rfl dX2_isFull_14 rfl rfl (by omega) (Nat.le_of_ble_eq_true rfl) ?_
  refine sv_aload_n dX2_isFull_17 rfl ?_
  refine sv_get fg_X2_23 dX2_isFull_18 (sx_rd_c hv1) rfl ?_
  refine sv_icmp_lt (tgt := 28) dX2_isFull_21 (by decide) (fun c21 => ?_) (fun c21 => ?_)
  · refine sv_iconst (nI 0) dX2_isFull_28 (by decide +kernel) ?_
    refine sv_iret (by first | exact b_I_nar _ | rfl) rfl dX2_isFull_29 ?_
    first | exact ⟨_, rfl, r_I (b_I_neg (Int32.not_le.mpr c21)), rfl⟩ | exact ⟨_, rfl, r_I (b_I_pos (Int32.not_lt.mp c21)), rfl⟩
  · refine sv_iconst (nI 1) dX2_isFull_24 (by decide +kernel) ?_
    refine sv_goto (tgt := 29) dX2_isFull_25 (by decide) ?_
    refine sv_iret (by first | exact b_I_nar _ | rfl) rfl dX2_isFull_29 ?_
    first | exact ⟨_, rfl, r_I (b_I_neg (Int32.not_le.mpr c21)), rfl⟩ | exact ⟨_, rfl, r_I (b_I_pos (Int32.not_lt.mp c21)), rfl⟩
theorem cc_at (hV : k_V G σ a Λ V) {s : Nat} (hs : s < V.2.2.length) {b : Nat} (hbx : a_bx V s = some b) (hb : b < V.2.1.length) {k : Nat} (hk : k < (a_es V s).length) : sx_Cr G 5 YX2_at [.ref a, .ref (Λ 3 s 0), .int (nI k)] σ (some (va_rf ((a_mo V s k).map (Λ 2 b)))) σ := by
  refine sx_body (by decide) (Nat.le_of_ble_eq_true rfl) ?_
  have hV0 := hV
  obtain ⟨hv1, hv2, hv3, hv4, hv5⟩ := hV
  obtain ⟨mcb, fb, hlb, hab, b1, b2, b3, -⟩ := id hv2
  obtain ⟨mcs, fs, hls, has, s1, s2, s3, -⟩ := id hv3
  obtain ⟨fu, ft, fa, hso, hu, ht, hac, ⟨n1, n2, n3⟩, hl, eu, et, ea⟩ := k_V_ses hV0 hs
  refine sv_aload_n dX2_at_0 rfl ?_
  refine sv_get fg_X2_14 dX2_at_1 (sx_rd_c hv1) rfl ?_
  refine sv_aload_n dX2_at_4 rfl ?_
  refine sv_get fg_X2_65 dX2_at_5 (sx_rd_c hso) rfl ?_
  refine sv_tI (y := nI b) (by rw [hbx]; rfl) ?_
  refine sv_cvR _ (cj_get hv2 (i := b) hb) okJ2_get kv_X2_33 (sx_rd_c hlb) rfl dX2_at_8 rfl rfl (by omega) (Nat.le_of_ble_eq_true rfl) ?_
  have hbb3 := (hv4 b hb).1.1
  refine sv_cast (C0 := "") (sx_rd_c hbb3) rfl q826 dX2_at_11 ?_
  refine sv_aload_n dX2_at_14 rfl ?_
  refine sv_get fg_X2_83 dX2_at_15 (sx_rd_c hso) rfl ?_
  refine sv_iload_n dX2_at_18 rfl ?_
  refine sv_iald dX2_at_19 (sx_rd_c hu) (vp_in_nI (by omega) (by omega)) ?_
  rw [nI_clamp (show k < 2 ^ 31 by omega)]
  refine sv_tI (y := (a_e V s k).1) (eu k hk) ?_
  refine sv_cvR _ (cc_named (hv4 b hb).1) okX6_named kv_X2_87 (sx_rd_c hbb3) rfl dX2_at_20 rfl rfl (by omega) (Nat.le_of_ble_eq_true rfl) ?_
  refine sv_aret (va_rf_or _) (Or.inl ⟨_, rfl⟩) rfl dX2_at_23 ?_
  exact ⟨_, rfl, by rw [a_mo_b hbx]; rfl, rfl⟩
theorem cc_gone (hV : k_V G σ a Λ V) {s : Nat} (hs : s < V.2.2.length) {n : Nat} (hn : n ≤ (a_es V s).length) (hw : ∀ b, a_bx V s = some b → b < V.2.1.length) (hw2 : a_bx V s = none → a_es V s = []) : sx_Cr G 6 YX2_gone [.ref a, .ref (Λ 3 s 0), .int (nI n)] σ (some (.int (nI (a_gm V s n)))) σ := by
  have loop : ∀ r k, k ≤ n → n + 1 ≤ k + r → sx_V G 6 YX2_gone 5 [some (.ref a), some (.ref (Λ 3 s 0)), some (.int (nI n)), some (.int (nI (a_gm V s k))), some (.int (nI k))] [] σ (fun o τ => ∃ v, o = .inl v ∧ v = (some (.int (nI (a_gm V s n)))) ∧ τ = σ) := by
    have hV0 := hV
    obtain ⟨hv1, hv2, hv3, hv4, hv5⟩ := hV
    obtain ⟨mcb, fb, hlb, hab, b1, b2, b3, -⟩ := id hv2
    obtain ⟨mcs, fs, hls, has, s1, s2, s3, -⟩ := id hv3
    obtain ⟨fu, ft, fa, hso, hu, ht, hac, ⟨n1, n2, n3⟩, hl, eu, et, ea⟩ := k_V_ses hV0 hs
    intro r
    induction r with
    | zero => intro k h1 h2; omega
    | succ r ih =>
    intro k hk1 hk2
    refine sv_iload dX2_gone_5 rfl ?_
    refine sv_iload_n dX2_gone_7 rfl ?_
    refine sv_icmp_geN (tgt := 38) dX2_gone_8 (by decide) (by omega) (by omega) (fun c8 => ?_) (fun c8 => ?_)
    · refine sv_iload_n dX2_gone_38 rfl ?_
      refine sv_iret rfl rfl dX2_gone_39 ?_
      exact ⟨_, rfl, r_I (by rw [show k = n by omega]), rfl⟩
    · obtain ⟨b, hbx⟩ : ∃ b, a_bx V s = some b := by
        cases hz : a_bx V s with
        | none => have := hw2 hz; rw [this] at hn; have h9 : n = 0 := Nat.le_zero.mp hn; omega
        | some b => exact ⟨b, rfl⟩
      have hb := hw b hbx
      refine sv_iload_n dX2_gone_11 rfl ?_
      refine sv_aload_n dX2_gone_12 rfl ?_
      refine sv_aload_n dX2_gone_13 rfl ?_
      refine sv_iload dX2_gone_14 rfl ?_
      refine sv_cvR _ (cc_at hV0 hs hbx hb (k := k) (by omega)) okX2_at kv_X2_91 (sx_rd_c hv1) rfl dX2_gone_16 rfl rfl (by omega) (Nat.le_of_ble_eq_true rfl) ?_
      refine sv_ifnonnullq (tgt := 26) dX2_gone_19 (by decide) (fun a19 c19 => ?_) (fun c19 => ?_)
      · have h0 : nI 0 = b_I (a_go V s k) := by unfold a_go; cases hz : a_mo V s k with | none => rw [hz] at c19; cases c19 | some m => rfl
        refine sv_iconst (nI 0) dX2_gone_26 (by decide +kernel) ?_
        refine sv_tI h0 ?_
        refine sv_cnR _ (cc_count (c := a_go V s k)) okX1_count ks_X2_95 dX2_gone_27 rfl rfl (by omega) (Nat.le_of_ble_eq_true rfl) ?_
        refine sv_iaddN dX2_gone_30 ?_
        refine sv_istore_n dX2_gone_31 (by decide) ?_
        refine sv_iincN dX2_gone_32 rfl (by decide) ?_
        refine sv_goto (tgt := 5) dX2_gone_35 (by decide) ?_
        have e9 : a_gm V s (k + 1) = a_gm V s k + (if a_go V s k then 1 else 0) := countP_rs _ _
        rw [← e9]
        exact ih (k + 1) (by omega) (by omega)
      · have h0 : nI 1 = b_I (a_go V s k) := by unfold a_go; rw [Option.map_eq_none_iff.mp c19]; rfl
        refine sv_iconst (nI 1) dX2_gone_22 (by decide +kernel) ?_
        refine sv_goto (tgt := 27) dX2_gone_23 (by decide) ?_
        refine sv_tI h0 ?_
        refine sv_cnR _ (cc_count (c := a_go V s k)) okX1_count ks_X2_95 dX2_gone_27 rfl rfl (by omega) (Nat.le_of_ble_eq_true rfl) ?_
        refine sv_iaddN dX2_gone_30 ?_
        refine sv_istore_n dX2_gone_31 (by decide) ?_
        refine sv_iincN dX2_gone_32 rfl (by decide) ?_
        refine sv_goto (tgt := 5) dX2_gone_35 (by decide) ?_
        have e9 : a_gm V s (k + 1) = a_gm V s k + (if a_go V s k then 1 else 0) := countP_rs _ _
        rw [← e9]
        exact ih (k + 1) (by omega) (by omega)
  refine sx_body (by decide) (Nat.le_of_ble_eq_true rfl) ?_
  have hes : (a_es V s).length ≤ 60 := by obtain ⟨_, _, _, _, _, _, _, _, h, _⟩ := k_V_ses hV hs; exact h
  refine sv_iconst (nI 0) dX2_gone_0 (by decide +kernel) ?_
  refine sv_istore_n dX2_gone_1 (by decide) ?_
  refine sv_iconst (nI 0) dX2_gone_2 (by decide +kernel) ?_
  refine sv_istore dX2_gone_3 (by decide) ?_
  exact loop (n + 1) 0 (by omega) (by omega)
end CSR
