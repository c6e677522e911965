set_option maxRecDepth 100000
section CMA
variable {G : sx_G} {σ τ : sx_St} {x sv : Nat} {Λ : Nat → Nat → Nat → Nat} {V : a_V} {f1 f2 f3 f4 f5 f6 f7 f8 : Value}
/-- what a range's test asks -/
def p_rg (es : List a_E) (f l : Int32) (m : a_M) : Bool := decide ((f - 1).toInt64 ≤ (o_I (es.findIdx? (fun e => e.1 == m.1))).toInt64 ∧ (o_I (es.findIdx? (fun e => e.1 == m.1))).toInt64 ≤ (l - 1).toInt64)
theorem p_rg_e {es : List a_E} {f t : Nat} {m : a_M} (hl : es.length ≤ 60) (hf : f < es.length) (ht : t < es.length) : p_rg es (nI (f + 1)) (nI (t + 1)) m = r_g es f (t + 1) m := by
  unfold p_rg r_g
  have e1 : ∀ k : Nat, k < 2 ^ 30 → (nI (k + 1) - 1 : Int32) = nI k := by
    intro k hk
    rw [← n_1, pk_sub (by omega)]
    exact congrArg nI (Nat.add_sub_cancel k 1)
  rw [e1 f (by omega), e1 t (by omega)]
  cases h : es.findIdx? (fun e => e.1 == m.1) with
  | none =>
    refine decide_eq_false (fun z => ?_)
    have z := z.1
    rw [Int64.le_iff_toInt_le, Int32.toInt_toInt64, Int32.toInt_toInt64, nI_toInt (by omega)] at z
    have : (o_I none).toInt = -1 := rfl
    omega
  | some i =>
    have hi : i < es.length := by
      rw [List.findIdx?_eq_some_iff_getElem] at h
      exact h.1
    refine decide_eq_decide.mpr ?_
    show (nI f).toInt64 ≤ (nI i).toInt64 ∧ (nI i).toInt64 ≤ (nI t).toInt64 ↔ _
    rw [Int64.le_iff_toInt_le, Int64.le_iff_toInt_le, Int32.toInt_toInt64, Int32.toInt_toInt64, Int32.toInt_toInt64, nI_toInt (by omega), nI_toInt (by omega), nI_toInt (by omega)]
    omega
theorem cg_rng (hx : sx_c σ x = some (.inr (0, [.ref sv, f1, f2, f3, f4, f5, f6, f7, f8]))) (hV : k_V G σ sv Λ V) {s : Nat} (hs : s < V.2.2.length) {k l : Int32} (hk : i_en k (a_es V s).length = true) (hl2 : i_en l (a_es V s).length = true) (hle : k ≤ l) : sx_Cr G 5 YX1_rangeOf [.ref x, .int (nI s), .int k, .int l] σ (some (.ref (Λ 3 s 0))) σ := by
  refine sx_body (by decide) (Nat.le_of_ble_eq_true rfl) ?_
  obtain ⟨hv1, hv2, hv3, hv4, hv5⟩ := id hV
  obtain ⟨mcb, fb, hlb, hab, b1, b2, b3, -⟩ := id hv2
  obtain ⟨mcs, fs, hls, has, s1, s2, s3, -⟩ := id hv3
  obtain ⟨fu, ft, fa, hso, hu, ht, hac, ⟨n1, n2, n3⟩, hl, eu, et, ea⟩ := k_V_ses hV hs
  refine sv_aload_n dX1_rangeOf_0 rfl ?_
  refine sv_iload_n dX1_rangeOf_1 rfl ?_
  refine sv_cvR _ (cg_sesAt hx hV hs) okX1_sessionAt kv_X1_240 (sx_rd_c hx) rfl dX1_rangeOf_2 rfl rfl (by omega) (Nat.le_of_ble_eq_true rfl) ?_
  refine sv_astore dX1_rangeOf_5 (by decide) ?_
  refine sv_aload dX1_rangeOf_7 rfl ?_
  refine sv_iload_n dX1_rangeOf_9 rfl ?_
  refine sv_csR _ (cg_ent hV hs hk) okX1_requireEntry ks_X1_270 dX1_rangeOf_10 rfl rfl (by omega) (Nat.le_of_ble_eq_true rfl) ?_
  refine sv_aload dX1_rangeOf_13 rfl ?_
  refine sv_iload_n dX1_rangeOf_15 rfl ?_
  refine sv_csR _ (cg_ent hV hs hl2) okX1_requireEntry ks_X1_270 dX1_rangeOf_16 rfl rfl (by omega) (Nat.le_of_ble_eq_true rfl) ?_
  refine sv_iload_n dX1_rangeOf_19 rfl ?_
  refine sv_iload_n dX1_rangeOf_20 rfl ?_
  refine sv_icmp_lt (tgt := 28) dX1_rangeOf_21 (by decide) (fun c21 => ?_) (fun c21 => ?_)
  · exact absurd c21 (Int32.not_lt.mpr hle)
  · refine sv_iconst (nI 1) dX1_rangeOf_24 (by decide +kernel) ?_
    refine sv_goto (tgt := 29) dX1_rangeOf_25 (by decide) ?_
    refine sv_tI (y := b_I true) rfl ?_
    refine sv_csR _ cr_A okX1_requireArgument ks_X1_98 dX1_rangeOf_29 rfl rfl (by omega) (Nat.le_of_ble_eq_true rfl) ?_
    refine sv_aload dX1_rangeOf_32 rfl ?_
    refine sv_aret (Or.inr ⟨_, rfl⟩) (Or.inl ⟨_, rfl⟩) rfl dX1_rangeOf_34 ?_
    exact ⟨_, rfl, rfl, rfl⟩
theorem cgx_rng1 (hx : sx_c σ x = some (.inr (0, [.ref sv, f1, f2, f3, f4, f5, f6, f7, f8]))) (hV : k_V G σ sv Λ V) {s : Int32} {k l : Int32} (hi : i_in s V.2.2.length = false) : sx_C G 12 YX1_rangeOf [.ref x, .int s, .int k, .int l] σ (fun o τ => ∃ q, o = .inr ("java/lang/IndexOutOfBoundsException", q) ∧ h_F (fun _ => False) 1 6 σ τ) := by
  refine sx_body (by decide) (Nat.le_of_ble_eq_true rfl) ?_
  obtain ⟨hv1, hv2, hv3, hv4, hv5⟩ := id hV
  obtain ⟨mcb, fb, hlb, hab, b1, b2, b3, -⟩ := id hv2
  obtain ⟨mcs, fs, hls, has, s1, s2, s3, -⟩ := id hv3
  refine sv_aload_n dX1_rangeOf_0 rfl ?_
  refine sv_iload_n dX1_rangeOf_1 rfl ?_
  refine sv_cv _ (cgx_sesAt hx hV hi) okX1_sessionAt (sx_rd_c hx) rfl kv_X1_240.1 kv_X1_240.2.1 kv_X1_240.2.2 dX1_rangeOf_2 rfl rfl (by omega) (Nat.le_of_ble_eq_true rfl) (fun v τ h => by obtain ⟨q, e, _⟩ := h; cases e) (fun E q τ h => ?_)
  obtain ⟨q9, e9, F9⟩ := h
  cases e9
  refine sv_out (fun x hx => by cases hx) ?_
  exact ⟨_, rfl, F9⟩
theorem cgx_rng2 (hx : sx_c σ x = some (.inr (0, [.ref sv, f1, f2, f3, f4, f5, f6, f7, f8]))) (hV : k_V G σ sv Λ V) {s : Nat} (hs : s < V.2.2.length) {k l : Int32} (h : i_en k (a_es V s).length = false) : sx_C G 12 YX1_rangeOf [.ref x, .int (nI s), .int k, .int l] σ (fun o τ => ∃ q, o = .inr ("java/lang/IndexOutOfBoundsException", q) ∧ h_F (fun _ => False) 1 6 σ τ) := by
  refine sx_body (by decide) (Nat.le_of_ble_eq_true rfl) ?_
  obtain ⟨hv1, hv2, hv3, hv4, hv5⟩ := id hV
  obtain ⟨mcb, fb, hlb, hab, b1, b2, b3, -⟩ := id hv2
  obtain ⟨mcs, fs, hls, has, s1, s2, s3, -⟩ := id hv3
  obtain ⟨fu, ft, fa, hso, hu, ht, hac, ⟨n1, n2, n3⟩, hl, eu, et, ea⟩ := k_V_ses hV hs
  refine sv_aload_n dX1_rangeOf_0 rfl ?_
  refine sv_iload_n dX1_rangeOf_1 rfl ?_
  refine sv_cvR _ (cg_sesAt hx hV hs) okX1_sessionAt kv_X1_240 (sx_rd_c hx) rfl dX1_rangeOf_2 rfl rfl (by omega) (Nat.le_of_ble_eq_true rfl) ?_
  refine sv_astore dX1_rangeOf_5 (by decide) ?_
  refine sv_aload dX1_rangeOf_7 rfl ?_
  refine sv_iload_n dX1_rangeOf_9 rfl ?_
  refine sv_cs _ (cgx_ent hV hs h) okX1_requireEntry ks_X1_270.1 ks_X1_270.2 dX1_rangeOf_10 rfl rfl (by omega) (Nat.le_of_ble_eq_true rfl) (fun v τ h => by obtain ⟨q, e, _⟩ := h; cases e) (fun E q τ h => ?_)
  obtain ⟨q9, e9, F9⟩ := h
  cases e9
  refine sv_out (fun x hx => by cases hx) ?_
  exact ⟨_, rfl, F9⟩
theorem cgx_rng3 (hx : sx_c σ x = some (.inr (0, [.ref sv, f1, f2, f3, f4, f5, f6, f7, f8]))) (hV : k_V G σ sv Λ V) {s : Nat} (hs : s < V.2.2.length) {k l : Int32} (hk : i_en k (a_es V s).length = true) (h : i_en l (a_es V s).length = false) : sx_C G 12 YX1_rangeOf [.ref x, .int (nI s), .int k, .int l] σ (fun o τ => ∃ q, o = .inr ("java/lang/IndexOutOfBoundsException", q) ∧ h_F (fun _ => False) 1 6 σ τ) := by
  refine sx_body (by decide) (Nat.le_of_ble_eq_true rfl) ?_
  obtain ⟨hv1, hv2, hv3, hv4, hv5⟩ := id hV
  obtain ⟨mcb, fb, hlb, hab, b1, b2, b3, -⟩ := id hv2
  obtain ⟨mcs, fs, hls, has, s1, s2, s3, -⟩ := id hv3
  obtain ⟨fu, ft, fa, hso, hu, ht, hac, ⟨n1, n2, n3⟩, hl, eu, et, ea⟩ := k_V_ses hV hs
  refine sv_aload_n dX1_rangeOf_0 rfl ?_
  refine sv_iload_n dX1_rangeOf_1 rfl ?_
  refine sv_cvR _ (cg_sesAt hx hV hs) okX1_sessionAt kv_X1_240 (sx_rd_c hx) rfl dX1_rangeOf_2 rfl rfl (by omega) (Nat.le_of_ble_eq_true rfl) ?_
  refine sv_astore dX1_rangeOf_5 (by decide) ?_
  refine sv_aload dX1_rangeOf_7 rfl ?_
  refine sv_iload_n dX1_rangeOf_9 rfl ?_
  refine sv_csR _ (cg_ent hV hs hk) okX1_requireEntry ks_X1_270 dX1_rangeOf_10 rfl rfl (by omega) (Nat.le_of_ble_eq_true rfl) ?_
  refine sv_aload dX1_rangeOf_13 rfl ?_
  refine sv_iload_n dX1_rangeOf_15 rfl ?_
  refine sv_cs _ (cgx_ent hV hs h) okX1_requireEntry ks_X1_270.1 ks_X1_270.2 dX1_rangeOf_16 rfl rfl (by omega) (Nat.le_of_ble_eq_true rfl) (fun v τ h => by obtain ⟨q, e, _⟩ := h; cases e) (fun E q τ h => ?_)
  obtain ⟨q9, e9, F9⟩ := h
  cases e9
  refine sv_out (fun x hx => by cases hx) ?_
  exact ⟨_, rfl, F9⟩
theorem cgx_rng4 (hx : sx_c σ x = some (.inr (0, [.ref sv, f1, f2, f3, f4, f5, f6, f7, f8]))) (hV : k_V G σ sv Λ V) {s : Nat} (hs : s < V.2.2.length) {k l : Int32} (hk : i_en k (a_es V s).length = true) (hl2 : i_en l (a_es V s).length = true) (hle : ¬ k ≤ l) : sx_C G 12 YX1_rangeOf [.ref x, .int (nI s), .int k, .int l] σ (fun o τ => ∃ q, o = .inr ("java/lang/IllegalArgumentException", q) ∧ h_F (fun _ => False) 1 6 σ τ) := by
  refine sx_body (by decide) (Nat.le_of_ble_eq_true rfl) ?_
  obtain ⟨hv1, hv2, hv3, hv4, hv5⟩ := id hV
  obtain ⟨mcb, fb, hlb, hab, b1, b2, b3, -⟩ := id hv2
  obtain ⟨mcs, fs, hls, has, s1, s2, s3, -⟩ := id hv3
  obtain ⟨fu, ft, fa, hso, hu, ht, hac, ⟨n1, n2, n3⟩, hl, eu, et, ea⟩ := k_V_ses hV hs
  refine sv_aload_n dX1_rangeOf_0 rfl ?_
  refine sv_iload_n dX1_rangeOf_1 rfl ?_
  refine sv_cvR _ (cg_sesAt hx hV hs) okX1_sessionAt kv_X1_240 (sx_rd_c hx) rfl dX1_rangeOf_2 rfl rfl (by omega) (Nat.le_of_ble_eq_true rfl) ?_
  refine sv_astore dX1_rangeOf_5 (by decide) ?_
  refine sv_aload dX1_rangeOf_7 rfl ?_
  refine sv_iload_n dX1_rangeOf_9 rfl ?_
  refine sv_csR _ (cg_ent hV hs hk) okX1_requireEntry ks_X1_270 dX1_rangeOf_10 rfl rfl (by omega) (Nat.le_of_ble_eq_true rfl) ?_
  refine sv_aload dX1_rangeOf_13 rfl ?_
  refine sv_iload_n dX1_rangeOf_15 rfl ?_
  refine sv_csR _ (cg_ent hV hs hl2) okX1_requireEntry ks_X1_270 dX1_rangeOf_16 rfl rfl (by omega) (Nat.le_of_ble_eq_true rfl) ?_
  refine sv_iload_n dX1_rangeOf_19 rfl ?_
  refine sv_iload_n dX1_rangeOf_20 rfl ?_
  refine sv_icmp_lt (tgt := 28) dX1_rangeOf_21 (by decide) (fun c21 => ?_) (fun c21 => ?_)
  · refine sv_iconst (nI 0) dX1_rangeOf_28 (by decide +kernel) ?_
    refine sv_tI (y := b_I false) rfl ?_
    refine sv_cs _ cx_A okX1_requireArgument ks_X1_98.1 ks_X1_98.2 dX1_rangeOf_29 rfl rfl (by omega) (Nat.le_of_ble_eq_true rfl) (fun v τ h => by obtain ⟨q, e, _⟩ := h; cases e) (fun E q τ h => ?_)
    obtain ⟨q9, e9, F9⟩ := h
    cases e9
    refine sv_out (fun x hx => by cases hx) ?_
    exact ⟨_, rfl, F9⟩
  · exact absurd (Int32.not_lt.mp c21) hle
theorem cgx_rng (hx : sx_c σ x = some (.inr (0, [.ref sv, f1, f2, f3, f4, f5, f6, f7, f8]))) (hV : k_V G σ sv Λ V) (hn : V.2.2.length ≤ 4) {s k l : Int32} (h : a_are V s k l = false) : sx_C G 12 YX1_rangeOf [.ref x, .int s, .int k, .int l] σ (fun o τ => ∃ q, o = .inr ("java/lang/IndexOutOfBoundsException", q) ∧ h_F (fun _ => False) 1 6 σ τ) := by
  unfold a_are at h
  cases h1 : i_in s V.2.2.length with
  | false => exact cgx_rng1 hx hV h1
  | true =>
    obtain ⟨j, hj, rfl⟩ := i_in_of (by omega) h1
    rw [h1, Bool.true_and, nI_clamp (by omega)] at h
    cases h2 : i_en k (a_es V j).length with
    | false => exact cgx_rng2 hx hV hj h2
    | true =>
      rw [h2, Bool.true_and] at h
      exact cgx_rng3 hx hV hj h2 h
end CMA
