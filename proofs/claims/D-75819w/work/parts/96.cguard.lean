set_option maxRecDepth 100000
section CXA
variable {G : sx_G} {σ τ : sx_St} {x sv : Nat} {Λ : Nat → Nat → Nat → Nat} {V : a_V} {f1 f2 f3 f4 f5 f6 f7 f8 : Value}
theorem n_1 : (nI 1 : Int32) = 1 := by decide +kernel
theorem in_1 {y : Int32} {n : Nat} (hn : n < 2 ^ 31) : decide ((0 : Int64) ≤ y.toInt64 ∧ y.toInt64 ≤ (nI n - nI 1).toInt64) = i_in y n := by
  rw [n_1]
  exact decide_eq_decide.mpr (in_I hn)
theorem in_2 {y : Int32} {n : Nat} (hn : n < 2 ^ 31) : decide ((1 : Int64) ≤ y.toInt64 ∧ y.toInt64 ≤ (nI n).toInt64) = i_en y n := (i_en_b hn).symm
theorem cg_boxAt (hx : sx_c σ x = some (.inr (0, [.ref sv, f1, f2, f3, f4, f5, f6, f7, f8]))) (hV : k_V G σ sv Λ V) {i : Nat} (hi : i < V.2.1.length) : sx_Cr G 3 YX1_boxAt [.ref x, .int (nI i)] σ (some (.ref (Λ 1 i 0))) σ := by
  refine sx_body (by decide) (Nat.le_of_ble_eq_true rfl) ?_
  have hV0 := hV
  obtain ⟨hv1, hv2, hv3, hv4, hv5⟩ := hV
  obtain ⟨mcb, fb, hlb, hab, b1, b2, b3, -⟩ := id hv2
  obtain ⟨mcs, fs, hls, has, s1, s2, s3, -⟩ := id hv3
  refine sv_iload_n dX1_boxAt_0 rfl ?_
  refine sv_i2l dX1_boxAt_1 ?_
  refine sv_lconst 0 dX1_boxAt_2 (by decide) ?_
  refine sv_aload_n dX1_boxAt_3 rfl ?_
  refine sv_get fg_X1_44 dX1_boxAt_4 (sx_rd_c hx) rfl ?_
  refine sv_get fg_X1_173 dX1_boxAt_7 (sx_rd_c hv1) rfl ?_
  refine sv_cvR _ (cj_size hv2) okJ2_size kv_X1_176 (sx_rd_c hlb) rfl dX1_boxAt_10 rfl rfl (by omega) (Nat.le_of_ble_eq_true rfl) ?_
  refine sv_iconst (nI 1) dX1_boxAt_13 (by decide +kernel) ?_
  refine sv_isub dX1_boxAt_14 ?_
  refine sv_i2l dX1_boxAt_15 ?_
  refine sv_csR _ cc_inRange okX1_inRange ks_X1_94 dX1_boxAt_16 rfl rfl (by omega) (Nat.le_of_ble_eq_true rfl) ?_
  refine sv_tI (y := b_I true) (congrArg b_I ((in_1 (by omega)).trans (i_in_nI hi (by omega)))) ?_
  refine sv_csR _ cr_I okX1_requireIndex ks_X1_183 dX1_boxAt_19 rfl rfl (by omega) (Nat.le_of_ble_eq_true rfl) ?_
  refine sv_aload_n dX1_boxAt_22 rfl ?_
  refine sv_get fg_X1_44 dX1_boxAt_23 (sx_rd_c hx) rfl ?_
  refine sv_get fg_X1_173 dX1_boxAt_26 (sx_rd_c hv1) rfl ?_
  refine sv_iload_n dX1_boxAt_29 rfl ?_
  refine sv_cvR _ (cj_get hv2 (i := i) hi) okJ2_get kv_X1_186 (sx_rd_c hlb) rfl dX1_boxAt_30 rfl rfl (by omega) (Nat.le_of_ble_eq_true rfl) ?_
  have hbb := (hv4 i hi).1.1
  refine sv_cast (C0 := "") (sx_rd_c hbb) rfl q1452 dX1_boxAt_33 ?_
  refine sv_aret (Or.inr ⟨_, rfl⟩) (Or.inl ⟨_, rfl⟩) rfl dX1_boxAt_36 ?_
  exact ⟨_, rfl, rfl, rfl⟩
theorem cgx_boxAt (hx : sx_c σ x = some (.inr (0, [.ref sv, f1, f2, f3, f4, f5, f6, f7, f8]))) (hV : k_V G σ sv Λ V) {i : Int32} (hi : i_in i V.2.1.length = false) : sx_C G 10 YX1_boxAt [.ref x, .int i] σ (fun o τ => ∃ q, o = .inr ("java/lang/IndexOutOfBoundsException", q) ∧ h_F (fun _ => False) 1 6 σ τ) := by
  refine sx_body (by decide) (Nat.le_of_ble_eq_true rfl) ?_
  have hV0 := hV
  obtain ⟨hv1, hv2, hv3, hv4, hv5⟩ := hV
  obtain ⟨mcb, fb, hlb, hab, b1, b2, b3, -⟩ := id hv2
  obtain ⟨mcs, fs, hls, has, s1, s2, s3, -⟩ := id hv3
  refine sv_iload_n dX1_boxAt_0 rfl ?_
  refine sv_i2l dX1_boxAt_1 ?_
  refine sv_lconst 0 dX1_boxAt_2 (by decide) ?_
  refine sv_aload_n dX1_boxAt_3 rfl ?_
  refine sv_get fg_X1_44 dX1_boxAt_4 (sx_rd_c hx) rfl ?_
  refine sv_get fg_X1_173 dX1_boxAt_7 (sx_rd_c hv1) rfl ?_
  refine sv_cvR _ (cj_size hv2) okJ2_size kv_X1_176 (sx_rd_c hlb) rfl dX1_boxAt_10 rfl rfl (by omega) (Nat.le_of_ble_eq_true rfl) ?_
  refine sv_iconst (nI 1) dX1_boxAt_13 (by decide +kernel) ?_
  refine sv_isub dX1_boxAt_14 ?_
  refine sv_i2l dX1_boxAt_15 ?_
  refine sv_csR _ cc_inRange okX1_inRange ks_X1_94 dX1_boxAt_16 rfl rfl (by omega) (Nat.le_of_ble_eq_true rfl) ?_
  refine sv_tI (y := b_I false) (congrArg b_I ((in_1 (by omega)).trans hi)) ?_
  refine sv_cs _ cx_I okX1_requireIndex ks_X1_183.1 ks_X1_183.2 dX1_boxAt_19 rfl rfl (by omega) (Nat.le_of_ble_eq_true rfl) (fun v τ h => by obtain ⟨q, e, _⟩ := h; cases e) (fun E q τ h => ?_)
  obtain ⟨q9, e9, F9⟩ := h
  cases e9
  refine sv_out (fun x hx => by cases hx) ?_
  exact ⟨_, rfl, F9⟩
theorem cg_sesAt (hx : sx_c σ x = some (.inr (0, [.ref sv, f1, f2, f3, f4, f5, f6, f7, f8]))) (hV : k_V G σ sv Λ V) {i : Nat} (hi : i < V.2.2.length) : sx_Cr G 3 YX1_sessionAt [.ref x, .int (nI i)] σ (some (.ref (Λ 3 i 0))) σ := by
  refine sx_body (by decide) (Nat.le_of_ble_eq_true rfl) ?_
  have hV0 := hV
  obtain ⟨hv1, hv2, hv3, hv4, hv5⟩ := hV
  obtain ⟨mcb, fb, hlb, hab, b1, b2, b3, -⟩ := id hv2
  obtain ⟨mcs, fs, hls, has, s1, s2, s3, -⟩ := id hv3
  obtain ⟨fu, ft, fa, hso, -⟩ := k_V_ses hV0 hi
  refine sv_iload_n dX1_sessionAt_0 rfl ?_
  refine sv_i2l dX1_sessionAt_1 ?_
  refine sv_lconst 0 dX1_sessionAt_2 (by decide) ?_
  refine sv_aload_n dX1_sessionAt_3 rfl ?_
  refine sv_get fg_X1_44 dX1_sessionAt_4 (sx_rd_c hx) rfl ?_
  refine sv_get fg_X1_177 dX1_sessionAt_7 (sx_rd_c hv1) rfl ?_
  refine sv_cvR _ (cj_size hv3) okJ2_size kv_X1_176 (sx_rd_c hls) rfl dX1_sessionAt_10 rfl rfl (by omega) (Nat.le_of_ble_eq_true rfl) ?_
  refine sv_iconst (nI 1) dX1_sessionAt_13 (by decide +kernel) ?_
  refine sv_isub dX1_sessionAt_14 ?_
  refine sv_i2l dX1_sessionAt_15 ?_
  refine sv_csR _ cc_inRange okX1_inRange ks_X1_94 dX1_sessionAt_16 rfl rfl (by omega) (Nat.le_of_ble_eq_true rfl) ?_
  refine sv_tI (y := b_I true) (congrArg b_I ((in_1 (by omega)).trans (i_in_nI hi (by omega)))) ?_
  refine sv_csR _ cr_I okX1_requireIndex ks_X1_183 dX1_sessionAt_19 rfl rfl (by omega) (Nat.le_of_ble_eq_true rfl) ?_
  refine sv_aload_n dX1_sessionAt_22 rfl ?_
  refine sv_get fg_X1_44 dX1_sessionAt_23 (sx_rd_c hx) rfl ?_
  refine sv_get fg_X1_177 dX1_sessionAt_26 (sx_rd_c hv1) rfl ?_
  refine sv_iload_n dX1_sessionAt_29 rfl ?_
  refine sv_cvR _ (cj_get hv3 (i := i) hi) okJ2_get kv_X1_186 (sx_rd_c hls) rfl dX1_sessionAt_30 rfl rfl (by omega) (Nat.le_of_ble_eq_true rfl) ?_
  have hbb := hso
  refine sv_cast (C0 := "") (sx_rd_c hbb) rfl q1218 dX1_sessionAt_33 ?_
  refine sv_aret (Or.inr ⟨_, rfl⟩) (Or.inl ⟨_, rfl⟩) rfl dX1_sessionAt_36 ?_
  exact ⟨_, rfl, rfl, rfl⟩
theorem cgx_sesAt (hx : sx_c σ x = some (.inr (0, [.ref sv, f1, f2, f3, f4, f5, f6, f7, f8]))) (hV : k_V G σ sv Λ V) {i : Int32} (hi : i_in i V.2.2.length = false) : sx_C G 10 YX1_sessionAt [.ref x, .int i] σ (fun o τ => ∃ q, o = .inr ("java/lang/IndexOutOfBoundsException", q) ∧ h_F (fun _ => False) 1 6 σ τ) := by
  refine sx_body (by decide) (Nat.le_of_ble_eq_true rfl) ?_
  have hV0 := hV
  obtain ⟨hv1, hv2, hv3, hv4, hv5⟩ := hV
  obtain ⟨mcb, fb, hlb, hab, b1, b2, b3, -⟩ := id hv2
  obtain ⟨mcs, fs, hls, has, s1, s2, s3, -⟩ := id hv3
  refine sv_iload_n dX1_sessionAt_0 rfl ?_
  refine sv_i2l dX1_sessionAt_1 ?_
  refine sv_lconst 0 dX1_sessionAt_2 (by decide) ?_
  refine sv_aload_n dX1_sessionAt_3 rfl ?_
  refine sv_get fg_X1_44 dX1_sessionAt_4 (sx_rd_c hx) rfl ?_
  refine sv_get fg_X1_177 dX1_sessionAt_7 (sx_rd_c hv1) rfl ?_
  refine sv_cvR _ (cj_size hv3) okJ2_size kv_X1_176 (sx_rd_c hls) rfl dX1_sessionAt_10 rfl rfl (by omega) (Nat.le_of_ble_eq_true rfl) ?_
  refine sv_iconst (nI 1) dX1_sessionAt_13 (by decide +kernel) ?_
  refine sv_isub dX1_sessionAt_14 ?_
  refine sv_i2l dX1_sessionAt_15 ?_
  refine sv_csR _ cc_inRange okX1_inRange ks_X1_94 dX1_sessionAt_16 rfl rfl (by omega) (Nat.le_of_ble_eq_true rfl) ?_
  refine sv_tI (y := b_I false) (congrArg b_I ((in_1 (by omega)).trans hi)) ?_
  refine sv_cs _ cx_I okX1_requireIndex ks_X1_183.1 ks_X1_183.2 dX1_sessionAt_19 rfl rfl (by omega) (Nat.le_of_ble_eq_true rfl) (fun v τ h => by obtain ⟨q, e, _⟩ := h; cases e) (fun E q τ h => ?_)
  obtain ⟨q9, e9, F9⟩ := h
  cases e9
  refine sv_out (fun x hx => by cases hx) ?_
  exact ⟨_, rfl, F9⟩
theorem cg_open (hV : k_V G σ sv Λ V) {s : Nat} (hs : s < V.2.2.length) (hbl : ∀ b, a_bx V s = some b → b < 100) (h : ((a_bx V s).isSome && !(a_id V s)) = true) : sx_Cr G 3 YX1_requireOpen [.ref (Λ 3 s 0)] σ none σ := by
  refine sx_body (by decide) (Nat.le_of_ble_eq_true rfl) ?_
  obtain ⟨fu, ft, fa, hso, hu, ht, hac, ⟨n1, n2, n3⟩, hl, eu, et, ea⟩ := k_V_ses hV hs
  refine sv_aload_n dX1_requireOpen_0 rfl ?_
  refine sv_get fg_X1_194 dX1_requireOpen_1 (sx_rd_c hso) rfl ?_
  refine sv_iconst (-1) dX1_requireOpen_4 (by decide +kernel) ?_
  refine sv_icmp_eq (tgt := 19) dX1_requireOpen_5 (by decide) (fun c5 => ?_) (fun c5 => ?_)
  · have hz : a_bx V s = none := (o_I_m1 _ (fun k h => by have := hbl k h; omega)).mp c5
    have hc : ((a_bx V s).isSome && !(a_id V s)) = false := by rw [hz]; rfl
    refine sv_iconst (nI 0) dX1_requireOpen_19 (by decide +kernel) ?_
    refine sv_tI (y := b_I true) (by rw [hc] at h; first | rfl | cases h) ?_
    refine sv_csR _ cr_S okX1_requireState ks_X1_86 dX1_requireOpen_20 rfl rfl (by omega) (Nat.le_of_ble_eq_true rfl) ?_
    refine sv_vret rfl dX1_requireOpen_23 ?_
    exact ⟨_, rfl, rfl, rfl⟩
  · have hz : (a_bx V s).isSome = true := by
      cases hq : a_bx V s with
      | none => rw [hq] at c5; exact absurd rfl c5
      | some b => rfl
    refine sv_aload_n dX1_requireOpen_8 rfl ?_
    refine sv_get fg_X1_254 dX1_requireOpen_9 (sx_rd_c hso) rfl ?_
    refine sv_if_neB (tgt := 19) dX1_requireOpen_12 (by decide) (fun c12 => ?_) (fun c12 => ?_)
    · have hc : ((a_bx V s).isSome && !(a_id V s)) = false := by rw [c12, hz]; rfl
      refine sv_iconst (nI 0) dX1_requireOpen_19 (by decide +kernel) ?_
      refine sv_tI (y := b_I true) (by rw [hc] at h; first | rfl | cases h) ?_
      refine sv_csR _ cr_S okX1_requireState ks_X1_86 dX1_requireOpen_20 rfl rfl (by omega) (Nat.le_of_ble_eq_true rfl) ?_
      refine sv_vret rfl dX1_requireOpen_23 ?_
      exact ⟨_, rfl, rfl, rfl⟩
    · have hc : ((a_bx V s).isSome && !(a_id V s)) = true := by rw [c12, hz]; rfl
      refine sv_iconst (nI 1) dX1_requireOpen_15 (by decide +kernel) ?_
      refine sv_goto (tgt := 20) dX1_requireOpen_16 (by decide) ?_
      refine sv_tI (y := b_I true) (by rw [hc] at h; first | rfl | cases h) ?_
      refine sv_csR _ cr_S okX1_requireState ks_X1_86 dX1_requireOpen_20 rfl rfl (by omega) (Nat.le_of_ble_eq_true rfl) ?_
      refine sv_vret rfl dX1_requireOpen_23 ?_
      exact ⟨_, rfl, rfl, rfl⟩
theorem cgx_open (hV : k_V G σ sv Λ V) {s : Nat} (hs : s < V.2.2.length) (hbl : ∀ b, a_bx V s = some b → b < 100) (h : ((a_bx V s).isSome && !(a_id V s)) = false) : sx_C G 10 YX1_requireOpen [.ref (Λ 3 s 0)] σ (fun o τ => ∃ q, o = .inr ("java/lang/IllegalStateException", q) ∧ h_F (fun _ => False) 1 6 σ τ) := by
  refine sx_body (by decide) (Nat.le_of_ble_eq_true rfl) ?_
  obtain ⟨fu, ft, fa, hso, hu, ht, hac, ⟨n1, n2, n3⟩, hl, eu, et, ea⟩ := k_V_ses hV hs
  refine sv_aload_n dX1_requireOpen_0 rfl ?_
  refine sv_get fg_X1_194 dX1_requireOpen_1 (sx_rd_c hso) rfl ?_
  refine sv_iconst (-1) dX1_requireOpen_4 (by decide +kernel) ?_
  refine sv_icmp_eq (tgt := 19) dX1_requireOpen_5 (by decide) (fun c5 => ?_) (fun c5 => ?_)
  · have hz : a_bx V s = none := (o_I_m1 _ (fun k h => by have := hbl k h; omega)).mp c5
    have hc : ((a_bx V s).isSome && !(a_id V s)) = false := by rw [hz]; rfl
    refine sv_iconst (nI 0) dX1_requireOpen_19 (by decide +kernel) ?_
    refine sv_tI (y := b_I false) (by rw [hc] at h; first | rfl | cases h) ?_
    refine sv_cs _ cx_S okX1_requireState ks_X1_86.1 ks_X1_86.2 dX1_requireOpen_20 rfl rfl (by omega) (Nat.le_of_ble_eq_true rfl) (fun v τ h => by obtain ⟨q, e, _⟩ := h; cases e) (fun E q τ h => ?_)
    obtain ⟨q9, e9, F9⟩ := h
    cases e9
    refine sv_out (fun x hx => by cases hx) ?_
    exact ⟨_, rfl, F9⟩
  · have hz : (a_bx V s).isSome = true := by
      cases hq : a_bx V s with
      | none => rw [hq] at c5; exact absurd rfl c5
      | some b => rfl
    refine sv_aload_n dX1_requireOpen_8 rfl ?_
    refine sv_get fg_X1_254 dX1_requireOpen_9 (sx_rd_c hso) rfl ?_
    refine sv_if_neB (tgt := 19) dX1_requireOpen_12 (by decide) (fun c12 => ?_) (fun c12 => ?_)
    · have hc : ((a_bx V s).isSome && !(a_id V s)) = false := by rw [c12, hz]; rfl
      refine sv_iconst (nI 0) dX1_requireOpen_19 (by decide +kernel) ?_
      refine sv_tI (y := b_I false) (by rw [hc] at h; first | rfl | cases h) ?_
      refine sv_cs _ cx_S okX1_requireState ks_X1_86.1 ks_X1_86.2 dX1_requireOpen_20 rfl rfl (by omega) (Nat.le_of_ble_eq_true rfl) (fun v τ h => by obtain ⟨q, e, _⟩ := h; cases e) (fun E q τ h => ?_)
      obtain ⟨q9, e9, F9⟩ := h
      cases e9
      refine sv_out (fun x hx => by cases hx) ?_
      exact ⟨_, rfl, F9⟩
    · have hc : ((a_bx V s).isSome && !(a_id V s)) = true := by rw [c12, hz]; rfl
      refine sv_iconst (nI 1) dX1_requireOpen_15 (by decide +kernel) ?_
      refine sv_goto (tgt := 20) dX1_requireOpen_16 (by decide) ?_
      refine sv_tI (y := b_I false) (by rw [hc] at h; first | rfl | cases h) ?_
      refine sv_cs _ cx_S okX1_requireState ks_X1_86.1 ks_X1_86.2 dX1_requireOpen_20 rfl rfl (by omega) (Nat.le_of_ble_eq_true rfl) (fun v τ h => by obtain ⟨q, e, _⟩ := h; cases e) (fun E q τ h => ?_)
      obtain ⟨q9, e9, F9⟩ := h
      cases e9
      refine sv_out (fun x hx => by cases hx) ?_
      exact ⟨_, rfl, F9⟩
theorem cg_wr (hV : k_V G σ sv Λ V) {s : Nat} (hs : s < V.2.2.length) (hbl : ∀ b, a_bx V s = some b → b < 100) (h : ((a_bx V s).isSome && !(a_id V s) && !(a_rd V s)) = true) : sx_Cr G 3 YX1_requireWriter [.ref (Λ 3 s 0)] σ none σ := by
  refine sx_body (by decide) (Nat.le_of_ble_eq_true rfl) ?_
  obtain ⟨fu, ft, fa, hso, hu, ht, hac, ⟨n1, n2, n3⟩, hl, eu, et, ea⟩ := k_V_ses hV hs
  refine sv_aload_n dX1_requireWriter_0 rfl ?_
  refine sv_get fg_X1_194 dX1_requireWriter_1 (sx_rd_c hso) rfl ?_
  refine sv_iconst (-1) dX1_requireWriter_4 (by decide +kernel) ?_
  refine sv_icmp_eq (tgt := 26) dX1_requireWriter_5 (by decide) (fun c5 => ?_) (fun c5 => ?_)
  · have hz : a_bx V s = none := (o_I_m1 _ (fun k h => by have := hbl k h; omega)).mp c5
    have hc : ((a_bx V s).isSome && !(a_id V s) && !(a_rd V s)) = false := by rw [hz]; rfl
    refine sv_iconst (nI 0) dX1_requireWriter_26 (by decide +kernel) ?_
    refine sv_tI (y := b_I true) (by rw [hc] at h; first | rfl | cases h) ?_
    refine sv_csR _ cr_S okX1_requireState ks_X1_86 dX1_requireWriter_27 rfl rfl (by omega) (Nat.le_of_ble_eq_true rfl) ?_
    refine sv_vret rfl dX1_requireWriter_30 ?_
    exact ⟨_, rfl, rfl, rfl⟩
  · have hz : (a_bx V s).isSome = true := by
      cases hq : a_bx V s with
      | none => rw [hq] at c5; exact absurd rfl c5
      | some b => rfl
    refine sv_aload_n dX1_requireWriter_8 rfl ?_
    refine sv_get fg_X1_254 dX1_requireWriter_9 (sx_rd_c hso) rfl ?_
    refine sv_if_neB (tgt := 26) dX1_requireWriter_12 (by decide) (fun c12 => ?_) (fun c12 => ?_)
    · have hc : ((a_bx V s).isSome && !(a_id V s) && !(a_rd V s)) = false := by rw [c12, hz]; rfl
      refine sv_iconst (nI 0) dX1_requireWriter_26 (by decide +kernel) ?_
      refine sv_tI (y := b_I true) (by rw [hc] at h; first | rfl | cases h) ?_
      refine sv_csR _ cr_S okX1_requireState ks_X1_86 dX1_requireWriter_27 rfl rfl (by omega) (Nat.le_of_ble_eq_true rfl) ?_
      refine sv_vret rfl dX1_requireWriter_30 ?_
      exact ⟨_, rfl, rfl, rfl⟩
    · refine sv_aload_n dX1_requireWriter_15 rfl ?_
      refine sv_get fg_X1_246 dX1_requireWriter_16 (sx_rd_c hso) rfl ?_
      refine sv_if_neB (tgt := 26) dX1_requireWriter_19 (by decide) (fun c19 => ?_) (fun c19 => ?_)
      · have hc : ((a_bx V s).isSome && !(a_id V s) && !(a_rd V s)) = false := by rw [c12, hz, c19]; rfl
        refine sv_iconst (nI 0) dX1_requireWriter_26 (by decide +kernel) ?_
        refine sv_tI (y := b_I true) (by rw [hc] at h; first | rfl | cases h) ?_
        refine sv_csR _ cr_S okX1_requireState ks_X1_86 dX1_requireWriter_27 rfl rfl (by omega) (Nat.le_of_ble_eq_true rfl) ?_
        refine sv_vret rfl dX1_requireWriter_30 ?_
        exact ⟨_, rfl, rfl, rfl⟩
      · have hc : ((a_bx V s).isSome && !(a_id V s) && !(a_rd V s)) = true := by rw [c12, hz, c19]; rfl
        refine sv_iconst (nI 1) dX1_requireWriter_22 (by decide +kernel) ?_
        refine sv_goto (tgt := 27) dX1_requireWriter_23 (by decide) ?_
        refine sv_tI (y := b_I true) (by rw [hc] at h; first | rfl | cases h) ?_
        refine sv_csR _ cr_S okX1_requireState ks_X1_86 dX1_requireWriter_27 rfl rfl (by omega) (Nat.le_of_ble_eq_true rfl) ?_
        refine sv_vret rfl dX1_requireWriter_30 ?_
        exact ⟨_, rfl, rfl, rfl⟩
theorem cgx_wr (hV : k_V G σ sv Λ V) {s : Nat} (hs : s < V.2.2.length) (hbl : ∀ b, a_bx V s = some b → b < 100) (h : ((a_bx V s).isSome && !(a_id V s) && !(a_rd V s)) = false) : sx_C G 10 YX1_requireWriter [.ref (Λ 3 s 0)] σ (fun o τ => ∃ q, o = .inr ("java/lang/IllegalStateException", q) ∧ h_F (fun _ => False) 1 6 σ τ) := by
  refine sx_body (by decide) (Nat.le_of_ble_eq_true rfl) ?_
  obtain ⟨fu, ft, fa, hso, hu, ht, hac, ⟨n1, n2, n3⟩, hl, eu, et, ea⟩ := k_V_ses hV hs
  refine sv_aload_n dX1_requireWriter_0 rfl ?_
  refine sv_get fg_X1_194 dX1_requireWriter_1 (sx_rd_c hso) rfl ?_
  refine sv_iconst (-1) dX1_requireWriter_4 (by decide +kernel) ?_
  refine sv_icmp_eq (tgt := 26) dX1_requireWriter_5 (by decide) (fun c5 => ?_) (fun c5 => ?_)
  · have hz : a_bx V s = none := (o_I_m1 _ (fun k h => by have := hbl k h; omega)).mp c5
    have hc : ((a_bx V s).isSome && !(a_id V s) && !(a_rd V s)) = false := by rw [hz]; rfl
    refine sv_iconst (nI 0) dX1_requireWriter_26 (by decide +kernel) ?_
    refine sv_tI (y := b_I false) (by rw [hc] at h; first | rfl | cases h) ?_
    refine sv_cs _ cx_S okX1_requireState ks_X1_86.1 ks_X1_86.2 dX1_requireWriter_27 rfl rfl (by omega) (Nat.le_of_ble_eq_true rfl) (fun v τ h => by obtain ⟨q, e, _⟩ := h; cases e) (fun E q τ h => ?_)
    obtain ⟨q9, e9, F9⟩ := h
    cases e9
    refine sv_out (fun x hx => by cases hx) ?_
    exact ⟨_, rfl, F9⟩
  · have hz : (a_bx V s).isSome = true := by
      cases hq : a_bx V s with
      | none => rw [hq] at c5; exact absurd rfl c5
      | some b => rfl
    refine sv_aload_n dX1_requireWriter_8 rfl ?_
    refine sv_get fg_X1_254 dX1_requireWriter_9 (sx_rd_c hso) rfl ?_
    refine sv_if_neB (tgt := 26) dX1_requireWriter_12 (by decide) (fun c12 => ?_) (fun c12 => ?_)
    · have hc : ((a_bx V s).isSome && !(a_id V s) && !(a_rd V s)) = false := by rw [c12, hz]; rfl
      refine sv_iconst (nI 0) dX1_requireWriter_26 (by decide +kernel) ?_
      refine sv_tI (y := b_I false) (by rw [hc] at h; first | rfl | cases h) ?_
      refine sv_cs _ cx_S okX1_requireState ks_X1_86.1 ks_X1_86.2 dX1_requireWriter_27 rfl rfl (by omega) (Nat.le_of_ble_eq_true rfl) (fun v τ h => by obtain ⟨q, e, _⟩ := h; cases e) (fun E q τ h => ?_)
      obtain ⟨q9, e9, F9⟩ := h
      cases e9
      refine sv_out (fun x hx => by cases hx) ?_
      exact ⟨_, rfl, F9⟩
    · refine sv_aload_n dX1_requireWriter_15 rfl ?_
      refine sv_get fg_X1_246 dX1_requireWriter_16 (sx_rd_c hso) rfl ?_
      refine sv_if_neB (tgt := 26) dX1_requireWriter_19 (by decide) (fun c19 => ?_) (fun c19 => ?_)
      · have hc : ((a_bx V s).isSome && !(a_id V s) && !(a_rd V s)) = false := by rw [c12, hz, c19]; rfl
        refine sv_iconst (nI 0) dX1_requireWriter_26 (by decide +kernel) ?_
        refine sv_tI (y := b_I false) (by rw [hc] at h; first | rfl | cases h) ?_
        refine sv_cs _ cx_S okX1_requireState ks_X1_86.1 ks_X1_86.2 dX1_requireWriter_27 rfl rfl (by omega) (Nat.le_of_ble_eq_true rfl) (fun v τ h => by obtain ⟨q, e, _⟩ := h; cases e) (fun E q τ h => ?_)
        obtain ⟨q9, e9, F9⟩ := h
        cases e9
        refine sv_out (fun x hx => by cases hx) ?_
        exact ⟨_, rfl, F9⟩
      · have hc : ((a_bx V s).isSome && !(a_id V s) && !(a_rd V s)) = true := by rw [c12, hz, c19]; rfl
        refine sv_iconst (nI 1) dX1_requireWriter_22 (by decide +kernel) ?_
        refine sv_goto (tgt := 27) dX1_requireWriter_23 (by decide) ?_
        refine sv_tI (y := b_I false) (by rw [hc] at h; first | rfl | cases h) ?_
        refine sv_cs _ cx_S okX1_requireState ks_X1_86.1 ks_X1_86.2 dX1_requireWriter_27 rfl rfl (by omega) (Nat.le_of_ble_eq_true rfl) (fun v τ h => by obtain ⟨q, e, _⟩ := h; cases e) (fun E q τ h => ?_)
        obtain ⟨q9, e9, F9⟩ := h
        cases e9
        refine sv_out (fun x hx => by cases hx) ?_
        exact ⟨_, rfl, F9⟩
theorem cg_ent (hV : k_V G σ sv Λ V) {s : Nat} (hs : s < V.2.2.length) {k : Int32} (h : i_en k (a_es V s).length = true) : sx_Cr G 3 YX1_requireEntry [.ref (Λ 3 s 0), .int k] σ none σ := by
  refine sx_body (by decide) (Nat.le_of_ble_eq_true rfl) ?_
  obtain ⟨fu, ft, fa, hso, hu, ht, hac, ⟨n1, n2, n3⟩, hl, eu, et, ea⟩ := k_V_ses hV hs
  refine sv_iload_n dX1_requireEntry_0 rfl ?_
  refine sv_i2l dX1_requireEntry_1 ?_
  refine sv_lconst 1 dX1_requireEntry_2 (by decide) ?_
  refine sv_aload_n dX1_requireEntry_3 rfl ?_
  refine sv_get fg_X1_257 dX1_requireEntry_4 (sx_rd_c hso) rfl ?_
  refine sv_i2l dX1_requireEntry_7 ?_
  refine sv_csR _ cc_inRange okX1_inRange ks_X1_94 dX1_requireEntry_8 rfl rfl (by omega) (Nat.le_of_ble_eq_true rfl) ?_
  refine sv_tI (y := b_I true) (congrArg b_I ((in_2 (by omega)).trans h)) ?_
  refine sv_csR _ cr_I okX1_requireIndex ks_X1_183 dX1_requireEntry_11 rfl rfl (by omega) (Nat.le_of_ble_eq_true rfl) ?_
  refine sv_vret rfl dX1_requireEntry_14 ?_
  exact ⟨_, rfl, rfl, rfl⟩
theorem cgx_ent (hV : k_V G σ sv Λ V) {s : Nat} (hs : s < V.2.2.length) {k : Int32} (h : i_en k (a_es V s).length = false) : sx_C G 10 YX1_requireEntry [.ref (Λ 3 s 0), .int k] σ (fun o τ => ∃ q, o = .inr ("java/lang/IndexOutOfBoundsException", q) ∧ h_F (fun _ => False) 1 6 σ τ) := by
  refine sx_body (by decide) (Nat.le_of_ble_eq_true rfl) ?_
  obtain ⟨fu, ft, fa, hso, hu, ht, hac, ⟨n1, n2, n3⟩, hl, eu, et, ea⟩ := k_V_ses hV hs
  refine sv_iload_n dX1_requireEntry_0 rfl ?_
  refine sv_i2l dX1_requireEntry_1 ?_
  refine sv_lconst 1 dX1_requireEntry_2 (by decide) ?_
  refine sv_aload_n dX1_requireEntry_3 rfl ?_
  refine sv_get fg_X1_257 dX1_requireEntry_4 (sx_rd_c hso) rfl ?_
  refine sv_i2l dX1_requireEntry_7 ?_
  refine sv_csR _ cc_inRange okX1_inRange ks_X1_94 dX1_requireEntry_8 rfl rfl (by omega) (Nat.le_of_ble_eq_true rfl) ?_
  refine sv_tI (y := b_I false) (congrArg b_I ((in_2 (by omega)).trans h)) ?_
  refine sv_cs _ cx_I okX1_requireIndex ks_X1_183.1 ks_X1_183.2 dX1_requireEntry_11 rfl rfl (by omega) (Nat.le_of_ble_eq_true rfl) (fun v τ h => by obtain ⟨q, e, _⟩ := h; cases e) (fun E q τ h => ?_)
  obtain ⟨q9, e9, F9⟩ := h
  cases e9
  refine sv_out (fun x hx => by cases hx) ?_
  exact ⟨_, rfl, F9⟩
theorem cg_fl {md fl : Int32} (h : (a_in md 0 2 && a_in fl 0 31) = true) : sx_Cr G 3 YX1_requireFlags [.int md, .int fl] σ none σ := by
  refine sx_body (by decide) (Nat.le_of_ble_eq_true rfl) ?_
  refine sv_iload_n dX1_requireFlags_0 rfl ?_
  refine sv_i2l dX1_requireFlags_1 ?_
  refine sv_lconst 0 dX1_requireFlags_2 (by decide) ?_
  refine sv_ldc2 q1482 dX1_requireFlags_3 ?_
  refine sv_csR _ cc_inRange okX1_inRange ks_X1_94 dX1_requireFlags_6 rfl rfl (by omega) (Nat.le_of_ble_eq_true rfl) ?_
  refine sv_if_eqB (tgt := 28) dX1_requireFlags_9 (by decide) (fun c9 => ?_) (fun c9 => ?_)
  · have hc : (a_in md 0 2 && a_in fl 0 31) = false := by rw [show a_in md 0 2 = false from c9]; rfl
    refine sv_iconst (nI 0) dX1_requireFlags_28 (by decide +kernel) ?_
    refine sv_tI (y := b_I true) (by rw [hc] at h; first | rfl | cases h) ?_
    refine sv_csR _ cr_A okX1_requireArgument ks_X1_98 dX1_requireFlags_29 rfl rfl (by omega) (Nat.le_of_ble_eq_true rfl) ?_
    refine sv_vret rfl dX1_requireFlags_32 ?_
    exact ⟨_, rfl, rfl, rfl⟩
  · refine sv_iload_n dX1_requireFlags_12 rfl ?_
    refine sv_i2l dX1_requireFlags_13 ?_
    refine sv_lconst 0 dX1_requireFlags_14 (by decide) ?_
    refine sv_ldc2 q1849 dX1_requireFlags_15 ?_
    refine sv_csR _ cc_inRange okX1_inRange ks_X1_94 dX1_requireFlags_18 rfl rfl (by omega) (Nat.le_of_ble_eq_true rfl) ?_
    refine sv_if_eqB (tgt := 28) dX1_requireFlags_21 (by decide) (fun c21 => ?_) (fun c21 => ?_)
    · have hc : (a_in md 0 2 && a_in fl 0 31) = false := by rw [show a_in md 0 2 = true from c9, show a_in fl 0 31 = false from c21]; rfl
      refine sv_iconst (nI 0) dX1_requireFlags_28 (by decide +kernel) ?_
      refine sv_tI (y := b_I true) (by rw [hc] at h; first | rfl | cases h) ?_
      refine sv_csR _ cr_A okX1_requireArgument ks_X1_98 dX1_requireFlags_29 rfl rfl (by omega) (Nat.le_of_ble_eq_true rfl) ?_
      refine sv_vret rfl dX1_requireFlags_32 ?_
      exact ⟨_, rfl, rfl, rfl⟩
    · have hc : (a_in md 0 2 && a_in fl 0 31) = true := by rw [show a_in md 0 2 = true from c9, show a_in fl 0 31 = true from c21]; rfl
      refine sv_iconst (nI 1) dX1_requireFlags_24 (by decide +kernel) ?_
      refine sv_goto (tgt := 29) dX1_requireFlags_25 (by decide) ?_
      refine sv_tI (y := b_I true) (by rw [hc] at h; first | rfl | cases h) ?_
      refine sv_csR _ cr_A okX1_requireArgument ks_X1_98 dX1_requireFlags_29 rfl rfl (by omega) (Nat.le_of_ble_eq_true rfl) ?_
      refine sv_vret rfl dX1_requireFlags_32 ?_
      exact ⟨_, rfl, rfl, rfl⟩
theorem cgx_fl {md fl : Int32} (h : (a_in md 0 2 && a_in fl 0 31) = false) : sx_C G 10 YX1_requireFlags [.int md, .int fl] σ (fun o τ => ∃ q, o = .inr ("java/lang/IllegalArgumentException", q) ∧ h_F (fun _ => False) 1 6 σ τ) := by
  refine sx_body (by decide) (Nat.le_of_ble_eq_true rfl) ?_
  refine sv_iload_n dX1_requireFlags_0 rfl ?_
  refine sv_i2l dX1_requireFlags_1 ?_
  refine sv_lconst 0 dX1_requireFlags_2 (by decide) ?_
  refine sv_ldc2 q1482 dX1_requireFlags_3 ?_
  refine sv_csR _ cc_inRange okX1_inRange ks_X1_94 dX1_requireFlags_6 rfl rfl (by omega) (Nat.le_of_ble_eq_true rfl) ?_
  refine sv_if_eqB (tgt := 28) dX1_requireFlags_9 (by decide) (fun c9 => ?_) (fun c9 => ?_)
  · have hc : (a_in md 0 2 && a_in fl 0 31) = false := by rw [show a_in md 0 2 = false from c9]; rfl
    refine sv_iconst (nI 0) dX1_requireFlags_28 (by decide +kernel) ?_
    refine sv_tI (y := b_I false) (by rw [hc] at h; first | rfl | cases h) ?_
    refine sv_cs _ cx_A okX1_requireArgument ks_X1_98.1 ks_X1_98.2 dX1_requireFlags_29 rfl rfl (by omega) (Nat.le_of_ble_eq_true rfl) (fun v τ h => by obtain ⟨q, e, _⟩ := h; cases e) (fun E q τ h => ?_)
    obtain ⟨q9, e9, F9⟩ := h
    cases e9
    refine sv_out (fun x hx => by cases hx) ?_
    exact ⟨_, rfl, F9⟩
  · refine sv_iload_n dX1_requireFlags_12 rfl ?_
    refine sv_i2l dX1_requireFlags_13 ?_
    refine sv_lconst 0 dX1_requireFlags_14 (by decide) ?_
    refine sv_ldc2 q1849 dX1_requireFlags_15 ?_
    refine sv_csR _ cc_inRange okX1_inRange ks_X1_94 dX1_requireFlags_18 rfl rfl (by omega) (Nat.le_of_ble_eq_true rfl) ?_
    refine sv_if_eqB (tgt := 28) dX1_requireFlags_21 (by decide) (fun c21 => ?_) (fun c21 => ?_)
    · have hc : (a_in md 0 2 && a_in fl 0 31) = false := by rw [show a_in md 0 2 = true from c9, show a_in fl 0 31 = false from c21]; rfl
      refine sv_iconst (nI 0) dX1_requireFlags_28 (by decide +kernel) ?_
      refine sv_tI (y := b_I false) (by rw [hc] at h; first | rfl | cases h) ?_
      refine sv_cs _ cx_A okX1_requireArgument ks_X1_98.1 ks_X1_98.2 dX1_requireFlags_29 rfl rfl (by omega) (Nat.le_of_ble_eq_true rfl) (fun v τ h => by obtain ⟨q, e, _⟩ := h; cases e) (fun E q τ h => ?_)
      obtain ⟨q9, e9, F9⟩ := h
      cases e9
      refine sv_out (fun x hx => by cases hx) ?_
      exact ⟨_, rfl, F9⟩
    · have hc : (a_in md 0 2 && a_in fl 0 31) = true := by rw [show a_in md 0 2 = true from c9, show a_in fl 0 31 = true from c21]; rfl
      refine sv_iconst (nI 1) dX1_requireFlags_24 (by decide +kernel) ?_
      refine sv_goto (tgt := 29) dX1_requireFlags_25 (by decide) ?_
      refine sv_tI (y := b_I false) (by rw [hc] at h; first | rfl | cases h) ?_
      refine sv_cs _ cx_A okX1_requireArgument ks_X1_98.1 ks_X1_98.2 dX1_requireFlags_29 rfl rfl (by omega) (Nat.le_of_ble_eq_true rfl) (fun v τ h => by obtain ⟨q, e, _⟩ := h; cases e) (fun E q τ h => ?_)
      obtain ⟨q9, e9, F9⟩ := h
      cases e9
      refine sv_out (fun x hx => by cases hx) ?_
      exact ⟨_, rfl, F9⟩
theorem cg_slot {j : Int32} (h : a_in j 0 1 = true) : sx_Cr G 3 YX1_requireSlot [.int j] σ none σ := by
  refine sx_body (by decide) (Nat.le_of_ble_eq_true rfl) ?_
  refine sv_iload_n dX1_requireSlot_0 rfl ?_
  refine sv_i2l dX1_requireSlot_1 ?_
  refine sv_lconst 0 dX1_requireSlot_2 (by decide) ?_
  refine sv_lconst 1 dX1_requireSlot_3 (by decide) ?_
  refine sv_csR _ cc_inRange okX1_inRange ks_X1_94 dX1_requireSlot_4 rfl rfl (by omega) (Nat.le_of_ble_eq_true rfl) ?_
  refine sv_tI (y := b_I true) (congrArg b_I h) ?_
  refine sv_csR _ cr_I okX1_requireIndex ks_X1_183 dX1_requireSlot_7 rfl rfl (by omega) (Nat.le_of_ble_eq_true rfl) ?_
  refine sv_vret rfl dX1_requireSlot_10 ?_
  exact ⟨_, rfl, rfl, rfl⟩
theorem cgx_slot {j : Int32} (h : a_in j 0 1 = false) : sx_C G 10 YX1_requireSlot [.int j] σ (fun o τ => ∃ q, o = .inr ("java/lang/IndexOutOfBoundsException", q) ∧ h_F (fun _ => False) 1 6 σ τ) := by
  refine sx_body (by decide) (Nat.le_of_ble_eq_true rfl) ?_
  refine sv_iload_n dX1_requireSlot_0 rfl ?_
  refine sv_i2l dX1_requireSlot_1 ?_
  refine sv_lconst 0 dX1_requireSlot_2 (by decide) ?_
  refine sv_lconst 1 dX1_requireSlot_3 (by decide) ?_
  refine sv_csR _ cc_inRange okX1_inRange ks_X1_94 dX1_requireSlot_4 rfl rfl (by omega) (Nat.le_of_ble_eq_true rfl) ?_
  refine sv_tI (y := b_I false) (congrArg b_I h) ?_
  refine sv_cs _ cx_I okX1_requireIndex ks_X1_183.1 ks_X1_183.2 dX1_requireSlot_7 rfl rfl (by omega) (Nat.le_of_ble_eq_true rfl) (fun v τ h => by obtain ⟨q, e, _⟩ := h; cases e) (fun E q τ h => ?_)
  obtain ⟨q9, e9, F9⟩ := h
  cases e9
  refine sv_out (fun x hx => by cases hx) ?_
  exact ⟨_, rfl, F9⟩
end CXA
