set_option maxRecDepth 100000
section CQ3
variable {G : sx_G} {σ τ : sx_St} {mu : Nat → Nat} {oc lo sv nl cap : Nat} {ow : Nat → Nat} {Λ : Nat → Nat → Nat → Nat} {A : a_A} {V : a_V} {W : Nat → Prop} {c sl : Nat} {N : List a_N}
theorem cnt_b {c : Bool} : nI (if c then 1 else 0) = b_I c := by cases c <;> rfl
theorem cpx_ses1 (hK : c_K G mu oc σ A) {s x : Int32} (hi : i_in s (A_v A).2.2.length = false) : sx_C G 100 YX1_session [.ref (mu 0), .int s, .int x] σ (c_X0 "java/lang/IndexOutOfBoundsException" σ) := by
  refine sx_body (by decide) (Nat.le_of_ble_eq_true rfl) ?_
  obtain ⟨sv, nl, hX, hF, hN⟩ := hK
  obtain ⟨Λ0, hV, hzz, hw⟩ := id hF
  have hx := hX.1
  have hnb := hw.1.1
  have hns := hw.1.2.1
  have hX0 : c_X G mu (sx_n σ) oc σ sv nl (A_st A 0) := hX
  have hF0 : c_F G mu (sx_n σ) σ sv (A_v (A_st A 0)) := hF
  have hv1 := hV.1
  refine sv_aload_n dX1_session_0 rfl ?_
  refine sv_iload_n dX1_session_1 rfl ?_
  refine sv_cv _ (cgx_sesAt hx hV hi) okX1_sessionAt (sx_rd_c hx) rfl kv_X1_240.1 kv_X1_240.2.1 kv_X1_240.2.2 dX1_session_2 rfl rfl (by omega) (Nat.le_of_ble_eq_true rfl) (fun v τ h => by obtain ⟨q, e, _⟩ := h; cases e) (fun E q τ h => ?_)
  obtain ⟨q9, e9, F9⟩ := h
  cases e9
  refine sv_out (fun x hx => by cases hx) ?_
  exact ⟨_, rfl, F9⟩
theorem cpx_ses2 (hK : c_K G mu oc σ A) {j : Nat} (hj : j < (A_v A).2.2.length) {x : Int32} (h : a_in x 0 6 = false) : sx_C G 100 YX1_session [.ref (mu 0), .int (nI j), .int x] σ (c_X0 "java/lang/IllegalArgumentException" σ) := by
  refine sx_body (by decide) (Nat.le_of_ble_eq_true rfl) ?_
  obtain ⟨sv, nl, hX, hF, hN⟩ := hK
  obtain ⟨Λ0, hV, hzz, hw⟩ := id hF
  have hx := hX.1
  have hnb := hw.1.1
  have hns := hw.1.2.1
  have hX0 : c_X G mu (sx_n σ) oc σ sv nl (A_st A 0) := hX
  have hF0 : c_F G mu (sx_n σ) σ sv (A_v (A_st A 0)) := hF
  have hv1 := hV.1
  refine sv_aload_n dX1_session_0 rfl ?_
  refine sv_iload_n dX1_session_1 rfl ?_
  refine sv_cvR _ (cg_sesAt hx hV hj) okX1_sessionAt kv_X1_240 (sx_rd_c hx) rfl dX1_session_2 rfl rfl (by omega) (Nat.le_of_ble_eq_true rfl) ?_
  refine sv_astore_n dX1_session_5 (by decide) ?_
  refine sv_iload_n dX1_session_6 rfl ?_
  refine sv_i2l dX1_session_7 ?_
  refine sv_lconst 0 dX1_session_8 (by decide) ?_
  refine sv_ldc2 q1503 dX1_session_9 ?_
  refine sv_csR _ cc_inRange okX1_inRange ks_X1_94 dX1_session_12 rfl rfl (by omega) (Nat.le_of_ble_eq_true rfl) ?_
  refine sv_tI (y := b_I false) (congrArg b_I h) ?_
  refine sv_cs _ cx_A okX1_requireArgument ks_X1_98.1 ks_X1_98.2 dX1_session_15 rfl rfl (by omega) (Nat.le_of_ble_eq_true rfl) (fun v τ h => by obtain ⟨q, e, _⟩ := h; cases e) (fun E q τ h => ?_)
  obtain ⟨q9, e9, F9⟩ := h
  cases e9
  refine sv_out (fun x hx => by cases hx) ?_
  exact ⟨_, rfl, F9⟩
theorem cp_ses (hK : c_K G mu oc σ A) {j : Nat} (hj : j < (A_v A).2.2.length) (hG : g_L G) {t : Nat} (ho : o_V t (A_v A)) (ht6 : t ≤ 1000) {w : Nat} (hw9 : w = 0 ∨ w = 1 ∨ w = 2 ∨ w = 3 ∨ w = 4 ∨ w = 5 ∨ w = 6) (h : a_in (nI w) 0 6 = true) : sx_C G 100 YX1_session [.ref (mu 0), .int (nI j), .int (nI w)] σ (c_R ["java/lang/IndexOutOfBoundsException", "java/lang/IllegalArgumentException"] G mu oc σ ((p_ses (A_v A) j w, A_st A 0))) := by
  refine sx_body (by decide) (Nat.le_of_ble_eq_true rfl) ?_
  have hK0 := hK
  obtain ⟨sv, nl, hX, hF, hN⟩ := hK
  obtain ⟨Λ0, hV, hzz, hw⟩ := id hF
  have hx := hX.1
  have hnb := hw.1.1
  have hns := hw.1.2.1
  have hX0 : c_X G mu (sx_n σ) oc σ sv nl (A_st A 0) := hX
  have hF0 : c_F G mu (sx_n σ) σ sv (A_v (A_st A 0)) := hF
  have hv1 := hV.1
  obtain ⟨fu0, ft0, fa0, hso, hu0, ht0, hac0, -, -, eu0, et0, -⟩ := k_V_ses hV hj
  have hel := hw.2.1 j hj
  have hl9 : ∀ b, a_bx (A_v A) j = some b → (a_ls (A_v A) j).toInt < 2147483647 := fun b hbx => o_ls9 ho ht6 hj hbx (hw.2.2.1 j b hj hbx)
  refine sv_aload_n dX1_session_0 rfl ?_
  refine sv_iload_n dX1_session_1 rfl ?_
  refine sv_cvR _ (cg_sesAt hx hV hj) okX1_sessionAt kv_X1_240 (sx_rd_c hx) rfl dX1_session_2 rfl rfl (by omega) (Nat.le_of_ble_eq_true rfl) ?_
  refine sv_astore_n dX1_session_5 (by decide) ?_
  refine sv_iload_n dX1_session_6 rfl ?_
  refine sv_i2l dX1_session_7 ?_
  refine sv_lconst 0 dX1_session_8 (by decide) ?_
  refine sv_ldc2 q1503 dX1_session_9 ?_
  refine sv_csR _ cc_inRange okX1_inRange ks_X1_94 dX1_session_12 rfl rfl (by omega) (Nat.le_of_ble_eq_true rfl) ?_
  refine sv_tI (y := b_I true) (congrArg b_I h) ?_
  refine sv_csR _ cr_A okX1_requireArgument ks_X1_98 dX1_session_15 rfl rfl (by omega) (Nat.le_of_ble_eq_true rfl) ?_
  refine sv_iload_n dX1_session_18 rfl ?_
  rcases hw9 with rfl | rfl | rfl | rfl | rfl | rfl | rfl
  · refine sv_tableIn (off := 37) (tgt := 56) dX1_session_19 (by decide +kernel) (by decide +kernel) (by decide +kernel) (by decide) ?_
    refine sv_aload_n dX1_session_56 rfl ?_
    refine sv_get fg_X1_194 dX1_session_57 (sx_rd_c hso) rfl ?_
    refine sv_goto (tgt := 140) dX1_session_60 (by decide) ?_
    refine sv_iret rfl rfl dX1_session_140 ?_
    exact c_R_q hK0 rfl
  · refine sv_tableIn (off := 44) (tgt := 63) dX1_session_19 (by decide +kernel) (by decide +kernel) (by decide +kernel) (by decide) ?_
    refine sv_aload_n dX1_session_63 rfl ?_
    refine sv_get fg_X1_194 dX1_session_64 (sx_rd_c hso) rfl ?_
    refine sv_iconst (-1) dX1_session_67 (by decide +kernel) ?_
    refine sv_icmp_eq (tgt := 82) dX1_session_68 (by decide) (fun c68 => ?_) (fun c68 => ?_)
    · have hbn : a_bx (A_v A) j = none := (o_I_m1 _ (fun k h => by have h8 := hw.2.2.1 j k hj h; omega)).mp c68
      have hc : ((a_bx (A_v A) j).isSome && a_rd (A_v A) j) = false := by rw [hbn]; rfl
      refine sv_iconst (nI 0) dX1_session_82 (by decide +kernel) ?_
      refine sv_tI (y := b_I ((a_bx (A_v A) j).isSome && a_rd (A_v A) j)) (by rw [hc]; rfl) ?_
      refine sv_csR _ (cc_count (c := ((a_bx (A_v A) j).isSome && a_rd (A_v A) j))) okX1_count ks_X1_250 dX1_session_83 rfl rfl (by omega) (Nat.le_of_ble_eq_true rfl) ?_
      refine sv_goto (tgt := 140) dX1_session_86 (by decide) ?_
      refine sv_iret rfl rfl dX1_session_140 ?_
      exact c_R_q hK0 cnt_b
    · have hbn : (a_bx (A_v A) j).isSome = true := by cases hq : a_bx (A_v A) j with | none => rw [hq] at c68; exact absurd rfl c68 | some b => rfl
      refine sv_aload_n dX1_session_71 rfl ?_
      refine sv_get fg_X1_246 dX1_session_72 (sx_rd_c hso) rfl ?_
      refine sv_if_eqB (tgt := 82) dX1_session_75 (by decide) (fun c75 => ?_) (fun c75 => ?_)
      · have hc : ((a_bx (A_v A) j).isSome && a_rd (A_v A) j) = false := by rw [hbn, c75]; rfl
        refine sv_iconst (nI 0) dX1_session_82 (by decide +kernel) ?_
        refine sv_tI (y := b_I ((a_bx (A_v A) j).isSome && a_rd (A_v A) j)) (by rw [hc]; rfl) ?_
        refine sv_csR _ (cc_count (c := ((a_bx (A_v A) j).isSome && a_rd (A_v A) j))) okX1_count ks_X1_250 dX1_session_83 rfl rfl (by omega) (Nat.le_of_ble_eq_true rfl) ?_
        refine sv_goto (tgt := 140) dX1_session_86 (by decide) ?_
        refine sv_iret rfl rfl dX1_session_140 ?_
        exact c_R_q hK0 cnt_b
      · have hc : ((a_bx (A_v A) j).isSome && a_rd (A_v A) j) = true := by rw [hbn, c75]; rfl
        refine sv_iconst (nI 1) dX1_session_78 (by decide +kernel) ?_
        refine sv_goto (tgt := 83) dX1_session_79 (by decide) ?_
        refine sv_tI (y := b_I ((a_bx (A_v A) j).isSome && a_rd (A_v A) j)) (by rw [hc]; rfl) ?_
        refine sv_csR _ (cc_count (c := ((a_bx (A_v A) j).isSome && a_rd (A_v A) j))) okX1_count ks_X1_250 dX1_session_83 rfl rfl (by omega) (Nat.le_of_ble_eq_true rfl) ?_
        refine sv_goto (tgt := 140) dX1_session_86 (by decide) ?_
        refine sv_iret rfl rfl dX1_session_140 ?_
        exact c_R_q hK0 cnt_b
  · refine sv_tableIn (off := 70) (tgt := 89) dX1_session_19 (by decide +kernel) (by decide +kernel) (by decide +kernel) (by decide) ?_
    refine sv_aload_n dX1_session_89 rfl ?_
    refine sv_get fg_X1_254 dX1_session_90 (sx_rd_c hso) rfl ?_
    refine sv_csR _ (cc_count (c := a_id (A_v A) j)) okX1_count ks_X1_250 dX1_session_93 rfl rfl (by omega) (Nat.le_of_ble_eq_true rfl) ?_
    refine sv_goto (tgt := 140) dX1_session_96 (by decide) ?_
    refine sv_iret rfl rfl dX1_session_140 ?_
    exact c_R_q hK0 cnt_b
  · refine sv_tableIn (off := 80) (tgt := 99) dX1_session_19 (by decide +kernel) (by decide +kernel) (by decide +kernel) (by decide) ?_
    refine sv_aload_n dX1_session_99 rfl ?_
    refine sv_get fg_X1_257 dX1_session_100 (sx_rd_c hso) rfl ?_
    refine sv_goto (tgt := 140) dX1_session_103 (by decide) ?_
    refine sv_iret rfl rfl dX1_session_140 ?_
    exact c_R_q hK0 rfl
  · refine sv_tableIn (off := 87) (tgt := 106) dX1_session_19 (by decide +kernel) (by decide +kernel) (by decide +kernel) (by decide) ?_
    refine sv_aload_n dX1_session_106 rfl ?_
    refine sv_get fg_X1_44 dX1_session_107 (sx_rd_c hx) rfl ?_
    refine sv_aload_n dX1_session_110 rfl ?_
    refine sv_aload_n dX1_session_111 rfl ?_
    refine sv_get fg_X1_257 dX1_session_112 (sx_rd_c hso) rfl ?_
    refine sv_cvR _ (cc_gone hV hj (n := (a_es (A_v A) j).length) (Nat.le_refl _) (fun b hb => hw.2.2.1 j b hj hb) (fun hb => hw.2.2.2 j hj hb)) okX2_gone kv_X1_259 (sx_rd_c hv1) rfl dX1_session_115 rfl rfl (by omega) (Nat.le_of_ble_eq_true rfl) ?_
    refine sv_goto (tgt := 140) dX1_session_118 (by decide) ?_
    refine sv_iret rfl rfl dX1_session_140 ?_
    exact c_R_q hK0 rfl
  · refine sv_tableIn (off := 102) (tgt := 121) dX1_session_19 (by decide +kernel) (by decide +kernel) (by decide +kernel) (by decide) ?_
    refine sv_aload_n dX1_session_121 rfl ?_
    refine sv_get fg_X1_44 dX1_session_122 (sx_rd_c hx) rfl ?_
    refine sv_aload_n dX1_session_125 rfl ?_
    refine sv_cvR _ (cc_changed hV hj (fun b hb => hw.2.2.1 j b hj hb) (fun hb => hw.2.2.2 j hj hb)) okX2_changed kv_X1_263 (sx_rd_c hv1) rfl dX1_session_126 rfl rfl (by omega) (Nat.le_of_ble_eq_true rfl) ?_
    refine sv_goto (tgt := 140) dX1_session_129 (by decide) ?_
    refine sv_iret rfl rfl dX1_session_140 ?_
    exact c_R_q hK0 rfl
  · refine sv_tableOut (tgt := 132) dX1_session_19 (by decide +kernel) (by decide) ?_
    refine sv_aload_n dX1_session_132 rfl ?_
    refine sv_get fg_X1_44 dX1_session_133 (sx_rd_c hx) rfl ?_
    refine sv_aload_n dX1_session_136 rfl ?_
    refine sv_cvP _ (cc_fresh hG hV hj (fun b hb => hw.2.2.1 j b hj hb) (fun hb => hw.2.2.2 j hj hb) hl9) okX2_fresh kv_X1_267 (sx_rd_c hv1) rfl dX1_session_137 rfl rfl (by omega) (Nat.le_of_ble_eq_true rfl) ?_
    intro v6 τ4 hp5
    obtain ⟨rfl, F1⟩ := hp5
    refine sv_iret rfl rfl dX1_session_140 ?_
    exact c_R_f hK0 F1 (by omega) (by omega) rfl
theorem pm_ses (hK : c_K G mu oc σ A) (hG : g_L G) {t : Nat} (ho : o_V t (A_v A)) (ht6 : t ≤ 1000) {s x : Int32} : sx_C G 100 YX1_session [.ref (mu 0), .int s, .int x] σ (c_R ["java/lang/IndexOutOfBoundsException", "java/lang/IllegalArgumentException"] G mu oc σ (sp_ses A s x)) := by
  have hns : (A_v A).2.2.length ≤ 4 := by obtain ⟨_, _, _, ⟨_, _, _, hw⟩, _⟩ := hK; exact hw.1.2.1
  have hnb : (A_v A).2.1.length ≤ 3 := by obtain ⟨_, _, _, ⟨_, _, _, hw⟩, _⟩ := hK; exact hw.1.1
  unfold sp_ses
  refine c_2 hK (fun h => cpx_ses1 hK h) (fun h1 h2 => ?_) (fun h1 h2 => ?_)
  · obtain ⟨j, hj, rfl⟩ := i_in_of (by omega) h1
    exact cpx_ses2 hK hj h2
  · obtain ⟨j, hj, rfl⟩ := i_in_of (by omega) h1
    obtain ⟨w, rfl, ew, hw⟩ := a_in_of h2
    rw [nI_clamp (by omega), ew]
    exact cp_ses hK hj hG ho ht6 (by have : ((6 : Int32).toInt) = 6 := rfl; omega) h2
theorem cpx_ent1 (hK : c_K G mu oc σ A) {s k x : Int32} (hi : i_in s (A_v A).2.2.length = false) : sx_C G 100 YX1_entry [.ref (mu 0), .int s, .int k, .int x] σ (c_X0 "java/lang/IndexOutOfBoundsException" σ) := by
  refine sx_body (by decide) (Nat.le_of_ble_eq_true rfl) ?_
  obtain ⟨sv, nl, hX, hF, hN⟩ := hK
  obtain ⟨Λ0, hV, hzz, hw⟩ := id hF
  have hx := hX.1
  have hnb := hw.1.1
  have hns := hw.1.2.1
  have hX0 : c_X G mu (sx_n σ) oc σ sv nl (A_st A 0) := hX
  have hF0 : c_F G mu (sx_n σ) σ sv (A_v (A_st A 0)) := hF
  have hv1 := hV.1
  refine sv_aload_n dX1_entry_0 rfl ?_
  refine sv_iload_n dX1_entry_1 rfl ?_
  refine sv_cv _ (cgx_sesAt hx hV hi) okX1_sessionAt (sx_rd_c hx) rfl kv_X1_240.1 kv_X1_240.2.1 kv_X1_240.2.2 dX1_entry_2 rfl rfl (by omega) (Nat.le_of_ble_eq_true rfl) (fun v τ h => by obtain ⟨q, e, _⟩ := h; cases e) (fun E q τ h => ?_)
  obtain ⟨q9, e9, F9⟩ := h
  cases e9
  refine sv_out (fun x hx => by cases hx) ?_
  exact ⟨_, rfl, F9⟩
theorem cpx_ent2 (hK : c_K G mu oc σ A) {j : Nat} (hj : j < (A_v A).2.2.length) {k x : Int32} (h : i_en k (a_es (A_v A) j).length = false) : sx_C G 100 YX1_entry [.ref (mu 0), .int (nI j), .int k, .int x] σ (c_X0 "java/lang/IndexOutOfBoundsException" σ) := by
  refine sx_body (by decide) (Nat.le_of_ble_eq_true rfl) ?_
  obtain ⟨sv, nl, hX, hF, hN⟩ := hK
  obtain ⟨Λ0, hV, hzz, hw⟩ := id hF
  have hx := hX.1
  have hnb := hw.1.1
  have hns := hw.1.2.1
  have hX0 : c_X G mu (sx_n σ) oc σ sv nl (A_st A 0) := hX
  have hF0 : c_F G mu (sx_n σ) σ sv (A_v (A_st A 0)) := hF
  have hv1 := hV.1
  refine sv_aload_n dX1_entry_0 rfl ?_
  refine sv_iload_n dX1_entry_1 rfl ?_
  refine sv_cvR _ (cg_sesAt hx hV hj) okX1_sessionAt kv_X1_240 (sx_rd_c hx) rfl dX1_entry_2 rfl rfl (by omega) (Nat.le_of_ble_eq_true rfl) ?_
  refine sv_astore dX1_entry_5 (by decide) ?_
  refine sv_aload dX1_entry_7 rfl ?_
  refine sv_iload_n dX1_entry_9 rfl ?_
  refine sv_cs _ (cgx_ent hV hj h) okX1_requireEntry ks_X1_270.1 ks_X1_270.2 dX1_entry_10 rfl rfl (by omega) (Nat.le_of_ble_eq_true rfl) (fun v τ h => by obtain ⟨q, e, _⟩ := h; cases e) (fun E q τ h => ?_)
  obtain ⟨q9, e9, F9⟩ := h
  cases e9
  refine sv_out (fun x hx => by cases hx) ?_
  exact ⟨_, rfl, F9⟩
theorem cpx_ent3 (hK : c_K G mu oc σ A) {j : Nat} (hj : j < (A_v A).2.2.length) {k x : Int32} (hk : i_en k (a_es (A_v A) j).length = true) (h : a_in x 0 4 = false) : sx_C G 100 YX1_entry [.ref (mu 0), .int (nI j), .int k, .int x] σ (c_X0 "java/lang/IllegalArgumentException" σ) := by
  refine sx_body (by decide) (Nat.le_of_ble_eq_true rfl) ?_
  obtain ⟨sv, nl, hX, hF, hN⟩ := hK
  obtain ⟨Λ0, hV, hzz, hw⟩ := id hF
  have hx := hX.1
  have hnb := hw.1.1
  have hns := hw.1.2.1
  have hX0 : c_X G mu (sx_n σ) oc σ sv nl (A_st A 0) := hX
  have hF0 : c_F G mu (sx_n σ) σ sv (A_v (A_st A 0)) := hF
  have hv1 := hV.1
  refine sv_aload_n dX1_entry_0 rfl ?_
  refine sv_iload_n dX1_entry_1 rfl ?_
  refine sv_cvR _ (cg_sesAt hx hV hj) okX1_sessionAt kv_X1_240 (sx_rd_c hx) rfl dX1_entry_2 rfl rfl (by omega) (Nat.le_of_ble_eq_true rfl) ?_
  refine sv_astore dX1_entry_5 (by decide) ?_
  refine sv_aload dX1_entry_7 rfl ?_
  refine sv_iload_n dX1_entry_9 rfl ?_
  refine sv_csR _ (cg_ent hV hj hk) okX1_requireEntry ks_X1_270 dX1_entry_10 rfl rfl (by omega) (Nat.le_of_ble_eq_true rfl) ?_
  refine sv_iload_n dX1_entry_13 rfl ?_
  refine sv_i2l dX1_entry_14 ?_
  refine sv_lconst 0 dX1_entry_15 (by decide) ?_
  refine sv_ldc2 q1419 dX1_entry_16 ?_
  refine sv_csR _ cc_inRange okX1_inRange ks_X1_94 dX1_entry_19 rfl rfl (by omega) (Nat.le_of_ble_eq_true rfl) ?_
  refine sv_tI (y := b_I false) (congrArg b_I h) ?_
  refine sv_cs _ cx_A okX1_requireArgument ks_X1_98.1 ks_X1_98.2 dX1_entry_22 rfl rfl (by omega) (Nat.le_of_ble_eq_true rfl) (fun v τ h => by obtain ⟨q, e, _⟩ := h; cases e) (fun E q τ h => ?_)
  obtain ⟨q9, e9, F9⟩ := h
  cases e9
  refine sv_out (fun x hx => by cases hx) ?_
  exact ⟨_, rfl, F9⟩
theorem cp_ent (hK : c_K G mu oc σ A) {j : Nat} (hj : j < (A_v A).2.2.length) {f w : Nat} (hf : f < (a_es (A_v A) j).length) (hw9 : w = 0 ∨ w = 1 ∨ w = 2 ∨ w = 3 ∨ w = 4) (h : a_in (nI w) 0 4 = true) : sx_C G 100 YX1_entry [.ref (mu 0), .int (nI j), .int (nI (f + 1)), .int (nI w)] σ (c_R ["java/lang/IndexOutOfBoundsException", "java/lang/IllegalArgumentException"] G mu oc σ ((p_ent (A_v A) j f w, A_st A 0))) := by
  refine sx_body (by decide) (Nat.le_of_ble_eq_true rfl) ?_
  have hK0 := hK
  obtain ⟨sv, nl, hX, hF, hN⟩ := hK
  obtain ⟨Λ0, hV, hzz, hw⟩ := id hF
  have hx := hX.1
  have hnb := hw.1.1
  have hns := hw.1.2.1
  have hX0 : c_X G mu (sx_n σ) oc σ sv nl (A_st A 0) := hX
  have hF0 : c_F G mu (sx_n σ) σ sv (A_v (A_st A 0)) := hF
  have hv1 := hV.1
  obtain ⟨fu0, ft0, fa0, hso, hu0, ht0, hac0, -, -, eu0, et0, -⟩ := k_V_ses hV hj
  have hel := hw.2.1 j hj
  obtain ⟨b, hbx⟩ : ∃ b, a_bx (A_v A) j = some b := by
    cases hq : a_bx (A_v A) j with
    | none => rw [hw.2.2.2 j hj hq] at hf; exact absurd hf (Nat.not_lt_zero _)
    | some b => exact ⟨b, rfl⟩
  have hb := hw.2.2.1 j b hj hbx
  refine sv_aload_n dX1_entry_0 rfl ?_
  refine sv_iload_n dX1_entry_1 rfl ?_
  refine sv_cvR _ (cg_sesAt hx hV hj) okX1_sessionAt kv_X1_240 (sx_rd_c hx) rfl dX1_entry_2 rfl rfl (by omega) (Nat.le_of_ble_eq_true rfl) ?_
  refine sv_astore dX1_entry_5 (by decide) ?_
  refine sv_aload dX1_entry_7 rfl ?_
  refine sv_iload_n dX1_entry_9 rfl ?_
  refine sv_csR _ (cg_ent hV hj (i_en_nI hf (by omega))) okX1_requireEntry ks_X1_270 dX1_entry_10 rfl rfl (by omega) (Nat.le_of_ble_eq_true rfl) ?_
  refine sv_iload_n dX1_entry_13 rfl ?_
  refine sv_i2l dX1_entry_14 ?_
  refine sv_lconst 0 dX1_entry_15 (by decide) ?_
  refine sv_ldc2 q1419 dX1_entry_16 ?_
  refine sv_csR _ cc_inRange okX1_inRange ks_X1_94 dX1_entry_19 rfl rfl (by omega) (Nat.le_of_ble_eq_true rfl) ?_
  refine sv_tI (y := b_I true) (congrArg b_I h) ?_
  refine sv_csR _ cr_A okX1_requireArgument ks_X1_98 dX1_entry_22 rfl rfl (by omega) (Nat.le_of_ble_eq_true rfl) ?_
  refine sv_aload_n dX1_entry_25 rfl ?_
  refine sv_get fg_X1_44 dX1_entry_26 (sx_rd_c hx) rfl ?_
  refine sv_aload dX1_entry_29 rfl ?_
  refine sv_iload_n dX1_entry_31 rfl ?_
  refine sv_iconst (nI 1) dX1_entry_32 (by decide +kernel) ?_
  refine sv_isubN dX1_entry_33 (by omega) ?_
  refine sv_cvR _ (cc_at hV hj hbx hb hf) okX2_at kv_X1_274 (sx_rd_c hv1) rfl dX1_entry_34 rfl rfl (by omega) (Nat.le_of_ble_eq_true rfl) ?_
  refine sv_astoreq dX1_entry_37 (by decide) ?_
  refine sv_iload_n dX1_entry_39 rfl ?_
  rcases hw9 with rfl | rfl | rfl | rfl | rfl
  · refine sv_tableIn (off := 32) (tgt := 72) dX1_entry_40 (by decide +kernel) (by decide +kernel) (by decide +kernel) (by decide) ?_
    refine sv_aload dX1_entry_72 rfl ?_
    refine sv_get fg_X1_278 dX1_entry_74 (sx_rd_c hso) rfl ?_
    refine sv_iload_n dX1_entry_77 rfl ?_
    refine sv_iconst (nI 1) dX1_entry_78 (by decide +kernel) ?_
    refine sv_isubN dX1_entry_79 (by omega) ?_
    refine sv_iald dX1_entry_80 (sx_rd_c hu0) (vp_in_nI (by omega) (by omega)) ?_
    rw [nI_clamp (show ((f + 1) - 1) < 2 ^ 31 by omega)]
    refine sv_goto (tgt := 143) dX1_entry_81 (by decide) ?_
    refine sv_iret rfl rfl dX1_entry_143 ?_
    exact c_R_q hK0 (eu0 f hf)
  · refine sv_tableIn (off := 44) (tgt := 84) dX1_entry_40 (by decide +kernel) (by decide +kernel) (by decide +kernel) (by decide) ?_
    refine sv_aload dX1_entry_84 rfl ?_
    refine sv_get fg_X1_282 dX1_entry_86 (sx_rd_c hso) rfl ?_
    refine sv_iload_n dX1_entry_89 rfl ?_
    refine sv_iconst (nI 1) dX1_entry_90 (by decide +kernel) ?_
    refine sv_isubN dX1_entry_91 (by omega) ?_
    refine sv_iald dX1_entry_92 (sx_rd_c ht0) (vp_in_nI (by omega) (by omega)) ?_
    rw [nI_clamp (show ((f + 1) - 1) < 2 ^ 31 by omega)]
    refine sv_goto (tgt := 143) dX1_entry_93 (by decide) ?_
    refine sv_iret rfl rfl dX1_entry_143 ?_
    exact c_R_q hK0 (et0 f hf)
  · refine sv_tableIn (off := 56) (tgt := 96) dX1_entry_40 (by decide +kernel) (by decide +kernel) (by decide +kernel) (by decide) ?_
    refine sv_aloadq dX1_entry_96 rfl ?_
    refine sv_ifnonnullq (tgt := 105) dX1_entry_98 (by decide) (fun a98 c98 => ?_) (fun c98 => ?_)
    · obtain ⟨m, hmo, -⟩ := Option.map_eq_some_iff.mp c98
      obtain ⟨cq, hcqf⟩ : ∃ c : Bool, c = false := ⟨_, rfl⟩
      have hcq : nI 0 = b_I cq := by rw [hcqf]; rfl
      have hc : cq = a_go (A_v A) j f := by rw [hcqf, mo_go, hmo]; rfl
      refine sv_iconst (nI 0) dX1_entry_105 (by decide +kernel) ?_
      refine sv_tI (y := b_I cq) hcq ?_
      refine sv_csR _ (cc_count (c := cq)) okX1_count ks_X1_250 dX1_entry_106 rfl rfl (by omega) (Nat.le_of_ble_eq_true rfl) ?_
      refine sv_goto (tgt := 143) dX1_entry_109 (by decide) ?_
      refine sv_iret rfl rfl dX1_entry_143 ?_
      exact c_R_q hK0 (cnt_b.trans (congrArg b_I hc))
    · have hmo := Option.map_eq_none_iff.mp c98
      obtain ⟨cq, hcqf⟩ : ∃ c : Bool, c = true := ⟨_, rfl⟩
      have hcq : nI 1 = b_I cq := by rw [hcqf]; rfl
      have hc : cq = a_go (A_v A) j f := by rw [hcqf, mo_go, hmo]; rfl
      refine sv_iconst (nI 1) dX1_entry_101 (by decide +kernel) ?_
      refine sv_goto (tgt := 106) dX1_entry_102 (by decide) ?_
      refine sv_tI (y := b_I cq) hcq ?_
      refine sv_csR _ (cc_count (c := cq)) okX1_count ks_X1_250 dX1_entry_106 rfl rfl (by omega) (Nat.le_of_ble_eq_true rfl) ?_
      refine sv_goto (tgt := 143) dX1_entry_109 (by decide) ?_
      refine sv_iret rfl rfl dX1_entry_143 ?_
      exact c_R_q hK0 (cnt_b.trans (congrArg b_I hc))
  · refine sv_tableIn (off := 72) (tgt := 112) dX1_entry_40 (by decide +kernel) (by decide +kernel) (by decide +kernel) (by decide) ?_
    refine sv_aloadq dX1_entry_112 rfl ?_
    refine sv_ifnonnullq (tgt := 121) dX1_entry_114 (by decide) (fun a114 c114 => ?_) (fun c114 => ?_)
    · obtain ⟨m, hmo, -⟩ := Option.map_eq_some_iff.mp c114
      have hm : m < (a_ms (A_v A) b).length := a_find_lt ((a_mo_e hbx).symm.trans hmo)
      have hmm : sx_c σ (Λ0 2 b m) = some (.inr (6, [.int (a_m (A_v A) b m).1, .int (a_m (A_v A) b m).2.1, .int (a_m (A_v A) b m).2.2])) := (hV.2.2.2.1 b hb).1.2.2 m hm
      refine sv_aloadq dX1_entry_121 rfl ?_
      refine sv_topR (a := (Λ0 2 b m)) (by rw [hmo]; rfl) ?_
      refine sv_get fg_X1_232 dX1_entry_123 (sx_rd_c hmm) rfl ?_
      refine sv_goto (tgt := 143) dX1_entry_126 (by decide) ?_
      refine sv_iret rfl rfl dX1_entry_143 ?_
      exact c_R_q hK0 (by show _ = a_sz (A_v A) j f; unfold a_sz; rw [hbx, hmo]; try rfl)
    · have hmo := Option.map_eq_none_iff.mp c114
      refine sv_iconst (nI 0) dX1_entry_117 (by decide +kernel) ?_
      refine sv_goto (tgt := 143) dX1_entry_118 (by decide) ?_
      refine sv_iret rfl rfl dX1_entry_143 ?_
      exact c_R_q hK0 (by show _ = a_sz (A_v A) j f; unfold a_sz; rw [hbx, hmo]; try rfl)
  · refine sv_tableOut (tgt := 129) dX1_entry_40 (by decide +kernel) (by decide) ?_
    refine sv_aloadq dX1_entry_129 rfl ?_
    refine sv_ifnonnullq (tgt := 138) dX1_entry_131 (by decide) (fun a131 c131 => ?_) (fun c131 => ?_)
    · obtain ⟨m, hmo, -⟩ := Option.map_eq_some_iff.mp c131
      have hm : m < (a_ms (A_v A) b).length := a_find_lt ((a_mo_e hbx).symm.trans hmo)
      have hmm : sx_c σ (Λ0 2 b m) = some (.inr (6, [.int (a_m (A_v A) b m).1, .int (a_m (A_v A) b m).2.1, .int (a_m (A_v A) b m).2.2])) := (hV.2.2.2.1 b hb).1.2.2 m hm
      refine sv_aloadq dX1_entry_138 rfl ?_
      refine sv_topR (a := (Λ0 2 b m)) (by rw [hmo]; rfl) ?_
      refine sv_get fg_X1_234 dX1_entry_140 (sx_rd_c hmm) rfl ?_
      refine sv_iret rfl rfl dX1_entry_143 ?_
      exact c_R_q hK0 (by show _ = a_fl (A_v A) j f; unfold a_fl; rw [hbx, hmo]; try rfl)
    · have hmo := Option.map_eq_none_iff.mp c131
      refine sv_iconst (nI 0) dX1_entry_134 (by decide +kernel) ?_
      refine sv_goto (tgt := 143) dX1_entry_135 (by decide) ?_
      refine sv_iret rfl rfl dX1_entry_143 ?_
      exact c_R_q hK0 (by show _ = a_fl (A_v A) j f; unfold a_fl; rw [hbx, hmo]; try rfl)
theorem pm_ent (hK : c_K G mu oc σ A) {s k x : Int32} : sx_C G 100 YX1_entry [.ref (mu 0), .int s, .int k, .int x] σ (c_R ["java/lang/IndexOutOfBoundsException", "java/lang/IllegalArgumentException"] G mu oc σ (sp_ent A s k x)) := by
  have hw : w_V (A_v A) := by obtain ⟨_, _, _, ⟨_, _, _, hw⟩, _⟩ := hK; exact hw
  have hns := hw.1.2.1
  unfold sp_ent
  refine c_2 hK (fun h => ?_) (fun h1 h2 => ?_) (fun h1 h2 => ?_)
  · unfold a_isE at h
    cases h1 : i_in s (A_v A).2.2.length with
    | false => exact cpx_ent1 hK h1
    | true =>
      obtain ⟨j, hj, rfl⟩ := i_in_of (by omega) h1
      rw [h1, Bool.true_and, nI_clamp (by omega)] at h
      exact cpx_ent2 hK hj h
  all_goals obtain ⟨j, f, b, hj, hf, hbx, rfl, rfl, ej, ek⟩ := a_isE_of hw h1
  all_goals have hel := hw.2.1 j hj
  · exact cpx_ent3 hK hj (i_en_nI hf (by omega)) h2
  · obtain ⟨w, rfl, ew, hw⟩ := a_in_of h2
    rw [ej, ek, ew]
    exact cp_ent hK hj hf (by have : ((4 : Int32).toInt) = 4 := rfl; omega) h2
end CQ3
