set_option maxRecDepth 100000
section CMD
variable {G : sx_G} {σ τ : sx_St} {x sv : Nat} {Λ Λ2 : Nat → Nat → Nat → Nat} {V : a_V} {f1 f2 f3 f4 f5 f6 f7 f8 : Value} {mu : Nat → Nat} {oc lo nl cap c sl : Nat} {ow ow2 : Nat → Nat} {A : a_A}
theorem nI_sa {a b c d : Nat} (h : a + c = d + b) : nI a - nI b + nI c = nI d := by
  have h1 : nI a + nI c = nI d + nI b := by rw [nI_add, nI_add, h]
  rw [Int32.sub_eq_add_neg, Int32.add_assoc, Int32.add_comm (-nI b), ← Int32.add_assoc, h1, ← Int32.sub_eq_add_neg, Int32.add_sub_cancel]
theorem th_gm {s f : Nat} : ∀ n, n + a_gm V s f = a_th V s f n + a_gm V s (f + n) := by
  intro n
  induction n with
  | zero => show 0 + _ = 0 + _; rfl
  | succ n ih =>
    have e1 : a_gm V s (f + (n + 1)) = a_gm V s (f + n) + (if a_go V s (f + n) then 1 else 0) := by
      show (List.range (f + n + 1)).countP _ = _
      rw [List.range_succ, List.countP_append]
      exact congrArg _ (by rw [List.countP_cons, List.countP_nil, Nat.zero_add])
    rw [a_th_s, e1]
    split <;> omega
theorem c_A_cp {b : Nat} {l : List a_M} (h : c_A G mu oc lo σ sv nl ow Λ cap A) (hI : c_I G lo τ ow2 sv Λ2 (v_cs (A_v A) b l)) (hE : c_E Λ Λ2) (hc : c_cap Λ2 (v_cs (A_v A) b l)) (hO : ∀ q, q < sx_n σ → ow2 q = ow q) (F : h_F (fun q => 10 * b + 11 ≤ ow q ∧ ow q ≤ 10 * b + 13) c sl σ τ) (hw : w_V (v_cs (A_v A) b l)) : c_A G mu oc lo τ sv nl ow2 Λ2 cap (A_sv A (v_cs (A_v A) b l)) := by
  obtain ⟨h1, ⟨hI0, hN, hw0, hlo, hc0⟩, h3, h4, h5⟩ := h
  refine ⟨c_X_lo h1 F (fun q z => hI0.2.2.1 q (by omega)) h5, ⟨hI, ?_, hw, Nat.le_trans hlo F.1.1, hc0⟩, ⟨fun i hi => ?_, fun t ht => ?_⟩, hc, h5⟩
  · have hN2 := c_N_w F hN (fun q z => by omega)
    obtain ⟨n1, n2⟩ := hN
    obtain ⟨vs, hcl⟩ := c_N_c ⟨n1, n2⟩
    refine ⟨(hO _ (sx_lt hcl)).trans n1, ?_⟩
    rcases n2 with ⟨g1, g2⟩ | ⟨na, g, g1, g2, g3⟩
    · exact Or.inl ⟨k_L0_fr F g1 (fun z => by omega), g2⟩
    · refine Or.inr ⟨na, g, k_L_fr F g1 (fun z => by omega) (fun z => by omega), (hO _ (k_L_lt g1).2).trans g2, fun i hi => ⟨k_Nt_fr F (g3 i hi).1 (fun z => by have h9 := (g3 i hi).2; omega), (hO _ (sx_lt (g3 i hi).1)).trans (g3 i hi).2⟩⟩
  · have hi : i < (a_ub (A_v A) b _).2.1.length := hi
    rw [a_ub_n] at hi
    rw [(hE.1 i).2.2.1, (hE.1 i).2.2.2]
    exact h3.1 i hi
  · rw [hE.2.1, hE.2.1]
    exact h3.2 t ht
theorem cg_room (hx : sx_c σ x = some (.inr (0, [.ref sv, f1, f2, f3, f4, f5, f6, f7, f8]))) (hV : k_V G σ sv Λ V) {s f u b : Nat} (hs : s < V.2.2.length) (hb : b < V.2.1.length) (hw : w_V V) (hfu : f ≤ u) (hu : u < (a_es V s).length) (h : a_room V b (a_th V s f (u + 1 - f)) = true) : sx_Cr G 9 YX1_requireRoom [.ref x, .ref (Λ 3 s 0), .int (nI (f + 1)), .int (nI (u + 1)), .int (nI b)] σ none σ := by
  refine sx_body (by decide) (Nat.le_of_ble_eq_true rfl) ?_
  obtain ⟨hv1, hv2, hv3, hv4, hv5⟩ := id hV
  obtain ⟨mcb, fb, hlb, hab, b1, b2, b3, -⟩ := id hv2
  obtain ⟨mcs, fs, hls, has, s1, s2, s3, -⟩ := id hv3
  have hel := hw.2.1 s hs
  have hbl := hw.1.2.2 b hb
  have hgm := th_gm (V := V) (s := s) (f := f) (u + 1 - f)
  rw [show f + (u + 1 - f) = u + 1 by omega] at hgm
  have hthl := a_th_le V s f (u + 1 - f)
  have hbb := (hv4 b hb).1.1
  have hlm9 := (hv4 b hb).1.2.1
  obtain ⟨mcm, fm, hlm, -⟩ := id hlm9
  refine sv_iload_n dX1_requireRoom_0 rfl ?_
  refine sv_iload_n dX1_requireRoom_1 rfl ?_
  refine sv_isubN dX1_requireRoom_2 (by omega) ?_
  refine sv_iconst (nI 1) dX1_requireRoom_3 (by decide +kernel) ?_
  refine sv_iaddN dX1_requireRoom_4 ?_
  refine sv_aload_n dX1_requireRoom_5 rfl ?_
  refine sv_get fg_X1_44 dX1_requireRoom_6 (sx_rd_c hx) rfl ?_
  refine sv_aload_n dX1_requireRoom_9 rfl ?_
  refine sv_iload_n dX1_requireRoom_10 rfl ?_
  refine sv_cvR _ (cc_gone hV hs (n := u + 1) (by omega) (fun b hb => hw.2.2.1 s b hs hb) (fun hb => hw.2.2.2 s hs hb)) okX2_gone kv_X1_259 (sx_rd_c hv1) rfl dX1_requireRoom_11 rfl rfl (by omega) (Nat.le_of_ble_eq_true rfl) ?_
  refine sv_isub dX1_requireRoom_14 ?_
  refine sv_aload_n dX1_requireRoom_15 rfl ?_
  refine sv_get fg_X1_44 dX1_requireRoom_16 (sx_rd_c hx) rfl ?_
  refine sv_aload_n dX1_requireRoom_19 rfl ?_
  refine sv_iload_n dX1_requireRoom_20 rfl ?_
  refine sv_iconst (nI 1) dX1_requireRoom_21 (by decide +kernel) ?_
  refine sv_isubN dX1_requireRoom_22 (by omega) ?_
  show sx_V G _ _ _ _ (.int (nI f) :: _) _ _
  refine sv_cvR _ (cc_gone hV hs (n := f) (by omega) (fun b hb => hw.2.2.1 s b hs hb) (fun hb => hw.2.2.2 s hs hb)) okX2_gone kv_X1_259 (sx_rd_c hv1) rfl dX1_requireRoom_23 rfl rfl (by omega) (Nat.le_of_ble_eq_true rfl) ?_
  refine sv_iadd dX1_requireRoom_26 ?_
  refine sv_tI (y := nI (a_th V s f (u + 1 - f))) (nI_sa (by omega)) ?_
  refine sv_istore dX1_requireRoom_27 (by decide) ?_
  refine sv_iload dX1_requireRoom_29 rfl ?_
  refine sv_if_eqN (tgt := 68) dX1_requireRoom_31 (by decide) (by omega) (fun c31 => ?_) (fun c31 => ?_)
  · have hc : a_room V b (a_th V s f (u + 1 - f)) = true := by unfold a_room; rw [decide_eq_true c31]; rfl
    refine sv_iconst (nI 1) dX1_requireRoom_68 (by decide +kernel) ?_
    refine sv_goto (tgt := 73) dX1_requireRoom_69 (by decide) ?_
    refine sv_tI (y := b_I true) (by rw [hc] at h; first | rfl | cases h) ?_
    refine sv_csR _ cr_S okX1_requireState ks_X1_86 dX1_requireRoom_73 rfl rfl (by omega) (Nat.le_of_ble_eq_true rfl) ?_
    refine sv_vret rfl dX1_requireRoom_76 ?_
    exact ⟨_, rfl, rfl, rfl⟩
  · refine sv_aload_n dX1_requireRoom_34 rfl ?_
    refine sv_get fg_X1_44 dX1_requireRoom_35 (sx_rd_c hx) rfl ?_
    refine sv_get fg_X1_173 dX1_requireRoom_38 (sx_rd_c hv1) rfl ?_
    refine sv_iload dX1_requireRoom_41 rfl ?_
    refine sv_cvR _ (cj_get hv2 (i := b) hb) okJ2_get kv_X1_186 (sx_rd_c hlb) rfl dX1_requireRoom_43 rfl rfl (by omega) (Nat.le_of_ble_eq_true rfl) ?_
    refine sv_cast (C0 := "") (sx_rd_c hbb) rfl q1452 dX1_requireRoom_46 ?_
    refine sv_get fg_X1_203 dX1_requireRoom_49 (sx_rd_c hbb) rfl ?_
    refine sv_cvR _ (cj_size hlm9) okJ2_size kv_X1_176 (sx_rd_c hlm) rfl dX1_requireRoom_52 rfl rfl (by omega) (Nat.le_of_ble_eq_true rfl) ?_
    refine sv_iload dX1_requireRoom_55 rfl ?_
    refine sv_iaddN dX1_requireRoom_57 ?_
    refine sv_aload_n dX1_requireRoom_58 rfl ?_
    refine sv_get fg_X1_44 dX1_requireRoom_59 (sx_rd_c hx) rfl ?_
    refine sv_get fg_X1_180 dX1_requireRoom_62 (sx_rd_c hv1) rfl ?_
    refine sv_icmp_gt (tgt := 72) dX1_requireRoom_65 (by decide) (fun c65 => ?_) (fun c65 => ?_)
    · have hc : a_room V b (a_th V s f (u + 1 - f)) = false := by unfold a_room; rw [decide_eq_false (show ¬ (a_th V s f (u + 1 - f) = 0) by omega), decide_eq_false (show ¬ (nI ((a_ms V b).length + a_th V s f (u + 1 - f)) ≤ V.1) from Int32.not_le.mpr c65)]; rfl
      refine sv_iconst (nI 0) dX1_requireRoom_72 (by decide +kernel) ?_
      refine sv_tI (y := b_I true) (by rw [hc] at h; first | rfl | cases h) ?_
      refine sv_csR _ cr_S okX1_requireState ks_X1_86 dX1_requireRoom_73 rfl rfl (by omega) (Nat.le_of_ble_eq_true rfl) ?_
      refine sv_vret rfl dX1_requireRoom_76 ?_
      exact ⟨_, rfl, rfl, rfl⟩
    · have hc : a_room V b (a_th V s f (u + 1 - f)) = true := by unfold a_room; rw [decide_eq_true (show nI ((a_ms V b).length + a_th V s f (u + 1 - f)) ≤ V.1 from Int32.not_lt.mp c65), Bool.or_true]
      refine sv_iconst (nI 1) dX1_requireRoom_68 (by decide +kernel) ?_
      refine sv_goto (tgt := 73) dX1_requireRoom_69 (by decide) ?_
      refine sv_tI (y := b_I true) (by rw [hc] at h; first | rfl | cases h) ?_
      refine sv_csR _ cr_S okX1_requireState ks_X1_86 dX1_requireRoom_73 rfl rfl (by omega) (Nat.le_of_ble_eq_true rfl) ?_
      refine sv_vret rfl dX1_requireRoom_76 ?_
      exact ⟨_, rfl, rfl, rfl⟩
theorem cgx_room (hx : sx_c σ x = some (.inr (0, [.ref sv, f1, f2, f3, f4, f5, f6, f7, f8]))) (hV : k_V G σ sv Λ V) {s f u b : Nat} (hs : s < V.2.2.length) (hb : b < V.2.1.length) (hw : w_V V) (hfu : f ≤ u) (hu : u < (a_es V s).length) (h : a_room V b (a_th V s f (u + 1 - f)) = false) : sx_C G 12 YX1_requireRoom [.ref x, .ref (Λ 3 s 0), .int (nI (f + 1)), .int (nI (u + 1)), .int (nI b)] σ (fun o τ => ∃ q, o = .inr ("java/lang/IllegalStateException", q) ∧ h_F (fun _ => False) 1 6 σ τ) := by
  refine sx_body (by decide) (Nat.le_of_ble_eq_true rfl) ?_
  obtain ⟨hv1, hv2, hv3, hv4, hv5⟩ := id hV
  obtain ⟨mcb, fb, hlb, hab, b1, b2, b3, -⟩ := id hv2
  obtain ⟨mcs, fs, hls, has, s1, s2, s3, -⟩ := id hv3
  have hel := hw.2.1 s hs
  have hbl := hw.1.2.2 b hb
  have hgm := th_gm (V := V) (s := s) (f := f) (u + 1 - f)
  rw [show f + (u + 1 - f) = u + 1 by omega] at hgm
  have hthl := a_th_le V s f (u + 1 - f)
  have hbb := (hv4 b hb).1.1
  have hlm9 := (hv4 b hb).1.2.1
  obtain ⟨mcm, fm, hlm, -⟩ := id hlm9
  refine sv_iload_n dX1_requireRoom_0 rfl ?_
  refine sv_iload_n dX1_requireRoom_1 rfl ?_
  refine sv_isubN dX1_requireRoom_2 (by omega) ?_
  refine sv_iconst (nI 1) dX1_requireRoom_3 (by decide +kernel) ?_
  refine sv_iaddN dX1_requireRoom_4 ?_
  refine sv_aload_n dX1_requireRoom_5 rfl ?_
  refine sv_get fg_X1_44 dX1_requireRoom_6 (sx_rd_c hx) rfl ?_
  refine sv_aload_n dX1_requireRoom_9 rfl ?_
  refine sv_iload_n dX1_requireRoom_10 rfl ?_
  refine sv_cvR _ (cc_gone hV hs (n := u + 1) (by omega) (fun b hb => hw.2.2.1 s b hs hb) (fun hb => hw.2.2.2 s hs hb)) okX2_gone kv_X1_259 (sx_rd_c hv1) rfl dX1_requireRoom_11 rfl rfl (by omega) (Nat.le_of_ble_eq_true rfl) ?_
  refine sv_isub dX1_requireRoom_14 ?_
  refine sv_aload_n dX1_requireRoom_15 rfl ?_
  refine sv_get fg_X1_44 dX1_requireRoom_16 (sx_rd_c hx) rfl ?_
  refine sv_aload_n dX1_requireRoom_19 rfl ?_
  refine sv_iload_n dX1_requireRoom_20 rfl ?_
  refine sv_iconst (nI 1) dX1_requireRoom_21 (by decide +kernel) ?_
  refine sv_isubN dX1_requireRoom_22 (by omega) ?_
  show sx_V G _ _ _ _ (.int (nI f) :: _) _ _
  refine sv_cvR _ (cc_gone hV hs (n := f) (by omega) (fun b hb => hw.2.2.1 s b hs hb) (fun hb => hw.2.2.2 s hs hb)) okX2_gone kv_X1_259 (sx_rd_c hv1) rfl dX1_requireRoom_23 rfl rfl (by omega) (Nat.le_of_ble_eq_true rfl) ?_
  refine sv_iadd dX1_requireRoom_26 ?_
  refine sv_tI (y := nI (a_th V s f (u + 1 - f))) (nI_sa (by omega)) ?_
  refine sv_istore dX1_requireRoom_27 (by decide) ?_
  refine sv_iload dX1_requireRoom_29 rfl ?_
  refine sv_if_eqN (tgt := 68) dX1_requireRoom_31 (by decide) (by omega) (fun c31 => ?_) (fun c31 => ?_)
  · have hc : a_room V b (a_th V s f (u + 1 - f)) = true := by unfold a_room; rw [decide_eq_true c31]; rfl
    refine sv_iconst (nI 1) dX1_requireRoom_68 (by decide +kernel) ?_
    refine sv_goto (tgt := 73) dX1_requireRoom_69 (by decide) ?_
    refine sv_tI (y := b_I false) (by rw [hc] at h; first | rfl | cases h) ?_
    refine sv_cs _ cx_S okX1_requireState ks_X1_86.1 ks_X1_86.2 dX1_requireRoom_73 rfl rfl (by omega) (Nat.le_of_ble_eq_true rfl) (fun v τ h => by obtain ⟨q, e, _⟩ := h; cases e) (fun E q τ h => ?_)
    obtain ⟨q9, e9, F9⟩ := h
    cases e9
    refine sv_out (fun x hx => by cases hx) ?_
    exact ⟨_, rfl, F9⟩
  · refine sv_aload_n dX1_requireRoom_34 rfl ?_
    refine sv_get fg_X1_44 dX1_requireRoom_35 (sx_rd_c hx) rfl ?_
    refine sv_get fg_X1_173 dX1_requireRoom_38 (sx_rd_c hv1) rfl ?_
    refine sv_iload dX1_requireRoom_41 rfl ?_
    refine sv_cvR _ (cj_get hv2 (i := b) hb) okJ2_get kv_X1_186 (sx_rd_c hlb) rfl dX1_requireRoom_43 rfl rfl (by omega) (Nat.le_of_ble_eq_true rfl) ?_
    refine sv_cast (C0 := "") (sx_rd_c hbb) rfl q1452 dX1_requireRoom_46 ?_
    refine sv_get fg_X1_203 dX1_requireRoom_49 (sx_rd_c hbb) rfl ?_
    refine sv_cvR _ (cj_size hlm9) okJ2_size kv_X1_176 (sx_rd_c hlm) rfl dX1_requireRoom_52 rfl rfl (by omega) (Nat.le_of_ble_eq_true rfl) ?_
    refine sv_iload dX1_requireRoom_55 rfl ?_
    refine sv_iaddN dX1_requireRoom_57 ?_
    refine sv_aload_n dX1_requireRoom_58 rfl ?_
    refine sv_get fg_X1_44 dX1_requireRoom_59 (sx_rd_c hx) rfl ?_
    refine sv_get fg_X1_180 dX1_requireRoom_62 (sx_rd_c hv1) rfl ?_
    refine sv_icmp_gt (tgt := 72) dX1_requireRoom_65 (by decide) (fun c65 => ?_) (fun c65 => ?_)
    · have hc : a_room V b (a_th V s f (u + 1 - f)) = false := by unfold a_room; rw [decide_eq_false (show ¬ (a_th V s f (u + 1 - f) = 0) by omega), decide_eq_false (show ¬ (nI ((a_ms V b).length + a_th V s f (u + 1 - f)) ≤ V.1) from Int32.not_le.mpr c65)]; rfl
      refine sv_iconst (nI 0) dX1_requireRoom_72 (by decide +kernel) ?_
      refine sv_tI (y := b_I false) (by rw [hc] at h; first | rfl | cases h) ?_
      refine sv_cs _ cx_S okX1_requireState ks_X1_86.1 ks_X1_86.2 dX1_requireRoom_73 rfl rfl (by omega) (Nat.le_of_ble_eq_true rfl) (fun v τ h => by obtain ⟨q, e, _⟩ := h; cases e) (fun E q τ h => ?_)
      obtain ⟨q9, e9, F9⟩ := h
      cases e9
      refine sv_out (fun x hx => by cases hx) ?_
      exact ⟨_, rfl, F9⟩
    · have hc : a_room V b (a_th V s f (u + 1 - f)) = true := by unfold a_room; rw [decide_eq_true (show nI ((a_ms V b).length + a_th V s f (u + 1 - f)) ≤ V.1 from Int32.not_lt.mp c65), Bool.or_true]
      refine sv_iconst (nI 1) dX1_requireRoom_68 (by decide +kernel) ?_
      refine sv_goto (tgt := 73) dX1_requireRoom_69 (by decide) ?_
      refine sv_tI (y := b_I false) (by rw [hc] at h; first | rfl | cases h) ?_
      refine sv_cs _ cx_S okX1_requireState ks_X1_86.1 ks_X1_86.2 dX1_requireRoom_73 rfl rfl (by omega) (Nat.le_of_ble_eq_true rfl) (fun v τ h => by obtain ⟨q, e, _⟩ := h; cases e) (fun E q τ h => ?_)
      obtain ⟨q9, e9, F9⟩ := h
      cases e9
      refine sv_out (fun x hx => by cases hx) ?_
      exact ⟨_, rfl, F9⟩
end CMD
