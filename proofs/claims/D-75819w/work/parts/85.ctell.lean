set_option maxRecDepth 100000
section CTL
variable {G : sx_G} {σ τ : sx_St} {ow : Nat → Nat} {a lo nl cap : Nat} {Λ : Nat → Nat → Nat → Nat} {A : a_A}
theorem no_len {s k : Nat} {n f : Int32} : (A_n (s_no A s k n f)).length = (A_n A).length + 1 := by
  show (_ ++ [_]).length = _
  rw [List.length_append]
  rfl
theorem cc_note (hJ : c_J G lo σ ow a Λ nl cap A) {s : Nat} (hs : s < (A_v A).2.2.length) {k : Nat} (hk : k < 3) (hlen : (A_n A).length ≤ 5000) {n f : Int32} : sx_Cp G 7 YX2_note [.ref a, .int (nI s), .int (nI k), .int n, .int f, .ref nl] σ (fun v τ => v = none ∧ ∃ ow2 cap2, c_J G lo τ ow2 a Λ nl cap2 (s_no A s k n f) ∧ c_T lo σ τ A (s_no A s k n f) cap cap2) := by
  refine sx_body (by decide) (Nat.le_of_ble_eq_true rfl) ?_
  have hlo := hJ.2.2.2.1
  have hcp := hJ.2.2.2.2
  have FF0 : h_F (fun q => False) 0 0 σ σ := h_F_r
  refine sv_aload dX2_note_0 rfl ?_
  refine sv_new fn_X2_143 dX2_note_2 ?_
  refine hs_al (fun nn τ4 E9 F5 h6 N7 Z8 => ?_)
  have FF10 := h_F_u FF0 F5 (fun _ _ z => z) (fun _ _ z => z.elim) (Nat.le_refl _) (Nat.le_refl _)
  have h6 : sx_c τ4 nn = some (.inr (8, [.int (nI 0), .int (nI 0), .int (nI 0), .int (nI 0)])) := by rw [nI_0]; exact h6
  refine sv_dup dX2_note_5 rfl ?_
  refine sv_iload_n dX2_note_6 rfl ?_
  refine sv_iload_n dX2_note_7 rfl ?_
  refine sv_iload_n dX2_note_8 rfl ?_
  refine sv_iload dX2_note_9 rfl ?_
  refine sv_ciP _ (cc_ninit h6) okX9_init ki_X2_145 dX2_note_11 rfl rfl (by omega) (Nat.le_of_ble_eq_true rfl) ?_
  intro v15 τ13 hp14
  obtain ⟨rfl, h12, F11⟩ := hp14
  have N16 := (F11).1.1
  have FF17 := h_F_u FF10 F11 (fun _ _ z => z) (by intro q hq hz; omega) (Nat.le_refl _) (Nat.le_refl _)
  have hI1 := c_I_0 FF17 hJ.1
  have hN1 := c_N_w FF17 hJ.2.1 (fun _ z => z.elim)
  obtain ⟨vs9, hn9⟩ := c_N_c hN1
  have hov : ow nn = 0 := hJ.1.2.2.2 _ (by omega)
  have hlo9 := FF17.1.1
  refine sv_cvP _ (cn_add hN1 h12 hov (by omega)) okJ2_add kv_X2_40 (sx_rd_c hn9) rfl dX2_note_14 rfl rfl (by omega) (Nat.le_of_ble_eq_true rfl) ?_
  intro v20 τ18 hp19
  obtain ⟨rfl, na, cap2, l1, l2, hna, hna2, hN2, F2⟩ := hp19
  have hI2 := c_I_w F2 hI1 (by omega) (fun _ z => z) hna hna2
  obtain ⟨hv1, hv2, hv3, hv4, hv5⟩ := id hI2.1
  obtain ⟨mcb, fb, hlb, hab, b1, b2, b3, -⟩ := id hv2
  obtain ⟨mcs, fs, hls, has, s1, s2, s3, -⟩ := id hv3
  obtain ⟨fu, ft, fa, hso, hu, ht, hac, ⟨n1, n2, n3⟩, hl, eu, et, ea⟩ := k_V_ses hI2.1 hs
  refine sv_pop dX2_note_17 rfl ?_
  refine sv_aload_n dX2_note_18 rfl ?_
  refine sv_get fg_X2_20 dX2_note_19 (sx_rd_c hv1) rfl ?_
  refine sv_iload_n dX2_note_22 rfl ?_
  refine sv_cvR _ (cj_get hv3 (i := s) hs) okJ2_get kv_X2_33 (sx_rd_c hls) rfl dX2_note_23 rfl rfl (by omega) (Nat.le_of_ble_eq_true rfl) ?_
  refine sv_cast (C0 := "") (sx_rd_c hso) rfl q1037 dX2_note_26 ?_
  refine sv_get fg_X2_148 dX2_note_29 (sx_rd_c hso) rfl ?_
  refine sv_iload_n dX2_note_32 rfl ?_
  refine sv_iconst (nI 1) dX2_note_33 (by decide +kernel) ?_
  refine sv_iaddN dX2_note_34 ?_
  refine sv_dup2 dX2_note_35 rfl rfl ?_
  refine sv_iald dX2_note_36 (sx_rd_c hac) (vp_in_nI (by omega) (by omega)) ?_
  rw [nI_clamp (show (k + 1) < 2 ^ 31 by omega)]
  refine sv_iconst (nI 1) dX2_note_37 (by decide +kernel) ?_
  refine sv_iadd dX2_note_38 ?_
  refine sv_iast dX2_note_39 hac (vp_in_nI (by omega) (by omega)) ?_
  rw [nI_clamp (show (k + 1) < 2 ^ 31 by omega)]
  refine hs_up hac (fun τ21 F22 h23 N24 Z25 => ?_)
  have h23 : sx_c τ21 ((Λ 3 s 3)) = some (.inl (sg_a G 0, 5, .inl ((upd fa ((k + 1)) _)))) := h23
  have hv1' := h_F_c F22 hv1 (e_kn hv1 hac rfl)
  have hls' := h_F_c F22 hls (e_kn hls hac rfl)
  have hso' := h_F_c F22 hso (e_kn hso hac rfl)
  refine sv_vret rfl dX2_note_40 ?_
  have h8 := h23
  rw [show (nI 1 : Int32) = 1 from by decide +kernel] at h8
  have tg := (hI2.2.1.2.2.2.2.2.2 s hs).2.2.2.1
  have n9 := F22.1.1
  have n8 := F2.1.1
  refine ⟨_, rfl, rfl, ow_n ow na, cap2, ⟨c_I_s F22 hI2 hs (fun q z => by rw [z]; omega) (k_S_ac (hv5 s hs).1 F22 hac h8 (by omega)) rfl, c_N_w F22 hN2 (fun q z => by rw [z]; omega), w_V_ac hJ.2.2.1 hs, by omega, ?_⟩, ?_, l1, ?_⟩
  · rw [no_len]; omega
  · rw [no_len]; omega
  · rw [no_len]; exact h_F_u (h_F_u FF17 F2 (U := fun q => lo ≤ q) (fun _ _ z => z.elim) (fun q _ z => hJ.1.2.2.1 q (by omega)) (Nat.le_refl _) (Nat.le_refl _)) F22 (fun _ _ z => z) (fun q _ z => hI2.2.2.1 q (by rw [z]; omega)) (by omega) (by omega)
theorem c_J_tg (hJ : c_J G lo σ ow a Λ nl cap A) {s : Nat} (hs : s < (A_v A).2.2.length) {q : Nat} (h : q = Λ 3 s 0 ∨ q = Λ 3 s 1 ∨ q = Λ 3 s 2 ∨ q = Λ 3 s 3) : 10 * s + 14 ≤ ow q ∧ ow q ≤ 10 * s + 17 := by
  obtain ⟨g1, g2, g3, g4, -⟩ := hJ.1.2.1.2.2.2.2.2.2 s hs
  rcases h with rfl | rfl | rfl | rfl <;> omega
theorem c_J_s {W : Nat → Prop} {s : Nat} {S : a_S} (F : h_F W 0 0 σ τ) (hJ : c_J G lo σ ow a Λ nl cap A) (hs : s < (A_v A).2.2.length) (hW : ∀ q, W q → q = Λ 3 s 0 ∨ q = Λ 3 s 1 ∨ q = Λ 3 s 2 ∨ q = Λ 3 s 3) (hS : k_S G τ (Λ 3 s 0) (Λ 3 s 1) (Λ 3 s 2) (Λ 3 s 3) (Λ 3 s 4) S) (hnm : S.1 = (a_s (A_v A) s).1) (hw : w_V (a_us (A_v A) s S)) : c_J G lo τ ow a Λ nl cap (A_sv A (a_us (A_v A) s S)) ∧ c_T lo σ τ A (A_sv A (a_us (A_v A) s S)) cap cap := by
  have n0 := F.1.1
  have h4 := hJ.2.2.2.1
  refine ⟨⟨c_I_s F hJ.1 hs (fun q z => c_J_tg hJ hs (hW q z)) hS hnm, c_N_w F hJ.2.1 (fun q z => by have := c_J_tg hJ hs (hW q z); omega), hw, by omega, hJ.2.2.2.2⟩, c_T_v (h_F_w F (fun q _ z => hJ.1.2.2.1 q (by have := c_J_tg hJ hs (hW q z); omega)) (Nat.le_refl _) (Nat.le_refl _))⟩
theorem cc_tellRem (hJ : c_J G lo σ ow a Λ nl cap A) {s : Nat} (hs : s < (A_v A).2.2.length) {b : Nat} (hbx : a_bx (A_v A) s = some b) (hlen : (A_n A).length + 61 ≤ 5000) : sx_Cp G 8 YX2_tellRemovals [.ref a, .int (nI s), .ref (Λ 3 s 0), .ref nl] σ (fun v ρ => v = none ∧ ∃ ow3 cap3, c_J G lo ρ ow3 a Λ nl cap3 (s_tg 61 A s 0) ∧ c_T lo σ ρ A (s_tg 61 A s 0) cap cap3) := by
  have loop : ∀ q k (τ : sx_St) (ow2 : Nat → Nat) (cap2 : Nat) (B : a_A), c_J G lo τ ow2 a Λ nl cap2 B → s < (A_v B).2.2.length → a_bx (A_v B) s = some b → k ≤ (a_es (A_v B) s).length → (a_es (A_v B) s).length + 1 ≤ k + q → (A_n B).length + q ≤ 5000 → sx_V G 8 YX2_tellRemovals 3 [some (.ref a), some (.int (nI s)), some (.ref (Λ 3 s 0)), some (.ref nl), some (.int (nI k))] [] τ (fun o ρ => ∃ v, o = .inl v ∧ (v = none ∧ ∃ ow3 cap3, c_J G lo ρ ow3 a Λ nl cap3 (s_tg q B s k) ∧ c_T lo τ ρ B (s_tg q B s k) cap2 cap3)) := by
    intro q
    induction q with
    | zero => intro k τ ow2 cap2 B h1 h2 h3 h4 h5; omega
    | succ q ih =>
    intro k τ ow2 cap2 B hJ2 hs2 hbx2 hk1 hk2 hn2
    have hw2 := hJ2.2.2.1
    have hb2 := hw2.2.2.1 s b hs2 hbx2
    obtain ⟨hv1, hv2, hv3, hv4, hv5⟩ := id hJ2.1.1
    obtain ⟨mcb, fb, hlb, hab, b1, b2, b3, -⟩ := id hv2
    obtain ⟨mcs, fs, hls, has, s1, s2, s3, -⟩ := id hv3
    obtain ⟨fu, ft, fa, hso, hu, ht, hac, ⟨n1, n2, n3⟩, hl, eu, et, ea⟩ := k_V_ses hJ2.1.1 hs2
    refine sv_iload dX2_tellRemovals_3 rfl ?_
    refine sv_aload_n dX2_tellRemovals_5 rfl ?_
    refine sv_get fg_X2_105 dX2_tellRemovals_6 (sx_rd_c hso) rfl ?_
    refine sv_icmp_geN (tgt := 49) dX2_tellRemovals_9 (by decide) (by omega) (by omega) (fun c9 => ?_) (fun c9 => ?_)
    · have hg : s_tg (q + 1) B s k = B := by show (if k < (a_es (A_v B) s).length then _ else B) = B; rw [if_neg (by omega)]
      refine sv_vret rfl dX2_tellRemovals_49 ?_
      rw [hg]
      exact ⟨_, rfl, rfl, ow2, cap2, hJ2, c_T_r⟩
    · refine sv_aload_n dX2_tellRemovals_12 rfl ?_
      refine sv_aload_n dX2_tellRemovals_13 rfl ?_
      refine sv_iload dX2_tellRemovals_14 rfl ?_
      refine sv_cvR _ (cc_at hJ2.1.1 hs2 hbx2 hb2 (k := k) (by omega)) okX2_at kv_X2_91 (sx_rd_c hv1) rfl dX2_tellRemovals_16 rfl rfl (by omega) (Nat.le_of_ble_eq_true rfl) ?_
      refine sv_ifnullq (tgt := 28) dX2_tellRemovals_19 (by decide) (fun c19 => ?_) (fun a19 c19 => ?_)
      · have hg : s_tg (q + 1) B s k = s_tg q (A_sv (s_no B s 0 (nI (k + 1)) 0) (v_dr (A_v (s_no B s 0 (nI (k + 1)) 0)) s k)) s k := by
          show (if k < (a_es (A_v B) s).length then (if a_go (A_v B) s k then s_tg q _ s k else _) else B) = _
          rw [if_pos (by omega)]
          unfold a_go
          rw [Option.map_eq_none_iff.mp c19]
          rfl
        refine sv_aload_n dX2_tellRemovals_28 rfl ?_
        refine sv_iload dX2_tellRemovals_29 rfl ?_
        refine sv_cvP _ (cc_srem (hv5 s hs2).1 (k := k) (by show k < (a_es (A_v B) s).length; omega)) okX8_remove kv_X2_151 (sx_rd_c hso) rfl dX2_tellRemovals_31 rfl rfl (by omega) (Nat.le_of_ble_eq_true rfl) ?_
        intro v28 τ26 hp27
        obtain ⟨rfl, hS3, F3⟩ := hp27
        obtain ⟨hJ3, hT3⟩ := c_J_s F3 hJ2 hs2 (fun q z => by omega) hS3 rfl (w_V_dr hw2 hs2)
        have hJ3 : c_J G lo _ ow2 a Λ nl cap2 (A_sv B (v_dr (A_v B) s k)) := hJ3
        have hT3 : c_T lo _ _ B (A_sv B (v_dr (A_v B) s k)) cap2 cap2 := hT3
        have hs3 : s < (A_v (A_sv B (v_dr (A_v B) s k))).2.2.length := by show s < (a_us _ _ _).2.2.length; rw [a_us_n]; exact hs2
        have hv1x := hJ3.1.1.1
        refine sv_aload_n dX2_tellRemovals_34 rfl ?_
        refine sv_iload_n dX2_tellRemovals_35 rfl ?_
        refine sv_iconst (nI 0) dX2_tellRemovals_36 (by decide +kernel) ?_
        refine sv_iload dX2_tellRemovals_37 rfl ?_
        refine sv_iconst (nI 1) dX2_tellRemovals_39 (by decide +kernel) ?_
        refine sv_iaddN dX2_tellRemovals_40 ?_
        refine sv_iconst (nI 0) dX2_tellRemovals_41 (by decide +kernel) ?_
        refine sv_aload_n dX2_tellRemovals_42 rfl ?_
        refine sv_cvP _ (cc_note hJ3 hs3 (k := 0) (by decide) (by show (A_n B).length ≤ 5000; omega)) okX2_note kv_X2_136 (sx_rd_c hv1x) rfl dX2_tellRemovals_43 rfl rfl (by omega) (Nat.le_of_ble_eq_true rfl) ?_
        intro v31 τ29 hp30
        obtain ⟨rfl, ow4, cap4, hJ4, hT4⟩ := hp30
        rw [nI_0, no_dr hs2] at hJ4 hT4
        refine sv_goto (tgt := 3) dX2_tellRemovals_46 (by decide) ?_
        rw [hg]
        have hkp := kp_tr (kp_no B s 0 (nI (k + 1)) 0) (kp_us (A := s_no B s 0 (nI (k + 1)) 0) (s := s) (S := S_es (a_s (A_v (s_no B s 0 (nI (k + 1)) 0)) s) ((a_es (A_v (s_no B s 0 (nI (k + 1)) 0)) s).eraseIdx k)) rfl rfl rfl) (Nat.le_refl _)
        have hel : (a_es (A_v (A_sv (s_no B s 0 (nI (k + 1)) 0) (v_dr (A_v (s_no B s 0 (nI (k + 1)) 0)) s k))) s).length = (a_es (A_v B) s).length - 1 := by
          have hs5 : s < (v_ac (A_v B) s 1 1).2.2.length := by unfold v_ac; rw [a_us_n]; exact hs2
          show (a_es (a_us (v_ac (A_v B) s 1 1) s _) s).length = _
          rw [a_us_es hs5]
          show ((a_es (a_us (A_v B) s _) s).eraseIdx k).length = _
          rw [a_us_es hs2, List.length_eraseIdx, if_pos (by show k < (a_es (A_v B) s).length; omega)]
          rfl
        have hln : (A_n (A_sv (s_no B s 0 (nI (k + 1)) 0) (v_dr (A_v (s_no B s 0 (nI (k + 1)) 0)) s k))).length = (A_n B).length + 1 := no_len
        refine sx_V_Q (ih k _ ow4 cap4 _ hJ4 (Nat.lt_of_lt_of_eq hs2 hkp.2.2.1.symm) ((hkp.2.2.2.1 s).1.trans hbx2) (by rw [hel]; omega) (by rw [hel]; omega) (by rw [hln]; omega)) ?_
        rintro o ρ ⟨v, e1, e2, ow5, cap5, hJ5, hT5⟩
        exact ⟨v, e1, e2, ow5, cap5, hJ5, c_T_t hT3 (c_T_t hT4 hT5)⟩
      · have hg : s_tg (q + 1) B s k = s_tg q B s (k + 1) := by
          show (if k < (a_es (A_v B) s).length then (if a_go (A_v B) s k then _ else s_tg q B s (k + 1)) else B) = _
          rw [if_pos (by omega)]
          unfold a_go
          obtain ⟨m9, hm9, -⟩ := Option.map_eq_some_iff.mp c19
          rw [hm9]
          rfl
        refine sv_iincN dX2_tellRemovals_22 rfl (by decide) ?_
        refine sv_goto (tgt := 3) dX2_tellRemovals_25 (by decide) ?_
        rw [hg]
        refine sx_V_Q (ih (k + 1) τ ow2 cap2 B hJ2 hs2 hbx2 (by omega) (by omega) (by omega)) (fun o ρ h => h)
  refine sx_body (by decide) (Nat.le_of_ble_eq_true rfl) ?_
  have hes : (a_es (A_v A) s).length ≤ 60 := hJ.2.2.1.2.1 s hs
  refine sv_iconst (nI 0) dX2_tellRemovals_0 (by decide +kernel) ?_
  refine sv_istore dX2_tellRemovals_1 (by decide) ?_
  exact loop 61 0 σ ow cap A hJ hs hbx (by omega) (by omega) (by omega)
end CTL
