set_option maxRecDepth 100000
section MPE
variable {G : sx_G} {h : Nat} {M M' : m_M} {σ : sx_St} {V : a_V} {A : a_A} {t : List Int32} {r : r_T} {S : p_S} {k : k_T}
theorem p_tot_90 (h : p_OV V) : p_tot V ≤ 90 := by
  have key : ∀ n, n ≤ V.2.1.length → a_all V n ≤ 30 * n := by
    intro n
    induction n with
    | zero => intro _; exact Nat.zero_le _
    | succ n ih =>
      intro hn
      have h1 := ih (by omega)
      have h2 : (a_ms V n).length ≤ 30 := (h.2.2.2.1 n (by omega)).2.1
      show a_all V n + (a_ms V n).length ≤ _
      omega
  have h1 := key _ (Nat.le_refl _)
  have h2 := h.2.1
  unfold p_tot
  omega
theorem lim_W {r2 : r_T} {M6 : m_M} (e : r2 = if S.2.1 = true then r_er (if 0 < p_tot S.1 then .inl (p_er 1 k) else .inr k) 3 else (if 0 < p_tot S.1 then .inl (p_er 1 k) else .inr k)) (hZ : m_Z t (r_nx t (r_n2 1 30 (r_n1 (r_nx t r2)))) M6) (hD : m_D ((nI (r_nv (r_n2 1 30 (r_n1 (r_nx t r2))) 1), S.1.2), true, S.2.2) M6) : m_W t (p_lim t S k) M6 := by
  unfold p_lim
  by_cases h1 : 0 < p_tot S.1
  · rw [if_pos h1]
    rw [if_pos h1] at e
    have e2 : r2 = .inl (p_er 1 k) := by rw [e]; cases S.2.1 <;> rfl
    rw [e2] at hZ
    exact hZ
  · rw [if_neg h1]
    rw [if_neg h1] at e
    by_cases h2 : S.2.1 = true
    · rw [if_pos h2]
      rw [if_pos h2] at e
      rw [e] at hZ
      exact hZ
    · rw [if_neg h2]
      rw [if_neg h2] at e
      rw [e] at hZ hD
      rw [r_num]
      have hZ : m_Z t (r_nx t (r_n2 1 30 (r_n1 (.inr (p_nx t k))))) M6 := hZ
      have hD : m_D ((nI (r_nv (r_n2 1 30 (r_n1 (.inr (p_nx t k)))) 1), S.1.2), true, S.2.2) M6 := hD
      generalize r_n2 1 30 (r_n1 (.inr (p_nx t k))) = X at hZ hD
      cases X with
      | inl e => exact hZ
      | inr k' => exact ⟨hZ, hD⟩
theorem ct_parseLimit (hn : h + 11 < sx_n σ) {k : k_T} (hZ : m_Q t k 0 M) (hD : m_D S M) (hok : p_ok S) : sx_Cp G 7 YX3_parseLimit [.ref h] (m_S G h M σ) (fun v τ => v = none ∧ ∃ M2, τ = m_S G h M2 σ ∧ m_P M M2 ∧ m_W t (p_lim t S k) M2) := by
  have mid24 : ∀ r2 M2, m_Y M M2 → m_Z t r2 M2 → m_D S M2 → r2 = (if S.2.1 = true then r_er (if 0 < p_tot S.1 then .inl (p_er 1 k) else .inr k : r_T) 3 else (if 0 < p_tot S.1 then .inl (p_er 1 k) else .inr k : r_T)) → sx_V G 7 YX3_parseLimit 24 [some (.ref h)] [] (m_S G h M2 σ) (fun o τ => ∃ v, o = .inl v ∧ v = none ∧ ∃ M2, τ = m_S G h M2 σ ∧ m_P M M2 ∧ m_W t (p_lim t S k) M2) := by
    have hw := p_OV_w hok.1
    have hw1 := hw.1
    have hw2 := hw.2.1
    intro r2 M2 hY2 hZ2 hD2 e2
    refine sv_aload_n dX3_parseLimit_24 rfl ?_
    refine sv_iconst (nI 1) dX3_parseLimit_25 (by decide +kernel) ?_
    refine sv_topI b1_I ?_
    refine sm_putz hn fp_X3_392 dX3_parseLimit_26 rfl (by decide) ?_
    have hD3 := D_hl hD2
    have hV3 : m_V M2 (m_i M2 16 (b_I true)) := m_V_i (Or.inl rfl) m_V_r
    have hZ3 := m_Z_V hZ2 hV3
    refine sv_aload_n dX3_parseLimit_29 rfl ?_
    refine sv_cvP _ (ct_goOn hn hZ3) okX3_goOn kv_X3_340 (sx_rd_c (m_S_0 hn)) rfl dX3_parseLimit_30 rfl rfl (by decide) (Nat.le_of_ble_eq_true rfl) ?_
    intro v4 t4 hp4
    obtain ⟨rfl, M4, rfl, hY4, hZ4⟩ := hp4
    refine sv_aload_n dX3_parseLimit_33 rfl ?_
    refine sm_get hn fg_X3_24 dX3_parseLimit_34 rfl ?_
    have hD4 := m_D_Y hD3 hY4
    refine sv_top (row_1 hD4.1) ?_
    refine sv_iconst (nI 0) dX3_parseLimit_37 (by decide +kernel) ?_
    refine sv_aload_n dX3_parseLimit_38 rfl ?_
    refine sv_iconst (nI 1) dX3_parseLimit_39 (by decide +kernel) ?_
    refine sv_bipush (nI 30) dX3_parseLimit_40 (by decide +kernel) ?_
    refine sv_cvP _ (ct_number (lo := 1) (hi := 30) hn hZ4 (by decide) (by decide)) okX3_number kv_X3_396 (sx_rd_c (m_S_0 hn)) rfl dX3_parseLimit_42 rfl rfl (by decide) (Nat.le_of_ble_eq_true rfl) ?_
    intro v5 t5 hp5
    obtain ⟨rfl, M5, rfl, hY5, hZ5⟩ := hp5
    have hD5 := m_D_Y hD4 hY5
    refine sv_i2l dX3_parseLimit_45 ?_
    refine sm_dst hD5.1 hn dX3_parseLimit_46 (by decide) ?_
    refine sv_vret rfl dX3_parseLimit_47 ?_
    exact ⟨_, rfl, rfl, _, rfl, m_P_t (m_P_Y hY2) (m_P_t (m_P_V hV3) (m_P_t (m_P_Y hY4) (m_P_t (m_P_Y hY5) (m_P_V (m_V_u hD5.1 m_V_r))))), lim_W e2 (m_Z_V hZ5 (m_V_u hD5.1 m_V_r)) (D_li (S := (S.1, true, S.2.2)) hw hD5)⟩
  have mid12 : ∀ r1 M1, m_Y M M1 → m_Z t r1 M1 → m_D S M1 → r1 = (if 0 < p_tot S.1 then .inl (p_er 1 k) else .inr k : r_T) → sx_V G 7 YX3_parseLimit 12 [some (.ref h)] [] (m_S G h M1 σ) (fun o τ => ∃ v, o = .inl v ∧ v = none ∧ ∃ M2, τ = m_S G h M2 σ ∧ m_P M M2 ∧ m_W t (p_lim t S k) M2) := by
    have hw := p_OV_w hok.1
    have hw1 := hw.1
    have hw2 := hw.2.1
    intro r1 M1 hY1 hZ1 hD1 e1
    refine sv_aload_n dX3_parseLimit_12 rfl ?_
    refine sm_get hn fg_X3_392 dX3_parseLimit_13 rfl ?_
    refine sv_topI hD1.2.2.2.2.2.1 ?_
    refine sv_if_eqB (tgt := 24) dX3_parseLimit_16 (by decide) (fun c16 => ?_) (fun c16 => ?_)
    · have hY9 := hY1
      have hZ9 := hZ1
      have hD9 := hD1
      have e9 : r1 = (if S.2.1 = true then r_er (if 0 < p_tot S.1 then .inl (p_er 1 k) else .inr k : r_T) 3 else (if 0 < p_tot S.1 then .inl (p_er 1 k) else .inr k : r_T)) := by rw [if_neg (bf_n c16), ← e1]
      exact mid24 _ _ hY9 hZ9 hD9 e9
    · refine sv_aload_n dX3_parseLimit_19 rfl ?_
      refine sv_iconst (nI 3) dX3_parseLimit_20 (by decide +kernel) ?_
      refine sv_cvP _ (ct_er (c := 3) hn hZ1 (by decide) (by decide)) okX3_errs kv_X3_337 (sx_rd_c (m_S_0 hn)) rfl dX3_parseLimit_21 rfl rfl (by decide) (Nat.le_of_ble_eq_true rfl) ?_
      intro v6 t6 hp6
      obtain ⟨rfl, M6, rfl, hY6, hZ6⟩ := hp6
      have hY9 := m_Y_t hY1 hY6
      have hZ9 := hZ6
      have hD9 := m_D_Y hD1 hY6
      have e9 : r_er r1 3 = (if S.2.1 = true then r_er (if 0 < p_tot S.1 then .inl (p_er 1 k) else .inr k : r_T) 3 else (if 0 < p_tot S.1 then .inl (p_er 1 k) else .inr k : r_T)) := by rw [if_pos c16, ← e1]
      exact mid24 _ _ hY9 hZ9 hD9 e9
  refine sx_body (by decide) (Nat.le_of_ble_eq_true rfl) ?_
  have hw := p_OV_w hok.1
  have hw1 := hw.1
  have hw2 := hw.2.1
  have hpt := p_tot_90 hok.1
  have hZ0 : m_Z t (.inr k) M := hZ
  refine sv_aload_n dX3_parseLimit_0 rfl ?_
  refine sm_get hn fg_X3_389 dX3_parseLimit_1 rfl ?_
  refine sv_topI (y := nI (p_tot S.1)) hD.2.2.2.2.2.2.1 ?_
  refine sv_if_leN (tgt := 12) dX3_parseLimit_4 (by decide) (by omega) (fun c4 => ?_) (fun c4 => ?_)
  · have hY9 := m_Y_r (M := M)
    have hZ9 : m_Z t (.inr k) M := hZ
    have hD9 := hD
    have e9 : (Sum.inr k : r_T) = (if 0 < p_tot S.1 then .inl (p_er 1 k) else .inr k : r_T) := by rw [if_neg (by omega)]
    exact mid12 _ _ hY9 hZ9 hD9 e9
  · refine sv_aload_n dX3_parseLimit_7 rfl ?_
    refine sv_iconst (nI 1) dX3_parseLimit_8 (by decide +kernel) ?_
    refine sv_cvP _ (ct_er (c := 1) hn hZ0 (by decide) (by decide)) okX3_errs kv_X3_337 (sx_rd_c (m_S_0 hn)) rfl dX3_parseLimit_9 rfl rfl (by decide) (Nat.le_of_ble_eq_true rfl) ?_
    intro v3 t3 hp3
    obtain ⟨rfl, M3, rfl, hY3, hZ3⟩ := hp3
    have hY9 := hY3
    have hZ9 := hZ3
    have hD9 := m_D_Y hD hY3
    have e9 : r_er (.inr k) 1 = (if 0 < p_tot S.1 then .inl (p_er 1 k) else .inr k : r_T) := by rw [if_pos c4]; rfl
    exact mid12 _ _ hY9 hZ9 hD9 e9
def r_bx (t : List Int32) (S : p_S) (k : k_T) : r_T := p_bind (r_nh t (r_nx t (if S.1.2.1.length < 3 then .inr k else .inl (p_er 4 k)))) (fun k3 => if (p_fb S.1 (p_w t k3)).isNone = true then .inr k3 else .inl (p_er 3 k3))
theorem p_box_r : p_bbx t S k = p_bind (r_bx t S k) (fun k4 => .inr (((S.1.1, S.1.2.1 ++ [(p_w t k4, 1, [])], S.1.2.2), S.2), p_nx t k4)) := by
  unfold p_bbx r_bx
  by_cases h1 : S.1.2.1.length < 3
  · rw [if_pos h1, if_pos h1]
    show _ = p_bind (p_bind (if p_nm t (p_nx t k) = true then (Sum.inr (p_nx t k) : r_T) else .inl (p_er 1 (p_nx t k))) _) _
    by_cases h2 : p_nm t (p_nx t k) = true
    · rw [if_pos h2, if_pos h2]
      show _ = p_bind (if (p_fb S.1 (p_w t (p_nx t k))).isNone = true then (Sum.inr (p_nx t k) : r_T) else .inl (p_er 3 (p_nx t k))) _
      by_cases h3 : (p_fb S.1 (p_w t (p_nx t k))).isNone = true
      · rw [if_pos h3, if_pos h3]; rfl
      · rw [if_neg h3, if_neg h3]; rfl
    · rw [if_neg h2, if_neg h2]; rfl
  · rw [if_neg h1, if_neg h1]; rfl
theorem r_bx_k {k4 : k_T} (h : r_bx t S k = .inr k4) : S.1.2.1.length < 3 ∧ p_nm t k4 = true := by
  unfold r_bx at h
  obtain ⟨k3, g1, g2⟩ := p_bind_r h
  have g3 := r_nh_k g1
  by_cases h3 : (p_fb S.1 (p_w t k3)).isNone = true
  · rw [if_pos h3] at g2
    cases g2
    refine ⟨?_, g3.2⟩
    by_cases h1 : S.1.2.1.length < 3
    · exact h1
    · have := g3.1
      rw [if_neg h1] at this
      cases this
  · rw [if_neg h3] at g2; cases g2
theorem p_tot_b {B : a_B} : B.2.2 = [] → p_tot (V.1, V.2.1 ++ [B], V.2.2) = p_tot V := by
  intro hB
  have key : ∀ n, n ≤ V.2.1.length → a_all (V.1, V.2.1 ++ [B], V.2.2) n = a_all V n := by
    intro n
    induction n with
    | zero => intro _; rfl
    | succ n ih =>
      intro hn
      show a_all (V.1, V.2.1 ++ [B], V.2.2) n + (a_b (V.1, V.2.1 ++ [B], V.2.2) n).2.2.length = a_all V n + (a_b V n).2.2.length
      rw [ih (by omega), a_b_ap (by omega)]
  unfold p_tot
  show a_all (V.1, V.2.1 ++ [B], V.2.2) (V.2.1 ++ [B]).length = _
  rw [List.length_append, List.length_singleton]
  show a_all (V.1, V.2.1 ++ [B], V.2.2) V.2.1.length + (a_b (V.1, V.2.1 ++ [B], V.2.2) V.2.1.length).2.2.length = _
  rw [key _ (Nat.le_refl _), a_b_aq, hB]
  rfl
theorem D_box {n : List Nat} (hw : w_Vb S.1) (hl : S.1.2.1.length < 3) (hD : m_D S M) : m_D ((S.1.1, S.1.2.1 ++ [(n, 1, [])], S.1.2.2), S.2) (m_u (m_u (m_u M (3 + 93 * S.1.2.1.length + 0) (n_code n)) (3 + 93 * S.1.2.1.length + 2) 1) 1 (m_w (m_u (m_u M (3 + 93 * S.1.2.1.length + 0) (n_code n)) (3 + 93 * S.1.2.1.length + 2) 1) 1 + 1)) := by
  obtain ⟨h1, h2, h3, h4, h5, h6, h7, h8⟩ := hD
  have hw2 := hw.2.1
  have hrow : m_w (m_u (m_u (m_u M (3 + 93 * S.1.2.1.length + 0) (n_code n)) (3 + 93 * S.1.2.1.length + 2) 1) 1 (m_w (m_u (m_u M (3 + 93 * S.1.2.1.length + 0) (n_code n)) (3 + 93 * S.1.2.1.length + 2) 1) 1 + 1)) = vp_updL (vp_updL (vp_updL (m_w M) (3 + 93 * S.1.2.1.length + 0) (n_code n)) (3 + 93 * S.1.2.1.length + 2) 1) 1 (m_w M 1 + 1) := by
    rw [m_w_u, m_w_u, m_w_u, uL_n (by omega), uL_n (by omega)]
  unfold m_D
  rw [hrow]
  have ho : ∀ i, i ≠ 1 → i ≠ 3 + 93 * S.1.2.1.length → i ≠ 3 + 93 * S.1.2.1.length + 2 → vp_updL (vp_updL (vp_updL (m_w M) (3 + 93 * S.1.2.1.length + 0) (n_code n)) (3 + 93 * S.1.2.1.length + 2) 1) 1 (m_w M 1 + 1) i = m_w M i := fun i g1 g2 g3 => by rw [uL_n g1, uL_n g3, uL_n (by omega)]
  refine ⟨h1, ⟨?_, ?_, ?_, fun b hb => ?_⟩, fun s hs => ?_, fun s hs j g1 g2 => ?_, fun b hb g1 j g2 => ?_, h6, h7.trans (by rw [p_tot_b rfl]), h8⟩
  · rw [ho _ (by omega) (by omega) (by omega)]; exact h2.1
  · rw [uL_s, i64_add, h2.2.1]
    show _ = nI (S.1.2.1 ++ [_]).length
    rw [List.length_append, List.length_singleton]
    exact nI_1 _
  · rw [ho _ (by omega) (by omega) (by omega)]; exact h2.2.2.1
  · have hb : b < (S.1.2.1 ++ [_]).length := hb
    rw [List.length_append, List.length_singleton] at hb
    by_cases hbb : b < S.1.2.1.length
    · rw [a_b_ap hbb]
      exact e_B_fr (hw.2.2 b hbb) (fun i g1 g2 => ho i (by omega) (by omega) (by omega)) (h2.2.2.2 b hbb)
    · obtain rfl : b = S.1.2.1.length := by omega
      rw [a_b_aq]
      refine ⟨?_, ?_, ?_, fun j hj => absurd hj (Nat.not_lt_zero j)⟩
      · rw [uL_n (by omega), uL_n (by omega), Nat.add_zero, uL_s]
      · rw [ho _ (by omega) (by omega) (by omega), h5 _ (Nat.le_refl _) hl 1 (by decide)]; rfl
      · rw [uL_n (by omega), uL_s]; rfl
  · rw [ho _ (by omega) (by omega) (by omega)]; exact h3 s hs
  · rw [ho _ (by omega) (by omega) (by omega)]; exact h4 s hs j g1 g2
  · have hb : (S.1.2.1 ++ [_]).length ≤ b := hb
    rw [List.length_append, List.length_singleton] at hb
    rw [ho _ (by omega) (by omega) (by omega)]
    exact h5 b (by omega) g1 j g2
theorem ct_parseBox (hn : h + 11 < sx_n σ) {k : k_T} (hZ : m_Q t k 0 M) (hD : m_D S M) (hok : p_ok S) (hW : g_S G) : sx_Cp G 10 YX3_parseBox [.ref h] (m_S G h M σ) (fun v τ => v = none ∧ ∃ M2, τ = m_S G h M2 σ ∧ m_P M M2 ∧ m_W t (p_bbx t S k) M2) := by
  have mid45 : ∀ r4 M4 x, m_Y M M4 → m_Z t r4 M4 → m_D S M4 → (∀ k4, r4 = .inr k4 → x = n_code (p_w t k4)) → r4 = r_bx t S k → sx_V G 10 YX3_parseBox 45 [some (.ref h), some (.int (nI S.1.2.1.length)), some (.long x), none] [] (m_S G h M4 σ) (fun o τ => ∃ v, o = .inl v ∧ v = none ∧ ∃ M2, τ = m_S G h M2 σ ∧ m_P M M2 ∧ m_W t (p_bbx t S k) M2) := by
    have hw := p_OV_w hok.1
    have hw1 := hw.1
    have hw2 := hw.2.1
    intro r4 M4 x hY4 hZ4 hD4 hx4 e4
    refine sv_aload_n dX3_parseBox_45 rfl ?_
    refine sv_cvR _ (ct_gd hn hZ4) okX3_good kv_X3_279 (sx_rd_c (m_S_0 hn)) rfl dX3_parseBox_46 rfl rfl (by decide) (Nat.le_of_ble_eq_true rfl) ?_
    refine sv_if_neB (tgt := 53) dX3_parseBox_49 (by decide) (fun c49 => ?_) (fun c49 => ?_)
    · obtain ⟨k4, rfl⟩ := r_g_t c49
      obtain ⟨hl3, hnm⟩ := r_bx_k e4.symm
      obtain rfl := hx4 k4 rfl
      refine sv_aload_n dX3_parseBox_53 rfl ?_
      refine sm_get hn fg_X3_24 dX3_parseBox_54 rfl ?_
      refine sv_top (row_1 hD4.1) ?_
      refine sv_iload_n dX3_parseBox_57 rfl ?_
      refine sv_csR _ ct_boxAt okX3_boxAt ks_X3_77 dX3_parseBox_58 rfl rfl (by decide) (Nat.le_of_ble_eq_true rfl) ?_
      refine sv_iconst (nI 0) dX3_parseBox_61 (by decide +kernel) ?_
      refine sv_iaddN dX3_parseBox_62 ?_
      refine sv_lload_n dX3_parseBox_63 rfl ?_
      refine sm_dst hD4.1 hn dX3_parseBox_64 (by omega) ?_
      refine sv_aload_n dX3_parseBox_65 rfl ?_
      refine sm_get hn fg_X3_24 dX3_parseBox_66 rfl ?_
      refine sv_top (row_1 hD4.1) ?_
      refine sv_iload_n dX3_parseBox_69 rfl ?_
      refine sv_csR _ ct_boxAt okX3_boxAt ks_X3_77 dX3_parseBox_70 rfl rfl (by decide) (Nat.le_of_ble_eq_true rfl) ?_
      refine sv_iconst (nI 2) dX3_parseBox_73 (by decide +kernel) ?_
      refine sv_iaddN dX3_parseBox_74 ?_
      refine sv_lconst 1 dX3_parseBox_75 (by decide) ?_
      refine sm_dst hD4.1 hn dX3_parseBox_76 (by omega) ?_
      refine sv_aload_n dX3_parseBox_77 rfl ?_
      refine sm_get hn fg_X3_24 dX3_parseBox_78 rfl ?_
      refine sv_top (row_1 hD4.1) ?_
      refine sv_iconst (nI 1) dX3_parseBox_81 (by decide +kernel) ?_
      refine sv_dup2 dX3_parseBox_82 rfl rfl ?_
      refine sm_dld hD4.1 hn dX3_parseBox_83 (by decide) ?_
      refine sv_lconst 1 dX3_parseBox_84 (by decide) ?_
      refine sv_ladd dX3_parseBox_85 ?_
      refine sm_dst hD4.1 hn dX3_parseBox_86 (by decide) ?_
      have hD5 := D_box (n := p_w t k4) hw hl3 hD4
      have hV5 := m_V_u (i := 1) (x := m_w (m_u (m_u M4 (3 + 93 * S.1.2.1.length + 0) (n_code (p_w t k4))) (3 + 93 * S.1.2.1.length + 2) 1) 1 + 1) hD4.1 (m_V_u (i := 3 + 93 * S.1.2.1.length + 2) (x := 1) hD4.1 (m_V_u (i := 3 + 93 * S.1.2.1.length + 0) (x := n_code (p_w t k4)) hD4.1 (m_V_r (M := M4))))
      have hZ5 := m_Z_V hZ4 hV5
      refine sv_aload_n dX3_parseBox_87 rfl ?_
      refine sv_cvP _ (ct_goOn hn hZ5) okX3_goOn kv_X3_340 (sx_rd_c (m_S_0 hn)) rfl dX3_parseBox_88 rfl rfl (by decide) (Nat.le_of_ble_eq_true rfl) ?_
      intro v6 t6 hp6
      obtain ⟨rfl, M6, rfl, hY6, hZ6⟩ := hp6
      refine sv_vret rfl dX3_parseBox_91 ?_
      exact ⟨_, rfl, rfl, _, rfl, m_P_t (m_P_Y hY4) (m_P_t (m_P_V hV5) (m_P_Y hY6)), by rw [p_box_r, ← e4]; exact ⟨hZ6, m_D_Y hD5 hY6⟩⟩
    · obtain ⟨e, rfl⟩ := r_g_f c49
      have hW9 : m_W t (p_bbx t S k) M4 := by rw [p_box_r, ← e4]; exact hZ4
      refine sv_vret rfl dX3_parseBox_52 ?_
      exact ⟨_, rfl, rfl, _, rfl, m_P_Y hY4, hW9⟩
  have mid15 : ∀ r1 M1, m_Y M M1 → m_Z t r1 M1 → m_D S M1 → r1 = (if S.1.2.1.length < 3 then .inr k else .inl (p_er 4 k) : r_T) → sx_V G 10 YX3_parseBox 15 [some (.ref h), some (.int (nI S.1.2.1.length)), none, none] [] (m_S G h M1 σ) (fun o τ => ∃ v, o = .inl v ∧ v = none ∧ ∃ M2, τ = m_S G h M2 σ ∧ m_P M M2 ∧ m_W t (p_bbx t S k) M2) := by
    have hw := p_OV_w hok.1
    have hw1 := hw.1
    have hw2 := hw.2.1
    intro r1 M1 hY1 hZ1 hD1 e1
    refine sv_aload_n dX3_parseBox_15 rfl ?_
    refine sv_cvP _ (ct_goOn hn hZ1) okX3_goOn kv_X3_340 (sx_rd_c (m_S_0 hn)) rfl dX3_parseBox_16 rfl rfl (by decide) (Nat.le_of_ble_eq_true rfl) ?_
    intro v2 t2 hp2
    obtain ⟨rfl, M2, rfl, hY2, hZ2⟩ := hp2
    refine sv_aload_n dX3_parseBox_19 rfl ?_
    refine sv_cvP _ (ct_nameHere hn hZ2 hW) okX3_nameHere kv_X3_399 (sx_rd_c (m_S_0 hn)) rfl dX3_parseBox_20 rfl rfl (by decide) (Nat.le_of_ble_eq_true rfl) ?_
    intro v3 t3 hp3
    obtain ⟨rfl, M3, rfl, hY3, hZ3⟩ := hp3
    have hY13 := m_Y_t hY1 (m_Y_t hY2 hY3)
    have hD3 := m_D_Y (m_D_Y hD1 hY2) hY3
    refine sv_lstore_n dX3_parseBox_23 (by decide) ?_
    refine sv_aload_n dX3_parseBox_24 rfl ?_
    refine sv_cvR _ (ct_gd hn hZ3) okX3_good kv_X3_279 (sx_rd_c (m_S_0 hn)) rfl dX3_parseBox_25 rfl rfl (by decide) (Nat.le_of_ble_eq_true rfl) ?_
    refine sv_if_eqB (tgt := 45) dX3_parseBox_28 (by decide) (fun c28 => ?_) (fun c28 => ?_)
    · obtain ⟨e, ek⟩ := r_g_f c28
      have hY9 := hY13
      have hZ9 := hZ3
      have hD9 := hD3
      have hx9 : ∀ k4, r_nh t (r_nx t r1) = .inr k4 → r_nc t (r_nh t (r_nx t r1)) = n_code (p_w t k4) := fun k4 z => by rw [ek] at z; cases z
      have e9 : r_nh t (r_nx t r1) = r_bx t S k := by unfold r_bx; rw [← e1, ek]; rfl
      exact mid45 _ _ _ hY9 hZ9 hD9 hx9 e9
    · obtain ⟨k3, ek⟩ := r_g_t c28
      have e3 := r_nh_k ek
      have hZk : m_Q t k3 0 M3 := by rw [ek] at hZ3; exact hZ3
      refine sv_aload_n dX3_parseBox_31 rfl ?_
      refine sv_lload_n dX3_parseBox_32 rfl ?_
      refine sv_cvR _ (ct_boxNamed (V := S.1) (n := p_w t k3) hn hD3.2.1 hw (by rw [ek]; rfl) (p_nm_o hZk.2.2.2.1 hZk.2.2.1 e3.2).1 (fun b hb => (hok.1.2.2.2.1 b hb).1)) okX3_boxNamed kv_X3_403 (sx_rd_c (m_S_0 hn)) rfl dX3_parseBox_33 rfl rfl (by decide) (Nat.le_of_ble_eq_true rfl) ?_
      refine sv_iconst (-1) dX3_parseBox_36 (by decide +kernel) ?_
      refine sv_icmp_eq (tgt := 45) dX3_parseBox_37 (by decide) (fun c37 => ?_) (fun c37 => ?_)
      · have hY9 := hY13
        have hZ9 := hZ3
        have hD9 := hD3
        have hx9 : ∀ k4, r_nh t (r_nx t r1) = .inr k4 → r_nc t (r_nh t (r_nx t r1)) = n_code (p_w t k4) := fun k4 z => by rw [z]; rfl
        have hno := (o_I_m1 _ (fun b z => by have h8 := p_fb_lt z; omega)).mp c37
        have e9 : r_nh t (r_nx t r1) = r_bx t S k := by unfold r_bx; rw [← e1, ek]; show _ = (if (p_fb S.1 (p_w t k3)).isNone = true then (Sum.inr k3 : r_T) else .inl (p_er 3 k3)); rw [if_pos (by rw [hno]; rfl)]
        exact mid45 _ _ _ hY9 hZ9 hD9 hx9 e9
      · refine sv_aload_n dX3_parseBox_40 rfl ?_
        refine sv_iconst (nI 3) dX3_parseBox_41 (by decide +kernel) ?_
        refine sv_cvP _ (ct_er (c := 3) hn hZ3 (by decide) (by decide)) okX3_errs kv_X3_337 (sx_rd_c (m_S_0 hn)) rfl dX3_parseBox_42 rfl rfl (by decide) (Nat.le_of_ble_eq_true rfl) ?_
        intro v7 t7 hp7
        obtain ⟨rfl, M7, rfl, hY7, hZ7⟩ := hp7
        have hY9 := m_Y_t hY13 hY7
        have hZ9 := hZ7
        have hD9 := m_D_Y hD3 hY7
        have hx9 : ∀ k4, r_er (r_nh t (r_nx t r1)) 3 = .inr k4 → r_nc t (r_nh t (r_nx t r1)) = n_code (p_w t k4) := fun k4 z => by rw [ek] at z; cases z
        have e9 : r_er (r_nh t (r_nx t r1)) 3 = r_bx t S k := by unfold r_bx; rw [← e1, ek]; show _ = (if (p_fb S.1 (p_w t k3)).isNone = true then (Sum.inr k3 : r_T) else .inl (p_er 3 k3)); rw [if_neg (by intro z; exact c37 (by rw [Option.isNone_iff_eq_none.mp z]; rfl))]; rfl
        exact mid45 _ _ _ hY9 hZ9 hD9 hx9 e9
  refine sx_body (by decide) (Nat.le_of_ble_eq_true rfl) ?_
  have hw := p_OV_w hok.1
  have hw1 := hw.1
  have hw2 := hw.2.1
  have hZ0 : m_Z t (.inr k) M := hZ
  refine sv_aload_n dX3_parseBox_0 rfl ?_
  refine sv_cvR _ (ct_boxes (V := S.1) hn hD.2.1 hw) okX3_boxes kv_X3_66 (sx_rd_c (m_S_0 hn)) rfl dX3_parseBox_1 rfl rfl (by decide) (Nat.le_of_ble_eq_true rfl) ?_
  refine sv_istore_n dX3_parseBox_4 (by decide) ?_
  refine sv_iload_n dX3_parseBox_5 rfl ?_
  refine sv_iconst (nI 3) dX3_parseBox_6 (by decide +kernel) ?_
  refine sv_icmp_neN (tgt := 15) dX3_parseBox_7 (by decide) (by omega) (by omega) (fun c7 => ?_) (fun c7 => ?_)
  · have hY9 := m_Y_r (M := M)
    have hZ9 : m_Z t (.inr k) M := hZ
    have hD9 := hD
    have e9 : (Sum.inr k : r_T) = (if S.1.2.1.length < 3 then .inr k else .inl (p_er 4 k) : r_T) := by rw [if_pos (by omega)]
    exact mid15 _ _ hY9 hZ9 hD9 e9
  · refine sv_aload_n dX3_parseBox_10 rfl ?_
    refine sv_iconst (nI 4) dX3_parseBox_11 (by decide +kernel) ?_
    refine sv_cvP _ (ct_er (c := 4) hn hZ0 (by decide) (by decide)) okX3_errs kv_X3_337 (sx_rd_c (m_S_0 hn)) rfl dX3_parseBox_12 rfl rfl (by decide) (Nat.le_of_ble_eq_true rfl) ?_
    intro v3 t3 hp3
    obtain ⟨rfl, M3, rfl, hY3, hZ3⟩ := hp3
    have hY9 := hY3
    have hZ9 := hZ3
    have hD9 := m_D_Y hD hY3
    have e9 : r_er (.inr k) 4 = (if S.1.2.1.length < 3 then .inr k else .inl (p_er 4 k) : r_T) := by rw [if_neg (by omega)]; rfl
    exact mid15 _ _ hY9 hZ9 hD9 e9
end MPE
