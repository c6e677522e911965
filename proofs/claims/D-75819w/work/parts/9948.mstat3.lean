set_option maxRecDepth 100000
section MPG
variable {G : sx_G} {h : Nat} {M M' : m_M} {σ : sx_St} {V : a_V} {A : a_A} {t : List Int32} {r : r_T} {S : p_S} {k : k_T}
theorem p_tot_s {n : List Nat} : p_tot (p_aS V n) = p_tot V := by
  have : ∀ m, a_all (p_aS V n) m = a_all V m := by
    intro m
    induction m with
    | zero => rfl
    | succ m ih => show a_all (p_aS V n) m + _ = a_all V m + _; rw [ih]; rfl
  exact this _
def r_sx (t : List Int32) (S : p_S) (k : k_T) : r_T := p_bind (r_nh t (r_nx t (if S.1.2.2.length < 4 then .inr k else .inl (p_er 4 k)))) (fun k3 => if (p_fs S.1 (p_w t k3)).isNone = true then .inr k3 else .inl (p_er 3 k3))
/-- a session as the reference reads it -/
def p_sR (t : List Int32) (S : p_S) (k4 : k_T) : p_E ⊕ (p_S × k_T) := if (p_is t (p_nx t k4) 6 || p_nm t (p_nx t k4)) = true then p_ses2 t (p_aS S.1 (p_w t k4), S.2) (p_is t (p_nx t k4) 6) (if p_is t (p_nx t k4) 6 = true then p_nx t (p_nx t k4) else p_nx t k4) else .inr ((p_aS S.1 (p_w t k4), S.2.1, S.2.2 ++ [(none, false)]), p_nx t k4)
def p_nd (t : List Int32) (x : p_S × k_T) : p_E ⊕ (p_S × k_T) := if p_sy t x.2 59 = true then .inr (x.1, p_nx t x.2) else .inl (p_er 1 x.2)
theorem p_ses_r : p_sss t S k = p_bind (r_sx t S k) (fun k4 => p_ses1 t (p_aS S.1 (p_w t k4), S.2) (p_nx t k4)) := by
  unfold p_sss r_sx
  by_cases h1 : S.1.2.2.length < 4
  · rw [if_pos h1, if_pos h1]
    show _ = p_bind (p_bind (if p_nm t (p_nx t k) = true then (Sum.inr (p_nx t k) : r_T) else .inl (p_er 1 (p_nx t k))) _) _
    by_cases h2 : p_nm t (p_nx t k) = true
    · rw [if_pos h2, if_pos h2]
      show _ = p_bind (if (p_fs S.1 (p_w t (p_nx t k))).isNone = true then (Sum.inr (p_nx t k) : r_T) else .inl (p_er 3 (p_nx t k))) _
      by_cases h3 : (p_fs S.1 (p_w t (p_nx t k))).isNone = true
      · rw [if_pos h3, if_pos h3]; rfl
      · rw [if_neg h3, if_neg h3]; rfl
    · rw [if_neg h2, if_neg h2]; rfl
  · rw [if_neg h1, if_neg h1]; rfl
theorem p_ses_nd : p_bind (p_sss t S k) (p_nd t) = p_bind (p_bind (r_sx t S k) (p_sR t S)) (p_nd t) := by
  rw [p_ses_r]
  cases r_sx t S k with
  | inl e => rfl
  | inr k4 =>
    show p_bind (p_ses1 t (p_aS S.1 (p_w t k4), S.2) (p_nx t k4)) (p_nd t) = p_bind (p_sR t S k4) (p_nd t)
    unfold p_ses1 p_sR
    by_cases h1 : p_sy t (p_nx t k4) 59 = true
    · have h2 : p_is t (p_nx t k4) 6 = false := p_is_s h1 (by decide) (by decide)
      have h3 : p_nm t (p_nx t k4) = false := by
        unfold p_nm
        rw [decide_eq_false (by rw [p_sy_k h1]; decide)]
        rfl
      rw [if_pos h1, h2, h3]
      rfl
    · rw [if_neg h1]
      by_cases h2 : (p_is t (p_nx t k4) 6 || p_nm t (p_nx t k4)) = true
      · rw [if_pos h2]
      · rw [if_neg h2]
        have h2 : (p_is t (p_nx t k4) 6 || p_nm t (p_nx t k4)) = false := by
          cases h9 : (p_is t (p_nx t k4) 6 || p_nm t (p_nx t k4)) with
          | true => exact absurd h9 h2
          | false => rfl
        rw [Bool.or_eq_false_iff] at h2
        rw [h2.1]
        have e1 : p_ses2 t (p_aS S.1 (p_w t k4), S.2) false (p_nx t k4) = .inl (p_er 1 (p_nx t k4)) := by
          unfold p_ses2 p_bh
          rw [if_neg (by rw [h2.2]; decide)]
          rfl
        show p_bind (p_ses2 t (p_aS S.1 (p_w t k4), S.2) false (p_nx t k4)) (p_nd t) = p_nd t _
        rw [e1]
        unfold p_nd
        rw [if_neg h1]
        rfl
theorem r_sx_k {k4 : k_T} (h : r_sx t S k = .inr k4) : S.1.2.2.length < 4 ∧ p_nm t k4 = true := by
  unfold r_sx at h
  obtain ⟨k3, g1, g2⟩ := p_bind_r h
  have g3 := r_nh_k g1
  by_cases h3 : (p_fs S.1 (p_w t k3)).isNone = true
  · rw [if_pos h3] at g2
    cases g2
    refine ⟨?_, g3.2⟩
    by_cases h1 : S.1.2.2.length < 4
    · exact h1
    · have := g3.1
      rw [if_neg h1] at this
      cases this
  · rw [if_neg h3] at g2; cases g2
theorem p_fs_lt {n : List Nat} {b : Nat} (h : p_fs V n = some b) : b < V.2.2.length := (List.findIdx?_eq_some_iff_getElem.mp h).1
theorem D_se1 {n : List Nat} (hw : w_Vb S.1) (hl : S.1.2.2.length < 4) (hsl : S.2.2.length = S.1.2.2.length) (hD : m_D S M) : m_D (p_aS S.1 n, S.2.1, S.2.2 ++ [(none, false)]) (m_b (m_u (m_u M (282 + 131 * S.1.2.2.length + 0) (n_code n)) 2 (m_w (m_u M (282 + 131 * S.1.2.2.length + 0) (n_code n)) 2 + 1)) 3 (upd (M.2.2.2 3) S.1.2.2.length (-1))) := by
  obtain ⟨h1, h2, h3, h4, h5, h6, h7, h8⟩ := hD
  have hw1 := hw.1
  have hrow : m_w (m_b (m_u (m_u M (282 + 131 * S.1.2.2.length + 0) (n_code n)) 2 (m_w (m_u M (282 + 131 * S.1.2.2.length + 0) (n_code n)) 2 + 1)) 3 (upd (M.2.2.2 3) S.1.2.2.length (-1))) = vp_updL (vp_updL (m_w M) (282 + 131 * S.1.2.2.length + 0) (n_code n)) 2 (m_w M 2 + 1) := by
    rw [m_w_b, m_w_u, m_w_u, uL_n (by omega)]
  unfold m_D
  rw [hrow]
  have ho : ∀ i, i ≠ 2 → i ≠ 282 + 131 * S.1.2.2.length → vp_updL (vp_updL (m_w M) (282 + 131 * S.1.2.2.length + 0) (n_code n)) 2 (m_w M 2 + 1) i = m_w M i := fun i g1 g2 => by rw [uL_n g1, uL_n (by omega)]
  refine ⟨h1, ⟨?_, ?_, ?_, fun b hb => ?_⟩, fun s hs => ?_, fun s hs j g1 g2 => ?_, fun b hb g1 j g2 => ?_, h6, h7.trans (congrArg nI (p_tot_s (V := S.1) (n := n)).symm), fun s hs => ?_⟩
  · rw [ho _ (by omega) (by omega)]; exact h2.1
  · rw [ho _ (by omega) (by omega)]; exact h2.2.1
  · rw [uL_s, i64_add, h2.2.2.1]
    show _ = nI (S.1.2.2 ++ [_]).length
    rw [List.length_append, List.length_singleton]
    exact nI_1 _
  · have hb : b < S.1.2.1.length := hb
    exact e_B_fr (hw.2.2 b hb) (fun i g1 g2 => ho i (by omega) (by omega)) (h2.2.2.2 b hb)
  · have hs : s < (S.1.2.2 ++ [_]).length := hs
    rw [List.length_append, List.length_singleton] at hs
    unfold p_aS
    by_cases hss : s < S.1.2.2.length
    · rw [a_s_ap hss, ho _ (by omega) (by omega)]
      exact h3 s hss
    · obtain rfl : s = S.1.2.2.length := by omega
      rw [a_s_aq, uL_n (by omega), Nat.add_zero, uL_s]
  · rw [ho _ (by omega) (by omega)]; exact h4 s hs j g1 g2
  · rw [ho _ (by omega) (by omega)]; exact h5 b hb g1 j g2
  · have hs : s < (S.2.2 ++ [_]).length := hs
    rw [List.length_append, List.length_singleton] at hs
    show upd (M.2.2.2 3) S.1.2.2.length (-1) s = o_I ((S.2.2 ++ [(none, false)]).getD s (none, false)).1 ∧ (((S.2.2 ++ [(none, false)]).getD s (none, false)).1.isSome = true → M.2.2.2 4 s = b_I ((S.2.2 ++ [(none, false)]).getD s (none, false)).2)
    rw [gd_aps]
    by_cases hss : s < S.2.2.length
    · rw [if_pos hss, pk_un (by omega)]
      exact h8 s hss
    · obtain rfl : s = S.2.2.length := by omega
      rw [if_neg hss, if_pos rfl, hsl, pk_us]
      exact ⟨rfl, fun z => by cases z⟩
theorem D_se2 {l : List (Option Nat × Bool)} {n : Nat} {x : Int32} {hl : Bool} (hn : n = l.length) (hD : m_D (V, hl, l ++ [(none, false)]) M) : m_D (V, hl, l ++ [(none, false)]) (m_b M 4 (upd (M.2.2.2 4) n x)) := by
  obtain ⟨h1, h2, h3, h4, h5, h6, h7, h8⟩ := hD
  refine ⟨h1, h2, h3, h4, h5, h6, h7, fun s hs => ⟨(h8 s hs).1, fun z => ?_⟩⟩
  show upd (M.2.2.2 4) n x s = _
  have hs2 : s < (l ++ [_]).length := hs
  rw [List.length_append, List.length_singleton] at hs2
  by_cases hss : s < l.length
  · rw [pk_un (by omega)]
    exact (h8 s hs).2 z
  · obtain rfl : s = l.length := by omega
    have z : ((l ++ [(none, false)]).getD l.length (none, false)).1.isSome = true := z
    rw [gd_aps, if_neg hss, if_pos rfl] at z
    cases z
theorem D_se3 {l : List (Option Nat × Bool)} {n b : Nat} {rd hl : Bool} (hn : n = l.length) (h4 : M.2.2.2 4 n = b_I rd) (hD : m_D (V, hl, l ++ [(none, false)]) M) : m_D (V, hl, l ++ [(some b, rd)]) (m_b M 3 (upd (M.2.2.2 3) n (nI b))) := by
  obtain ⟨g1, g2, g3, g4, g5, g6, g7, g8⟩ := hD
  refine ⟨g1, g2, g3, g4, g5, g6, g7, fun s hs => ?_⟩
  have hs2 : s < (l ++ [_]).length := hs
  rw [List.length_append, List.length_singleton] at hs2
  show upd (M.2.2.2 3) n (nI b) s = o_I ((l ++ [(some b, rd)]).getD s (none, false)).1 ∧ (((l ++ [(some b, rd)]).getD s (none, false)).1.isSome = true → M.2.2.2 4 s = b_I ((l ++ [(some b, rd)]).getD s (none, false)).2)
  by_cases hss : s < l.length
  · have g9 := g8 s (by show s < (l ++ [_]).length; rw [List.length_append, List.length_singleton]; omega)
    have g9 : M.2.2.2 3 s = o_I ((l ++ [(none, false)]).getD s (none, false)).1 ∧ (((l ++ [(none, false)]).getD s (none, false)).1.isSome = true → M.2.2.2 4 s = b_I ((l ++ [(none, false)]).getD s (none, false)).2) := g9
    rw [gd_aps, if_pos hss] at g9
    rw [gd_aps, if_pos hss, pk_un (by omega)]
    exact g9
  · obtain rfl : s = l.length := by omega
    rw [gd_aps, if_neg hss, if_pos rfl, ← hn, pk_us]
    exact ⟨rfl, fun _ => h4⟩
theorem ses_W {k4 k6 : k_T} {rd : Bool} {M8 M9 M11 : m_M} (e4 : r_sx t S k = .inr k4) (e6 : p_sR t S k4 = p_ses2 t (p_aS S.1 (p_w t k4), S.2) rd k6) (hsl : S.2.2.length = S.1.2.2.length) (h48 : M8.2.2.2 4 S.1.2.2.length = b_I rd) (hY9 : m_Y M8 M9) (hD9 : m_D (p_aS S.1 (p_w t k4), S.2.1, S.2.2 ++ [(none, false)]) M9) (hY11 : m_Y (m_b M9 3 (upd (M9.2.2.2 3) S.1.2.2.length (o_I (r_bv t (p_aS S.1 (p_w t k4)) (.inr k6))))) M11) (hZ11 : m_Z t (r_nx t (r_bh t (p_aS S.1 (p_w t k4)) (.inr k6))) M11) : m_W t (p_bind (r_sx t S k) (p_sR t S)) M11 := by
  rw [e4]
  show m_W t (p_sR t S k4) M11
  rw [e6]
  unfold p_ses2
  cases hb : p_bh t (p_aS S.1 (p_w t k4)) k6 with
  | inl e =>
    have e1 : r_bh t (p_aS S.1 (p_w t k4)) (.inr k6) = .inl e := by show p_bind (p_bh t (p_aS S.1 (p_w t k4)) k6) _ = _; rw [hb]; rfl
    rw [e1] at hZ11
    exact hZ11
  | inr b =>
    have e1 : r_bh t (p_aS S.1 (p_w t k4)) (.inr k6) = .inr k6 := by show p_bind (p_bh t (p_aS S.1 (p_w t k4)) k6) _ = _; rw [hb]; rfl
    have e2 : r_bv t (p_aS S.1 (p_w t k4)) (.inr k6) = some b := by show (match p_bh t (p_aS S.1 (p_w t k4)) k6 with | .inr b => some b | .inl _ => none) = some b; rw [hb]
    rw [e1] at hZ11
    rw [e2] at hY11
    have h49 : M9.2.2.2 4 S.1.2.2.length = b_I rd := by rw [hY9.1]; exact h48
    exact ⟨hZ11, m_D_Y (D_se3 (b := b) hsl.symm h49 hD9) hY11⟩
theorem ct_parseSession (hn : h + 11 < sx_n σ) {k : k_T} (hZ : m_Q t k 0 M) (hD : m_D S M) (hok : p_ok S) (hW : g_S G) : sx_Cp G 11 YX3_parseSession [.ref h] (m_S G h M σ) (fun v τ => v = none ∧ ∃ M2, τ = m_S G h M2 σ ∧ m_P M M2 ∧ m_W t (p_bind (r_sx t S k) (p_sR t S)) M2) := by
  have mid116 : ∀ k4 k6 rd M8 x, r_sx t S k = .inr k4 → m_P M M8 → m_Q t k6 0 M8 → m_D (p_aS S.1 (p_w t k4), S.2.1, S.2.2 ++ [(none, false)]) M8 → M8.2.2.2 4 S.1.2.2.length = b_I rd → p_sR t S k4 = p_ses2 t (p_aS S.1 (p_w t k4), S.2) rd k6 → S.1.2.2.length < 4 → sx_V G 11 YX3_parseSession 116 [some (.ref h), some (.int (nI S.1.2.2.length)), some (.long x), none] [] (m_S G h M8 σ) (fun o τ => ∃ v, o = .inl v ∧ v = none ∧ ∃ M2, τ = m_S G h M2 σ ∧ m_P M M2 ∧ m_W t (p_bind (r_sx t S k) (p_sR t S)) M2) := by
    have hw := p_OV_w hok.1
    have hw1 := hw.1
    have hw2 := hw.2.1
    intro k4 k6 rd M8 x e4 hP8 hZ8 hD8 h48 e6 hl4
    have hZ80 : m_Z t (.inr k6) M8 := hZ8
    have hE8 : e_Vb (m_w M8) (p_aS S.1 (p_w t k4)) := hD8.2.1
    refine sv_aload_n dX3_parseSession_116 rfl ?_
    refine sm_get hn fg_X3_41 dX3_parseSession_117 rfl ?_
    refine sv_iload_n dX3_parseSession_120 rfl ?_
    refine sv_aload_n dX3_parseSession_121 rfl ?_
    refine sv_cvP _ (ct_boxHere (V := p_aS S.1 (p_w t k4)) hn hZ80 hW hE8 ⟨hw.1, by show (S.1.2.2 ++ [_]).length ≤ 4; rw [List.length_append, List.length_singleton]; omega, hw.2.2⟩ (fun b hb => (hok.1.2.2.2.1 b hb).1)) okX3_boxHere kv_X3_410 (sx_rd_c (m_S_0 hn)) rfl dX3_parseSession_122 rfl rfl (by decide) (Nat.le_of_ble_eq_true rfl) ?_
    intro v9 t9 hp9
    obtain ⟨rfl, M9, rfl, hY9, hZ9⟩ := hp9
    have hD9 := m_D_Y hD8 hY9
    refine sm_b3st hn dX3_parseSession_125 (by omega) ?_
    have hV10 : m_V M9 (m_b M9 3 (upd (M9.2.2.2 3) S.1.2.2.length (o_I (r_bv t (p_aS S.1 (p_w t k4)) (.inr k6))))) := m_V_b (Or.inl rfl) m_V_r
    have hZ10 := m_Z_V hZ9 hV10
    refine sv_aload_n dX3_parseSession_126 rfl ?_
    refine sv_cvP _ (ct_goOn hn hZ10) okX3_goOn kv_X3_340 (sx_rd_c (m_S_0 hn)) rfl dX3_parseSession_127 rfl rfl (by decide) (Nat.le_of_ble_eq_true rfl) ?_
    intro v11 t11 hp11
    obtain ⟨rfl, M11, rfl, hY11, hZ11⟩ := hp11
    refine sv_vret rfl dX3_parseSession_130 ?_
    exact ⟨_, rfl, rfl, _, rfl, m_P_t hP8 (m_P_t (m_P_Y hY9) (m_P_t (m_P_V hV10) (m_P_Y hY11))), ses_W e4 e6 hok.2.1 h48 hY9 hD9 hY11 hZ11⟩
  have mid45 : ∀ r4 M4 x, m_Y M M4 → m_Z t r4 M4 → m_D S M4 → (∀ k4, r4 = .inr k4 → x = n_code (p_w t k4)) → r4 = r_sx t S k → sx_V G 11 YX3_parseSession 45 [some (.ref h), some (.int (nI S.1.2.2.length)), some (.long x), none] [] (m_S G h M4 σ) (fun o τ => ∃ v, o = .inl v ∧ v = none ∧ ∃ M2, τ = m_S G h M2 σ ∧ m_P M M2 ∧ m_W t (p_bind (r_sx t S k) (p_sR t S)) M2) := by
    have hw := p_OV_w hok.1
    have hw1 := hw.1
    have hw2 := hw.2.1
    intro r4 M4 x hY4 hZ4 hD4 hx4 e4
    refine sv_aload_n dX3_parseSession_45 rfl ?_
    refine sv_cvR _ (ct_gd hn hZ4) okX3_good kv_X3_279 (sx_rd_c (m_S_0 hn)) rfl dX3_parseSession_46 rfl rfl (by decide) (Nat.le_of_ble_eq_true rfl) ?_
    refine sv_if_neB (tgt := 53) dX3_parseSession_49 (by decide) (fun c49 => ?_) (fun c49 => ?_)
    · obtain ⟨k4, rfl⟩ := r_g_t c49
      obtain ⟨hl4, hnm⟩ := r_sx_k e4.symm
      obtain rfl := hx4 k4 rfl
      have e4s := e4.symm
      refine sv_aload_n dX3_parseSession_53 rfl ?_
      refine sm_get hn fg_X3_24 dX3_parseSession_54 rfl ?_
      refine sv_top (row_1 hD4.1) ?_
      refine sv_iload_n dX3_parseSession_57 rfl ?_
      refine sv_csR _ ct_sessionAt okX3_sessionAt ks_X3_84 dX3_parseSession_58 rfl rfl (by decide) (Nat.le_of_ble_eq_true rfl) ?_
      refine sv_iconst (nI 0) dX3_parseSession_61 (by decide +kernel) ?_
      refine sv_iaddN dX3_parseSession_62 ?_
      refine sv_lload_n dX3_parseSession_63 rfl ?_
      refine sm_dst hD4.1 hn dX3_parseSession_64 (by omega) ?_
      refine sv_aload_n dX3_parseSession_65 rfl ?_
      refine sm_get hn fg_X3_24 dX3_parseSession_66 rfl ?_
      refine sv_top (row_1 hD4.1) ?_
      refine sv_iconst (nI 2) dX3_parseSession_69 (by decide +kernel) ?_
      refine sv_dup2 dX3_parseSession_70 rfl rfl ?_
      refine sm_dld hD4.1 hn dX3_parseSession_71 (by decide) ?_
      refine sv_lconst 1 dX3_parseSession_72 (by decide) ?_
      refine sv_ladd dX3_parseSession_73 ?_
      refine sm_dst hD4.1 hn dX3_parseSession_74 (by decide) ?_
      refine sv_aload_n dX3_parseSession_75 rfl ?_
      refine sm_get hn fg_X3_41 dX3_parseSession_76 rfl ?_
      refine sv_iload_n dX3_parseSession_79 rfl ?_
      refine sv_iconst (-1) dX3_parseSession_80 (by decide +kernel) ?_
      refine sm_b3st hn dX3_parseSession_81 (by omega) ?_
      have hD5 := D_se1 (n := p_w t k4) hw hl4 hok.2.1 hD4
      have hV5 := m_V_b (k := 3) (f := upd (M4.2.2.2 3) S.1.2.2.length (-1)) (Or.inl rfl) (m_V_u (i := 2) (x := m_w (m_u M4 (282 + 131 * S.1.2.2.length + 0) (n_code (p_w t k4))) 2 + 1) hD4.1 (m_V_u (i := 282 + 131 * S.1.2.2.length + 0) (x := n_code (p_w t k4)) hD4.1 (m_V_r (M := M4))))
      have hZ5 := m_Z_V hZ4 hV5
      refine sv_aload_n dX3_parseSession_82 rfl ?_
      refine sv_cvP _ (ct_goOn hn hZ5) okX3_goOn kv_X3_340 (sx_rd_c (m_S_0 hn)) rfl dX3_parseSession_83 rfl rfl (by decide) (Nat.le_of_ble_eq_true rfl) ?_
      intro v6 t6 hp6
      obtain ⟨rfl, M6, rfl, hY6, hZ6⟩ := hp6
      have hD6 := m_D_Y hD5 hY6
      refine sv_aload_n dX3_parseSession_86 rfl ?_
      refine sm_get hn fg_X3_44 dX3_parseSession_87 rfl ?_
      refine sv_iload_n dX3_parseSession_90 rfl ?_
      refine sv_aload_n dX3_parseSession_91 rfl ?_
      refine sv_ldcSw 22 rfl dX3_parseSession_92 ?_
      refine sv_cvP _ (ct_takesWord (i := 6) (j := 22) hn hZ6 hW (by decide) (by decide) rfl) okX3_takesWord kv_X3_413 (sx_rd_c (m_S_0 hn)) rfl dX3_parseSession_95 rfl rfl (by decide) (Nat.le_of_ble_eq_true rfl) ?_
      intro v7 t7 hp7
      obtain ⟨rfl, M7, rfl, hY7, hZ7⟩ := hp7
      have hD7 := m_D_Y hD6 hY7
      refine sm_b4st hn dX3_parseSession_98 (by omega) ?_
      rw [b_I_vn]
      have hD8 := D_se2 (n := S.1.2.2.length) (x := b_I (r_is t (r_nx t (.inr k4)) 6)) hok.2.1.symm hD7
      have hV8 : m_V M7 (m_b M7 4 (upd (M7.2.2.2 4) S.1.2.2.length (b_I (r_is t (r_nx t (.inr k4)) 6)))) := m_V_b (Or.inr rfl) m_V_r
      have hZ8 := m_Z_V hZ7 hV8
      have hP8 := m_P_t (m_P_Y hY4) (m_P_t (m_P_V hV5) (m_P_t (m_P_Y hY6) (m_P_t (m_P_Y hY7) (m_P_V hV8))))
      refine sv_aload_n dX3_parseSession_99 rfl ?_
      refine sm_get hn fg_X3_44 dX3_parseSession_100 rfl ?_
      refine sv_iload_n dX3_parseSession_103 rfl ?_
      refine sm_b4ld hn dX3_parseSession_104 (by omega) ?_
      refine sv_topI (y := b_I (r_is t (r_nx t (.inr k4)) 6)) pk_us ?_
      refine sv_if_neB (tgt := 116) dX3_parseSession_105 (by decide) (fun c105 => ?_) (fun c105 => ?_)
      · have c6 : p_is t (p_nx t k4) 6 = true := c105
        have hP9 := hP8
        have hZ9 : m_Q t (p_nx t (p_nx t k4)) 0 (m_b M7 4 (upd (M7.2.2.2 4) S.1.2.2.length (b_I (r_is t (r_nx t (.inr k4)) 6)))) := by rw [if_pos c105] at hZ8; exact hZ8
        have hD9 := hD8
        have h49 : (m_b M7 4 (upd (M7.2.2.2 4) S.1.2.2.length (b_I (r_is t (r_nx t (.inr k4)) 6)))).2.2.2 4 S.1.2.2.length = b_I true := by show upd (M7.2.2.2 4) S.1.2.2.length _ S.1.2.2.length = _; rw [pk_us, c105]
        have e69 : p_sR t S k4 = p_ses2 t (p_aS S.1 (p_w t k4), S.2) true (p_nx t (p_nx t k4)) := by unfold p_sR; rw [c6]; rfl
        exact mid116 k4 _ _ _ _ e4s hP9 hZ9 hD9 h49 e69 hl4
      · have c6 : p_is t (p_nx t k4) 6 = false := c105
        have hZ9 : m_Q t (p_nx t k4) 0 (m_b M7 4 (upd (M7.2.2.2 4) S.1.2.2.length (b_I (r_is t (r_nx t (.inr k4)) 6)))) := by rw [if_neg (bf_n c105)] at hZ8; exact hZ8
        refine sv_aload_n dX3_parseSession_108 rfl ?_
        refine sv_cvR _ (ct_isName hn hZ8 hW) okX3_isName kv_X3_382 (sx_rd_c (m_S_0 hn)) rfl dX3_parseSession_109 rfl rfl (by decide) (Nat.le_of_ble_eq_true rfl) ?_
        refine sv_if_neB (tgt := 116) dX3_parseSession_112 (by decide) (fun c112 => ?_) (fun c112 => ?_)
        · rw [if_neg (bf_n c105)] at c112
          have c7 : p_nm t (p_nx t k4) = true := c112
          have hP9 := hP8
          have hD9 := hD8
          have h49 : (m_b M7 4 (upd (M7.2.2.2 4) S.1.2.2.length (b_I (r_is t (r_nx t (.inr k4)) 6)))).2.2.2 4 S.1.2.2.length = b_I false := by show upd (M7.2.2.2 4) S.1.2.2.length _ S.1.2.2.length = _; rw [pk_us, c105]
          have e69 : p_sR t S k4 = p_ses2 t (p_aS S.1 (p_w t k4), S.2) false (p_nx t k4) := by unfold p_sR; rw [c6, c7]; rfl
          exact mid116 k4 _ _ _ _ e4s hP9 hZ9 hD9 h49 e69 hl4
        · rw [if_neg (bf_n c105)] at c112
          have c7 : p_nm t (p_nx t k4) = false := c112
          have hW8 : m_W t (p_bind (r_sx t S k) (p_sR t S)) (m_b M7 4 (upd (M7.2.2.2 4) S.1.2.2.length (b_I (r_is t (r_nx t (.inr k4)) 6)))) := by rw [← e4]; show m_W t (p_sR t S k4) (m_b M7 4 (upd (M7.2.2.2 4) S.1.2.2.length (b_I (r_is t (r_nx t (.inr k4)) 6)))); unfold p_sR; rw [c6, c7]; exact ⟨hZ9, hD8⟩
          refine sv_vret rfl dX3_parseSession_115 ?_
          exact ⟨_, rfl, rfl, _, rfl, hP8, hW8⟩
    · obtain ⟨e, rfl⟩ := r_g_f c49
      have hW9 : m_W t (p_bind (r_sx t S k) (p_sR t S)) M4 := by rw [← e4]; exact hZ4
      refine sv_vret rfl dX3_parseSession_52 ?_
      exact ⟨_, rfl, rfl, _, rfl, m_P_Y hY4, hW9⟩
  have mid15 : ∀ r1 M1, m_Y M M1 → m_Z t r1 M1 → m_D S M1 → r1 = (if S.1.2.2.length < 4 then .inr k else .inl (p_er 4 k) : r_T) → sx_V G 11 YX3_parseSession 15 [some (.ref h), some (.int (nI S.1.2.2.length)), none, none] [] (m_S G h M1 σ) (fun o τ => ∃ v, o = .inl v ∧ v = none ∧ ∃ M2, τ = m_S G h M2 σ ∧ m_P M M2 ∧ m_W t (p_bind (r_sx t S k) (p_sR t S)) M2) := by
    have hw := p_OV_w hok.1
    have hw1 := hw.1
    have hw2 := hw.2.1
    intro r1 M1 hY1 hZ1 hD1 e1
    refine sv_aload_n dX3_parseSession_15 rfl ?_
    refine sv_cvP _ (ct_goOn hn hZ1) okX3_goOn kv_X3_340 (sx_rd_c (m_S_0 hn)) rfl dX3_parseSession_16 rfl rfl (by decide) (Nat.le_of_ble_eq_true rfl) ?_
    intro v2 t2 hp2
    obtain ⟨rfl, M2, rfl, hY2, hZ2⟩ := hp2
    refine sv_aload_n dX3_parseSession_19 rfl ?_
    refine sv_cvP _ (ct_nameHere hn hZ2 hW) okX3_nameHere kv_X3_399 (sx_rd_c (m_S_0 hn)) rfl dX3_parseSession_20 rfl rfl (by decide) (Nat.le_of_ble_eq_true rfl) ?_
    intro v3 t3 hp3
    obtain ⟨rfl, M3, rfl, hY3, hZ3⟩ := hp3
    have hY13 := m_Y_t hY1 (m_Y_t hY2 hY3)
    have hD3 := m_D_Y (m_D_Y hD1 hY2) hY3
    refine sv_lstore_n dX3_parseSession_23 (by decide) ?_
    refine sv_aload_n dX3_parseSession_24 rfl ?_
    refine sv_cvR _ (ct_gd hn hZ3) okX3_good kv_X3_279 (sx_rd_c (m_S_0 hn)) rfl dX3_parseSession_25 rfl rfl (by decide) (Nat.le_of_ble_eq_true rfl) ?_
    refine sv_if_eqB (tgt := 45) dX3_parseSession_28 (by decide) (fun c28 => ?_) (fun c28 => ?_)
    · obtain ⟨e, ek⟩ := r_g_f c28
      have hY9 := hY13
      have hZ9 := hZ3
      have hD9 := hD3
      have hx9 : ∀ k4, r_nh t (r_nx t r1) = .inr k4 → r_nc t (r_nh t (r_nx t r1)) = n_code (p_w t k4) := fun k4 z => by rw [ek] at z; cases z
      have e9 : r_nh t (r_nx t r1) = r_sx t S k := by unfold r_sx; rw [← e1, ek]; rfl
      exact mid45 _ _ _ hY9 hZ9 hD9 hx9 e9
    · obtain ⟨k3, ek⟩ := r_g_t c28
      have e3 := r_nh_k ek
      have hZk : m_Q t k3 0 M3 := by rw [ek] at hZ3; exact hZ3
      refine sv_aload_n dX3_parseSession_31 rfl ?_
      refine sv_lload_n dX3_parseSession_32 rfl ?_
      refine sv_cvR _ (ct_sessionNamed (V := S.1) (n := p_w t k3) hn hD3.2.1 hw (by rw [ek]; rfl) (p_nm_o hZk.2.2.2.1 hZk.2.2.1 e3.2).1 (fun b hb => (hok.1.2.2.2.2 b hb).1) hD3.2.2.1) okX3_sessionNamed kv_X3_419 (sx_rd_c (m_S_0 hn)) rfl dX3_parseSession_33 rfl rfl (by decide) (Nat.le_of_ble_eq_true rfl) ?_
      refine sv_iconst (-1) dX3_parseSession_36 (by decide +kernel) ?_
      refine sv_icmp_eq (tgt := 45) dX3_parseSession_37 (by decide) (fun c37 => ?_) (fun c37 => ?_)
      · have hY9 := hY13
        have hZ9 := hZ3
        have hD9 := hD3
        have hx9 : ∀ k4, r_nh t (r_nx t r1) = .inr k4 → r_nc t (r_nh t (r_nx t r1)) = n_code (p_w t k4) := fun k4 z => by rw [z]; rfl
        have hno := (o_I_m1 _ (fun b z => by have h8 := p_fs_lt z; omega)).mp c37
        have e9 : r_nh t (r_nx t r1) = r_sx t S k := by unfold r_sx; rw [← e1, ek]; show _ = (if (p_fs S.1 (p_w t k3)).isNone = true then (Sum.inr k3 : r_T) else .inl (p_er 3 k3)); rw [if_pos (by rw [hno]; rfl)]
        exact mid45 _ _ _ hY9 hZ9 hD9 hx9 e9
      · refine sv_aload_n dX3_parseSession_40 rfl ?_
        refine sv_iconst (nI 3) dX3_parseSession_41 (by decide +kernel) ?_
        refine sv_cvP _ (ct_er (c := 3) hn hZ3 (by decide) (by decide)) okX3_errs kv_X3_337 (sx_rd_c (m_S_0 hn)) rfl dX3_parseSession_42 rfl rfl (by decide) (Nat.le_of_ble_eq_true rfl) ?_
        intro v7 t7 hp7
        obtain ⟨rfl, M7, rfl, hY7, hZ7⟩ := hp7
        have hY9 := m_Y_t hY13 hY7
        have hZ9 := hZ7
        have hD9 := m_D_Y hD3 hY7
        have hx9 : ∀ k4, r_er (r_nh t (r_nx t r1)) 3 = .inr k4 → r_nc t (r_nh t (r_nx t r1)) = n_code (p_w t k4) := fun k4 z => by rw [ek] at z; cases z
        have e9 : r_er (r_nh t (r_nx t r1)) 3 = r_sx t S k := by unfold r_sx; rw [← e1, ek]; show _ = (if (p_fs S.1 (p_w t k3)).isNone = true then (Sum.inr k3 : r_T) else .inl (p_er 3 k3)); rw [if_neg (by intro z; exact c37 (by rw [Option.isNone_iff_eq_none.mp z]; rfl))]; rfl
        exact mid45 _ _ _ hY9 hZ9 hD9 hx9 e9
  refine sx_body (by decide) (Nat.le_of_ble_eq_true rfl) ?_
  have hw := p_OV_w hok.1
  have hw1 := hw.1
  have hw2 := hw.2.1
  have hZ0 : m_Z t (.inr k) M := hZ
  refine sv_aload_n dX3_parseSession_0 rfl ?_
  refine sv_cvR _ (ct_sessions (V := S.1) hn hD.2.1 hw) okX3_sessions kv_X3_74 (sx_rd_c (m_S_0 hn)) rfl dX3_parseSession_1 rfl rfl (by decide) (Nat.le_of_ble_eq_true rfl) ?_
  refine sv_istore_n dX3_parseSession_4 (by decide) ?_
  refine sv_iload_n dX3_parseSession_5 rfl ?_
  refine sv_iconst (nI 4) dX3_parseSession_6 (by decide +kernel) ?_
  refine sv_icmp_neN (tgt := 15) dX3_parseSession_7 (by decide) (by omega) (by omega) (fun c7 => ?_) (fun c7 => ?_)
  · have hY9 := m_Y_r (M := M)
    have hZ9 : m_Z t (.inr k) M := hZ
    have hD9 := hD
    have e9 : (Sum.inr k : r_T) = (if S.1.2.2.length < 4 then .inr k else .inl (p_er 4 k) : r_T) := by rw [if_pos (by omega)]
    exact mid15 _ _ hY9 hZ9 hD9 e9
  · refine sv_aload_n dX3_parseSession_10 rfl ?_
    refine sv_iconst (nI 4) dX3_parseSession_11 (by decide +kernel) ?_
    refine sv_cvP _ (ct_er (c := 4) hn hZ0 (by decide) (by decide)) okX3_errs kv_X3_337 (sx_rd_c (m_S_0 hn)) rfl dX3_parseSession_12 rfl rfl (by decide) (Nat.le_of_ble_eq_true rfl) ?_
    intro v3 t3 hp3
    obtain ⟨rfl, M3, rfl, hY3, hZ3⟩ := hp3
    have hY9 := hY3
    have hZ9 := hZ3
    have hD9 := m_D_Y hD hY3
    have e9 : r_er (.inr k) 4 = (if S.1.2.2.length < 4 then .inr k else .inl (p_er 4 k) : r_T) := by rw [if_neg (by omega)]; rfl
    exact mid15 _ _ hY9 hZ9 hD9 e9
def w_r (x : p_E ⊕ (p_S × k_T)) : r_T := p_bind x (fun y => .inr y.2)
theorem m_W_Z {x : p_E ⊕ (p_S × k_T)} (h : m_W t x M) : m_Z t (w_r x) M := by
  cases x with
  | inl e => exact h
  | inr y => exact h.1
theorem need_W {x : p_E ⊕ (p_S × k_T)} (h : m_W t x M) (hY : m_Y M M') (hZ : m_Z t (if r_sy t (w_r x) (nI 59) = true then r_nx t (w_r x) else r_er (w_r x) 1) M') : m_W t (p_bind x (p_nd t)) M' := by
  cases x with
  | inl e => exact hZ
  | inr y =>
    have hZ : m_Z t (if p_sy t y.2 (nI 59) = true then .inr (p_nx t y.2) else .inl (p_er 1 y.2)) M' := hZ
    show m_W t (p_nd t y) M'
    unfold p_nd
    rw [show (59 : Int32) = nI 59 from rfl]
    by_cases h1 : p_sy t y.2 (nI 59) = true
    · rw [if_pos h1] at hZ ⊢
      exact ⟨hZ, m_D_Y h.2 hY⟩
    · rw [if_neg h1] at hZ ⊢
      exact hZ
theorem st_lim (h : p_is t k 1 = true) : p_st t S k = p_lim t S k := by unfold p_st; rw [if_pos h]
theorem st_box (h1 : p_is t k 1 = false) (h : p_is t k 2 = true) : p_st t S k = p_bbx t S k := by unfold p_st; rw [if_neg (bf_n h1), if_pos h]
theorem st_mes (h1 : p_is t k 1 = false) (h2 : p_is t k 2 = false) (h : p_is t k 3 = true) : p_st t S k = p_mes t S k := by unfold p_st; rw [if_neg (bf_n h1), if_neg (bf_n h2), if_pos h]
theorem st_ses (h1 : p_is t k 1 = false) (h2 : p_is t k 2 = false) (h3 : p_is t k 3 = false) (h : p_is t k 4 = true) : p_st t S k = p_sss t S k := by unfold p_st; rw [if_neg (bf_n h1), if_neg (bf_n h2), if_neg (bf_n h3), if_pos h]
theorem st_no (h1 : p_is t k 1 = false) (h2 : p_is t k 2 = false) (h3 : p_is t k 3 = false) (h : p_is t k 4 = false) : p_st t S k = .inl (p_er 1 k) := by unfold p_st; rw [if_neg (bf_n h1), if_neg (bf_n h2), if_neg (bf_n h3), if_neg (bf_n h)]
theorem ct_parseStatement (hn : h + 11 < sx_n σ) {k : k_T} (hZ : m_Q t k 0 M) (hD : m_D S M) (hok : p_ok S) (hW : g_S G) : sx_Cp G 12 YX3_parseStatement [.ref h] (m_S G h M σ) (fun v τ => v = none ∧ ∃ M2, τ = m_S G h M2 σ ∧ m_P M M2 ∧ m_W t (p_bind (p_st t S k) (p_nd t)) M2) := by
  have mid73 : ∀ x M1, m_P M M1 → m_W t x M1 → p_bind x (p_nd t) = p_bind (p_st t S k) (p_nd t) → sx_V G 12 YX3_parseStatement 73 [some (.ref h)] [] (m_S G h M1 σ) (fun o τ => ∃ v, o = .inl v ∧ v = none ∧ ∃ M2, τ = m_S G h M2 σ ∧ m_P M M2 ∧ m_W t (p_bind (p_st t S k) (p_nd t)) M2) := by
    intro x M1 hP1 hW1 e1
    refine sv_aload_n dX3_parseStatement_73 rfl ?_
    refine sv_bipush (nI 59) dX3_parseStatement_74 (by decide +kernel) ?_
    refine sv_cvP _ (ct_need (x := 59) hn (m_W_Z hW1) (by decide)) okX3_need kv_X3_434 (sx_rd_c (m_S_0 hn)) rfl dX3_parseStatement_76 rfl rfl (by decide) (Nat.le_of_ble_eq_true rfl) ?_
    intro v2 t2 hp2
    obtain ⟨rfl, M2, rfl, hY2, hZ2⟩ := hp2
    refine sv_vret rfl dX3_parseStatement_79 ?_
    exact ⟨_, rfl, rfl, _, rfl, m_P_t hP1 (m_P_Y hY2), by rw [← e1]; exact need_W hW1 hY2 hZ2⟩
  refine sx_body (by decide) (Nat.le_of_ble_eq_true rfl) ?_
  have hZ0 : m_Z t (.inr k) M := hZ
  refine sv_aload_n dX3_parseStatement_0 rfl ?_
  refine sv_ldcSw 17 rfl dX3_parseStatement_1 ?_
  refine sv_cvR _ (ct_isWord (i := 1) (j := 17) hn hZ0 hW (by decide) (by decide) rfl) okX3_isWord kv_X3_327 (sx_rd_c (m_S_0 hn)) rfl dX3_parseStatement_4 rfl rfl (by decide) (Nat.le_of_ble_eq_true rfl) ?_
  refine sv_if_eqB (tgt := 17) dX3_parseStatement_7 (by decide) (fun c7 => ?_) (fun c7 => ?_)
  · have c7 : p_is t k 1 = false := c7
    refine sv_aload_n dX3_parseStatement_17 rfl ?_
    refine sv_ldcSw 18 rfl dX3_parseStatement_18 ?_
    refine sv_cvR _ (ct_isWord (i := 2) (j := 18) hn hZ0 hW (by decide) (by decide) rfl) okX3_isWord kv_X3_327 (sx_rd_c (m_S_0 hn)) rfl dX3_parseStatement_21 rfl rfl (by decide) (Nat.le_of_ble_eq_true rfl) ?_
    refine sv_if_eqB (tgt := 34) dX3_parseStatement_24 (by decide) (fun c24 => ?_) (fun c24 => ?_)
    · have c24 : p_is t k 2 = false := c24
      refine sv_aload_n dX3_parseStatement_34 rfl ?_
      refine sv_ldcSw 19 rfl dX3_parseStatement_35 ?_
      refine sv_cvR _ (ct_isWord (i := 3) (j := 19) hn hZ0 hW (by decide) (by decide) rfl) okX3_isWord kv_X3_327 (sx_rd_c (m_S_0 hn)) rfl dX3_parseStatement_38 rfl rfl (by decide) (Nat.le_of_ble_eq_true rfl) ?_
      refine sv_if_eqB (tgt := 51) dX3_parseStatement_41 (by decide) (fun c41 => ?_) (fun c41 => ?_)
      · have c41 : p_is t k 3 = false := c41
        refine sv_aload_n dX3_parseStatement_51 rfl ?_
        refine sv_ldcSw 21 rfl dX3_parseStatement_52 ?_
        refine sv_cvR _ (ct_isWord (i := 4) (j := 21) hn hZ0 hW (by decide) (by decide) rfl) okX3_isWord kv_X3_327 (sx_rd_c (m_S_0 hn)) rfl dX3_parseStatement_55 rfl rfl (by decide) (Nat.le_of_ble_eq_true rfl) ?_
        refine sv_if_eqB (tgt := 68) dX3_parseStatement_58 (by decide) (fun c58 => ?_) (fun c58 => ?_)
        · have c58 : p_is t k 4 = false := c58
          refine sv_aload_n dX3_parseStatement_68 rfl ?_
          refine sv_iconst (nI 1) dX3_parseStatement_69 (by decide +kernel) ?_
          refine sv_cvP _ (ct_er (c := 1) hn hZ0 (by decide) (by decide)) okX3_errs kv_X3_337 (sx_rd_c (m_S_0 hn)) rfl dX3_parseStatement_70 rfl rfl (by decide) (Nat.le_of_ble_eq_true rfl) ?_
          intro v2 t2 hp2
          obtain ⟨rfl, M2, rfl, hY2, hZ2⟩ := hp2
          have hP9 := m_P_Y hY2
          have hW9 : m_W t (.inl (p_er 1 k)) M2 := hZ2
          have e9 : p_bind (.inl (p_er 1 k) : p_E ⊕ (p_S × k_T)) (p_nd t) = p_bind (p_st t S k) (p_nd t) := by rw [st_no c7 c24 c41 c58]
          exact mid73 _ _ hP9 hW9 e9
        · have c58 : p_is t k 4 = true := c58
          refine sv_aload_n dX3_parseStatement_61 rfl ?_
          refine sv_cvP _ (ct_parseSession hn hZ hD hok hW) okX3_parseSession kv_X3_431 (sx_rd_c (m_S_0 hn)) rfl dX3_parseStatement_62 rfl rfl (by decide) (Nat.le_of_ble_eq_true rfl) ?_
          intro v2 t2 hp2
          obtain ⟨rfl, M2, rfl, hP9, hW9⟩ := hp2
          have e9 : p_bind (p_bind (r_sx t S k) (p_sR t S)) (p_nd t) = p_bind (p_st t S k) (p_nd t) := by rw [st_ses c7 c24 c41 c58]; exact p_ses_nd.symm
          refine sv_goto (tgt := 73) dX3_parseStatement_65 (by decide) ?_
          exact mid73 _ _ hP9 hW9 e9
      · have c41 : p_is t k 3 = true := c41
        refine sv_aload_n dX3_parseStatement_44 rfl ?_
        refine sv_cvP _ (ct_parseMessage hn hZ hD hok hW) okX3_parseMessage kv_X3_428 (sx_rd_c (m_S_0 hn)) rfl dX3_parseStatement_45 rfl rfl (by decide) (Nat.le_of_ble_eq_true rfl) ?_
        intro v2 t2 hp2
        obtain ⟨rfl, M2, rfl, hP9, hW9⟩ := hp2
        have e9 : p_bind (p_mes t S k) (p_nd t) = p_bind (p_st t S k) (p_nd t) := by rw [st_mes c7 c24 c41]
        refine sv_goto (tgt := 73) dX3_parseStatement_48 (by decide) ?_
        exact mid73 _ _ hP9 hW9 e9
    · have c24 : p_is t k 2 = true := c24
      refine sv_aload_n dX3_parseStatement_27 rfl ?_
      refine sv_cvP _ (ct_parseBox hn hZ hD hok hW) okX3_parseBox kv_X3_425 (sx_rd_c (m_S_0 hn)) rfl dX3_parseStatement_28 rfl rfl (by decide) (Nat.le_of_ble_eq_true rfl) ?_
      intro v2 t2 hp2
      obtain ⟨rfl, M2, rfl, hP9, hW9⟩ := hp2
      have e9 : p_bind (p_bbx t S k) (p_nd t) = p_bind (p_st t S k) (p_nd t) := by rw [st_box c7 c24]
      refine sv_goto (tgt := 73) dX3_parseStatement_31 (by decide) ?_
      exact mid73 _ _ hP9 hW9 e9
  · have c7 : p_is t k 1 = true := c7
    refine sv_aload_n dX3_parseStatement_10 rfl ?_
    refine sv_cvP _ (ct_parseLimit hn hZ hD hok) okX3_parseLimit kv_X3_422 (sx_rd_c (m_S_0 hn)) rfl dX3_parseStatement_11 rfl rfl (by decide) (Nat.le_of_ble_eq_true rfl) ?_
    intro v2 t2 hp2
    obtain ⟨rfl, M2, rfl, hP9, hW9⟩ := hp2
    have e9 : p_bind (p_lim t S k) (p_nd t) = p_bind (p_st t S k) (p_nd t) := by rw [st_lim c7]
    refine sv_goto (tgt := 73) dX3_parseStatement_14 (by decide) ?_
    exact mid73 _ _ hP9 hW9 e9
end MPG
