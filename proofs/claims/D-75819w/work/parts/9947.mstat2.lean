set_option maxRecDepth 100000
section MPF
variable {G : sx_G} {h : Nat} {M M' : m_M} {σ : sx_St} {V : a_V} {A : a_A} {t : List Int32} {r : r_T} {S : p_S} {k : k_T}
def r_m1 (t : List Int32) (S : p_S) (k : k_T) : p_E ⊕ Nat := p_bind (p_bh t S.1 (p_nx t k)) (fun b => if nI (a_ms S.1 b).length < S.1.1 then .inr b else .inl (p_er 4 (p_nx t k)))
def r_m3 (t : List Int32) (S : p_S) (k : k_T) : r_T := p_bind (r_m1 t S k) (fun _ => .inr (p_nx t k))
def r_m6 (t : List Int32) (r : r_T) : r_T := p_bind r (fun k4 => if p_is t k4 5 = true then .inr (p_nx t k4) else .inl (p_er 1 k4))
theorem p_mes_r : p_mes t S k = p_bind (r_m1 t S k) (fun b => p_msg1 t S b (p_nx t (p_nx t k))) := by
  unfold p_mes r_m1
  cases hb : p_bh t S.1 (p_nx t k) with
  | inl e => rfl
  | inr b =>
    show (if nI (a_ms S.1 b).length < S.1.1 then _ else _) = p_bind (if nI (a_ms S.1 b).length < S.1.1 then _ else _) _
    by_cases h : nI (a_ms S.1 b).length < S.1.1
    · rw [if_pos h, if_pos h]; rfl
    · rw [if_neg h, if_neg h]; rfl
theorem mes_e : (∀ e, r_sn (r_fs t (r_nx t (r_n2 1 9999 (r_n1 (r_m6 t (r_nx t (r_m3 t S k))))))) = .inl e → p_mes t S k = .inl e) ∧ (∀ k8, r_sn (r_fs t (r_nx t (r_n2 1 9999 (r_n1 (r_m6 t (r_nx t (r_m3 t S k))))))) = .inr k8 → ∃ b fl, r_m1 t S k = .inr b ∧ r_fs t (r_nx t (r_n2 1 9999 (r_n1 (r_m6 t (r_nx t (r_m3 t S k)))))) = .inr (fl, k8) ∧ p_mes t S k = .inr ((v_co S.1 b (nI (r_nv (r_n2 1 9999 (r_n1 (r_m6 t (r_nx t (r_m3 t S k))))) 1)) fl, S.2), k8)) := by
  rw [p_mes_r]
  unfold r_m3
  cases r_m1 t S k with
  | inl e0 => exact ⟨fun e h => (by cases h; rfl), fun k8 h => by cases h⟩
  | inr b =>
    show (∀ e, r_sn (r_fs t (r_nx t (r_n2 1 9999 (r_n1 (if p_is t (p_nx t (p_nx t k)) 5 = true then (Sum.inr (p_nx t (p_nx t (p_nx t k))) : r_T) else .inl (p_er 1 (p_nx t (p_nx t k)))))))) = .inl e → p_msg1 t S b (p_nx t (p_nx t k)) = .inl e) ∧ (∀ k8, r_sn (r_fs t (r_nx t (r_n2 1 9999 (r_n1 (if p_is t (p_nx t (p_nx t k)) 5 = true then (Sum.inr (p_nx t (p_nx t (p_nx t k))) : r_T) else .inl (p_er 1 (p_nx t (p_nx t k)))))))) = .inr k8 → ∃ b' fl, (Sum.inr b : p_E ⊕ Nat) = .inr b' ∧ r_fs t (r_nx t (r_n2 1 9999 (r_n1 (if p_is t (p_nx t (p_nx t k)) 5 = true then (Sum.inr (p_nx t (p_nx t (p_nx t k))) : r_T) else .inl (p_er 1 (p_nx t (p_nx t k))))))) = .inr (fl, k8) ∧ p_msg1 t S b (p_nx t (p_nx t k)) = .inr ((v_co S.1 b' (nI (r_nv (r_n2 1 9999 (r_n1 (if p_is t (p_nx t (p_nx t k)) 5 = true then (Sum.inr (p_nx t (p_nx t (p_nx t k))) : r_T) else .inl (p_er 1 (p_nx t (p_nx t k)))))) 1)) fl, S.2), k8))
    unfold p_msg1
    by_cases h5 : p_is t (p_nx t (p_nx t k)) 5 = true
    · rw [if_pos h5, if_pos h5, r_num]
      generalize r_n2 1 9999 (r_n1 (.inr (p_nx t (p_nx t (p_nx t k))))) = X
      cases X with
      | inl e1 => exact ⟨fun e h => (by cases h; rfl), fun k8 h => by cases h⟩
      | inr k5 =>
        show (∀ e, r_sn (p_fls t 701 0 (p_nx t k5)) = .inl e → p_bind (p_fls t 701 0 (p_nx t k5)) _ = _) ∧ (∀ k8, r_sn (p_fls t 701 0 (p_nx t k5)) = .inr k8 → ∃ b' fl, (Sum.inr b : p_E ⊕ Nat) = .inr b' ∧ p_fls t 701 0 (p_nx t k5) = .inr (fl, k8) ∧ p_bind (p_fls t 701 0 (p_nx t k5)) _ = _)
        cases p_fls t 701 0 (p_nx t k5) with
        | inl e2 => exact ⟨fun e h => (by cases h; rfl), fun k8 h => by cases h⟩
        | inr y => exact ⟨fun e h => (by cases h), fun k8 h => by cases h; exact ⟨b, y.1, rfl, rfl, rfl⟩⟩
    · rw [if_neg h5, if_neg h5]
      exact ⟨fun e h => (by cases h; rfl), fun k8 h => by cases h⟩
theorem p_tot_c {b : Nat} {sz fl : Int32} (hb : b < V.2.1.length) : p_tot (v_co V b sz fl) = p_tot V + 1 := by
  have hm : ∀ c, (a_ms (v_co V b sz fl) c).length = (a_ms V c).length + (if c = b then 1 else 0) := by
    intro c
    unfold a_ms v_co
    by_cases hc : c = b
    · subst hc
      rw [a_ub_b _ hb, if_pos rfl]
      show (a_ms V c ++ [_]).length = _
      rw [List.length_append]; rfl
    · rw [a_ub_c _ hc, if_neg hc]; rfl
  have key : ∀ n, a_all (v_co V b sz fl) n = a_all V n + (if b < n then 1 else 0) := by
    intro n
    induction n with
    | zero => rw [if_neg (Nat.not_lt_zero _)]; rfl
    | succ n ih =>
      show a_all (v_co V b sz fl) n + (a_ms (v_co V b sz fl) n).length = a_all V n + (a_ms V n).length + _
      rw [ih, hm]
      by_cases h1 : n = b
      · rw [if_pos h1, if_neg (by omega), if_pos (by omega)]; omega
      · rw [if_neg h1]
        by_cases h2 : b < n
        · rw [if_pos h2, if_pos (by omega)]; omega
        · rw [if_neg h2, if_neg (by omega)]; omega
  unfold p_tot
  have : (v_co V b sz fl).2.1.length = V.2.1.length := by unfold v_co; rw [a_ub_n]
  rw [this, key, if_pos hb]
theorem D_msg {b : Nat} {sz fl : Int32} (hw : w_Vb S.1) (hb : b < S.1.2.1.length) (hl : (a_ms S.1 b).length < 30) (hD : m_D S M) : m_D (v_co S.1 b sz fl, S.2) (m_i (m_cm M b (a_ms S.1 b).length sz fl) 17 (nI (p_tot S.1 + 1))) := by
  obtain ⟨h1, h2, h3, h4, h5, h6, h7, h8⟩ := hD
  have hw1 := hw.1
  have hw2 := hw.2.1
  obtain ⟨q1, q2, q3, q4, q5, q6⟩ := m_cm_r (M := M) (b := b) (n := (a_ms S.1 b).length) (sz := sz) (fl := fl) (by omega) hl
  have hlb : (v_co S.1 b sz fl).2.1.length = S.1.2.1.length := by unfold v_co; rw [a_ub_n]
  refine ⟨h1, ⟨?_, ?_, ?_, fun c hc => ?_⟩, fun s hs => ?_, fun s hs j g1 g2 => ?_, fun c hc g1 j g2 => ?_, h6, by rw [p_tot_c hb]; rfl, h8⟩
  · rw [m_w_i, q6 _ (by omega) (by omega) (by omega)]; exact h2.1
  · rw [m_w_i, q6 _ (by omega) (by omega) (by omega), hlb]; exact h2.2.1
  · rw [m_w_i, q6 _ (by omega) (by omega) (by omega)]; exact h2.2.2.1
  · rw [hlb] at hc
    rw [m_w_i]
    by_cases hcb : c = b
    · subst hcb
      unfold v_co
      rw [a_ub_b _ hb]
      exact e_B_cm (B := a_b S.1 c) (by omega) hl (h2.2.2.2 c hb)
    · have e : a_b (v_co S.1 b sz fl) c = a_b S.1 c := by unfold v_co; rw [a_ub_c _ hcb]
      rw [e]
      exact e_B_fr (hw.2.2 c hc) (fun i g1 g2 => q6 i (by omega) (by omega) (by omega)) (h2.2.2.2 c hc)
  · rw [m_w_i, q6 _ (by omega) (by omega) (by omega)]; exact h3 s hs
  · rw [m_w_i, q6 _ (by omega) (by omega) (by omega)]; exact h4 s hs j g1 g2
  · have hc : (v_co S.1 b sz fl).2.1.length ≤ c := hc
    rw [hlb] at hc
    rw [m_w_i, q6 _ (by omega) (by omega) (by omega)]
    exact h5 c hc g1 j g2
theorem m_O_17 {v : Int32} : (m_O h M).set 17 (.int v) = m_O h (m_i M 17 v) := rfl
theorem m_cm_1 {b n : Nat} {sz fl : Int32} : (m_cm M b n sz fl).1 = M.1 := by
  unfold m_cm
  rfl
theorem m_V_cm {b n : Nat} {sz fl : Int32} (hr : M.2.1 = true) (h : m_V M M') : m_V M (m_cm M' b n sz fl) := m_V_u hr (m_V_u hr (m_V_u hr (m_V_u hr (m_V_u hr h))))
theorem r_m1_b {b : Nat} (h : r_m1 t S k = .inr b) : b < S.1.2.1.length ∧ nI (a_ms S.1 b).length < S.1.1 ∧ r_bv t S.1 (.inr (p_nx t k)) = some b := by
  unfold r_m1 at h
  obtain ⟨b', g1, g2⟩ := p_bind_r h
  by_cases h1 : nI (a_ms S.1 b').length < S.1.1
  · rw [if_pos h1] at g2
    cases g2
    refine ⟨(p_bh_ok g1).2.2, h1, ?_⟩
    show (match p_bh t S.1 (p_nx t k) with | .inr b => some b | .inl _ => none) = some b
    rw [g1]
  · rw [if_neg h1] at g2; cases g2
theorem r_bh_s {k2 : k_T} {k1 : k_T} (h : r_bh t V (.inr k1) = .inr k2) : k2 = k1 ∧ ∃ b, p_bh t V k1 = .inr b ∧ r_bv t V (.inr k1) = some b ∧ b < V.2.1.length := by
  have h : p_bind (p_bh t V k1) (fun _ => (Sum.inr k1 : r_T)) = .inr k2 := h
  obtain ⟨b, g1, g2⟩ := p_bind_r h
  have g3 : k1 = k2 := Sum.inr.inj g2
  subst g3
  refine ⟨rfl, b, g1, ?_, (p_bh_ok g1).2.2⟩
  show (match p_bh t V k1 with | .inr b => some b | .inl _ => none) = some b
  rw [g1]
theorem r_bh_f {e : p_E} {k1 : k_T} (h : r_bh t V (.inr k1) = .inl e) : p_bh t V k1 = .inl e := by
  have h : p_bind (p_bh t V k1) (fun _ => (Sum.inr k1 : r_T)) = .inl e := h
  cases hp : p_bh t V k1 with
  | inl e' => rw [hp] at h; cases h; rfl
  | inr b => rw [hp] at h; cases h
theorem rfl_m6t {r3 : r_T} (e3 : r3 = r_m3 t S k) (c : r_is t (r_nx t r3) 5 = true) : (if r_is t (r_nx t r3) 5 = true then r_nx t (r_nx t r3) else r_nx t r3) = r_m6 t (r_nx t (r_m3 t S k)) := by
  rw [if_pos c]
  subst e3
  obtain ⟨k4, e4⟩ := r_is_k c
  rw [e4] at c ⊢
  show _ = (if p_is t k4 5 = true then (Sum.inr (p_nx t k4) : r_T) else .inl (p_er 1 k4))
  rw [if_pos (show p_is t k4 5 = true from c)]
  rfl
theorem rfl_m6f {r3 : r_T} (e3 : r3 = r_m3 t S k) (c : r_is t (r_nx t r3) 5 = false) : r_er (if r_is t (r_nx t r3) 5 = true then r_nx t (r_nx t r3) else r_nx t r3) 1 = r_m6 t (r_nx t (r_m3 t S k)) := by
  rw [if_neg (bf_n c)]
  subst e3
  cases e4 : r_nx t (r_m3 t S k) with
  | inl e => rfl
  | inr k4 =>
    rw [e4] at c
    show _ = (if p_is t k4 5 = true then (Sum.inr (p_nx t k4) : r_T) else .inl (p_er 1 k4))
    rw [if_neg (show ¬ p_is t k4 5 = true from bf_n c)]
    rfl
theorem ct_parseMessage (hn : h + 11 < sx_n σ) {k : k_T} (hZ : m_Q t k 0 M) (hD : m_D S M) (hok : p_ok S) (hW : g_S G) : sx_Cp G 10 YX3_parseMessage [.ref h] (m_S G h M σ) (fun v τ => v = none ∧ ∃ M2, τ = m_S G h M2 σ ∧ m_P M M2 ∧ m_W t (p_mes t S k) M2) := by
  have mid53 : ∀ r6 M6 ob, m_Y M M6 → m_Z t r6 M6 → m_D S M6 → ob = r_bv t S.1 (.inr (p_nx t k)) → r6 = r_m6 t (r_nx t (r_m3 t S k)) → sx_V G 10 YX3_parseMessage 53 [some (.ref h), some (.int (o_I ob)), none, none, none] [] (m_S G h M6 σ) (fun o τ => ∃ v, o = .inl v ∧ v = none ∧ ∃ M2, τ = m_S G h M2 σ ∧ m_P M M2 ∧ m_W t (p_mes t S k) M2) := by
    have hw := p_OV_w hok.1
    have hw1 := hw.1
    have hw2 := hw.2.1
    intro r6 M6 ob hY6 hZ6 hD6 eo e6
    have hpt := p_tot_90 hok.1
    refine sv_aload_n dX3_parseMessage_53 rfl ?_
    refine sv_iconst (nI 1) dX3_parseMessage_54 (by decide +kernel) ?_
    refine sv_sipush (nI 9999) dX3_parseMessage_55 (by decide +kernel) ?_
    refine sv_cvP _ (ct_number (lo := 1) (hi := 9999) hn hZ6 (by decide) (by decide)) okX3_number kv_X3_396 (sx_rd_c (m_S_0 hn)) rfl dX3_parseMessage_58 rfl rfl (by decide) (Nat.le_of_ble_eq_true rfl) ?_
    intro v7 t7 hp7
    obtain ⟨rfl, M7, rfl, hY7, hZ7⟩ := hp7
    rw [e6] at hZ7 ⊢
    have hme := mes_e (t := t) (S := S) (k := k)
    generalize r_n2 1 9999 (r_n1 (r_m6 t (r_nx t (r_m3 t S k)))) = X at hZ7 hme ⊢
    refine sv_istore_n dX3_parseMessage_61 (by decide) ?_
    refine sv_aload_n dX3_parseMessage_62 rfl ?_
    refine sv_cvP _ (ct_parseFlags hn hZ7 hW) okX3_parseFlags kv_X3_416 (sx_rd_c (m_S_0 hn)) rfl dX3_parseMessage_63 rfl rfl (by decide) (Nat.le_of_ble_eq_true rfl) ?_
    intro v8 t8 hp8
    obtain ⟨fl, rfl, M8, rfl, hY8, hZ8, hfl⟩ := hp8
    have hY18 := m_Y_t hY6 (m_Y_t hY7 hY8)
    have hD8 := m_D_Y (m_D_Y hD6 hY7) hY8
    refine sv_istore_n dX3_parseMessage_66 (by decide) ?_
    refine sv_aload_n dX3_parseMessage_67 rfl ?_
    refine sv_cvR _ (ct_gd hn hZ8) okX3_good kv_X3_279 (sx_rd_c (m_S_0 hn)) rfl dX3_parseMessage_68 rfl rfl (by decide) (Nat.le_of_ble_eq_true rfl) ?_
    refine sv_if_neB (tgt := 75) dX3_parseMessage_71 (by decide) (fun c71 => ?_) (fun c71 => ?_)
    · obtain ⟨k8, ek⟩ := r_g_t c71
      obtain ⟨b, fl2, hb1, hy, hpm⟩ := hme.2 k8 ek
      have hbb := r_m1_b hb1
      have hb := hbb.1
      obtain rfl := hfl _ hy
      have hl30 : (a_ms S.1 b).length < 30 := by
       have h9 : (a_ms S.1 b).length ≤ 30 := hw.2.2 b hb
       have h8 := hbb.2.1
       rw [Int32.lt_iff_toInt_lt, nI_toInt (by omega)] at h8
       have := hok.1.1.2
       omega
      refine sv_aload_n dX3_parseMessage_75 rfl ?_
      refine sv_iload_n dX3_parseMessage_76 rfl ?_
      refine sv_topI (y := nI b) (by rw [eo, hbb.2.2]; rfl) ?_
      refine sv_iload_n dX3_parseMessage_77 rfl ?_
      refine sv_iload_n dX3_parseMessage_78 rfl ?_
      refine sv_cvR _ (ct_comes (b := b) (n := (a_ms S.1 b).length) hn (by omega) hl30 (hD8.2.1.2.2.2 b hb).2.1) okX3_comes kv_X3_247 (sx_rd_c (m_S_0 hn)) rfl dX3_parseMessage_79 rfl rfl (by decide) (Nat.le_of_ble_eq_true rfl) ?_
      have hV9 := m_V_cm (b := b) (n := (a_ms S.1 b).length) (sz := nI (r_nv X 1)) (fl := fl) hD8.1 (m_V_r (M := M8))
      have hD9 := D_msg (sz := nI (r_nv X 1)) (fl := fl) hw hb hl30 hD8
      have h17 : (m_cm M8 b (a_ms S.1 b).length (nI (r_nv X 1)) fl).1 17 = nI (p_tot S.1) := by rw [m_cm_1]; exact hD8.2.2.2.2.2.2.1
      generalize m_cm M8 b (a_ms S.1 b).length (nI (r_nv X 1)) fl = Mc at hV9 hD9 h17 ⊢
      refine sv_istore dX3_parseMessage_82 (by decide) ?_
      refine sv_aload_n dX3_parseMessage_84 rfl ?_
      refine sv_dup dX3_parseMessage_85 rfl ?_
      refine sm_get hn fg_X3_389 dX3_parseMessage_86 rfl ?_
      refine sv_topI (y := nI (p_tot S.1)) h17 ?_
      refine sv_iconst (nI 1) dX3_parseMessage_89 (by decide +kernel) ?_
      refine sv_iaddN dX3_parseMessage_90 ?_
      generalize nI (p_tot S.1 + 1) = nv at hD9 ⊢
      refine sm_put hn fp_X3_389 dX3_parseMessage_91 m_O_17 (by decide) ?_
      refine sv_vret rfl dX3_parseMessage_94 ?_
      exact ⟨_, rfl, rfl, _, rfl, m_P_t (m_P_Y hY18) (m_P_V (m_V_i (Or.inr rfl) hV9)), by rw [hpm]; rw [ek] at hZ8; exact ⟨m_Q_V hZ8 (m_V_i (Or.inr rfl) hV9), hD9⟩⟩
    · obtain ⟨e, ek⟩ := r_g_f c71
      have hW9 : m_W t (p_mes t S k) M8 := by rw [hme.1 e ek]; rw [ek] at hZ8; exact hZ8
      refine sv_vret rfl dX3_parseMessage_74 ?_
      exact ⟨_, rfl, rfl, _, rfl, m_P_Y hY18, hW9⟩
  have mid34 : ∀ r3 M3 ob, m_Y M M3 → m_Z t r3 M3 → m_D S M3 → ob = r_bv t S.1 (.inr (p_nx t k)) → r3 = r_m3 t S k → sx_V G 10 YX3_parseMessage 34 [some (.ref h), some (.int (o_I ob)), none, none, none] [] (m_S G h M3 σ) (fun o τ => ∃ v, o = .inl v ∧ v = none ∧ ∃ M2, τ = m_S G h M2 σ ∧ m_P M M2 ∧ m_W t (p_mes t S k) M2) := by
    have hw := p_OV_w hok.1
    have hw1 := hw.1
    have hw2 := hw.2.1
    intro r3 M3 ob hY3 hZ3 hD3 eo e3
    refine sv_aload_n dX3_parseMessage_34 rfl ?_
    refine sv_cvP _ (ct_goOn hn hZ3) okX3_goOn kv_X3_340 (sx_rd_c (m_S_0 hn)) rfl dX3_parseMessage_35 rfl rfl (by decide) (Nat.le_of_ble_eq_true rfl) ?_
    intro v4 t4 hp4
    obtain ⟨rfl, M4, rfl, hY4, hZ4⟩ := hp4
    refine sv_aload_n dX3_parseMessage_38 rfl ?_
    refine sv_ldcSw 20 rfl dX3_parseMessage_39 ?_
    refine sv_cvP _ (ct_takesWord (i := 5) (j := 20) hn hZ4 hW (by decide) (by decide) rfl) okX3_takesWord kv_X3_413 (sx_rd_c (m_S_0 hn)) rfl dX3_parseMessage_42 rfl rfl (by decide) (Nat.le_of_ble_eq_true rfl) ?_
    intro v5 t5 hp5
    obtain ⟨rfl, M5, rfl, hY5, hZ5⟩ := hp5
    have hY15 := m_Y_t hY3 (m_Y_t hY4 hY5)
    have hD5 := m_D_Y (m_D_Y hD3 hY4) hY5
    refine sv_if_neB (tgt := 53) dX3_parseMessage_45 (by decide) (fun c45 => ?_) (fun c45 => ?_)
    · have hY9 := hY15
      have hZ9 := hZ5
      have hD9 := hD5
      have eo9 := eo
      have e9 := rfl_m6t (S := S) (k := k) e3 c45
      exact mid53 _ _ _ hY9 hZ9 hD9 eo9 e9
    · refine sv_aload_n dX3_parseMessage_48 rfl ?_
      refine sv_iconst (nI 1) dX3_parseMessage_49 (by decide +kernel) ?_
      refine sv_cvP _ (ct_er (c := 1) hn hZ5 (by decide) (by decide)) okX3_errs kv_X3_337 (sx_rd_c (m_S_0 hn)) rfl dX3_parseMessage_50 rfl rfl (by decide) (Nat.le_of_ble_eq_true rfl) ?_
      intro v6 t6 hp6
      obtain ⟨rfl, M6, rfl, hY6, hZ6⟩ := hp6
      have hY9 := m_Y_t hY15 hY6
      have hD9 := m_D_Y hD5 hY6
      have eo9 := eo
      have e9 := rfl_m6f (S := S) (k := k) e3 c45
      have hZ9 := hZ6
      exact mid53 _ _ _ hY9 hZ9 hD9 eo9 e9
  refine sx_body (by decide) (Nat.le_of_ble_eq_true rfl) ?_
  have hw := p_OV_w hok.1
  have hw1 := hw.1
  have hw2 := hw.2.1
  have hZ0 : m_Z t (.inr k) M := hZ
  refine sv_aload_n dX3_parseMessage_0 rfl ?_
  refine sv_cvP _ (ct_goOn hn hZ0) okX3_goOn kv_X3_340 (sx_rd_c (m_S_0 hn)) rfl dX3_parseMessage_1 rfl rfl (by decide) (Nat.le_of_ble_eq_true rfl) ?_
  intro v1 t1 hp1
  obtain ⟨rfl, M1, rfl, hY1, hZ1⟩ := hp1
  have hD1 := m_D_Y hD hY1
  refine sv_aload_n dX3_parseMessage_4 rfl ?_
  refine sv_cvP _ (ct_boxHere (V := S.1) hn hZ1 hW hD1.2.1 hw (fun b hb => (hok.1.2.2.2.1 b hb).1)) okX3_boxHere kv_X3_410 (sx_rd_c (m_S_0 hn)) rfl dX3_parseMessage_5 rfl rfl (by decide) (Nat.le_of_ble_eq_true rfl) ?_
  intro v2 t2 hp2
  obtain ⟨rfl, M2, rfl, hY2, hZ2⟩ := hp2
  have hY12 := m_Y_t hY1 hY2
  have hD2 := m_D_Y hD1 hY2
  have hZ2 : m_Z t (r_bh t S.1 (.inr (p_nx t k))) M2 := hZ2
  refine sv_istore_n dX3_parseMessage_8 (by decide) ?_
  refine sv_aload_n dX3_parseMessage_9 rfl ?_
  refine sv_cvR _ (ct_gd hn hZ2) okX3_good kv_X3_279 (sx_rd_c (m_S_0 hn)) rfl dX3_parseMessage_10 rfl rfl (by decide) (Nat.le_of_ble_eq_true rfl) ?_
  refine sv_if_eqB (tgt := 34) dX3_parseMessage_13 (by decide) (fun c13 => ?_) (fun c13 => ?_)
  · obtain ⟨e, ek⟩ := r_g_f c13
    have hY9 := hY12
    have hZ9 := hZ2
    have hD9 := hD2
    have eo9 : r_bv t S.1 (.inr (p_nx t k)) = r_bv t S.1 (.inr (p_nx t k)) := rfl
    have e9 : r_bh t S.1 (.inr (p_nx t k)) = r_m3 t S k := by unfold r_m3 r_m1; rw [ek, r_bh_f ek]; rfl
    exact mid34 _ _ _ hY9 hZ9 hD9 eo9 e9
  · obtain ⟨k2, ek⟩ := r_g_t c13
    obtain ⟨hk2, b, hb⟩ := r_bh_s ek
    refine sv_aload_n dX3_parseMessage_16 rfl ?_
    refine sv_iload_n dX3_parseMessage_17 rfl ?_
    refine sv_topI (y := nI b) (show o_I (r_bv t S.1 (.inr (p_nx t k))) = nI b by rw [hb.2.1]; rfl) ?_
    refine sv_cvR _ (ct_manyIn (V := S.1) (b := b) hn hD2.2.1 hw hb.2.2) okX3_manyIn kv_X3_100 (sx_rd_c (m_S_0 hn)) rfl dX3_parseMessage_18 rfl rfl (by decide) (Nat.le_of_ble_eq_true rfl) ?_
    refine sv_aload_n dX3_parseMessage_21 rfl ?_
    refine sv_iconst (nI 0) dX3_parseMessage_22 (by decide +kernel) ?_
    refine sv_cvR _ (ct_get hn (by decide)) okX3_get kv_X3_62 (sx_rd_c (m_S_0 hn)) rfl dX3_parseMessage_23 rfl rfl (by decide) (Nat.le_of_ble_eq_true rfl) ?_
    refine sv_topI (y := S.1.1) hD2.2.1.1 ?_
    refine sv_icmp_lt (tgt := 34) dX3_parseMessage_26 (by decide) (fun c26 => ?_) (fun c26 => ?_)
    · have hY9 := hY12
      have hZ9 := hZ2
      have hD9 := hD2
      have eo9 : r_bv t S.1 (.inr (p_nx t k)) = r_bv t S.1 (.inr (p_nx t k)) := rfl
      have e9 : r_bh t S.1 (.inr (p_nx t k)) = r_m3 t S k := by unfold r_m3 r_m1; rw [ek, hb.1]; show _ = p_bind (if nI (a_ms S.1 b).length < S.1.1 then (Sum.inr b : p_E ⊕ Nat) else .inl (p_er 4 (p_nx t k))) _; rw [if_pos c26, hk2]; rfl
      exact mid34 _ _ _ hY9 hZ9 hD9 eo9 e9
    · refine sv_aload_n dX3_parseMessage_29 rfl ?_
      refine sv_iconst (nI 4) dX3_parseMessage_30 (by decide +kernel) ?_
      refine sv_cvP _ (ct_er (c := 4) hn hZ2 (by decide) (by decide)) okX3_errs kv_X3_337 (sx_rd_c (m_S_0 hn)) rfl dX3_parseMessage_31 rfl rfl (by decide) (Nat.le_of_ble_eq_true rfl) ?_
      intro v3 t3 hp3
      obtain ⟨rfl, M3, rfl, hY3, hZ3⟩ := hp3
      have hY9 := m_Y_t hY12 hY3
      have hZ9 := hZ3
      have hD9 := m_D_Y hD2 hY3
      have eo9 : r_bv t S.1 (.inr (p_nx t k)) = r_bv t S.1 (.inr (p_nx t k)) := rfl
      have e9 : r_er (r_bh t S.1 (.inr (p_nx t k))) 4 = r_m3 t S k := by unfold r_m3 r_m1; rw [ek, hb.1]; show _ = p_bind (if nI (a_ms S.1 b).length < S.1.1 then (Sum.inr b : p_E ⊕ Nat) else .inl (p_er 4 (p_nx t k))) _; rw [if_neg c26, hk2]; rfl
      exact mid34 _ _ _ hY9 hZ9 hD9 eo9 e9
end MPF
