set_option maxRecDepth 100000
section MRF
variable {G : sx_G} {h : Nat} {M : m_M} {σ : sx_St} {V : a_V} {A : a_A} {r r' : Nat → Int64}
theorem m_a_a (t : Nat) (f g : Nat → Int64) : m_a (m_a M t f) t g = m_a M t g := by
  unfold m_a
  simp only [Prod.mk.injEq, true_and, and_true]
  funext j
  by_cases hj : j = t <;> simp [hj]
theorem m_a_0 (t : Nat) (f : Nat → Int64) : (m_a M t f).2.2.1 t = f := by simp [m_a]
theorem m_w_a (hb : M.2.1 = false) (f : Nat → Int64) : m_w (m_a M 0 f) = f := by
  unfold m_w m_a
  simp [hb]
theorem m_n_a (f : Nat → Int64) (i : Nat) (x : Int64) : m_n (m_a M 0 f) i x = m_a M 0 (vp_updL f i x) := by
  unfold m_n
  rw [m_a_0, m_a_a]
theorem m_n_e (i : Nat) (x : Int64) : m_n M i x = m_a M 0 (vp_updL (M.2.2.1 0) i x) := rfl
/-- the row with an entry less -/
def r_dr (r : Nat → Int64) (s i n : Nat) : Nat → Int64 := fun j => if 282 + 131 * s + 11 + 2 * i ≤ j ∧ j < 282 + 131 * s + 11 + 2 * (n - 1) then vp_updL r (282 + 131 * s + 4) (r (282 + 131 * s + 4) - 1) (j + 2) else vp_updL r (282 + 131 * s + 4) (r (282 + 131 * s + 4) - 1) j
theorem ct_dropEntry (hn : h + 11 < sx_n σ) (hb0 : M.2.1 = false) {s i n : Nat} (hs : s < 4) (hi : i < n) (hn6 : n ≤ 60) (h4 : (M.2.2.1 0 (282 + 131 * s + 4)).toInt32 = nI n) : sx_Cr G 2 YX3_dropEntry [.ref h, .int (nI s), .int (nI (i + 1))] (m_S G h M σ) none (m_S G h (m_a M 0 (r_dr (M.2.2.1 0) s i n)) σ) := by
  have loop : ∀ q k f, 282 + 131 * s + 11 + 2 * i ≤ k → k ≤ 282 + 131 * s + 11 + 2 * (n - 1) → 282 + 131 * s + 11 + 2 * (n - 1) + 1 ≤ k + q → (∀ j, f j = if 282 + 131 * s + 11 + 2 * i ≤ j ∧ j < k then vp_updL (M.2.2.1 0) (282 + 131 * s + 4) (M.2.2.1 0 (282 + 131 * s + 4) - 1) (j + 2) else vp_updL (M.2.2.1 0) (282 + 131 * s + 4) (M.2.2.1 0 (282 + 131 * s + 4) - 1) j) → sx_V G 2 YX3_dropEntry 21 [some (.ref h), some (.int (nI s)), some (.int (nI (i + 1))), some (.int (nI k))] [] (m_S G h (m_a M 0 f) σ) (fun o τ => ∃ v, o = .inl v ∧ v = none ∧ τ = m_S G h (m_a M 0 (r_dr (M.2.2.1 0) s i n)) σ) := by
    intro q
    induction q with
    | zero => intro k f g1 g2 g3 g4; exact absurd g3 (by omega)
    | succ q ih =>
    intro k f g1 g2 g3 g4
    refine sv_iload_n dX3_dropEntry_21 rfl ?_
    refine sv_iload_n dX3_dropEntry_22 rfl ?_
    refine sv_aload_n dX3_dropEntry_23 rfl ?_
    refine sv_iload_n dX3_dropEntry_24 rfl ?_
    refine sv_cvR _ (ct_entriesR hn hs) okX3_entries kv_X3_97 (sx_rd_c (m_S_0 hn)) rfl dX3_dropEntry_25 rfl rfl (by decide) (Nat.le_of_ble_eq_true rfl) ?_
    refine sv_topI (y := nI (n - 1)) (by rw [m_w_a hb0, g4, if_neg (by omega), uL_s, i64_sub, h4]; exact (show nI n - 1 = nI (n - 1) from by rw [show n = n - 1 + 1 by omega]; exact nI_pred _)) ?_
    refine sv_iconst (nI 1) dX3_dropEntry_28 (by decide +kernel) ?_
    refine sv_iaddN dX3_dropEntry_29 ?_
    rw [show n - 1 + 1 = n - 1 + 1 from rfl]
    refine sv_csR _ (ct_entryAt (s := s) (k := n - 1)) okX3_entryAt ks_X3_90 dX3_dropEntry_30 rfl rfl (by decide) (Nat.le_of_ble_eq_true rfl) ?_
    refine sv_icmp_geN (tgt := 56) dX3_dropEntry_33 (by decide) (by omega) (by omega) (fun c33 => ?_) (fun c33 => ?_)
    · have hk : k = 282 + 131 * s + 11 + 2 * (n - 1) := by omega
      subst hk
      have hf : f = r_dr (M.2.2.1 0) s i n := funext g4
      subst hf
      refine sv_vret rfl dX3_dropEntry_56 ?_
      exact ⟨_, rfl, rfl, rfl⟩
    · refine sv_aload_n dX3_dropEntry_36 rfl ?_
      refine sm_get hn fg_X3_17 dX3_dropEntry_37 rfl ?_
      refine sv_iload_n dX3_dropEntry_40 rfl ?_
      refine sv_aload_n dX3_dropEntry_41 rfl ?_
      refine sm_get hn fg_X3_17 dX3_dropEntry_42 rfl ?_
      refine sv_iload_n dX3_dropEntry_45 rfl ?_
      refine sv_iconst (nI 2) dX3_dropEntry_46 (by decide +kernel) ?_
      refine sv_iaddN dX3_dropEntry_47 ?_
      refine sm_nld hn dX3_dropEntry_48 (by omega) ?_
      refine sv_topL (y := f (k + 2)) (by rw [m_a_0]) ?_
      refine sm_nst hn dX3_dropEntry_49 (by omega) ?_
      rw [m_n_a]
      refine sv_iincN dX3_dropEntry_50 rfl (by decide) ?_
      refine sv_goto (tgt := 21) dX3_dropEntry_53 (by decide) ?_
      refine ih (k + 1) _ (by omega) (by omega) (by omega) (fun j => ?_)
      by_cases hj : j = k
      · subst hj
        rw [uL_s, if_pos (by omega), g4, if_neg (by omega)]
      · rw [uL_n hj, g4]
        by_cases hj2 : 282 + 131 * s + 11 + 2 * i ≤ j ∧ j < k
        · rw [if_pos hj2, if_pos (by omega)]
        · rw [if_neg hj2, if_neg (by omega)]
  refine sx_body (by decide) (Nat.le_of_ble_eq_true rfl) ?_
  refine sv_aload_n dX3_dropEntry_0 rfl ?_
  refine sm_get hn fg_X3_17 dX3_dropEntry_1 rfl ?_
  refine sv_iload_n dX3_dropEntry_4 rfl ?_
  refine sv_csR _ ct_sessionAt okX3_sessionAt ks_X3_84 dX3_dropEntry_5 rfl rfl (by decide) (Nat.le_of_ble_eq_true rfl) ?_
  refine sv_iconst (nI 4) dX3_dropEntry_8 (by decide +kernel) ?_
  refine sv_iaddN dX3_dropEntry_9 ?_
  refine sv_dup2 dX3_dropEntry_10 rfl rfl ?_
  refine sm_nld hn dX3_dropEntry_11 (by omega) ?_
  refine sv_lconst 1 dX3_dropEntry_12 (by decide) ?_
  refine sv_lsub dX3_dropEntry_13 ?_
  refine sm_nst hn dX3_dropEntry_14 (by omega) ?_
  rw [m_n_e]
  refine sv_iload_n dX3_dropEntry_15 rfl ?_
  refine sv_iload_n dX3_dropEntry_16 rfl ?_
  refine sv_csR _ (ct_entryAt (s := s) (k := i)) okX3_entryAt ks_X3_90 dX3_dropEntry_17 rfl rfl (by decide) (Nat.le_of_ble_eq_true rfl) ?_
  refine sv_istore_n dX3_dropEntry_20 (by decide) ?_
  exact loop 130 (282 + 131 * s + 11 + 2 * i) _ (by omega) (by omega) (by omega) (fun j => by rw [if_neg (by omega)])
theorem r_dr_o {s i n j : Nat} (h1 : j < 282 + 131 * s + 11 + 2 * i ∨ 282 + 131 * s + 11 + 2 * (n - 1) ≤ j) (h2 : j ≠ 282 + 131 * s + 4) : r_dr r s i n j = r j := by
  show (if _ then _ else _) = _
  rw [if_neg (by omega), uL_n h2]
theorem r_dr_4 {s i n : Nat} : r_dr r s i n (282 + 131 * s + 4) = r (282 + 131 * s + 4) - 1 := by
  show (if _ then _ else _) = _
  rw [if_neg (by omega), uL_s]
theorem r_dr_i {s i n j : Nat} (h1 : 282 + 131 * s + 11 + 2 * i ≤ j) (h2 : j < 282 + 131 * s + 11 + 2 * (n - 1)) : r_dr r s i n j = r (j + 2) := by
  show (if _ then _ else _) = _
  rw [if_pos ⟨h1, h2⟩, uL_n (by omega)]
theorem e_V_dr {s i : Nat} (hw : w_V V) (hs : s < V.2.2.length) (hi : i < (a_es V s).length) (h : e_V r V) : e_V (r_dr r s i (a_es V s).length) (v_dr V s i) := by
  have hl := hw.2.1 s hs
  obtain ⟨h1, h2, h3, h4, h5, h6, h7⟩ := h.2.1 s hs
  have hle : ((a_es V s).eraseIdx i).length = (a_es V s).length - 1 := List.length_eraseIdx_of_lt hi
  refine e_V_s hw hs h (fun j hj => by rw [r_dr_o (by omega) (by omega)]) ⟨by rw [r_dr_o (by omega) (by omega)]; exact h1, by rw [r_dr_o (by omega) (by omega)]; exact h2, by rw [r_dr_o (by omega) (by omega)]; exact h3, by rw [r_dr_o (by omega) (by omega)]; exact h4, ?_, fun j hj => by rw [r_dr_o (by omega) (by omega)]; exact h6 j hj, fun j hj => ?_⟩ ?_
  · rw [r_dr_4, i64_sub, h5]
    show _ = nI ((a_es V s).eraseIdx i).length
    rw [hle]
    show nI (a_es V s).length - 1 = _
    conv => lhs; rw [show (a_es V s).length = (a_es V s).length - 1 + 1 by omega]
    exact nI_pred _
  · have hj : j < ((a_es V s).eraseIdx i).length := hj
    show _ = (((a_es V s).eraseIdx i).getD j (0, 0)).1 ∧ _ = (((a_es V s).eraseIdx i).getD j (0, 0)).2
    rw [hle] at hj
    rw [gd_er]
    by_cases hji : j < i
    · rw [if_pos hji, r_dr_o (by omega) (by omega), r_dr_o (by omega) (by omega)]
      exact h7 j (Nat.lt_trans hji hi)
    · rw [if_neg hji, r_dr_i (by omega) (by omega), r_dr_i (by omega) (by omega)]
      have := h7 (j + 1) (by show j + 1 < (a_es V s).length; omega)
      rw [show 282 + 131 * s + 11 + 2 * j + 2 = 282 + 131 * s + 11 + 2 * (j + 1) by omega, show 282 + 131 * s + 12 + 2 * j + 2 = 282 + 131 * s + 12 + 2 * (j + 1) by omega]
      exact this
  · intro b hb m hm
    rw [r_dr_o (by omega) (by omega), a_us_ls hs]
    rw [a_us_bx hs] at hb
    exact h.2.2 s hs b hb m hm
theorem w_V_dr {s i : Nat} (hw : w_V V) (hs : s < V.2.2.length) : w_V (v_dr V s i) := by
  refine w_V_s hw (Nat.le_trans (List.length_eraseIdx_le _ _) (hw.2.1 s hs)) (fun b hb => hw.2.2.1 s b hs hb) (fun hb => ?_)
  show (a_es V s).eraseIdx i = []
  rw [hw.2.2.2 s hs hb]
  rfl
theorem m_J_a {V' : a_V} {f : Nat → Int64} (hJ : m_J M A) (he : e_V f V') (hw : w_V V') : m_J (m_a M 0 f) (A_sv A V') := by
  have := m_J_v (M' := m_a M 0 f) (ns := A_n A) (V' := V') hJ rfl (fun k _ => rfl) (fun t ht => by simp [m_a, ht]) (fun t _ _ => rfl) (by rw [m_a_0]; exact he) hw hJ.2.2.2.2.2.1
  exact this
theorem v_ac_es {s k t : Nat} {x : Int32} (hs : s < V.2.2.length) : a_es (v_ac V s k x) t = a_es V t := by
  unfold a_es v_ac
  by_cases h : t = s
  · subst h; rw [a_us_s _ hs]; rfl
  · rw [a_us_t _ h]
theorem v_ac_bx {s k t : Nat} {x : Int32} (hs : s < V.2.2.length) : a_bx (v_ac V s k x) t = a_bx V t := by
  unfold a_bx v_ac
  by_cases h : t = s
  · subst h; rw [a_us_s _ hs]; rfl
  · rw [a_us_t _ h]
theorem v_ac_n {s k : Nat} {x : Int32} : (v_ac V s k x).2.2.length = V.2.2.length := a_us_n _ _ _
theorem v_dr_n {s k : Nat} : (v_dr V s k).2.2.length = V.2.2.length := a_us_n _ _ _
theorem v_dr_bx {s k t : Nat} (hs : s < V.2.2.length) : a_bx (v_dr V s k) t = a_bx V t := by
  unfold a_bx v_dr
  by_cases h : t = s
  · subst h; rw [a_us_s _ hs]; rfl
  · rw [a_us_t _ h]
theorem v_dr_es {s k : Nat} (hs : s < V.2.2.length) : a_es (v_dr V s k) s = (a_es V s).eraseIdx k := a_us_es hs
theorem ct_tellGone (hn : h + 11 < sx_n σ) (hJ : m_J M A) {s b : Nat} (hs : s < (A_v A).2.2.length) (hbx : a_bx (A_v A) s = some b) (hl : (A_n A).length + 60 ≤ 1000) : sx_Cp G 6 YX3_tellGone [.ref h, .int (nI s)] (m_S G h M σ) (fun v τ => v = none ∧ ∃ M2, τ = m_S G h M2 σ ∧ m_J M2 (s_tg 61 A s 0)) := by
  have loop : ∀ q k M A, m_J M A → s < (A_v A).2.2.length → a_bx (A_v A) s = some b → k ≤ (a_es (A_v A) s).length → (a_es (A_v A) s).length + 1 ≤ k + q → (A_n A).length + ((a_es (A_v A) s).length - k) ≤ 1000 → sx_V G 6 YX3_tellGone 2 [some (.ref h), some (.int (nI s)), some (.int (nI (k + 1)))] [] (m_S G h M σ) (fun o τ => ∃ v, o = .inl v ∧ v = none ∧ ∃ M2, τ = m_S G h M2 σ ∧ m_J M2 (s_tg q A s k)) := by
    intro q
    induction q with
    | zero => intro k M A hJ hs hbx g1 g2 g3; exact absurd g2 (by omega)
    | succ q ih =>
    intro k M A hJ hs hbx g1 g2 g3
    have hes := hJ.2.2.1.2.1 s hs
    have hs4 := hJ.2.2.1.1.2.1
    refine sv_iload_n dX3_tellGone_2 rfl ?_
    refine sv_aload_n dX3_tellGone_3 rfl ?_
    refine sv_iload_n dX3_tellGone_4 rfl ?_
    refine sv_cvR _ (ct_entries hn (m_J_e hJ) hJ.2.2.1 hs) okX3_entries kv_X3_97 (sx_rd_c (m_S_0 hn)) rfl dX3_tellGone_5 rfl rfl (by decide) (Nat.le_of_ble_eq_true rfl) ?_
    refine sv_icmp_gtN (tgt := 43) dX3_tellGone_8 (by decide) (by omega) (by omega) (fun c8 => ?_) (fun c8 => ?_)
    · have hsp : s_tg (q + 1) A s k = A := by show (if _ then _ else A) = A; rw [if_neg (by omega)]
      rw [hsp]
      refine sv_vret rfl dX3_tellGone_43 ?_
      exact ⟨_, rfl, rfl, M, rfl, hJ⟩
    · refine sv_aload_n dX3_tellGone_11 rfl ?_
      refine sv_iload_n dX3_tellGone_12 rfl ?_
      refine sv_iload_n dX3_tellGone_13 rfl ?_
      refine sv_cvR _ (ct_isGone hn (m_J_e hJ) hJ.2.2.1 hs hbx (by omega)) okX3_isGone kv_X3_116 (sx_rd_c (m_S_0 hn)) rfl dX3_tellGone_14 rfl rfl (by decide) (Nat.le_of_ble_eq_true rfl) ?_
      refine sv_if_neB (tgt := 26) dX3_tellGone_17 (by decide) (fun c17 => ?_) (fun c17 => ?_)
      · have hsp : s_tg (q + 1) A s k = s_tg q (A_sv (s_no A s 0 (nI (k + 1)) 0) (v_dr (A_v (s_no A s 0 (nI (k + 1)) 0)) s k)) s k := by show (if _ then _ else A) = _; rw [if_pos (by omega), if_pos c17]
        rw [hsp]
        refine sv_aload_n dX3_tellGone_26 rfl ?_
        refine sv_iload_n dX3_tellGone_27 rfl ?_
        refine sv_iconst (nI 0) dX3_tellGone_28 (by decide +kernel) ?_
        refine sv_iload_n dX3_tellGone_29 rfl ?_
        refine sv_iconst (nI 0) dX3_tellGone_30 (by decide +kernel) ?_
        refine sv_topI (y := 0) nI_0 ?_
        refine sv_cvR _ (ct_notes (k := 0) hn hJ hs (by omega) (by omega)) okX3_notes kv_X3_141 (sx_rd_c (m_S_0 hn)) rfl dX3_tellGone_31 rfl rfl (by decide) (Nat.le_of_ble_eq_true rfl) ?_
        have hJ2 := m_J_nt (k := 0) (n := nI (k + 1)) (f := 0) hJ hs (by omega) (by omega)
        have hes2 : a_es (A_v (s_no A s 0 (nI (k + 1)) 0)) s = a_es (A_v A) s := v_ac_es hs
        have hs2 : s < (A_v (s_no A s 0 (nI (k + 1)) 0)).2.2.length := Nat.lt_of_lt_of_eq hs v_ac_n.symm
        have h4 := (hJ2.2.1.2.1 s hs2).2.2.2.2.1
        rw [show (a_s (A_v (s_no A s 0 (nI (k + 1)) 0)) s).2.2.2.2.2.2 = a_es (A_v A) s from hes2] at h4
        refine sv_aload_n dX3_tellGone_34 rfl ?_
        refine sv_iload_n dX3_tellGone_35 rfl ?_
        refine sv_iload_n dX3_tellGone_36 rfl ?_
        refine sv_cvR _ (ct_dropEntry (n := (a_es (A_v A) s).length) hn hJ2.1 (by omega) (by omega) (by omega) h4) okX3_dropEntry kv_X3_145 (sx_rd_c (m_S_0 hn)) rfl dX3_tellGone_37 rfl rfl (by decide) (Nat.le_of_ble_eq_true rfl) ?_
        have he3 := e_V_dr (i := k) hJ2.2.2.1 hs2 (by rw [hes2]; omega) hJ2.2.1
        rw [hes2] at he3
        have hJ3 := m_J_a hJ2 he3 (w_V_dr hJ2.2.2.1 hs2)
        have hes3 : (a_es (v_dr (A_v (s_no A s 0 (nI (k + 1)) 0)) s k) s).length = (a_es (A_v A) s).length - 1 := by rw [v_dr_es hs2, hes2, List.length_eraseIdx_of_lt (by omega)]
        have hbx3 : a_bx (v_dr (A_v (s_no A s 0 (nI (k + 1)) 0)) s k) s = some b := (v_dr_bx hs2).trans ((v_ac_bx hs).trans hbx)
        have hnl : (A_n (s_no A s 0 (nI (k + 1)) 0)).length = (A_n A).length + 1 := by show (_ ++ [_]).length = _; rw [List.length_append]; rfl
        refine sv_goto (tgt := 2) dX3_tellGone_40 (by decide) ?_
        first | exact ih (k + 1) M A hJ hs hbx (by omega) (by omega) (by omega) | exact ih k _ _ hJ3 (Nat.lt_of_lt_of_eq hs2 v_dr_n.symm) hbx3 (by show k ≤ (a_es (v_dr _ s k) s).length; omega) (by show (a_es (v_dr _ s k) s).length + 1 ≤ _; omega) (by show (A_n (s_no A s 0 (nI (k + 1)) 0)).length + ((a_es (v_dr _ s k) s).length - k) ≤ 1000; omega)
      · have hsp : s_tg (q + 1) A s k = s_tg q A s (k + 1) := by show (if _ then _ else A) = _; rw [if_pos (by omega), if_neg (by rw [c17]; decide)]
        rw [hsp]
        refine sv_iincN dX3_tellGone_20 rfl (by decide) ?_
        refine sv_goto (tgt := 2) dX3_tellGone_23 (by decide) ?_
        first | exact ih (k + 1) M A hJ hs hbx (by omega) (by omega) (by omega) | exact ih k _ _ hJ3 (Nat.lt_of_lt_of_eq hs2 v_dr_n.symm) hbx3 (by show k ≤ (a_es (v_dr _ s k) s).length; omega) (by show (a_es (v_dr _ s k) s).length + 1 ≤ _; omega) (by show (A_n (s_no A s 0 (nI (k + 1)) 0)).length + ((a_es (v_dr _ s k) s).length - k) ≤ 1000; omega)
  refine sx_body (by decide) (Nat.le_of_ble_eq_true rfl) ?_
  refine sv_iconst (nI 1) dX3_tellGone_0 (by decide +kernel) ?_
  refine sv_istore_n dX3_tellGone_1 (by decide) ?_
  exact loop 61 0 M A hJ hs hbx (by omega) (by have := hJ.2.2.1.2.1 s hs; omega) (by have := hJ.2.2.1.2.1 s hs; omega)
end MRF
