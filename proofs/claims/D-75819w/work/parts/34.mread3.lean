set_option maxRecDepth 100000
section MRC
variable {G : sx_G} {h : Nat} {M : m_M} {σ : sx_St} {V : a_V}
theorem a_some (hw : w_V V) {s j : Nat} (hs : s < V.2.2.length) (hj : j < (a_es V s).length) : ∃ b, a_bx V s = some b := by
  cases hb : a_bx V s with
  | some b => exact ⟨b, rfl⟩
  | none => rw [hw.2.2.2 s hs hb] at hj; exact absurd hj (Nat.not_lt_zero j)
theorem ct_goneMany (hn : h + 11 < sx_n σ) (hE : e_V (m_w M) V) (hw : w_V V) {s : Nat} (hs : s < V.2.2.length) : sx_Cr G 6 YX3_goneMany [.ref h, .int (nI s)] (m_S G h M σ) (some (.int (nI (a_gm V s (a_es V s).length)))) (m_S G h M σ) := by
  have loop : ∀ n j c, j ≤ (a_es V s).length → (a_es V s).length + 1 ≤ j + n → c = (List.range j).countP (a_go V s) → sx_V G 6 YX3_goneMany 4 [some (.ref h), some (.int (nI s)), some (.int (nI c)), some (.int (nI (j + 1)))] [] (m_S G h M σ) (fun o τ => ∃ v, o = .inl v ∧ v = (some (.int (nI (a_gm V s (a_es V s).length)))) ∧ τ = m_S G h M σ) := by
    intro n
    have hl := hw.2.1 s hs
    induction n with
    | zero => intro j c h1 h2 hc; exact absurd h2 (by omega)
    | succ n ih =>
    intro j c h1 h2 hc
    refine sv_iload_n dX3_goneMany_4 rfl ?_
    refine sv_aload_n dX3_goneMany_5 rfl ?_
    refine sv_iload_n dX3_goneMany_6 rfl ?_
    refine sv_cvR _ (ct_entries hn hE hw (by assumption)) okX3_entries kv_X3_97 (sx_rd_c (m_S_0 hn)) rfl dX3_goneMany_7 rfl rfl (by decide) (Nat.le_of_ble_eq_true rfl) ?_
    refine sv_icmp_gtN (tgt := 36) dX3_goneMany_10 (by decide) (by omega) (by omega) (fun c10 => ?_) (fun c10 => ?_)
    · refine sv_iload_n dX3_goneMany_36 rfl ?_
      refine sv_iret rfl rfl dX3_goneMany_37 ?_
      exact ⟨_, rfl, r_I (by rw [hc, show j = (a_es V s).length by omega]; rfl), rfl⟩
    · have hj : j < (a_es V s).length := by omega
      obtain ⟨b, hbx⟩ := a_some hw hs hj
      refine sv_iload_n dX3_goneMany_13 rfl ?_
      refine sv_aload_n dX3_goneMany_14 rfl ?_
      refine sv_iload_n dX3_goneMany_15 rfl ?_
      refine sv_iload_n dX3_goneMany_16 rfl ?_
      refine sv_cvR _ (ct_isGone hn hE hw (by assumption) (by assumption) (by assumption)) okX3_isGone kv_X3_116 (sx_rd_c (m_S_0 hn)) rfl dX3_goneMany_17 rfl rfl (by decide) (Nat.le_of_ble_eq_true rfl) ?_
      refine sv_if_eqB (tgt := 27) dX3_goneMany_20 (by decide) (fun c20 => ?_) (fun c20 => ?_)
      · refine sv_iconst (nI 0) dX3_goneMany_27 (by decide +kernel) ?_
        refine sv_iaddN dX3_goneMany_28 ?_
        refine sv_istore_n dX3_goneMany_29 (by decide) ?_
        refine sv_iincN dX3_goneMany_30 rfl (by decide) ?_
        refine sv_goto (tgt := 4) dX3_goneMany_33 (by decide) ?_
        exact ih (j + 1) _ (by omega) (by omega) (by rw [hc, countP_rs, c20]; rfl)
      · refine sv_iconst (nI 1) dX3_goneMany_23 (by decide +kernel) ?_
        refine sv_goto (tgt := 28) dX3_goneMany_24 (by decide) ?_
        refine sv_iaddN dX3_goneMany_28 ?_
        refine sv_istore_n dX3_goneMany_29 (by decide) ?_
        refine sv_iincN dX3_goneMany_30 rfl (by decide) ?_
        refine sv_goto (tgt := 4) dX3_goneMany_33 (by decide) ?_
        exact ih (j + 1) _ (by omega) (by omega) (by rw [hc, countP_rs, c20]; rfl)
  refine sx_body (by decide) (Nat.le_of_ble_eq_true rfl) ?_
  refine sv_iconst (nI 0) dX3_goneMany_0 (by decide +kernel) ?_
  refine sv_istore_n dX3_goneMany_1 (by decide) ?_
  refine sv_iconst (nI 1) dX3_goneMany_2 (by decide +kernel) ?_
  refine sv_istore_n dX3_goneMany_3 (by decide) ?_
  exact loop ((a_es V s).length + 1) 0 0 (by omega) (by omega) rfl
theorem ct_otherMany (hn : h + 11 < sx_n σ) (hE : e_V (m_w M) V) (hw : w_V V) {s : Nat} (hs : s < V.2.2.length) : sx_Cr G 7 YX3_otherMany [.ref h, .int (nI s)] (m_S G h M σ) (some (.int (nI (a_om V s)))) (m_S G h M σ) := by
  have loop : ∀ n j c, j ≤ (a_es V s).length → (a_es V s).length + 1 ≤ j + n → c = (List.range j).countP (a_ot V s) → sx_V G 7 YX3_otherMany 4 [some (.ref h), some (.int (nI s)), some (.int (nI c)), some (.int (nI (j + 1)))] [] (m_S G h M σ) (fun o τ => ∃ v, o = .inl v ∧ v = (some (.int (nI (a_om V s)))) ∧ τ = m_S G h M σ) := by
    intro n
    have hl := hw.2.1 s hs
    induction n with
    | zero => intro j c h1 h2 hc; exact absurd h2 (by omega)
    | succ n ih =>
    intro j c h1 h2 hc
    refine sv_iload_n dX3_otherMany_4 rfl ?_
    refine sv_aload_n dX3_otherMany_5 rfl ?_
    refine sv_iload_n dX3_otherMany_6 rfl ?_
    refine sv_cvR _ (ct_entries hn hE hw (by assumption)) okX3_entries kv_X3_97 (sx_rd_c (m_S_0 hn)) rfl dX3_otherMany_7 rfl rfl (by decide) (Nat.le_of_ble_eq_true rfl) ?_
    refine sv_icmp_gtN (tgt := 36) dX3_otherMany_10 (by decide) (by omega) (by omega) (fun c10 => ?_) (fun c10 => ?_)
    · refine sv_iload_n dX3_otherMany_36 rfl ?_
      refine sv_iret rfl rfl dX3_otherMany_37 ?_
      exact ⟨_, rfl, r_I (by rw [hc, show j = (a_es V s).length by omega]; rfl), rfl⟩
    · have hj : j < (a_es V s).length := by omega
      obtain ⟨b, hbx⟩ := a_some hw hs hj
      refine sv_iload_n dX3_otherMany_13 rfl ?_
      refine sv_aload_n dX3_otherMany_14 rfl ?_
      refine sv_iload_n dX3_otherMany_15 rfl ?_
      refine sv_iload_n dX3_otherMany_16 rfl ?_
      refine sv_cvR _ (ct_isOther hn hE hw (by assumption) (by assumption) (by assumption)) okX3_isOther kv_X3_123 (sx_rd_c (m_S_0 hn)) rfl dX3_otherMany_17 rfl rfl (by decide) (Nat.le_of_ble_eq_true rfl) ?_
      refine sv_if_eqB (tgt := 27) dX3_otherMany_20 (by decide) (fun c20 => ?_) (fun c20 => ?_)
      · refine sv_iconst (nI 0) dX3_otherMany_27 (by decide +kernel) ?_
        refine sv_iaddN dX3_otherMany_28 ?_
        refine sv_istore_n dX3_otherMany_29 (by decide) ?_
        refine sv_iincN dX3_otherMany_30 rfl (by decide) ?_
        refine sv_goto (tgt := 4) dX3_otherMany_33 (by decide) ?_
        exact ih (j + 1) _ (by omega) (by omega) (by rw [hc, countP_rs, c20]; rfl)
      · refine sv_iconst (nI 1) dX3_otherMany_23 (by decide +kernel) ?_
        refine sv_goto (tgt := 28) dX3_otherMany_24 (by decide) ?_
        refine sv_iaddN dX3_otherMany_28 ?_
        refine sv_istore_n dX3_otherMany_29 (by decide) ?_
        refine sv_iincN dX3_otherMany_30 rfl (by decide) ?_
        refine sv_goto (tgt := 4) dX3_otherMany_33 (by decide) ?_
        exact ih (j + 1) _ (by omega) (by omega) (by rw [hc, countP_rs, c20]; rfl)
  refine sx_body (by decide) (Nat.le_of_ble_eq_true rfl) ?_
  refine sv_iconst (nI 0) dX3_otherMany_0 (by decide +kernel) ?_
  refine sv_istore_n dX3_otherMany_1 (by decide) ?_
  refine sv_iconst (nI 1) dX3_otherMany_2 (by decide +kernel) ?_
  refine sv_istore_n dX3_otherMany_3 (by decide) ?_
  exact loop ((a_es V s).length + 1) 0 0 (by omega) (by omega) rfl
theorem map_gd (ms : List a_M) : (List.range ms.length).map (fun j => ms.getD j (0, 0, 0)) = ms := by
  apply List.ext_getElem
  · simp
  · intro i h1 h2
    simp [List.getD_eq_getElem?_getD, h2]
theorem countP_gd {ms : List a_M} (p : a_M → Bool) : ms.countP p = (List.range ms.length).countP (fun j => p (ms.getD j (0, 0, 0))) := by
  conv => lhs; rw [← map_gd ms]
  rw [List.countP_map]
  rfl
theorem gd_mem {ms : List a_M} {j : Nat} (h : j < ms.length) : ms.getD j (0, 0, 0) ∈ ms := by
  rw [List.getD_eq_getElem?_getD, List.getElem?_eq_getElem h]
  exact List.getElem_mem h
theorem ct_newMany (hn : h + 11 < sx_n σ) (hE : e_V (m_w M) V) (hw : w_V V) {s : Nat} (hs : s < V.2.2.length) : sx_Cr G 3 YX3_newMany [.ref h, .int (nI s)] (m_S G h M σ) (some (.int (nI (a_nm V s)))) (m_S G h M σ) := by
  have loop : ∀ n j c, (∀ b, a_bx V s = some b → j ≤ (a_ms V b).length ∧ (a_ms V b).length + 1 ≤ j + n ∧ c = (List.range j).countP (fun i => decide (a_ls V s < (a_m V b i).1))) → (a_bx V s = none → c = 0) → 0 < n → sx_V G 3 YX3_newMany 4 [some (.ref h), some (.int (nI s)), some (.int (nI c)), some (.int (nI j))] [] (m_S G h M σ) (fun o τ => ∃ v, o = .inl v ∧ v = (some (.int (nI (a_nm V s)))) ∧ τ = m_S G h M σ) := by
    intro n
    have hl := hw.1.2.1
    induction n with
    | zero => intro j c h1 h2 h3; exact absurd h3 (by omega)
    | succ n ih =>
    intro j c h1 h2 h3
    refine sv_aload_n dX3_newMany_4 rfl ?_
    refine sv_iload_n dX3_newMany_5 rfl ?_
    refine sv_cvR _ (ct_hasBox hn hE hw (by assumption)) okX3_hasBox kv_X3_126 (sx_rd_c (m_S_0 hn)) rfl dX3_newMany_6 rfl rfl (by decide) (Nat.le_of_ble_eq_true rfl) ?_
    refine sv_if_eqB (tgt := 63) dX3_newMany_9 (by decide) (fun c9 => ?_) (fun c9 => ?_)
    · have hz : a_bx V s = none := Option.not_isSome_iff_eq_none.mp (by rw [c9]; decide)
      have hfin : c = a_nm V s := by rw [h2 hz]; unfold a_nm; rw [hz]
      refine sv_iload_n dX3_newMany_63 rfl ?_
      refine sv_iret rfl rfl dX3_newMany_64 ?_
      exact ⟨_, rfl, r_I (by rw [hfin]), rfl⟩
    · obtain ⟨b, hbx⟩ := Option.isSome_iff_exists.mp c9
      obtain ⟨g1, g2, g3⟩ := h1 b hbx
      have hb := hw.2.2.1 s b hs hbx
      have hbl := hw.1.2.2 b hb
      refine sv_iload_n dX3_newMany_12 rfl ?_
      refine sv_aload_n dX3_newMany_13 rfl ?_
      refine sv_aload_n dX3_newMany_14 rfl ?_
      refine sv_iload_n dX3_newMany_15 rfl ?_
      refine sv_cvR _ (ct_boxOf hn hE hw (by assumption)) okX3_boxOf kv_X3_87 (sx_rd_c (m_S_0 hn)) rfl dX3_newMany_16 rfl rfl (by decide) (Nat.le_of_ble_eq_true rfl) ?_
      rw [hbx]
      refine sv_cvR _ (ct_manyIn hn hE.1 hw.1 (by assumption)) okX3_manyIn kv_X3_100 (sx_rd_c (m_S_0 hn)) rfl dX3_newMany_19 rfl rfl (by decide) (Nat.le_of_ble_eq_true rfl) ?_
      refine sv_icmp_geN (tgt := 63) dX3_newMany_22 (by decide) (by omega) (by omega) (fun c22 => ?_) (fun c22 => ?_)
      · have hfin : c = a_nm V s := by rw [g3, show j = (a_ms V b).length by omega]; unfold a_nm; rw [hbx]; exact (countP_gd (ms := a_ms V b) (fun m => decide (a_ls V s < m.1))).symm
        refine sv_iload_n dX3_newMany_63 rfl ?_
        refine sv_iret rfl rfl dX3_newMany_64 ?_
        exact ⟨_, rfl, r_I (by rw [hfin]), rfl⟩
      · have hj : j < (a_ms V b).length := by omega
        refine sv_iload_n dX3_newMany_25 rfl ?_
        refine sv_aload_n dX3_newMany_26 rfl ?_
        refine sv_aload_n dX3_newMany_27 rfl ?_
        refine sv_iload_n dX3_newMany_28 rfl ?_
        refine sv_cvR _ (ct_boxOf hn hE hw (by assumption)) okX3_boxOf kv_X3_87 (sx_rd_c (m_S_0 hn)) rfl dX3_newMany_29 rfl rfl (by decide) (Nat.le_of_ble_eq_true rfl) ?_
        rw [hbx]
        refine sv_iload_n dX3_newMany_32 rfl ?_
        refine sv_iconst (nI 0) dX3_newMany_33 (by decide +kernel) ?_
        refine sv_cvR _ (ct_uid hn hE.1 hw.1 (by assumption) (by assumption)) okX3_ofMessage kv_X3_103 (sx_rd_c (m_S_0 hn)) rfl dX3_newMany_34 rfl rfl (by decide) (Nat.le_of_ble_eq_true rfl) ?_
        refine sv_aload_n dX3_newMany_37 rfl ?_
        refine sv_iload_n dX3_newMany_38 rfl ?_
        refine sv_csR _ ct_sessionAt okX3_sessionAt ks_X3_84 dX3_newMany_39 rfl rfl (by decide) (Nat.le_of_ble_eq_true rfl) ?_
        refine sv_iconst (nI 5) dX3_newMany_42 (by decide +kernel) ?_
        refine sv_iaddN dX3_newMany_43 ?_
        refine sv_cvR _ (ct_get hn (by omega)) okX3_get kv_X3_62 (sx_rd_c (m_S_0 hn)) rfl dX3_newMany_44 rfl rfl (by decide) (Nat.le_of_ble_eq_true rfl) ?_
        have hLL := hE.2.2 s hs b hbx _ (Or.inl ⟨a_m V b j, gd_mem hj, rfl⟩)
        refine sv_icmp_le (tgt := 54) dX3_newMany_47 (by decide) (fun c47 => ?_) (fun c47 => ?_)
        · have hin : decide (a_ls V s < (a_m V b j).1) = false := decide_eq_false (fun z => absurd (hLL.mpr z) (Int32.not_lt.mpr c47))
          refine sv_iconst (nI 0) dX3_newMany_54 (by decide +kernel) ?_
          refine sv_iaddN dX3_newMany_55 ?_
          refine sv_istore_n dX3_newMany_56 (by decide) ?_
          refine sv_iincN dX3_newMany_57 rfl (by decide) ?_
          refine sv_goto (tgt := 4) dX3_newMany_60 (by decide) ?_
          refine ih (j + 1) _ (fun b2 hb2 => ?_) (fun z => by rw [hbx] at z; cases z) (by omega)
          cases hbx.symm.trans hb2
          exact ⟨by omega, by omega, by rw [g3, countP_rs, hin]; rfl⟩
        · have hin : decide (a_ls V s < (a_m V b j).1) = true := decide_eq_true (hLL.mp (Int32.not_le.mp c47))
          refine sv_iconst (nI 1) dX3_newMany_50 (by decide +kernel) ?_
          refine sv_goto (tgt := 55) dX3_newMany_51 (by decide) ?_
          refine sv_iaddN dX3_newMany_55 ?_
          refine sv_istore_n dX3_newMany_56 (by decide) ?_
          refine sv_iincN dX3_newMany_57 rfl (by decide) ?_
          refine sv_goto (tgt := 4) dX3_newMany_60 (by decide) ?_
          refine ih (j + 1) _ (fun b2 hb2 => ?_) (fun z => by rw [hbx] at z; cases z) (by omega)
          cases hbx.symm.trans hb2
          exact ⟨by omega, by omega, by rw [g3, countP_rs, hin]; rfl⟩
  refine sx_body (by decide) (Nat.le_of_ble_eq_true rfl) ?_
  refine sv_iconst (nI 0) dX3_newMany_0 (by decide +kernel) ?_
  refine sv_istore_n dX3_newMany_1 (by decide) ?_
  refine sv_iconst (nI 0) dX3_newMany_2 (by decide +kernel) ?_
  refine sv_istore_n dX3_newMany_3 (by decide) ?_
  refine loop 40 0 0 (fun b hbx => ?_) (fun _ => rfl) (by omega)
  have hb := hw.2.2.1 s b hs hbx
  have hbl := hw.1.2.2 b hb
  exact ⟨by omega, by omega, rfl⟩
theorem a_gm_le (V : a_V) (s n : Nat) : a_gm V s n ≤ n := countP_rl _ _
theorem a_om_le (V : a_V) (s : Nat) : a_om V s ≤ (a_es V s).length := countP_rl _ _
theorem a_nm_le (hw : w_V V) {s : Nat} (hs : s < V.2.2.length) : a_nm V s ≤ 30 := by
  unfold a_nm
  cases hb : a_bx V s with
  | none => exact Nat.zero_le _
  | some b => exact Nat.le_trans List.countP_le_length (hw.1.2.2 b (hw.2.2.1 s b hs hb))
theorem ct_pendingOf (hn : h + 11 < sx_n σ) (hE : e_V (m_w M) V) (hw : w_V V) {s : Nat} (hs : s < V.2.2.length) : sx_Cr G 8 YX3_pendingOf [.ref h, .int (nI s)] (m_S G h M σ) (some (.int (nI (a_pe V s)))) (m_S G h M σ) := by
  refine sx_body (by decide) (Nat.le_of_ble_eq_true rfl) ?_
  have hl := hw.2.1 s hs
  have g1 := a_gm_le V s (a_es V s).length
  have g2 := a_om_le V s
  have g3 := a_nm_le hw hs
  refine sv_aload_n dX3_pendingOf_0 rfl ?_
  refine sv_iload_n dX3_pendingOf_1 rfl ?_
  refine sv_cvR _ (ct_goneMany hn hE hw (by assumption)) okX3_goneMany kv_X3_129 (sx_rd_c (m_S_0 hn)) rfl dX3_pendingOf_2 rfl rfl (by decide) (Nat.le_of_ble_eq_true rfl) ?_
  refine sv_istore_n dX3_pendingOf_5 (by decide) ?_
  refine sv_iload_n dX3_pendingOf_6 rfl ?_
  refine sv_aload_n dX3_pendingOf_7 rfl ?_
  refine sv_iload_n dX3_pendingOf_8 rfl ?_
  refine sv_cvR _ (ct_otherMany hn hE hw (by assumption)) okX3_otherMany kv_X3_132 (sx_rd_c (m_S_0 hn)) rfl dX3_pendingOf_9 rfl rfl (by decide) (Nat.le_of_ble_eq_true rfl) ?_
  refine sv_iaddN dX3_pendingOf_12 ?_
  refine sv_aload_n dX3_pendingOf_13 rfl ?_
  refine sv_iload_n dX3_pendingOf_14 rfl ?_
  refine sv_cvR _ (ct_newMany hn hE hw (by assumption)) okX3_newMany kv_X3_135 (sx_rd_c (m_S_0 hn)) rfl dX3_pendingOf_15 rfl rfl (by decide) (Nat.le_of_ble_eq_true rfl) ?_
  refine sv_if_leN (tgt := 37) dX3_pendingOf_18 (by decide) (by omega) (fun c18 => ?_) (fun c18 => ?_)
  · have hp : a_pe V s = a_gm V s (a_es V s).length + a_om V s + 0 := by unfold a_pe; rw [if_neg (by omega)]
    refine sv_iconst (nI 0) dX3_pendingOf_37 (by decide +kernel) ?_
    refine sv_iaddN dX3_pendingOf_38 ?_
    refine sv_iret rfl rfl dX3_pendingOf_39 ?_
    exact ⟨_, rfl, r_I (by rw [hp]), rfl⟩
  · refine sv_aload_n dX3_pendingOf_21 rfl ?_
    refine sv_iload_n dX3_pendingOf_22 rfl ?_
    refine sv_cvR _ (ct_entries hn hE hw (by assumption)) okX3_entries kv_X3_97 (sx_rd_c (m_S_0 hn)) rfl dX3_pendingOf_23 rfl rfl (by decide) (Nat.le_of_ble_eq_true rfl) ?_
    refine sv_iload_n dX3_pendingOf_26 rfl ?_
    refine sv_isubN dX3_pendingOf_27 (by omega) ?_
    refine sv_bipush (nI 60) dX3_pendingOf_28 (by decide +kernel) ?_
    refine sv_icmp_geN (tgt := 37) dX3_pendingOf_30 (by decide) (by omega) (by omega) (fun c30 => ?_) (fun c30 => ?_)
    · have hp : a_pe V s = a_gm V s (a_es V s).length + a_om V s + 0 := by unfold a_pe; rw [if_neg (by omega)]
      refine sv_iconst (nI 0) dX3_pendingOf_37 (by decide +kernel) ?_
      refine sv_iaddN dX3_pendingOf_38 ?_
      refine sv_iret rfl rfl dX3_pendingOf_39 ?_
      exact ⟨_, rfl, r_I (by rw [hp]), rfl⟩
    · have hp : a_pe V s = a_gm V s (a_es V s).length + a_om V s + 1 := by unfold a_pe; rw [if_pos ⟨c18, by omega⟩]
      refine sv_iconst (nI 1) dX3_pendingOf_33 (by decide +kernel) ?_
      refine sv_goto (tgt := 38) dX3_pendingOf_34 (by decide) ?_
      refine sv_iaddN dX3_pendingOf_38 ?_
      refine sv_iret rfl rfl dX3_pendingOf_39 ?_
      exact ⟨_, rfl, r_I (by rw [hp]), rfl⟩
theorem ct_isUpToDate (hn : h + 11 < sx_n σ) (hE : e_V (m_w M) V) (hw : w_V V) {s : Nat} (hs : s < V.2.2.length) : sx_Cr G 9 YX3_isUpToDate [.ref h, .int (nI s)] (m_S G h M σ) (some (.int (b_I ((a_bx V s).isSome && decide (a_pe V s = 0))))) (m_S G h M σ) := by
  refine sx_body (by decide) (Nat.le_of_ble_eq_true rfl) ?_
  have hl := hw.2.1 s hs
  have g1 := a_gm_le V s (a_es V s).length
  have g2 := a_om_le V s
  have g3 : a_pe V s ≤ 121 := by unfold a_pe; split <;> omega
  refine sv_aload_n dX3_isUpToDate_0 rfl ?_
  refine sv_iload_n dX3_isUpToDate_1 rfl ?_
  refine sv_cvR _ (ct_hasBox hn hE hw (by assumption)) okX3_hasBox kv_X3_126 (sx_rd_c (m_S_0 hn)) rfl dX3_isUpToDate_2 rfl rfl (by decide) (Nat.le_of_ble_eq_true rfl) ?_
  refine sv_if_eqB (tgt := 20) dX3_isUpToDate_5 (by decide) (fun c5 => ?_) (fun c5 => ?_)
  · refine sv_iconst (nI 0) dX3_isUpToDate_20 (by decide +kernel) ?_
    refine sv_iret (by first | exact b_I_nar _ | rfl) rfl dX3_isUpToDate_21 ?_
    first | exact ⟨_, rfl, r_I (by rw [c5]; rfl), rfl⟩ | exact ⟨_, rfl, r_I (by rw [c5, decide_eq_true c13]; rfl), rfl⟩ | exact ⟨_, rfl, r_I (by rw [c5, decide_eq_false (by omega)]; rfl), rfl⟩
  · refine sv_aload_n dX3_isUpToDate_8 rfl ?_
    refine sv_iload_n dX3_isUpToDate_9 rfl ?_
    refine sv_cvR _ (ct_pendingOf hn hE hw (by assumption)) okX3_pendingOf kv_X3_505 (sx_rd_c (m_S_0 hn)) rfl dX3_isUpToDate_10 rfl rfl (by decide) (Nat.le_of_ble_eq_true rfl) ?_
    refine sv_if_neN (tgt := 20) dX3_isUpToDate_13 (by decide) (by omega) (fun c13 => ?_) (fun c13 => ?_)
    · refine sv_iconst (nI 0) dX3_isUpToDate_20 (by decide +kernel) ?_
      refine sv_iret (by first | exact b_I_nar _ | rfl) rfl dX3_isUpToDate_21 ?_
      first | exact ⟨_, rfl, r_I (by rw [c5]; rfl), rfl⟩ | exact ⟨_, rfl, r_I (by rw [c5, decide_eq_true c13]; rfl), rfl⟩ | exact ⟨_, rfl, r_I (by rw [c5, decide_eq_false (by omega)]; rfl), rfl⟩
    · refine sv_iconst (nI 1) dX3_isUpToDate_16 (by decide +kernel) ?_
      refine sv_goto (tgt := 21) dX3_isUpToDate_17 (by decide) ?_
      refine sv_iret (by first | exact b_I_nar _ | rfl) rfl dX3_isUpToDate_21 ?_
      first | exact ⟨_, rfl, r_I (by rw [c5]; rfl), rfl⟩ | exact ⟨_, rfl, r_I (by rw [c5, decide_eq_true c13]; rfl), rfl⟩ | exact ⟨_, rfl, r_I (by rw [c5, decide_eq_false (by omega)]; rfl), rfl⟩
def a_can (V : a_V) (s : Int32) : Bool := i_in s V.2.2.length && ((a_bx V s.toNatClampNeg).isSome && !(a_id V s.toNatClampNeg))
def a_chg (V : a_V) (s : Int32) : Bool := a_can V s && !(a_rd V s.toNatClampNeg)
theorem ct_canDo (hn : h + 11 < sx_n σ) (hE : e_V (m_w M) V) (hw : w_V V) {s : Int32} : sx_Cr G 3 YX3_canDo [.ref h, .int s] (m_S G h M σ) (some (.int (b_I (a_can V s)))) (m_S G h M σ) := by
  refine sx_body (by decide) (Nat.le_of_ble_eq_true rfl) ?_
  unfold a_can
  refine sv_aload_n dX3_canDo_0 rfl ?_
  refine sv_iload_n dX3_canDo_1 rfl ?_
  refine sv_cvR _ (ct_isSession hn hE.1 hw.1) okX3_isSession kv_X3_93 (sx_rd_c (m_S_0 hn)) rfl dX3_canDo_2 rfl rfl (by decide) (Nat.le_of_ble_eq_true rfl) ?_
  refine sv_if_eqB (tgt := 28) dX3_canDo_5 (by decide) (fun c5 => ?_) (fun c5 => ?_)
  · refine sv_iconst (nI 0) dX3_canDo_28 (by decide +kernel) ?_
    refine sv_iret (by first | exact b_I_nar _ | rfl) rfl dX3_canDo_29 ?_
    first | exact ⟨_, rfl, r_I (by rw [c5]; rfl), rfl⟩ | exact ⟨_, rfl, r_I (by rw [c5, c13]; rfl), rfl⟩ | exact ⟨_, rfl, r_I (by rw [c5, c13, c21]; rfl), rfl⟩
  · have hw2 := hw.1.2.1
    obtain ⟨j, hj, rfl⟩ := i_in_of (by omega) c5
    rw [nI_clamp (by omega)]
    refine sv_aload_n dX3_canDo_8 rfl ?_
    refine sv_iload_n dX3_canDo_9 rfl ?_
    refine sv_cvR _ (ct_hasBox hn hE hw (by assumption)) okX3_hasBox kv_X3_126 (sx_rd_c (m_S_0 hn)) rfl dX3_canDo_10 rfl rfl (by decide) (Nat.le_of_ble_eq_true rfl) ?_
    refine sv_if_eqB (tgt := 28) dX3_canDo_13 (by decide) (fun c13 => ?_) (fun c13 => ?_)
    · refine sv_iconst (nI 0) dX3_canDo_28 (by decide +kernel) ?_
      refine sv_iret (by first | exact b_I_nar _ | rfl) rfl dX3_canDo_29 ?_
      first | exact ⟨_, rfl, r_I (by rw [c5]; rfl), rfl⟩ | exact ⟨_, rfl, r_I (by rw [c5, c13]; rfl), rfl⟩ | exact ⟨_, rfl, r_I (by rw [c5, c13, c21]; rfl), rfl⟩
    · refine sv_aload_n dX3_canDo_16 rfl ?_
      refine sv_iload_n dX3_canDo_17 rfl ?_
      refine sv_cvR _ (ct_isIdle hn hE hw (by assumption)) okX3_isIdle kv_X3_162 (sx_rd_c (m_S_0 hn)) rfl dX3_canDo_18 rfl rfl (by decide) (Nat.le_of_ble_eq_true rfl) ?_
      refine sv_if_neB (tgt := 28) dX3_canDo_21 (by decide) (fun c21 => ?_) (fun c21 => ?_)
      · refine sv_iconst (nI 0) dX3_canDo_28 (by decide +kernel) ?_
        refine sv_iret (by first | exact b_I_nar _ | rfl) rfl dX3_canDo_29 ?_
        first | exact ⟨_, rfl, r_I (by rw [c5]; rfl), rfl⟩ | exact ⟨_, rfl, r_I (by rw [c5, c13]; rfl), rfl⟩ | exact ⟨_, rfl, r_I (by rw [c5, c13, c21]; rfl), rfl⟩
      · refine sv_iconst (nI 1) dX3_canDo_24 (by decide +kernel) ?_
        refine sv_goto (tgt := 29) dX3_canDo_25 (by decide) ?_
        refine sv_iret (by first | exact b_I_nar _ | rfl) rfl dX3_canDo_29 ?_
        first | exact ⟨_, rfl, r_I (by rw [c5]; rfl), rfl⟩ | exact ⟨_, rfl, r_I (by rw [c5, c13]; rfl), rfl⟩ | exact ⟨_, rfl, r_I (by rw [c5, c13, c21]; rfl), rfl⟩
theorem a_can_of (hw : w_V V) {s : Int32} (h : a_can V s = true) : ∃ j b, j < V.2.2.length ∧ s = nI j ∧ s.toNatClampNeg = j ∧ a_bx V j = some b ∧ b < V.2.1.length ∧ a_id V j = false := by
  unfold a_can at h
  have hw2 := hw.1.2.1
  simp only [Bool.and_eq_true, Bool.not_eq_true'] at h
  obtain ⟨j, hj, rfl⟩ := i_in_of (by omega) h.1
  rw [nI_clamp (by omega)] at h ⊢
  obtain ⟨b, hb⟩ := Option.isSome_iff_exists.mp h.2.1
  exact ⟨j, b, hj, rfl, rfl, hb, hw.2.2.1 j b hj hb, h.2.2⟩
theorem ct_canChange (hn : h + 11 < sx_n σ) (hE : e_V (m_w M) V) (hw : w_V V) {s : Int32} : sx_Cr G 4 YX3_canChange [.ref h, .int s] (m_S G h M σ) (some (.int (b_I (a_chg V s)))) (m_S G h M σ) := by
  refine sx_body (by decide) (Nat.le_of_ble_eq_true rfl) ?_
  unfold a_chg
  refine sv_aload_n dX3_canChange_0 rfl ?_
  refine sv_iload_n dX3_canChange_1 rfl ?_
  refine sv_cvR _ (ct_canDo hn hE hw) okX3_canDo kv_X3_169 (sx_rd_c (m_S_0 hn)) rfl dX3_canChange_2 rfl rfl (by decide) (Nat.le_of_ble_eq_true rfl) ?_
  refine sv_if_eqB (tgt := 20) dX3_canChange_5 (by decide) (fun c5 => ?_) (fun c5 => ?_)
  · have hf : (a_can V s && !(a_rd V s.toNatClampNeg)) = false := by rw [c5]; rfl
    refine sv_iconst (nI 0) dX3_canChange_20 (by decide +kernel) ?_
    refine sv_iret (by first | exact b_I_nar _ | rfl) rfl dX3_canChange_21 ?_
    exact ⟨_, rfl, r_I (by rw [hf]; rfl), rfl⟩
  · obtain ⟨j, b, hj, rfl, ej, hbx, hb, hid⟩ := a_can_of hw c5
    rw [ej]
    refine sv_aload_n dX3_canChange_8 rfl ?_
    refine sv_iload_n dX3_canChange_9 rfl ?_
    refine sv_cvR _ (ct_doesRead hn hE hw (by assumption)) okX3_doesRead kv_X3_172 (sx_rd_c (m_S_0 hn)) rfl dX3_canChange_10 rfl rfl (by decide) (Nat.le_of_ble_eq_true rfl) ?_
    refine sv_if_neB (tgt := 20) dX3_canChange_13 (by decide) (fun c13 => ?_) (fun c13 => ?_)
    · have hf : (a_can V (nI j) && !(a_rd V j)) = false := by rw [hbx] at c13; rw [show a_rd V j = true from c13, c5]; rfl
      refine sv_iconst (nI 0) dX3_canChange_20 (by decide +kernel) ?_
      refine sv_iret (by first | exact b_I_nar _ | rfl) rfl dX3_canChange_21 ?_
      exact ⟨_, rfl, r_I (by rw [hf]; rfl), rfl⟩
    · have hf : (a_can V (nI j) && !(a_rd V j)) = true := by rw [hbx] at c13; rw [show a_rd V j = false from c13, c5]; rfl
      refine sv_iconst (nI 1) dX3_canChange_16 (by decide +kernel) ?_
      refine sv_goto (tgt := 21) dX3_canChange_17 (by decide) ?_
      refine sv_iret (by first | exact b_I_nar _ | rfl) rfl dX3_canChange_21 ?_
      exact ⟨_, rfl, r_I (by rw [hf]; rfl), rfl⟩
theorem ct_areEntries (hn : h + 11 < sx_n σ) (hE : e_V (m_w M) V) (hw : w_V V) {s k l : Int32} : sx_Cr G 4 YX3_areEntries [.ref h, .int s, .int k, .int l] (m_S G h M σ) (some (.int (b_I (i_in s V.2.2.length && (i_en k (a_es V s.toNatClampNeg).length && i_en l (a_es V s.toNatClampNeg).length))))) (m_S G h M σ) := by
  refine sx_body (by decide) (Nat.le_of_ble_eq_true rfl) ?_
  refine sv_aload_n dX3_areEntries_0 rfl ?_
  refine sv_iload_n dX3_areEntries_1 rfl ?_
  refine sv_iload_n dX3_areEntries_2 rfl ?_
  refine sv_cvR _ (ct_isEntry hn hE hw) okX3_isEntry kv_X3_203 (sx_rd_c (m_S_0 hn)) rfl dX3_areEntries_3 rfl rfl (by decide) (Nat.le_of_ble_eq_true rfl) ?_
  refine sv_if_eqB (tgt := 22) dX3_areEntries_6 (by decide) (fun c6 => ?_) (fun c6 => ?_)
  · refine sv_iconst (nI 0) dX3_areEntries_22 (by decide +kernel) ?_
    refine sv_iret (by first | exact b_I_nar _ | rfl) rfl dX3_areEntries_23 ?_
    first | exact ⟨_, rfl, r_I (by rw [← Bool.and_assoc, c6]; rfl), rfl⟩ | exact ⟨_, rfl, r_I (by rw [Bool.and_eq_true] at c6; rw [c6.1, Bool.true_and] at c15; rw [c6.1, c6.2, c15]; rfl), rfl⟩
  · refine sv_aload_n dX3_areEntries_9 rfl ?_
    refine sv_iload_n dX3_areEntries_10 rfl ?_
    refine sv_iload_n dX3_areEntries_11 rfl ?_
    refine sv_cvR _ (ct_isEntry hn hE hw) okX3_isEntry kv_X3_203 (sx_rd_c (m_S_0 hn)) rfl dX3_areEntries_12 rfl rfl (by decide) (Nat.le_of_ble_eq_true rfl) ?_
    refine sv_if_eqB (tgt := 22) dX3_areEntries_15 (by decide) (fun c15 => ?_) (fun c15 => ?_)
    · refine sv_iconst (nI 0) dX3_areEntries_22 (by decide +kernel) ?_
      refine sv_iret (by first | exact b_I_nar _ | rfl) rfl dX3_areEntries_23 ?_
      first | exact ⟨_, rfl, r_I (by rw [← Bool.and_assoc, c6]; rfl), rfl⟩ | exact ⟨_, rfl, r_I (by rw [Bool.and_eq_true] at c6; rw [c6.1, Bool.true_and] at c15; rw [c6.1, c6.2, c15]; rfl), rfl⟩
    · refine sv_iconst (nI 1) dX3_areEntries_18 (by decide +kernel) ?_
      refine sv_goto (tgt := 23) dX3_areEntries_19 (by decide) ?_
      refine sv_iret (by first | exact b_I_nar _ | rfl) rfl dX3_areEntries_23 ?_
      first | exact ⟨_, rfl, r_I (by rw [← Bool.and_assoc, c6]; rfl), rfl⟩ | exact ⟨_, rfl, r_I (by rw [Bool.and_eq_true] at c6; rw [c6.1, Bool.true_and] at c15; rw [c6.1, c6.2, c15]; rfl), rfl⟩
end MRC
