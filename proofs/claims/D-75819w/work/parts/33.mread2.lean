set_option maxRecDepth 100000
section MRB
variable {G : sx_G} {h : Nat} {M : m_M} {σ : sx_St} {V : a_V}
theorem find_step {ms : List a_M} {u : Int32} {m : Nat} (hm : m < ms.length) (hne : ∀ j, j < m → (ms.getD j (0, 0, 0)).1 ≠ u) (he : (ms.getD m (0, 0, 0)).1 = u) : a_find ms u = some m := by
  unfold a_find
  rw [List.findIdx?_eq_some_iff_getElem]
  refine ⟨hm, ?_, ?_⟩
  · have : ms.getD m (0, 0, 0) = ms[m] := by simp [List.getD_eq_getElem?_getD, hm]
    rw [this] at he
    simp [he]
  · intro j hj
    have h1 := hne j hj
    have : ms.getD j (0, 0, 0) = ms[j] := by simp [List.getD_eq_getElem?_getD, show j < ms.length by omega]
    rw [this] at h1
    simp [h1]
theorem find_none {ms : List a_M} {u : Int32} (hne : ∀ j, j < ms.length → (ms.getD j (0, 0, 0)).1 ≠ u) : a_find ms u = none := by
  unfold a_find
  rw [List.findIdx?_eq_none_iff]
  intro m hm
  obtain ⟨j, hj, rfl⟩ := List.mem_iff_getElem.mp hm
  have h1 := hne j hj
  have : ms.getD j (0, 0, 0) = ms[j] := by simp [List.getD_eq_getElem?_getD, hj]
  rw [this] at h1
  simp [h1]
theorem ct_withUid (hn : h + 11 < sx_n σ) (hE : e_Vb (m_w M) V) (hw : w_Vb V) {b : Nat} (hb : b < V.2.1.length) {u : Int32} : sx_Cr G 3 YX3_withUid [.ref h, .int (nI b), .int u] (m_S G h M σ) (some (.int (o_I (a_find (a_ms V b) u)))) (m_S G h M σ) := by
  have loop : ∀ n m, m ≤ (a_ms V b).length → (a_ms V b).length + 1 ≤ m + n → (∀ j, j < m → (a_m V b j).1 ≠ u) → sx_V G 3 YX3_withUid 2 [some (.ref h), some (.int (nI b)), some (.int u), some (.int (nI m))] [] (m_S G h M σ) (fun o τ => ∃ v, o = .inl v ∧ v = some (.int (o_I (a_find (a_ms V b) u))) ∧ τ = m_S G h M σ) := by
    intro n
    have hl := hw.2.2 b hb
    induction n with
    | zero => intro m h1 h2 h3; exact absurd h2 (by omega)
    | succ n ih =>
    intro m h1 h2 h3
    refine sv_iload_n dX3_withUid_2 rfl ?_
    refine sv_aload_n dX3_withUid_3 rfl ?_
    refine sv_iload_n dX3_withUid_4 rfl ?_
    refine sv_cvR _ (ct_manyIn hn hE hw hb) okX3_manyIn kv_X3_100 (sx_rd_c (m_S_0 hn)) rfl dX3_withUid_5 rfl rfl (by decide) (Nat.le_of_ble_eq_true rfl) ?_
    refine sv_icmp_geN (tgt := 30) dX3_withUid_8 (by decide) (by omega) (by omega) (fun c8 => ?_) (fun c8 => ?_)
    · refine sv_iconst (-1) dX3_withUid_30 (by decide +kernel) ?_
      refine sv_iret rfl rfl dX3_withUid_31 ?_
      exact ⟨_, rfl, r_I (by rw [find_none (fun j hj => h3 j (by omega))]; rfl), rfl⟩
    · refine sv_aload_n dX3_withUid_11 rfl ?_
      refine sv_iload_n dX3_withUid_12 rfl ?_
      refine sv_iload_n dX3_withUid_13 rfl ?_
      refine sv_iconst (nI 0) dX3_withUid_14 (by decide +kernel) ?_
      refine sv_cvR _ (ct_uid hn hE hw hb (by omega)) okX3_ofMessage kv_X3_103 (sx_rd_c (m_S_0 hn)) rfl dX3_withUid_15 rfl rfl (by decide) (Nat.le_of_ble_eq_true rfl) ?_
      refine sv_iload_n dX3_withUid_18 rfl ?_
      refine sv_icmp_ne (tgt := 24) dX3_withUid_19 (by decide) (fun c19 => ?_) (fun c19 => ?_)
      · refine sv_iincN dX3_withUid_24 rfl (by decide) ?_
        refine sv_goto (tgt := 2) dX3_withUid_27 (by decide) ?_
        exact ih (m + 1) (by omega) (by omega) (fun j hj => by rcases Nat.lt_succ_iff_lt_or_eq.mp hj with q | q; exact h3 j q; rw [q]; exact c19)
      · refine sv_iload_n dX3_withUid_22 rfl ?_
        refine sv_iret rfl rfl dX3_withUid_23 ?_
        exact ⟨_, rfl, r_I (by rw [find_step (by omega) h3 c19]; rfl), rfl⟩
  refine sx_body (by decide) (Nat.le_of_ble_eq_true rfl) ?_
  refine sv_iconst (nI 0) dX3_withUid_0 (by decide +kernel) ?_
  refine sv_istore_n dX3_withUid_1 (by decide) ?_
  exact loop ((a_ms V b).length + 1) 0 (by omega) (by omega) (fun j hj => absurd hj (Nat.not_lt_zero j))
theorem ct_messageOf (hn : h + 11 < sx_n σ) (hE : e_V (m_w M) V) (hw : w_V V) {s : Nat} (hs : s < V.2.2.length) {b : Nat} (hbx : a_bx V s = some b) {k : Nat} (hk : k < (a_es V s).length) : sx_Cr G 4 YX3_messageOf [.ref h, .int (nI s), .int (nI (k + 1))] (m_S G h M σ) (some (.int (o_I (a_mo V s k)))) (m_S G h M σ) := by
  refine sx_body (by decide) (Nat.le_of_ble_eq_true rfl) ?_
  have hb := hw.2.2.1 s b hs hbx
  refine sv_aload_n dX3_messageOf_0 rfl ?_
  refine sv_aload_n dX3_messageOf_1 rfl ?_
  refine sv_iload_n dX3_messageOf_2 rfl ?_
  refine sv_cvR _ (ct_boxOf hn hE hw (by assumption)) okX3_boxOf kv_X3_87 (sx_rd_c (m_S_0 hn)) rfl dX3_messageOf_3 rfl rfl (by decide) (Nat.le_of_ble_eq_true rfl) ?_
  rw [hbx]
  refine sv_aload_n dX3_messageOf_6 rfl ?_
  refine sv_iload_n dX3_messageOf_7 rfl ?_
  refine sv_iload_n dX3_messageOf_8 rfl ?_
  refine sv_iconst (nI 0) dX3_messageOf_9 (by decide +kernel) ?_
  refine sv_cvR _ (ct_euid hn hE hw (by assumption) (by assumption)) okX3_ofEntry kv_X3_107 (sx_rd_c (m_S_0 hn)) rfl dX3_messageOf_10 rfl rfl (by decide) (Nat.le_of_ble_eq_true rfl) ?_
  refine sv_cvR _ (ct_withUid hn hE.1 hw.1 (by assumption)) okX3_withUid kv_X3_110 (sx_rd_c (m_S_0 hn)) rfl dX3_messageOf_13 rfl rfl (by decide) (Nat.le_of_ble_eq_true rfl) ?_
  refine sv_iret rfl rfl dX3_messageOf_16 ?_
  exact ⟨_, rfl, r_I (by unfold a_mo; rw [hbx]), rfl⟩
theorem a_mo_lt (hw : w_V V) {s k : Nat} (hs : s < V.2.2.length) : ∀ m, a_mo V s k = some m → m < 2 ^ 31 := by
  intro m hm
  unfold a_mo at hm
  cases hb : a_bx V s with
  | none => rw [hb] at hm; cases hm
  | some b =>
    rw [hb] at hm
    have h1 := a_find_lt hm
    have h2 := hw.1.2.2 b (hw.2.2.1 s b hs hb)
    omega
theorem ct_isGone (hn : h + 11 < sx_n σ) (hE : e_V (m_w M) V) (hw : w_V V) {s : Nat} (hs : s < V.2.2.length) {b : Nat} (hbx : a_bx V s = some b) {k : Nat} (hk : k < (a_es V s).length) : sx_Cr G 5 YX3_isGone [.ref h, .int (nI s), .int (nI (k + 1))] (m_S G h M σ) (some (.int (b_I (a_go V s k)))) (m_S G h M σ) := by
  refine sx_body (by decide) (Nat.le_of_ble_eq_true rfl) ?_
  refine sv_aload_n dX3_isGone_0 rfl ?_
  refine sv_iload_n dX3_isGone_1 rfl ?_
  refine sv_iload_n dX3_isGone_2 rfl ?_
  refine sv_cvR _ (ct_messageOf hn hE hw (by assumption) (by assumption) (by assumption)) okX3_messageOf kv_X3_113 (sx_rd_c (m_S_0 hn)) rfl dX3_isGone_3 rfl rfl (by decide) (Nat.le_of_ble_eq_true rfl) ?_
  refine sv_iconst (-1) dX3_isGone_6 (by decide +kernel) ?_
  refine sv_icmp_ne (tgt := 14) dX3_isGone_7 (by decide) (fun c7 => ?_) (fun c7 => ?_)
  · refine sv_iconst (nI 0) dX3_isGone_14 (by decide +kernel) ?_
    refine sv_iret (by first | exact b_I_nar _ | rfl) rfl dX3_isGone_15 ?_
    first | exact ⟨_, rfl, r_I (by unfold a_go; rw [(o_I_m1 _ (a_mo_lt hw hs)).mp c7]; rfl), rfl⟩ | exact ⟨_, rfl, r_I (by unfold a_go; rw [Option.isNone_eq_false_iff.mpr (Option.isSome_iff_ne_none.mpr (fun z => c7 ((o_I_m1 _ (a_mo_lt hw hs)).mpr z)))]; rfl), rfl⟩
  · refine sv_iconst (nI 1) dX3_isGone_10 (by decide +kernel) ?_
    refine sv_goto (tgt := 15) dX3_isGone_11 (by decide) ?_
    refine sv_iret (by first | exact b_I_nar _ | rfl) rfl dX3_isGone_15 ?_
    first | exact ⟨_, rfl, r_I (by unfold a_go; rw [(o_I_m1 _ (a_mo_lt hw hs)).mp c7]; rfl), rfl⟩ | exact ⟨_, rfl, r_I (by unfold a_go; rw [Option.isNone_eq_false_iff.mpr (Option.isSome_iff_ne_none.mpr (fun z => c7 ((o_I_m1 _ (a_mo_lt hw hs)).mpr z)))]; rfl), rfl⟩
theorem a_go_f (hw : w_V V) {s b k : Nat} (hs : s < V.2.2.length) (hbx : a_bx V s = some b) (h : a_go V s k = false) : ∃ m, a_mo V s k = some m ∧ m < (a_ms V b).length ∧ a_fl V s k = (a_m V b m).2.2 := by
  unfold a_go at h
  cases hm : a_mo V s k with
  | none => rw [hm] at h; cases h
  | some m =>
    refine ⟨m, rfl, ?_, ?_⟩
    · unfold a_mo at hm
      rw [hbx] at hm
      exact a_find_lt hm
    · unfold a_fl
      rw [hbx, hm]
theorem ct_flagsOf (hn : h + 11 < sx_n σ) (hE : e_V (m_w M) V) (hw : w_V V) {s : Nat} (hs : s < V.2.2.length) {b : Nat} (hbx : a_bx V s = some b) {k : Nat} (hk : k < (a_es V s).length) (hg : a_go V s k = false) : sx_Cr G 5 YX3_flagsOf [.ref h, .int (nI s), .int (nI (k + 1))] (m_S G h M σ) (some (.int (a_fl V s k))) (m_S G h M σ) := by
  refine sx_body (by decide) (Nat.le_of_ble_eq_true rfl) ?_
  have hb := hw.2.2.1 s b hs hbx
  obtain ⟨m, hm, hml, hfl⟩ := a_go_f hw hs hbx hg
  refine sv_aload_n dX3_flagsOf_0 rfl ?_
  refine sv_aload_n dX3_flagsOf_1 rfl ?_
  refine sv_iload_n dX3_flagsOf_2 rfl ?_
  refine sv_cvR _ (ct_boxOf hn hE hw (by assumption)) okX3_boxOf kv_X3_87 (sx_rd_c (m_S_0 hn)) rfl dX3_flagsOf_3 rfl rfl (by decide) (Nat.le_of_ble_eq_true rfl) ?_
  rw [hbx]
  refine sv_aload_n dX3_flagsOf_6 rfl ?_
  refine sv_iload_n dX3_flagsOf_7 rfl ?_
  refine sv_iload_n dX3_flagsOf_8 rfl ?_
  refine sv_cvR _ (ct_messageOf hn hE hw (by assumption) (by assumption) (by assumption)) okX3_messageOf kv_X3_113 (sx_rd_c (m_S_0 hn)) rfl dX3_flagsOf_9 rfl rfl (by decide) (Nat.le_of_ble_eq_true rfl) ?_
  rw [hm]
  refine sv_iconst (nI 2) dX3_flagsOf_12 (by decide +kernel) ?_
  refine sv_cvR _ (ct_flags hn hE.1 hw.1 hb hml) okX3_ofMessage kv_X3_103 (sx_rd_c (m_S_0 hn)) rfl dX3_flagsOf_13 rfl rfl (by decide) (Nat.le_of_ble_eq_true rfl) ?_
  refine sv_iret rfl rfl dX3_flagsOf_16 ?_
  exact ⟨_, rfl, r_I hfl.symm, rfl⟩
theorem ct_isOther (hn : h + 11 < sx_n σ) (hE : e_V (m_w M) V) (hw : w_V V) {s : Nat} (hs : s < V.2.2.length) {b : Nat} (hbx : a_bx V s = some b) {k : Nat} (hk : k < (a_es V s).length) : sx_Cr G 6 YX3_isOther [.ref h, .int (nI s), .int (nI (k + 1))] (m_S G h M σ) (some (.int (b_I (a_ot V s k)))) (m_S G h M σ) := by
  refine sx_body (by decide) (Nat.le_of_ble_eq_true rfl) ?_
  refine sv_aload_n dX3_isOther_0 rfl ?_
  refine sv_iload_n dX3_isOther_1 rfl ?_
  refine sv_iload_n dX3_isOther_2 rfl ?_
  refine sv_cvR _ (ct_isGone hn hE hw (by assumption) (by assumption) (by assumption)) okX3_isGone kv_X3_116 (sx_rd_c (m_S_0 hn)) rfl dX3_isOther_3 rfl rfl (by decide) (Nat.le_of_ble_eq_true rfl) ?_
  refine sv_if_neB (tgt := 29) dX3_isOther_6 (by decide) (fun c6 => ?_) (fun c6 => ?_)
  · refine sv_iconst (nI 0) dX3_isOther_29 (by decide +kernel) ?_
    refine sv_iret (by first | exact b_I_nar _ | rfl) rfl dX3_isOther_30 ?_
    first | exact ⟨_, rfl, r_I (by unfold a_ot; rw [c6]; rfl), rfl⟩ | exact ⟨_, rfl, r_I (by unfold a_ot; rw [c6, bne_iff_ne.mpr c22]; rfl), rfl⟩ | exact ⟨_, rfl, r_I (by unfold a_ot; rw [c6, bne_eq_false_iff_eq.mpr c22]; rfl), rfl⟩
  · refine sv_aload_n dX3_isOther_9 rfl ?_
    refine sv_iload_n dX3_isOther_10 rfl ?_
    refine sv_iload_n dX3_isOther_11 rfl ?_
    refine sv_cvR _ (ct_flagsOf hn hE hw (by assumption) (by assumption) (by assumption) (by assumption)) okX3_flagsOf kv_X3_120 (sx_rd_c (m_S_0 hn)) rfl dX3_isOther_12 rfl rfl (by decide) (Nat.le_of_ble_eq_true rfl) ?_
    refine sv_aload_n dX3_isOther_15 rfl ?_
    refine sv_iload_n dX3_isOther_16 rfl ?_
    refine sv_iload_n dX3_isOther_17 rfl ?_
    refine sv_iconst (nI 1) dX3_isOther_18 (by decide +kernel) ?_
    refine sv_cvR _ (ct_efl hn hE hw (by assumption) (by assumption)) okX3_ofEntry kv_X3_107 (sx_rd_c (m_S_0 hn)) rfl dX3_isOther_19 rfl rfl (by decide) (Nat.le_of_ble_eq_true rfl) ?_
    refine sv_icmp_eq (tgt := 29) dX3_isOther_22 (by decide) (fun c22 => ?_) (fun c22 => ?_)
    · refine sv_iconst (nI 0) dX3_isOther_29 (by decide +kernel) ?_
      refine sv_iret (by first | exact b_I_nar _ | rfl) rfl dX3_isOther_30 ?_
      first | exact ⟨_, rfl, r_I (by unfold a_ot; rw [c6]; rfl), rfl⟩ | exact ⟨_, rfl, r_I (by unfold a_ot; rw [c6, bne_iff_ne.mpr c22]; rfl), rfl⟩ | exact ⟨_, rfl, r_I (by unfold a_ot; rw [c6, bne_eq_false_iff_eq.mpr c22]; rfl), rfl⟩
    · refine sv_iconst (nI 1) dX3_isOther_25 (by decide +kernel) ?_
      refine sv_goto (tgt := 30) dX3_isOther_26 (by decide) ?_
      refine sv_iret (by first | exact b_I_nar _ | rfl) rfl dX3_isOther_30 ?_
      first | exact ⟨_, rfl, r_I (by unfold a_ot; rw [c6]; rfl), rfl⟩ | exact ⟨_, rfl, r_I (by unfold a_ot; rw [c6, bne_iff_ne.mpr c22]; rfl), rfl⟩ | exact ⟨_, rfl, r_I (by unfold a_ot; rw [c6, bne_eq_false_iff_eq.mpr c22]; rfl), rfl⟩
end MRB
