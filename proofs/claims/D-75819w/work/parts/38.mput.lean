set_option maxRecDepth 100000
section MRE
variable {G : sx_G} {h : Nat} {M : m_M} {σ : sx_St} {V : a_V} {A : a_A} {r r' : Nat → Int64}
theorem ct_entriesR (hn : h + 11 < sx_n σ) {s : Nat} (hs : s < 4) : sx_Cr G 1 YX3_entries [.ref h, .int (nI s)] (m_S G h M σ) (some (.int (m_w M (282 + 131 * s + 4)).toInt32)) (m_S G h M σ) := by
  refine sx_body (by decide) (Nat.le_of_ble_eq_true rfl) ?_
  refine sv_aload_n dX3_entries_0 rfl ?_
  refine sv_iload_n dX3_entries_1 rfl ?_
  refine sv_csR _ ct_sessionAt okX3_sessionAt ks_X3_84 dX3_entries_2 rfl rfl (by decide) (Nat.le_of_ble_eq_true rfl) ?_
  refine sv_iconst (nI 4) dX3_entries_5 (by decide +kernel) ?_
  refine sv_iaddN dX3_entries_6 ?_
  refine sv_cvR _ (ct_get hn (by omega)) okX3_get kv_X3_62 (sx_rd_c (m_S_0 hn)) rfl dX3_entries_7 rfl rfl (by decide) (Nat.le_of_ble_eq_true rfl) ?_
  refine sv_iret rfl rfl dX3_entries_10 ?_
  exact ⟨_, rfl, rfl, rfl⟩
theorem ct_boxOfR (hn : h + 11 < sx_n σ) {s : Nat} (hs : s < 4) : sx_Cr G 1 YX3_boxOf [.ref h, .int (nI s)] (m_S G h M σ) (some (.int (m_w M (282 + 131 * s + 1)).toInt32)) (m_S G h M σ) := by
  refine sx_body (by decide) (Nat.le_of_ble_eq_true rfl) ?_
  refine sv_aload_n dX3_boxOf_0 rfl ?_
  refine sv_iload_n dX3_boxOf_1 rfl ?_
  refine sv_csR _ ct_sessionAt okX3_sessionAt ks_X3_84 dX3_boxOf_2 rfl rfl (by decide) (Nat.le_of_ble_eq_true rfl) ?_
  refine sv_iconst (nI 1) dX3_boxOf_5 (by decide +kernel) ?_
  refine sv_iaddN dX3_boxOf_6 ?_
  refine sv_cvR _ (ct_get hn (by omega)) okX3_get kv_X3_62 (sx_rd_c (m_S_0 hn)) rfl dX3_boxOf_7 rfl rfl (by decide) (Nat.le_of_ble_eq_true rfl) ?_
  refine sv_iret rfl rfl dX3_boxOf_10 ?_
  exact ⟨_, rfl, rfl, rfl⟩
theorem ct_manyInR (hn : h + 11 < sx_n σ) {b : Nat} (hb : b < 3) : sx_Cr G 1 YX3_manyIn [.ref h, .int (nI b)] (m_S G h M σ) (some (.int (m_w M (3 + 93 * b + 1)).toInt32)) (m_S G h M σ) := by
  refine sx_body (by decide) (Nat.le_of_ble_eq_true rfl) ?_
  refine sv_aload_n dX3_manyIn_0 rfl ?_
  refine sv_iload_n dX3_manyIn_1 rfl ?_
  refine sv_csR _ ct_boxAt okX3_boxAt ks_X3_77 dX3_manyIn_2 rfl rfl (by decide) (Nat.le_of_ble_eq_true rfl) ?_
  refine sv_iconst (nI 1) dX3_manyIn_5 (by decide +kernel) ?_
  refine sv_iaddN dX3_manyIn_6 ?_
  refine sv_cvR _ (ct_get hn (by omega)) okX3_get kv_X3_62 (sx_rd_c (m_S_0 hn)) rfl dX3_manyIn_7 rfl rfl (by decide) (Nat.le_of_ble_eq_true rfl) ?_
  refine sv_iret rfl rfl dX3_manyIn_10 ?_
  exact ⟨_, rfl, rfl, rfl⟩
/-- the reference with an entry more -/
def m_pe (M : m_M) (s n : Nat) (u f : Int32) : m_M := m_u (m_u (m_u (m_u M (282 + 131 * s + 4) (m_w M (282 + 131 * s + 4) + 1)) (282 + 131 * s + 11 + 2 * n) u.toInt64) (282 + 131 * s + 11 + 2 * n + 1) f.toInt64) (282 + 131 * s + 5) u.toInt64
def r_pe (r : Nat → Int64) (s n : Nat) (u f : Int32) : Nat → Int64 := vp_updL (vp_updL (vp_updL (vp_updL r (282 + 131 * s + 4) (r (282 + 131 * s + 4) + 1)) (282 + 131 * s + 11 + 2 * n) u.toInt64) (282 + 131 * s + 11 + 2 * n + 1) f.toInt64) (282 + 131 * s + 5) u.toInt64
theorem m_w_pe (s n : Nat) (u f : Int32) : m_w (m_pe M s n u f) = r_pe (m_w M) s n u f := by
  unfold m_pe r_pe
  rw [m_w_u, m_w_u, m_w_u, m_w_u]
theorem ct_putEntry (hn : h + 11 < sx_n σ) {s b m n : Nat} {u f : Int32} (hs : s < 4) (hb : b < 3) (hm : m < 30) (hn6 : n < 60) (h4 : (m_w M (282 + 131 * s + 4)).toInt32 = nI n) (h1 : (m_w M (282 + 131 * s + 1)).toInt32 = nI b) (hu : (m_w M (3 + 93 * b + 3 + 3 * m + 0)).toInt32 = u) (hf : (m_w M (3 + 93 * b + 3 + 3 * m + 2)).toInt32 = f) : sx_Cr G 3 YX3_putEntry [.ref h, .int (nI s), .int (nI m)] (m_S G h M σ) none (m_S G h (m_pe M s n u f) σ) := by
  refine sx_body (by decide) (Nat.le_of_ble_eq_true rfl) ?_
  refine sv_iload_n dX3_putEntry_0 rfl ?_
  refine sv_csR _ ct_sessionAt okX3_sessionAt ks_X3_84 dX3_putEntry_1 rfl rfl (by decide) (Nat.le_of_ble_eq_true rfl) ?_
  refine sv_istore_n dX3_putEntry_4 (by decide) ?_
  refine sv_aload_n dX3_putEntry_5 rfl ?_
  refine sm_get hn fg_X3_24 dX3_putEntry_6 rfl ?_
  refine sv_iload_n dX3_putEntry_9 rfl ?_
  refine sv_iconst (nI 4) dX3_putEntry_10 (by decide +kernel) ?_
  refine sv_iaddN dX3_putEntry_11 ?_
  refine sv_dup2 dX3_putEntry_12 rfl rfl ?_
  refine sm_wld hn dX3_putEntry_13 (by omega) ?_
  refine sv_lconst 1 dX3_putEntry_14 (by decide) ?_
  refine sv_ladd dX3_putEntry_15 ?_
  refine sm_wst hn dX3_putEntry_16 (by omega) ?_
  refine sv_iload_n dX3_putEntry_17 rfl ?_
  refine sv_aload_n dX3_putEntry_18 rfl ?_
  refine sv_iload_n dX3_putEntry_19 rfl ?_
  refine sv_cvR _ (ct_entriesR hn hs) okX3_entries kv_X3_97 (sx_rd_c (m_S_0 hn)) rfl dX3_putEntry_20 rfl rfl (by decide) (Nat.le_of_ble_eq_true rfl) ?_
  refine sv_topI (y := nI (n + 1)) (by rw [m_w_u, uL_s, i64_add, h4]; exact nI_1 n) ?_
  refine sv_csR _ (ct_entryAt (s := s) (k := n)) okX3_entryAt ks_X3_90 dX3_putEntry_23 rfl rfl (by decide) (Nat.le_of_ble_eq_true rfl) ?_
  refine sv_istore dX3_putEntry_26 (by decide) ?_
  refine sv_aload_n dX3_putEntry_28 rfl ?_
  refine sm_get hn fg_X3_24 dX3_putEntry_29 rfl ?_
  refine sv_iload dX3_putEntry_32 rfl ?_
  refine sv_iconst (nI 0) dX3_putEntry_34 (by decide +kernel) ?_
  refine sv_iaddN dX3_putEntry_35 ?_
  refine sv_aload_n dX3_putEntry_36 rfl ?_
  refine sv_aload_n dX3_putEntry_37 rfl ?_
  refine sv_iload_n dX3_putEntry_38 rfl ?_
  refine sv_cvR _ (ct_boxOfR hn hs) okX3_boxOf kv_X3_87 (sx_rd_c (m_S_0 hn)) rfl dX3_putEntry_39 rfl rfl (by decide) (Nat.le_of_ble_eq_true rfl) ?_
  refine sv_topI (y := nI b) (by rw [m_w_u, uL_n (by omega), h1]) ?_
  refine sv_iload_n dX3_putEntry_42 rfl ?_
  refine sv_iconst (nI 0) dX3_putEntry_43 (by decide +kernel) ?_
  refine sv_cvR _ (ct_ofMessage hn (by omega)) okX3_ofMessage kv_X3_103 (sx_rd_c (m_S_0 hn)) rfl dX3_putEntry_44 rfl rfl (by decide) (Nat.le_of_ble_eq_true rfl) ?_
  refine sv_topI (y := u) (by rw [m_w_u, uL_n (by omega), hu]) ?_
  refine sv_i2l dX3_putEntry_47 ?_
  refine sm_wst hn dX3_putEntry_48 (by omega) ?_
  refine sv_aload_n dX3_putEntry_49 rfl ?_
  refine sm_get hn fg_X3_24 dX3_putEntry_50 rfl ?_
  refine sv_iload dX3_putEntry_53 rfl ?_
  refine sv_iconst (nI 1) dX3_putEntry_55 (by decide +kernel) ?_
  refine sv_iaddN dX3_putEntry_56 ?_
  refine sv_aload_n dX3_putEntry_57 rfl ?_
  refine sv_aload_n dX3_putEntry_58 rfl ?_
  refine sv_iload_n dX3_putEntry_59 rfl ?_
  refine sv_cvR _ (ct_boxOfR hn hs) okX3_boxOf kv_X3_87 (sx_rd_c (m_S_0 hn)) rfl dX3_putEntry_60 rfl rfl (by decide) (Nat.le_of_ble_eq_true rfl) ?_
  refine sv_topI (y := nI b) (by rw [m_w_u, uL_n (by omega), m_w_u, uL_n (by omega), h1]) ?_
  refine sv_iload_n dX3_putEntry_63 rfl ?_
  refine sv_iconst (nI 2) dX3_putEntry_64 (by decide +kernel) ?_
  refine sv_cvR _ (ct_ofMessage hn (by omega)) okX3_ofMessage kv_X3_103 (sx_rd_c (m_S_0 hn)) rfl dX3_putEntry_65 rfl rfl (by decide) (Nat.le_of_ble_eq_true rfl) ?_
  refine sv_topI (y := f) (by rw [m_w_u, uL_n (by omega), m_w_u, uL_n (by omega), hf]) ?_
  refine sv_i2l dX3_putEntry_68 ?_
  refine sm_wst hn dX3_putEntry_69 (by omega) ?_
  refine sv_aload_n dX3_putEntry_70 rfl ?_
  refine sm_get hn fg_X3_24 dX3_putEntry_71 rfl ?_
  refine sv_iload_n dX3_putEntry_74 rfl ?_
  refine sv_iconst (nI 5) dX3_putEntry_75 (by decide +kernel) ?_
  refine sv_iaddN dX3_putEntry_76 ?_
  refine sv_aload_n dX3_putEntry_77 rfl ?_
  refine sm_get hn fg_X3_24 dX3_putEntry_78 rfl ?_
  refine sv_iload dX3_putEntry_81 rfl ?_
  refine sv_iconst (nI 0) dX3_putEntry_83 (by decide +kernel) ?_
  refine sv_iaddN dX3_putEntry_84 ?_
  refine sm_wld hn dX3_putEntry_85 (by omega) ?_
  refine sv_topL (y := u.toInt64) (by rw [m_w_u, uL_n (by omega), m_w_u, Nat.add_zero, uL_s]) ?_
  refine sm_wst hn dX3_putEntry_86 (by omega) ?_
  refine sv_vret rfl dX3_putEntry_87 ?_
  exact ⟨_, rfl, rfl, rfl⟩
theorem gd_app (l : List a_E) (x : a_E) (j : Nat) (h : j < (l ++ [x]).length) : (l ++ [x]).getD j (0, 0) = if j < l.length then l.getD j (0, 0) else x := by
  rw [List.length_append, List.length_singleton] at h
  simp only [List.getD_eq_getElem?_getD]
  by_cases hj : j < l.length
  · rw [if_pos hj, List.getElem?_append_left hj]
  · have : j = l.length := by omega
    subst this
    simp
theorem e_S_pe {s : Nat} {S : a_S} {u f : Int32} (hl : S.2.2.2.2.2.2.length < 60) (h : e_S r (282 + 131 * s) S) : e_S (r_pe r s S.2.2.2.2.2.2.length u f) (282 + 131 * s) (S_ls (S_es S (S.2.2.2.2.2.2 ++ [(u, f)])) u) := by
  obtain ⟨h1, h2, h3, h4, h5, h6, h7⟩ := h
  unfold r_pe
  refine ⟨?_, ?_, ?_, ?_, ?_, fun k hk => ?_, fun j hj => ?_⟩
  · rw [uL_n (by omega), uL_n (by omega), uL_n (by omega), uL_n (by omega)]; exact h1
  · rw [uL_n (by omega), uL_n (by omega), uL_n (by omega), uL_n (by omega)]; exact h2
  · rw [uL_n (by omega), uL_n (by omega), uL_n (by omega), uL_n (by omega)]; exact h3
  · rw [uL_n (by omega), uL_n (by omega), uL_n (by omega), uL_n (by omega)]; exact h4
  · rw [uL_n (by omega), uL_n (by omega), uL_n (by omega), uL_s, i64_add, h5]
    show _ = nI (_ ++ [_]).length
    rw [List.length_append]
    exact nI_1 _
  · rw [uL_n (by omega), uL_n (by omega), uL_n (by omega), uL_n (by omega)]; exact h6 k hk
  · have hj : j < (S.2.2.2.2.2.2 ++ [(u, f)]).length := hj
    show _ = ((S.2.2.2.2.2.2 ++ [(u, f)]).getD j (0, 0)).1 ∧ _ = ((S.2.2.2.2.2.2 ++ [(u, f)]).getD j (0, 0)).2
    rw [gd_app _ _ _ hj]
    rw [List.length_append, List.length_singleton] at hj
    by_cases hjl : j < S.2.2.2.2.2.2.length
    · rw [if_pos hjl]
      refine ⟨?_, ?_⟩
      · rw [uL_n (by omega), uL_n (by omega), uL_n (by omega), uL_n (by omega)]; exact (h7 j hjl).1
      · rw [uL_n (by omega), uL_n (by omega), uL_n (by omega), uL_n (by omega)]; exact (h7 j hjl).2
    · have : j = S.2.2.2.2.2.2.length := by omega
      subst this
      rw [if_neg hjl]
      refine ⟨?_, ?_⟩
      · rw [uL_n (by omega), uL_n (by omega), uL_s, i64_back]
      · rw [uL_n (by omega), show 282 + 131 * s + 12 + 2 * S.2.2.2.2.2.2.length = 282 + 131 * s + 11 + 2 * S.2.2.2.2.2.2.length + 1 by omega, uL_s, i64_back]
theorem e_V_pu {s : Nat} {m : a_M} (hw : w_V V) (hs : s < V.2.2.length) (hl : (a_es V s).length < 60) (h : e_V r V) : e_V (r_pe r s (a_es V s).length m.1 m.2.2) (v_pu V s m) := by
  refine e_V_s hw hs h (fun i hi => ?_) (e_S_pe hl (h.2.1 s hs)) ?_
  · have := hl
    unfold r_pe
    rw [uL_n (by omega), uL_n (by omega), uL_n (by omega), uL_n (by omega)]
  · intro b hb m' hm'
    rw [a_us_ls hs]
    show (r_pe r s _ _ _ (282 + 131 * s + 5)).toInt32 < m' ↔ m.1 < m'
    unfold r_pe
    rw [uL_s, i64_back]
theorem w_V_pu {s b : Nat} {m : a_M} (hw : w_V V) (hs : s < V.2.2.length) (hl : (a_es V s).length < 60) (hb : a_bx V s = some b) : w_V (v_pu V s m) := by
  refine w_V_s hw (by show (_ ++ [_]).length ≤ 60; rw [List.length_append]; exact hl) (fun b' hb' => hw.2.2.1 s b' hs hb') (fun hb' => ?_)
  have : a_bx V s = none := hb'
  rw [hb] at this
  cases this
theorem m_pe_row (hb : M.2.1 = false) (s n : Nat) (u f : Int32) : (m_pe M s n u f).2.2.1 0 = r_pe (M.2.2.1 0) s n u f ∧ (∀ t, t ≠ 0 → (m_pe M s n u f).2.2.1 t = M.2.2.1 t) ∧ (m_pe M s n u f).1 = M.1 ∧ (m_pe M s n u f).2.1 = M.2.1 ∧ (m_pe M s n u f).2.2.2 = M.2.2.2 := by
  unfold m_pe r_pe m_u m_w m_wt
  simp [m_a, hb]
  intro t ht
  simp [ht]
theorem m_J_pu {s b : Nat} {m : a_M} (hJ : m_J M A) (hs : s < (A_v A).2.2.length) (hl : (a_es (A_v A) s).length < 60) (hb : a_bx (A_v A) s = some b) : m_J (m_pe M s (a_es (A_v A) s).length m.1 m.2.2) (A_sv A (v_pu (A_v A) s m)) := by
  obtain ⟨q1, q2, q3, q4, q5⟩ := m_pe_row hJ.1 s (a_es (A_v A) s).length m.1 m.2.2
  have := m_J_v (ns := A_n A) (V' := v_pu (A_v A) s m) hJ q4 (fun k _ => by rw [q3]) q2 (fun t _ _ => by rw [q5]) (by rw [q1]; exact e_V_pu hJ.2.2.1 hs hl hJ.2.1) (w_V_pu hJ.2.2.1 hs hl hb) (by rw [q3, q5]; exact hJ.2.2.2.2.2.1)
  exact this
end MRE
