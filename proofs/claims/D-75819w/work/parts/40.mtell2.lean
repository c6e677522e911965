set_option maxRecDepth 100000
section MRG
variable {G : sx_G} {h : Nat} {M : m_M} {σ : sx_St} {V : a_V} {A : a_A} {r r' : Nat → Int64}
/-- A' keeps all of A but entries, accounts, last uids and notices, of which at most n come -/
def s_kp (A A' : a_A) (n : Nat) : Prop := (A_v A').1 = (A_v A).1 ∧ (A_v A').2.1 = (A_v A).2.1 ∧ (A_v A').2.2.length = (A_v A).2.2.length ∧ (∀ t, a_bx (A_v A') t = a_bx (A_v A) t ∧ a_id (A_v A') t = a_id (A_v A) t ∧ a_rd (A_v A') t = a_rd (A_v A) t) ∧ (A_n A).length ≤ (A_n A').length ∧ (A_n A').length ≤ (A_n A).length + n ∧ A_h A' = A_h A ∧ A_k A' = A_k A ∧ A_i A' = A_i A ∧ A_c A' = A_c A ∧ A_p A' = A_p A ∧ A_o A' = A_o A ∧ A_t A' = A_t A
theorem kp_rf (A : a_A) (n : Nat) : s_kp A A n := ⟨rfl, rfl, rfl, fun _ => ⟨rfl, rfl, rfl⟩, Nat.le_refl _, Nat.le_add_right _ _, rfl, rfl, rfl, rfl, rfl, rfl, rfl⟩
theorem kp_tr {A B C : a_A} {n m k : Nat} (h1 : s_kp A B n) (h2 : s_kp B C m) (hk : n + m ≤ k) : s_kp A C k := by
  obtain ⟨a1, a2, a3, a4, a5, a6, a7, a8, a9, a10, a11, a12, a13⟩ := h1
  obtain ⟨b1, b2, b3, b4, b5, b6, b7, b8, b9, b10, b11, b12, b13⟩ := h2
  exact ⟨b1.trans a1, b2.trans a2, b3.trans a3, fun t => ⟨(b4 t).1.trans (a4 t).1, (b4 t).2.1.trans (a4 t).2.1, (b4 t).2.2.trans (a4 t).2.2⟩, Nat.le_trans a5 b5, by omega, b7.trans a7, b8.trans a8, b9.trans a9, b10.trans a10, b11.trans a11, b12.trans a12, b13.trans a13⟩
theorem kp_us {s : Nat} {S : a_S} (h1 : S.2.1 = a_bx (A_v A) s) (h2 : S.2.2.2.1 = a_id (A_v A) s) (h3 : S.2.2.1 = a_rd (A_v A) s) : s_kp A (A_sv A (a_us (A_v A) s S)) 0 := by
  refine ⟨rfl, rfl, a_us_n _ _ _, fun t => ?_, Nat.le_refl _, Nat.le_refl _, rfl, rfl, rfl, rfl, rfl, rfl, rfl⟩
  show a_bx (a_us (A_v A) s S) t = _ ∧ a_id (a_us (A_v A) s S) t = _ ∧ a_rd (a_us (A_v A) s S) t = _
  unfold a_bx a_id a_rd
  by_cases ht : t = s
  · subst ht
    by_cases hl : t < (A_v A).2.2.length
    · rw [a_us_s S hl]; exact ⟨h1, h2, h3⟩
    · have e : a_s (a_us (A_v A) t S) t = a_s (A_v A) t := by
        simp [a_s, a_us, List.getD_eq_getElem?_getD, Nat.le_of_not_lt hl]
      rw [e]; exact ⟨rfl, rfl, rfl⟩
  · rw [a_us_t S ht]; exact ⟨rfl, rfl, rfl⟩
theorem kp_no (A : a_A) (s k : Nat) (n f : Int32) : s_kp A (s_no A s k n f) 1 := by
  have h := kp_us (A := A) (s := s) (S := S_ac (a_s (A_v A) s) (k + 1) 1) rfl rfl rfl
  obtain ⟨a1, a2, a3, a4, -, -, a7, a8, a9, a10, a11, a12, a13⟩ := h
  refine ⟨a1, a2, a3, a4, ?_, ?_, a7, a8, a9, a10, a11, a12, a13⟩
  · show _ ≤ (_ ++ [_]).length; rw [List.length_append]; exact Nat.le_add_right _ _
  · show (_ ++ [_]).length ≤ _; rw [List.length_append]; exact Nat.le_refl _
theorem kp_tg (q : Nat) : ∀ (A : a_A) (s k : Nat), s_kp A (s_tg q A s k) q := by
  induction q with
  | zero => intro A s k; exact kp_rf A 0
  | succ q ih =>
    intro A s k
    show s_kp A (if _ then (if _ then _ else _) else A) _
    split
    · split
      · refine kp_tr (n := 1) (m := q) ?_ (ih _ s k) (by omega)
        exact kp_tr (n := 1) (m := 0) (kp_no A s 0 (nI (k + 1)) 0) (kp_us rfl rfl rfl) (by omega)
      · exact kp_tr (kp_rf A 0) (ih A s (k + 1)) (by omega)
    · exact kp_rf A _
theorem kp_tf (q : Nat) : ∀ (A : a_A) (s k : Nat), s_kp A (s_tf q A s k) q := by
  induction q with
  | zero => intro A s k; exact kp_rf A 0
  | succ q ih =>
    intro A s k
    show s_kp A (if _ then (if _ then _ else _) else A) _
    split
    · split
      · refine kp_tr (n := 1) (m := q) ?_ (ih _ s (k + 1)) (by omega)
        refine kp_tr (n := 0) (m := 1) ?_ (kp_no _ s 1 _ _) (by omega)
        exact kp_us (A := A) (s := s) rfl rfl rfl
      · exact kp_tr (kp_rf A 0) (ih A s (k + 1)) (by omega)
    · exact kp_rf A _
theorem kp_tn (q : Nat) : ∀ (A : a_A) (s b m : Nat), s_kp A (s_tn q A s b m) 0 := by
  induction q with
  | zero => intro A s b m; exact kp_rf A 0
  | succ q ih =>
    intro A s b m
    show s_kp A (if _ then (if _ then _ else _) else A) _
    split
    · split
      · refine kp_tr (n := 0) (m := 0) ?_ (ih _ s b (m + 1)) (by omega)
        exact kp_us rfl rfl rfl
      · exact ih A s b (m + 1)
    · exact kp_rf A _
theorem kp_tw (A : a_A) (s b : Nat) : s_kp A (s_tw A s b) 1 := by
  unfold s_tw
  split
  · exact kp_tr (kp_tn 31 A s b 0) (kp_no _ s 2 _ _) (by omega)
  · exact kp_tr (kp_tn 31 A s b 0) (kp_rf _ 0) (by omega)
theorem kp_te (A : a_A) (s : Nat) (all : Bool) : s_kp A (s_te A s all) 123 := by
  unfold s_te
  split
  · exact kp_rf A _
  · refine kp_tr (kp_tr (?_ : s_kp A (if all then s_tg 61 A s 0 else A) 61) (kp_tf 61 _ s 0) (Nat.le_refl _)) (kp_tw _ s _) (by omega)
    split
    · exact kp_tg 61 A s 0
    · exact kp_rf A _
/-- what an entry was told changes -/
theorem e_V_to {s k : Nat} {f : Int32} (hw : w_V V) (hs : s < V.2.2.length) (hk : k < (a_es V s).length) (h : e_V r V) : e_V (vp_updL r (282 + 131 * s + 11 + 2 * k + 1) f.toInt64) (v_to V s k f) := by
  have hl := hw.2.1 s hs
  obtain ⟨h1, h2, h3, h4, h5, h6, h7⟩ := h.2.1 s hs
  refine e_V_s hw hs h (fun i hi => uL_n (by omega)) ⟨by rw [uL_n (by omega)]; exact h1, by rw [uL_n (by omega)]; exact h2, by rw [uL_n (by omega)]; exact h3, by rw [uL_n (by omega)]; exact h4, ?_, fun j hj => by rw [uL_n (by omega)]; exact h6 j hj, fun j hj => ?_⟩ ?_
  · rw [uL_n (by omega), h5]
    show _ = nI ((a_es V s).set k _).length
    rw [List.length_set]
    rfl
  · have hj2 : j < (a_es V s).length := by
      have h9 : j < ((a_es V s).set k ((a_e V s k).1, f)).length := hj
      rwa [List.length_set] at h9
    clear hj
    show _ = (((a_es V s).set k ((a_e V s k).1, f)).getD j (0, 0)).1 ∧ _ = (((a_es V s).set k ((a_e V s k).1, f)).getD j (0, 0)).2
    by_cases hjk : j = k
    · subst hjk
      rw [show ((a_es V s).set j ((a_e V s j).1, f)).getD j (0, 0) = ((a_e V s j).1, f) from by simp [List.getD_eq_getElem?_getD, hj2]]
      exact ⟨by rw [uL_n (by omega)]; exact (h7 j hj2).1, by rw [show 282 + 131 * s + 12 + 2 * j = 282 + 131 * s + 11 + 2 * j + 1 by omega, uL_s, i64_back]⟩
    · rw [show ((a_es V s).set k ((a_e V s k).1, f)).getD j (0, 0) = (a_es V s).getD j (0, 0) from by simp [List.getD_eq_getElem?_getD, List.getElem?_set_ne (Ne.symm hjk)]]
      exact ⟨by rw [uL_n (by omega)]; exact (h7 j hj2).1, by rw [uL_n (by omega)]; exact (h7 j hj2).2⟩
  · intro b hb m hm
    rw [uL_n (by omega), a_us_ls hs]
    rw [a_us_bx hs] at hb
    exact h.2.2 s hs b hb m hm
theorem w_V_to {s k : Nat} {f : Int32} (hw : w_V V) (hs : s < V.2.2.length) : w_V (v_to V s k f) := by
  refine w_V_s hw (by show ((a_es V s).set k _).length ≤ 60; rw [List.length_set]; exact hw.2.1 s hs) (fun b hb => hw.2.2.1 s b hs hb) (fun hb => ?_)
  show (a_es V s).set k _ = []
  rw [hw.2.2.2 s hs hb]
  rfl
theorem v_to_fl {s k j : Nat} {f : Int32} (hs : s < V.2.2.length) (hk : k < (a_es V s).length) : a_fl (v_to V s k f) s j = a_fl V s j ∧ a_go (v_to V s k f) s j = a_go V s j := by
  have hb : a_bx (v_to V s k f) s = a_bx V s := a_us_bx hs
  have he : (a_e (v_to V s k f) s j).1 = (a_e V s j).1 := by
    unfold a_e
    rw [show a_es (v_to V s k f) s = (a_es V s).set k ((a_e V s k).1, f) from a_us_es hs]
    by_cases hj : j = k
    · subst hj; simp [List.getD_eq_getElem?_getD, hk, a_e]
    · simp [List.getD_eq_getElem?_getD, List.getElem?_set_ne (Ne.symm hj)]
  have hm : a_mo (v_to V s k f) s j = a_mo V s j := by
    unfold a_mo
    rw [hb, he]
    rfl
  unfold a_fl a_go
  rw [hb, hm]
  exact ⟨rfl, rfl⟩
theorem ct_tellFlags (hn : h + 11 < sx_n σ) (hJ : m_J M A) {s b : Nat} (hs : s < (A_v A).2.2.length) (hbx : a_bx (A_v A) s = some b) (hl : (A_n A).length + 60 ≤ 1000) : sx_Cp G 7 YX3_tellFlags [.ref h, .int (nI s)] (m_S G h M σ) (fun v τ => v = none ∧ ∃ M2, τ = m_S G h M2 σ ∧ m_J M2 (s_tf 61 A s 0)) := by
  have loop : ∀ q k M A, m_J M A → s < (A_v A).2.2.length → a_bx (A_v A) s = some b → k ≤ (a_es (A_v A) s).length → (a_es (A_v A) s).length + 1 ≤ k + q → (A_n A).length + ((a_es (A_v A) s).length - k) ≤ 1000 → sx_V G 7 YX3_tellFlags 2 [some (.ref h), some (.int (nI s)), some (.int (nI (k + 1)))] [] (m_S G h M σ) (fun o τ => ∃ v, o = .inl v ∧ v = none ∧ ∃ M2, τ = m_S G h M2 σ ∧ m_J M2 (s_tf q A s k)) := by
    intro q
    induction q with
    | zero => intro k M A hJ hs hbx g1 g2 g3; exact absurd g2 (by omega)
    | succ q ih =>
    intro k M A hJ hs hbx g1 g2 g3
    have hes := hJ.2.2.1.2.1 s hs
    have hs4 := hJ.2.2.1.1.2.1
    refine sv_iload_n dX3_tellFlags_2 rfl ?_
    refine sv_aload_n dX3_tellFlags_3 rfl ?_
    refine sv_iload_n dX3_tellFlags_4 rfl ?_
    refine sv_cvR _ (ct_entries hn (m_J_e hJ) hJ.2.2.1 hs) okX3_entries kv_X3_97 (sx_rd_c (m_S_0 hn)) rfl dX3_tellFlags_5 rfl rfl (by decide) (Nat.le_of_ble_eq_true rfl) ?_
    refine sv_icmp_gtN (tgt := 61) dX3_tellFlags_8 (by decide) (by omega) (by omega) (fun c8 => ?_) (fun c8 => ?_)
    · have hsp : s_tf (q + 1) A s k = A := by show (if _ then _ else A) = A; rw [if_neg (by omega)]
      rw [hsp]
      refine sv_vret rfl dX3_tellFlags_61 ?_
      exact ⟨_, rfl, rfl, M, rfl, hJ⟩
    · refine sv_aload_n dX3_tellFlags_11 rfl ?_
      refine sv_iload_n dX3_tellFlags_12 rfl ?_
      refine sv_iload_n dX3_tellFlags_13 rfl ?_
      refine sv_cvR _ (ct_isOther hn (m_J_e hJ) hJ.2.2.1 hs hbx (by omega)) okX3_isOther kv_X3_123 (sx_rd_c (m_S_0 hn)) rfl dX3_tellFlags_14 rfl rfl (by decide) (Nat.le_of_ble_eq_true rfl) ?_
      refine sv_if_neB (tgt := 23) dX3_tellFlags_17 (by decide) (fun c17 => ?_) (fun c17 => ?_)
      · have hsp : s_tf (q + 1) A s k = s_tf q (s_no (A_sv A (v_to (A_v A) s k (a_fl (A_v A) s k))) s 1 (nI (k + 1)) (a_fl (A_v A) s k)) s (k + 1) := by show (if _ then _ else A) = _; rw [if_pos (by omega), if_pos c17]
        rw [hsp]
        have hgo : a_go (A_v A) s k = false := by unfold a_ot at c17; rw [Bool.and_eq_true, Bool.not_eq_true'] at c17; exact c17.1
        refine sv_aload_n dX3_tellFlags_23 rfl ?_
        refine sm_get hn fg_X3_17 dX3_tellFlags_24 rfl ?_
        refine sv_iload_n dX3_tellFlags_27 rfl ?_
        refine sv_iload_n dX3_tellFlags_28 rfl ?_
        refine sv_csR _ ct_entryAt okX3_entryAt ks_X3_90 dX3_tellFlags_29 rfl rfl (by decide) (Nat.le_of_ble_eq_true rfl) ?_
        refine sv_iconst (nI 1) dX3_tellFlags_32 (by decide +kernel) ?_
        refine sv_iaddN dX3_tellFlags_33 ?_
        refine sv_aload_n dX3_tellFlags_34 rfl ?_
        refine sv_iload_n dX3_tellFlags_35 rfl ?_
        refine sv_iload_n dX3_tellFlags_36 rfl ?_
        refine sv_cvR _ (ct_flagsOf hn (m_J_e hJ) hJ.2.2.1 hs hbx (by omega) hgo) okX3_flagsOf kv_X3_120 (sx_rd_c (m_S_0 hn)) rfl dX3_tellFlags_37 rfl rfl (by decide) (Nat.le_of_ble_eq_true rfl) ?_
        refine sv_i2l dX3_tellFlags_40 ?_
        refine sm_nst hn dX3_tellFlags_41 (by omega) ?_
        have hJ2 := m_J_a hJ (e_V_to (k := k) (f := a_fl (A_v A) s k) hJ.2.2.1 hs (by omega) hJ.2.1) (w_V_to hJ.2.2.1 hs)
        have hs2 : s < (A_v (A_sv A (v_to (A_v A) s k (a_fl (A_v A) s k)))).2.2.length := Nat.lt_of_lt_of_eq hs (a_us_n _ _ _).symm
        have hes2 : a_es (v_to (A_v A) s k (a_fl (A_v A) s k)) s = (a_es (A_v A) s).set k ((a_e (A_v A) s k).1, a_fl (A_v A) s k) := a_us_es hs
        have hbx2 : a_bx (A_v (A_sv A (v_to (A_v A) s k (a_fl (A_v A) s k)))) s = some b := (a_us_bx hs).trans hbx
        have hfl2 := v_to_fl (V := A_v A) (k := k) (j := k) (f := a_fl (A_v A) s k) hs (by omega)
        have hgo2 : a_go (A_v (A_sv A (v_to (A_v A) s k (a_fl (A_v A) s k)))) s k = false := hfl2.2.trans hgo
        refine sv_aload_n dX3_tellFlags_42 rfl ?_
        refine sv_iload_n dX3_tellFlags_43 rfl ?_
        refine sv_iconst (nI 1) dX3_tellFlags_44 (by decide +kernel) ?_
        refine sv_iload_n dX3_tellFlags_45 rfl ?_
        refine sv_aload_n dX3_tellFlags_46 rfl ?_
        refine sv_iload_n dX3_tellFlags_47 rfl ?_
        refine sv_iload_n dX3_tellFlags_48 rfl ?_
        refine sv_cvR _ (ct_flagsOf hn (m_J_e hJ2) hJ2.2.2.1 hs2 hbx2 (by show k < (a_es (v_to (A_v A) s k (a_fl (A_v A) s k)) s).length; rw [hes2, List.length_set]; omega) hgo2) okX3_flagsOf kv_X3_120 (sx_rd_c (m_S_0 hn)) rfl dX3_tellFlags_49 rfl rfl (by decide) (Nat.le_of_ble_eq_true rfl) ?_
        refine sv_topI (y := a_fl (A_v A) s k) hfl2.1 ?_
        refine sv_cvR _ (ct_notes (k := 1) hn hJ2 hs2 (by omega) (by show (A_n A).length < 1000; omega)) okX3_notes kv_X3_141 (sx_rd_c (m_S_0 hn)) rfl dX3_tellFlags_52 rfl rfl (by decide) (Nat.le_of_ble_eq_true rfl) ?_
        have hX : True := trivial
        refine sv_iincN dX3_tellFlags_55 rfl (by decide) ?_
        refine sv_goto (tgt := 2) dX3_tellFlags_58 (by decide) ?_
        first | exact ih (k + 1) M A hJ hs hbx (by omega) (by omega) (by omega) | exact ih (k + 1) _ (s_no (A_sv A (v_to (A_v A) s k (a_fl (A_v A) s k))) s 1 (nI (k + 1)) (a_fl (A_v A) s k)) (m_J_nt (k := 1) (n := nI (k + 1)) (f := a_fl (A_v A) s k) hJ2 hs2 (by omega) (by show (A_n A).length < 1000; omega)) (Nat.lt_of_lt_of_eq hs2 v_ac_n.symm) ((v_ac_bx hs2).trans hbx2) (by rw [show a_es (A_v (s_no (A_sv A (v_to (A_v A) s k (a_fl (A_v A) s k))) s 1 (nI (k + 1)) (a_fl (A_v A) s k))) s = _ from (v_ac_es hs2).trans hes2, List.length_set]; omega) (by rw [show a_es (A_v (s_no (A_sv A (v_to (A_v A) s k (a_fl (A_v A) s k))) s 1 (nI (k + 1)) (a_fl (A_v A) s k))) s = _ from (v_ac_es hs2).trans hes2, List.length_set]; omega) (by rw [show a_es (A_v (s_no (A_sv A (v_to (A_v A) s k (a_fl (A_v A) s k))) s 1 (nI (k + 1)) (a_fl (A_v A) s k))) s = _ from (v_ac_es hs2).trans hes2, List.length_set, show (A_n (s_no (A_sv A (v_to (A_v A) s k (a_fl (A_v A) s k))) s 1 (nI (k + 1)) (a_fl (A_v A) s k))).length = (A_n A).length + 1 from List.length_append]; omega)
      · have hsp : s_tf (q + 1) A s k = s_tf q A s (k + 1) := by show (if _ then _ else A) = _; rw [if_pos (by omega), if_neg (by rw [c17]; decide)]
        rw [hsp]
        refine sv_goto (tgt := 55) dX3_tellFlags_20 (by decide) ?_
        have hX : True := trivial
        refine sv_iincN dX3_tellFlags_55 rfl (by decide) ?_
        refine sv_goto (tgt := 2) dX3_tellFlags_58 (by decide) ?_
        first | exact ih (k + 1) M A hJ hs hbx (by omega) (by omega) (by omega) | exact ih (k + 1) _ (s_no (A_sv A (v_to (A_v A) s k (a_fl (A_v A) s k))) s 1 (nI (k + 1)) (a_fl (A_v A) s k)) (m_J_nt (k := 1) (n := nI (k + 1)) (f := a_fl (A_v A) s k) hJ2 hs2 (by omega) (by show (A_n A).length < 1000; omega)) (Nat.lt_of_lt_of_eq hs2 v_ac_n.symm) ((v_ac_bx hs2).trans hbx2) (by rw [show a_es (A_v (s_no (A_sv A (v_to (A_v A) s k (a_fl (A_v A) s k))) s 1 (nI (k + 1)) (a_fl (A_v A) s k))) s = _ from (v_ac_es hs2).trans hes2, List.length_set]; omega) (by rw [show a_es (A_v (s_no (A_sv A (v_to (A_v A) s k (a_fl (A_v A) s k))) s 1 (nI (k + 1)) (a_fl (A_v A) s k))) s = _ from (v_ac_es hs2).trans hes2, List.length_set]; omega) (by rw [show a_es (A_v (s_no (A_sv A (v_to (A_v A) s k (a_fl (A_v A) s k))) s 1 (nI (k + 1)) (a_fl (A_v A) s k))) s = _ from (v_ac_es hs2).trans hes2, List.length_set, show (A_n (s_no (A_sv A (v_to (A_v A) s k (a_fl (A_v A) s k))) s 1 (nI (k + 1)) (a_fl (A_v A) s k))).length = (A_n A).length + 1 from List.length_append]; omega)
  refine sx_body (by decide) (Nat.le_of_ble_eq_true rfl) ?_
  refine sv_iconst (nI 1) dX3_tellFlags_0 (by decide +kernel) ?_
  refine sv_istore_n dX3_tellFlags_1 (by decide) ?_
  exact loop 61 0 M A hJ hs hbx (by omega) (by have := hJ.2.2.1.2.1 s hs; omega) (by have := hJ.2.2.1.2.1 s hs; omega)
end MRG
