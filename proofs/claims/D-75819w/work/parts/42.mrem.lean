set_option maxRecDepth 100000
section MRI
variable {G : sx_G} {h : Nat} {M : m_M} {σ : sx_St} {V : a_V} {A : a_A} {r r' : Nat → Int64}
theorem kp_ti (q : Nat) : ∀ (A : a_A) (s : Nat), s_kp A (s_ti q A s) (123 * q) := by
  induction q with
  | zero => intro A s; exact kp_rf A 0
  | succ q ih =>
    intro A s
    show s_kp A (if _ then _ else A) _
    split
    · refine kp_tr (n := 123) (m := 123 * q) ?_ (ih _ (s + 1)) (by omega)
      split
      · exact kp_te A s true
      · exact kp_rf A _
    · exact kp_rf A _
theorem ct_tellsIdle (hn : h + 11 < sx_n σ) (hJ : m_J M A) (hl : (A_n A).length + 500 ≤ 1000) : sx_Cp G 9 YX3_tellsIdle [.ref h] (m_S G h M σ) (fun v τ => v = none ∧ ∃ M2, τ = m_S G h M2 σ ∧ m_J M2 (s_ti 5 A 0)) := by
  have loop : ∀ q s M A, m_J M A → s ≤ (A_v A).2.2.length → (A_v A).2.2.length + 1 ≤ s + q → (A_n A).length + 123 * ((A_v A).2.2.length - s) ≤ 1000 → sx_V G 9 YX3_tellsIdle 2 [some (.ref h), some (.int (nI s)), none] [] (m_S G h M σ) (fun o τ => ∃ v, o = .inl v ∧ v = none ∧ ∃ M2, τ = m_S G h M2 σ ∧ m_J M2 (s_ti q A s)) := by
    intro q
    induction q with
    | zero => intro s M A hJ g1 g2 g3; exact absurd g2 (by omega)
    | succ q ih =>
    intro s M A hJ g1 g2 g3
    have hs4 := hJ.2.2.1.1.2.1
    refine sv_iload_n dX3_tellsIdle_2 rfl ?_
    refine sv_aload_n dX3_tellsIdle_3 rfl ?_
    refine sv_cvR _ (ct_sessions hn (m_J_e hJ).1 hJ.2.2.1.1) okX3_sessions kv_X3_74 (sx_rd_c (m_S_0 hn)) rfl dX3_tellsIdle_4 rfl rfl (by decide) (Nat.le_of_ble_eq_true rfl) ?_
    refine sv_icmp_geN (tgt := 31) dX3_tellsIdle_7 (by decide) (by omega) (by omega) (fun c7 => ?_) (fun c7 => ?_)
    · have hsp : s_ti (q + 1) A s = A := by show (if _ then _ else A) = A; rw [if_neg (by omega)]
      rw [hsp]
      refine sv_vret rfl dX3_tellsIdle_31 ?_
      exact ⟨_, rfl, rfl, M, rfl, hJ⟩
    · have hs : s < (A_v A).2.2.length := by omega
      refine sv_aload_n dX3_tellsIdle_10 rfl ?_
      refine sv_iload_n dX3_tellsIdle_11 rfl ?_
      refine sv_cvR _ (ct_isIdle hn (m_J_e hJ) hJ.2.2.1 hs) okX3_isIdle kv_X3_162 (sx_rd_c (m_S_0 hn)) rfl dX3_tellsIdle_12 rfl rfl (by decide) (Nat.le_of_ble_eq_true rfl) ?_
      refine sv_if_eqB (tgt := 25) dX3_tellsIdle_15 (by decide) (fun c15 => ?_) (fun c15 => ?_)
      · have hsp : s_ti (q + 1) A s = s_ti q A (s + 1) := by show (if _ then s_ti q (if _ then _ else _) _ else A) = _; rw [if_pos hs, if_neg (by rw [c15]; decide)]
        rw [hsp]
        have hih := ih (s + 1) M A hJ (by omega) (by omega) (by omega)
        refine sv_iincN dX3_tellsIdle_25 rfl (by decide) ?_
        refine sv_goto (tgt := 2) dX3_tellsIdle_28 (by decide) ?_
        exact sx_loc [some (.ref h), some (.int (nI (s + 1))), none] ⟨rfl, rfl, trivial⟩ hih
      · have hsp : s_ti (q + 1) A s = s_ti q (s_te A s true) (s + 1) := by show (if _ then s_ti q (if _ then _ else _) _ else A) = _; rw [if_pos hs, if_pos c15]
        rw [hsp]
        refine sv_aload_n dX3_tellsIdle_18 rfl ?_
        refine sv_iload_n dX3_tellsIdle_19 rfl ?_
        refine sv_iconst (nI 1) dX3_tellsIdle_20 (by decide +kernel) ?_
        have hb1 : b_I true = nI 1 := rfl
        rw [← hb1]
        refine sv_cvP _ (ct_tells_t hn hJ hs (by omega)) okX3_tells kv_X3_165 (sx_rd_c (m_S_0 hn)) rfl dX3_tellsIdle_21 rfl rfl (by decide) (Nat.le_of_ble_eq_true rfl) ?_
        intro v1 t1 hp1
        obtain ⟨rfl, M1, rfl, hJ1⟩ := hp1
        have k1 := kp_te A s true
        have k2 := k1.2.2.1
        have k3 := k1.2.2.2.2.2.1
        have hih := ih (s + 1) M1 _ hJ1 (by omega) (by omega) (by rw [k2]; omega)
        refine sv_istore_n dX3_tellsIdle_24 (by decide) ?_
        refine sv_iincN dX3_tellsIdle_25 rfl (by decide) ?_
        refine sv_goto (tgt := 2) dX3_tellsIdle_28 (by decide) ?_
        exact sx_loc [some (.ref h), some (.int (nI (s + 1))), none] ⟨rfl, rfl, trivial⟩ hih
  refine sx_body (by decide) (Nat.le_of_ble_eq_true rfl) ?_
  refine sv_iconst (nI 0) dX3_tellsIdle_0 (by decide +kernel) ?_
  refine sv_istore_n dX3_tellsIdle_1 (by decide) ?_
  exact loop 5 0 M A hJ (Nat.zero_le _) (by have := hJ.2.2.1.1.2.1; omega) (by have := hJ.2.2.1.1.2.1; omega)
theorem m_a_id (t : Nat) : m_a M t (M.2.2.1 t) = M := by
  obtain ⟨a, b, c, d⟩ := M
  unfold m_a
  simp only [Prod.mk.injEq, true_and, and_true]
  funext j
  by_cases hj : j = t <;> simp [hj]
theorem e_V_cg (hw : w_V V) (hr : ∀ k, k < 806 → r' k = r k) (h : e_V r V) : e_V r' V := by
  obtain ⟨⟨h1, h2, h3, h4⟩, h5, h6⟩ := h
  have w1 := hw.1.1
  have w2 := hw.1.2.1
  refine ⟨⟨by rw [hr _ (by omega)]; exact h1, by rw [hr _ (by omega)]; exact h2, by rw [hr _ (by omega)]; exact h3, fun b hb => e_B_fr (hw.1.2.2 b hb) (fun i g1 g2 => hr i (by omega)) (h4 b hb)⟩, fun t ht => e_S_fr (hw.2.1 t ht) (fun i g1 g2 => hr i (by omega)) (h5 t ht), fun t ht b hb m hm => ?_⟩
  rw [hr _ (by omega)]
  exact h6 t ht b hb m hm
/-- the server as it is is remembered -/
def s_rm (A : a_A) : a_A := A_sh A ((if (A_h A).length = 6 then (A_h A).drop 1 else A_h A) ++ [A_v A])
/-- a row of the past -/
def r_sh (p : Nat → Int64) (k : Nat) : Nat → Int64 := fun j => if j < k then p (j + 806) else p j
def r_cp (p q : Nat → Int64) (c k : Nat) : Nat → Int64 := fun j => if 806 * c ≤ j ∧ j < 806 * c + k then q (j - 806 * c) else p j
theorem r_sh_s (p : Nat → Int64) (k : Nat) : vp_updL (r_sh p k) k (r_sh p k (k + 806)) = r_sh p (k + 1) := by
  funext j
  by_cases hj : j = k
  · subst hj
    rw [uL_s]
    show (if _ then _ else _) = (if _ then _ else _)
    rw [if_neg (by omega), if_pos (by omega)]
  · rw [uL_n hj]
    show (if _ then _ else _) = (if _ then _ else _)
    by_cases h : j < k
    · rw [if_pos h, if_pos (by omega)]
    · rw [if_neg h, if_neg (by omega)]
theorem r_cp_s (p q : Nat → Int64) (c k : Nat) : vp_updL (r_cp p q c k) (806 * c + k) (q k) = r_cp p q c (k + 1) := by
  funext j
  by_cases hj : j = 806 * c + k
  · subst hj
    rw [uL_s]
    show _ = (if _ then _ else _)
    rw [if_pos (by omega), show 806 * c + k - 806 * c = k by omega]
  · rw [uL_n hj]
    show (if _ then _ else _) = (if _ then _ else _)
    by_cases h : 806 * c ≤ j ∧ j < 806 * c + k
    · rw [if_pos h, if_pos (by omega)]
    · rw [if_neg h, if_neg (by omega)]
theorem r_sh_0 (p : Nat → Int64) : r_sh p 0 = p := by funext j; exact if_neg (by omega)
theorem r_cp_0 (p q : Nat → Int64) (c : Nat) : r_cp p q c 0 = p := by funext j; exact if_neg (by omega)
theorem m_J_rm {f : Nat → Int64} {c : Nat} (hJ : m_J M A) (hs : List a_V) (hc : hs.length = c) (hc5 : c ≤ 5) (hh : ∀ i, i < c → e_V (fun k => f (806 * i + k)) (hs.getD i (0, [], [])) ∧ w_V (hs.getD i (0, [], []))) {M' : m_M} (hM : M' = m_i (m_a M 3 (r_cp f (M.2.2.1 0) c 806)) 25 (nI (c + 1))) : m_J M' (A_sh A (hs ++ [A_v A])) := by
  subst hM
  obtain ⟨g1, g2, g3, g4, g5, g6, g7, g8, g9, g10, g11⟩ := hJ
  refine ⟨g1, g2, g3, ⟨?_, ?_, fun i hi => ?_⟩, g5, ⟨g6.1, g6.2.1, g6.2.2⟩, ⟨g7.1, g7.2.1, g7.2.2⟩, g8, g9, ⟨g10.1, g10.2.1, g10.2.2⟩, g11⟩
  · show (hs ++ [A_v A]).length ≤ 6
    rw [List.length_append, hc]
    exact Nat.succ_le_succ hc5
  · show upd M.1 25 _ 25 = nI (hs ++ [A_v A]).length
    rw [pk_us, List.length_append, hc]
    rfl
  · have hi : i < (hs ++ [A_v A]).length := hi
    show e_V (fun k => r_cp f (M.2.2.1 0) c 806 (806 * i + k)) ((hs ++ [A_v A]).getD i (0, [], [])) ∧ w_V ((hs ++ [A_v A]).getD i (0, [], []))
    rw [List.length_append, List.length_singleton, hc] at hi
    by_cases hic : i < c
    · rw [show (hs ++ [A_v A]).getD i (0, [], []) = hs.getD i (0, [], []) from by simp [List.getD_eq_getElem?_getD, List.getElem?_append_left (show i < hs.length by omega)]]
      refine ⟨e_V_cg (hh i hic).2 (fun k hk => ?_) (hh i hic).1, (hh i hic).2⟩
      show (if _ then _ else _) = _
      rw [if_neg (by omega)]
    · have : i = c := by omega
      subst this
      rw [show (hs ++ [A_v A]).getD i (0, [], []) = A_v A from by simp [List.getD_eq_getElem?_getD, ← hc]]
      refine ⟨e_V_cg g3 (fun k hk => ?_) g2, g3⟩
      show (if _ then _ else _) = _
      rw [if_pos (by omega), show 806 * i + k - 806 * i = k by omega]
theorem ct_remember (hn : h + 11 < sx_n σ) (hJ : m_J M A) : sx_Cp G 0 YX3_remember [.ref h] (m_S G h M σ) (fun v τ => v = none ∧ ∃ M2, τ = m_S G h M2 σ ∧ m_J M2 (s_rm A)) := by
  have loop2 : ∀ q k c (hs : List a_V) (M0 : m_M) (f : Nat → Int64), M0.1 25 = nI c → M0.2.2.1 0 = M.2.2.1 0 → (∀ f2, m_i (m_a M0 3 f2) 25 (nI (c + 1)) = m_i (m_a M 3 f2) 25 (nI (c + 1))) → hs.length = c → c ≤ 5 → (∀ i, i < c → e_V (fun k => f (806 * i + k)) (hs.getD i (0, [], [])) ∧ w_V (hs.getD i (0, [], []))) → s_rm A = A_sh A (hs ++ [A_v A]) → k ≤ 806 → 807 ≤ k + q → sx_V G 0 YX3_remember 54 [some (.ref h), some (.int (nI k))] [] (m_S G h (m_a M0 3 (r_cp f (M.2.2.1 0) c k)) σ) (fun o τ => ∃ v, o = .inl v ∧ v = none ∧ ∃ M2, τ = m_S G h M2 σ ∧ m_J M2 (s_rm A)) := by
    intro q
    induction q with
    | zero => intro k c hs M0 f e1 e2 e3 hcl hc5 hh hrm g1 g2; exact absurd g2 (by omega)
    | succ q ih =>
    intro k c hs M0 f e1 e2 e3 hcl hc5 hh hrm g1 g2
    refine sv_iload_n dX3_remember_54 rfl ?_
    refine sv_sipush (nI 806) dX3_remember_55 (by decide +kernel) ?_
    refine sv_icmp_geN (tgt := 88) dX3_remember_58 (by decide) (by omega) (by omega) (fun c58 => ?_) (fun c58 => ?_)
    · have hk : k = 806 := by omega
      subst hk
      refine sv_aload_n dX3_remember_88 rfl ?_
      refine sv_dup dX3_remember_89 rfl ?_
      refine sm_get hn fg_X3_516 dX3_remember_90 rfl ?_
      refine sv_topI (y := nI c) e1 ?_
      refine sv_iconst (nI 1) dX3_remember_93 (by decide +kernel) ?_
      refine sv_iaddN dX3_remember_94 ?_
      refine sm_put hn fp_X3_516 dX3_remember_95 rfl (by decide) ?_
      rw [hrm]
      refine sv_vret rfl dX3_remember_98 ?_
      exact ⟨_, rfl, rfl, _, rfl, m_J_rm hJ hs hcl hc5 hh (e3 _)⟩
    · refine sv_aload_n dX3_remember_61 rfl ?_
      refine sm_get hn fg_X3_54 dX3_remember_62 rfl ?_
      refine sv_sipush (nI 806) dX3_remember_65 (by decide +kernel) ?_
      refine sv_aload_n dX3_remember_68 rfl ?_
      refine sm_get hn fg_X3_516 dX3_remember_69 rfl ?_
      refine sv_topI (y := nI c) e1 ?_
      refine sv_imulN dX3_remember_72 ?_
      refine sv_iload_n dX3_remember_73 rfl ?_
      refine sv_iaddN dX3_remember_74 ?_
      refine sv_aload_n dX3_remember_75 rfl ?_
      refine sm_get hn fg_X3_17 dX3_remember_76 rfl ?_
      refine sv_iload_n dX3_remember_79 rfl ?_
      refine sm_nld hn dX3_remember_80 (by omega) ?_
      refine sv_topL (y := M.2.2.1 0 k) (by rw [show (m_a M0 3 (r_cp f (M.2.2.1 0) c k)).2.2.1 0 = M0.2.2.1 0 from rfl, e2]) ?_
      refine sm_st 3 (by decide) hn dX3_remember_81 (by show _ < 4836; omega) ?_
      rw [m_a_0, m_a_a, r_cp_s]
      refine sv_iincN dX3_remember_82 rfl (by decide) ?_
      refine sv_goto (tgt := 54) dX3_remember_85 (by decide) ?_
      exact ih (k + 1) c hs M0 f e1 e2 e3 hcl hc5 hh hrm (by omega) (by omega)
  have loop1 : ∀ q k, (A_h A).length = 6 → k ≤ 4030 → 4031 ≤ k + q → sx_V G 0 YX3_remember 13 [some (.ref h), some (.int (nI (k + 806)))] [] (m_S G h (m_a M 3 (r_sh (M.2.2.1 3) k)) σ) (fun o τ => ∃ v, o = .inl v ∧ v = none ∧ ∃ M2, τ = m_S G h M2 σ ∧ m_J M2 (s_rm A)) := by
    have hc : M.1 25 = nI (A_h A).length := hJ.2.2.2.1.2.1
    intro q
    induction q with
    | zero => intro k h6 g1 g2; exact absurd g2 (by omega)
    | succ q ih =>
    intro k h6 g1 g2
    refine sv_iload_n dX3_remember_13 rfl ?_
    refine sv_sipush (nI 4836) dX3_remember_14 (by decide +kernel) ?_
    refine sv_icmp_geN (tgt := 42) dX3_remember_17 (by decide) (by omega) (by omega) (fun c17 => ?_) (fun c17 => ?_)
    · have hk : k = 4030 := by omega
      subst hk
      refine sv_aload_n dX3_remember_42 rfl ?_
      refine sv_dup dX3_remember_43 rfl ?_
      refine sm_get hn fg_X3_516 dX3_remember_44 rfl ?_
      refine sv_topI (y := nI 6) (hc.trans (by rw [h6])) ?_
      refine sv_iconst (nI 1) dX3_remember_47 (by decide +kernel) ?_
      refine sv_isubN dX3_remember_48 (by omega) ?_
      refine sm_put hn fp_X3_516 dX3_remember_49 rfl (by decide) ?_
      refine sv_iconst (nI 0) dX3_remember_52 (by decide +kernel) ?_
      refine sv_istore_n dX3_remember_53 (by decide) ?_
      refine (show m_i (m_a M 3 (r_sh (M.2.2.1 3) 4030)) 25 (nI (6 - 1)) = m_a (m_i M 25 (nI 5)) 3 (r_cp (r_sh (M.2.2.1 3) 4030) (M.2.2.1 0) 5 0) from by rw [r_cp_0]; rfl) ▸ ?_
      refine loop2 807 0 5 ((A_h A).drop 1) (m_i M 25 (nI 5)) (r_sh (M.2.2.1 3) 4030) rfl rfl (fun f2 => by unfold m_i m_a; simp only [Prod.mk.injEq, and_true]; funext j; by_cases hj : j = 25 <;> simp [upd, hj]) (by rw [List.length_drop, h6]) (by omega) (fun i hi => ?_) (by unfold s_rm; rw [if_pos h6]) (by omega) (by omega)
      have g := hJ.2.2.2.1.2.2 (i + 1) (by omega)
      rw [show ((A_h A).drop 1).getD i (0, [], []) = (A_h A).getD (i + 1) (0, [], []) from by simp [List.getD_eq_getElem?_getD, Nat.add_comm]]
      refine ⟨e_V_cg g.2 (fun k hk => ?_) g.1, g.2⟩
      show (if _ then _ else _) = _
      rw [if_pos (by omega), show 806 * i + k + 806 = 806 * (i + 1) + k by omega]
    · refine sv_aload_n dX3_remember_20 rfl ?_
      refine sm_get hn fg_X3_54 dX3_remember_21 rfl ?_
      refine sv_iload_n dX3_remember_24 rfl ?_
      refine sv_sipush (nI 806) dX3_remember_25 (by decide +kernel) ?_
      refine sv_isubN dX3_remember_28 (by omega) ?_
      rw [show k + 806 - 806 = k by omega]
      refine sv_aload_n dX3_remember_29 rfl ?_
      refine sm_get hn fg_X3_54 dX3_remember_30 rfl ?_
      refine sv_iload_n dX3_remember_33 rfl ?_
      refine sm_ld 3 (by decide) hn dX3_remember_34 (by show _ < 4836; omega) ?_
      refine sm_st 3 (by decide) hn dX3_remember_35 (by show _ < 4836; omega) ?_
      rw [m_a_0, m_a_a, r_sh_s]
      refine sv_iincN dX3_remember_36 rfl (by decide) ?_
      refine sv_goto (tgt := 13) dX3_remember_39 (by decide) ?_
      rw [show k + 806 + 1 = k + 1 + 806 by omega]
      exact ih (k + 1) h6 (by omega) (by omega)
  refine sx_body (by decide) (Nat.le_of_ble_eq_true rfl) ?_
  have hc : M.1 25 = nI (A_h A).length := hJ.2.2.2.1.2.1
  have hh6 := hJ.2.2.2.1.1
  refine sv_aload_n dX3_remember_0 rfl ?_
  refine sm_get hn fg_X3_516 dX3_remember_1 rfl ?_
  refine sv_topI hc ?_
  refine sv_bipush (nI 6) dX3_remember_4 (by decide +kernel) ?_
  refine sv_icmp_neN (tgt := 52) dX3_remember_6 (by decide) (by omega) (by omega) (fun c6 => ?_) (fun c6 => ?_)
  · refine sv_iconst (nI 0) dX3_remember_52 (by decide +kernel) ?_
    refine sv_istore_n dX3_remember_53 (by decide) ?_
    rw [show M = m_a M 3 (r_cp (M.2.2.1 3) (M.2.2.1 0) (A_h A).length 0) from by rw [r_cp_0, m_a_id]]
    exact loop2 807 0 _ (A_h A) M (M.2.2.1 3) hc rfl (fun f2 => rfl) rfl (by omega) hJ.2.2.2.1.2.2 (by unfold s_rm; rw [if_neg (by omega)]) (by omega) (by omega)
  · refine sv_sipush (nI 806) dX3_remember_9 (by decide +kernel) ?_
    refine sv_istore_n dX3_remember_12 (by decide) ?_
    rw [show M = m_a M 3 (r_sh (M.2.2.1 3) 0) from by rw [r_sh_0, m_a_id]]
    exact loop1 4031 0 (by omega) (by omega) (by omega)
end MRI
