set_option maxRecDepth 100000
section MPI
variable {G : sx_G} {h : Nat} {M M' : m_M} {σ : sx_St} {V : a_V} {A : a_A} {t : List Int32} {r : r_T} {S : p_S} {k : k_T}
theorem ct_remember2 (hn : h + 11 < sx_n σ) (hJ : m_J M A) : sx_Cp G 0 YX3_remember [.ref h] (m_S G h M σ) (fun v τ => v = none ∧ ∃ M2, τ = m_S G h M2 σ ∧ m_J M2 (s_rm A) ∧ M2.2.2.1 1 = M.2.2.1 1 ∧ M2.1 17 = M.1 17) := by
  have loop2 : ∀ q k c (hs : List a_V) (M0 : m_M) (f : Nat → Int64), M0.1 25 = nI c → M0.2.2.1 0 = M.2.2.1 0 → (∀ f2, m_i (m_a M0 3 f2) 25 (nI (c + 1)) = m_i (m_a M 3 f2) 25 (nI (c + 1))) → hs.length = c → c ≤ 5 → (∀ i, i < c → e_V (fun k => f (806 * i + k)) (hs.getD i (0, [], [])) ∧ w_V (hs.getD i (0, [], []))) → s_rm A = A_sh A (hs ++ [A_v A]) → k ≤ 806 → 807 ≤ k + q → sx_V G 0 YX3_remember 54 [some (.ref h), some (.int (nI k))] [] (m_S G h (m_a M0 3 (r_cp f (M.2.2.1 0) c k)) σ) (fun o τ => ∃ v, o = .inl v ∧ v = none ∧ ∃ M2, τ = m_S G h M2 σ ∧ m_J M2 (s_rm A) ∧ M2.2.2.1 1 = M.2.2.1 1 ∧ M2.1 17 = M.1 17) := by
    intro q
    induction q with
    | zero => intro k c hs M0 f e1 e2 e3 hcl hc5 hh hrm g1 g2; exact absurd g2 (by omega)
    | succ q ih =>
    intro k c hs M0 f e1 e2 e3 hcl hc5 hh hrm g1 g2
    refine sv_iload_n dX3_remember_54 rfl ?_
    refine sv_sipush (nI 806) dX3_remember_55 (by decide +kernel) ?_
    refine sv_icmp_geN (tgt := 88) dX3_remember_58 (by decide) (by omega) (by omega) (fun c58 => ?_) (fun c58 => ?_)
    · have hk : k = 806 := by omega
      subst hk
      refine sv_aload_n dX3_remember_88 rfl ?_
      refine sv_dup dX3_remember_89 rfl ?_
      refine sm_get hn fg_X3_516 dX3_remember_90 rfl ?_
      refine sv_topI (y := nI c) e1 ?_
      refine sv_iconst (nI 1) dX3_remember_93 (by decide +kernel) ?_
      refine sv_iaddN dX3_remember_94 ?_
      refine sm_put hn fp_X3_516 dX3_remember_95 rfl (by decide) ?_
      rw [hrm]
      refine sv_vret rfl dX3_remember_98 ?_
      exact ⟨_, rfl, rfl, _, rfl, m_J_rm hJ hs hcl hc5 hh (e3 _), by rw [e3]; exact ⟨rfl, rfl⟩⟩
    · refine sv_aload_n dX3_remember_61 rfl ?_
      refine sm_get hn fg_X3_54 dX3_remember_62 rfl ?_
      refine sv_sipush (nI 806) dX3_remember_65 (by decide +kernel) ?_
      refine sv_aload_n dX3_remember_68 rfl ?_
      refine sm_get hn fg_X3_516 dX3_remember_69 rfl ?_
      refine sv_topI (y := nI c) e1 ?_
      refine sv_imulN dX3_remember_72 ?_
      refine sv_iload_n dX3_remember_73 rfl ?_
      refine sv_iaddN dX3_remember_74 ?_
      refine sv_aload_n dX3_remember_75 rfl ?_
      refine sm_get hn fg_X3_17 dX3_remember_76 rfl ?_
      refine sv_iload_n dX3_remember_79 rfl ?_
      refine sm_nld hn dX3_remember_80 (by omega) ?_
      refine sv_topL (y := M.2.2.1 0 k) (by rw [show (m_a M0 3 (r_cp f (M.2.2.1 0) c k)).2.2.1 0 = M0.2.2.1 0 from rfl, e2]) ?_
      refine sm_st 3 (by decide) hn dX3_remember_81 (by show _ < 4836; omega) ?_
      rw [m_a_0, m_a_a, r_cp_s]
      refine sv_iincN dX3_remember_82 rfl (by decide) ?_
      refine sv_goto (tgt := 54) dX3_remember_85 (by decide) ?_
      exact ih (k + 1) c hs M0 f e1 e2 e3 hcl hc5 hh hrm (by omega) (by omega)
  have loop1 : ∀ q k, (A_h A).length = 6 → k ≤ 4030 → 4031 ≤ k + q → sx_V G 0 YX3_remember 13 [some (.ref h), some (.int (nI (k + 806)))] [] (m_S G h (m_a M 3 (r_sh (M.2.2.1 3) k)) σ) (fun o τ => ∃ v, o = .inl v ∧ v = none ∧ ∃ M2, τ = m_S G h M2 σ ∧ m_J M2 (s_rm A) ∧ M2.2.2.1 1 = M.2.2.1 1 ∧ M2.1 17 = M.1 17) := by
    have hc : M.1 25 = nI (A_h A).length := hJ.2.2.2.1.2.1
    intro q
    induction q with
    | zero => intro k h6 g1 g2; exact absurd g2 (by omega)
    | succ q ih =>
    intro k h6 g1 g2
    refine sv_iload_n dX3_remember_13 rfl ?_
    refine sv_sipush (nI 4836) dX3_remember_14 (by decide +kernel) ?_
    refine sv_icmp_geN (tgt := 42) dX3_remember_17 (by decide) (by omega) (by omega) (fun c17 => ?_) (fun c17 => ?_)
    · have hk : k = 4030 := by omega
      subst hk
      refine sv_aload_n dX3_remember_42 rfl ?_
      refine sv_dup dX3_remember_43 rfl ?_
      refine sm_get hn fg_X3_516 dX3_remember_44 rfl ?_
      refine sv_topI (y := nI 6) (hc.trans (by rw [h6])) ?_
      refine sv_iconst (nI 1) dX3_remember_47 (by decide +kernel) ?_
      refine sv_isubN dX3_remember_48 (by omega) ?_
      refine sm_put hn fp_X3_516 dX3_remember_49 rfl (by decide) ?_
      refine sv_iconst (nI 0) dX3_remember_52 (by decide +kernel) ?_
      refine sv_istore_n dX3_remember_53 (by decide) ?_
      refine (show m_i (m_a M 3 (r_sh (M.2.2.1 3) 4030)) 25 (nI (6 - 1)) = m_a (m_i M 25 (nI 5)) 3 (r_cp (r_sh (M.2.2.1 3) 4030) (M.2.2.1 0) 5 0) from by rw [r_cp_0]; rfl) ▸ ?_
      refine loop2 807 0 5 ((A_h A).drop 1) (m_i M 25 (nI 5)) (r_sh (M.2.2.1 3) 4030) rfl rfl (fun f2 => by unfold m_i m_a; simp only [Prod.mk.injEq, and_true]; funext j; by_cases hj : j = 25 <;> simp [upd, hj]) (by rw [List.length_drop, h6]) (by omega) (fun i hi => ?_) (by unfold s_rm; rw [if_pos h6]) (by omega) (by omega)
      have g := hJ.2.2.2.1.2.2 (i + 1) (by omega)
      rw [show ((A_h A).drop 1).getD i (0, [], []) = (A_h A).getD (i + 1) (0, [], []) from by simp [List.getD_eq_getElem?_getD, Nat.add_comm]]
      refine ⟨e_V_cg g.2 (fun k hk => ?_) g.1, g.2⟩
      show (if _ then _ else _) = _
      rw [if_pos (by omega), show 806 * i + k + 806 = 806 * (i + 1) + k by omega]
    · refine sv_aload_n dX3_remember_20 rfl ?_
      refine sm_get hn fg_X3_54 dX3_remember_21 rfl ?_
      refine sv_iload_n dX3_remember_24 rfl ?_
      refine sv_sipush (nI 806) dX3_remember_25 (by decide +kernel) ?_
      refine sv_isubN dX3_remember_28 (by omega) ?_
      rw [show k + 806 - 806 = k by omega]
      refine sv_aload_n dX3_remember_29 rfl ?_
      refine sm_get hn fg_X3_54 dX3_remember_30 rfl ?_
      refine sv_iload_n dX3_remember_33 rfl ?_
      refine sm_ld 3 (by decide) hn dX3_remember_34 (by show _ < 4836; omega) ?_
      refine sm_st 3 (by decide) hn dX3_remember_35 (by show _ < 4836; omega) ?_
      rw [m_a_0, m_a_a, r_sh_s]
      refine sv_iincN dX3_remember_36 rfl (by decide) ?_
      refine sv_goto (tgt := 13) dX3_remember_39 (by decide) ?_
      rw [show k + 806 + 1 = k + 1 + 806 by omega]
      exact ih (k + 1) h6 (by omega) (by omega)
  refine sx_body (by decide) (Nat.le_of_ble_eq_true rfl) ?_
  have hc : M.1 25 = nI (A_h A).length := hJ.2.2.2.1.2.1
  have hh6 := hJ.2.2.2.1.1
  refine sv_aload_n dX3_remember_0 rfl ?_
  refine sm_get hn fg_X3_516 dX3_remember_1 rfl ?_
  refine sv_topI hc ?_
  refine sv_bipush (nI 6) dX3_remember_4 (by decide +kernel) ?_
  refine sv_icmp_neN (tgt := 52) dX3_remember_6 (by decide) (by omega) (by omega) (fun c6 => ?_) (fun c6 => ?_)
  · refine sv_iconst (nI 0) dX3_remember_52 (by decide +kernel) ?_
    refine sv_istore_n dX3_remember_53 (by decide) ?_
    rw [show M = m_a M 3 (r_cp (M.2.2.1 3) (M.2.2.1 0) (A_h A).length 0) from by rw [r_cp_0, m_a_id]]
    exact loop2 807 0 _ (A_h A) M (M.2.2.1 3) hc rfl (fun f2 => rfl) rfl (by omega) hJ.2.2.2.1.2.2 (by unfold s_rm; rw [if_neg (by omega)]) (by omega) (by omega)
  · refine sv_sipush (nI 806) dX3_remember_9 (by decide +kernel) ?_
    refine sv_istore_n dX3_remember_12 (by decide) ?_
    rw [show M = m_a M 3 (r_sh (M.2.2.1 3) 0) from by rw [r_sh_0, m_a_id]]
    exact loop1 4031 0 (by omega) (by omega) (by omega)
section
variable {d : Nat} {Y : sx_Y} {pc : Nat} {L : List (Option Value)} {st : List Value} {Q : sx_O → sx_St → Prop}
theorem sm_putd {idx : Nat} (hn : h + 11 < sx_n σ) (hf : sx_fp Y.1.cls Y.1.name idx 2 3 (.array .long)) (hd : decode Y.2.1 pc = .ok (.putfield idx, 3)) (kk : sx_V G d Y (pc + 3) L st (m_S G h (m_r M true) σ) Q) : sx_V G d Y pc L (.ref (h + 2) :: .ref h :: st) (m_S G h M σ) Q :=
  sv_put hf hd (m_S_0 hn) rfl rfl (show 3 < 28 by decide) (by rw [show (m_O h M).set 3 (.ref (h + 2)) = m_O h (m_r M true) from rfl, m_S_up0 (M := M) (M' := m_r M true) hn (fun _ => rfl)]; exact kk)
theorem sm_putn {idx : Nat} (hn : h + 11 < sx_n σ) (hf : sx_fp Y.1.cls Y.1.name idx 2 3 (.array .long)) (hd : decode Y.2.1 pc = .ok (.putfield idx, 3)) (kk : sx_V G d Y (pc + 3) L st (m_S G h (m_r M false) σ) Q) : sx_V G d Y pc L (.ref (h + 1) :: .ref h :: st) (m_S G h M σ) Q :=
  sv_put hf hd (m_S_0 hn) rfl rfl (show 3 < 28 by decide) (by rw [show (m_O h M).set 3 (.ref (h + 1)) = m_O h (m_r M false) from rfl, m_S_up0 (M := M) (M' := m_r M false) hn (fun _ => rfl)]; exact kk)
end
theorem m_Z_r {b : Bool} (h : m_Z t r M) : m_Z t r (m_r M b) := by
  cases r with
  | inr k => exact h
  | inl e => exact h
/-- what load and the queries leave of the rest -/
def A_er (A : a_A) (c p : Int32) : a_A := A_sp (A_sc (A_si (A_st A 0) []) c) p
theorem m_J_P {M1 M2 : m_M} {c p : Int32} (hJ : m_J M A) (hr : M2.2.1 = false) (hf : ∀ k, k = 5 ∨ k = 25 ∨ k = 27 → M2.1 k = M.1 k) (h0 : M2.1 0 = 0) (h8 : M2.1 8 = nI 0) (hl : ∀ j, j ≠ 1 → M2.2.2.1 j = M.2.2.1 j) (hi : ∀ j, j = 0 ∨ j = 5 ∨ j = 6 → M2.2.2.2 j = M.2.2.2 j) (hc : M2.1 14 = c) (hp : M2.1 15 = p) : m_J M2 (A_er A c p) := by
  obtain ⟨g1, g2, g3, g4, g5, g6, g7, g8, g9, g10, g11⟩ := hJ
  refine ⟨hr, by rw [hl 0 (by decide)]; exact g2, g3, ⟨g4.1, by rw [hf 25 (Or.inr (Or.inl rfl))]; exact g4.2.1, by rw [hl 3 (by decide)]; exact g4.2.2⟩, by rw [hi 5 (Or.inr (Or.inl rfl)), hl 2 (by decide)]; exact g5, ⟨g6.1, by rw [hf 5 (Or.inl rfl)]; exact g6.2.1, by rw [hi 0 (Or.inl rfl)]; exact g6.2.2⟩, ⟨Nat.zero_le _, h8, fun i hi => absurd hi (Nat.not_lt_zero i)⟩, hc, hp, ⟨g10.1, by rw [hf 27 (Or.inr (Or.inr rfl))]; exact g10.2.1, by rw [hi 6 (Or.inr (Or.inr rfl))]; exact g10.2.2⟩, h0⟩
def sp_loa (A : a_A) : Int32 × a_A := match p_tx (A_i A) with
  | .inl e => (-4, A_er A (nI e.1) (nI e.2))
  | .inr V => (nI (p_tot V), A_sn (A_sv (s_rm (A_er A 0 (-1))) V) [])
theorem p_all_s {q : Nat} : p_all t (q + 1) S k = p_bind (p_bind (p_st t S k) (p_nd t)) (fun y => if y.2.1 = 0 then .inr y.1 else p_all t q y.1 y.2) := by
  show p_bind (p_st t S k) _ = _
  cases p_st t S k with
  | inl e => rfl
  | inr x =>
    show (if p_sy t x.2 59 = true then (if (p_nx t x.2).1 = 0 then .inr x.1 else p_all t q x.1 (p_nx t x.2)) else .inl (p_er 1 x.2)) = p_bind (p_nd t x) _
    unfold p_nd
    by_cases h : p_sy t x.2 59 = true
    · rw [if_pos h, if_pos h]; rfl
    · rw [if_neg h, if_neg h]; rfl
theorem p_tot_se (n : Nat) (l : List (Option Nat × Bool)) : p_tot (p_se n V l) = p_tot V := by
  have : ∀ m, a_all (p_se n V l) m = a_all V m := by
    intro m
    induction m with
    | zero => rfl
    | succ m ih =>
      show a_all (p_se n V l) m + (a_b (p_se n V l) m).2.2.length = a_all V m + (a_b V m).2.2.length
      rw [ih, p_se_bb]
  unfold p_tot
  rw [(p_se_b n l).1, this]
theorem r_0 {f : Nat → Int64} (hf : ∀ i, i < 806 → f i = 0) : ∀ i, i < 806 → i ≠ 0 → vp_updL f 0 30 i = 0 := fun i h1 h2 => by rw [uL_n h2]; exact hf i h1
theorem m_D_0 {f : Nat → Int64} (hf : ∀ i, i < 806 → f i = 0) (hr : M.2.1 = true) (h1 : M.2.2.1 1 = vp_updL f 0 30) (h16 : M.1 16 = b_I false) (h17 : M.1 17 = nI 0) : m_D ((30, [], []), false, []) M := by
  have hw : m_w M = vp_updL f 0 30 := by unfold m_w; rw [hr]; exact h1
  unfold m_D
  rw [hw]
  refine ⟨hr, ⟨by rw [uL_s]; rfl, by rw [r_0 hf _ (by decide) (by decide)]; rfl, by rw [r_0 hf _ (by decide) (by decide)]; rfl, fun b hb => absurd hb (Nat.not_lt_zero b)⟩, fun s hs => absurd hs (Nat.not_lt_zero s), fun s hs j g1 g2 => r_0 hf _ (by omega) (by omega), fun b _ g1 j g2 => r_0 hf _ (by omega) (by omega), h16, h17, fun s hs => absurd hs (Nat.not_lt_zero s)⟩
/-- copying the draft -/
def r_dn (p q : Nat → Int64) (k : Nat) : Nat → Int64 := fun j => if j < k then q j else p j
theorem r_dn_s (p q : Nat → Int64) (k : Nat) : vp_updL (r_dn p q k) k (q k) = r_dn p q (k + 1) := by
  funext j
  by_cases hj : j = k
  · subst hj
    rw [uL_s]
    show _ = (if _ then _ else _)
    rw [if_pos (by omega)]
  · rw [uL_n hj]
    show (if _ then _ else _) = (if _ then _ else _)
    by_cases h : j < k
    · rw [if_pos h, if_pos (by omega)]
    · rw [if_neg h, if_neg (by omega)]
theorem r_dn_0 (p q : Nat → Int64) : r_dn p q 0 = p := by funext j; exact if_neg (by omega)
theorem sp_loa_e {e : p_E} (h : p_tx (A_i A) = .inl e) : sp_loa A = (-4, A_er A (nI e.1) (nI e.2)) := by unfold sp_loa; rw [h]
theorem sp_loa_v {V : a_V} (h : p_tx (A_i A) = .inr V) : sp_loa A = (nI (p_tot V), A_sn (A_sv (s_rm (A_er A 0 (-1))) V) []) := by unfold sp_loa; rw [h]
theorem st_pr {q : Nat} {z : p_S × k_T} (hb : b_B t) (hS : p_ok S) (hk : k_ok t k) (hq : t.length + 1 ≤ k.2.1 + (q + 1)) (h : p_bind (p_st t S k) (p_nd t) = .inr z) : p_ok z.1 ∧ t.length + 1 ≤ z.2.2.1 + q := by
  obtain ⟨x, h1, h2⟩ := p_bind_r h
  have g := p_st_ok hb hS hk h1
  unfold p_nd at h2
  by_cases h3 : p_sy t x.2 59 = true
  · rw [if_pos h3] at h2
    cases h2
    refine ⟨g.1, ?_⟩
    show t.length + 1 ≤ (p_nx t x.2).2.1 + q
    have g1 := (k_ok_s g.2.1).1
    have g2 := g.2.1.1
    have g3 := g.2.2
    omega
  · rw [if_neg h3] at h2; cases h2
theorem st_end (h : k.1 = 0) : p_st t S k = .inl (p_er 1 k) := by
  have key : ∀ i, 1 ≤ i → i < 16 → p_is t k i = false := fun i h1 h2 => by
    cases hz : p_is t k i with
    | false => rfl
    | true => have := p_is_k h2 h1 hz; omega
  exact st_no (key 1 (by decide) (by decide)) (key 2 (by decide) (by decide)) (key 3 (by decide) (by decide)) (key 4 (by decide) (by decide))
theorem ct_load (hn : h + 11 < sx_n σ) (hJ : m_J M A) (hb : b_B (A_i A)) (hW : g_S G) (ht : t = A_i A) : sx_C G 13 YX3_load [.ref h] (m_S G h M σ) (fun o τ => ∃ v, o = .inl v ∧ v = some (.int (sp_loa A).1) ∧ ∃ M2, τ = m_S G h M2 σ ∧ m_J M2 (sp_loa A).2) := by
  have lp3 : ∀ q n M6 Aq Vq, m_J M6 Aq → w_V Vq → e_V (M6.2.2.1 1) Vq → M6.1 17 = nI (p_tot Vq) → sp_loa A = (nI (p_tot Vq), A_sn (A_sv Aq Vq) []) → n ≤ 806 → 807 ≤ n + q → sx_V G 13 YX3_load 126 [some (.ref h), some (.int (nI n))] [] (m_S G h (m_a M6 0 (r_dn (M6.2.2.1 0) (M6.2.2.1 1) n)) σ) (fun o τ => ∃ v, o = .inl v ∧ v = some (.int (sp_loa A).1) ∧ ∃ M2, τ = m_S G h M2 σ ∧ m_J M2 (sp_loa A).2) := by
    intro q
    induction q with
    | zero => intro n M6 Aq Vq a1 a2 a3 a4 a5 g1 g2; exact absurd g2 (by omega)
    | succ q ih =>
    intro n M6 Aq Vq a1 a2 a3 a4 a5 g1 g2
    refine sv_iload_n dX3_load_126 rfl ?_
    refine sv_sipush (nI 806) dX3_load_127 (by decide +kernel) ?_
    refine sv_icmp_geN (tgt := 151) dX3_load_130 (by decide) (by omega) (by omega) (fun c130 => ?_) (fun c130 => ?_)
    · obtain rfl : n = 806 := by omega
      refine sv_aload_n dX3_load_151 rfl ?_
      refine sv_iconst (nI 0) dX3_load_152 (by decide +kernel) ?_
      refine sm_put hn fp_X3_138 dX3_load_153 rfl (by decide) ?_
      refine sv_aload_n dX3_load_156 rfl ?_
      refine sm_get hn fg_X3_389 dX3_load_157 rfl ?_
      refine sv_iret rfl rfl dX3_load_160 ?_
      exact ⟨_, rfl, r_I (by rw [a5]; exact a4), _, rfl, by rw [a5]; exact m_J_n0 (f := r_dn (M6.2.2.1 0) (M6.2.2.1 1) 806) a1 (e_V_cg a2 (fun k hk => if_pos hk) a3) a2⟩
    · refine sv_aload_n dX3_load_133 rfl ?_
      refine sm_get hn fg_X3_17 dX3_load_134 rfl ?_
      refine sv_iload_n dX3_load_137 rfl ?_
      refine sv_aload_n dX3_load_138 rfl ?_
      refine sm_get hn fg_X3_21 dX3_load_139 rfl ?_
      refine sv_iload_n dX3_load_142 rfl ?_
      refine sm_ld 1 (by decide) hn dX3_load_143 (by show _ < 806; omega) ?_
      refine sv_top (w := .long (M6.2.2.1 1 n)) rfl ?_
      refine sm_nst hn dX3_load_144 (by omega) ?_
      unfold m_n
      rw [m_a_0, m_a_a, r_dn_s]
      refine sv_iincN dX3_load_145 rfl (by decide) ?_
      refine sv_goto (tgt := 126) dX3_load_148 (by decide) ?_
      exact ih (n + 1) M6 Aq Vq a1 a2 a3 a4 a5 (by omega) (by omega)
  have mid102 : ∀ r5 M5, (∀ k, k = 5 ∨ k = 25 ∨ k = 27 → M5.1 k = M.1 k) → M5.1 0 = 0 → M5.1 8 = nI 0 → (∀ j, j ≠ 1 → M5.2.2.1 j = M.2.2.1 j) → (∀ j, j = 0 ∨ j = 5 ∨ j = 6 → M5.2.2.2 j = M.2.2.2 j) → m_Z t r5 M5 → (∀ e, r5 = .inl e → p_tx (A_i A) = .inl e) → (∀ k5, r5 = .inr k5 → ∃ Vq, p_tx (A_i A) = .inr Vq ∧ w_V Vq ∧ e_V (M5.2.2.1 1) Vq ∧ M5.1 17 = nI (p_tot Vq)) → sx_V G 13 YX3_load 102 [some (.ref h), none] [] (m_S G h M5 σ) (fun o τ => ∃ v, o = .inl v ∧ v = some (.int (sp_loa A).1) ∧ ∃ M2, τ = m_S G h M2 σ ∧ m_J M2 (sp_loa A).2) := by
    intro r5 M5 f5a f5b f5c f5d f5e hZ5 k1 k2
    have hZ6 := m_Z_r (b := false) hZ5
    refine sv_aload_n dX3_load_102 rfl ?_
    refine sv_aload_n dX3_load_103 rfl ?_
    refine sm_get hn fg_X3_17 dX3_load_104 rfl ?_
    refine sm_putn hn fp_X3_24 dX3_load_107 ?_
    refine sv_aload_n dX3_load_110 rfl ?_
    refine sv_cvR _ (ct_gd hn hZ6) okX3_good kv_X3_279 (sx_rd_c (m_S_0 hn)) rfl dX3_load_111 rfl rfl (by decide) (Nat.le_of_ble_eq_true rfl) ?_
    refine sv_if_neB (tgt := 120) dX3_load_114 (by decide) (fun c114 => ?_) (fun c114 => ?_)
    · obtain ⟨k5, rfl⟩ := r_g_t c114
      obtain ⟨Vq, kk1, kk2, kk3, kk4⟩ := k2 k5 rfl
      have hJ7 : m_J (m_r M5 false) (A_er A 0 (-1)) := m_J_P (M1 := M5) hJ rfl f5a f5b f5c f5d f5e hZ6.2.2.2.2.2.1 hZ6.2.2.2.2.2.2
      refine sv_aload_n dX3_load_120 rfl ?_
      refine sv_cvP _ (ct_remember2 hn hJ7) okX3_remember kv_X3_175 (sx_rd_c (m_S_0 hn)) rfl dX3_load_121 rfl rfl (by decide) (Nat.le_of_ble_eq_true rfl) ?_
      intro v8 t8 hp8
      obtain ⟨rfl, M9, rfl, hJ9, hd9, ht9a⟩ := hp8
      have he9 : e_V (M9.2.2.1 1) Vq := by rw [hd9]; exact kk3
      have ht9 : M9.1 17 = nI (p_tot Vq) := ht9a.trans kk4
      have hw9 := kk2
      have hsp9 := sp_loa_v kk1
      refine sv_iconst (nI 0) dX3_load_124 (by decide +kernel) ?_
      refine sv_istore_n dX3_load_125 (by decide) ?_
      have hl := lp3 807 0 M9 _ _ hJ9 hw9 he9 ht9 hsp9 (by omega) (by omega)
      rw [r_dn_0, m_a_id] at hl
      exact hl
    · obtain ⟨e, rfl⟩ := r_g_f c114
      obtain ⟨ez, ke, hq, hpl⟩ := hZ6
      have hJ7 : m_J (m_r M5 false) (A_er A (nI e.1) (nI e.2)) := m_J_P (M1 := M5) hJ rfl f5a f5b f5c f5d f5e hq.2.2.2.2.2.1 (hq.2.2.2.2.2.2.trans (by rw [if_neg ez, hpl]))
      refine sv_bipush (-4) dX3_load_117 (by decide +kernel) ?_
      refine sv_iret rfl rfl dX3_load_119 ?_
      exact ⟨_, rfl, r_I (by rw [sp_loa_e (k1 e rfl)]), _, rfl, by rw [sp_loa_e (k1 e rfl)]; exact hJ7⟩
  have mid91 : ∀ x M4, (∀ k, k = 5 ∨ k = 25 ∨ k = 27 → M4.1 k = M.1 k) → M4.1 0 = 0 → M4.1 8 = nI 0 → (∀ j, j ≠ 1 → M4.2.2.1 j = M.2.2.1 j) → (∀ j, j = 0 ∨ j = 5 ∨ j = 6 → M4.2.2.2 j = M.2.2.2 j) → m_W t x M4 → (∀ y, x = .inr y → p_ok y.1 ∧ y.2.1 = 0) → p_bind x (fun y => .inr y.1) = (p_all t 701 ((30, [], []), false, []) (k_n t 0)) → sx_V G 13 YX3_load 91 [some (.ref h), none] [] (m_S G h M4 σ) (fun o τ => ∃ v, o = .inl v ∧ v = some (.int (sp_loa A).1) ∧ ∃ M2, τ = m_S G h M2 σ ∧ m_J M2 (sp_loa A).2) := by
    intro x M4 f4a f4b f4c f4d f4e hW4 k4 e4
    have hZ4 := m_W_Z hW4
    refine sv_aload_n dX3_load_91 rfl ?_
    refine sv_cvR _ (ct_gd hn hZ4) okX3_good kv_X3_279 (sx_rd_c (m_S_0 hn)) rfl dX3_load_92 rfl rfl (by decide) (Nat.le_of_ble_eq_true rfl) ?_
    refine sv_if_eqB (tgt := 102) dX3_load_95 (by decide) (fun c95 => ?_) (fun c95 => ?_)
    · obtain ⟨e, ek⟩ := r_g_f c95
      obtain ⟨e0, rfl⟩ : ∃ e0, x = .inl e0 := by
        cases x with
        | inl e0 => exact ⟨e0, rfl⟩
        | inr y => cases ek
      have f9a := f4a
      have f9b := f4b
      have f9c := f4c
      have f9d := f4d
      have f9e := f4e
      have hZ9 := hZ4
      have k19 : ∀ e, w_r (.inl e0) = .inl e → p_tx (A_i A) = .inl e := fun e z => by cases z; unfold p_tx; rw [← ht, ← e4]; rfl
      have k29 : ∀ k5, w_r (.inl e0) = .inr k5 → ∃ Vq, p_tx (A_i A) = .inr Vq ∧ w_V Vq ∧ e_V (M4.2.2.1 1) Vq ∧ M4.1 17 = nI (p_tot Vq) := fun k5 z => by cases z
      exact mid102 _ _ f9a f9b f9c f9d f9e hZ9 k19 k29
    · obtain ⟨k9, ek⟩ := r_g_t c95
      obtain ⟨y, rfl⟩ : ∃ y, x = .inr y := by
        cases x with
        | inl e0 => cases ek
        | inr y => exact ⟨y, rfl⟩
      have k4 := k4 y rfl
      refine sv_aload_n dX3_load_98 rfl ?_
      refine sv_cvP _ (ct_selectAll hn hW4.2 k4.1) okX3_selectAll kv_X3_443 (sx_rd_c (m_S_0 hn)) rfl dX3_load_99 rfl rfl (by decide) (Nat.le_of_ble_eq_true rfl) ?_
      intro v5 t5 hp5
      obtain ⟨rfl, M9, rfl, hV9, he9, hf9⟩ := hp5
      have hP9 := m_P_V hV9
      have f9a : ∀ k, k = 5 ∨ k = 25 ∨ k = 27 → M9.1 k = M.1 k := fun k hk => (hP9.2.1 k (by omega)).trans (f4a k hk)
      have f9b : M9.1 0 = 0 := (hP9.2.1 0 (by decide)).trans f4b
      have f9c : M9.1 8 = nI 0 := (hP9.2.1 8 (by decide)).trans f4c
      have f9d : ∀ j, j ≠ 1 → M9.2.2.1 j = M.2.2.1 j := fun j hj => (hP9.2.2.1 j hj).trans (f4d j hj)
      have f9e : ∀ j, j = 0 ∨ j = 5 ∨ j = 6 → M9.2.2.2 j = M.2.2.2 j := fun j hj => (hP9.2.2.2 j (by omega) (by omega)).trans (f4e j hj)
      have hZ9 : m_Z t (.inr y.2) M9 := m_Q_V hW4.1 hV9
      have hww := p_se_o (n := y.1.1.2.2.length) k4.1.1 k4.1.2.2 (Nat.le_refl _)
      have hrow9 : m_w M9 = M9.2.2.1 1 := by unfold m_w; rw [hV9.1, hW4.2.1]; rfl
      have k19 : ∀ e, (Sum.inr y.2 : r_T) = .inl e → p_tx (A_i A) = .inl e := fun e z => by cases z
      have k29 : ∀ k5, (Sum.inr y.2 : r_T) = .inr k5 → ∃ Vq, p_tx (A_i A) = .inr Vq ∧ w_V Vq ∧ e_V (M9.2.2.1 1) Vq ∧ M9.1 17 = nI (p_tot Vq) := fun k5 z => ⟨p_se y.1.1.2.2.length y.1.1 y.1.2.2, by unfold p_tx; rw [← ht, ← e4]; rfl, hww.1, by rw [← hrow9]; exact he9, by rw [p_tot_se, hf9]; exact hW4.2.2.2.2.2.2.2.1⟩
      exact mid102 _ _ f9a f9b f9c f9d f9e hZ9 k19 k29
  have lp2 : ∀ q x M4, (∀ k, k = 5 ∨ k = 25 ∨ k = 27 → M4.1 k = M.1 k) → M4.1 0 = 0 → M4.1 8 = nI 0 → (∀ j, j ≠ 1 → M4.2.2.1 j = M.2.2.1 j) → (∀ j, j = 0 ∨ j = 5 ∨ j = 6 → M4.2.2.2 j = M.2.2.2 j) → m_W t x M4 → (∀ y, x = .inr y → p_ok y.1 ∧ t.length + 1 ≤ y.2.2.1 + q) → p_bind x (fun y => if y.2.1 = 0 then .inr y.1 else p_all t q y.1 y.2) = (p_all t 701 ((30, [], []), false, []) (k_n t 0)) → 0 < q → sx_V G 13 YX3_load 70 [some (.ref h), none] [] (m_S G h M4 σ) (fun o τ => ∃ v, o = .inl v ∧ v = some (.int (sp_loa A).1) ∧ ∃ M2, τ = m_S G h M2 σ ∧ m_J M2 (sp_loa A).2) := by
    intro q
    induction q with
    | zero => intro x M4 f4a f4b f4c f4d f4e hW4 k4 e4 h0; exact absurd h0 (by decide)
    | succ q ih =>
    intro x M4 f4a f4b f4c f4d f4e hW4 k4 e4 h0
    have hZ4 := m_W_Z hW4
    refine sv_aload_n dX3_load_70 rfl ?_
    refine sv_cvR _ (ct_gd hn hZ4) okX3_good kv_X3_279 (sx_rd_c (m_S_0 hn)) rfl dX3_load_71 rfl rfl (by decide) (Nat.le_of_ble_eq_true rfl) ?_
    refine sv_if_eqB (tgt := 91) dX3_load_74 (by decide) (fun c74 => ?_) (fun c74 => ?_)
    · obtain ⟨e, ek⟩ := r_g_f c74
      obtain ⟨e0, rfl⟩ : ∃ e0, x = .inl e0 := by
        cases x with
        | inl e0 => exact ⟨e0, rfl⟩
        | inr y => cases ek
      have f8a := f4a
      have f8b := f4b
      have f8c := f4c
      have f8d := f4d
      have f8e := f4e
      have hW8 := hW4
      have k48 : ∀ y, (Sum.inl e0 : p_E ⊕ (p_S × k_T)) = .inr y → p_ok y.1 ∧ y.2.1 = 0 := fun y z => by cases z
      have e48 : p_bind (Sum.inl e0 : p_E ⊕ (p_S × k_T)) (fun y => .inr y.1) = (p_all t 701 ((30, [], []), false, []) (k_n t 0)) := e4
      exact mid91 _ _ f8a f8b f8c f8d f8e hW8 k48 e48
    · obtain ⟨k9, ek⟩ := r_g_t c74
      obtain ⟨y, rfl⟩ : ∃ y, x = .inr y := by
        cases x with
        | inl e0 => cases ek
        | inr y => exact ⟨y, rfl⟩
      have k4 := k4 y rfl
      have hk3 := hW4.1.2.2.1.2.2.1
      refine sv_aload_n dX3_load_77 rfl ?_
      refine sm_get hn fg_X3_295 dX3_load_78 rfl ?_
      refine sv_topI (y := nI y.2.1) hW4.1.2.1.2.2.2.2.1 ?_
      refine sv_if_eqN (tgt := 91) dX3_load_81 (by decide) (by omega) (fun c81 => ?_) (fun c81 => ?_)
      · have f8a := f4a
        have f8b := f4b
        have f8c := f4c
        have f8d := f4d
        have f8e := f4e
        have hW8 := hW4
        have k48 : ∀ z, (Sum.inr y : p_E ⊕ (p_S × k_T)) = .inr z → p_ok z.1 ∧ z.2.1 = 0 := fun z hz => by cases hz; exact ⟨k4.1, c81⟩
        have e48 : p_bind (Sum.inr y : p_E ⊕ (p_S × k_T)) (fun y => .inr y.1) = (p_all t 701 ((30, [], []), false, []) (k_n t 0)) := by rw [← e4]; exact (if_pos c81).symm
        exact mid91 _ _ f8a f8b f8c f8d f8e hW8 k48 e48
      · have hne : ¬ y.2.1 = 0 := by omega
        have hq0 : 0 < q := by
          have g1 := hW4.1.2.2.1.2.2.2.2.1 hne
          have g2 := hW4.1.2.2.1.2.1
          have g3 := k4.2
          omega
        refine sv_aload_n dX3_load_84 rfl ?_
        refine sv_cvP _ (ct_parseStatement hn hW4.1 hW4.2 k4.1 hW) okX3_parseStatement kv_X3_440 (sx_rd_c (m_S_0 hn)) rfl dX3_load_85 rfl rfl (by decide) (Nat.le_of_ble_eq_true rfl) ?_
        intro v5 t5 hp5
        obtain ⟨rfl, M6, rfl, hP6, hW6⟩ := hp5
        have f6a : ∀ k, k = 5 ∨ k = 25 ∨ k = 27 → M6.1 k = M.1 k := fun k hk => (hP6.2.1 k (by omega)).trans (f4a k hk)
        have f6b : M6.1 0 = 0 := (hP6.2.1 0 (by decide)).trans f4b
        have f6c : M6.1 8 = nI 0 := (hP6.2.1 8 (by decide)).trans f4c
        have f6d : ∀ j, j ≠ 1 → M6.2.2.1 j = M.2.2.1 j := fun j hj => (hP6.2.2.1 j hj).trans (f4d j hj)
        have f6e : ∀ j, j = 0 ∨ j = 5 ∨ j = 6 → M6.2.2.2 j = M.2.2.2 j := fun j hj => (hP6.2.2.2 j (by omega) (by omega)).trans (f4e j hj)
        have k46 : ∀ z, p_bind (p_st t y.1 y.2) (p_nd t) = .inr z → p_ok z.1 ∧ t.length + 1 ≤ z.2.2.1 + q := fun z hz => st_pr hW4.1.2.2.2.1 k4.1 hW4.1.2.2.1 k4.2 hz
        have e46 : p_bind (p_bind (p_st t y.1 y.2) (p_nd t)) (fun y => if y.2.1 = 0 then .inr y.1 else p_all t q y.1 y.2) = (p_all t 701 ((30, [], []), false, []) (k_n t 0)) := by rw [← p_all_s, ← e4]; exact (if_neg hne).symm
        refine sv_goto (tgt := 70) dX3_load_88 (by decide) ?_
        exact ih _ _ f6a f6b f6c f6d f6e hW6 k46 e46 hq0
  have lp1 : ∀ q n f, n ≤ 806 → 807 ≤ n + q → (∀ i, i < n → f i = 0) → sx_V G 13 YX3_load 17 [some (.ref h), some (.int (nI n))] [] (m_S G h (m_a (m_i (m_i (m_i M 0 (nI 0)) 16 (b_I false)) 17 (nI 0)) 1 f) σ) (fun o τ => ∃ v, o = .inl v ∧ v = some (.int (sp_loa A).1) ∧ ∃ M2, τ = m_S G h M2 σ ∧ m_J M2 (sp_loa A).2) := by
    have h8 : M.1 8 = nI t.length := by rw [ht]; exact hJ.2.2.2.2.2.2.1.2.1
    have hi7 : t.length ≤ 700 := by rw [ht]; exact hJ.2.2.2.2.2.2.1.1
    have hig : ∀ i, i < t.length → M.2.2.2 2 i = t.getD i 0 := by rw [ht]; exact hJ.2.2.2.2.2.2.1.2.2
    have hbt : b_B t := by rw [ht]; exact hb
    intro q
    induction q with
    | zero => intro n f g1 g2; exact absurd g2 (by omega)
    | succ q ih =>
    intro n f g1 g2 hf
    refine sv_iload_n dX3_load_17 rfl ?_
    refine sv_sipush (nI 806) dX3_load_18 (by decide +kernel) ?_
    refine sv_icmp_geN (tgt := 37) dX3_load_21 (by decide) (by omega) (by omega) (fun c21 => ?_) (fun c21 => ?_)
    · have hf : ∀ i, i < 806 → f i = 0 := fun i hi => hf i (by omega)
      refine sv_aload_n dX3_load_37 rfl ?_
      refine sm_get hn fg_X3_21 dX3_load_38 rfl ?_
      refine sv_iconst (nI 0) dX3_load_41 (by decide +kernel) ?_
      refine sv_ldc2 q2043 dX3_load_42 ?_
      refine sm_st 1 (by decide) hn dX3_load_45 (by show _ < 806; omega) ?_
      rw [show (m_a _ 1 f).2.2.1 1 = f from m_a_0 _ _, m_a_a]
      refine sv_aload_n dX3_load_46 rfl ?_
      refine sv_aload_n dX3_load_47 rfl ?_
      refine sm_get hn fg_X3_21 dX3_load_48 rfl ?_
      refine sm_putd hn fp_X3_24 dX3_load_51 ?_
      refine sv_aload_n dX3_load_54 rfl ?_
      refine sv_cvP _ (ct_beginText (M := m_r (m_a (m_i (m_i (m_i M 0 (nI 0)) 16 (b_I false)) 17 (nI 0)) 1 (vp_updL f 0 30)) true) (t := t) hn h8 hi7 hig hbt) okX3_beginText kv_X3_437 (sx_rd_c (m_S_0 hn)) rfl dX3_load_55 rfl rfl (by decide) (Nat.le_of_ble_eq_true rfl) ?_
      intro v3 t3 hp3
      obtain ⟨rfl, M3, rfl, hQ3, h32, h38, h3k⟩ := hp3
      have hD3 : m_D ((30, [], []), false, []) M3 := m_D_0 (f := f) hf (by rw [h32]; rfl) (by rw [h32]; rfl) ((h3k 16 (by decide)).trans rfl) ((h3k 17 (by decide)).trans rfl)
      have f3a : ∀ k, k = 5 ∨ k = 25 ∨ k = 27 → M3.1 k = M.1 k := fun k hk => by rcases hk with rfl | rfl | rfl; exact h3k 5 (by decide); exact h3k 25 (by decide); exact h3k 27 (by decide)
      have f3b : M3.1 0 = 0 := (h3k 0 (by decide)).trans nI_0
      have f3c := h38
      have f3d : ∀ j, j ≠ 1 → M3.2.2.1 j = M.2.2.1 j := fun j hj => by rw [h32]; exact if_neg hj
      have f3e : ∀ j, j = 0 ∨ j = 5 ∨ j = 6 → M3.2.2.2 j = M.2.2.2 j := fun j _ => by rw [h32]; rfl
      have hZ30 : m_Z t (.inr (k_n t 0)) M3 := hQ3
      have hk3 := hQ3.2.2.1.2.2.1
      refine sv_aload_n dX3_load_58 rfl ?_
      refine sm_get hn fg_X3_295 dX3_load_59 rfl ?_
      refine sv_topI (y := nI (k_n t 0).1) hQ3.2.1.2.2.2.2.1 ?_
      refine sv_if_neN (tgt := 70) dX3_load_62 (by decide) (by omega) (fun c62 => ?_) (fun c62 => ?_)
      · have f7a := f3a
        have f7b := f3b
        have f7c := f3c
        have f7d := f3d
        have f7e := f3e
        have hW7 : m_W t (.inr (((30, [], []), false, []), k_n t 0)) M3 := ⟨hQ3, hD3⟩
        have k47 : ∀ y, (Sum.inr (((30, [], []), false, []), k_n t 0) : p_E ⊕ (p_S × k_T)) = .inr y → p_ok y.1 ∧ t.length + 1 ≤ y.2.2.1 + 701 := fun y z => by cases z; exact ⟨p_ok_0, by have := hQ3.1.1; omega⟩
        have e47 : p_bind (Sum.inr (((30, [], []), false, []), k_n t 0) : p_E ⊕ (p_S × k_T)) (fun y => if y.2.1 = 0 then .inr y.1 else p_all t 701 y.1 y.2) = (p_all t 701 ((30, [], []), false, []) (k_n t 0)) := if_neg (by show ¬ (k_n t 0).1 = 0; omega)
        exact sx_loc [some (.ref h), none] ⟨rfl, trivial⟩ (lp2 701 _ _ f7a f7b f7c f7d f7e hW7 k47 e47 (by decide))
      · refine sv_aload_n dX3_load_65 rfl ?_
        refine sv_iconst (nI 1) dX3_load_66 (by decide +kernel) ?_
        refine sv_cvP _ (ct_er (c := 1) hn hZ30 (by decide) (by decide)) okX3_errs kv_X3_337 (sx_rd_c (m_S_0 hn)) rfl dX3_load_67 rfl rfl (by decide) (Nat.le_of_ble_eq_true rfl) ?_
        intro v7 t7 hp7
        obtain ⟨rfl, M7, rfl, hY7, hZ7⟩ := hp7
        have hP7 := m_P_Y hY7
        have f7a : ∀ k, k = 5 ∨ k = 25 ∨ k = 27 → M7.1 k = M.1 k := fun k hk => (hP7.2.1 k (by omega)).trans (f3a k hk)
        have f7b : M7.1 0 = 0 := (hP7.2.1 0 (by decide)).trans f3b
        have f7c : M7.1 8 = nI 0 := (hP7.2.1 8 (by decide)).trans f3c
        have f7d : ∀ j, j ≠ 1 → M7.2.2.1 j = M.2.2.1 j := fun j hj => (hP7.2.2.1 j hj).trans (f3d j hj)
        have f7e : ∀ j, j = 0 ∨ j = 5 ∨ j = 6 → M7.2.2.2 j = M.2.2.2 j := fun j hj => (hP7.2.2.2 j (by omega) (by omega)).trans (f3e j hj)
        have hW7 : m_W t (.inl (p_er 1 (k_n t 0))) M7 := hZ7
        have k47 : ∀ y, (Sum.inl (p_er 1 (k_n t 0)) : p_E ⊕ (p_S × k_T)) = .inr y → p_ok y.1 ∧ t.length + 1 ≤ y.2.2.1 + 701 := fun y z => by cases z
        have e46 := p_all_s (t := t) (S := ((30, [], []), false, [])) (k := k_n t 0) (q := 700)
        rw [st_end c62] at e46
        have e45 : (p_all t 701 ((30, [], []), false, []) (k_n t 0)) = .inl (p_er 1 (k_n t 0)) := e46
        have e47 : p_bind (Sum.inl (p_er 1 (k_n t 0)) : p_E ⊕ (p_S × k_T)) (fun y => if y.2.1 = 0 then .inr y.1 else p_all t 701 y.1 y.2) = (p_all t 701 ((30, [], []), false, []) (k_n t 0)) := by rw [e45]; rfl
        exact sx_loc [some (.ref h), none] ⟨rfl, trivial⟩ (lp2 701 _ _ f7a f7b f7c f7d f7e hW7 k47 e47 (by decide))
    · refine sv_aload_n dX3_load_24 rfl ?_
      refine sm_get hn fg_X3_21 dX3_load_25 rfl ?_
      refine sv_iload_n dX3_load_28 rfl ?_
      refine sv_lconst 0 dX3_load_29 (by decide) ?_
      refine sm_st 1 (by decide) hn dX3_load_30 (by show _ < 806; omega) ?_
      rw [show (m_a _ 1 f).2.2.1 1 = f from m_a_0 _ _, m_a_a]
      refine sv_iincN dX3_load_31 rfl (by decide) ?_
      refine sv_goto (tgt := 17) dX3_load_34 (by decide) ?_
      exact ih (n + 1) _ (by omega) (by omega) (fun i hi => by
        by_cases hin : i = n
        · rw [hin, uL_s]
        · rw [uL_n hin]; exact hf i (by omega))
  refine sx_body (by decide) (Nat.le_of_ble_eq_true rfl) ?_
  refine sv_aload_n dX3_load_0 rfl ?_
  refine sv_iconst (nI 0) dX3_load_1 (by decide +kernel) ?_
  refine sm_put hn fp_X3_3 dX3_load_2 rfl (by decide) ?_
  refine sv_aload_n dX3_load_5 rfl ?_
  refine sv_iconst (nI 0) dX3_load_6 (by decide +kernel) ?_
  refine sv_topI b0_I ?_
  refine sm_putz hn fp_X3_392 dX3_load_7 rfl (by decide) ?_
  refine sv_aload_n dX3_load_10 rfl ?_
  refine sv_iconst (nI 0) dX3_load_11 (by decide +kernel) ?_
  refine sm_put hn fp_X3_389 dX3_load_12 rfl (by decide) ?_
  refine sv_iconst (nI 0) dX3_load_15 (by decide +kernel) ?_
  refine sv_istore_n dX3_load_16 (by decide) ?_
  have hl := lp1 807 0 (M.2.2.1 1) (by omega) (by omega) (fun i hi => absurd hi (Nat.not_lt_zero i))
  rw [show m_a (m_i (m_i (m_i M 0 (nI 0)) 16 (b_I false)) 17 (nI 0)) 1 (M.2.2.1 1) = (m_i (m_i (m_i M 0 (nI 0)) 16 (b_I false)) 17 (nI 0)) from m_a_id (M := (m_i (m_i (m_i M 0 (nI 0)) 16 (b_I false)) 17 (nI 0))) 1] at hl
  exact hl
end MPI
