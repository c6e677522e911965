set_option maxRecDepth 100000
section MPW
/-- the reference at its text: at a token, or an error -/
def m_Q (t : List Int32) (k : k_T) (c : Nat) (M : m_M) : Prop := m_T t M ∧ m_Kt t k M ∧ k_ok t k ∧ b_B t ∧ c ≤ 5 ∧ M.1 14 = nI c ∧ M.1 15 = (if c = 0 then -1 else nI k.2.1)
abbrev r_T : Type := p_E ⊕ k_T
def m_Z (t : List Int32) (r : r_T) (M : m_M) : Prop := match r with
  | .inr k => m_Q t k 0 M
  | .inl e => e.1 ≠ 0 ∧ ∃ k, m_Q t k e.1 M ∧ k.2.1 = e.2
def r_gd (r : r_T) : Bool := match r with
  | .inr _ => true
  | .inl _ => false
def r_is (t : List Int32) (r : r_T) (i : Nat) : Bool := match r with
  | .inr k => p_is t k i
  | .inl _ => false
def r_sy (t : List Int32) (r : r_T) (c : Int32) : Bool := match r with
  | .inr k => p_sy t k c
  | .inl _ => false
def r_fl (t : List Int32) (r : r_T) : Option Nat := match r with
  | .inr k => p_fl t k
  | .inl _ => none
def r_nx (t : List Int32) (r : r_T) : r_T := p_bind r (fun k => .inr (p_nx t k))
def r_er (r : r_T) (c : Nat) : r_T := p_bind r (fun k => .inl (p_er c k))
/-- fields of the scanner and of the error alone change -/
def m_Y (M M' : m_M) : Prop := M'.2 = M.2 ∧ ∀ k, (k < 10 ∨ 15 < k) → M'.1 k = M.1 k
/-- the words' constants -/
def m_ts (i : Nat) : Nat := if i = 4 then 21 else if i = 5 then 20 else i + 16
def g_S (G : sx_G) : Prop := g_C G ∧ ∀ i, 1 ≤ i → i < 16 → g_W G (m_ts i) ((s_n i).map nI)
variable {G : sx_G} {h : Nat} {M : m_M} {σ : sx_St} {V : a_V} {A : a_A} {t : List Int32} {r : r_T}
theorem r_g_t {r : r_T} (h : r_gd r = true) : ∃ k, r = .inr k := by
  cases r with
  | inr k => exact ⟨k, rfl⟩
  | inl e => cases h
theorem r_g_f {r : r_T} (h : r_gd r = false) : ∃ e, r = .inl e := by
  cases r with
  | inl e => exact ⟨e, rfl⟩
  | inr k => cases h
theorem m_Y_r : m_Y M M := ⟨rfl, fun _ _ => rfl⟩
theorem m_Y_t {M M' M'' : m_M} (h1 : m_Y M M') (h2 : m_Y M' M'') : m_Y M M'' := ⟨h2.1.trans h1.1, fun k a => (h2.2 k a).trans (h1.2 k a)⟩
theorem m_Y_X {M M' : m_M} (h : m_X M M') : m_Y M M' := ⟨h.1, fun k a => h.2 k (by omega) (by omega) (by omega) (by omega)⟩
theorem m_Z_q (h : m_Z t r M) : ∃ k c, m_Q t k c M ∧ r_gd r = decide (c = 0) := by
  cases r with
  | inr k => exact ⟨k, 0, h, rfl⟩
  | inl e =>
    obtain ⟨h1, k, h2, h3⟩ := h
    exact ⟨k, e.1, h2, (decide_eq_false h1).symm⟩
theorem m_Z_g (h : m_Z t r M) : decide (M.1 14 = 0) = r_gd r := by
  obtain ⟨k, c, hq, e⟩ := m_Z_q h
  rw [e, hq.2.2.2.2.2.1]
  exact decide_eq_decide.mpr (nI_e0 (by have := hq.2.2.2.2.1; omega))
theorem ct_gd (hn : h + 11 < sx_n σ) (hZ : m_Z t r M) : sx_Cr G 0 YX3_good [.ref h] (m_S G h M σ) (some (.int (b_I (r_gd r)))) (m_S G h M σ) := by
  have := ct_good (G := G) (σ := σ) (M := M) hn
  rw [m_Z_g hZ] at this
  exact this
theorem m_Z_14 (hZ : m_Z t r M) : M.1 14 = 0 ↔ r_gd r = true := by rw [← m_Z_g hZ, decide_eq_true_iff]
theorem ct_er (hn : h + 11 < sx_n σ) (hZ : m_Z t r M) {c : Nat} (h1 : 1 ≤ c) (h5 : c ≤ 5) : sx_Cp G 1 YX3_errs [.ref h, .int (nI c)] (m_S G h M σ) (fun v τ => v = none ∧ ∃ M2, τ = m_S G h M2 σ ∧ m_Y M M2 ∧ m_Z t (r_er r c) M2) := by
  cases r with
  | inr k =>
    refine sx_C_Q (ct_errs hn ((m_Z_14 hZ).mpr rfl)) ?_
    rintro o τ ⟨v, rfl, rfl, rfl⟩
    refine ⟨_, rfl, rfl, _, rfl, ⟨rfl, fun j hj => ?_⟩, ⟨by show c ≠ 0; omega, k, ⟨hZ.1, ⟨hZ.2.1.1, hZ.2.1.2.1, hZ.2.1.2.2.1, hZ.2.1.2.2.2.1, hZ.2.1.2.2.2.2.1, hZ.2.1.2.2.2.2.2.1, hZ.2.1.2.2.2.2.2.2⟩, hZ.2.2.1, hZ.2.2.2.1, h5, rfl, ?_⟩, rfl⟩⟩
    · show upd (upd M.1 14 (nI c)) 15 (M.1 11) j = M.1 j
      rw [pk_un (by omega), pk_un (by omega)]
    · show M.1 11 = (if c = 0 then -1 else nI k.2.1)
      rw [if_neg (by omega)]
      exact hZ.2.1.2.2.2.1
  | inl e =>
    refine sx_C_Q (ct_errs_n hn (fun z => by have := (m_Z_14 hZ).mp z; cases this)) ?_
    rintro o τ ⟨v, rfl, rfl, rfl⟩
    exact ⟨_, rfl, rfl, _, rfl, m_Y_r, hZ⟩
theorem ct_sc (hn : h + 11 < sx_n σ) {k : k_T} (hZ : m_Q t k 0 M) : sx_Cp G 2 YX3_scan [.ref h] (m_S G h M σ) (fun v τ => v = none ∧ ∃ M2, τ = m_S G h M2 σ ∧ m_Y M M2 ∧ m_Q t (p_nx t k) 0 M2) := by
  refine sx_C_Q (ct_scan hn hZ.1 hZ.2.2.1.2.1 hZ.2.1.2.2.1) ?_
  rintro o τ ⟨v, rfl, rfl, M2, rfl, hX, hK⟩
  refine ⟨_, rfl, rfl, _, rfl, m_Y_X hX, m_T_X hZ.1 hX, hK, k_ok_x hZ.2.2.1, hZ.2.2.2.1, Nat.zero_le _, ?_, ?_⟩
  · rw [hX.2 14 (by decide) (by decide) (by decide) (by decide)]; exact hZ.2.2.2.2.2.1
  · rw [hX.2 15 (by decide) (by decide) (by decide) (by decide)]; exact hZ.2.2.2.2.2.2
theorem k_Sr_W {i : Nat} {B : List Int32} (hw : g_W G i B) : k_Sr G σ (sg_t G i) B := by
  obtain ⟨h0, nb, hh, z, f, h1, h2, h3⟩ := hw
  exact ⟨nb, hh, z, f, Or.inr h1, Or.inr h2, by omega, h3⟩
theorem ct_goOn (hn : h + 11 < sx_n σ) (hZ : m_Z t r M) : sx_Cp G 3 YX3_goOn [.ref h] (m_S G h M σ) (fun v τ => v = none ∧ ∃ M2, τ = m_S G h M2 σ ∧ m_Y M M2 ∧ m_Z t (r_nx t r) M2) := by
  refine sx_body (by decide) (Nat.le_of_ble_eq_true rfl) ?_
  refine sv_aload_n dX3_goOn_0 rfl ?_
  refine sv_cvR _ (ct_gd hn hZ) okX3_good kv_X3_279 (sx_rd_c (m_S_0 hn)) rfl dX3_goOn_1 rfl rfl (by decide) (Nat.le_of_ble_eq_true rfl) ?_
  refine sv_if_eqB (tgt := 11) dX3_goOn_4 (by decide) (fun c4 => ?_) (fun c4 => ?_)
  · obtain ⟨e, rfl⟩ := r_g_f c4
    refine sv_vret rfl dX3_goOn_11 ?_
    first | exact ⟨_, rfl, rfl, _, rfl, hY1, hZ1⟩ | exact ⟨_, rfl, rfl, _, rfl, m_Y_r, hZ⟩
  · obtain ⟨k, rfl⟩ := r_g_t c4
    refine sv_aload_n dX3_goOn_7 rfl ?_
    refine sv_cvP _ (ct_sc hn hZ) okX3_scan kv_X3_315 (sx_rd_c (m_S_0 hn)) rfl dX3_goOn_8 rfl rfl (by decide) (Nat.le_of_ble_eq_true rfl) ?_
    intro v1 t1 hp1
    obtain ⟨rfl, M1, rfl, hY1, hZ1⟩ := hp1
    refine sv_vret rfl dX3_goOn_11 ?_
    first | exact ⟨_, rfl, rfl, _, rfl, hY1, hZ1⟩ | exact ⟨_, rfl, rfl, _, rfl, m_Y_r, hZ⟩
theorem b0_I : nI 0 = b_I false := rfl
theorem b1_I : nI 1 = b_I true := rfl
/-- how far a word was compared -/
def r_cw (t : List Int32) (r : r_T) (i j : Nat) (c : Bool) : Prop := (c = false ∧ r_is t r i = false) ∨ (c = true ∧ ∃ k, r = .inr k ∧ k.1 = 1 ∧ k.2.2.1 = k.2.1 + (s_n i).length ∧ ∀ x, x < j → t.getD (k.2.1 + x) 0 = nI ((s_n i).getD x 0))
theorem r_cw_e {i : Nat} {c : Bool} (hi : i < 16) (hZ : m_Z t r M) (h : r_cw t r i (s_n i).length c) : b_I c = b_I (r_is t r i) := by
  rcases h with ⟨rfl, h⟩ | ⟨rfl, k, rfl, h1, h2, h3⟩
  · rw [h]
  · have hk : k_ok t k := hZ.2.2.1
    have hl : k.2.2.1 - k.2.1 = (s_n i).length := by omega
    have e : p_w t k = s_n i := ln_ext (by rw [p_w_l hk h1]; exact hl) (fun x hx => by
      rw [p_w_l hk h1] at hx
      have g1 := p_w_g hZ.2.2.2.1 hk h1 hx
      have g2 := h3 x (by omega)
      rw [g1.1] at g2
      have g3 := s_n_lt i hi _ (gdn_mem (show x < (s_n i).length by omega))
      exact (nI_eq (by omega) (by omega)).mp g2)
    show b_I true = b_I (decide (p_w t k = s_n i))
    rw [decide_eq_true e]
theorem r_cw_n {k : k_T} {i : Nat} (hi : i < 16) (h1 : 1 ≤ i) (h : k_ok t k) (hne : ¬ (k.1 = 1 ∧ k.2.2.1 - k.2.1 = (s_n i).length)) : r_is t (.inr k) i = false := by
  show decide (p_w t k = s_n i) = false
  refine decide_eq_false (fun e => hne ?_)
  have hk : k.1 = 1 := p_is_k hi h1 (decide_eq_true e)
  exact ⟨hk, by rw [← p_w_l h hk, e]⟩
theorem r_cw_d {k : k_T} {i x : Nat} (hb : b_B t) (hi : i < 16) (h : k_ok t k) (h1 : k.1 = 1) (h2 : k.2.2.1 = k.2.1 + (s_n i).length) (hx : x < (s_n i).length) (hne : ¬ t.getD (k.2.1 + x) 0 = nI ((s_n i).getD x 0)) : r_is t (.inr k) i = false := by
  show decide (p_w t k = s_n i) = false
  refine decide_eq_false (fun e => hne ?_)
  have := (p_w_g hb h h1 (i := x) (by omega)).1
  rw [e] at this
  exact this
theorem s_n_g {i x : Nat} (hi : i < 16) (hx : x < (s_n i).length) : ((s_n i).map nI).getD x 0 &&& 255 = nI ((s_n i).getD x 0) := by
  have e : ((s_n i).map nI).getD x 0 = nI ((s_n i).getD x 0) := by
    rw [List.getD_eq_getElem?_getD, List.getD_eq_getElem?_getD, List.getElem?_map, List.getElem?_eq_getElem hx]
    rfl
  rw [e]
  have := s_n_lt i hi _ (gdn_mem hx)
  exact b_255 _ (by omega)
theorem k_Sr_rd {a : Nat} {B : List Int32} (hS : k_Sr G σ a B) : ∃ vs, sx_rd G σ a (.inr (12, vs)) := by
  obtain ⟨nb, hh, z, f, h1, -⟩ := hS
  exact ⟨_, h1⟩
theorem ct_isWord (hn : h + 11 < sx_n σ) (hZ : m_Z t r M) (hW : g_S G) {i j : Nat} (h1 : 1 ≤ i) (hi : i < 16) (hj : m_ts i = j) : sx_Cr G 4 YX3_isWord [.ref h, .ref (sg_t G j)] (m_S G h M σ) (some (.int (b_I (r_is t r i)))) (m_S G h M σ) := by
  have loop : ∀ q x c, x ≤ (s_n i).length → (s_n i).length + 1 ≤ x + q → r_cw t r i x c → sx_V G 4 YX3_isWord 39 [some (.ref h), some (.ref (sg_t G j)), some (.int (b_I c)), some (.int (nI x))] [] (m_S G h M σ) (fun o τ => ∃ v, o = .inl v ∧ v = some (.int (b_I (r_is t r i))) ∧ τ = m_S G h M σ) := by
    have hS : k_Sr G (m_S G h M σ) (sg_t G j) ((s_n i).map nI) := by rw [← hj]; exact k_Sr_W (hW.2 i h1 hi)
    have hl8 := (s_n_l i hi).1
    obtain ⟨vs9, hr9⟩ := k_Sr_rd hS
    intro q
    induction q with
    | zero => intro x c g1 g2; exact absurd g2 (by omega)
    | succ q ih =>
    intro x c g1 g2 hc
    refine sv_iload_n dX3_isWord_39 rfl ?_
    refine sv_aload_n dX3_isWord_40 rfl ?_
    refine sv_cvR _ (cs_len hW.1 hS) okJ9_length kv_X3_318 hr9 rfl dX3_isWord_41 rfl rfl (by decide) (Nat.le_of_ble_eq_true rfl) ?_
    refine sv_topI (y := nI (s_n i).length) (by rw [List.length_map]) ?_
    refine sv_icmp_geN (tgt := 82) dX3_isWord_44 (by decide) (by omega) (by omega) (fun c44 => ?_) (fun c44 => ?_)
    · obtain rfl : x = (s_n i).length := by omega
      refine sv_iload_n dX3_isWord_82 rfl ?_
      refine sv_iret (by first | exact b_I_nar _ | rfl) rfl dX3_isWord_83 ?_
      first | exact ⟨_, rfl, r_I hv, rfl⟩ | exact ⟨_, rfl, r_I (r_cw_e hi hZ hc), rfl⟩
    · have hx : x < (s_n i).length := by omega
      refine sv_iload_n dX3_isWord_47 rfl ?_
      refine sv_if_eqB (tgt := 82) dX3_isWord_48 (by decide) (fun c48 => ?_) (fun c48 => ?_)
      · subst c48
        have hv : b_I false = b_I (r_is t r i) := by rcases hc with ⟨_, z⟩ | ⟨z, _⟩; rw [z]; cases z
        refine sv_iload_n dX3_isWord_82 rfl ?_
        refine sv_iret (by first | exact b_I_nar _ | rfl) rfl dX3_isWord_83 ?_
        first | exact ⟨_, rfl, r_I hv, rfl⟩ | exact ⟨_, rfl, r_I (r_cw_e hi hZ hc), rfl⟩
      · subst c48
        obtain ⟨z, _⟩ | ⟨_, k, rfl, k1, k2, k3⟩ := hc
        · cases z
        have hko : k_ok t k := hZ.2.2.1
        have hk2 := hko.2.1
        have ht7 := hZ.1.1
        refine sv_aload_n dX3_isWord_51 rfl ?_
        refine sm_get hn fg_X3_34 dX3_isWord_52 rfl ?_
        refine sv_aload_n dX3_isWord_55 rfl ?_
        refine sm_get hn fg_X3_283 dX3_isWord_56 rfl ?_
        refine sv_topI (y := nI k.2.1) hZ.2.1.2.2.2.1 ?_
        refine sv_iload_n dX3_isWord_59 rfl ?_
        refine sv_iaddN dX3_isWord_60 ?_
        refine sm_b2ld hn dX3_isWord_61 (by omega) ?_
        refine sv_topI (y := t.getD (k.2.1 + x) 0) (hZ.1.2.2 _ (by omega)) ?_
        refine sv_aload_n dX3_isWord_62 rfl ?_
        refine sv_iload_n dX3_isWord_63 rfl ?_
        refine sv_cvR _ (cs_chr hW.1 hS (i := x) (by rw [List.length_map]; exact hx)) okJ9_charAt kv_X3_323 hr9 rfl dX3_isWord_64 rfl rfl (by decide) (Nat.le_of_ble_eq_true rfl) ?_
        refine sv_topI (s_n_g hi hx) ?_
        refine sv_icmp_ne (tgt := 74) dX3_isWord_67 (by decide) (fun c67 => ?_) (fun c67 => ?_)
        · have hc2 : r_cw t (.inr k) i (x + 1) false := Or.inl ⟨rfl, r_cw_d hZ.2.2.2.1 hi hko k1 k2 hx c67⟩
          refine sv_iconst (nI 0) dX3_isWord_74 (by decide +kernel) ?_
          first | refine sv_topI b0_I ?_ | refine sv_topI b1_I ?_
          refine sv_istore_n dX3_isWord_75 (by decide) ?_
          refine sv_iincN dX3_isWord_76 rfl (by decide) ?_
          refine sv_goto (tgt := 39) dX3_isWord_79 (by decide) ?_
          exact ih (x + 1) _ (by omega) (by omega) hc2
        · have hc2 : r_cw t (.inr k) i (x + 1) true := Or.inr ⟨rfl, k, rfl, k1, k2, fun y hy => by
            by_cases hyx : y = x
            · rw [hyx]; exact c67
            · exact k3 y (by omega)⟩
          refine sv_iconst (nI 1) dX3_isWord_70 (by decide +kernel) ?_
          refine sv_goto (tgt := 75) dX3_isWord_71 (by decide) ?_
          first | refine sv_topI b0_I ?_ | refine sv_topI b1_I ?_
          refine sv_istore_n dX3_isWord_75 (by decide) ?_
          refine sv_iincN dX3_isWord_76 rfl (by decide) ?_
          refine sv_goto (tgt := 39) dX3_isWord_79 (by decide) ?_
          exact ih (x + 1) _ (by omega) (by omega) hc2
  refine sx_body (by decide) (Nat.le_of_ble_eq_true rfl) ?_
  have hS : k_Sr G (m_S G h M σ) (sg_t G j) ((s_n i).map nI) := by rw [← hj]; exact k_Sr_W (hW.2 i h1 hi)
  have hl8 := (s_n_l i hi).1
  obtain ⟨vs9, hr9⟩ := k_Sr_rd hS
  refine sv_aload_n dX3_isWord_0 rfl ?_
  refine sv_cvR _ (ct_gd hn hZ) okX3_good kv_X3_279 (sx_rd_c (m_S_0 hn)) rfl dX3_isWord_1 rfl rfl (by decide) (Nat.le_of_ble_eq_true rfl) ?_
  refine sv_if_eqB (tgt := 35) dX3_isWord_4 (by decide) (fun c4 => ?_) (fun c4 => ?_)
  · obtain ⟨e, rfl⟩ := r_g_f c4
    have hc0 : r_cw t (.inl e) i 0 false := Or.inl ⟨rfl, rfl⟩
    refine sv_iconst (nI 0) dX3_isWord_35 (by decide +kernel) ?_
    first | refine sv_topI b0_I ?_ | refine sv_topI b1_I ?_
    refine sv_istore_n dX3_isWord_36 (by decide) ?_
    refine sv_iconst (nI 0) dX3_isWord_37 (by decide +kernel) ?_
    refine sv_istore_n dX3_isWord_38 (by decide) ?_
    exact loop 10 0 _ (Nat.zero_le _) (by have := (s_n_l i hi).1; omega) hc0
  · obtain ⟨k, rfl⟩ := r_g_t c4
    have hko : k_ok t k := hZ.2.2.1
    have hk1 := hko.1
    have hk2 := hko.2.1
    have hk3 := hko.2.2.1
    have ht7 := hZ.1.1
    refine sv_aload_n dX3_isWord_7 rfl ?_
    refine sm_get hn fg_X3_295 dX3_isWord_8 rfl ?_
    refine sv_topI (y := nI k.1) hZ.2.1.2.2.2.2.1 ?_
    refine sv_iconst (nI 1) dX3_isWord_11 (by decide +kernel) ?_
    refine sv_icmp_neN (tgt := 35) dX3_isWord_12 (by decide) (by omega) (by omega) (fun c12 => ?_) (fun c12 => ?_)
    · have hc0 : r_cw t (.inr k) i 0 false := Or.inl ⟨rfl, r_cw_n hi h1 hko (fun z => c12 z.1)⟩
      refine sv_iconst (nI 0) dX3_isWord_35 (by decide +kernel) ?_
      first | refine sv_topI b0_I ?_ | refine sv_topI b1_I ?_
      refine sv_istore_n dX3_isWord_36 (by decide) ?_
      refine sv_iconst (nI 0) dX3_isWord_37 (by decide +kernel) ?_
      refine sv_istore_n dX3_isWord_38 (by decide) ?_
      exact loop 10 0 _ (Nat.zero_le _) (by have := (s_n_l i hi).1; omega) hc0
    · refine sv_aload_n dX3_isWord_15 rfl ?_
      refine sm_get hn fg_X3_289 dX3_isWord_16 rfl ?_
      refine sv_topI (y := nI k.2.2.1) hZ.2.1.2.2.1 ?_
      refine sv_aload_n dX3_isWord_19 rfl ?_
      refine sm_get hn fg_X3_283 dX3_isWord_20 rfl ?_
      refine sv_topI (y := nI k.2.1) hZ.2.1.2.2.2.1 ?_
      refine sv_isubN dX3_isWord_23 (by omega) ?_
      refine sv_aload_n dX3_isWord_24 rfl ?_
      refine sv_cvR _ (cs_len hW.1 hS) okJ9_length kv_X3_318 hr9 rfl dX3_isWord_25 rfl rfl (by decide) (Nat.le_of_ble_eq_true rfl) ?_
      refine sv_topI (y := nI (s_n i).length) (by rw [List.length_map]) ?_
      refine sv_icmp_neN (tgt := 35) dX3_isWord_28 (by decide) (by omega) (by omega) (fun c28 => ?_) (fun c28 => ?_)
      · have hc0 : r_cw t (.inr k) i 0 false := Or.inl ⟨rfl, r_cw_n hi h1 hko (fun z => c28 z.2)⟩
        refine sv_iconst (nI 0) dX3_isWord_35 (by decide +kernel) ?_
        first | refine sv_topI b0_I ?_ | refine sv_topI b1_I ?_
        refine sv_istore_n dX3_isWord_36 (by decide) ?_
        refine sv_iconst (nI 0) dX3_isWord_37 (by decide +kernel) ?_
        refine sv_istore_n dX3_isWord_38 (by decide) ?_
        exact loop 10 0 _ (Nat.zero_le _) (by have := (s_n_l i hi).1; omega) hc0
      · have hc0 : r_cw t (.inr k) i 0 true := Or.inr ⟨rfl, k, rfl, c12, by omega, fun y hy => absurd hy (Nat.not_lt_zero y)⟩
        refine sv_iconst (nI 1) dX3_isWord_31 (by decide +kernel) ?_
        refine sv_goto (tgt := 36) dX3_isWord_32 (by decide) ?_
        first | refine sv_topI b0_I ?_ | refine sv_topI b1_I ?_
        refine sv_istore_n dX3_isWord_36 (by decide) ?_
        refine sv_iconst (nI 0) dX3_isWord_37 (by decide +kernel) ?_
        refine sv_istore_n dX3_isWord_38 (by decide) ?_
        exact loop 10 0 _ (Nat.zero_le _) (by have := (s_n_l i hi).1; omega) hc0
end MPW
