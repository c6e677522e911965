set_option maxRecDepth 100000
section MRL
variable {G : sx_G} {h : Nat} {M : m_M} {σ : sx_St} {V : a_V} {A : a_A} {r r' : Nat → Int64} {t : Nat}
theorem pk_n1 {n : Nat} (h : 0 < n) : nI n - 1 = nI (n - 1) := by
  conv => lhs; rw [show n = n - 1 + 1 by omega]
  exact nI_pred _
/-- the messages of a box become others -/
def v_bm (V : a_V) (b : Nat) (ms : List a_M) : a_V := a_ub V b ((a_b V b).1, (a_b V b).2.1, ms)
def v_fl (V : a_V) (b m : Nat) (f : Int32) : a_V := v_bm V b ((a_ms V b).set m ((a_m V b m).1, (a_m V b m).2.1, f))
theorem v_bm_ms {b : Nat} {ms : List a_M} (hb : b < V.2.1.length) : a_ms (v_bm V b ms) b = ms := by unfold a_ms v_bm; rw [a_ub_b _ hb]
theorem v_bm_mc {b c : Nat} {ms : List a_M} (h : c ≠ b) : a_ms (v_bm V b ms) c = a_ms V c := by unfold a_ms v_bm; rw [a_ub_c _ h]
theorem v_bm_nx {b c : Nat} {ms : List a_M} : (a_b (v_bm V b ms) c).2.1 = (a_b V c).2.1 := by
  by_cases h : c = b
  · subst h
    by_cases hb : c < V.2.1.length
    · unfold v_bm; rw [a_ub_b _ hb]
    · rw [show a_b (v_bm V c ms) c = a_b V c from by simp [a_b, v_bm, a_ub, List.getD_eq_getElem?_getD, hb]]
  · unfold v_bm; rw [a_ub_c _ h]
theorem v_bm_n {b : Nat} {ms : List a_M} : (v_bm V b ms).2.1.length = V.2.1.length := a_ub_n _ _ _
theorem v_bm_s {b : Nat} {ms : List a_M} (s : Nat) : a_s (v_bm V b ms) s = a_s V s := rfl
theorem v_bm_l {b : Nat} {ms : List a_M} : (v_bm V b ms).2.2 = V.2.2 := rfl
theorem v_bm_bm {b : Nat} {ms ms' : List a_M} (hb : b < V.2.1.length) : v_bm (v_bm V b ms) b ms' = v_bm V b ms' := by
  have e : a_b (v_bm V b ms) b = ((a_b V b).1, (a_b V b).2.1, ms) := a_ub_b _ hb
  unfold v_bm at *
  rw [e]
  unfold a_ub
  simp
theorem v_bm_id {b : Nat} (hb : b < V.2.1.length) : v_bm V b (a_ms V b) = V := by
  unfold v_bm a_ms
  show a_ub V b (a_b V b) = V
  unfold a_ub a_b
  rw [List.getD_eq_getElem?_getD, List.getElem?_eq_getElem hb]
  simp
theorem w_V_b {b : Nat} {B : a_B} (hw : w_V V) (hl : B.2.2.length ≤ 30) : w_V (a_ub V b B) := by
  obtain ⟨⟨h1, h2, h3⟩, h4, h5, h6⟩ := hw
  refine ⟨⟨by rw [a_ub_n]; exact h1, h2, fun c hc => ?_⟩, h4, fun s c hs hc => by rw [a_ub_n]; exact h5 s c hs hc, h6⟩
  rw [a_ub_n] at hc
  unfold a_ms
  by_cases hcb : c = b
  · subst hcb; rw [a_ub_b B hc]; exact hl
  · rw [a_ub_c B hcb]; exact h3 c hc
theorem e_V_bm {b : Nat} {ms : List a_M} (hw : w_V V) (hb : b < V.2.1.length) (h : e_V r V) (hr : ∀ i, i < 3 + 93 * b ∨ 3 + 93 * b + 93 ≤ i → r' i = r i) (hB : e_B r' (3 + 93 * b) ((a_b V b).1, (a_b V b).2.1, ms)) (hu : ∀ x ∈ ms, ∃ y ∈ a_ms V b, y.1 = x.1) : e_V r' (v_bm V b ms) := by
  refine e_V_b hw hb h hr hB (fun s hs hbx u hu2 => h.2.2 s hs b hbx u ?_)
  rcases hu2 with ⟨x, hx, rfl⟩ | hu2
  · exact Or.inl (hu x hx)
  · exact Or.inr hu2
theorem gd_setM (l : List a_M) (k j : Nat) (x : a_M) (hk : k < l.length) : (l.set k x).getD j (0, 0, 0) = if j = k then x else l.getD j (0, 0, 0) := by
  simp only [List.getD_eq_getElem?_getD]
  by_cases h : j = k
  · subst h
    rw [if_pos rfl]
    simp [hk]
  · rw [if_neg h, List.getElem?_set_ne (Ne.symm h)]
theorem e_V_pf {b m : Nat} {f : Int32} (hw : w_V V) (hb : b < V.2.1.length) (hm : m < (a_ms V b).length) (h : e_V r V) : e_V (vp_updL r (3 + 93 * b + 3 + 3 * m + 2) f.toInt64) (v_fl V b m f) := by
  have hl := hw.1.2.2 b hb
  obtain ⟨h1, h2, h3, h4⟩ := h.1.2.2.2 b hb
  refine e_V_bm hw hb h (fun i hi => uL_n (by omega)) ⟨by rw [uL_n (by omega)]; exact h1, ?_, by rw [uL_n (by omega)]; exact h3, fun j hj => ?_⟩ (fun x hx => ?_)
  · rw [uL_n (by omega), List.length_set]; exact h2
  · have hj : j < ((a_ms V b).set m ((a_m V b m).1, (a_m V b m).2.1, f)).length := hj
    rw [List.length_set] at hj
    show e_M _ _ (((a_ms V b).set m ((a_m V b m).1, (a_m V b m).2.1, f)).getD j (0, 0, 0))
    rw [gd_setM _ _ _ _ hm]
    obtain ⟨g1, g2, g3⟩ := h4 j hj
    by_cases hjm : j = m
    · subst hjm
      rw [if_pos rfl]
      exact ⟨by rw [uL_n (by omega)]; exact g1, by rw [uL_n (by omega)]; exact g2, by rw [uL_s, i64_back]⟩
    · rw [if_neg hjm]
      exact ⟨by rw [uL_n (by omega)]; exact g1, by rw [uL_n (by omega)]; exact g2, by rw [uL_n (by omega)]; exact g3⟩
  · rcases List.mem_or_eq_of_mem_set hx with g | g
    · exact ⟨x, g, rfl⟩
    · exact ⟨a_m V b m, gd_mem hm, by rw [g]⟩
theorem w_V_pf {b m : Nat} {f : Int32} (hw : w_V V) (hb : b < V.2.1.length) : w_V (v_fl V b m f) := w_V_b hw (by show (List.set _ _ _).length ≤ 30; rw [List.length_set]; exact hw.1.2.2 b hb)
/-- the row with a message less -/
def r_rm (r : Nat → Int64) (b i n : Nat) : Nat → Int64 := fun j => if 3 + 93 * b + 3 + 3 * i ≤ j ∧ j < 3 + 93 * b + 3 + 3 * (n - 1) then vp_updL r (3 + 93 * b + 1) (r (3 + 93 * b + 1) - 1) (j + 3) else vp_updL r (3 + 93 * b + 1) (r (3 + 93 * b + 1) - 1) j
theorem ct_putFlags (hn : h + 11 < sx_n σ) {b m : Nat} {f : Int32} (hb : b < 3) (hm : m < 30) : sx_Cr G 2 YX3_putFlags [.ref h, .int (nI b), .int (nI m), .int f] (m_S G h M σ) none (m_S G h (m_a M 0 (vp_updL (M.2.2.1 0) (3 + 93 * b + 3 + 3 * m + 2) f.toInt64)) σ) := by
  refine sx_body (by decide) (Nat.le_of_ble_eq_true rfl) ?_
  refine sv_aload_n dX3_putFlags_0 rfl ?_
  refine sm_get hn fg_X3_17 dX3_putFlags_1 rfl ?_
  refine sv_iload_n dX3_putFlags_4 rfl ?_
  refine sv_iload_n dX3_putFlags_5 rfl ?_
  refine sv_csR _ ct_messageAt okX3_messageAt ks_X3_80 dX3_putFlags_6 rfl rfl (by decide) (Nat.le_of_ble_eq_true rfl) ?_
  refine sv_iconst (nI 2) dX3_putFlags_9 (by decide +kernel) ?_
  refine sv_iaddN dX3_putFlags_10 ?_
  refine sv_iload_n dX3_putFlags_11 rfl ?_
  refine sv_i2l dX3_putFlags_12 ?_
  refine sm_nst hn dX3_putFlags_13 (by omega) ?_
  rw [m_n_e]
  refine sv_vret rfl dX3_putFlags_14 ?_
  exact ⟨_, rfl, rfl, rfl⟩
theorem ct_removeMessage (hn : h + 11 < sx_n σ) (hb0 : M.2.1 = false) {b i n : Nat} (hb : b < 3) (hi : i < n) (hn3 : n ≤ 30) (h4 : (M.2.2.1 0 (3 + 93 * b + 1)).toInt32 = nI n) : sx_Cr G 2 YX3_removeMessage [.ref h, .int (nI b), .int (nI i)] (m_S G h M σ) none (m_S G h (m_a M 0 (r_rm (M.2.2.1 0) b i n)) σ) := by
  have loop : ∀ q k f, 3 + 93 * b + 3 + 3 * i ≤ k → k ≤ 3 + 93 * b + 3 + 3 * (n - 1) → 3 + 93 * b + 3 + 3 * (n - 1) + 1 ≤ k + q → (∀ j, f j = if 3 + 93 * b + 3 + 3 * i ≤ j ∧ j < k then vp_updL (M.2.2.1 0) (3 + 93 * b + 1) (M.2.2.1 0 (3 + 93 * b + 1) - 1) (j + 3) else vp_updL (M.2.2.1 0) (3 + 93 * b + 1) (M.2.2.1 0 (3 + 93 * b + 1) - 1) j) → sx_V G 2 YX3_removeMessage 21 [some (.ref h), some (.int (nI b)), some (.int (nI i)), some (.int (nI k))] [] (m_S G h (m_a M 0 f) σ) (fun o τ => ∃ v, o = .inl v ∧ v = none ∧ τ = m_S G h (m_a M 0 (r_rm (M.2.2.1 0) b i n)) σ) := by
    intro q
    induction q with
    | zero => intro k f g1 g2 g3 g4; exact absurd g3 (by omega)
    | succ q ih =>
    intro k f g1 g2 g3 g4
    refine sv_iload_n dX3_removeMessage_21 rfl ?_
    refine sv_iload_n dX3_removeMessage_22 rfl ?_
    refine sv_aload_n dX3_removeMessage_23 rfl ?_
    refine sv_iload_n dX3_removeMessage_24 rfl ?_
    refine sv_cvR _ (ct_manyInR hn hb) okX3_manyIn kv_X3_100 (sx_rd_c (m_S_0 hn)) rfl dX3_removeMessage_25 rfl rfl (by decide) (Nat.le_of_ble_eq_true rfl) ?_
    refine sv_topI (y := nI (n - 1)) (by rw [m_w_a hb0, g4, if_neg (by omega), uL_s, i64_sub, h4]; exact pk_n1 (by omega)) ?_
    refine sv_csR _ (ct_messageAt (b := b) (m := n - 1)) okX3_messageAt ks_X3_80 dX3_removeMessage_28 rfl rfl (by decide) (Nat.le_of_ble_eq_true rfl) ?_
    refine sv_icmp_geN (tgt := 54) dX3_removeMessage_31 (by decide) (by omega) (by omega) (fun c31 => ?_) (fun c31 => ?_)
    · have hk : k = 3 + 93 * b + 3 + 3 * (n - 1) := by omega
      subst hk
      have hf : f = r_rm (M.2.2.1 0) b i n := funext g4
      subst hf
      refine sv_vret rfl dX3_removeMessage_54 ?_
      exact ⟨_, rfl, rfl, rfl⟩
    · refine sv_aload_n dX3_removeMessage_34 rfl ?_
      refine sm_get hn fg_X3_17 dX3_removeMessage_35 rfl ?_
      refine sv_iload_n dX3_removeMessage_38 rfl ?_
      refine sv_aload_n dX3_removeMessage_39 rfl ?_
      refine sm_get hn fg_X3_17 dX3_removeMessage_40 rfl ?_
      refine sv_iload_n dX3_removeMessage_43 rfl ?_
      refine sv_iconst (nI 3) dX3_removeMessage_44 (by decide +kernel) ?_
      refine sv_iaddN dX3_removeMessage_45 ?_
      refine sm_nld hn dX3_removeMessage_46 (by omega) ?_
      refine sv_topL (y := f (k + 3)) (by rw [m_a_0]) ?_
      refine sm_nst hn dX3_removeMessage_47 (by omega) ?_
      rw [m_n_a]
      refine sv_iincN dX3_removeMessage_48 rfl (by decide) ?_
      refine sv_goto (tgt := 21) dX3_removeMessage_51 (by decide) ?_
      refine ih (k + 1) _ (by omega) (by omega) (by omega) (fun j => ?_)
      by_cases hj : j = k
      · subst hj
        rw [uL_s, if_pos (by omega), g4, if_neg (by omega)]
      · rw [uL_n hj, g4]
        by_cases hj2 : 3 + 93 * b + 3 + 3 * i ≤ j ∧ j < k
        · rw [if_pos hj2, if_pos (by omega)]
        · rw [if_neg hj2, if_neg (by omega)]
  refine sx_body (by decide) (Nat.le_of_ble_eq_true rfl) ?_
  refine sv_aload_n dX3_removeMessage_0 rfl ?_
  refine sm_get hn fg_X3_17 dX3_removeMessage_1 rfl ?_
  refine sv_iload_n dX3_removeMessage_4 rfl ?_
  refine sv_csR _ ct_boxAt okX3_boxAt ks_X3_77 dX3_removeMessage_5 rfl rfl (by decide) (Nat.le_of_ble_eq_true rfl) ?_
  refine sv_iconst (nI 1) dX3_removeMessage_8 (by decide +kernel) ?_
  refine sv_iaddN dX3_removeMessage_9 ?_
  refine sv_dup2 dX3_removeMessage_10 rfl rfl ?_
  refine sm_nld hn dX3_removeMessage_11 (by omega) ?_
  refine sv_lconst 1 dX3_removeMessage_12 (by decide) ?_
  refine sv_lsub dX3_removeMessage_13 ?_
  refine sm_nst hn dX3_removeMessage_14 (by omega) ?_
  rw [m_n_e]
  refine sv_iload_n dX3_removeMessage_15 rfl ?_
  refine sv_iload_n dX3_removeMessage_16 rfl ?_
  refine sv_csR _ (ct_messageAt (b := b) (m := i)) okX3_messageAt ks_X3_80 dX3_removeMessage_17 rfl rfl (by decide) (Nat.le_of_ble_eq_true rfl) ?_
  refine sv_istore_n dX3_removeMessage_20 (by decide) ?_
  exact loop 130 (3 + 93 * b + 3 + 3 * i) _ (by omega) (by omega) (by omega) (fun j => by rw [if_neg (by omega)])
theorem r_rm_o {b i n j : Nat} (h1 : j < 3 + 93 * b + 3 + 3 * i ∨ 3 + 93 * b + 3 + 3 * (n - 1) ≤ j) (h2 : j ≠ 3 + 93 * b + 1) : r_rm r b i n j = r j := by
  show (if _ then _ else _) = _
  rw [if_neg (by omega), uL_n h2]
theorem r_rm_1 {b i n : Nat} : r_rm r b i n (3 + 93 * b + 1) = r (3 + 93 * b + 1) - 1 := by
  show (if _ then _ else _) = _
  rw [if_neg (by omega), uL_s]
theorem r_rm_i {b i n j : Nat} (h1 : 3 + 93 * b + 3 + 3 * i ≤ j) (h2 : j < 3 + 93 * b + 3 + 3 * (n - 1)) : r_rm r b i n j = r (j + 3) := by
  show (if _ then _ else _) = _
  rw [if_pos ⟨h1, h2⟩, uL_n (by omega)]
theorem gd_erM (l : List a_M) (k j : Nat) : (l.eraseIdx k).getD j (0, 0, 0) = if j < k then l.getD j (0, 0, 0) else l.getD (j + 1) (0, 0, 0) := by
  simp only [List.getD_eq_getElem?_getD, List.getElem?_eraseIdx]
  split <;> rfl
theorem e_V_rm {b i : Nat} (hw : w_V V) (hb : b < V.2.1.length) (hi : i < (a_ms V b).length) (h : e_V r V) : e_V (r_rm r b i (a_ms V b).length) (v_bm V b ((a_ms V b).eraseIdx i)) := by
  have hl := hw.1.2.2 b hb
  obtain ⟨h1, h2, h3, h4⟩ := h.1.2.2.2 b hb
  have hle : ((a_ms V b).eraseIdx i).length = (a_ms V b).length - 1 := List.length_eraseIdx_of_lt hi
  refine e_V_bm hw hb h (fun i hi => r_rm_o (by omega) (by omega)) ⟨by rw [r_rm_o (by omega) (by omega)]; exact h1, ?_, by rw [r_rm_o (by omega) (by omega)]; exact h3, fun j hj => ?_⟩ (fun x hx => ⟨x, List.mem_of_mem_eraseIdx hx, rfl⟩)
  · rw [r_rm_1, i64_sub, h2, hle]
    exact pk_n1 (show 0 < (a_ms V b).length by omega)
  · have hj : j < ((a_ms V b).eraseIdx i).length := hj
    show e_M _ _ (((a_ms V b).eraseIdx i).getD j (0, 0, 0))
    rw [hle] at hj
    rw [gd_erM]
    by_cases hji : j < i
    · rw [if_pos hji]
      have := h4 j (Nat.lt_trans hji hi)
      unfold e_M
      rw [r_rm_o (by omega) (by omega), r_rm_o (by omega) (by omega), r_rm_o (by omega) (by omega)]
      exact this
    · rw [if_neg hji]
      have := h4 (j + 1) (by show j + 1 < (a_ms V b).length; omega)
      unfold e_M
      rw [r_rm_i (by omega) (by omega), r_rm_i (by omega) (by omega), r_rm_i (by omega) (by omega)]
      rw [show 3 + 93 * b + 3 + 3 * j + 3 = 3 + 93 * b + 3 + 3 * (j + 1) by omega, show 3 + 93 * b + 3 + 3 * j + 1 + 3 = 3 + 93 * b + 3 + 3 * (j + 1) + 1 by omega, show 3 + 93 * b + 3 + 3 * j + 2 + 3 = 3 + 93 * b + 3 + 3 * (j + 1) + 2 by omega]
      exact this
theorem w_V_rm {b i : Nat} (hw : w_V V) (hb : b < V.2.1.length) : w_V (v_bm V b ((a_ms V b).eraseIdx i)) := w_V_b hw (Nat.le_trans (List.length_eraseIdx_le _ _) (hw.1.2.2 b hb))
/-- a message with the flag deleted, of a range of uids -/
def a_dl (f l : Int32) (m : a_M) : Bool := !(decide (m.2.2 &&& 8 = 0)) && decide (f.toInt64 ≤ m.1.toInt64 ∧ m.1.toInt64 ≤ l.toInt64)
theorem gd_mid (pre post : List a_M) (x : a_M) : (pre ++ x :: post).getD pre.length (0, 0, 0) = x := by simp [List.getD_eq_getElem?_getD]
theorem er_mid (pre post : List a_M) (x : a_M) : (pre ++ x :: post).eraseIdx pre.length = pre ++ post := by
  induction pre with
  | nil => rfl
  | cons y l ih => show y :: (l ++ x :: post).eraseIdx l.length = _; rw [ih]; rfl
theorem ct_removeDeleted (hn : h + 11 < sx_n σ) (hJ : m_J M A) {b : Nat} {f l : Int32} (hb : b < (A_v A).2.1.length) : sx_Cp G 4 YX3_removeDeleted [.ref h, .int (nI b), .int f, .int l] (m_S G h M σ) (fun v τ => v = some (.int (nI ((a_ms (A_v A) b).countP (a_dl f l)))) ∧ ∃ M2, τ = m_S G h M2 σ ∧ m_J M2 (A_sv A (v_bm (A_v A) b ((a_ms (A_v A) b).filter (fun x => !(a_dl f l x)))))) := by
  have tail : ∀ (n : Nat) (k : Int32) (c : Bool) M Q, sx_V G 4 YX3_removeDeleted 6 [some (.ref h), some (.int (nI b)), some (.int f), some (.int l), some (.int (nI (n + (if c then 1 else 0)))), some (.int k), none] [] (m_S G h M σ) Q → sx_V G 4 YX3_removeDeleted 74 [some (.ref h), some (.int (nI b)), some (.int f), some (.int l), some (.int (nI n)), some (.int k), some (.int (b_I c))] [] (m_S G h M σ) Q := by
    intro n k c M Q hk
    refine sv_iload dX3_removeDeleted_74 rfl ?_
    refine sv_iload dX3_removeDeleted_76 rfl ?_
    refine sv_if_eqB (tgt := 85) dX3_removeDeleted_78 (by decide) (fun c78 => ?_) (fun c78 => ?_)
    · rw [c78] at hk
      refine sv_iconst (nI 0) dX3_removeDeleted_85 (by decide +kernel) ?_
      refine sv_iaddN dX3_removeDeleted_86 ?_
      refine sv_istore dX3_removeDeleted_87 (by decide) ?_
      refine sv_goto (tgt := 6) dX3_removeDeleted_89 (by decide) ?_
      exact sx_loc [some (.ref h), some (.int (nI b)), some (.int f), some (.int l), some (.int _), some (.int k), none] ⟨rfl, rfl, rfl, rfl, rfl, rfl, trivial⟩ hk
    · rw [c78] at hk
      refine sv_iconst (nI 1) dX3_removeDeleted_81 (by decide +kernel) ?_
      refine sv_goto (tgt := 86) dX3_removeDeleted_82 (by decide) ?_
      refine sv_iaddN dX3_removeDeleted_86 ?_
      refine sv_istore dX3_removeDeleted_87 (by decide) ?_
      refine sv_goto (tgt := 6) dX3_removeDeleted_89 (by decide) ?_
      exact sx_loc [some (.ref h), some (.int (nI b)), some (.int f), some (.int l), some (.int _), some (.int k), none] ⟨rfl, rfl, rfl, rfl, rfl, rfl, trivial⟩ hk
  have loop : ∀ q pre post n M A, m_J M A → b < (A_v A).2.1.length → a_ms (A_v A) b = pre ++ post → n + post.length ≤ 30 → post.length + 1 ≤ q → sx_V G 4 YX3_removeDeleted 6 [some (.ref h), some (.int (nI b)), some (.int f), some (.int l), some (.int (nI n)), some (.int (nI pre.length)), none] [] (m_S G h M σ) (fun o τ => ∃ v, o = .inl v ∧ v = some (.int (nI (n + post.countP (a_dl f l)))) ∧ ∃ M2, τ = m_S G h M2 σ ∧ m_J M2 (A_sv A (v_bm (A_v A) b (pre ++ post.filter (fun x => !(a_dl f l x)))))) := by
    intro q
    induction q with
    | zero => intro pre post n M A hJ hb hm g1 g2; exact absurd g2 (by omega)
    | succ q ih =>
    intro pre post n M A hJ hb hm g1 g2
    have hb3 := hJ.2.2.1.1.1
    have hl := hJ.2.2.1.1.2.2 b hb
    have hll : pre.length + post.length = (a_ms (A_v A) b).length := by rw [hm, List.length_append]
    refine sv_iload dX3_removeDeleted_6 rfl ?_
    refine sv_aload_n dX3_removeDeleted_8 rfl ?_
    refine sv_iload_n dX3_removeDeleted_9 rfl ?_
    refine sv_cvR _ (ct_manyIn hn (m_J_e hJ).1 hJ.2.2.1.1 hb) okX3_manyIn kv_X3_100 (sx_rd_c (m_S_0 hn)) rfl dX3_removeDeleted_10 rfl rfl (by decide) (Nat.le_of_ble_eq_true rfl) ?_
    refine sv_icmp_geN (tgt := 92) dX3_removeDeleted_13 (by decide) (by omega) (by omega) (fun c13 => ?_) (fun c13 => ?_)
    · have hz : post = [] := List.length_eq_zero_iff.mp (by omega)
      subst hz
      have hfin : v_bm (A_v A) b (pre ++ List.filter (fun x => !(a_dl f l x)) []) = A_v A := by rw [List.filter_nil, ← hm]; exact v_bm_id hb
      refine sv_iload dX3_removeDeleted_92 rfl ?_
      refine sv_iret rfl rfl dX3_removeDeleted_94 ?_
      exact ⟨_, rfl, rfl, M, rfl, by rw [hfin]; exact hJ⟩
    · have hlt : pre.length < (a_ms (A_v A) b).length := by omega
      obtain ⟨x, rest, rfl⟩ : ∃ x rest, post = x :: rest := List.exists_cons_of_length_pos (by omega)
      have hx : a_m (A_v A) b pre.length = x := by show (a_ms (A_v A) b).getD _ _ = x; rw [hm, gd_mid]
      rw [List.length_cons] at g1 g2
      refine sv_aload_n dX3_removeDeleted_16 rfl ?_
      refine sv_iload_n dX3_removeDeleted_17 rfl ?_
      refine sv_iload dX3_removeDeleted_18 rfl ?_
      refine sv_iconst (nI 2) dX3_removeDeleted_20 (by decide +kernel) ?_
      refine sv_cvR _ (ct_flags hn (m_J_e hJ).1 hJ.2.2.1.1 hb hlt) okX3_ofMessage kv_X3_103 (sx_rd_c (m_S_0 hn)) rfl dX3_removeDeleted_21 rfl rfl (by decide) (Nat.le_of_ble_eq_true rfl) ?_
      refine sv_bipush (nI 8) dX3_removeDeleted_24 (by decide +kernel) ?_
      refine sv_topI (y := 8) (by decide +kernel) ?_
      refine sv_iand dX3_removeDeleted_26 ?_
      refine sv_if_eq (tgt := 53) dX3_removeDeleted_27 (by decide) (fun c27 => ?_) (fun c27 => ?_)
      · rw [hx] at c27
        have hjn : nI 0 = b_I (a_dl f l x) := by unfold a_dl; rw [decide_eq_true c27]; rfl
        refine sv_iconst (nI 0) dX3_removeDeleted_53 (by decide +kernel) ?_
        refine sv_topI hjn ?_
        refine sv_istore dX3_removeDeleted_54 (by decide) ?_
        refine sv_iload dX3_removeDeleted_56 rfl ?_
        refine sv_if_eqB (tgt := 71) dX3_removeDeleted_58 (by decide) (fun c58 => ?_) (fun c58 => ?_)
        · have hih := ih (pre ++ [x]) rest n M A hJ hb (by rw [hm, List.append_assoc]; rfl) (by omega) (by omega)
          rw [List.length_append, List.length_singleton, List.append_assoc, List.singleton_append] at hih
          rw [List.filter_cons_of_pos (by rw [c58]; rfl), List.countP_cons_of_neg (by rw [c58]; decide)]
          refine sv_iincN dX3_removeDeleted_71 rfl (by decide) ?_
          refine tail _ _ _ _ _ ?_
          rw [c58]
          exact hih
        · refine sv_aload_n dX3_removeDeleted_61 rfl ?_
          refine sv_iload_n dX3_removeDeleted_62 rfl ?_
          refine sv_iload dX3_removeDeleted_63 rfl ?_
          refine sv_cvR _ (ct_removeMessage (n := (a_ms (A_v A) b).length) hn hJ.1 (by omega) (by omega) (by omega) (hJ.2.1.1.2.2.2 b hb).2.1) okX3_removeMessage kv_X3_238 (sx_rd_c (m_S_0 hn)) rfl dX3_removeDeleted_65 rfl rfl (by decide) (Nat.le_of_ble_eq_true rfl) ?_
          have he3 := e_V_rm (i := pre.length) hJ.2.2.1 hb hlt hJ.2.1
          rw [show (a_ms (A_v A) b).eraseIdx pre.length = pre ++ rest from by rw [hm, er_mid]] at he3
          have hJ3 := m_J_a hJ he3 (by have := w_V_rm (i := pre.length) hJ.2.2.1 hb; rw [show (a_ms (A_v A) b).eraseIdx pre.length = pre ++ rest from by rw [hm, er_mid]] at this; exact this)
          have hih := ih pre rest (n + 1) _ _ hJ3 (by show b < (v_bm (A_v A) b _).2.1.length; rw [v_bm_n]; exact hb) (v_bm_ms hb) (by omega) (by omega)
          have hfin : v_bm (A_v (A_sv A (v_bm (A_v A) b (pre ++ rest)))) b (pre ++ rest.filter (fun x => !(a_dl f l x))) = v_bm (A_v A) b (pre ++ (x :: rest).filter (fun x => !(a_dl f l x))) := by rw [List.filter_cons_of_neg (by rw [c58]; decide)]; exact v_bm_bm hb
          have hcn : n + 1 + rest.countP (a_dl f l) = n + (x :: rest).countP (a_dl f l) := by rw [List.countP_cons_of_pos c58]; omega
          rw [hfin, hcn] at hih
          refine sv_goto (tgt := 74) dX3_removeDeleted_68 (by decide) ?_
          refine tail _ _ _ _ _ ?_
          rw [c58]
          exact hih
      · refine sv_aload_n dX3_removeDeleted_30 rfl ?_
        refine sv_iload_n dX3_removeDeleted_31 rfl ?_
        refine sv_iload dX3_removeDeleted_32 rfl ?_
        refine sv_iconst (nI 0) dX3_removeDeleted_34 (by decide +kernel) ?_
        refine sv_cvR _ (ct_uid hn (m_J_e hJ).1 hJ.2.2.1.1 hb hlt) okX3_ofMessage kv_X3_103 (sx_rd_c (m_S_0 hn)) rfl dX3_removeDeleted_35 rfl rfl (by decide) (Nat.le_of_ble_eq_true rfl) ?_
        refine sv_i2l dX3_removeDeleted_38 ?_
        refine sv_iload_n dX3_removeDeleted_39 rfl ?_
        refine sv_i2l dX3_removeDeleted_40 ?_
        refine sv_iload_n dX3_removeDeleted_41 rfl ?_
        refine sv_i2l dX3_removeDeleted_42 ?_
        refine sv_csR _ ct_in okX3_in ks_X3_70 dX3_removeDeleted_43 rfl rfl (by decide) (Nat.le_of_ble_eq_true rfl) ?_
        refine sv_if_eqB (tgt := 53) dX3_removeDeleted_46 (by decide) (fun c46 => ?_) (fun c46 => ?_)
        · rw [hx] at c27 c46
          have hjn : nI 0 = b_I (a_dl f l x) := by unfold a_dl; rw [c46, Bool.and_false]; rfl
          refine sv_iconst (nI 0) dX3_removeDeleted_53 (by decide +kernel) ?_
          refine sv_topI hjn ?_
          refine sv_istore dX3_removeDeleted_54 (by decide) ?_
          refine sv_iload dX3_removeDeleted_56 rfl ?_
          refine sv_if_eqB (tgt := 71) dX3_removeDeleted_58 (by decide) (fun c58 => ?_) (fun c58 => ?_)
          · have hih := ih (pre ++ [x]) rest n M A hJ hb (by rw [hm, List.append_assoc]; rfl) (by omega) (by omega)
            rw [List.length_append, List.length_singleton, List.append_assoc, List.singleton_append] at hih
            rw [List.filter_cons_of_pos (by rw [c58]; rfl), List.countP_cons_of_neg (by rw [c58]; decide)]
            refine sv_iincN dX3_removeDeleted_71 rfl (by decide) ?_
            refine tail _ _ _ _ _ ?_
            rw [c58]
            exact hih
          · refine sv_aload_n dX3_removeDeleted_61 rfl ?_
            refine sv_iload_n dX3_removeDeleted_62 rfl ?_
            refine sv_iload dX3_removeDeleted_63 rfl ?_
            refine sv_cvR _ (ct_removeMessage (n := (a_ms (A_v A) b).length) hn hJ.1 (by omega) (by omega) (by omega) (hJ.2.1.1.2.2.2 b hb).2.1) okX3_removeMessage kv_X3_238 (sx_rd_c (m_S_0 hn)) rfl dX3_removeDeleted_65 rfl rfl (by decide) (Nat.le_of_ble_eq_true rfl) ?_
            have he3 := e_V_rm (i := pre.length) hJ.2.2.1 hb hlt hJ.2.1
            rw [show (a_ms (A_v A) b).eraseIdx pre.length = pre ++ rest from by rw [hm, er_mid]] at he3
            have hJ3 := m_J_a hJ he3 (by have := w_V_rm (i := pre.length) hJ.2.2.1 hb; rw [show (a_ms (A_v A) b).eraseIdx pre.length = pre ++ rest from by rw [hm, er_mid]] at this; exact this)
            have hih := ih pre rest (n + 1) _ _ hJ3 (by show b < (v_bm (A_v A) b _).2.1.length; rw [v_bm_n]; exact hb) (v_bm_ms hb) (by omega) (by omega)
            have hfin : v_bm (A_v (A_sv A (v_bm (A_v A) b (pre ++ rest)))) b (pre ++ rest.filter (fun x => !(a_dl f l x))) = v_bm (A_v A) b (pre ++ (x :: rest).filter (fun x => !(a_dl f l x))) := by rw [List.filter_cons_of_neg (by rw [c58]; decide)]; exact v_bm_bm hb
            have hcn : n + 1 + rest.countP (a_dl f l) = n + (x :: rest).countP (a_dl f l) := by rw [List.countP_cons_of_pos c58]; omega
            rw [hfin, hcn] at hih
            refine sv_goto (tgt := 74) dX3_removeDeleted_68 (by decide) ?_
            refine tail _ _ _ _ _ ?_
            rw [c58]
            exact hih
        · rw [hx] at c27 c46
          have hjn : nI 1 = b_I (a_dl f l x) := by unfold a_dl; rw [c46, decide_eq_false c27]; rfl
          refine sv_iconst (nI 1) dX3_removeDeleted_49 (by decide +kernel) ?_
          refine sv_goto (tgt := 54) dX3_removeDeleted_50 (by decide) ?_
          refine sv_topI hjn ?_
          refine sv_istore dX3_removeDeleted_54 (by decide) ?_
          refine sv_iload dX3_removeDeleted_56 rfl ?_
          refine sv_if_eqB (tgt := 71) dX3_removeDeleted_58 (by decide) (fun c58 => ?_) (fun c58 => ?_)
          · have hih := ih (pre ++ [x]) rest n M A hJ hb (by rw [hm, List.append_assoc]; rfl) (by omega) (by omega)
            rw [List.length_append, List.length_singleton, List.append_assoc, List.singleton_append] at hih
            rw [List.filter_cons_of_pos (by rw [c58]; rfl), List.countP_cons_of_neg (by rw [c58]; decide)]
            refine sv_iincN dX3_removeDeleted_71 rfl (by decide) ?_
            refine tail _ _ _ _ _ ?_
            rw [c58]
            exact hih
          · refine sv_aload_n dX3_removeDeleted_61 rfl ?_
            refine sv_iload_n dX3_removeDeleted_62 rfl ?_
            refine sv_iload dX3_removeDeleted_63 rfl ?_
            refine sv_cvR _ (ct_removeMessage (n := (a_ms (A_v A) b).length) hn hJ.1 (by omega) (by omega) (by omega) (hJ.2.1.1.2.2.2 b hb).2.1) okX3_removeMessage kv_X3_238 (sx_rd_c (m_S_0 hn)) rfl dX3_removeDeleted_65 rfl rfl (by decide) (Nat.le_of_ble_eq_true rfl) ?_
            have he3 := e_V_rm (i := pre.length) hJ.2.2.1 hb hlt hJ.2.1
            rw [show (a_ms (A_v A) b).eraseIdx pre.length = pre ++ rest from by rw [hm, er_mid]] at he3
            have hJ3 := m_J_a hJ he3 (by have := w_V_rm (i := pre.length) hJ.2.2.1 hb; rw [show (a_ms (A_v A) b).eraseIdx pre.length = pre ++ rest from by rw [hm, er_mid]] at this; exact this)
            have hih := ih pre rest (n + 1) _ _ hJ3 (by show b < (v_bm (A_v A) b _).2.1.length; rw [v_bm_n]; exact hb) (v_bm_ms hb) (by omega) (by omega)
            have hfin : v_bm (A_v (A_sv A (v_bm (A_v A) b (pre ++ rest)))) b (pre ++ rest.filter (fun x => !(a_dl f l x))) = v_bm (A_v A) b (pre ++ (x :: rest).filter (fun x => !(a_dl f l x))) := by rw [List.filter_cons_of_neg (by rw [c58]; decide)]; exact v_bm_bm hb
            have hcn : n + 1 + rest.countP (a_dl f l) = n + (x :: rest).countP (a_dl f l) := by rw [List.countP_cons_of_pos c58]; omega
            rw [hfin, hcn] at hih
            refine sv_goto (tgt := 74) dX3_removeDeleted_68 (by decide) ?_
            refine tail _ _ _ _ _ ?_
            rw [c58]
            exact hih
  refine sx_body (by decide) (Nat.le_of_ble_eq_true rfl) ?_
  refine sv_iconst (nI 0) dX3_removeDeleted_0 (by decide +kernel) ?_
  refine sv_istore dX3_removeDeleted_1 (by decide) ?_
  refine sv_iconst (nI 0) dX3_removeDeleted_3 (by decide +kernel) ?_
  refine sv_istore dX3_removeDeleted_4 (by decide) ?_
  have := hJ.2.2.1.1.2.2 b hb
  exact sx_loc [some (.ref h), some (.int (nI b)), some (.int f), some (.int l), some (.int (nI 0)), some (.int (nI 0)), none] ⟨rfl, rfl, rfl, rfl, rfl, rfl, trivial⟩ (by have g := loop 31 [] (a_ms (A_v A) b) 0 M A hJ hb rfl (by omega) (by omega); rw [Nat.zero_add, List.nil_append] at g; exact g)
end MRL
