set_option maxRecDepth 100000
section MPH
variable {G : sx_G} {h : Nat} {M M' : m_M} {σ : sx_St} {V : a_V} {A : a_A} {t : List Int32} {r : r_T} {S : p_S} {k : k_T}
theorem ct_beginText (hn : h + 11 < sx_n σ) (h8 : M.1 8 = nI t.length) (ht : t.length ≤ 700) (hin : ∀ i, i < t.length → M.2.2.2 2 i = t.getD i 0) (hb : b_B t) : sx_Cp G 3 YX3_beginText [.ref h] (m_S G h M σ) (fun v τ => v = none ∧ ∃ M2, τ = m_S G h M2 σ ∧ m_Q t (k_n t 0) 0 M2 ∧ M2.2 = M.2 ∧ M2.1 8 = nI 0 ∧ ∀ k, (k < 8 ∨ 15 < k) → M2.1 k = M.1 k) := by
  refine sx_body (by decide) (Nat.le_of_ble_eq_true rfl) ?_
  refine sv_aload_n dX3_beginText_0 rfl ?_
  refine sv_aload_n dX3_beginText_1 rfl ?_
  refine sm_get hn fg_X3_270 dX3_beginText_2 rfl ?_
  refine sm_put hn fp_X3_286 dX3_beginText_5 rfl (by decide) ?_
  refine sv_aload_n dX3_beginText_8 rfl ?_
  refine sv_iconst (nI 0) dX3_beginText_9 (by decide +kernel) ?_
  refine sm_put hn fp_X3_270 dX3_beginText_10 rfl (by decide) ?_
  refine sv_aload_n dX3_beginText_13 rfl ?_
  refine sv_iconst (nI 0) dX3_beginText_14 (by decide +kernel) ?_
  refine sm_put hn fp_X3_289 dX3_beginText_15 rfl (by decide) ?_
  refine sv_aload_n dX3_beginText_18 rfl ?_
  refine sv_iconst (nI 0) dX3_beginText_19 (by decide +kernel) ?_
  refine sm_put hn fp_X3_276 dX3_beginText_20 rfl (by decide) ?_
  refine sv_aload_n dX3_beginText_23 rfl ?_
  refine sv_iconst (-1) dX3_beginText_24 (by decide +kernel) ?_
  refine sm_put hn fp_X3_38 dX3_beginText_25 rfl (by decide) ?_
  refine sv_aload_n dX3_beginText_28 rfl ?_
  have hT : m_T t (m_i (m_i (m_i (m_i (m_i M 9 (M.1 8)) 8 (nI 0)) 10 (nI 0)) 14 (nI 0)) 15 (-1)) := ⟨ht, h8, hin⟩
  refine sv_cvP _ (ct_scan (i := 0) hn hT (Nat.zero_le _) rfl) okX3_scan kv_X3_315 (sx_rd_c (m_S_0 hn)) rfl dX3_beginText_29 rfl rfl (by decide) (Nat.le_of_ble_eq_true rfl) ?_
  intro v1 t1 hp1
  obtain ⟨rfl, M1, rfl, hX1, hK1⟩ := hp1
  refine sv_vret rfl dX3_beginText_32 ?_
  exact ⟨_, rfl, rfl, _, rfl, ⟨m_T_X hT hX1, hK1, k_ok_n (Nat.zero_le _), hb, Nat.zero_le _, (hX1.2 14 (by decide) (by decide) (by decide) (by decide)).trans rfl, (hX1.2 15 (by decide) (by decide) (by decide) (by decide)).trans rfl⟩, hX1.1, (hX1.2 8 (by decide) (by decide) (by decide) (by decide)).trans rfl, fun j hj => by rw [hX1.2 j (by omega) (by omega) (by omega) (by omega)]; show upd (upd (upd (upd (upd M.1 9 _) 8 _) 10 _) 14 _) 15 _ j = M.1 j; rw [pk_un (by omega), pk_un (by omega), pk_un (by omega), pk_un (by omega), pk_un (by omega)]⟩
/-- the last uid that a reader saw parts a box's messages -/
theorem se_L {b : Nat} {rr : Nat → Int64} (ho : o_B 0 (a_b V b)) (hB : e_B rr (3 + 93 * b) (a_b V b)) {u : Int32} (hu : a_uB (a_b V b) u) : (if (a_ms V b).length = 0 then 0 else (rr (3 + 93 * b + 3 + 3 * ((a_ms V b).length - 1))).toInt32) < u ↔ (a_b V b).2.1 - 1 < u := by
  have e1 := i32_sub1 ho.1.1
  have key : (if (a_ms V b).length = 0 then 0 else (rr (3 + 93 * b + 3 + 3 * ((a_ms V b).length - 1))).toInt32) < (a_b V b).2.1 := by
    by_cases hz : (a_ms V b).length = 0
    · rw [if_pos hz, Int32.lt_iff_toInt_lt]
      have := ho.1.1
      show 0 < _
      omega
    · rw [if_neg hz]
      have g := (hB.2.2.2 ((a_ms V b).length - 1) (by show _ < (a_ms V b).length; omega)).1
      rw [g]
      exact (ho.2.1 _ (gd_mem (ms := a_ms V b) (by omega))).2.1
  rcases hu with ⟨m, hm, rfl⟩ | hu
  · have hm2 := (ho.2.1 m hm).2.1
    constructor
    · intro z
      exfalso
      obtain ⟨i, hi, rfl⟩ := List.mem_iff_getElem.mp hm
      have hi : i < (a_ms V b).length := hi
      rw [if_neg (by omega)] at z
      have g := (hB.2.2.2 ((a_ms V b).length - 1) (by show _ < (a_ms V b).length; omega)).1
      rw [g] at z
      rw [List.getD_eq_getElem?_getD, List.getElem?_eq_getElem (show (a_ms V b).length - 1 < (a_b V b).2.2.length by show _ < (a_ms V b).length; omega)] at z
      rcases Nat.lt_or_ge i ((a_ms V b).length - 1) with q | q
      · have := List.pairwise_iff_getElem.mp ho.2.2.1 i ((a_ms V b).length - 1) hi (by show _ < (a_ms V b).length; omega) q
        exact Int32.lt_irrefl (Int32.lt_trans z this)
      · have q : i = (a_ms V b).length - 1 := by omega
        subst q
        exact Int32.lt_irrefl z
    · intro z
      exfalso
      rw [Int32.lt_iff_toInt_lt] at z hm2
      omega
  · refine ⟨fun _ => ?_, fun _ => Int32.lt_of_lt_of_le key hu⟩
    rw [Int32.lt_iff_toInt_lt]
    rw [Int32.le_iff_toInt_le] at hu
    omega
/-- sessions ahead of n have selected -/
theorem p_se_b : ∀ n (l : List (Option Nat × Bool)), (p_se n V l).2.1 = V.2.1 ∧ (p_se n V l).1 = V.1 ∧ (p_se n V l).2.2.length = V.2.2.length ∧ ∀ j, n ≤ j → a_s (p_se n V l) j = a_s V j := by
  intro n l
  induction n with
  | zero => exact ⟨rfl, rfl, rfl, fun _ _ => rfl⟩
  | succ n ih =>
    obtain ⟨h1, h2, h3, h4⟩ := ih
    unfold p_se
    rcases l.getD n (none, false) with ⟨_ | b, rd⟩
    · exact ⟨h1, h2, h3, fun j hj => h4 j (by omega)⟩
    · exact ⟨h1, h2, by rw [← h3]; exact a_us_n _ _ _, fun j hj => by show a_s (v_se (p_se n V l) n b rd) j = _; unfold v_se; rw [a_us_t _ (by omega)]; exact h4 j (by omega)⟩
theorem p_se_bb (n : Nat) (l : List (Option Nat × Bool)) (b : Nat) : a_b (p_se n V l) b = a_b V b := by unfold a_b; rw [(p_se_b n l).1]
theorem p_se_o {n : Nat} {l : List (Option Nat × Bool)} (h : p_OV V) (hl : ∀ s b, (l.getD s (none, false)).1 = some b → b < V.2.1.length) (hn : n ≤ V.2.2.length) : w_V (p_se n V l) ∧ o_V 0 (p_se n V l) := by
  induction n with
  | zero => exact ⟨p_OV_V h, p_OV_o h⟩
  | succ n ih =>
    obtain ⟨i1, i2⟩ := ih (by omega)
    obtain ⟨q1, q2, q3, q4⟩ := p_se_b (V := V) n l
    unfold p_se
    rcases hln : l.getD n (none, false) with ⟨_ | b, rd⟩
    · exact ⟨i1, i2⟩
    · have hb := hl n b (by rw [hln])
      have hb2 : b < (p_se n V l).2.1.length := by rw [q1]; exact hb
      have hB := h.2.2.2.1 b hb
      have ho := p_B_o hB
      refine ⟨w_V_se i1 hb2, o_V_us i2 ⟨⟨fun e he => ?_, ?_, ?_⟩, fun c hc => ?_, ?_⟩⟩
      · have he : e ∈ (a_ms (p_se n V l) b).map (fun m => (m.1, m.2.2)) := he
        obtain ⟨m, hm, rfl⟩ := List.mem_map.mp he
        have hm : m ∈ (a_b (p_se n V l) b).2.2 := hm
        rw [p_se_bb] at hm
        have g := ho.2.1 m hm
        refine ⟨g.1, ?_⟩
        show m.1 ≤ (a_b (p_se n V l) b).2.1 - 1
        rw [p_se_bb, Int32.le_iff_toInt_le, i32_sub1 ho.1.1]
        have := g.2.1
        rw [Int32.lt_iff_toInt_lt] at this
        omega
      · show ((a_ms (p_se n V l) b).map (fun m => (m.1, m.2.2))).Pairwise _
        unfold a_ms
        rw [p_se_bb, List.pairwise_map]
        exact ho.2.2.1
      · show 0 ≤ ((a_b (p_se n V l) b).2.1 - 1).toInt
        rw [p_se_bb, i32_sub1 ho.1.1]
        have := ho.1.1
        omega
      · cases hc
        show (a_b (p_se n V l) b).2.1 - 1 < (a_b (v_se (p_se n V l) n b rd) b).2.1
        have e : a_b (v_se (p_se n V l) n b rd) b = a_b V b := p_se_bb n l b
        rw [e, p_se_bb, Int32.lt_iff_toInt_lt, i32_sub1 ho.1.1]
        omega
      · show o_N (a_s (p_se n V l) n).1
        rw [q4 n (Nat.le_refl _)]
        exact (h.2.2.2.2 n (by omega)).1
/-- the row while sessions select -/
def d_se (S : p_S) (n : Nat) (rr : Nat → Int64) : Prop := e_Vb rr (p_se n S.1 S.2.2) ∧ (∀ j, j < n → e_S rr (282 + 131 * j) (a_s (p_se n S.1 S.2.2) j) ∧ e_L rr (p_se n S.1 S.2.2) j) ∧ ∀ j, n ≤ j → j < S.1.2.2.length → rr (282 + 131 * j) = n_code (a_s S.1 j).1 ∧ ∀ i, 1 ≤ i → i < 131 → rr (282 + 131 * j + i) = 0
theorem d_se_0 (hok : p_ok S) (hD : m_D S M) : d_se S 0 (m_w M) := ⟨hD.2.1, fun j hj => absurd hj (Nat.not_lt_zero j), fun j _ hj => ⟨hD.2.2.1 j hj, fun i g1 g2 => hD.2.2.2.1 j (by have := hok.1.2.2.1; omega) i g1 g2⟩⟩
theorem d_se_fr {n : Nat} {rr r2 : Nat → Int64} (hok : p_ok S) (hn : n < S.1.2.2.length) (h : d_se S n rr) (ho : ∀ i, (i < 282 + 131 * n ∨ 282 + 131 * n + 131 ≤ i) → r2 i = rr i) : e_Vb r2 (p_se n S.1 S.2.2) ∧ (∀ j, j < n → e_S r2 (282 + 131 * j) (a_s (p_se n S.1 S.2.2) j) ∧ e_L r2 (p_se n S.1 S.2.2) j) ∧ ∀ j, n + 1 ≤ j → j < S.1.2.2.length → r2 (282 + 131 * j) = n_code (a_s S.1 j).1 ∧ ∀ i, 1 ≤ i → i < 131 → r2 (282 + 131 * j + i) = 0 := by
  obtain ⟨⟨h1, h2, h3, h4⟩, h5, h6⟩ := h
  obtain ⟨q1, q2, q3, q4⟩ := p_se_b (V := S.1) n S.2.2
  obtain ⟨w1, w2⟩ := p_se_o (n := n) hok.1 hok.2.2 (by omega)
  have hb3 := w1.1.1
  refine ⟨⟨by rw [ho _ (by omega)]; exact h1, by rw [ho _ (by omega)]; exact h2, by rw [ho _ (by omega)]; exact h3, fun b hb => e_B_fr (w1.1.2.2 b hb) (fun i g1 g2 => ho i (by omega)) (h4 b hb)⟩, fun j hj => ⟨e_S_fr (w1.2.1 j (by omega)) (fun i g1 g2 => ho i (by omega)) (h5 j hj).1, fun b hb u hu => ?_⟩, fun j g1 g2 => ⟨by rw [ho _ (by omega)]; exact (h6 j (by omega) g2).1, fun i g3 g4 => by rw [ho _ (by omega)]; exact (h6 j (by omega) g2).2 i g3 g4⟩⟩
  rw [ho _ (by omega)]
  exact (h5 j hj).2 b hb u hu
theorem d_se_n {n : Nat} {M : m_M} {rd : Bool} (hok : p_ok S) (hn : n < S.1.2.2.length) (h : d_se S n (m_w M)) (hl : S.2.2.getD n (none, false) = (none, rd)) : d_se S (n + 1) (m_w (m_lv M n)) := by
  have hz : ∀ i, i ≠ 282 + 131 * n + 1 → i ≠ 282 + 131 * n + 2 → i ≠ 282 + 131 * n + 4 → i ≠ 282 + 131 * n + 5 → m_w (m_lv M n) i = m_w M i := fun i g1 g2 g3 g4 => by
    rw [m_w_lv]
    unfold r_lv
    rw [uL_n g4, uL_n g3, uL_n g2, uL_n g1]
  have e : p_se (n + 1) S.1 S.2.2 = p_se n S.1 S.2.2 := by
    show (match S.2.2.getD n (none, false) with | (some b, rd) => v_se (p_se n S.1 S.2.2) n b rd | (none, _) => p_se n S.1 S.2.2) = _
    rw [hl]
  obtain ⟨f1, f2, f3⟩ := d_se_fr hok hn h (fun i hi => hz i (by omega) (by omega) (by omega) (by omega))
  obtain ⟨q1, q2, q3, q4⟩ := p_se_b (V := S.1) n S.2.2
  obtain ⟨g1, g2⟩ := h.2.2 n (Nat.le_refl _) hn
  unfold d_se
  rw [e]
  refine ⟨f1, fun j hj => ?_, f3⟩
  by_cases hjn : j = n
  · subst hjn
    have es : a_s (p_se j S.1 S.2.2) j = p_fr (a_s S.1 j).1 := by rw [q4 j (Nat.le_refl _)]; exact (hok.1.2.2.2.2 j hn).2
    rw [es]
    refine ⟨⟨by rw [hz _ (by omega) (by omega) (by omega) (by omega)]; exact g1, ?_, ?_, by rw [hz _ (by omega) (by omega) (by omega) (by omega), g2 3 (by decide) (by decide)]; rfl, ?_, fun i hi => by rw [hz _ (by omega) (by omega) (by omega) (by omega), show 282 + 131 * j + 6 + i = 282 + 131 * j + (6 + i) by omega, g2 (6 + i) (by omega) (by omega)]; rfl, fun i hi => absurd hi (Nat.not_lt_zero i)⟩, fun b hb => ?_⟩
    · rw [m_w_lv]; unfold r_lv; rw [uL_n (by omega), uL_n (by omega), uL_n (by omega), uL_s]; rfl
    · rw [m_w_lv]; unfold r_lv; rw [uL_n (by omega), uL_n (by omega), uL_s]; rfl
    · rw [m_w_lv]; unfold r_lv; rw [uL_n (by omega), uL_s]; rfl
    · unfold a_bx at hb
      rw [es] at hb
      cases hb
  · exact f2 j (by omega)
theorem d_se_s {n b : Nat} {M M0 : m_M} {rd : Bool} (hok : p_ok S) (hn : n < S.1.2.2.length) (h : d_se S n (m_w M0)) (hz : ∀ i, i ≠ 282 + 131 * n + 1 → i ≠ 282 + 131 * n + 2 → i ≠ 282 + 131 * n + 4 → i ≠ 282 + 131 * n + 5 → m_w M i = m_w M0 i) (hl : S.2.2.getD n (none, false) = (some b, rd)) : d_se S (n + 1) (m_w (m_tk (m_tk0 M n b rd) n b (a_ms S.1 b).length)) := by
  have hb : b < S.1.2.1.length := hok.2.2 n b (by rw [hl])
  have hb3 := hok.1.2.1
  have hB := hok.1.2.2.2.1 b hb
  have hml : (a_ms S.1 b).length ≤ 30 := hB.2.1
  obtain ⟨k1, k2, k3, k4, k5, k6⟩ := tk_row (M := M) (s := n) (rd := rd) (show b < 3 by omega) (a_ms S.1 b).length hml
  have e : p_se (n + 1) S.1 S.2.2 = v_se (p_se n S.1 S.2.2) n b rd := by
    show (match S.2.2.getD n (none, false) with | (some b, rd) => v_se (p_se n S.1 S.2.2) n b rd | (none, _) => p_se n S.1 S.2.2) = _
    rw [hl]
  obtain ⟨f1, f2, f3⟩ := d_se_fr hok hn h (fun i hi => (k1 i (by omega)).trans (hz i (by omega) (by omega) (by omega) (by omega)))
  obtain ⟨q1, q2, q3, q4⟩ := p_se_b (V := S.1) n S.2.2
  obtain ⟨g1, g2⟩ := h.2.2 n (Nat.le_refl _) hn
  have hn2 : n < (p_se n S.1 S.2.2).2.2.length := by rw [q3]; exact hn
  have eB : e_B (m_w M) (3 + 93 * b) (a_b S.1 b) := by
    have := h.1.2.2.2 b (by rw [q1]; exact hb)
    rw [p_se_bb] at this
    exact e_B_fr hml (fun i g1 g2 => hz i (by omega) (by omega) (by omega) (by omega)) this
  unfold d_se
  rw [e]
  refine ⟨⟨f1.1, f1.2.1, by rw [f1.2.2.1]; congr 1; exact (a_us_n _ _ _).symm, f1.2.2.2⟩, fun j hj => ?_, f3⟩
  by_cases hjn : j = n
  · subst hjn
    have es : a_s (v_se (p_se j S.1 S.2.2) j b rd) j = ((a_s S.1 j).1, some b, rd, false, (a_b S.1 b).2.1 - 1, fun _ => 0, (a_ms S.1 b).map (fun m => (m.1, m.2.2))) := by
      unfold v_se a_ms
      rw [a_us_s _ hn2, q4 j (Nat.le_refl _), p_se_bb, (hok.1.2.2.2.2 j hn).2]
      rfl
    rw [es]
    refine ⟨⟨by rw [k1 _ (by omega), hz _ (by omega) (by omega) (by omega) (by omega)]; exact g1, k2, k3, by rw [k1 _ (by omega), hz _ (by omega) (by omega) (by omega) (by omega), g2 3 (by decide) (by decide)]; rfl, ?_, fun i hi => by rw [k1 _ (by omega), hz _ (by omega) (by omega) (by omega) (by omega), show 282 + 131 * j + 6 + i = 282 + 131 * j + (6 + i) by omega, g2 (6 + i) (by omega) (by omega)]; rfl, fun i hi => ?_⟩, fun c hc u hu => ?_⟩
    · rw [k4]
      show nI _ = nI (List.map _ _).length
      rw [List.length_map]
    · have hi : i < (List.map (fun m : a_M => (m.1, m.2.2)) (a_ms S.1 b)).length := hi
      rw [List.length_map] at hi
      show _ = ((List.map (fun m : a_M => (m.1, m.2.2)) (a_ms S.1 b)).getD i (0, 0)).1 ∧ _ = ((List.map (fun m : a_M => (m.1, m.2.2)) (a_ms S.1 b)).getD i (0, 0)).2
      rw [gd_mapE _ _ hi, (k6 i hi).1, (k6 i hi).2]
      have := eB.2.2.2 i hi
      exact ⟨this.1, this.2.2⟩
    · unfold a_bx at hc
      rw [es] at hc
      cases hc
      have hu : a_uB (a_b S.1 b) u := by
        have e2 : a_b (v_se (p_se j S.1 S.2.2) j b rd) b = a_b S.1 b := p_se_bb j S.2.2 b
        rw [e2] at hu
        exact hu
      unfold a_ls
      rw [es, k5]
      exact se_L (p_B_o hB) eB hu
  · obtain ⟨z1, z2⟩ := f2 j (by omega)
    have es : a_s (v_se (p_se n S.1 S.2.2) n b rd) j = a_s (p_se n S.1 S.2.2) j := by unfold v_se; rw [a_us_t _ hjn]
    rw [es]
    refine ⟨z1, fun c hc u hu => ?_⟩
    unfold a_bx a_ls at *
    rw [es] at hc ⊢
    exact z2 c hc u hu
theorem d_se_e {rr : Nat → Int64} (hok : p_ok S) (h : d_se S S.1.2.2.length rr) : e_V rr (p_se S.1.2.2.length S.1 S.2.2) := by
  obtain ⟨q1, q2, q3, q4⟩ := p_se_b (V := S.1) S.1.2.2.length S.2.2
  exact ⟨h.1, fun s hs => (h.2.1 s (by rw [q3] at hs; exact hs)).1, fun s hs => (h.2.1 s (by rw [q3] at hs; exact hs)).2⟩
theorem m_V_lv {s : Nat} (hr : M.2.1 = true) (h : m_V M M') : m_V M (m_lv M' s) := m_V_u hr (m_V_u hr (m_V_u hr (m_V_u hr h)))
theorem m_V_tk {s b : Nat} (hr : M.2.1 = true) (h : m_V M M') : ∀ k, m_V M (m_tk M' s b k) := by
  intro k
  induction k with
  | zero => exact h
  | succ k ih => exact m_V_u hr (m_V_u hr (m_V_u hr (m_V_u hr ih)))
theorem m_tk_f {s b : Nat} {M : m_M} : ∀ k, (m_tk M s b k).1 = M.1 := by
  intro k
  induction k with
  | zero => rfl
  | succ k ih => exact ih
theorem m_tk_b {s b : Nat} {M : m_M} : ∀ k, (m_tk M s b k).2.2.2 = M.2.2.2 := by
  intro k
  induction k with
  | zero => rfl
  | succ k ih => exact ih
theorem ct_selectAll (hn : h + 11 < sx_n σ) (hD : m_D S M) (hok : p_ok S) : sx_C G 5 YX3_selectAll [.ref h] (m_S G h M σ) (fun o τ => ∃ v, o = .inl v ∧ v = none ∧ ∃ M2, τ = m_S G h M2 σ ∧ m_V M M2 ∧ e_V (m_w M2) (p_se S.1.2.2.length S.1 S.2.2) ∧ M2.1 = M.1) := by
  have loop : ∀ q n M1, n ≤ S.1.2.2.length → S.1.2.2.length + 1 ≤ n + q → m_V M M1 → M1.2.1 = true → d_se S n (m_w M1) → (M1.2.2.2 = M.2.2.2 ∧ M1.1 = M.1) → sx_V G 5 YX3_selectAll 2 [some (.ref h), some (.int (nI n))] [] (m_S G h M1 σ) (fun o τ => ∃ v, o = .inl v ∧ v = none ∧ ∃ M2, τ = m_S G h M2 σ ∧ m_V M M2 ∧ e_V (m_w M2) (p_se S.1.2.2.length S.1 S.2.2) ∧ M2.1 = M.1) := by
    have hw := p_OV_w hok.1
    have hw1 := hw.1
    have hw2 := hw.2.1
    intro q
    induction q with
    | zero => intro n M1 h1 h2; exact absurd h2 (by omega)
    | succ q ih =>
    intro n M1 g1 g2 hV1 hr1 hd1 hb1
    obtain ⟨q1, q2, q3, q4⟩ := p_se_b (V := S.1) n S.2.2
    obtain ⟨w1, w2⟩ := p_se_o (n := n) hok.1 hok.2.2 g1
    refine sv_iload_n dX3_selectAll_2 rfl ?_
    refine sv_aload_n dX3_selectAll_3 rfl ?_
    refine sv_cvR _ (ct_sessions (V := p_se n S.1 S.2.2) hn hd1.1 w1.1) okX3_sessions kv_X3_74 (sx_rd_c (m_S_0 hn)) rfl dX3_selectAll_4 rfl rfl (by decide) (Nat.le_of_ble_eq_true rfl) ?_
    refine sv_topI (y := nI S.1.2.2.length) (by rw [q3]) ?_
    refine sv_icmp_geN (tgt := 48) dX3_selectAll_7 (by decide) (by omega) (by omega) (fun c7 => ?_) (fun c7 => ?_)
    · obtain rfl : n = S.1.2.2.length := by omega
      refine sv_vret rfl dX3_selectAll_48 ?_
      exact ⟨_, rfl, rfl, _, rfl, hV1, d_se_e hok hd1, hb1.2⟩
    · have hlt : n < S.1.2.2.length := by omega
      refine sv_aload_n dX3_selectAll_10 rfl ?_
      refine sv_iload_n dX3_selectAll_11 rfl ?_
      refine sv_cvR _ (ct_leaveBox hn (by omega)) okX3_leaveBox kv_X3_186 (sx_rd_c (m_S_0 hn)) rfl dX3_selectAll_12 rfl rfl (by decide) (Nat.le_of_ble_eq_true rfl) ?_
      refine sv_aload_n dX3_selectAll_15 rfl ?_
      refine sm_get hn fg_X3_41 dX3_selectAll_16 rfl ?_
      refine sv_iload_n dX3_selectAll_19 rfl ?_
      refine sm_b3ld hn dX3_selectAll_20 (by omega) ?_
      refine sv_topI (y := o_I (S.2.2.getD n (none, false)).1) (by rw [show (m_lv M1 n).2.2.2 = M.2.2.2 from hb1.1]; exact (hD.2.2.2.2.2.2.2 n (by rw [hok.2.1]; exact hlt)).1) ?_
      refine sv_iconst (-1) dX3_selectAll_21 (by decide +kernel) ?_
      refine sv_icmp_eq (tgt := 42) dX3_selectAll_22 (by decide) (fun c22 => ?_) (fun c22 => ?_)
      · have hno := (o_I_m1 _ (fun b z => by have h8 := hok.2.2 n b z; omega)).mp c22
        have hV2 := m_V_lv (s := n) hD.1 hV1
        have hr2 : (m_lv M1 n).2.1 = true := hr1
        have hd2 := d_se_n (rd := (S.2.2.getD n (none, false)).2) hok hlt hd1 (Prod.ext hno rfl)
        have hb2 : (m_lv M1 n).2.2.2 = M.2.2.2 ∧ (m_lv M1 n).1 = M.1 := hb1
        refine sv_iincN dX3_selectAll_42 rfl (by decide) ?_
        refine sv_goto (tgt := 2) dX3_selectAll_45 (by decide) ?_
        exact ih (n + 1) _ (by omega) (by omega) hV2 hr2 hd2 hb2
      · obtain ⟨b, hbe⟩ : ∃ b, (S.2.2.getD n (none, false)).1 = some b := by
          cases hz : (S.2.2.getD n (none, false)).1 with
          | none => exact absurd (by rw [hz]; rfl) c22
          | some b => exact ⟨b, rfl⟩
        have hb := hok.2.2 n b hbe
        have hml : (a_ms S.1 b).length ≤ 30 := hw.2.2 b hb
        have hzz : ∀ i, i ≠ 282 + 131 * n + 1 → i ≠ 282 + 131 * n + 2 → i ≠ 282 + 131 * n + 4 → i ≠ 282 + 131 * n + 5 → m_w (m_lv M1 n) i = m_w M1 i := fun i g1 g2 g3 g4 => by rw [m_w_lv]; unfold r_lv; rw [uL_n g4, uL_n g3, uL_n g2, uL_n g1]
        have hm9 : (m_w (m_lv M1 n) (3 + 93 * b + 1)).toInt32 = nI (a_ms S.1 b).length := by
          rw [hzz _ (by omega) (by omega) (by omega) (by omega)]
          have g9 := (hd1.1.2.2.2 b (by rw [q1]; exact hb)).2.1
          rw [p_se_bb] at g9
          exact g9
        refine sv_aload_n dX3_selectAll_25 rfl ?_
        refine sv_iload_n dX3_selectAll_26 rfl ?_
        refine sv_aload_n dX3_selectAll_27 rfl ?_
        refine sm_get hn fg_X3_41 dX3_selectAll_28 rfl ?_
        refine sv_iload_n dX3_selectAll_31 rfl ?_
        refine sm_b3ld hn dX3_selectAll_32 (by omega) ?_
        refine sv_topI (y := nI b) (by rw [show (m_lv M1 n).2.2.2 = M.2.2.2 from hb1.1, (hD.2.2.2.2.2.2.2 n (by rw [hok.2.1]; exact hlt)).1, hbe]; rfl) ?_
        refine sv_aload_n dX3_selectAll_33 rfl ?_
        refine sm_get hn fg_X3_44 dX3_selectAll_34 rfl ?_
        refine sv_iload_n dX3_selectAll_37 rfl ?_
        refine sm_b4ld hn dX3_selectAll_38 (by omega) ?_
        refine sv_topI (y := b_I (S.2.2.getD n (none, false)).2) (by rw [show (m_lv M1 n).2.2.2 = M.2.2.2 from hb1.1]; exact (hD.2.2.2.2.2.2.2 n (by rw [hok.2.1]; exact hlt)).2 (by rw [hbe]; rfl)) ?_
        refine sv_cvR _ (ct_takeBox (s := n) (b := b) (n := (a_ms S.1 b).length) (rd := (S.2.2.getD n (none, false)).2) hn (by omega) (by omega) hml hm9) okX3_takeBox kv_X3_199 (sx_rd_c (m_S_0 hn)) rfl dX3_selectAll_39 rfl rfl (by decide) (Nat.le_of_ble_eq_true rfl) ?_
        have hV2 := m_V_tk (s := n) (b := b) (M' := m_tk0 (m_lv M1 n) n b (S.2.2.getD n (none, false)).2) hD.1 (m_V_u hD.1 (m_V_u hD.1 (m_V_lv hD.1 (m_V_lv (s := n) hD.1 hV1)))) (a_ms S.1 b).length
        have hr2 := hV2.1.trans hD.1
        have hd2 := d_se_s (M := m_lv M1 n) (rd := (S.2.2.getD n (none, false)).2) hok hlt hd1 hzz (Prod.ext hbe rfl)
        have hb2 : (m_tk (m_tk0 (m_lv M1 n) n b (S.2.2.getD n (none, false)).2) n b (a_ms S.1 b).length).2.2.2 = M.2.2.2 ∧ (m_tk (m_tk0 (m_lv M1 n) n b (S.2.2.getD n (none, false)).2) n b (a_ms S.1 b).length).1 = M.1 := ⟨(m_tk_b _).trans hb1.1, (m_tk_f _).trans hb1.2⟩
        refine sv_iincN dX3_selectAll_42 rfl (by decide) ?_
        refine sv_goto (tgt := 2) dX3_selectAll_45 (by decide) ?_
        exact ih (n + 1) _ (by omega) (by omega) hV2 hr2 hd2 hb2
  refine sx_body (by decide) (Nat.le_of_ble_eq_true rfl) ?_
  refine sv_iconst (nI 0) dX3_selectAll_0 (by decide +kernel) ?_
  refine sv_istore_n dX3_selectAll_1 (by decide) ?_
  exact loop 6 0 M (Nat.zero_le _) (by have := hok.1.2.2.1; omega) m_V_r hD.1 (d_se_0 hok hD) ⟨rfl, rfl⟩
end MPH
