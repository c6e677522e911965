set_option maxRecDepth 100000
section CO1
variable {ρ : sx_St} {sb sa cap : Nat} {O : List Int32} {G : sx_G} {σ τ : sx_St} {mu : Nat → Nat} {oc lo sv nl cap : Nat} {ow : Nat → Nat} {Λ : Nat → Nat → Nat → Nat} {A : a_A} {V : a_V} {W : Nat → Prop} {c sl : Nat} {N : List a_N}
/-- a string constant's bytes -/
def g_W (G : sx_G) (i : Nat) (B : List Int32) : Prop := B.length ≤ 100 ∧ ∃ (nb : Nat) (h : Int32) (z : Bool) (f : Nat → Int32), sg_k G (sg_t G i) = some (.inr (12, [.ref nb, .int (nI 0), .int h, .int (b_I z)])) ∧ sg_k G nb = some (.inl (sg_a G 2, B.length, .inl f)) ∧ ∀ i, i < B.length → f i = B.getD i 0
theorem g_W_Sr {i : Nat} {B : List Int32} (h : g_W G i B) : k_Sr G σ (sg_t G i) B := by
  obtain ⟨h0, nb, x, z, f, h1, h2, h3⟩ := h
  exact ⟨nb, x, z, f, Or.inr h1, Or.inr h2, by omega, h3⟩
theorem g_W_rd {i : Nat} {B : List Int32} (h : g_W G i B) : ∃ vs, sx_rd G σ (sg_t G i) (.inr (12, vs)) := by
  obtain ⟨h0, nb, x, z, f, h1, h2, h3⟩ := h
  exact ⟨_, Or.inr h1⟩
def w_L : List Int32 := [nI 115, nI 97, nI 102, nI 100, nI 114]
def w_fk (f : Int32) : Nat → List Int32
  | 0 => []
  | k + 1 => w_fk f k ++ w_f f k
theorem w_fk_5 (f : Int32) : w_fk f 5 = w_fs f := by
  unfold w_fs
  simp only [w_fk, List.nil_append, List.append_assoc]
theorem w_fk_l (f : Int32) : ∀ k, (w_fk f k).length ≤ k := by
  intro k
  induction k with
  | zero => exact Nat.le_refl _
  | succ k ih =>
    have := w_f_l f k
    show (w_fk f k ++ w_f f k).length ≤ _
    rw [List.length_append]
    omega
theorem w_L_g {k : Nat} (h : k < 5) : w_L.getD k 0 &&& 255 = nI (w_k k) := by
  match k, h with
  | 0, _ => decide +kernel
  | 1, _ => decide +kernel
  | 2, _ => decide +kernel
  | 3, _ => decide +kernel
  | 4, _ => decide +kernel
theorem w_k_l (k : Nat) : w_k k < 128 := by unfold w_k; split <;> decide
theorem cw_beg0 {x0 : Nat} {v0 v1 v2 v3 v4 v5 v6 v7 : Value} (hx : sx_c σ x0 = some (.inr (0, [v0, v1, v2, v3, v4, v5, v6, v7, .ref sb]))) (hU : k_U G σ sb sa cap O) (ho : O = []) : sx_Cr G 6 YX1_begins [.ref x0] σ none σ := by
  refine sx_body (by decide) (Nat.le_of_ble_eq_true rfl) ?_
  have hU0 := hU
  obtain ⟨fo, z0, hsb, hsa, hle, hcp, -⟩ := hU
  subst ho
  refine sv_aload_n dX1_begins_0 rfl ?_
  refine sv_get fg_X1_79 dX1_begins_1 (sx_rd_c hx) rfl ?_
  refine sv_cvR _ (cb_len hU0) okJ8_length kv_X1_426 (sx_rd_c hsb) rfl dX1_begins_4 rfl rfl (by omega) (Nat.le_of_ble_eq_true rfl) ?_
  refine sv_if_leN (tgt := 20) dX1_begins_7 (by decide) (by omega) (fun c7 => ?_) (fun c7 => ?_)
  · refine sv_vret rfl dX1_begins_20 ?_
    exact ⟨_, rfl, rfl, rfl⟩
  · exact absurd c7 (Nat.lt_irrefl 0)
theorem cw_beg1 (hC : g_C G) {x0 : Nat} {v0 v1 v2 v3 v4 v5 v6 v7 : Value} (hx : sx_c σ x0 = some (.inr (0, [v0, v1, v2, v3, v4, v5, v6, v7, .ref sb]))) (hU : k_U G σ sb sa cap O) (ho : 0 < O.length) (hl : O.length < 20000) : sx_Cp G 6 YX1_begins [.ref x0] σ (fun v τ => v = none ∧ ∃ sa2 cap2, cap2 ≤ max cap (2 * (O.length + 1)) ∧ k_U G τ sb sa2 cap2 (O ++ [nI 32]) ∧ k_Uf sb sa cap sa2 cap2 σ τ) := by
  refine sx_body (by decide) (Nat.le_of_ble_eq_true rfl) ?_
  have hU0 := hU
  obtain ⟨fo, z0, hsb, hsa, hle, hcp, -⟩ := hU
  refine sv_aload_n dX1_begins_0 rfl ?_
  refine sv_get fg_X1_79 dX1_begins_1 (sx_rd_c hx) rfl ?_
  refine sv_cvR _ (cb_len hU0) okJ8_length kv_X1_426 (sx_rd_c hsb) rfl dX1_begins_4 rfl rfl (by omega) (Nat.le_of_ble_eq_true rfl) ?_
  refine sv_if_leN (tgt := 20) dX1_begins_7 (by decide) (by omega) (fun c7 => ?_) (fun c7 => ?_)
  · exact absurd c7 (by omega)
  · refine sv_aload_n dX1_begins_10 rfl ?_
    refine sv_get fg_X1_79 dX1_begins_11 (sx_rd_c hx) rfl ?_
    refine sv_bipush (nI 32) dX1_begins_14 (by decide +kernel) ?_
    refine sv_cvP _ (cb_app hC hU0 (c := 32) (by omega) (by omega)) okJ8_append_3 kv_X1_153 (sx_rd_c hsb) rfl dX1_begins_16 rfl rfl (by omega) (Nat.le_of_ble_eq_true rfl) ?_
    intro v6 τ4 hp5
    obtain ⟨rfl, sa2, cap2, hm2, hU2, hf2⟩ := hp5
    rw [nI_byte 32 (by omega)] at hU2
    have N7 := ((k_Uf_F hf2)).1.1
    refine sv_pop dX1_begins_19 rfl ?_
    refine sv_vret rfl dX1_begins_20 ?_
    exact ⟨_, rfl, rfl, sa2, cap2, hm2, hU2, hf2⟩
def w_gp (O : List Int32) : List Int32 := if 0 < O.length then [nI 32] else []
theorem cw_beg (hC : g_C G) {x0 : Nat} {v0 v1 v2 v3 v4 v5 v6 v7 : Value} (hx : sx_c σ x0 = some (.inr (0, [v0, v1, v2, v3, v4, v5, v6, v7, .ref sb]))) (hU : k_U G σ sb sa cap O) (hl : O.length < 20000) : sx_Cp G 6 YX1_begins [.ref x0] σ (fun v τ => v = none ∧ ∃ sa2 cap2, cap2 ≤ max cap (2 * (O.length + 1)) ∧ k_U G τ sb sa2 cap2 (O ++ w_gp O) ∧ k_Uf sb sa cap sa2 cap2 σ τ) := by
  unfold w_gp
  by_cases ho : 0 < O.length
  · rw [if_pos ho]
    exact cw_beg1 hC hx hU ho hl
  · rw [if_neg ho, List.append_nil]
    have he : O = [] := List.eq_nil_of_length_eq_zero (by omega)
    refine sx_C_Q (cw_beg0 hx hU he) ?_
    rintro o τ ⟨v, e, rfl, rfl⟩
    exact ⟨_, e, rfl, sa, cap, by omega, hU, k_Uf_r⟩
theorem cw_fl (hC : g_C G) (hL : g_W G 16 w_L) {x0 : Nat} {v0 v1 v2 v3 v4 v5 v6 v7 : Value} (hx : sx_c σ x0 = some (.inr (0, [v0, v1, v2, v3, v4, v5, v6, v7, .ref sb]))) (hU : k_U G σ sb sa cap O) {f : Int32} (hl : O.length < 20000) : sx_Cp G 6 YX1_writeFlags [.ref x0, .int f] σ (fun v τ => v = none ∧ ∃ sa2 cap2, cap2 ≤ max cap (2 * (O.length + 5)) ∧ k_U G τ sb sa2 cap2 (O ++ w_fs f) ∧ k_Uf sb sa cap sa2 cap2 σ τ) := by
  have loop : ∀ r k (ρ : sx_St) sa1 cap1, k ≤ 5 → 6 ≤ k + r → cap1 ≤ max cap (2 * (O.length + k)) → k_U G ρ sb sa1 cap1 (O ++ w_fk f k) → k_Uf sb sa cap sa1 cap1 σ ρ → sx_V G 6 YX1_writeFlags 2 [some (.ref x0), some (.int f), some (.int (nI k))] [] ρ (fun o τ => ∃ v, o = .inl v ∧ v = none ∧ ∃ sa2 cap2, cap2 ≤ max cap (2 * (O.length + 5)) ∧ k_U G τ sb sa2 cap2 (O ++ w_fs f) ∧ k_Uf sb sa cap sa2 cap2 σ τ) := by
    obtain ⟨fo, z0, hsb, hsa, hle, hcp, -⟩ := id hU
    have hxs := e_kn hx hsb rfl
    have hxa := e_kn hx hsa rfl
    intro r
    induction r with
    | zero => intro k ρ sa1 cap1 h1 h2; omega
    | succ r ih =>
    intro k ρ sa1 cap1 h1 h2 h3 hU1 hf1
    have hx1 := h_F_c (k_Uf_F hf1) hx (fun z => z.elim hxs hxa)
    obtain ⟨_, _, hsb1, -⟩ := id hU1
    obtain ⟨vsL, hrL⟩ := g_W_rd (σ := ρ) hL
    refine sv_iload_n dX1_writeFlags_2 rfl ?_
    refine sv_iconst (nI 5) dX1_writeFlags_3 (by decide +kernel) ?_
    refine sv_icmp_geN (tgt := 36) dX1_writeFlags_4 (by decide) (by omega) (by omega) (fun c4 => ?_) (fun c4 => ?_)
    · obtain rfl : k = 5 := by omega
      refine sv_vret rfl dX1_writeFlags_36 ?_
      rw [w_fk_5] at hU1
      exact ⟨_, rfl, rfl, sa1, cap1, h3, hU1, hf1⟩
    · refine sv_iload_n dX1_writeFlags_7 rfl ?_
      refine sv_iload_n dX1_writeFlags_8 rfl ?_
      refine sv_csR _ cc_has okX1_has ks_X1_296 dX1_writeFlags_9 rfl rfl (by omega) (Nat.le_of_ble_eq_true rfl) ?_
      refine sv_if_eqB (tgt := 30) dX1_writeFlags_12 (by decide) (fun c12 => ?_) (fun c12 => ?_)
      · refine sv_iincN dX1_writeFlags_30 rfl (by decide) ?_
        refine sv_goto (tgt := 2) dX1_writeFlags_33 (by decide) ?_
        have hw9 : O ++ w_fk f k = O ++ w_fk f (k + 1) := by show _ = O ++ (w_fk f k ++ w_f f k); rw [w_f_n c12, List.append_nil]
        rw [hw9] at hU1
        exact ih (k + 1) _ sa1 cap1 (by omega) (by omega) (by omega) hU1 hf1
      · refine sv_aload_n dX1_writeFlags_15 rfl ?_
        refine sv_get fg_X1_79 dX1_writeFlags_16 (sx_rd_c hx1) rfl ?_
        refine sv_ldcSw 16 rfl dX1_writeFlags_19 ?_
        refine sv_iload_n dX1_writeFlags_22 rfl ?_
        refine sv_cvR _ (cs_chr hC (g_W_Sr hL) (i := k) (by show k < 5; omega)) okJ9_charAt kv_X1_431 hrL rfl dX1_writeFlags_23 rfl rfl (by omega) (Nat.le_of_ble_eq_true rfl) ?_
        refine sv_tI (y := nI (w_k k)) (w_L_g (by omega)) ?_
        refine sv_cvP _ (cb_app hC hU1 (c := w_k k) (by have := w_k_l k; omega) (by rw [List.length_append]; have := w_fk_l f k; omega)) okJ8_append_3 kv_X1_153 (sx_rd_c hsb1) rfl dX1_writeFlags_26 rfl rfl (by omega) (Nat.le_of_ble_eq_true rfl) ?_
        intro v8 τ9 hp10
        obtain ⟨rfl, sa2, cap2, hm2, hU2, hg2⟩ := hp10
        have hf2 := k_Uf_t hf1 hg2
        have hw9 : O ++ w_fk f k ++ [vp_nar .byte (nI (w_k k)).toInt8.toInt32] = O ++ w_fk f (k + 1) := by rw [nI_byte _ (w_k_l k), List.append_assoc]; show _ = O ++ (w_fk f k ++ w_f f k); rw [w_f_t c12]
        rw [hw9] at hU2
        rw [List.length_append] at hm2
        have hwl9 := w_fk_l f k
        obtain ⟨_, _, hsb9, -⟩ := id hU2
        refine sv_pop dX1_writeFlags_29 rfl ?_
        refine sv_iincN dX1_writeFlags_30 rfl (by decide) ?_
        refine sv_goto (tgt := 2) dX1_writeFlags_33 (by decide) ?_
        exact ih (k + 1) _ sa2 cap2 (by omega) (by omega) (by omega) hU2 hf2
  refine sx_body (by decide) (Nat.le_of_ble_eq_true rfl) ?_
  have hU0 := hU
  obtain ⟨fo, z0, hsb, hsa, hle, hcp, -⟩ := hU
  refine sv_iconst (nI 0) dX1_writeFlags_0 (by decide +kernel) ?_
  refine sv_istore_n dX1_writeFlags_1 (by decide) ?_
  exact loop 6 0 _ sa cap (by omega) (by omega) (by omega) (by show k_U G _ _ _ _ (O ++ []); rw [List.append_nil]; exact hU0) k_Uf_r
end CO1
