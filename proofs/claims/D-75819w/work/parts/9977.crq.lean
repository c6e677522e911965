set_option maxRecDepth 100000
section CLF
variable {G : sx_G} {σ τ : sx_St} {mu : Nat → Nat} {oc n sv nl : Nat} {A : a_A} {t : List Int32} {k : k_T} {S : p_S} {z : Nat} {tt : Nat → Nat}
/-- what comes of reading a query -/
def c_Q (G : sx_G) (mu : Nat → Nat) (oc : Nat) (σ : sx_St) (A : a_A) (o : sx_O) (τ : sx_St) : Prop := match p_wh (A_i A) with
  | .inl e => o = .inl (some .null) ∧ c_K G mu oc τ (A_er A (nI e.1) (nI e.2)) ∧ h_F (fun q => q = mu 0 ∨ sx_n σ ≤ q) 5021 60102 σ τ
  | .inr r => ∃ te n, o = .inl (some (.ref te)) ∧ n ≤ 700 ∧ k_P G n τ te r ∧ c_K G mu oc τ (A_er A 0 (-1)) ∧ h_F (fun q => q = mu 0 ∨ sx_n σ ≤ q) 5021 60102 σ τ
theorem c_Q_l {e : p_E} {o : sx_O} (h : p_wh (A_i A) = .inl e) (hh : o = .inl (some .null) ∧ c_K G mu oc τ (A_er A (nI e.1) (nI e.2)) ∧ h_F (fun q => q = mu 0 ∨ sx_n σ ≤ q) 5021 60102 σ τ) : c_Q G mu oc σ A o τ := by unfold c_Q; rw [h]; exact hh
theorem c_Q_r {r : p_T} {o : sx_O} (h : p_wh (A_i A) = .inr r) (hh : ∃ te n, o = .inl (some (.ref te)) ∧ n ≤ 700 ∧ k_P G n τ te r ∧ c_K G mu oc τ (A_er A 0 (-1)) ∧ h_F (fun q => q = mu 0 ∨ sx_n σ ≤ q) 5021 60102 σ τ) : c_Q G mu oc σ A o τ := by unfold c_Q; rw [h]; exact hh
theorem cc_rq (hK : c_K G mu oc σ A) (hG9 : g_Y G (sx_n σ) tt) (hb : b_B (A_i A)) (hG : g_L G) (hM : g_M G) : sx_C G 130 YX1_readQuery [.ref (mu 0)] σ (c_Q G mu oc σ A) := by
  refine sx_body (by decide) (Nat.le_of_ble_eq_true rfl) ?_
  obtain ⟨sv, nl, hX, hF, hFn⟩ := hK
  have hx := hX.1
  have hmu := c_X_mu hX
  refine sv_aload_n dX1_readQuery_0 rfl ?_
  refine sv_cvP _ (cc_noErr hX) okX1_noError kv_X1_130 (sx_rd_c hx) rfl dX1_readQuery_1 rfl rfl (by omega) (Nat.le_of_ble_eq_true rfl) ?_
  intro v1 τa hp1
  obtain ⟨rfl, hX1, F1⟩ := hp1
  have nF1 := F1.1.1
  have nF2 := F1.1.2
  have nF3 := F1.2.1
  have hx1 : sx_c τa (mu 0) = some (.inr (0, [.ref sv, .ref (mu 1), .ref (mu 3), .ref nl, .ref (mu 4), .int (nI (A_i A).length), .int 0, .int (-1), .ref (mu 5)])) := hX1.1
  refine sv_new fn_X1_133 dX1_readQuery_4 ?_
  refine hs_al (fun pa τ1 E6 F2 h3 N4 Z5 => ?_)
  have hx1' := h_F_c F2 hx1 (fun z => z)
  have h3 : sx_c τ1 pa = some (.inr (3, [.null, .null, .null, .int (nI 0), .int (nI 0), .int (nI 0), .int (nI 0), .int (b_I false), .null, .null, .null])) := by rw [nI_0, b_I_f]; exact h3
  refine sv_dup dX1_readQuery_7 rfl ?_
  refine sv_aload_n dX1_readQuery_8 rfl ?_
  refine sv_ciP _ (J_init (n0 := sx_n τa + 20 + 1) (s0 := sx_s τa + 100 + 2) hG9 hb h3 (by omega) (fun q hq => F2.2.2 q (by omega) (fun z => z)) (by omega) F2.1.1 (hmu 0 (by decide)) (hmu 4 (by decide)) ⟨hX1.1, hX1.2.2.2.1⟩ (by have := F2.1.2; omega) (by have := F2.2.1; omega)) okX4_init ki_X1_135 dX1_readQuery_9 rfl rfl (by omega) (Nat.le_of_ble_eq_true rfl) ?_
  intro v3 τb hp3
  obtain ⟨rfl, ps, sel, onl, wb, ow, Λ, wd, hJ⟩ := hp3
  obtain ⟨⟨tkJ, vvJ, hpJ, -⟩, -⟩ := id hJ.1
  refine sv_cv _ (J_wh (q := fun _ => false) (n1 := sx_n τa + 20) (s1 := sx_s τa + 100) hG9 hb hG hM hJ (by omega) (by omega)) okX4_whole (sx_rd_c hpJ) rfl kv_X1_149.1 kv_X1_149.2.1 kv_X1_149.2.2 dX1_readQuery_12 rfl rfl (by omega) (Nat.le_of_ble_eq_true rfl) (fun v5 τc h5 => ?_) (fun E5 q5 τc h5 => ?_)
  rotate_left
  · have hU := y_U_thr h5 (fun _ _ _ z => ⟨_, z.choose_spec.1⟩)
    obtain ⟨e, he, q9, hq9, hE, hfr, hn1, hn2, hs2⟩ := hU
    cases hq9
    have FZ : h_F (fun q => sx_n σ ≤ q) 5021 60102 τa τc := ⟨⟨hn1, by omega⟩, by omega, fun q hq hw => hfr q (by omega)⟩
    have hX3 := c_X_lo hX1 FZ (fun q z => z) hmu
    have F2 : h_F (fun q => q = mu 0 ∨ sx_n σ ≤ q) 5021 60102 σ τc := h_F_u F1 FZ (fun _ _ z => Or.inl z) (fun _ _ z => Or.inr z) (by omega) (by omega)
    have hx3 : sx_c τc (mu 0) = some (.inr (0, [.ref sv, .ref (mu 1), .ref (mu 3), .ref nl, .ref (mu 4), .int (nI (A_i A).length), .int 0, .int (-1), .ref (mu 5)])) := hX3.1
    refine sv_catch [] _ _ rfl (fun z hz => by cases hz) rfl (by decide) q625 q833 ?_
    refine sv_astore_n dX1_readQuery_23 (by decide) ?_
    refine sv_aload_n dX1_readQuery_24 rfl ?_
    refine sv_aload_n dX1_readQuery_25 rfl ?_
    refine sv_cvP _ (cc_err hX3 hE) okX1_error kv_X1_145 (sx_rd_c hx3) rfl dX1_readQuery_26 rfl rfl (by omega) (Nat.le_of_ble_eq_true rfl) ?_
    intro v6 τd hp6
    obtain ⟨rfl, hX4, F4⟩ := hp6
    have hx4 : sx_c τd (mu 0) = some (.inr (0, [.ref sv, .ref (mu 1), .ref (mu 3), .ref nl, .ref (mu 4), .int (nI (A_i A).length), .int (nI e.1), .int (nI e.2), .ref (mu 5)])) := hX4.1
    refine sv_null dX1_readQuery_29 ?_
    refine sv_astore_nN dX1_readQuery_30 (by decide) ?_
    refine sv_aload_n dX1_readQuery_31 rfl ?_
    refine sv_iconst (nI 0) dX1_readQuery_32 (by decide +kernel) ?_
    refine sv_put fp_X1_83 dX1_readQuery_33 hx4 rfl rfl (Nat.le_of_ble_eq_true rfl) ?_
    refine hs_up hx4 (fun τ7 F8 h9 N10 Z11 => ?_)
    have h9 : sx_c τ7 ((mu 0)) = some (.inr (0, [.ref sv, .ref (mu 1), .ref (mu 3), .ref nl, .ref (mu 4), .int (nI 0), .int (nI e.1), .int (nI e.2), .ref (mu 5)])) := h9
    refine sv_aload_nN dX1_readQuery_36 rfl ?_
    refine sv_aret (Or.inl rfl) (Or.inl ⟨_, rfl⟩) rfl dX1_readQuery_37 ?_
    have hX5 := c_X_w0 (I := []) hX4 F8 h9 (Or.inr rfl)
    have F6 := h_F_u (h_F_u F2 F4 (fun _ _ z => z) (fun _ _ z => Or.inl z) (Nat.le_refl _) (Nat.le_refl _)) F8 (fun _ _ z => z) (fun _ _ z => Or.inl z) (Nat.le_refl _) (Nat.le_refl _)
    have hWz : ∀ q, c_Zm mu (sx_n σ) q → ¬ (q = mu 0 ∨ sx_n σ ≤ q) := fun q z w => w.elim (z.2 0 (by decide)) (fun w => by have := z.1; omega)
    have hK5 : c_K G mu oc _ (A_er A (nI e.1) (nI e.2)) := ⟨sv, nl, c_X_n hX5 F6.1.1 (Nat.le_refl _), c_F_fr hF F6 hWz F6.1.1, c_Fn_fr hFn F6 hWz F6.1.1⟩
    exact c_Q_l he ⟨rfl, hK5, F6⟩
  have hU := y_U_ret h5
  obtain ⟨r, hr, te, hv9, n9, k2, wd2, hn7, hJ2⟩ := hU
  cases hv9
  have hbd := J_bd hJ2
  obtain ⟨-, -, -, -, -, -, -, ⟨hfr, -, hn1, -, -⟩, -, hT⟩ := id hJ2
  have hn2 : sx_n τc ≤ sx_n τa + 20 + 5000 := by omega
  have hs2 : sx_s τc ≤ sx_s τa + 100 + 60000 := by omega
  have FZ : h_F (fun q => sx_n σ ≤ q) 5021 60102 τa τc := ⟨⟨hn1, by omega⟩, by omega, fun q hq hw => hfr q (by omega)⟩
  have hX3 := c_X_lo hX1 FZ (fun q z => z) hmu
  have F2 : h_F (fun q => q = mu 0 ∨ sx_n σ ≤ q) 5021 60102 σ τc := h_F_u F1 FZ (fun _ _ z => Or.inl z) (fun _ _ z => Or.inr z) (by omega) (by omega)
  have hP := hT (n9, te, r) List.mem_cons_self
  have hx3 : sx_c τc (mu 0) = some (.inr (0, [.ref sv, .ref (mu 1), .ref (mu 3), .ref nl, .ref (mu 4), .int (nI (A_i A).length), .int 0, .int (-1), .ref (mu 5)])) := hX3.1
  refine sv_astore_n dX1_readQuery_15 (by decide) ?_
  refine sv_aload_n dX1_readQuery_16 rfl ?_
  refine sv_iconst (nI 0) dX1_readQuery_17 (by decide +kernel) ?_
  refine sv_put fp_X1_83 dX1_readQuery_18 hx3 rfl rfl (Nat.le_of_ble_eq_true rfl) ?_
  refine hs_up hx3 (fun τ12 F13 h14 N15 Z16 => ?_)
  have h14 : sx_c τ12 ((mu 0)) = some (.inr (0, [.ref sv, .ref (mu 1), .ref (mu 3), .ref nl, .ref (mu 4), .int (nI 0), .int 0, .int (-1), .ref (mu 5)])) := h14
  refine sv_aload_n dX1_readQuery_21 rfl ?_
  refine sv_aret (Or.inr ⟨_, rfl⟩) (Or.inl ⟨_, rfl⟩) rfl dX1_readQuery_22 ?_
  have hX5 := c_X_w0 (I := []) hX3 F13 h14 (Or.inr rfl)
  have F6 := h_F_u F2 F13 (fun _ _ z => z) (fun _ _ z => Or.inl z) (Nat.le_refl _) (Nat.le_refl _)
  have hWz : ∀ q, c_Zm mu (sx_n σ) q → ¬ (q = mu 0 ∨ sx_n σ ≤ q) := fun q z w => w.elim (z.2 0 (by decide)) (fun w => by have := z.1; omega)
  have hK5 : c_K G mu oc _ (A_er A 0 (-1)) := ⟨sv, nl, c_X_n hX5 F6.1.1 (Nat.le_refl _), c_F_fr hF F6 hWz F6.1.1, c_Fn_fr hFn F6 hWz F6.1.1⟩
  have hP5 := k_P_fr F13 (k_W_1 hx3 ⟨Nat.ne_of_beq_eq_false rfl, Nat.ne_of_beq_eq_false rfl, Nat.le_of_ble_eq_true rfl⟩) _ _ _ hP
  exact c_Q_r hr ⟨te, n9, rfl, hn7, hP5, hK5, F6⟩
end CLF
