set_option maxRecDepth 100000
section CM2
variable {G : sx_G} {σ τ : sx_St} {mu : Nat → Nat} {oc lo sv nl cap : Nat} {ow : Nat → Nat} {Λ : Nat → Nat → Nat → Nat} {A : a_A} {V : a_V} {W : Nat → Prop} {c sl : Nat} {N : List a_N}
theorem c_N_b {b ar : Nat} (F : h_F W c sl σ τ) (h : c_N G σ ow nl cap N) (hW : ∀ q, W q → 10 * b + 11 ≤ ow q ∧ ow q ≤ 10 * b + 13) (har : ow ar = 10 * b + 13 ∨ sx_n σ ≤ ar) : c_N G τ (ow_b ow b ar) nl cap N := by
  have h0 := c_N_w F h (fun q z => by have := hW q z; omega)
  obtain ⟨h1, h2⟩ := h
  have hw : ∀ q, q < sx_n σ → ow q ≤ 7 → ow_b ow b ar q = ow q := by
    intro q q1 q2
    unfold ow_b
    rw [if_neg (fun e => by rw [← e] at har; omega)]
  refine ⟨?_, ?_⟩
  · obtain ⟨vs, hc⟩ := c_N_c ⟨h1, h2⟩
    rw [hw _ (sx_lt hc) (by omega)]; exact h1
  · rcases h2 with ⟨g1, g2⟩ | ⟨na, g, g1, g2, g3⟩
    · exact Or.inl ⟨k_L0_fr F g1 (fun z => by have := hW _ z; omega), g2⟩
    · refine Or.inr ⟨na, g, k_L_fr F g1 (fun z => by have := hW _ z; omega) (fun z => by have := hW _ z; omega), by rw [hw _ (k_L_lt g1).2 (by omega)]; exact g2, fun i hi => ⟨k_Nt_fr F (g3 i hi).1 (fun z => by have h8 := hW _ z; have h9 := (g3 i hi).2; omega), ?_⟩⟩
      have h9 := (g3 i hi).2
      rw [hw _ (sx_lt (g3 i hi).1) (by omega)]; exact h9
theorem c_A_b {b ar cp : Nat} {g : Nat → Nat} {B : a_B} (F : h_F W c sl σ τ) (h : c_A G mu oc lo σ sv nl ow Λ cap A) (hb : b < (A_v A).2.1.length) (hW : ∀ q, W q → q = Λ 1 b 0 ∨ q = Λ 1 b 1 ∨ q = Λ 1 b 2) (hB : k_B G τ (Λ 1 b 0) (Λ 1 b 1) ar cp (Λ 1 b 4) g B) (hnm : B.1 = (a_b (A_v A) b).1) (har : ar = Λ 1 b 2 ∨ sx_n σ ≤ ar) (hg : ∀ i, i < B.2.2.length → (∃ j, g i = Λ 2 b j ∧ j < (a_ms (A_v A) b).length) ∨ sx_n σ ≤ g i) (hcp : cp ≤ 62) (hw : w_V (a_ub (A_v A) b B)) : c_A G mu oc lo τ sv nl (ow_b ow b ar) (Λ_b Λ b ar cp g) cap (A_sv A (a_ub (A_v A) b B)) := by
  obtain ⟨h1, ⟨hI, hN, hw0, hlo, hc0⟩, h3, h4, h5⟩ := h
  have t6 := hI.2.1.2.2.2.2.2.1 b hb
  have hW2 : ∀ q, W q → 10 * b + 11 ≤ ow q ∧ ow q ≤ 10 * b + 13 := by
    intro q z
    rcases hW q z with e | e | e <;> rw [e] <;> omega
  have hI2 := c_I_b F hI hlo hb hW2 hB hnm har hg
  refine ⟨c_X_lo h1 F (fun q z => hI.2.2.1 q (by have := hW2 q z; omega)) h5, ⟨hI2, c_N_b F hN hW2 ?_, hw, Nat.le_trans hlo F.1.1, hc0⟩, ⟨fun i hi => ?_, fun t ht => ?_⟩, c_cap_b h4 hcp, h5⟩
  · rcases har with e | e
    · rw [e]; exact Or.inl t6.2.2.1
    · exact Or.inr e
  · have hi : i < (a_ub (A_v A) b B).2.1.length := hi
    rw [a_ub_n] at hi
    rw [Λ_b_1 (Or.inr ⟨by decide, by decide⟩), Λ_b_1 (Or.inr ⟨by decide, by decide⟩)]
    exact h3.1 i hi
  · rw [Λ_b_3, Λ_b_3]
    exact h3.2 t ht
theorem c_A_0 (F : h_F (fun _ => False) c sl σ τ) (h : c_A G mu oc lo σ sv nl ow Λ cap A) : c_A G mu oc lo τ sv nl ow Λ cap A := by
  obtain ⟨h1, ⟨hI, hN, hw0, hlo, hc0⟩, h3, h4, h5⟩ := h
  exact ⟨c_X_lo h1 F (fun _ z => z.elim) h5, ⟨c_I_0 F hI, c_N_w F hN (fun _ z => z.elim), hw0, Nat.le_trans hlo F.1.1, hc0⟩, h3, h4, h5⟩
theorem k_W_X {n : Nat} (h : c_X G mu n oc σ sv nl A) : k_W (fun q => q = mu 0 ∨ q = mu 1 ∨ q = mu 2 ∨ sx_n σ ≤ q) σ := by
  obtain ⟨h1, ⟨_, _, ⟨_, h2, h3, _⟩, _⟩, -⟩ := h
  intro q e hq he
  have hl := sx_lt he
  rcases hq with rfl | rfl | rfl | hq
  · cases Option.some.inj (he.symm.trans h1)
    show (0 + 8 ≠ 0 ∧ 0 + 8 ≠ 15 ∧ 0 + 8 < 25)
    omega
  · cases Option.some.inj (he.symm.trans h2)
    show (10 + 8 ≠ 0 ∧ 10 + 8 ≠ 15 ∧ 10 + 8 < 25)
    omega
  · cases Option.some.inj (he.symm.trans h3)
    show (4 ≠ 0 ∧ 4 ≠ 15 ∧ 4 < 25)
    omega
  · omega
theorem be_ms {s b : Nat} : a_ms (A_v (s_be A s)) b = a_ms (A_v A) b := rfl
theorem be_b {s b : Nat} : a_b (A_v (s_be A s)) b = a_b (A_v A) b := rfl
theorem be_nb {s : Nat} : (A_v (s_be A s)).2.1.length = (A_v A).2.1.length := rfl
theorem w_V_bm {b : Nat} {ms : List a_M} (hw : w_V V) (h : ms.length ≤ 30) : w_V (v_bm V b ms) := w_V_b hw h
theorem cc_boxOf {x : Nat} {f1 f2 f3 f4 f5 f6 f7 f8 : Value} (hx : sx_c σ x = some (.inr (0, [.ref sv, f1, f2, f3, f4, f5, f6, f7, f8]))) (hV : k_V G σ sv Λ V) {s b : Nat} (hs : s < V.2.2.length) (hb : b < V.2.1.length) (e : a_bx V s = some b) : sx_Cr G 3 YX1_boxOf [.ref x, .ref (Λ 3 s 0)] σ (some (.ref (Λ 1 b 0))) σ := by
  refine sx_body (by decide) (Nat.le_of_ble_eq_true rfl) ?_
  obtain ⟨hv1, hv2, hv3, hv4, hv5⟩ := id hV
  obtain ⟨mcb, fb, hlb, hab, b1, b2, b3, -⟩ := id hv2
  obtain ⟨fu, ft, fa, hso, -⟩ := k_V_ses hV hs
  have hbb := (hv4 b hb).1.1
  refine sv_aload_n dX1_boxOf_0 rfl ?_
  refine sv_get fg_X1_44 dX1_boxOf_1 (sx_rd_c hx) rfl ?_
  refine sv_get fg_X1_173 dX1_boxOf_4 (sx_rd_c hv1) rfl ?_
  refine sv_aload_n dX1_boxOf_7 rfl ?_
  refine sv_get fg_X1_194 dX1_boxOf_8 (sx_rd_c hso) rfl ?_
  refine sv_tI (y := nI b) (by rw [e]; rfl) ?_
  refine sv_cvR _ (cj_get hv2 (i := b) hb) okJ2_get kv_X1_186 (sx_rd_c hlb) rfl dX1_boxOf_11 rfl rfl (by omega) (Nat.le_of_ble_eq_true rfl) ?_
  refine sv_cast (C0 := "") (sx_rd_c hbb) rfl q1452 dX1_boxOf_14 ?_
  refine sv_aret (Or.inr ⟨_, rfl⟩) (Or.inl ⟨_, rfl⟩) rfl dX1_boxOf_17 ?_
  exact ⟨_, rfl, rfl, rfl⟩
theorem cc_removes (hK : c_K G mu oc σ A) {z : Nat} (hz : g_Z G z) {j : Nat} (hj : j < (A_v A).2.2.length) {b te n : Nat} {pr : a_M → Bool} (hbx : a_bx (A_v A) j = some b) (hG : g_L G) (hP : k_P G n σ te pr) (hn : n ≤ 3) : sx_Cp G 20 YX1_removes [.ref (mu 0), .int (nI j), .ref te] σ (fun v τ => v = some (.int (nI ((a_ms (A_v A) b).countP pr))) ∧ c_K G mu oc τ (s_en (A_sv (s_be A j) (v_bm (A_v (s_be A j)) b ((a_ms (A_v A) b).filter (fun m => !(pr m))))) j true) ∧ c_B 1670 12620 σ τ) := by
  refine sx_body (by decide) (Nat.le_of_ble_eq_true rfl) ?_
  obtain ⟨sv, nl, hX, hF, hN⟩ := hK
  obtain ⟨Λ0, hV, hzz, hw⟩ := id hF
  have hx := hX.1
  have hb := hw.2.2.1 j b hj hbx
  have hm30 := hw.1.2.2 b hb
  have hns := hw.1.2.1
  refine sv_aload_n dX1_removes_0 rfl ?_
  refine sv_iload_n dX1_removes_1 rfl ?_
  refine sv_cvP _ (cc_begin hX hF hz hj) okX1_begin kv_X1_336 (sx_rd_c hx) rfl dX1_removes_2 rfl rfl (by omega) (Nat.le_of_ble_eq_true rfl) ?_
  intro v6 τ4 hp5
  obtain ⟨a, nl2, ow2, Λ2, rfl, ea, hA2, hB2, FG2⟩ := hp5
  have hx2 := hA2.1.1
  have hj2 : j < (A_v (s_be A j)).2.2.length := by rw [be_len]; exact hj
  refine sv_astore_n dX1_removes_5 (by decide) ?_
  refine sv_aload_n dX1_removes_6 rfl ?_
  refine sv_aload_n dX1_removes_7 rfl ?_
  refine sv_cvR _ (cc_boxOf hx2 hA2.2.1.1.1 hj2 hb ((be_bx _ _ hj).trans hbx)) okX1_boxOf kv_X1_355 (sx_rd_c hx2) rfl dX1_removes_8 rfl rfl (by omega) (Nat.le_of_ble_eq_true rfl) ?_
  have hBb := (hA2.2.1.1.1.2.2.2.1 b hb).1
  have hP2 := k_P_fr FG2 (k_W_X hX) n te pr hP
  have hm31 : (a_b (A_v (s_be A j)) b).2.2.length ≤ 30 := hm30
  refine sv_aload_n dX1_removes_11 rfl ?_
  refine sv_cvP _ (cc_bremove hBb hG hP2 (by omega)) okX6_remove kv_X1_386 (sx_rd_c hBb.1) rfl dX1_removes_12 rfl rfl (by omega) (Nat.le_of_ble_eq_true rfl) ?_
  intro v9 τ7 hp8
  obtain ⟨rfl, g2, hB3, hg3, F3⟩ := hp8
  have hw3 : w_V (v_bm (A_v (s_be A j)) b ((a_ms (A_v A) b).filter (fun m => !(pr m)))) := w_V_bm hA2.2.1.2.2.1 (Nat.le_trans (List.length_filter_le _ _) hm30)
  have hA3 := c_A_b F3 hA2 hb (fun q z => Or.inr z) hB3 rfl (Or.inl rfl) (fun i hi => Or.inl (hg3 i hi)) (hA2.2.2.2.1 b hb) hw3
  have hx3 := hA3.1.1
  refine sv_istore dX1_removes_15 (by decide) ?_
  refine sv_aload_n dX1_removes_17 rfl ?_
  refine sv_iload_n dX1_removes_18 rfl ?_
  refine sv_iconst (nI 1) dX1_removes_19 (by decide +kernel) ?_
  refine sv_tI (y := b_I true) rfl ?_
  refine sv_cvP _ (cc_end hA3 hj2 (all := true) (Nat.zero_le _)) okX1_end kv_X1_347 (sx_rd_c hx3) rfl dX1_removes_20 rfl rfl (by omega) (Nat.le_of_ble_eq_true rfl) ?_
  intro v12 τ10 hp11
  obtain ⟨rfl, ow9, cap9, hA9, hB9⟩ := hp11
  refine sv_istore dX1_removes_23 (by decide) ?_
  refine sv_iload dX1_removes_25 rfl ?_
  refine sv_iret rfl rfl dX1_removes_27 ?_
  exact ⟨_, rfl, rfl, c_A_K hA9, c_B_t hB2 (c_B_t (c_B_F F3) hB9 (Nat.le_refl _) (Nat.le_refl _)) (by omega) (by omega)⟩
end CM2
