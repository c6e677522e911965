set_option maxRecDepth 100000
section CSC
variable {G : sx_G} {σ τ : sx_St} {mu : Nat → Nat} {oc n sv nl : Nat} {A : a_A} {t : List Int32} {k : k_T} {S : p_S} {tt : Nat → Nat}
theorem cpx_sbx (hK : c_K G mu oc σ A) {b : Int32} (hi : i_in b (A_v A).2.1.length = false) : sx_C G 2150 YX1_searchBox [.ref (mu 0), .int b] σ (c_X0 "java/lang/IndexOutOfBoundsException" σ) := by
  refine sx_body (by decide) (Nat.le_of_ble_eq_true rfl) ?_
  obtain ⟨sv, nl, hX, hF, hN⟩ := hK
  obtain ⟨Λ0, hV, hzz, hw⟩ := id hF
  have hx := hX.1
  have hnb := hw.1.1
  have hns := hw.1.2.1
  have hX0 : c_X G mu (sx_n σ) oc σ sv nl (A_st A 0) := hX
  have hF0 : c_F G mu (sx_n σ) σ sv (A_v (A_st A 0)) := hF
  have hv1 := hV.1
  refine sv_aload_n dX1_searchBox_0 rfl ?_
  refine sv_iload_n dX1_searchBox_1 rfl ?_
  refine sv_cv _ (cgx_boxAt hx hV hi) okX1_boxAt (sx_rd_c hx) rfl kv_X1_197.1 kv_X1_197.2.1 kv_X1_197.2.2 dX1_searchBox_2 rfl rfl (by omega) (Nat.le_of_ble_eq_true rfl) (fun v τ h => by obtain ⟨q, e, _⟩ := h; cases e) (fun E q τ h => ?_)
  obtain ⟨q9, e9, F9⟩ := h
  cases e9
  refine sv_out (fun x hx => by cases hx) ?_
  exact ⟨_, rfl, F9⟩
theorem pm_sbx (hK : c_K G mu oc σ A) (hG9 : g_Y G (sx_n σ) tt) (hb : b_B (A_i A)) (hG : g_L G) (hM : g_M G) {b : Int32} : sx_C G 2150 YX1_searchBox [.ref (mu 0), .int b] σ (c_R ["java/lang/IndexOutOfBoundsException"] G mu oc σ (sp_sbx A b)) := by
  have hns : (A_v A).2.2.length ≤ 4 := by obtain ⟨_, _, _, ⟨_, _, _, hw⟩, _⟩ := hK; exact hw.1.2.1
  have hnb : (A_v A).2.1.length ≤ 3 := by obtain ⟨_, _, _, ⟨_, _, _, hw⟩, _⟩ := hK; exact hw.1.1
  unfold sp_sbx
  refine c_1 hK (fun h => cpx_sbx hK h) (fun h => ?_)
  obtain ⟨i, hi, rfl⟩ := i_in_of (by omega) h
  rw [nI_clamp (by omega)]
  obtain ⟨sv, nl, hX, ⟨Λ, hV, hzk, hw⟩, hFn⟩ := id hK
  exact cs_sbx hK hG9 hb hG hM hi hX hV hzk hw
end CSC
