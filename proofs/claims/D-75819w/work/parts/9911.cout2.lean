set_option maxRecDepth 100000
section CO2
variable {ρ : sx_St} {sa cap : Nat} {O : List Int32} {G : sx_G} {σ τ : sx_St} {mu : Nat → Nat} {oc lo sv nl cap : Nat} {ow : Nat → Nat} {Λ : Nat → Nat → Nat → Nat} {A : a_A} {V : a_V} {W : Nat → Prop} {c sl : Nat} {N : List a_N}
theorem c_K_out (hK : c_K G mu oc σ A) (hU : k_U G ρ (mu 5) sa cap O) (hf : k_Uf (mu 5) (mu 6) oc sa cap σ ρ) (hc : cap ≤ 30000) : c_K G (fun i => if i = 6 then sa else mu i) cap ρ (A_so A O) := by
  obtain ⟨sv, nl, hX, hF, hN⟩ := hK
  have hmu := c_X_mu hX
  have F := k_Uf_F hf
  have n1 := hf.2.2.1.1
  have zW : ∀ q, c_Zm mu (sx_n σ) q → ¬ (q = mu 5 ∨ q = mu 6) := fun q z w => w.elim (z.2 5 (by decide)) (z.2 6 (by decide))
  have zM : ∀ q, c_Zm mu (sx_n σ) q → c_Zm (fun i => if i = 6 then sa else mu i) (sx_n ρ) q := fun q z => ⟨by have := z.1; omega, fun i hi => by
    show q ≠ if i = 6 then sa else mu i
    by_cases h6 : i = 6
    · rw [if_pos h6]
      rcases hf.1 with e | e
      · rw [e]; exact z.2 6 (by decide)
      · have := z.1; omega
    · rw [if_neg h6]; exact z.2 i hi⟩
  have hcF : ∀ a V, c_F G mu (sx_n σ) σ a V → c_F G (fun i => if i = 6 then sa else mu i) (sx_n ρ) ρ a V := fun a V ⟨Λ, h1, h2, h3⟩ => ⟨Λ, k_V_Z h1 h2 F zW, k_z_of h2 zM, h3⟩
  obtain ⟨h1, ⟨x, g, d1, d2, d3⟩, ⟨fs, k1, k2, k3⟩, ⟨fi, i1, i2⟩, ⟨fo, z, o1, o2, o3⟩, h6, h7⟩ := hX
  obtain ⟨fo2, z2, u1, u2, u3, u4, u5, u6⟩ := hU
  obtain ⟨fd, q1, q2, q3⟩ := id d1
  have X : c_X G (fun i => if i = 6 then sa else mu i) (sx_n ρ) cap ρ sv nl (A_so A O) := by
    refine ⟨h_F_c F h1 (fun w => w.elim (e_kn h1 o1 rfl) (e_kn h1 o2 rfl)), ⟨x, g, k_D_fr F d1 (fun w => w.elim (e_kn q1 o1 rfl) (e_kn q1 o2 rfl)) (fun w => w.elim (e_kn q2 o1 rfl) (e_kn q2 o2 rfl)), d2, fun i hi => hcF _ _ (d3 i hi)⟩, ⟨fs, h_F_c F k1 (fun w => w.elim (e_kn k1 o1 rfl) (e_kn k1 o2 rfl)), fun j hj => ⟨(k2 j hj).1, fun V hV => ?_⟩, fun q e hq => ⟨h_F_c F (k3 q e hq).1 (zW q (k3 q e hq).2), zM q (k3 q e hq).2⟩⟩, ⟨fi, h_F_c F i1 (fun w => w.elim (e_kn i1 o1 rfl) h6.1), i2⟩, ⟨fo2, z2, u1, u2, u3, u4.1, hc, u5, u6⟩, ⟨?_, h6.2⟩, Nat.le_refl _⟩
    · obtain ⟨a, e1, e2⟩ := (k2 j hj).2 V hV
      exact ⟨a, e1, hcF _ _ e2⟩
    · show mu 4 ≠ sa
      rcases hf.1 with e | e
      · rw [e]; exact h6.1
      · have := hmu 4 (by decide); omega
  refine ⟨sv, nl, X, hcF _ _ hF, ?_⟩
  obtain ⟨g1, g2⟩ := hN
  refine ⟨zM _ g1, ?_⟩
  rcases g2 with ⟨y1, y2⟩ | ⟨na, cp, gg, y1, y2, y3⟩
  · exact Or.inl ⟨k_L0_fr F y1 (zW _ g1), y2⟩
  · exact Or.inr ⟨na, cp, gg, k_L_fr F y1 (zW _ g1) (zW _ y2), zM _ y2, fun i hi => ⟨k_Nt_fr F (y3 i hi).1 (zW _ (y3 i hi).2), zM _ (y3 i hi).2⟩⟩
theorem c_S_out (hK : c_K G mu oc σ A) (hU : k_U G ρ (mu 5) sa cap O) (hf : k_Uf (mu 5) (mu 6) oc sa cap σ ρ) (hc : cap ≤ 30000) : c_S G mu oc σ ρ (A_so (A_st A 0) O) := by
  refine ⟨_, cap, fun i hi => ?_, c_K_out (A := A_st A 0) hK hU hf hc, hf.2.1, hf.2.2.1.1, by have := hf.2.2.1.2; omega, by have := hf.2.2.2.1; have := hf.2.1; omega⟩
  show (if i = 6 then sa else mu i) = mu i
  rw [if_neg (by omega)]
theorem w_gp_l (O : List Int32) : (w_gp O).length ≤ 1 := by unfold w_gp; split <;> simp
theorem o_t_s (g : Nat → List Int32) (k : Nat) : o_t g (k + 1) = o_t g k ++ w_gp (o_t g k) ++ g k := by
  show o_j (o_t g k) (g k) = _
  unfold o_j w_gp
  rw [List.append_assoc]
theorem cpx_wbx (hK : c_K G mu oc σ A) {b : Int32} (hi : i_in b (A_v A).2.1.length = false) : sx_C G 100 YX1_writeBox [.ref (mu 0), .int b] σ (c_X0 "java/lang/IndexOutOfBoundsException" σ) := by
  refine sx_body (by decide) (Nat.le_of_ble_eq_true rfl) ?_
  obtain ⟨sv, nl, hX, hF, hN⟩ := hK
  obtain ⟨Λ0, hV, hzz, hw⟩ := id hF
  have hx := hX.1
  have hnb := hw.1.1
  have hns := hw.1.2.1
  have hX0 : c_X G mu (sx_n σ) oc σ sv nl (A_st A 0) := hX
  have hF0 : c_F G mu (sx_n σ) σ sv (A_v (A_st A 0)) := hF
  have hv1 := hV.1
  refine sv_aload_n dX1_writeBox_0 rfl ?_
  refine sv_iload_n dX1_writeBox_1 rfl ?_
  refine sv_cv _ (cgx_boxAt hx hV hi) okX1_boxAt (sx_rd_c hx) rfl kv_X1_197.1 kv_X1_197.2.1 kv_X1_197.2.2 dX1_writeBox_2 rfl rfl (by omega) (Nat.le_of_ble_eq_true rfl) (fun v τ h => by obtain ⟨q, e, _⟩ := h; cases e) (fun E q τ h => ?_)
  obtain ⟨q9, e9, F9⟩ := h
  cases e9
  refine sv_out (fun x hx => by cases hx) ?_
  exact ⟨_, rfl, F9⟩
theorem cp_wbx0 (hK : c_K G mu oc σ A) (hC : g_C G) (hL : g_W G 16 w_L) {i : Nat} (hi : i < (A_v A).2.1.length) {t : Nat} (ho : o_V t (A_v A)) (ht6 : t ≤ 1000) {sv nl : Nat} {Λ0 : Nat → Nat → Nat → Nat} (hX : c_X G mu (sx_n σ) oc σ sv nl A) (hV : k_V G σ sv Λ0 (A_v A)) (hzz : k_z (c_Zm mu (sx_n σ)) sv Λ0 (A_v A)) (hw : w_V (A_v A)) (hN : c_Fn G mu (sx_n σ) σ nl (A_n A)) : sx_C G 100 YX1_writeBox [.ref (mu 0), .int (nI i)] σ (c_R ["java/lang/IndexOutOfBoundsException"] G mu oc σ ((nI (o_t (fun k => w_m (a_m (A_v A) i k)) (a_ms (A_v A) i).length).length, A_so (A_st A 0) (o_t (fun k => w_m (a_m (A_v A) i k)) (a_ms (A_v A) i).length)))) := by
  have loop : ∀ r k (ρ : sx_St) sa1 cap1 (y : Option Value), k ≤ (a_ms (A_v A) i).length → (a_ms (A_v A) i).length + 1 ≤ k + r → k_U G ρ (mu 5) sa1 cap1 (o_t (fun k => w_m (a_m (A_v A) i k)) k) → k_Uf (mu 5) (mu 6) oc sa1 cap1 σ ρ → cap1 ≤ 30000 → sx_V G 100 YX1_writeBox 16 [some (.ref (mu 0)), some (.int (nI i)), some (.ref (Λ0 1 i 0)), some (.int (nI k)), y] [] ρ (c_R ["java/lang/IndexOutOfBoundsException"] G mu oc σ ((nI (o_t (fun k => w_m (a_m (A_v A) i k)) (a_ms (A_v A) i).length).length, A_so (A_st A 0) (o_t (fun k => w_m (a_m (A_v A) i k)) (a_ms (A_v A) i).length)))) := by
    have hx := hX.1
    obtain ⟨fo0, z00, hsb0, hso0, hol, hoc1, hoc2, hofo, hofi⟩ := id hX.2.2.2.2.1
    have hU0 : k_U G σ (mu 5) (mu 6) oc (A_o A) := ⟨_, _, hsb0, hso0, hol, ⟨hoc1, by omega⟩, hofo, hofi⟩
    have zW : ∀ q, c_Zm mu (sx_n σ) q → ¬ (q = mu 5 ∨ q = mu 6) := fun q z w => w.elim (z.2 5 (by decide)) (z.2 6 (by decide))
    have nex : ¬ (mu 0 = mu 5 ∨ mu 0 = mu 6) := fun z => z.elim (e_kn hx hsb0 rfl) (e_kn hx hso0 rfl)
    have hlm9 := (hV.2.2.2.1 i hi).1.2.1
    have hbb := (hV.2.2.2.1 i hi).1.1
    have hz9 := hzz.2.2.2.2.2.1 i hi
    have hml : (a_ms (A_v A) i).length ≤ 30 := hw.1.2.2 i hi
    have hoB := ho.2.1 i hi
    intro r
    induction r with
    | zero => intro k ρ sa1 cap1 y h1 h2; omega
    | succ r ih =>
    intro k ρ sa1 cap1 y hk1 hk2 hU1 hf1 hcap1
    have hx1 := h_F_c (k_Uf_F hf1) hx nex
    have hlm1 := k_L_fr (k_Uf_F hf1) hlm9 (zW _ hz9.2.1) (zW _ hz9.2.2.1)
    obtain ⟨mcm1, fm1, hlc1, -⟩ := id hlm1
    have hbb1 := h_F_c (k_Uf_F hf1) hbb (zW _ hz9.1)
    obtain ⟨_, _, hsb1, -⟩ := id hU1
    have hlen := o_t_l (fun k => w_m (a_m (A_v A) i k)) 22 k (fun q hq => by unfold w_m; have h1 := d_n_l (a_m (A_v A) i q).1.toNatClampNeg; have h2 := d_n_l (a_m (A_v A) i q).2.1.toNatClampNeg; have h3 := w_fs_l (a_m (A_v A) i q).2.2; simp only [List.length_append, List.length_cons]; omega)
    refine sv_iload_n dX1_writeBox_16 rfl ?_
    refine sv_aload_n dX1_writeBox_17 rfl ?_
    refine sv_get fg_X1_203 dX1_writeBox_18 (sx_rd_c hbb1) rfl ?_
    refine sv_cvR _ (cj_size hlm1) okJ2_size kv_X1_176 (sx_rd_c hlc1) rfl dX1_writeBox_21 rfl rfl (by omega) (Nat.le_of_ble_eq_true rfl) ?_
    refine sv_tI (y := nI (a_ms (A_v A) i).length) rfl ?_
    refine sv_icmp_geN (tgt := 85) dX1_writeBox_24 (by decide) (by omega) (by omega) (fun c24 => ?_) (fun c24 => ?_)
    · obtain rfl : k = (a_ms (A_v A) i).length := by omega
      refine sv_aload_n dX1_writeBox_85 rfl ?_
      refine sv_get fg_X1_79 dX1_writeBox_86 (sx_rd_c hx1) rfl ?_
      refine sv_cvR _ (cb_len hU1) okJ8_length kv_X1_426 (sx_rd_c hsb1) rfl dX1_writeBox_89 rfl rfl (by omega) (Nat.le_of_ble_eq_true rfl) ?_
      refine sv_iret rfl rfl dX1_writeBox_92 ?_
      exact c_R_ok (x := (nI (o_t (fun k => w_m (a_m (A_v A) i k)) (a_ms (A_v A) i).length).length, A_so (A_st A 0) (o_t (fun k => w_m (a_m (A_v A) i k)) (a_ms (A_v A) i).length))) rfl rfl (c_S_out hK hU1 hf1 hcap1)
    · have hk : k < (a_ms (A_v A) i).length := by omega
      have hmk : sx_c σ (Λ0 2 i k) = some (.inr (6, [.int (a_m (A_v A) i k).1, .int (a_m (A_v A) i k).2.1, .int (a_m (A_v A) i k).2.2])) := (hV.2.2.2.1 i hi).1.2.2 k hk
      have hmk1 := h_F_c (k_Uf_F hf1) hmk (zW _ (hz9.2.2.2.2.2 k hk))
      have hoM := hoB.2.1 (a_m (A_v A) i k) (gd_mem (ms := a_ms (A_v A) i) hk)
      have em1 := i32_nat (show 0 ≤ (a_m (A_v A) i k).1.toInt by have := hoM.1; omega)
      have em2 := i32_nat (show 0 ≤ (a_m (A_v A) i k).2.1.toInt by have := hoM.2.2.1; omega)
      have hlt9 := Int32.lt_iff_toInt_lt.mp hoM.2.1
      have hnx9 := hoB.1.2
      have hs99 := hoM.2.2.2
      have hdu := d_n_l (a_m (A_v A) i k).1.toNatClampNeg
      have hds := d_n_l (a_m (A_v A) i k).2.1.toNatClampNeg
      have hgp := w_gp_l (o_t (fun k => w_m (a_m (A_v A) i k)) k)
      have hfs := w_fs_l (a_m (A_v A) i k).2.2
      refine sv_aload_n dX1_writeBox_27 rfl ?_
      refine sv_get fg_X1_203 dX1_writeBox_28 (sx_rd_c hbb1) rfl ?_
      refine sv_iload_n dX1_writeBox_31 rfl ?_
      refine sv_cvR _ (cj_get hlm1 (i := k) hk) okJ2_get kv_X1_186 (sx_rd_c hlc1) rfl dX1_writeBox_32 rfl rfl (by omega) (Nat.le_of_ble_eq_true rfl) ?_
      refine sv_cast (C0 := "") (sx_rd_c hmk1) rfl q1483 dX1_writeBox_35 ?_
      refine sv_astore dX1_writeBox_38 (by decide) ?_
      refine sv_aload_n dX1_writeBox_40 rfl ?_
      refine sv_cvP _ (cw_beg hC hx1 hU1 (by (try simp only [List.length_append, List.length_singleton]); omega)) okX1_begins kv_X1_440 (sx_rd_c hx1) rfl dX1_writeBox_41 rfl rfl (by omega) (Nat.le_of_ble_eq_true rfl) ?_
      intro v4 τ5 hp6
      obtain ⟨rfl, sa7, cap8, hm9, hU10, hg11⟩ := hp6
      have hf12 := k_Uf_t hf1 hg11
      try simp only [List.length_append, List.length_singleton] at hm9
      obtain ⟨_, _, hsb13, -⟩ := id hU10
      have h14 := h_F_c (k_Uf_F hf12) hx nex
      have h15 := h_F_c (k_Uf_F hf12) hmk (zW _ (hz9.2.2.2.2.2 k hk))
      refine sv_aload_n dX1_writeBox_44 rfl ?_
      refine sv_get fg_X1_79 dX1_writeBox_45 (sx_rd_c h14) rfl ?_
      refine sv_aload dX1_writeBox_48 rfl ?_
      refine sv_get fg_X1_229 dX1_writeBox_50 (sx_rd_c h15) rfl ?_
      refine sv_tI (y := nI (a_m (A_v A) i k).1.toNatClampNeg) em1.1 ?_
      refine sv_cvP _ (cb_api hC hU10 (n := (a_m (A_v A) i k).1.toNatClampNeg) (by omega) (by simp only [List.length_append, List.length_singleton]; omega)) okJ8_append_2 kv_X1_443 (sx_rd_c hsb13) rfl dX1_writeBox_53 rfl rfl (by omega) (Nat.le_of_ble_eq_true rfl) ?_
      intro v16 τ17 hp18
      obtain ⟨rfl, sa19, cap20, hm21, hU22, hg23⟩ := hp18
      have hf24 := k_Uf_t hf12 hg23
      try simp only [List.length_append, List.length_singleton] at hm21
      obtain ⟨_, _, hsb25, -⟩ := id hU22
      have h26 := h_F_c (k_Uf_F hf24) hx nex
      have h27 := h_F_c (k_Uf_F hf24) hmk (zW _ (hz9.2.2.2.2.2 k hk))
      refine sv_bipush (nI 58) dX1_writeBox_56 (by decide +kernel) ?_
      refine sv_cvP _ (cb_app hC hU22 (c := 58) (by omega) (by simp only [List.length_append, List.length_singleton]; omega)) okJ8_append_3 kv_X1_153 (sx_rd_c hsb25) rfl dX1_writeBox_58 rfl rfl (by omega) (Nat.le_of_ble_eq_true rfl) ?_
      intro v28 τ29 hp30
      obtain ⟨rfl, sa31, cap32, hm33, hU34, hg35⟩ := hp30
      have hf36 := k_Uf_t hf24 hg35
      try simp only [List.length_append, List.length_singleton] at hm33
      obtain ⟨_, _, hsb37, -⟩ := id hU34
      have h38 := h_F_c (k_Uf_F hf36) hx nex
      have h39 := h_F_c (k_Uf_F hf36) hmk (zW _ (hz9.2.2.2.2.2 k hk))
      refine sv_aload dX1_writeBox_61 rfl ?_
      refine sv_get fg_X1_232 dX1_writeBox_63 (sx_rd_c h39) rfl ?_
      refine sv_tI (y := nI (a_m (A_v A) i k).2.1.toNatClampNeg) em2.1 ?_
      refine sv_cvP _ (cb_api hC hU34 (n := (a_m (A_v A) i k).2.1.toNatClampNeg) (by omega) (by simp only [List.length_append, List.length_singleton]; omega)) okJ8_append_2 kv_X1_443 (sx_rd_c hsb37) rfl dX1_writeBox_66 rfl rfl (by omega) (Nat.le_of_ble_eq_true rfl) ?_
      intro v40 τ41 hp42
      obtain ⟨rfl, sa43, cap44, hm45, hU46, hg47⟩ := hp42
      have hf48 := k_Uf_t hf36 hg47
      try simp only [List.length_append, List.length_singleton] at hm45
      obtain ⟨_, _, hsb49, -⟩ := id hU46
      have h50 := h_F_c (k_Uf_F hf48) hx nex
      have h51 := h_F_c (k_Uf_F hf48) hmk (zW _ (hz9.2.2.2.2.2 k hk))
      refine sv_pop dX1_writeBox_69 rfl ?_
      refine sv_aload_n dX1_writeBox_70 rfl ?_
      refine sv_aload dX1_writeBox_71 rfl ?_
      refine sv_get fg_X1_234 dX1_writeBox_73 (sx_rd_c h51) rfl ?_
      refine sv_cvP _ (cw_fl hC hL h50 hU46 (by simp only [List.length_append, List.length_singleton]; omega)) okX1_writeFlags kv_X1_446 (sx_rd_c h50) rfl dX1_writeBox_76 rfl rfl (by omega) (Nat.le_of_ble_eq_true rfl) ?_
      intro v52 τ53 hp54
      obtain ⟨rfl, sa55, cap56, hm57, hU58, hg59⟩ := hp54
      have hf60 := k_Uf_t hf48 hg59
      try simp only [List.length_append, List.length_singleton] at hm57
      obtain ⟨_, _, hsb61, -⟩ := id hU58
      have h62 := h_F_c (k_Uf_F hf60) hx nex
      have h63 := h_F_c (k_Uf_F hf60) hmk (zW _ (hz9.2.2.2.2.2 k hk))
      refine sv_iincN dX1_writeBox_79 rfl (by decide) ?_
      refine sv_goto (tgt := 16) dX1_writeBox_82 (by decide) ?_
      have h58 := nI_byte 58 (by omega)
      simp only [h58, List.append_assoc, List.singleton_append] at hU58
      refine ih (k + 1) _ _ _ (some (.ref (Λ0 2 i k))) (by omega) (by omega) ?_ hf60 (by omega)
      rw [o_t_s (fun k => w_m (a_m (A_v A) i k)) k]
      show k_U G _ _ _ _ (_ ++ (d_n (a_m (A_v A) i k).1.toNatClampNeg ++ (nI 58 :: (d_n (a_m (A_v A) i k).2.1.toNatClampNeg ++ w_fs (a_m (A_v A) i k).2.2))))
      simp only [List.append_assoc]
      exact hU58
  refine sx_body (by decide) (Nat.le_of_ble_eq_true rfl) ?_
  have hx := hX.1
  obtain ⟨fo0, z00, hsb0, hso0, hol, hoc1, hoc2, hofo, hofi⟩ := id hX.2.2.2.2.1
  have hU0 : k_U G σ (mu 5) (mu 6) oc (A_o A) := ⟨_, _, hsb0, hso0, hol, ⟨hoc1, by omega⟩, hofo, hofi⟩
  have zW : ∀ q, c_Zm mu (sx_n σ) q → ¬ (q = mu 5 ∨ q = mu 6) := fun q z w => w.elim (z.2 5 (by decide)) (z.2 6 (by decide))
  have nex : ¬ (mu 0 = mu 5 ∨ mu 0 = mu 6) := fun z => z.elim (e_kn hx hsb0 rfl) (e_kn hx hso0 rfl)
  refine sv_aload_n dX1_writeBox_0 rfl ?_
  refine sv_iload_n dX1_writeBox_1 rfl ?_
  refine sv_cvR _ (cg_boxAt hx hV hi) okX1_boxAt kv_X1_197 (sx_rd_c hx) rfl dX1_writeBox_2 rfl rfl (by omega) (Nat.le_of_ble_eq_true rfl) ?_
  refine sv_astore_n dX1_writeBox_5 (by decide) ?_
  refine sv_aload_n dX1_writeBox_6 rfl ?_
  refine sv_get fg_X1_79 dX1_writeBox_7 (sx_rd_c hx) rfl ?_
  refine sv_iconst (nI 0) dX1_writeBox_10 (by decide +kernel) ?_
  refine sv_cvP _ (cb_set hU0) okJ8_setLength kv_X1_437 (sx_rd_c hsb0) rfl dX1_writeBox_11 rfl rfl (by omega) (Nat.le_of_ble_eq_true rfl) ?_
  intro v66 τ64 hp65
  obtain ⟨rfl, hU1, hFs⟩ := hp65
  have N67 := (hFs).1.1
  have hx' := h_F_c hFs hx (e_kn hx hsb0 rfl)
  refine sv_iconst (nI 0) dX1_writeBox_14 (by decide +kernel) ?_
  refine sv_istore_n dX1_writeBox_15 (by decide) ?_
  exact loop 32 0 _ _ _ none (by omega) (by have : (a_ms (A_v A) i).length ≤ 30 := hw.1.2.2 i hi; omega) hU1 (k_Uf_of hFs (fun q z => Or.inl z) (Or.inl rfl) (Nat.le_refl _) (by omega) (by omega)) hoc2
theorem pm_wbx (hK : c_K G mu oc σ A) (hC : g_C G) (hL : g_W G 16 w_L) {b : Int32} {t : Nat} (ho : o_V t (A_v A)) (ht6 : t ≤ 1000) : sx_C G 100 YX1_writeBox [.ref (mu 0), .int b] σ (c_R ["java/lang/IndexOutOfBoundsException"] G mu oc σ (sp_wbx A b)) := by
  have hns : (A_v A).2.2.length ≤ 4 := by obtain ⟨_, _, _, ⟨_, _, _, hw⟩, _⟩ := hK; exact hw.1.2.1
  have hnb : (A_v A).2.1.length ≤ 3 := by obtain ⟨_, _, _, ⟨_, _, _, hw⟩, _⟩ := hK; exact hw.1.1
  unfold sp_wbx
  refine c_1 hK (fun h => cpx_wbx hK h) (fun h => ?_)
  obtain ⟨i, hi, rfl⟩ := i_in_of (by omega) h
  rw [nI_clamp (by omega)]
  have hK0 := hK
  obtain ⟨sv, nl, hX, ⟨Λ0, hV, hzz, hw⟩, hN⟩ := hK
  exact cp_wbx0 hK0 hC hL hi ho ht6 hX hV hzz hw hN
end CO2
