set_option maxRecDepth 100000
section CCP
variable {G : sx_G} {σ τ : sx_St} {a o : Nat} {Λ : Nat → Nat → Nat → Nat} {V : a_V}
theorem c_I_lim {lo : Nat} {ow : Nat → Nat} {c sl : Nat} {x : Int32} (F : h_F (fun q => q = a) c sl σ τ) (h : c_I G lo σ ow a Λ V) (h1 : sx_c τ a = some (.inr (1, [.ref (Λ 0 0 0), .ref (Λ 0 2 0), .int x]))) : c_I G lo τ ow a Λ (x, V.2) := by
  obtain ⟨⟨_, h2, h3, h4, h5⟩, ht, hge, hz⟩ := h
  obtain ⟨t1, t2, t3, t4, t5, t6, t7⟩ := id ht
  have n1 := F.1.1
  have nW : ∀ q, ow q ≠ 1 → q ≠ a := fun q h z => h (by rw [z]; exact t1)
  refine ⟨⟨h1, k_L_fr F h2 (nW _ (by omega)) (nW _ (by omega)), k_L_fr F h3 (nW _ (by omega)) (nW _ (by omega)), fun i hi => ?_, fun t ht => ?_⟩, ht, hge, fun q hq => hz q (by omega)⟩
  · obtain ⟨g1, g2, g3, g4, g5, g6⟩ := t6 i hi
    exact ⟨k_B_fr F (h4 i hi).1 (nW _ (by omega)) (nW _ (by omega)) (nW _ (by omega)) (fun j hj => nW _ (by have := g6 j hj; omega)), k_Sn_fr F (h4 i hi).2 (nW _ (by omega)) (nW _ (by omega))⟩
  · obtain ⟨g1, g2, g3, g4, g5, g6⟩ := t7 t ht
    exact ⟨k_S_fr F (h5 t ht).1 (nW _ (by omega)) (nW _ (by omega)) (nW _ (by omega)) (nW _ (by omega)), k_Sn_fr F (h5 t ht).2 (nW _ (by omega)) (nW _ (by omega))⟩
/-- what the copy's making keeps: owners below, names, capacities -/
def c_Y (σ : sx_St) (a : Nat) (ow2 : Nat → Nat) (Λ Λ2 : Nat → Nat → Nat → Nat) (V2 : a_V) : Prop := (∀ q, q < sx_n σ → q ≠ a → ow2 q = 0) ∧ c_cap Λ2 V2 ∧ (∀ i, i < V2.2.1.length → Λ2 1 i 4 = Λ 1 i 4 ∧ Λ2 1 i 5 = Λ 1 i 5) ∧ ∀ s, s < V2.2.2.length → Λ2 3 s 4 = Λ 3 s 4 ∧ Λ2 3 s 5 = Λ 3 s 5
theorem cc_vinit2 (hV : k_V G σ o Λ V) (hw : w_V V) (hne : a ≠ o) (ha : sx_c σ a = some (.inr (1, [.null, .null, .int (nI 0)]))) : sx_Cp G 9 YX2_init_2 [.ref a, .ref o] σ (fun v ρ => v = none ∧ ∃ ow2 Λ2, c_I G a ρ ow2 a Λ2 V ∧ c_Y σ a ow2 Λ Λ2 V ∧ h_F (fun q => q = a) 160 2600 σ ρ) := by
  have loopS : ∀ r k (τ : sx_St) (ow2 : Nat → Nat) (Λ2 : Nat → Nat → Nat → Nat), k ≤ V.2.2.length → V.2.2.length + 1 ≤ k + r → c_I G a τ ow2 a Λ2 (30, V.2.1, (V.2.2.take k)) → c_Y σ a ow2 Λ Λ2 (30, V.2.1, (V.2.2.take k)) → 2 ≤ Λ2 0 5 0 → Λ2 0 5 0 ≤ 10 → h_F (fun q => q = a) (109 + 9 * k) (960 + 300 * k + 4 * (Λ2 0 5 0 - 2)) σ τ → sx_V G 9 YX2_init_2 81 [some (.ref a), some (.ref o), some (.int (nI k))] [] τ (fun o ρ => ∃ v, o = .inl v ∧ (v = none ∧ ∃ ow2 Λ2, c_I G a ρ ow2 a Λ2 V ∧ c_Y σ a ow2 Λ Λ2 V ∧ h_F (fun q => q = a) 160 2600 σ ρ)) := by
    intro r
    induction r with
    | zero => intro k τ ow2 Λ2 h1 h2; omega
    | succ r ih =>
    intro k τ ow2 Λ2 hk1 hk2 hI hY hc1 hc2 FFg
    have ha9 := sx_lt ha
    have hns := hw.1.2.1
    have hz := k_z_lt hV ha (Ne.symm hne)
    have n0 := FFg.1.1
    have hVo := k_V_Z hV hz FFg (fun q z => z.2)
    obtain ⟨ho1, ho2, ho3, ho4, ho5⟩ := id hVo
    obtain ⟨mco, fo, hlo, hao, -⟩ := id ho2
    obtain ⟨mcp, fp, hlp, hap, -⟩ := id ho3
    obtain ⟨hv1, hv2, hv3, hv4, hv5⟩ := id hI.1
    obtain ⟨mcb, fb, hlb, hab, b1, b2, b3, -⟩ := id hv2
    obtain ⟨mcs, fs, hls, has, s1, s2, s3, -⟩ := id hv3
    have ltI := k_V_lt hI.1
    have ltO := k_V_lt hV
    have ltO2 := k_V_lt hVo
    obtain ⟨tg1, tg2, tg3, tg4, tg5, tg6, tg7⟩ := id hI.2.1
    have hlo9 : a ≤ sx_n τ := by omega
    have FFa : h_F (fun q => False) 0 0 τ τ := h_F_r
    have htk : (V.2.2.take k).length = k := by rw [List.length_take]; omega
    refine sv_iload_n dX2_init_2_81 rfl ?_
    refine sv_aload_n dX2_init_2_82 rfl ?_
    refine sv_get fg_X2_20 dX2_init_2_83 (sx_rd_c ho1) rfl ?_
    refine sv_cvR _ (cj_size ho3) okJ2_size kv_X2_27 (sx_rd_c hlp) rfl dX2_init_2_86 rfl rfl (by omega) (Nat.le_of_ble_eq_true rfl) ?_
    refine sv_icmp_geN (tgt := 124) dX2_init_2_89 (by decide) (by omega) (by omega) (fun c89 => ?_) (fun c89 => ?_)
    · refine sv_aload_n dX2_init_2_124 rfl ?_
      refine sv_aload_n dX2_init_2_125 rfl ?_
      refine sv_get fg_X2_23 dX2_init_2_126 (sx_rd_c ho1) rfl ?_
      refine sv_put fp_X2_23 dX2_init_2_129 hv1 rfl rfl (Nat.le_of_ble_eq_true rfl) ?_
      refine hs_up hv1 (fun τ48 F49 h50 N51 Z52 => ?_)
      have h50 : sx_c τ48 a = some (.inr (1, [.ref (Λ2 0 0 0), .ref (Λ2 0 2 0), .int V.1])) := h50
      have ho1' := h_F_c F49 ho1 (Ne.symm hne)
      have hlo' := h_F_c F49 hlo (e_kn hlo hv1 rfl)
      have hlp' := h_F_c F49 hlp (e_kn hlp hv1 rfl)
      refine sv_vret rfl dX2_init_2_132 ?_
      have hI9 := c_I_lim F49 hI h50
      have e8 : (V.1, (30, V.2.1, V.2.2.take k).2) = V := by show (V.1, V.2.1, V.2.2.take k) = V; rw [List.take_of_length_le (by omega)]
      rw [e8] at hI9
      rw [List.take_of_length_le (by omega)] at hY
      exact ⟨_, rfl, rfl, ow2, Λ2, hI9, hY, h_F_u FFg F49 (fun _ _ z => z) (fun _ _ z => z) (by omega) (by omega)⟩
    · have hk : k < V.2.2.length := by omega
      have lt1 := (ltO2.2.2.2.2.2.2 k hk).1
      refine sv_aload_n dX2_init_2_92 rfl ?_
      refine sv_get fg_X2_20 dX2_init_2_93 (sx_rd_c hv1) rfl ?_
      refine sv_new fn_X2_44 dX2_init_2_96 ?_
      refine hs_al (fun so τ53 E58 F54 h55 N56 Z57 => ?_)
      have hv1' := h_F_c F54 hv1 (fun z => z)
      have ho1' := h_F_c F54 ho1 (fun z => z)
      have hlo' := h_F_c F54 hlo (fun z => z)
      have hlp' := h_F_c F54 hlp (fun z => z)
      have FF59 := h_F_u FFa F54 (fun _ _ z => z) (fun _ _ z => z.elim) (Nat.le_refl _) (Nat.le_refl _)
      have h55 : sx_c τ53 so = some (.inr (7, [.null, .int (nI 0), .int (nI 0), .int (nI 0), .int (b_I false), .int (b_I false), .null, .null, .null])) := by rw [nI_0, b_I_f]; exact h55
      refine sv_dup dX2_init_2_99 rfl ?_
      refine sv_aload_n dX2_init_2_100 rfl ?_
      refine sv_get fg_X2_20 dX2_init_2_101 (sx_rd_c ho1') rfl ?_
      refine sv_iload_n dX2_init_2_104 rfl ?_
      have ho3 := (k_V_Z hVo hz FF59 (fun _ _ z => z)).2.2.1
      refine sv_cvR _ (cj_get ho3 (i := k) hk) okJ2_get kv_X2_33 (sx_rd_c hlp') rfl dX2_init_2_105 rfl rfl (by omega) (Nat.le_of_ble_eq_true rfl) ?_
      have hVo1 := k_V_Z hVo hz FF59 (fun _ _ z => z)
      obtain ⟨_, _, _, hsk2, -⟩ := k_V_ses hVo1 hk
      refine sv_cast (C0 := "") (sx_rd_c hsk2) rfl q1037 dX2_init_2_108 ?_
      refine sv_ciP _ (cc_sinit2 (hVo1.2.2.2.2 k hk).1 (by omega) h55) okX8_init_2 ki_X2_46 dX2_init_2_111 rfl rfl (by omega) (Nat.le_of_ble_eq_true rfl) ?_
      intro v63 τ61 hp62
      obtain ⟨rfl, u2, t2, ac2, m1, m2, m3, hSn, F60⟩ := hp62
      have N64 := (F60).1.1
      have hv1'' := h_F_c F60 hv1' (e_kn hv1' h55 rfl)
      have ho1'' := h_F_c F60 ho1' (e_kn ho1' h55 rfl)
      have hlo'' := h_F_c F60 hlo' (e_kn hlo' h55 rfl)
      have hlp'' := h_F_c F60 hlp' (e_kn hlp' h55 rfl)
      have FF65 := h_F_u FF59 F60 (fun _ _ z => z) (by intro q hq hz; omega) (Nat.le_refl _) (Nat.le_refl _)
      have FF2 := FF65
      have hI1 := c_I_0 FF2 hI
      have n2 := FF2.1.1
      obtain ⟨mcb2, fb2, hlb2, -⟩ := id hI1.1.2.2.1
      refine sv_cvP _ (cj_add hI1.1.2.2.1 k_O_7 (by decide) (by obtain ⟨_, _, _, z, _⟩ := id hSn; exact ⟨_, z⟩) (fun i hi => by obtain ⟨_, _, _, z, _⟩ := (hI1.1.2.2.2.2 i hi).1; exact ⟨_, z⟩) (by show (V.2.2.take k).length ≤ 40000; omega)) okJ2_add kv_X2_40 (sx_rd_c hlb2) rfl dX2_init_2_114 rfl rfl (by omega) (Nat.le_of_ble_eq_true rfl) ?_
      intro v68 τ66 hp67
      obtain ⟨rfl, sa, cap2, l1, l2, d, hL2, F2⟩ := hp67
      have htk2 : ((30, V.2.1, V.2.2.take k) : a_V).2.2.length = k := htk
      rw [htk2] at l2
      refine sv_pop dX2_init_2_117 rfl ?_
      refine sv_iincN dX2_init_2_118 rfl (by decide) ?_
      refine sv_goto (tgt := 81) dX2_init_2_121 (by decide) ?_
      have e9 : V.2.2.take (k + 1) = V.2.2.take k ++ [a_s V k] := tk_s ([], none, false, false, 0, fun _ => 0, []) hk
      have F3 : h_F (fun q => q = Λ2 0 2 0 ∨ q = Λ2 0 3 0) _ _ τ _ := h_F_u FF2 F2 (fun _ _ z => z.elim) (fun _ _ z => z) (Nat.le_refl _) (Nat.le_refl _)
      have zW : ∀ q, (q < sx_n σ ∧ q ≠ a) → ¬ (q = Λ2 0 2 0 ∨ q = Λ2 0 3 0) := fun q zq w => by have h9 := hY.1 q zq.1 zq.2; rcases w with w | w <;> rw [w] at h9 <;> omega
      have hVo3 := k_V_Z hVo hz F3 zW
      have hS3 := k_S_fr F2 hSn (by omega) (by omega) (by omega) (by omega)
      have zk := hz.2.2.2.2.2.2 k hk
      have hI3 := c_I_aS F3 hI hlo9 (fun q _ z => by rcases z with z | z <;> rw [z] <;> omega) hL2 hS3 (hVo3.2.2.2.2 k hk).2 (by omega) (by omega) (by omega) (by omega) (by omega) ⟨hY.1 _ zk.2.2.2.2.1.1 zk.2.2.2.2.1.2, hY.1 _ zk.2.2.2.2.2.1 zk.2.2.2.2.2.2⟩ ⟨by have := zk.2.2.2.2.2.1; omega, by have := zk.2.2.2.2.2.1; omega, by have := zk.2.2.2.2.2.1; omega⟩
      refine ih (k + 1) _ _ _ (by omega) (by omega) (by rw [e9]; exact hI3) ⟨fun q q1 q2 => ?_, fun i hi => ?_, fun i hi => ?_, fun i hi => ?_⟩ (by show 2 ≤ cap2; omega) ?_ (h_F_u FFg F3 (fun _ _ z => z) (fun q q1 z => ?_) ?_ ?_)
      · have h9 := hY.1 q q1 q2
        have q3 := zW q ⟨q1, q2⟩
        unfold ow_S
        rw [if_neg (by omega), if_neg (by omega), if_neg (by omega), if_neg (by omega), if_neg (by omega)]
        exact h9
      · rw [Λ_S_1]; exact hY.2.1 i hi
      · rw [Λ_S_1, Λ_S_1]; exact hY.2.2.1 i hi
      · have hi : i < (V.2.2.take (k + 1)).length := hi
        rw [List.length_take] at hi
        by_cases hx : i = (V.2.2.take k).length
        · rw [hx, Λ_S_3, Λ_S_3, htk]; exact ⟨rfl, rfl⟩
        · rw [Λ_S_3n hx, Λ_S_3n hx]; exact hY.2.2.2 i (by show i < (V.2.2.take k).length; omega)
      · show cap2 ≤ 10
        omega
      · have h9 := zW q
        by_cases q2 : q = a
        · exact q2
        · exact absurd z (h9 ⟨q1, q2⟩)
      · omega
      · show _ ≤ 960 + 300 * (k + 1) + 4 * (cap2 - 2)
        omega
  have loop2 : ∀ (ρ : sx_St) (ow3 : Nat → Nat) (Λ3 : Nat → Nat → Nat → Nat), c_I G a ρ ow3 a Λ3 (30, V.2.1, []) → c_Y σ a ow3 Λ Λ3 (30, V.2.1, []) → Λ3 0 5 0 = 2 → h_F (fun q => q = a) 109 960 σ ρ → sx_V G 9 YX2_init_2 79 [some (.ref a), some (.ref o), none] [] ρ (fun o ρ => ∃ v, o = .inl v ∧ (v = none ∧ ∃ ow2 Λ2, c_I G a ρ ow2 a Λ2 V ∧ c_Y σ a ow2 Λ Λ2 V ∧ h_F (fun q => q = a) 160 2600 σ ρ)) := by
    intro ρ ow3 Λ3 hI4 hY4 h54 FF4
    refine sv_iconst (nI 0) dX2_init_2_79 (by decide +kernel) ?_
    refine sv_istore_n dX2_init_2_80 (by decide) ?_
    refine loopS 5 0 ρ ow3 Λ3 (by omega) (by have := hw.1.2.1; omega) hI4 hY4 (by omega) (by omega) (h_F_w FF4 (fun _ _ z => z) (by omega) (by omega))
  have loop : ∀ r k (τ : sx_St) (ow2 : Nat → Nat) (Λ2 : Nat → Nat → Nat → Nat), k ≤ V.2.1.length → V.2.1.length + 1 ≤ k + r → c_I G a τ ow2 a Λ2 (30, (V.2.1.take k), []) → c_Y σ a ow2 Λ Λ2 (30, (V.2.1.take k), []) → 2 ≤ Λ2 0 4 0 → Λ2 0 4 0 ≤ 10 → Λ2 0 5 0 = 2 → h_F (fun q => q = a) (4 + 35 * k) (10 + 300 * k + 4 * (Λ2 0 4 0 - 2)) σ τ → (∀ ρ ow3 Λ3, c_I G a ρ ow3 a Λ3 (30, V.2.1, []) → c_Y σ a ow3 Λ Λ3 (30, V.2.1, []) → Λ3 0 5 0 = 2 → h_F (fun q => q = a) 109 960 σ ρ → sx_V G 9 YX2_init_2 79 [some (.ref a), some (.ref o), none] [] ρ (fun o ρ => ∃ v, o = .inl v ∧ (v = none ∧ ∃ ow2 Λ2, c_I G a ρ ow2 a Λ2 V ∧ c_Y σ a ow2 Λ Λ2 V ∧ h_F (fun q => q = a) 160 2600 σ ρ))) → sx_V G 9 YX2_init_2 36 [some (.ref a), some (.ref o), some (.int (nI k))] [] τ (fun o ρ => ∃ v, o = .inl v ∧ (v = none ∧ ∃ ow2 Λ2, c_I G a ρ ow2 a Λ2 V ∧ c_Y σ a ow2 Λ Λ2 V ∧ h_F (fun q => q = a) 160 2600 σ ρ)) := by
    intro r
    induction r with
    | zero => intro k τ ow2 Λ2 h1 h2; omega
    | succ r ih =>
    intro k τ ow2 Λ2 hk1 hk2 hI hY hc1 hc2 hc5 FFg K
    have ih := fun k τ ow2 Λ2 h1 h2 h3 h4 h5 h6 h7 h8 => ih k τ ow2 Λ2 h1 h2 h3 h4 h5 h6 h7 h8 K
    have ha9 := sx_lt ha
    have hnb := hw.1.1
    have hz := k_z_lt hV ha (Ne.symm hne)
    have n0 := FFg.1.1
    have hVo := k_V_Z hV hz FFg (fun q z => z.2)
    obtain ⟨ho1, ho2, ho3, ho4, ho5⟩ := id hVo
    obtain ⟨mco, fo, hlo, hao, -⟩ := id ho2
    obtain ⟨mcp, fp, hlp, hap, -⟩ := id ho3
    obtain ⟨hv1, hv2, hv3, hv4, hv5⟩ := id hI.1
    obtain ⟨mcb, fb, hlb, hab, b1, b2, b3, -⟩ := id hv2
    obtain ⟨mcs, fs, hls, has, s1, s2, s3, -⟩ := id hv3
    have ltI := k_V_lt hI.1
    have ltO := k_V_lt hV
    have ltO2 := k_V_lt hVo
    obtain ⟨tg1, tg2, tg3, tg4, tg5, tg6, tg7⟩ := id hI.2.1
    have hlo9 : a ≤ sx_n τ := by omega
    have FFa : h_F (fun q => False) 0 0 τ τ := h_F_r
    have htk : (V.2.1.take k).length = k := by rw [List.length_take]; omega
    refine sv_iload_n dX2_init_2_36 rfl ?_
    refine sv_aload_n dX2_init_2_37 rfl ?_
    refine sv_get fg_X2_14 dX2_init_2_38 (sx_rd_c ho1) rfl ?_
    refine sv_cvR _ (cj_size ho2) okJ2_size kv_X2_27 (sx_rd_c hlo) rfl dX2_init_2_41 rfl rfl (by omega) (Nat.le_of_ble_eq_true rfl) ?_
    refine sv_icmp_geN (tgt := 79) dX2_init_2_44 (by decide) (by omega) (by omega) (fun c44 => ?_) (fun c44 => ?_)
    · refine sx_loc [some (.ref a), some (.ref o), none] ⟨rfl, rfl, trivial⟩ (K τ ow2 Λ2 (by rw [List.take_of_length_le (by omega)] at hI; exact hI) (by rw [List.take_of_length_le (by omega)] at hY; exact hY) hc5 (h_F_w FFg (fun _ _ z => z) (by omega) (by omega)))
    · have hk : k < V.2.1.length := by omega
      have hbk := (ho4 k hk).1.1
      have lt1 := (ltO2.2.2.2.2.2.1 k hk).1
      have hms := hw.1.2.2 k hk
      refine sv_aload_n dX2_init_2_47 rfl ?_
      refine sv_get fg_X2_14 dX2_init_2_48 (sx_rd_c hv1) rfl ?_
      refine sv_new fn_X2_31 dX2_init_2_51 ?_
      refine hs_al (fun bo τ69 E74 F70 h71 N72 Z73 => ?_)
      have hv1' := h_F_c F70 hv1 (fun z => z)
      have ho1' := h_F_c F70 ho1 (fun z => z)
      have hlo' := h_F_c F70 hlo (fun z => z)
      have hlp' := h_F_c F70 hlp (fun z => z)
      have FF75 := h_F_u FFa F70 (fun _ _ z => z) (fun _ _ z => z.elim) (Nat.le_refl _) (Nat.le_refl _)
      have h71 : sx_c τ69 bo = some (.inr (5, [.null, .null, .int (nI 0)])) := by rw [nI_0]; exact h71
      refine sv_dup dX2_init_2_54 rfl ?_
      refine sv_aload_n dX2_init_2_55 rfl ?_
      refine sv_get fg_X2_14 dX2_init_2_56 (sx_rd_c ho1') rfl ?_
      refine sv_iload_n dX2_init_2_59 rfl ?_
      have ho2 := (k_V_Z hVo hz FF75 (fun _ _ z => z)).2.1
      refine sv_cvR _ (cj_get ho2 (i := k) hk) okJ2_get kv_X2_33 (sx_rd_c hlo') rfl dX2_init_2_60 rfl rfl (by omega) (Nat.le_of_ble_eq_true rfl) ?_
      have hVo1 := k_V_Z hVo hz FF75 (fun _ _ z => z)
      have hbk2 := (hVo1.2.2.2.1 k hk).1.1
      refine sv_cast (C0 := "") (sx_rd_c hbk2) rfl q826 dX2_init_2_63 ?_
      refine sv_ciP _ (cc_binit2 (hVo1.2.2.2.1 k hk).1 (by omega) hms h71) okX6_init_2 ki_X2_37 dX2_init_2_66 rfl rfl (by omega) (Nat.le_of_ble_eq_true rfl) ?_
      intro v79 τ77 hp78
      obtain ⟨rfl, l, ar, capb, m1, m2, hcb, hBn, F76⟩ := hp78
      have N80 := (F76).1.1
      have hv1'' := h_F_c F76 hv1' (e_kn hv1' h71 rfl)
      have ho1'' := h_F_c F76 ho1' (e_kn ho1' h71 rfl)
      have hlo'' := h_F_c F76 hlo' (e_kn hlo' h71 rfl)
      have hlp'' := h_F_c F76 hlp' (e_kn hlp' h71 rfl)
      have FF81 := h_F_u FF75 F76 (fun _ _ z => z) (by intro q hq hz; omega) (Nat.le_refl _) (Nat.le_refl _)
      have FF2 := FF81
      have hI1 := c_I_0 FF2 hI
      have n2 := FF2.1.1
      obtain ⟨mcb2, fb2, hlb2, -⟩ := id hI1.1.2.1
      refine sv_cvP _ (cj_add hI1.1.2.1 k_O_5 (by decide) ⟨_, hBn.1⟩ (fun i hi => ⟨_, (hI1.1.2.2.2.1 i hi).1.1⟩) (by show (V.2.1.take k).length ≤ 40000; omega)) okJ2_add kv_X2_40 (sx_rd_c hlb2) rfl dX2_init_2_69 rfl rfl (by omega) (Nat.le_of_ble_eq_true rfl) ?_
      intro v84 τ82 hp83
      obtain ⟨rfl, ba, cap2, l1, l2, d, hL2, F2⟩ := hp83
      have htk2 : ((30, V.2.1.take k, []) : a_V).2.1.length = k := htk
      rw [htk2] at l2
      refine sv_pop dX2_init_2_72 rfl ?_
      refine sv_iincN dX2_init_2_73 rfl (by decide) ?_
      refine sv_goto (tgt := 36) dX2_init_2_76 (by decide) ?_
      have e9 : V.2.1.take (k + 1) = V.2.1.take k ++ [a_b V k] := tk_s ([], 0, []) hk
      have F3 : h_F (fun q => q = Λ2 0 0 0 ∨ q = Λ2 0 1 0) _ _ τ _ := h_F_u FF2 F2 (fun _ _ z => z.elim) (fun _ _ z => z) (Nat.le_refl _) (Nat.le_refl _)
      have zW : ∀ q, (q < sx_n σ ∧ q ≠ a) → ¬ (q = Λ2 0 0 0 ∨ q = Λ2 0 1 0) := fun q zq w => by have h9 := hY.1 q zq.1 zq.2; rcases w with w | w <;> rw [w] at h9 <;> omega
      have hVo3 := k_V_Z hVo hz F3 zW
      have hB3 := k_B_fr F2 hBn (by omega) (by omega) (by omega) (fun j hj => zW _ ((hz.2.2.2.2.2.1 k hk).2.2.2.2.2 j hj))
      have hbar : ar < sx_n _ := (k_L_lt hBn.2.1).2
      have hI3 := c_I_aB F3 hI hlo9 (fun q _ z => by rcases z with z | z <;> rw [z] <;> omega) hL2 hB3 (hVo3.2.2.2.1 k hk).2 (by omega) (by omega) (by omega) (by omega) (by omega) ⟨hY.1 _ (hz.2.2.2.2.2.1 k hk).2.2.2.1.1 (hz.2.2.2.2.2.1 k hk).2.2.2.1.2, hY.1 _ (hz.2.2.2.2.2.1 k hk).2.2.2.2.1.1 (hz.2.2.2.2.2.1 k hk).2.2.2.2.1.2⟩ (fun j hj => hY.1 _ ((hz.2.2.2.2.2.1 k hk).2.2.2.2.2 j hj).1 ((hz.2.2.2.2.2.1 k hk).2.2.2.2.2 j hj).2)
      refine ih (k + 1) _ _ _ (by omega) (by omega) (by rw [e9]; exact hI3) ⟨fun q q1 q2 => ?_, fun i hi => ?_, fun i hi => ?_, fun i hi => absurd hi (Nat.not_lt_zero i)⟩ (by show 2 ≤ cap2; omega) ?_ (by exact hc5) (h_F_u FFg F3 (fun _ _ z => z) (fun q q1 z => ?_) ?_ ?_)
      · have h9 := hY.1 q q1 q2
        have q3 := zW q ⟨q1, q2⟩
        unfold ow_B
        rw [if_neg (by omega), if_neg (by omega), if_neg (by omega), if_neg (by omega)]
        exact h9
      · have hi : i < (V.2.1.take (k + 1)).length := hi
        rw [List.length_take] at hi
        by_cases hx : i = (V.2.1.take k).length
        · rw [hx, Λ_B_1]; omega
        · rw [Λ_B_1n hx]; exact hY.2.1 i (by show i < (V.2.1.take k).length; omega)
      · have hi : i < (V.2.1.take (k + 1)).length := hi
        rw [List.length_take] at hi
        by_cases hx : i = (V.2.1.take k).length
        · rw [hx, Λ_B_1, Λ_B_1, htk]; exact ⟨rfl, rfl⟩
        · rw [Λ_B_1n hx, Λ_B_1n hx]; exact hY.2.2.1 i (by show i < (V.2.1.take k).length; omega)
      · show cap2 ≤ 10
        omega
      · have h9 := zW q
        by_cases q2 : q = a
        · exact q2
        · exact absurd z (h9 ⟨q1, q2⟩)
      · omega
      · show _ ≤ 10 + 300 * (k + 1) + 4 * (cap2 - 2)
        omega
  refine sx_body (by decide) (Nat.le_of_ble_eq_true rfl) ?_
  have ha9 := sx_lt ha
  have ho0 := hV.1
  have FF0 : h_F (fun q => q = a) 0 0 σ σ := h_F_r
  refine sv_aload_n dX2_init_2_0 rfl ?_
  refine sv_oi q201 q194 q195 dX2_init_2_1 (by decide) (Nat.le_of_ble_eq_true rfl) ?_
  refine sv_aload_n dX2_init_2_4 rfl ?_
  refine sv_new fn_X2_9 dX2_init_2_5 ?_
  refine hs_al (fun bl τ85 E90 F86 h87 N88 Z89 => ?_)
  have ha' := h_F_c F86 ha (fun z => z)
  have ho0' := h_F_c F86 ho0 (fun z => z)
  have FF91 := h_F_u FF0 F86 (fun _ _ z => z) (fun _ _ z => z.elim) (Nat.le_refl _) (Nat.le_refl _)
  have h87 : sx_c τ85 bl = some (.inr (9, [.int (nI 0), .null, .int (nI 0)])) := by rw [nI_0]; exact h87
  refine sv_dup dX2_init_2_8 rfl ?_
  refine sv_iconst (nI 2) dX2_init_2_9 (by decide +kernel) ?_
  refine sv_ciP _ (cj_init (c := 2) (by decide) (by decide) h87) okJ2_init ki_X2_11 dX2_init_2_10 rfl rfl (by omega) (Nat.le_of_ble_eq_true rfl) ?_
  intro v95 τ93 hp94
  obtain ⟨rfl, ba, bn, hBl, F92⟩ := hp94
  have N96 := (F92).1.1
  have ha'' := h_F_c F92 ha' (e_kn ha' h87 rfl)
  have ho0'' := h_F_c F92 ho0' (e_kn ho0' h87 rfl)
  have FF97 := h_F_u FF91 F92 (fun _ _ z => z) (by intro q hq hz; omega) (Nat.le_refl _) (Nat.le_refl _)
  have lt_b := k_L_lt (hBl (fun _ => 0))
  refine sv_put fp_X2_14 dX2_init_2_13 ha'' rfl rfl (Nat.le_of_ble_eq_true rfl) ?_
  refine hs_up ha'' (fun τ98 F99 h100 N101 Z102 => ?_)
  have h100 : sx_c τ98 a = some (.inr (1, [.ref bl, .null, .int (nI 0)])) := h100
  have ho0''' := h_F_c F99 ho0'' (Ne.symm hne)
  have hBl := fun g => k_L_fr F99 (hBl g) (k_L_l (hBl g) ha'' (by decide)) (k_L_a (hBl g) ha'')
  have FF103 := h_F_u FF97 F99 (fun _ _ z => z) (by intro q hq hz; omega) (Nat.le_refl _) (Nat.le_refl _)
  refine sv_aload_n dX2_init_2_16 rfl ?_
  refine sv_new fn_X2_9 dX2_init_2_17 ?_
  refine hs_al (fun sl2 τ104 E109 F105 h106 N107 Z108 => ?_)
  have ho0'''' := h_F_c F105 ho0''' (fun z => z)
  have h100' := h_F_c F105 h100 (fun z => z)
  have hBl := fun g => k_L_fr F105 (hBl g) (fun z => z) (fun z => z)
  have FF110 := h_F_u FF103 F105 (fun _ _ z => z) (fun _ _ z => z.elim) (Nat.le_refl _) (Nat.le_refl _)
  have h106 : sx_c τ104 sl2 = some (.inr (9, [.int (nI 0), .null, .int (nI 0)])) := by rw [nI_0]; exact h106
  refine sv_dup dX2_init_2_20 rfl ?_
  refine sv_iconst (nI 2) dX2_init_2_21 (by decide +kernel) ?_
  refine sv_ciP _ (cj_init (c := 2) (by decide) (by decide) h106) okJ2_init ki_X2_11 dX2_init_2_22 rfl rfl (by omega) (Nat.le_of_ble_eq_true rfl) ?_
  intro v114 τ112 hp113
  obtain ⟨rfl, sa, sn, hSl, F111⟩ := hp113
  have N115 := (F111).1.1
  have ho0''''' := h_F_c F111 ho0'''' (e_kn ho0'''' h106 rfl)
  have h100'' := h_F_c F111 h100' (e_kn h100' h106 rfl)
  have hBl := fun g => k_L_fr F111 (hBl g) (by omega) (by omega)
  have FF116 := h_F_u FF110 F111 (fun _ _ z => z) (by intro q hq hz; omega) (Nat.le_refl _) (Nat.le_refl _)
  have lt_s := k_L_lt (hSl (fun _ => 0))
  refine sv_put fp_X2_20 dX2_init_2_25 h100'' rfl rfl (Nat.le_of_ble_eq_true rfl) ?_
  refine hs_up h100'' (fun τ117 F118 h119 N120 Z121 => ?_)
  have h119 : sx_c τ117 a = some (.inr (1, [.ref bl, .ref sl2, .int (nI 0)])) := h119
  have ho0'''''' := h_F_c F118 ho0''''' (Ne.symm hne)
  have hBl := fun g => k_L_fr F118 (hBl g) (k_L_l (hBl g) h100'' (by decide)) (k_L_a (hBl g) h100'')
  have hSl := fun g => k_L_fr F118 (hSl g) (k_L_l (hSl g) h100'' (by decide)) (k_L_a (hSl g) h100'')
  have FF122 := h_F_u FF116 F118 (fun _ _ z => z) (by intro q hq hz; omega) (Nat.le_refl _) (Nat.le_refl _)
  refine sv_aload_n dX2_init_2_28 rfl ?_
  refine sv_bipush (nI 30) dX2_init_2_29 (by decide +kernel) ?_
  refine sv_put fp_X2_23 dX2_init_2_31 h119 rfl rfl (Nat.le_of_ble_eq_true rfl) ?_
  refine hs_up h119 (fun τ123 F124 h125 N126 Z127 => ?_)
  have h125 : sx_c τ123 a = some (.inr (1, [.ref bl, .ref sl2, .int (nI 30)])) := h125
  have ho0''''''' := h_F_c F124 ho0'''''' (Ne.symm hne)
  have hBl := fun g => k_L_fr F124 (hBl g) (k_L_l (hBl g) h119 (by decide)) (k_L_a (hBl g) h119)
  have hSl := fun g => k_L_fr F124 (hSl g) (k_L_l (hSl g) h119 (by decide)) (k_L_a (hSl g) h119)
  have FF128 := h_F_u FF122 F124 (fun _ _ z => z) (by intro q hq hz; omega) (Nat.le_refl _) (Nat.le_refl _)
  refine sv_iconst (nI 0) dX2_init_2_34 (by decide +kernel) ?_
  refine sv_istore_n dX2_init_2_35 (by decide) ?_
  have h9 := k_L_lt (hBl (fun _ => 0))
  have h8 := k_L_lt (hSl (fun _ => 0))
  have hI := c_I_new h125 (hBl (fun _ => 0)) (hSl (fun _ => 0)) (by omega) (by omega) (by omega) (by omega) (by omega) (by omega)
  rw [n30] at hI
  refine loop 31 0 _ _ _ (by omega) (by have := hw.1.1; omega) hI ⟨fun q q1 q2 => ?_, fun i hi => absurd hi (Nat.not_lt_zero i), fun i hi => absurd hi (Nat.not_lt_zero i), fun i hi => absurd hi (Nat.not_lt_zero i)⟩ (Nat.le_refl 2) (show 2 ≤ 10 by omega) rfl (h_F_w FF128 (fun _ _ z => z) (by omega) (by show _ ≤ 10 + 300 * 0 + 4 * (2 - 2); omega)) ?_
  · unfold ow_0
    rw [if_neg q2, if_neg (by omega), if_neg (by omega), if_neg (by omega), if_neg (by omega)]
  intro ρ ow3 Λ3 hI4 hY4 h54 FF4
  exact loop2 ρ ow3 Λ3 hI4 hY4 h54 FF4
end CCP
