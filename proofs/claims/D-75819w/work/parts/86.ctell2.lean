set_option maxRecDepth 100000
section CTM
variable {G : sx_G} {σ τ : sx_St} {ow : Nat → Nat} {a lo nl cap : Nat} {Λ : Nat → Nat → Nat → Nat} {A : a_A}
theorem tn_s {q s b m : Nat} {B : a_A} : s_tn (q + 1) B s b m = if m < (a_ms (A_v B) b).length ∧ (a_es (A_v B) s).length < 60 then (if a_ls (A_v B) s < (a_m (A_v B) b m).1 then s_tn q (A_sv B (v_pu (A_v B) s (a_m (A_v B) b m))) s b (m + 1) else s_tn q B s b (m + 1)) else B := rfl
theorem cc_tellNew (hJ : c_J G lo σ ow a Λ nl cap A) {s : Nat} (hs : s < (A_v A).2.2.length) {b : Nat} (hbx : a_bx (A_v A) s = some b) (hlen : (A_n A).length + 1 ≤ 5000) : sx_Cp G 8 YX2_tellNew [.ref a, .int (nI s), .ref (Λ 3 s 0), .ref nl] σ (fun v ρ => v = none ∧ ∃ ow3 cap3, c_J G lo ρ ow3 a Λ nl cap3 (s_tw A s b) ∧ c_T lo σ ρ A (s_tw A s b) cap cap3) := by
  have loop : ∀ c0 q m (τ : sx_St) (B : a_A), c_J G lo τ ow a Λ nl cap B → s < (A_v B).2.2.length → a_bx (A_v B) s = some b → m ≤ (a_ms (A_v B) b).length → (a_ms (A_v B) b).length + 1 ≤ m + q → (∀ ρ D, D = s_tn q B s b m → c_J G lo ρ ow a Λ nl cap D → c_T lo τ ρ B D cap cap → sx_V G 8 YX2_tellNew 87 [some (.ref a), some (.int (nI s)), some (.ref (Λ 3 s 0)), some (.ref nl), some (.ref (Λ 1 b 1)), some (.int (nI c0)), none] [] ρ (fun o ρ => ∃ v, o = .inl v ∧ (v = none ∧ ∃ ow3 cap3, c_J G lo ρ ow3 a Λ nl cap3 (s_tw A s b) ∧ c_T lo σ ρ A (s_tw A s b) cap cap3))) → sx_V G 8 YX2_tellNew 28 [some (.ref a), some (.int (nI s)), some (.ref (Λ 3 s 0)), some (.ref nl), some (.ref (Λ 1 b 1)), some (.int (nI c0)), some (.int (nI m))] [] τ (fun o ρ => ∃ v, o = .inl v ∧ (v = none ∧ ∃ ow3 cap3, c_J G lo ρ ow3 a Λ nl cap3 (s_tw A s b) ∧ c_T lo σ ρ A (s_tw A s b) cap cap3)) := by
    intro c0 q
    induction q with
    | zero => intro m τ B h1 h2 h3 h4 h5; omega
    | succ q ih =>
    intro m τ B hJ2 hs2 hbx2 hk1 hk2 K
    have hw2 := hJ2.2.2.1
    have hb2 := hw2.2.2.1 s b hs2 hbx2
    have hms2 := hw2.1.2.2 b hb2
    obtain ⟨hv1, hv2, hv3, hv4, hv5⟩ := id hJ2.1.1
    obtain ⟨mcb, fb, hlb, hab, b1, b2, b3, -⟩ := id hv2
    obtain ⟨mcs, fs, hls, has, s1, s2, s3, -⟩ := id hv3
    obtain ⟨fu, ft, fa, hso, hu, ht, hac, ⟨n1, n2, n3⟩, hl, eu, et, ea⟩ := k_V_ses hJ2.1.1 hs2
    obtain ⟨mcm, fm, hlm, -⟩ := id (hv4 b hb2).1.2.1
    refine sv_iload dX2_tellNew_28 rfl ?_
    refine sv_aload dX2_tellNew_30 rfl ?_
    refine sv_cvR _ (cj_size (n := (a_ms (A_v B) b).length) (hv4 b hb2).1.2.1) okJ2_size kv_X2_27 (sx_rd_c hlm) rfl dX2_tellNew_32 rfl rfl (by omega) (Nat.le_of_ble_eq_true rfl) ?_
    refine sv_icmp_geN (tgt := 87) dX2_tellNew_35 (by decide) (by omega) (by omega) (fun c35 => ?_) (fun c35 => ?_)
    · refine sx_loc [some (.ref a), some (.int (nI s)), some (.ref (Λ 3 s 0)), some (.ref nl), some (.ref (Λ 1 b 1)), some (.int (nI c0)), none] ⟨rfl, rfl, rfl, rfl, rfl, rfl, trivial⟩ (K τ B (by rw [tn_s, if_neg (by omega)]) hJ2 c_T_r)
    · refine sv_aload_n dX2_tellNew_38 rfl ?_
      refine sv_get fg_X2_105 dX2_tellNew_39 (sx_rd_c hso) rfl ?_
      refine sv_bipush (nI 60) dX2_tellNew_42 (by decide +kernel) ?_
      refine sv_icmp_geN (tgt := 87) dX2_tellNew_44 (by decide) (by omega) (by omega) (fun c44 => ?_) (fun c44 => ?_)
      · refine sx_loc [some (.ref a), some (.int (nI s)), some (.ref (Λ 3 s 0)), some (.ref nl), some (.ref (Λ 1 b 1)), some (.int (nI c0)), none] ⟨rfl, rfl, rfl, rfl, rfl, rfl, trivial⟩ (K τ B (by rw [tn_s, if_neg (by omega)]) hJ2 c_T_r)
      · refine sv_aload dX2_tellNew_47 rfl ?_
        refine sv_iload dX2_tellNew_49 rfl ?_
        refine sv_cvR _ (cj_get (hv4 b hb2).1.2.1 (i := m) (by show _ < (a_ms (A_v B) b).length; omega)) okJ2_get kv_X2_33 (sx_rd_c hlm) rfl dX2_tellNew_51 rfl rfl (by omega) (Nat.le_of_ble_eq_true rfl) ?_
        have hmm : k_M _ (Λ 2 b m) (a_m (A_v B) b m) := (hv4 b hb2).1.2.2 m (by show _ < (a_ms (A_v B) b).length; omega)
        refine sv_cast (C0 := "") (sx_rd_c hmm) rfl q1100 dX2_tellNew_54 ?_
        refine sv_get fg_X2_154 dX2_tellNew_57 (sx_rd_c hmm) rfl ?_
        refine sv_aload_n dX2_tellNew_60 rfl ?_
        refine sv_get fg_X2_80 dX2_tellNew_61 (sx_rd_c hso) rfl ?_
        refine sv_icmp_le (tgt := 81) dX2_tellNew_64 (by decide) (fun c64 => ?_) (fun c64 => ?_)
        · refine sv_iincN dX2_tellNew_81 rfl (by decide) ?_
          refine sv_goto (tgt := 28) dX2_tellNew_84 (by decide) ?_
          refine ih (m + 1) τ B hJ2 hs2 hbx2 (by omega) (by omega) (fun ρ D hD hJ4 hT4 => K ρ D (by rw [hD, tn_s, if_pos ⟨by omega, by omega⟩, if_neg (Int32.not_lt.mpr c64)]) hJ4 hT4)
        · refine sv_aload_n dX2_tellNew_67 rfl ?_
          refine sv_aload dX2_tellNew_68 rfl ?_
          refine sv_iload dX2_tellNew_70 rfl ?_
          refine sv_cvR _ (cj_get (hv4 b hb2).1.2.1 (i := m) (by show _ < (a_ms (A_v B) b).length; omega)) okJ2_get kv_X2_33 (sx_rd_c hlm) rfl dX2_tellNew_72 rfl rfl (by omega) (Nat.le_of_ble_eq_true rfl) ?_
          have hmm : k_M _ (Λ 2 b m) (a_m (A_v B) b m) := (hv4 b hb2).1.2.2 m (by show _ < (a_ms (A_v B) b).length; omega)
          refine sv_cast (C0 := "") (sx_rd_c hmm) rfl q1100 dX2_tellNew_75 ?_
          refine sv_cvP _ (cc_sadd (hv5 s hs2).1 hmm (by show (a_es (A_v B) s).length < 60; omega)) okX8_add kv_X2_74 (sx_rd_c hso) rfl dX2_tellNew_78 rfl rfl (by omega) (Nat.le_of_ble_eq_true rfl) ?_
          intro v34 τ32 hp33
          obtain ⟨rfl, hS3, F3⟩ := hp33
          obtain ⟨hJ3, hT3⟩ := c_J_s F3 hJ2 hs2 (fun q z => by omega) hS3 rfl (w_V_pu hw2 hs2 (by omega) hbx2)
          have hJ3 : c_J G lo _ ow a Λ nl cap (A_sv B (v_pu (A_v B) s (a_m (A_v B) b m))) := hJ3
          have hT3 : c_T lo _ _ B (A_sv B (v_pu (A_v B) s (a_m (A_v B) b m))) cap cap := hT3
          refine sv_iincN dX2_tellNew_81 rfl (by decide) ?_
          refine sv_goto (tgt := 28) dX2_tellNew_84 (by decide) ?_
          refine ih (m + 1) _ _ hJ3 (by show s < (a_us _ _ _).2.2.length; rw [a_us_n]; exact hs2) (by show a_bx (a_us _ _ _) s = _; rw [a_us_bx hs2]; exact hbx2) (by show m + 1 ≤ (a_ms (A_v B) b).length; omega) (by show (a_ms (A_v B) b).length + 1 ≤ _; omega) (fun ρ D hD hJ4 hT4 => K ρ D (by rw [hD, tn_s, if_pos ⟨by omega, by omega⟩, if_pos (Int32.not_le.mp c64)]) hJ4 (c_T_t hT3 hT4))
  refine sx_body (by decide) (Nat.le_of_ble_eq_true rfl) ?_
  have hb := hJ.2.2.1.2.2.1 s b hs hbx
  have hes : (a_es (A_v A) s).length ≤ 60 := hJ.2.2.1.2.1 s hs
  have hms : (a_ms (A_v A) b).length ≤ 30 := hJ.2.2.1.1.2.2 b hb
  obtain ⟨hv1, hv2, hv3, hv4, hv5⟩ := id hJ.1.1
  obtain ⟨mcb, fb, hlb, hab, b1, b2, b3, -⟩ := id hv2
  obtain ⟨mcs, fs, hls, has, s1, s2, s3, -⟩ := id hv3
  obtain ⟨fu, ft, fa, hso, hu, ht, hac, ⟨n1, n2, n3⟩, hl, eu, et, ea⟩ := k_V_ses hJ.1.1 hs
  have hbb := (hv4 b hb).1.1
  refine sv_aload_n dX2_tellNew_0 rfl ?_
  refine sv_get fg_X2_14 dX2_tellNew_1 (sx_rd_c hv1) rfl ?_
  refine sv_aload_n dX2_tellNew_4 rfl ?_
  refine sv_get fg_X2_65 dX2_tellNew_5 (sx_rd_c hso) rfl ?_
  refine sv_tI (y := nI b) (by rw [hbx]; rfl) ?_
  refine sv_cvR _ (cj_get hv2 (i := b) hb) okJ2_get kv_X2_33 (sx_rd_c hlb) rfl dX2_tellNew_8 rfl rfl (by omega) (Nat.le_of_ble_eq_true rfl) ?_
  refine sv_cast (C0 := "") (sx_rd_c hbb) rfl q826 dX2_tellNew_11 ?_
  refine sv_get fg_X2_59 dX2_tellNew_14 (sx_rd_c hbb) rfl ?_
  refine sv_astore dX2_tellNew_17 (by decide) ?_
  refine sv_aload_n dX2_tellNew_19 rfl ?_
  refine sv_get fg_X2_105 dX2_tellNew_20 (sx_rd_c hso) rfl ?_
  refine sv_istore dX2_tellNew_23 (by decide) ?_
  refine sv_iconst (nI 0) dX2_tellNew_25 (by decide +kernel) ?_
  refine sv_istore dX2_tellNew_26 (by decide) ?_
  refine loop _ 31 0 σ A hJ hs hbx (by omega) (by omega) ?_
  intro ρ B hB hJ2 hT2
  have hkp := kp_tn 31 A s b 0
  rw [← hB] at hkp
  have hs2 : s < (A_v B).2.2.length := Nat.lt_of_lt_of_eq hs hkp.2.2.1.symm
  have hes2 : (a_es (A_v B) s).length ≤ 60 := hJ2.2.2.1.2.1 s hs2
  have hnl : (A_n B).length = (A_n A).length := by have h1 := hkp.2.2.2.2.1; have h2 := hkp.2.2.2.2.2.1; omega
  obtain ⟨hv1, hv2, hv3, hv4, hv5⟩ := id hJ2.1.1
  obtain ⟨mcb, fb, hlb, hab, b1, b2, b3, -⟩ := id hv2
  obtain ⟨mcs, fs, hls, has, s1, s2, s3, -⟩ := id hv3
  obtain ⟨fu, ft, fa, hso, hu, ht, hac, ⟨n1, n2, n3⟩, hl, eu, et, ea⟩ := k_V_ses hJ2.1.1 hs2
  refine sv_aload_n dX2_tellNew_87 rfl ?_
  refine sv_get fg_X2_105 dX2_tellNew_88 (sx_rd_c hso) rfl ?_
  refine sv_iload dX2_tellNew_91 rfl ?_
  refine sv_icmp_leN (tgt := 108) dX2_tellNew_93 (by decide) (by omega) (by omega) (fun c93 => ?_) (fun c93 => ?_)
  · have hg : s_tw A s b = B := by unfold s_tw; rw [if_neg (by rw [← hB]; omega), hB]
    refine sv_vret rfl dX2_tellNew_108 ?_
    rw [hg]
    first | exact ⟨_, rfl, rfl, ow, cap, hJ2, hT2⟩ | exact ⟨_, rfl, rfl, ow4, cap4, hJ4, c_T_t hT2 hT4⟩
  · have hg : s_tw A s b = s_no B s 2 (nI (a_es (A_v B) s).length) 0 := by unfold s_tw; rw [if_pos (by rw [← hB]; omega), hB]
    refine sv_aload_n dX2_tellNew_96 rfl ?_
    refine sv_iload_n dX2_tellNew_97 rfl ?_
    refine sv_iconst (nI 2) dX2_tellNew_98 (by decide +kernel) ?_
    refine sv_aload_n dX2_tellNew_99 rfl ?_
    refine sv_get fg_X2_105 dX2_tellNew_100 (sx_rd_c hso) rfl ?_
    refine sv_iconst (nI 0) dX2_tellNew_103 (by decide +kernel) ?_
    refine sv_aload_n dX2_tellNew_104 rfl ?_
    refine sv_cvP _ (cc_note hJ2 hs2 (k := 2) (by decide) (by omega)) okX2_note kv_X2_136 (sx_rd_c hv1) rfl dX2_tellNew_105 rfl rfl (by omega) (Nat.le_of_ble_eq_true rfl) ?_
    intro v37 τ35 hp36
    obtain ⟨rfl, ow4, cap4, hJ4, hT4⟩ := hp36
    rw [nI_0] at hJ4 hT4
    refine sv_vret rfl dX2_tellNew_108 ?_
    rw [hg]
    first | exact ⟨_, rfl, rfl, ow, cap, hJ2, hT2⟩ | exact ⟨_, rfl, rfl, ow4, cap4, hJ4, c_T_t hT2 hT4⟩
end CTM
