set_option maxRecDepth 100000
section CTN
variable {G : sx_G} {σ τ : sx_St} {ow : Nat → Nat} {a lo nl cap : Nat} {Λ : Nat → Nat → Nat → Nat} {A : a_A}
theorem tf_s {q s k : Nat} {B : a_A} : s_tf (q + 1) B s k = if k < (a_es (A_v B) s).length then (if a_ot (A_v B) s k then s_tf q (s_no (A_sv B (v_to (A_v B) s k (a_fl (A_v B) s k))) s 1 (nI (k + 1)) (a_fl (A_v B) s k)) s (k + 1) else s_tf q B s (k + 1)) else B := rfl
theorem k_S_to {so u t ac nm k c sl : Nat} {S : a_S} {x : Int32} {ft : Nat → Int32} (hS : k_S G σ so u t ac nm S) (F : h_F (fun q => q = t) c sl σ τ) (ha : sx_c σ t = some (.inl (sg_a G 0, 60, .inl ft))) (h : sx_c τ t = some (.inl (sg_a G 0, 60, .inl (upd ft k x)))) (hk : k < S.2.2.2.2.2.2.length) : k_S G τ so u t ac nm (S_es S (S.2.2.2.2.2.2.set k ((S.2.2.2.2.2.2.getD k (0, 0)).1, x))) := by
  obtain ⟨fu, ft', fa, a1, a2, a3, a4, ⟨n1, n2, n3⟩, a6, a7, a8, a9⟩ := hS
  have e := Option.some.inj (ha.symm.trans a3)
  have e : ft = ft' := Sum.inl.inj (congrArg (fun q : vp_A => q.2) (congrArg Prod.snd (Sum.inl.inj e)))
  subst e
  have hg : ∀ i, (S.2.2.2.2.2.2.set k ((S.2.2.2.2.2.2.getD k (0, 0)).1, x)).getD i (0, 0) = if i = k then ((S.2.2.2.2.2.2.getD k (0, 0)).1, x) else S.2.2.2.2.2.2.getD i (0, 0) := by
    intro i
    rw [List.getD_eq_getElem?_getD, List.getElem?_set]
    by_cases hi : k = i
    · subst hi
      rw [if_pos rfl, if_pos rfl, if_pos hk]; rfl
    · rw [if_neg hi, if_neg (Ne.symm hi), ← List.getD_eq_getElem?_getD]
  refine ⟨fu, _, fa, ?_, h_F_c F a2 n1, h, h_F_c F a4 (Ne.symm n3), ⟨n1, n2, n3⟩, ?_, fun i hi => ?_, fun i hi => ?_, a9⟩
  · show sx_c _ _ = some (Sum.inr (7, [_, _, Value.int (nI (S.2.2.2.2.2.2.set k _).length), _, _, _, _, _, _]) : va_E)
    rw [List.length_set]
    exact h_F_c F a1 (e_kn a1 a3 rfl)
  · show (S.2.2.2.2.2.2.set k _).length ≤ 60
    rw [List.length_set]; exact a6
  · have hi : i < (S.2.2.2.2.2.2.set k ((S.2.2.2.2.2.2.getD k (0, 0)).1, x)).length := hi
    rw [List.length_set] at hi
    show fu i = ((S.2.2.2.2.2.2.set k _).getD i (0, 0)).1
    rw [hg i]
    by_cases hx : i = k
    · rw [if_pos hx, hx]; exact a7 k hk
    · rw [if_neg hx]; exact a7 i hi
  · have hi : i < (S.2.2.2.2.2.2.set k ((S.2.2.2.2.2.2.getD k (0, 0)).1, x)).length := hi
    rw [List.length_set] at hi
    show upd ft k x i = ((S.2.2.2.2.2.2.set k _).getD i (0, 0)).2
    rw [hg i]
    by_cases hx : i = k
    · rw [if_pos hx, hx, pk_us]
    · rw [if_neg hx, pk_un hx]; exact a8 i hi
theorem cc_tell (hJ : c_J G lo σ ow a Λ nl cap A) {s : Nat} (hs : s < (A_v A).2.2.length) {all : Bool} (hlen : (A_n A).length + 123 ≤ 5000) : sx_Cp G 9 YX2_tell [.ref a, .int (nI s), .int (b_I all), .ref nl] σ (fun v ρ => v = some (.int (nI ((A_n (s_te A s all)).length - (A_n A).length))) ∧ ∃ ow3 cap3, c_J G lo ρ ow3 a Λ nl cap3 (s_te A s all) ∧ c_T lo σ ρ A (s_te A s all) cap cap3) := by
  have loop : ∀ {b : Nat} (q k : Nat) (τ : sx_St) (ow2 : Nat → Nat) (cap2 : Nat) (B : a_A), c_J G lo τ ow2 a Λ nl cap2 B → s < (A_v B).2.2.length → a_bx (A_v B) s = some b → k ≤ (a_es (A_v B) s).length → (a_es (A_v B) s).length + 1 ≤ k + q → (A_n B).length + q ≤ 5000 → (∀ ρ D ow3 cap3, D = s_tf q B s k → c_J G lo ρ ow3 a Λ nl cap3 D → c_T lo τ ρ B D cap2 cap3 → sx_V G 9 YX2_tell 113 [some (.ref a), some (.int (nI s)), some (.int (b_I all)), some (.ref nl), some (.ref (Λ 3 s 0)), some (.int (nI (A_n A).length)), none] [] ρ (fun o ρ => ∃ v, o = .inl v ∧ (v = some (.int (nI ((A_n (s_te A s all)).length - (A_n A).length))) ∧ ∃ ow3 cap3, c_J G lo ρ ow3 a Λ nl cap3 (s_te A s all) ∧ c_T lo σ ρ A (s_te A s all) cap cap3))) → sx_V G 9 YX2_tell 45 [some (.ref a), some (.int (nI s)), some (.int (b_I all)), some (.ref nl), some (.ref (Λ 3 s 0)), some (.int (nI (A_n A).length)), some (.int (nI k))] [] τ (fun o ρ => ∃ v, o = .inl v ∧ (v = some (.int (nI ((A_n (s_te A s all)).length - (A_n A).length))) ∧ ∃ ow3 cap3, c_J G lo ρ ow3 a Λ nl cap3 (s_te A s all) ∧ c_T lo σ ρ A (s_te A s all) cap cap3)) := by
    intro b q
    induction q with
    | zero => intro k τ ow2 cap2 B h1 h2 h3 h4 h5; omega
    | succ q ih =>
    intro k τ ow2 cap2 B hJ2 hs2 hbx2 hk1 hk2 hn2 K
    have hw2 := hJ2.2.2.1
    have hb2 := hw2.2.2.1 s b hs2 hbx2
    have hes2 := hw2.2.1 s hs2
    obtain ⟨hv1, hv2, hv3, hv4, hv5⟩ := id hJ2.1.1
    obtain ⟨mcb, fb, hlb, hab, b1, b2, b3, -⟩ := id hv2
    obtain ⟨mcs, fs, hls, has, s1, s2, s3, -⟩ := id hv3
    obtain ⟨fu, ft, fa, hso, hu, ht, hac, ⟨n1, n2, n3⟩, hl, eu, et, ea⟩ := k_V_ses hJ2.1.1 hs2
    refine sv_iload dX2_tell_45 rfl ?_
    refine sv_aload dX2_tell_47 rfl ?_
    refine sv_get fg_X2_105 dX2_tell_49 (sx_rd_c hso) rfl ?_
    refine sv_icmp_geN (tgt := 113) dX2_tell_52 (by decide) (by omega) (by omega) (fun c52 => ?_) (fun c52 => ?_)
    · refine sx_loc [some (.ref a), some (.int (nI s)), some (.int (b_I all)), some (.ref nl), some (.ref (Λ 3 s 0)), some (.int (nI (A_n A).length)), none] ⟨rfl, rfl, rfl, rfl, rfl, rfl, trivial⟩ (K τ B ow2 cap2 (by rw [tf_s, if_neg (by omega)]) hJ2 c_T_r)
    · refine sv_aload_n dX2_tell_55 rfl ?_
      refine sv_aload dX2_tell_56 rfl ?_
      refine sv_iload dX2_tell_58 rfl ?_
      refine sv_cvR _ (cc_isChanged hJ2.1.1 hs2 hbx2 hb2 (k := k) (by omega)) okX2_isChanged kv_X2_107 (sx_rd_c hv1) rfl dX2_tell_60 rfl rfl (by omega) (Nat.le_of_ble_eq_true rfl) ?_
      refine sv_if_neB (tgt := 69) dX2_tell_63 (by decide) (fun c63 => ?_) (fun c63 => ?_)
      · refine sv_aload dX2_tell_69 rfl ?_
        refine sv_get fg_X2_102 dX2_tell_71 (sx_rd_c hso) rfl ?_
        refine sv_iload dX2_tell_74 rfl ?_
        refine sv_aload_n dX2_tell_76 rfl ?_
        refine sv_aload dX2_tell_77 rfl ?_
        refine sv_iload dX2_tell_79 rfl ?_
        refine sv_cvR _ (cc_at hJ2.1.1 hs2 hbx2 hb2 (k := k) (by omega)) okX2_at kv_X2_91 (sx_rd_c hv1) rfl dX2_tell_81 rfl rfl (by omega) (Nat.le_of_ble_eq_true rfl) ?_
        obtain ⟨m, hm9⟩ : ∃ m, a_mo (A_v B) s k = some m := by
          unfold a_ot a_go at c63
          cases hz : a_mo (A_v B) s k with
          | none => rw [hz] at c63; cases c63
          | some m => exact ⟨m, rfl⟩
        have hfl9 : (a_m (A_v B) b m).2.2 = a_fl (A_v B) s k := (a_fl_b hbx2 hm9).symm
        have hml := hm9
        rw [a_mo_b hbx2] at hml
        have hml := a_find_lt hml
        have hmm : k_M τ (Λ 2 b m) (a_m (A_v B) b m) := (hv4 b hb2).1.2.2 m hml
        refine sv_topR (a := Λ 2 b m) (by rw [hm9]; rfl) ?_
        refine sv_get fg_X2_99 dX2_tell_84 (sx_rd_c hmm) rfl ?_
        refine sv_iast dX2_tell_87 ht (vp_in_nI (by omega) (by omega)) ?_
        rw [nI_clamp (show k < 2 ^ 31 by omega)]
        refine hs_up ht (fun τ38 F39 h40 N41 Z42 => ?_)
        have h40 : sx_c τ38 ((Λ 3 s 2)) = some (.inl (sg_a G 0, 60, .inl ((upd ft k ((a_m (A_v B) b m).2.2))))) := h40
        have hv1' := h_F_c F39 hv1 (e_kn hv1 ht rfl)
        have hlb' := h_F_c F39 hlb (e_kn hlb ht rfl)
        have hls' := h_F_c F39 hls (e_kn hls ht rfl)
        have hso' := h_F_c F39 hso (e_kn hso ht rfl)
        have hu' := h_F_c F39 hu n1
        have hac' := h_F_c F39 hac (Ne.symm n3)
        have hmm' := h_F_c F39 hmm (e_kn hmm ht rfl)
        refine sv_aload_n dX2_tell_88 rfl ?_
        refine sv_iload_n dX2_tell_89 rfl ?_
        refine sv_iconst (nI 1) dX2_tell_90 (by decide +kernel) ?_
        refine sv_iload dX2_tell_91 rfl ?_
        refine sv_iconst (nI 1) dX2_tell_93 (by decide +kernel) ?_
        refine sv_iaddN dX2_tell_94 ?_
        refine sv_aload dX2_tell_95 rfl ?_
        refine sv_get fg_X2_102 dX2_tell_97 (sx_rd_c hso') rfl ?_
        refine sv_iload dX2_tell_100 rfl ?_
        refine sv_iald dX2_tell_102 (sx_rd_c h40) (vp_in_nI (by omega) (by omega)) ?_
        rw [nI_clamp (show k < 2 ^ 31 by omega)]
        refine sv_tI (y := a_fl (A_v B) s k) (pk_us.trans hfl9) ?_
        refine sv_aload_n dX2_tell_103 rfl ?_
        obtain ⟨hJ3, hT3⟩ := c_J_s F39 hJ2 hs2 (fun q z => by omega) (k_S_to (k := k) (x := a_fl (A_v B) s k) (hv5 s hs2).1 F39 ht (by rw [← hfl9]; exact h40) (by show k < (a_es (A_v B) s).length; omega)) rfl (w_V_to hw2 hs2)
        have hJ3 : c_J G lo _ ow2 a Λ nl cap2 (A_sv B (v_to (A_v B) s k (a_fl (A_v B) s k))) := hJ3
        have hT3 : c_T lo _ _ B (A_sv B (v_to (A_v B) s k (a_fl (A_v B) s k))) cap2 cap2 := hT3
        have hs3 : s < (A_v (A_sv B (v_to (A_v B) s k (a_fl (A_v B) s k)))).2.2.length := by show s < (a_us _ _ _).2.2.length; rw [a_us_n]; exact hs2
        refine sv_cvP _ (cc_note hJ3 hs3 (k := 1) (by decide) (by show (A_n B).length ≤ 5000; omega)) okX2_note kv_X2_136 (sx_rd_c hv1') rfl dX2_tell_104 rfl rfl (by omega) (Nat.le_of_ble_eq_true rfl) ?_
        intro v45 τ43 hp44
        obtain ⟨rfl, ow4, cap4, hJ4, hT4⟩ := hp44
        refine sv_iincN dX2_tell_107 rfl (by decide) ?_
        refine sv_goto (tgt := 45) dX2_tell_110 (by decide) ?_
        have hkp := kp_tr (kp_us (A := B) (s := s) (S := S_es (a_s (A_v B) s) ((a_es (A_v B) s).set k ((a_e (A_v B) s k).1, a_fl (A_v B) s k))) rfl rfl rfl) (kp_no (A_sv B (v_to (A_v B) s k (a_fl (A_v B) s k))) s 1 (nI (k + 1)) (a_fl (A_v B) s k)) (Nat.le_refl _)
        have hel : (a_es (A_v (s_no (A_sv B (v_to (A_v B) s k (a_fl (A_v B) s k))) s 1 (nI (k + 1)) (a_fl (A_v B) s k))) s).length = (a_es (A_v B) s).length := by
          show (a_es (a_us (v_to (A_v B) s k (a_fl (A_v B) s k)) s _) s).length = _
          rw [a_us_es (V := v_to (A_v B) s k (a_fl (A_v B) s k)) hs3]
          show (a_es (a_us (A_v B) s _) s).length = _
          rw [a_us_es hs2]
          show (List.set _ _ _).length = _
          rw [List.length_set]
        refine ih (k + 1) _ ow4 cap4 _ hJ4 (Nat.lt_of_lt_of_eq hs2 hkp.2.2.1.symm) ((hkp.2.2.2.1 s).1.trans hbx2) (by rw [hel]; omega) (by rw [hel]; omega) (by rw [no_len]; show (A_n B).length + 1 + q ≤ 5000; omega) (fun ρ D ow3 cap3 hD h8 h9 => K ρ D ow3 cap3 (by rw [hD, tf_s, if_pos (by omega), c63]; rfl) h8 (c_T_t hT3 (c_T_t hT4 h9)))
      · refine sv_goto (tgt := 107) dX2_tell_66 (by decide) ?_
        refine sv_iincN dX2_tell_107 rfl (by decide) ?_
        refine sv_goto (tgt := 45) dX2_tell_110 (by decide) ?_
        refine ih (k + 1) τ ow2 cap2 B hJ2 hs2 hbx2 (by omega) (by omega) (by omega) (fun ρ D ow3 cap3 hD h8 h9 => K ρ D ow3 cap3 (by rw [hD, tf_s, if_pos (by omega), c63]; rfl) h8 h9)
  have tail : ∀ {b : Nat} (τ : sx_St) (ow1 : Nat → Nat) (cap1 : Nat) (B1 : a_A) (y : Option Value), a_bx (A_v A) s = some b → B1 = (if all then s_tg 61 A s 0 else A) → c_J G lo τ ow1 a Λ nl cap1 B1 → c_T lo σ τ A B1 cap cap1 → s_kp A B1 61 → sx_V G 9 YX2_tell 42 [some (.ref a), some (.int (nI s)), some (.int (b_I all)), some (.ref nl), some (.ref (Λ 3 s 0)), some (.int (nI (A_n A).length)), y] [] τ (fun o ρ => ∃ v, o = .inl v ∧ (v = some (.int (nI ((A_n (s_te A s all)).length - (A_n A).length))) ∧ ∃ ow3 cap3, c_J G lo ρ ow3 a Λ nl cap3 (s_te A s all) ∧ c_T lo σ ρ A (s_te A s all) cap cap3)) := by
    intro b τ ow1 cap1 B1 y hbx hB1 hJ1 hT1 hkp1
    have hs1 : s < (A_v B1).2.2.length := Nat.lt_of_lt_of_eq hs hkp1.2.2.1.symm
    have hbx1 : a_bx (A_v B1) s = some b := (hkp1.2.2.2.1 s).1.trans hbx
    refine sv_iconst (nI 0) dX2_tell_42 (by decide +kernel) ?_
    refine sv_istore dX2_tell_43 (by decide) ?_
    refine loop 61 0 τ ow1 cap1 B1 hJ1 hs1 hbx1 (by omega) (by have := hJ1.2.2.1.2.1 s hs1; omega) (by have := hkp1.2.2.2.2.2.1; omega) ?_
    intro τ2 D ow3 cap3 hD hJ3 hT3
    have hkp3 := kp_tf 61 B1 s 0
    rw [← hD] at hkp3
    have hs3 : s < (A_v D).2.2.length := Nat.lt_of_lt_of_eq hs1 hkp3.2.2.1.symm
    have hbx3 : a_bx (A_v D) s = some b := (hkp3.2.2.2.1 s).1.trans hbx1
    have hn3 : (A_n D).length ≤ (A_n A).length + 122 := by have h1 := hkp1.2.2.2.2.2.1; have h2 := hkp3.2.2.2.2.2.1; omega
    have hv1 := hJ3.1.1.1
    refine sv_aload_n dX2_tell_113 rfl ?_
    refine sv_iload_n dX2_tell_114 rfl ?_
    refine sv_aload dX2_tell_115 rfl ?_
    refine sv_aload_n dX2_tell_117 rfl ?_
    refine sv_cvP _ (cc_tellNew hJ3 hs3 hbx3 (by omega)) okX2_tellNew kv_X2_140 (sx_rd_c hv1) rfl dX2_tell_118 rfl rfl (by omega) (Nat.le_of_ble_eq_true rfl) ?_
    intro v48 τ46 hp47
    obtain ⟨rfl, ow4, cap4, hJ4, hT4⟩ := hp47
    have hg : s_te A s all = s_tw D s b := by unfold s_te; rw [hbx]; show s_tw (s_tf 61 (if all then s_tg 61 A s 0 else A) s 0) s b = _; rw [← hB1, ← hD]
    rw [← hg] at hJ4 hT4
    obtain ⟨vs9, hn9⟩ := c_N_c hJ4.2.1
    refine sv_aload_n dX2_tell_121 rfl ?_
    refine sv_cvR _ (c_N_size hJ4.2.1) okJ2_size kv_X2_27 (sx_rd_c hn9) rfl dX2_tell_122 rfl rfl (by omega) (Nat.le_of_ble_eq_true rfl) ?_
    refine sv_iload dX2_tell_125 rfl ?_
    have hle9 := (c_T_t hT1 (c_T_t hT3 hT4)).1
    refine sv_isubN dX2_tell_127 (by omega) ?_
    refine sv_iret rfl rfl dX2_tell_128 ?_
    exact ⟨_, rfl, rfl, ow4, cap4, hJ4, c_T_t hT1 (c_T_t hT3 hT4)⟩
  refine sx_body (by decide) (Nat.le_of_ble_eq_true rfl) ?_
  obtain ⟨hv1, hv2, hv3, hv4, hv5⟩ := id hJ.1.1
  obtain ⟨mcb, fb, hlb, hab, b1, b2, b3, -⟩ := id hv2
  obtain ⟨mcs, fs, hls, has, s1, s2, s3, -⟩ := id hv3
  obtain ⟨fu, ft, fa, hso, hu, ht, hac, ⟨n1, n2, n3⟩, hl, eu, et, ea⟩ := k_V_ses hJ.1.1 hs
  obtain ⟨vs8, hn8⟩ := c_N_c hJ.2.1
  refine sv_aload_n dX2_tell_0 rfl ?_
  refine sv_get fg_X2_20 dX2_tell_1 (sx_rd_c hv1) rfl ?_
  refine sv_iload_n dX2_tell_4 rfl ?_
  refine sv_cvR _ (cj_get hv3 (i := s) hs) okJ2_get kv_X2_33 (sx_rd_c hls) rfl dX2_tell_5 rfl rfl (by omega) (Nat.le_of_ble_eq_true rfl) ?_
  refine sv_cast (C0 := "") (sx_rd_c hso) rfl q1037 dX2_tell_8 ?_
  refine sv_astore dX2_tell_11 (by decide) ?_
  refine sv_aload_n dX2_tell_13 rfl ?_
  refine sv_cvR _ (c_N_size hJ.2.1) okJ2_size kv_X2_27 (sx_rd_c hn8) rfl dX2_tell_14 rfl rfl (by omega) (Nat.le_of_ble_eq_true rfl) ?_
  refine sv_istore dX2_tell_17 (by decide) ?_
  refine sv_aload dX2_tell_19 rfl ?_
  refine sv_get fg_X2_65 dX2_tell_21 (sx_rd_c hso) rfl ?_
  refine sv_iconst (-1) dX2_tell_24 (by decide +kernel) ?_
  refine sv_icmp_ne (tgt := 30) dX2_tell_25 (by decide) (fun c25 => ?_) (fun c25 => ?_)
  · obtain ⟨b, hbx⟩ : ∃ b, a_bx (A_v A) s = some b := by
      cases hz : a_bx (A_v A) s with
      | none => rw [hz] at c25; exact absurd rfl c25
      | some b => exact ⟨b, rfl⟩
    refine sv_iload_n dX2_tell_30 rfl ?_
    refine sv_if_eqB (tgt := 42) dX2_tell_31 (by decide) (fun c31 => ?_) (fun c31 => ?_)
    · exact tail σ ow cap A _ hbx (by rw [c31]; rfl) hJ c_T_r (kp_rf _ _)
    · refine sv_aload_n dX2_tell_34 rfl ?_
      refine sv_iload_n dX2_tell_35 rfl ?_
      refine sv_aload dX2_tell_36 rfl ?_
      refine sv_aload_n dX2_tell_38 rfl ?_
      refine sv_cvP _ (cc_tellRem hJ hs hbx (by omega)) okX2_tellRemovals kv_X2_132 (sx_rd_c hv1) rfl dX2_tell_39 rfl rfl (by omega) (Nat.le_of_ble_eq_true rfl) ?_
      intro v51 τ49 hp50
      obtain ⟨rfl, ow1, cap1, hJ1, hT1⟩ := hp50
      exact tail _ ow1 cap1 _ _ hbx (by rw [c31]; rfl) hJ1 hT1 (kp_tg 61 A s 0)
  · have hbx : a_bx (A_v A) s = none := (o_I_m1 _ (fun k h => by have h8 := hJ.2.2.1.2.2.1 s k hs h; have h9 := hJ.2.2.1.1.1; omega)).mp c25
    have hg : s_te A s all = A := by unfold s_te; rw [hbx]
    refine sv_iconst (nI 0) dX2_tell_28 (by decide +kernel) ?_
    refine sv_iret rfl rfl dX2_tell_29 ?_
    exact ⟨_, rfl, r_I (by rw [hg, Nat.sub_self]), ow, cap, by rw [hg]; exact hJ, by rw [hg]; exact c_T_r⟩
end CTN
