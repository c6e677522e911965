set_option maxRecDepth 100000
section JB1
variable {G : sx_G} {σ τ ρ : sx_St} {sb sa cap : Nat} {O : List Int32}
theorem nI_shr0 (n : Nat) : nI n >>> (nI 0 &&& 31) = nI n := by
  rw [show (nI 0 &&& 31 : Int32) = 0 from by decide +kernel, Int32.shiftRight_zero]
theorem nI_shl0 (n : Nat) : nI n <<< (nI 0 &&& 31) = nI n := by
  rw [show (nI 0 &&& 31 : Int32) = 0 from by decide +kernel, Int32.shiftLeft_zero]
theorem and255 (x : Int32) : ∃ k, k < 256 ∧ x &&& 255 = nI k := by
  have h : (x &&& 255).toBitVec.toNat < 256 := by
    rw [Int32.toBitVec_and, BitVec.toNat_and]
    exact Nat.lt_of_le_of_lt Nat.and_le_right (by decide)
  refine ⟨(x &&& 255).toBitVec.toNat, h, ?_⟩
  apply Int32.toInt_inj.mp
  rw [nI_toInt (by omega)]
  exact BitVec.toInt_eq_toNat_of_lt (by omega)
theorem i2c_255 (x : Int32) : ((x &&& 255).toUInt32 % 65536).toInt32 = x &&& 255 := by
  obtain ⟨k, hk, e⟩ := and255 x
  rw [e]
  have : ∀ k, k < 256 → ((nI k).toUInt32 % 65536).toInt32 = nI k := by decide +kernel
  exact this k hk
theorem ch_nar (x : Int32) : narrow .char (.int (x &&& 255)) = .int (x &&& 255) := by
  obtain ⟨k, hk, e⟩ := and255 x
  rw [e]
  have : ∀ k, k < 256 → (nI k).toUInt32.toUInt16.toUInt32.toInt32 = nI k := by decide +kernel
  exact congrArg Value.int (this k hk)
theorem fit_b (x : Int32) : fits .byte (.int (vp_nar .byte x)) = true := pk_fb x
theorem nI_sub_le {m c : Nat} (hm : m < 2 ^ 31) (hc : c < 2 ^ 31) : nI m - nI c ≤ 0 ↔ m ≤ c := by
  rw [Int32.le_iff_toInt_le, Int32.toInt_sub, nI_toInt hm, nI_toInt hc, show (0 : Int32).toInt = 0 from rfl, Int.bmod_eq_of_le (by omega) (by omega)]
  omega
/-- constants that texts want -/
def g_C (G : sx_G) : Prop := sg_z G 6 = .int 1 ∧ (∃ a, sg_z G 12 = .ref a) ∧ (∃ a f, sg_z G 7 = .ref a ∧ sg_k G a = some (.inl (sg_a G 2, 100, .inl f)) ∧ ∀ i, i < 100 → f i = nI (48 + i % 10)) ∧ ∃ a f, sg_z G 8 = .ref a ∧ sg_k G a = some (.inl (sg_a G 2, 100, .inl f)) ∧ ∀ i, i < 100 → f i = nI (48 + i / 10)
/-- a builder: its cell, its bytes, how many they are, what stands in them -/
def k_U (G : sx_G) (σ : sx_St) (sb sa cap : Nat) (O : List Int32) : Prop := ∃ (fo : Nat → Int32) (z : Bool), sx_c σ sb = some (.inr (11, [.ref sa, .int (nI 0), .int (b_I z), .int (nI O.length)])) ∧ sx_c σ sa = some (.inl (sg_a G 2, cap, .inl fo)) ∧ O.length ≤ cap ∧ (16 ≤ cap ∧ cap ≤ 100000) ∧ (∀ i, i < O.length → fo i = O.getD i 0) ∧ ∀ i, fits .byte (.int (fo i)) = true
theorem k_U_fr {W : Nat → Prop} {c s : Nat} (F : h_F W c s σ τ) (h : k_U G σ sb sa cap O) (h1 : ¬ W sb) (h2 : ¬ W sa) : k_U G τ sb sa cap O := by
  obtain ⟨fo, z, a1, a2, a3⟩ := h
  exact ⟨fo, z, h_F_c F a1 h1, h_F_c F a2 h2, a3⟩
/-- a builder grew: how much was made, what stays -/
def k_Uf (sb sa cap sa2 cap2 : Nat) (σ τ : sx_St) : Prop := (sa2 = sa ∨ sx_n σ ≤ sa2) ∧ cap ≤ cap2 ∧ (sx_n σ ≤ sx_n τ ∧ 16 * sx_n τ + cap ≤ 16 * sx_n σ + cap2) ∧ sx_s τ + 2 * cap ≤ sx_s σ + 2 * cap2 ∧ ∀ q, q < sx_n σ → q ≠ sb → q ≠ sa → sx_c τ q = sx_c σ q
theorem k_Uf_F {sa2 cap2 : Nat} (h : k_Uf sb sa cap sa2 cap2 σ τ) : h_F (fun q => q = sb ∨ q = sa) (sx_n τ - sx_n σ) (sx_s τ - sx_s σ) σ τ := by
  obtain ⟨_, h2, h3, h4, h5⟩ := h
  exact ⟨⟨h3.1, by omega⟩, by omega, fun q hq hn => h5 q hq (fun z => hn (Or.inl z)) (fun z => hn (Or.inr z))⟩
theorem k_Uf_r : k_Uf sb sa cap sa cap σ σ := ⟨Or.inl rfl, Nat.le_refl _, ⟨Nat.le_refl _, Nat.le_refl _⟩, Nat.le_refl _, fun _ _ _ _ => rfl⟩
theorem k_Uf_t {sa2 cap2 sa3 cap3 : Nat} (h : k_Uf sb sa cap sa2 cap2 σ τ) (h' : k_Uf sb sa2 cap2 sa3 cap3 τ ρ) : k_Uf sb sa cap sa3 cap3 σ ρ := by
  obtain ⟨a1, a2, a3, a4, a5⟩ := h
  obtain ⟨b1, b2, b3, b4, b5⟩ := h'
  refine ⟨?_, by omega, ⟨by omega, by omega⟩, by omega, fun q h1 h2 h3 => ?_⟩
  · rcases b1 with b1 | b1
    · rw [b1]; exact a1
    · exact Or.inr (by omega)
  · rw [b5 q (by omega) h2 (by rcases a1 with a1 | a1; rw [a1]; exact h3; omega), a5 q h1 h2 h3]
/-- from a frame -/
theorem k_Uf_of {sa2 cap2 c s : Nat} {W : Nat → Prop} (F : h_F W c s σ τ) (hW : ∀ q, W q → q = sb ∨ q = sa) (h1 : sa2 = sa ∨ sx_n σ ≤ sa2) (h2 : cap ≤ cap2) (h3 : 16 * c + cap ≤ cap2) (h4 : s + 2 * cap ≤ 2 * cap2) : k_Uf sb sa cap sa2 cap2 σ τ :=
  ⟨h1, h2, ⟨F.1.1, by have := F.1.2; omega⟩, by have := F.2.1; omega, fun q g1 g2 g3 => F.2.2 q g1 (fun z => (hW q z).elim g2 g3)⟩
theorem cb_lat (hC : g_C G) (hU : k_U G σ sb sa cap O) : sx_Cr G 0 YJ7_isLatin1 [.ref sb] σ (some (.int (b_I true))) σ := by
  refine sx_body (by decide) (Nat.le_of_ble_eq_true rfl) ?_
  obtain ⟨fo, z0, hsb, hsa, hle, hcp, hfo, hfi⟩ := hU
  refine sv_gets 6 rfl q272 dJ7_isLatin1_0 ?_
  rw [hC.1]
  refine sv_if_eq (tgt := 17) dJ7_isLatin1_3 (by decide) (fun c3 => ?_) (fun c3 => ?_)
  · exact absurd c3 (by decide)
  · refine sv_aload_n dJ7_isLatin1_6 rfl ?_
    refine sv_get fg_J7_22 dJ7_isLatin1_7 (sx_rd_c hsb) rfl ?_
    refine sv_if_neN (tgt := 17) dJ7_isLatin1_10 (by decide) (by omega) (fun c10 => ?_) (fun c10 => ?_)
    · exact absurd c10 (by omega)
    · refine sv_iconst (nI 1) dJ7_isLatin1_13 (by decide +kernel) ?_
      refine sv_goto (tgt := 18) dJ7_isLatin1_14 (by decide) ?_
      refine sv_iret (by first | exact b_I_nar _ | rfl) rfl dJ7_isLatin1_18 ?_
      exact ⟨_, rfl, r_I (by decide +kernel), rfl⟩
theorem cb_gv (hU : k_U G σ sb sa cap O) : sx_Cr G 0 YJ7_getValue [.ref sb] σ (some (.ref sa)) σ := by
  refine sx_body (by decide) (Nat.le_of_ble_eq_true rfl) ?_
  obtain ⟨fo, z0, hsb, hsa, hle, hcp, hfo, hfi⟩ := hU
  refine sv_aload_n dJ7_getValue_0 rfl ?_
  refine sv_get fg_J7_15 dJ7_getValue_1 (sx_rd_c hsb) rfl ?_
  refine sv_aret (Or.inr ⟨_, rfl⟩) (Or.inr ⟨_, rfl⟩) rfl dJ7_getValue_4 ?_
  exact ⟨_, rfl, rfl, rfl⟩
theorem cb_len7 (hU : k_U G σ sb sa cap O) : sx_Cr G 0 YJ7_length [.ref sb] σ (some (.int (nI O.length))) σ := by
  refine sx_body (by decide) (Nat.le_of_ble_eq_true rfl) ?_
  obtain ⟨fo, z0, hsb, hsa, hle, hcp, hfo, hfi⟩ := hU
  refine sv_aload_n dJ7_length_0 rfl ?_
  refine sv_get fg_J7_79 dJ7_length_1 (sx_rd_c hsb) rfl ?_
  refine sv_iret rfl rfl dJ7_length_4 ?_
  exact ⟨_, rfl, rfl, rfl⟩
theorem cb_len (hU : k_U G σ sb sa cap O) : sx_Cr G 1 YJ8_length [.ref sb] σ (some (.int (nI O.length))) σ := by
  refine sx_body (by decide) (Nat.le_of_ble_eq_true rfl) ?_
  have hU0 := hU
  obtain ⟨fo, z0, hsb, hsa, hle, hcp, hfo, hfi⟩ := hU
  refine sv_aload_n dJ8_length_0 rfl ?_
  refine sv_cpR _ (cb_len7 hU0) okJ7_length rfl (sx_rd_c hsb) rfl (by decide) q466 q462 q461 q294 dJ8_length_1 rfl rfl (by omega) (Nat.le_of_ble_eq_true rfl) ?_
  refine sv_iret rfl rfl dJ8_length_4 ?_
  exact ⟨_, rfl, rfl, rfl⟩
theorem cb_cki14 {i n a : Nat} (hi : i < n) (hn : n < 2 ^ 31) : sx_Cr G 0 YJ14_checkIndex [.int (nI i), .int (nI n), .ref a] σ (some (.int (nI i))) σ := by
  refine sx_body (by decide) (Nat.le_of_ble_eq_true rfl) ?_
  refine sv_iload_n dJ14_checkIndex_0 rfl ?_
  refine sv_if_lt (tgt := 9) dJ14_checkIndex_1 (by decide) (fun c1 => ?_) (fun c1 => ?_)
  · exact absurd c1 (nI_pos (by omega))
  · refine sv_iload_n dJ14_checkIndex_4 rfl ?_
    refine sv_iload_n dJ14_checkIndex_5 rfl ?_
    refine sv_icmp_ltN (tgt := 16) dJ14_checkIndex_6 (by decide) (by omega) (by omega) (fun c6 => ?_) (fun c6 => ?_)
    · refine sv_iload_n dJ14_checkIndex_16 rfl ?_
      refine sv_iret rfl rfl dJ14_checkIndex_17 ?_
      exact ⟨_, rfl, rfl, rfl⟩
    · exact absurd hi c6
theorem cb_cki (hC : g_C G) {i n : Nat} (hi : i < n) (hn : n < 2 ^ 31) : sx_Cr G 1 YJ9_checkIndex [.int (nI i), .int (nI n)] σ none σ := by
  refine sx_body (by decide) (Nat.le_of_ble_eq_true rfl) ?_
  obtain ⟨zf, hzf⟩ := hC.2.1
  refine sv_iload_n dJ9_checkIndex_0 rfl ?_
  refine sv_iload_n dJ9_checkIndex_1 rfl ?_
  refine sv_gets 12 rfl q360 dJ9_checkIndex_2 ?_
  rw [hzf]
  refine sv_csR _ (cb_cki14 hi hn) okJ14_checkIndex ks_J9_1059 dJ9_checkIndex_5 rfl rfl (by omega) (Nat.le_of_ble_eq_true rfl) ?_
  refine sv_pop dJ9_checkIndex_8 rfl ?_
  refine sv_vret rfl dJ9_checkIndex_9 ?_
  exact ⟨_, rfl, rfl, rfl⟩
theorem cb_chr7 (hC : g_C G) (hU : k_U G σ sb sa cap O) {i : Nat} (hi : i < O.length) : sx_Cr G 2 YJ7_charAt [.ref sb, .int (nI i)] σ (some (.int (O.getD i 0 &&& 255))) σ := by
  refine sx_body (by decide) (Nat.le_of_ble_eq_true rfl) ?_
  obtain ⟨fo, z0, hsb, hsa, hle, hcp, hfo, hfi⟩ := hU
  refine sv_aload_n dJ7_charAt_0 rfl ?_
  refine sv_get fg_J7_22 dJ7_charAt_1 (sx_rd_c hsb) rfl ?_
  refine sv_istore_n dJ7_charAt_4 (by decide) ?_
  refine sv_aload_n dJ7_charAt_5 rfl ?_
  refine sv_get fg_J7_15 dJ7_charAt_6 (sx_rd_c hsb) rfl ?_
  refine sv_astore_n dJ7_charAt_9 (by decide) ?_
  refine sv_aload_n dJ7_charAt_10 rfl ?_
  refine sv_get fg_J7_79 dJ7_charAt_11 (sx_rd_c hsb) rfl ?_
  refine sv_aload_n dJ7_charAt_14 rfl ?_
  refine sv_alen 2 rfl (nI cap) dJ7_charAt_15 (sx_rd_c hsa) rfl ?_
  refine sv_iload_n dJ7_charAt_16 rfl ?_
  refine sv_ishr dJ7_charAt_17 ?_
  refine sv_tI (y := nI cap) (nI_shr0 cap) ?_
  refine sv_jmin q2030 q338 q165 q339 dJ7_charAt_18 (by decide) (Nat.le_of_ble_eq_true rfl) ?_
  refine sv_tI (y := nI (min O.length cap)) (nI_mn (by omega) (by omega)) ?_
  refine sv_istore dJ7_charAt_21 (by decide) ?_
  refine sv_iload_n dJ7_charAt_23 rfl ?_
  refine sv_iload dJ7_charAt_24 rfl ?_
  refine sv_csR _ (cb_cki hC (by omega) (by omega)) okJ9_checkIndex ks_J7_144 dJ7_charAt_26 rfl rfl (by omega) (Nat.le_of_ble_eq_true rfl) ?_
  refine sv_iload_n dJ7_charAt_29 rfl ?_
  refine sv_if_neN (tgt := 42) dJ7_charAt_30 (by decide) (by omega) (fun c30 => ?_) (fun c30 => ?_)
  · exact absurd c30 (by omega)
  · refine sv_aload_n dJ7_charAt_33 rfl ?_
    refine sv_iload_n dJ7_charAt_34 rfl ?_
    refine sv_bald dJ7_charAt_35 (sx_rd_c hsa) (vp_in_nI (by omega) (by omega)) ?_
    rw [nI_clamp (show i < 2 ^ 31 by omega)]
    refine sv_tI (y := O.getD i 0) (hfo i hi) ?_
    refine sv_sipush (nI 255) dJ7_charAt_36 (by decide +kernel) ?_
    refine sv_tI (y := 255) (by decide +kernel) ?_
    refine sv_iand dJ7_charAt_39 ?_
    refine sv_i2c dJ7_charAt_40 ?_
    refine sv_tI (y := O.getD i 0 &&& 255) (i2c_255 _) ?_
    refine sv_iret (ch_nar _) rfl dJ7_charAt_41 ?_
    exact ⟨_, rfl, rfl, rfl⟩
theorem cb_chr (hC : g_C G) (hU : k_U G σ sb sa cap O) {i : Nat} (hi : i < O.length) : sx_Cr G 3 YJ8_charAt [.ref sb, .int (nI i)] σ (some (.int (O.getD i 0 &&& 255))) σ := by
  refine sx_body (by decide) (Nat.le_of_ble_eq_true rfl) ?_
  have hU0 := hU
  obtain ⟨fo, z0, hsb, hsa, hle, hcp, hfo, hfi⟩ := hU
  refine sv_aload_n dJ8_charAt_0 rfl ?_
  refine sv_iload_n dJ8_charAt_1 rfl ?_
  refine sv_cpR _ (cb_chr7 hC hU0 hi) okJ7_charAt rfl (sx_rd_c hsb) rfl (by decide) q2027 q2807 q2028 q294 dJ8_charAt_2 rfl rfl (by omega) (Nat.le_of_ble_eq_true rfl) ?_
  refine sv_iret (ch_nar _) rfl dJ8_charAt_5 ?_
  exact ⟨_, rfl, rfl, rfl⟩
theorem cb_cap (hU : k_U G σ sb sa cap O) {m : Nat} (hm : cap < m) (hm2 : m ≤ 100000) : sx_Cr G 2 YJ7_newCapacity [.ref sb, .int (nI m)] σ (some (.int (nI (cap + max (m - cap) (cap + 2))))) σ := by
  refine sx_body (by decide) (Nat.le_of_ble_eq_true rfl) ?_
  obtain ⟨fo, z0, hsb, hsa, hle, hcp, hfo, hfi⟩ := hU
  refine sv_aload_n dJ7_newCapacity_0 rfl ?_
  refine sv_get fg_J7_15 dJ7_newCapacity_1 (sx_rd_c hsb) rfl ?_
  refine sv_alen 2 rfl (nI cap) dJ7_newCapacity_4 (sx_rd_c hsa) rfl ?_
  refine sv_istore_n dJ7_newCapacity_5 (by decide) ?_
  refine sv_iload_n dJ7_newCapacity_6 rfl ?_
  refine sv_aload_n dJ7_newCapacity_7 rfl ?_
  refine sv_get fg_J7_22 dJ7_newCapacity_8 (sx_rd_c hsb) rfl ?_
  refine sv_ishl dJ7_newCapacity_11 ?_
  refine sv_tI (y := nI m) (nI_shl0 m) ?_
  refine sv_istore_n dJ7_newCapacity_12 (by decide) ?_
  refine sv_iload_n dJ7_newCapacity_13 rfl ?_
  refine sv_iload_n dJ7_newCapacity_14 rfl ?_
  refine sv_isubN dJ7_newCapacity_15 (by omega) ?_
  refine sv_istore dJ7_newCapacity_16 (by decide) ?_
  refine sv_iload_n dJ7_newCapacity_18 rfl ?_
  refine sv_iload dJ7_newCapacity_19 rfl ?_
  refine sv_iload_n dJ7_newCapacity_21 rfl ?_
  refine sv_iconst (nI 2) dJ7_newCapacity_22 (by decide +kernel) ?_
  refine sv_aload_n dJ7_newCapacity_23 rfl ?_
  refine sv_get fg_J7_22 dJ7_newCapacity_24 (sx_rd_c hsb) rfl ?_
  refine sv_ishl dJ7_newCapacity_27 ?_
  refine sv_tI (y := nI 2) (nI_shl0 2) ?_
  refine sv_iaddN dJ7_newCapacity_28 ?_
  refine sv_csR _ (cj_newLength (by omega) (by omega)) okJ11_newLength ks_J7_114 dJ7_newCapacity_29 rfl rfl (by omega) (Nat.le_of_ble_eq_true rfl) ?_
  refine sv_istore dJ7_newCapacity_32 (by decide) ?_
  refine sv_iload dJ7_newCapacity_34 rfl ?_
  refine sv_ldc q326 dJ7_newCapacity_36 ?_
  refine sv_tI (y := nI 2147483647) (by decide +kernel) ?_
  refine sv_icmp_neN (tgt := 51) dJ7_newCapacity_38 (by decide) (by omega) (by omega) (fun c38 => ?_) (fun c38 => ?_)
  · refine sv_iload dJ7_newCapacity_51 rfl ?_
    refine sv_aload_n dJ7_newCapacity_53 rfl ?_
    refine sv_get fg_J7_22 dJ7_newCapacity_54 (sx_rd_c hsb) rfl ?_
    refine sv_ishr dJ7_newCapacity_57 ?_
    refine sv_tI (y := nI (cap + max (m - cap) (cap + 2))) (nI_shr0 _) ?_
    refine sv_iret rfl rfl dJ7_newCapacity_58 ?_
    exact ⟨_, rfl, rfl, rfl⟩
  · exact absurd c38 (by omega)
theorem cb_cpy {a cap n : Nat} {f : Nat → Int32} (ha : sx_c σ a = some (.inl (sg_a G 2, cap, .inl f))) (hf : ∀ i, fits .byte (.int (f i)) = true) (hn : cap < n) (hn2 : n ≤ 300000) : sx_Cp G 2 YJ13_copyOf [.ref a, .int (nI n)] σ (fun v τ => ∃ a2, v = some (.ref a2) ∧ sx_n σ ≤ a2 ∧ sx_c τ a2 = some (.inl (sg_a G 2, n, .inl (va_cpy f (fun _ => 0) 0 0 cap))) ∧ h_F (fun _ => False) 1 n σ τ) := by
  refine sx_body (by decide) (Nat.le_of_ble_eq_true rfl) ?_
  have FF0 : h_F (fun q => False) 0 0 σ σ := h_F_r
  refine sv_iload_n dJ13_copyOf_0 rfl ?_
  refine sv_aload_n dJ13_copyOf_1 rfl ?_
  refine sv_alen 2 rfl (nI cap) dJ13_copyOf_2 (sx_rd_c ha) rfl ?_
  refine sv_icmp_neN (tgt := 14) dJ13_copyOf_3 (by decide) (by omega) (by omega) (fun c3 => ?_) (fun c3 => ?_)
  · refine sv_iload_n dJ13_copyOf_14 rfl ?_
    refine sv_newa_byte n q295 dJ13_copyOf_15 (nI_pos (by omega)) (nI_clamp (by omega)) (by omega) ?_
    refine hs_al (fun a1 τ2 E7 F3 h4 N5 Z6 => ?_)
    have e8 : a ≠ a1 := by have := sx_lt ha; omega
    have ha' := h_F_c F3 ha (fun z => z)
    have FF9 := h_F_u FF0 F3 (fun _ _ z => z) (fun _ _ z => z.elim) (Nat.le_refl _) (Nat.le_refl _)
    have h4 : sx_c τ2 a1 = some (.inl (sg_a G 2, n, .inl ((fun _ => 0)))) := h4
    refine sv_astore_n dJ13_copyOf_17 (by decide) ?_
    refine sv_aload_n dJ13_copyOf_18 rfl ?_
    refine sv_iconst (nI 0) dJ13_copyOf_19 (by decide +kernel) ?_
    refine sv_aload_n dJ13_copyOf_20 rfl ?_
    refine sv_iconst (nI 0) dJ13_copyOf_21 (by decide +kernel) ?_
    refine sv_aload_n dJ13_copyOf_22 rfl ?_
    refine sv_alen 2 rfl (nI cap) dJ13_copyOf_23 (sx_rd_c ha') rfl ?_
    refine sv_iload_n dJ13_copyOf_24 rfl ?_
    refine sv_jmin q337 q338 q165 q339 dJ13_copyOf_25 (by decide) (Nat.le_of_ble_eq_true rfl) ?_
    refine sv_tI (y := nI cap) (by rw [nI_mn (by omega) (by omega), Nat.min_eq_left (by omega)]) ?_
    refine sv_copyI 2 q340 rfl rfl (sx_rd_c ha') h4 (nI_pos (by omega)) (nI_pos (by omega)) (nI_pos (by omega)) (by rw [(nI_clamp (show 0 < 2 ^ 31 by omega)), (nI_clamp (show cap < 2 ^ 31 by omega))]; omega) (by rw [(nI_clamp (show 0 < 2 ^ 31 by omega)), (nI_clamp (show cap < 2 ^ 31 by omega))]; omega) (fun i _ => hf _) dJ13_copyOf_28 (by decide) (Nat.le_of_ble_eq_true rfl) ?_
    rw [(nI_clamp (show 0 < 2 ^ 31 by omega)), (nI_clamp (show cap < 2 ^ 31 by omega))]
    refine hs_up h4 (fun τ10 F11 h12 N13 Z14 => ?_)
    have h12 : sx_c τ10 a1 = some (.inl (sg_a G 2, n, .inl ((va_cpy f ((fun _ => 0)) 0 0 cap)))) := h12
    have ha'' := h_F_c F11 ha' e8
    have FF15 := h_F_u FF9 F11 (fun _ _ z => z) (by intro q hq hz; omega) (Nat.le_refl _) (Nat.le_refl _)
    refine sv_aload_n dJ13_copyOf_31 rfl ?_
    refine sv_aret (Or.inr ⟨_, rfl⟩) (Or.inr ⟨_, rfl⟩) rfl dJ13_copyOf_32 ?_
    exact ⟨_, rfl, _, rfl, by omega, h12, h_F_w FF15 (fun _ _ z => z) (by omega) (by omega)⟩
  · exact absurd c3 (by omega)
theorem cb_ens0 (hU : k_U G σ sb sa cap O) {m : Nat} (hm : m ≤ cap) : sx_Cr G 3 YJ7_ensureCapacityInternal [.ref sb, .int (nI m)] σ none σ := by
  refine sx_body (by decide) (Nat.le_of_ble_eq_true rfl) ?_
  obtain ⟨fo, z0, hsb, hsa, hle, hcp, hfo, hfi⟩ := hU
  refine sv_aload_n dJ7_ensureCapacityInternal_0 rfl ?_
  refine sv_get fg_J7_15 dJ7_ensureCapacityInternal_1 (sx_rd_c hsb) rfl ?_
  refine sv_alen 2 rfl (nI cap) dJ7_ensureCapacityInternal_4 (sx_rd_c hsa) rfl ?_
  refine sv_aload_n dJ7_ensureCapacityInternal_5 rfl ?_
  refine sv_get fg_J7_22 dJ7_ensureCapacityInternal_6 (sx_rd_c hsb) rfl ?_
  refine sv_ishr dJ7_ensureCapacityInternal_9 ?_
  refine sv_tI (y := nI cap) (nI_shr0 cap) ?_
  refine sv_istore_n dJ7_ensureCapacityInternal_10 (by decide) ?_
  refine sv_iload_n dJ7_ensureCapacityInternal_11 rfl ?_
  refine sv_iload_n dJ7_ensureCapacityInternal_12 rfl ?_
  refine sv_isub dJ7_ensureCapacityInternal_13 ?_
  refine sv_if_le (tgt := 38) dJ7_ensureCapacityInternal_14 (by decide) (fun c14 => ?_) (fun c14 => ?_)
  · refine sv_vret rfl dJ7_ensureCapacityInternal_38 ?_
    exact ⟨_, rfl, rfl, rfl⟩
  · exact absurd ((nI_sub_le (by omega) (by omega)).mpr hm) c14
theorem cb_ens1 (hU : k_U G σ sb sa cap O) {m : Nat} (hm : cap < m) (hm2 : m ≤ 50000) : sx_Cp G 3 YJ7_ensureCapacityInternal [.ref sb, .int (nI m)] σ (fun v τ => v = none ∧ ∃ sa2, sx_n σ ≤ sa2 ∧ k_U G τ sb sa2 (cap + max (m - cap) (cap + 2)) O ∧ h_F (fun q => q = sb) 1 (cap + max (m - cap) (cap + 2)) σ τ) := by
  refine sx_body (by decide) (Nat.le_of_ble_eq_true rfl) ?_
  have hU0 := hU
  obtain ⟨fo, z0, hsb, hsa, hle, hcp, hfo, hfi⟩ := hU
  have FF0 : h_F (fun q => q = sb) 0 0 σ σ := h_F_r
  refine sv_aload_n dJ7_ensureCapacityInternal_0 rfl ?_
  refine sv_get fg_J7_15 dJ7_ensureCapacityInternal_1 (sx_rd_c hsb) rfl ?_
  refine sv_alen 2 rfl (nI cap) dJ7_ensureCapacityInternal_4 (sx_rd_c hsa) rfl ?_
  refine sv_aload_n dJ7_ensureCapacityInternal_5 rfl ?_
  refine sv_get fg_J7_22 dJ7_ensureCapacityInternal_6 (sx_rd_c hsb) rfl ?_
  refine sv_ishr dJ7_ensureCapacityInternal_9 ?_
  refine sv_tI (y := nI cap) (nI_shr0 cap) ?_
  refine sv_istore_n dJ7_ensureCapacityInternal_10 (by decide) ?_
  refine sv_iload_n dJ7_ensureCapacityInternal_11 rfl ?_
  refine sv_iload_n dJ7_ensureCapacityInternal_12 rfl ?_
  refine sv_isub dJ7_ensureCapacityInternal_13 ?_
  refine sv_if_le (tgt := 38) dJ7_ensureCapacityInternal_14 (by decide) (fun c14 => ?_) (fun c14 => ?_)
  · exact absurd ((nI_sub_le (by omega) (by omega)).mp c14) (by omega)
  · refine sv_aload_n dJ7_ensureCapacityInternal_17 rfl ?_
    refine sv_aload_n dJ7_ensureCapacityInternal_18 rfl ?_
    refine sv_get fg_J7_15 dJ7_ensureCapacityInternal_19 (sx_rd_c hsb) rfl ?_
    refine sv_aload_n dJ7_ensureCapacityInternal_22 rfl ?_
    refine sv_iload_n dJ7_ensureCapacityInternal_23 rfl ?_
    refine sv_cvpR _ (cb_cap hU0 hm (by omega)) okJ7_newCapacity rfl (sx_rd_c hsb) rfl q312 q314 q346 rfl q313 dJ7_ensureCapacityInternal_24 rfl rfl (by omega) (Nat.le_of_ble_eq_true rfl) ?_
    refine sv_aload_n dJ7_ensureCapacityInternal_27 rfl ?_
    refine sv_get fg_J7_22 dJ7_ensureCapacityInternal_28 (sx_rd_c hsb) rfl ?_
    refine sv_ishl dJ7_ensureCapacityInternal_31 ?_
    refine sv_tI (y := nI (cap + max (m - cap) (cap + 2))) (nI_shl0 _) ?_
    refine sv_csP _ (cb_cpy hsa hfi (by omega) (by omega)) okJ13_copyOf ks_J7_108 dJ7_ensureCapacityInternal_32 rfl rfl (by omega) (Nat.le_of_ble_eq_true rfl) ?_
    intro v19 τ17 hp18
    obtain ⟨a2, rfl, ha2, hc2, F16⟩ := hp18
    have N20 := (F16).1.1
    have hsb' := h_F_c F16 hsb (fun z => z)
    have hsa' := h_F_c F16 hsa (fun z => z)
    have FF21 := h_F_u FF0 F16 (fun _ _ z => z) (fun _ _ z => z.elim) (Nat.le_refl _) (Nat.le_refl _)
    refine sv_put fp_J7_15 dJ7_ensureCapacityInternal_35 hsb' rfl rfl (Nat.le_of_ble_eq_true rfl) ?_
    refine hs_up hsb' (fun τ22 F23 h24 N25 Z26 => ?_)
    have h24 : sx_c τ22 sb = some (.inr (11, [.ref a2, .int (nI 0), .int (b_I z0), .int (nI O.length)])) := h24
    have hsa'' := h_F_c F23 hsa' (e_kn hsa' hsb' rfl)
    have hc2' := h_F_c F23 hc2 (e_kn hc2 hsb' rfl)
    have FF27 := h_F_u FF21 F23 (fun _ _ z => z) (by intro q hq hz; omega) (Nat.le_refl _) (Nat.le_refl _)
    refine sv_vret rfl dJ7_ensureCapacityInternal_38 ?_
    refine ⟨_, rfl, rfl, a2, ha2, ⟨_, _, h24, hc2', by omega, by omega, fun i hi => ?_, fun i => ?_⟩, h_F_w FF27 (fun _ _ z => z) (by omega) (by omega)⟩
    · unfold va_cpy
      rw [if_pos ⟨by omega, by omega⟩, Nat.zero_add, Nat.sub_zero]
      exact hfo i hi
    · unfold va_cpy
      by_cases hi : 0 ≤ i ∧ i < 0 + cap
      · rw [if_pos hi]; exact hfi _
      · rw [if_neg hi]; rfl
theorem cb_ens (hU : k_U G σ sb sa cap O) {m : Nat} (hm2 : m ≤ 50000) : sx_Cp G 3 YJ7_ensureCapacityInternal [.ref sb, .int (nI m)] σ (fun v τ => v = none ∧ ∃ sa2 cap2, m ≤ cap2 ∧ cap2 ≤ max cap (2 * m) ∧ k_U G τ sb sa2 cap2 O ∧ k_Uf sb sa cap sa2 cap2 σ τ) := by
  by_cases hm : m ≤ cap
  · refine sx_C_Q (cb_ens0 hU hm) ?_
    rintro o τ ⟨v, e, rfl, rfl⟩
    exact ⟨_, e, rfl, sa, cap, hm, by omega, hU, k_Uf_r⟩
  · refine sx_C_Q (cb_ens1 hU (by omega) hm2) ?_
    rintro o τ ⟨v, e, rfl, sa2, h1, h2, F⟩
    have hcp : 16 ≤ cap := by obtain ⟨_, _, _, _, _, z, _⟩ := hU; omega
    exact ⟨_, e, rfl, sa2, _, by omega, by omega, h2, k_Uf_of F (fun q z => Or.inl z) (Or.inr h1) (by omega) (by omega) (by omega)⟩
theorem cb_enc {c : Nat} (hc : c < 256) : sx_Cr G 0 YJ15_canEncode [.int (nI c)] σ (some (.int (b_I true))) σ := by
  refine sx_body (by decide) (Nat.le_of_ble_eq_true rfl) ?_
  refine sv_iload_n dJ15_canEncode_0 rfl ?_
  refine sv_sipush (nI 255) dJ15_canEncode_1 (by decide +kernel) ?_
  refine sv_icmp_gtN (tgt := 11) dJ15_canEncode_4 (by decide) (by omega) (by omega) (fun c4 => ?_) (fun c4 => ?_)
  · exact absurd c4 (by omega)
  · refine sv_iconst (nI 1) dJ15_canEncode_7 (by decide +kernel) ?_
    refine sv_goto (tgt := 12) dJ15_canEncode_8 (by decide) ?_
    refine sv_iret (by first | exact b_I_nar _ | rfl) rfl dJ15_canEncode_12 ?_
    exact ⟨_, rfl, r_I (by decide +kernel), rfl⟩
theorem cb_app7 (hC : g_C G) (hU : k_U G σ sb sa cap O) {c : Nat} (hc : c < 256) (hl : O.length < 50000) : sx_Cp G 4 YJ7_append_3 [.ref sb, .int (nI c)] σ (fun v τ => v = some (.ref sb) ∧ ∃ sa2 cap2, cap2 ≤ max cap (2 * (O.length + 1)) ∧ k_U G τ sb sa2 cap2 (O ++ [vp_nar .byte (nI c).toInt8.toInt32]) ∧ k_Uf sb sa cap sa2 cap2 σ τ) := by
  refine sx_body (by decide) (Nat.le_of_ble_eq_true rfl) ?_
  have hU0 := hU
  obtain ⟨fo, z0, hsb, hsa, hle, hcp, hfo, hfi⟩ := hU
  refine sv_aload_n dJ7_append_3_0 rfl ?_
  refine sv_aload_n dJ7_append_3_1 rfl ?_
  refine sv_get fg_J7_79 dJ7_append_3_2 (sx_rd_c hsb) rfl ?_
  refine sv_iconst (nI 1) dJ7_append_3_5 (by decide +kernel) ?_
  refine sv_iaddN dJ7_append_3_6 ?_
  refine sv_cvpP _ (cb_ens hU0 (m := O.length + 1) (by omega)) okJ7_ensureCapacityInternal rfl (sx_rd_c hsb) rfl q308 q310 q346 rfl q309 dJ7_append_3_7 rfl rfl (by omega) (Nat.le_of_ble_eq_true rfl) ?_
  intro v30 τ28 hp29
  obtain ⟨rfl, sa2, cap2, hm1, hm2, hU2, hf2⟩ := hp29
  have N31 := ((k_Uf_F hf2)).1.1
  have hU3 := hU2
  obtain ⟨fo2, z2, hsb2, hsa2, hle2, hcp2, hfo2, hfi2⟩ := hU2
  refine sv_aload_n dJ7_append_3_10 rfl ?_
  refine sv_cuR (x := yJ7_isLatin1) _ (cb_lat hC hU3) okJ7_isLatin1 rfl (sx_rd_c hsb2) rfl rfl q343 q345 q344 q346 dJ7_append_3_11 rfl rfl (by omega) (Nat.le_of_ble_eq_true rfl) ?_
  refine sv_if_eqB (tgt := 45) dJ7_append_3_14 (by decide) (fun c14 => ?_) (fun c14 => ?_)
  · exact absurd c14 (by decide)
  · refine sv_iload_n dJ7_append_3_17 rfl ?_
    refine sv_csR _ (cb_enc hc) okJ15_canEncode ks_J7_191 dJ7_append_3_18 rfl rfl (by omega) (Nat.le_of_ble_eq_true rfl) ?_
    refine sv_if_eqB (tgt := 45) dJ7_append_3_21 (by decide) (fun c21 => ?_) (fun c21 => ?_)
    · exact absurd c21 (by decide)
    · refine sv_aload_n dJ7_append_3_24 rfl ?_
      refine sv_get fg_J7_15 dJ7_append_3_25 (sx_rd_c hsb2) rfl ?_
      refine sv_aload_n dJ7_append_3_28 rfl ?_
      refine sv_dup dJ7_append_3_29 rfl ?_
      refine sv_get fg_J7_79 dJ7_append_3_30 (sx_rd_c hsb2) rfl ?_
      refine sv_dup_x1 dJ7_append_3_33 rfl rfl ?_
      refine sv_iconst (nI 1) dJ7_append_3_34 (by decide +kernel) ?_
      refine sv_iaddN dJ7_append_3_35 ?_
      refine sv_put fp_J7_79 dJ7_append_3_36 hsb2 rfl rfl (Nat.le_of_ble_eq_true rfl) ?_
      refine hs_up hsb2 (fun τ32 F33 h34 N35 Z36 => ?_)
      have h34 : sx_c τ32 sb = some (.inr (11, [.ref sa2, .int (nI 0), .int (b_I z2), .int (nI (O.length + 1))])) := h34
      have hsa2' := h_F_c F33 hsa2 (e_kn hsa2 hsb2 rfl)
      have F1 := F33
      refine sv_iload_n dJ7_append_3_39 rfl ?_
      refine sv_i2b dJ7_append_3_40 ?_
      refine sv_bast dJ7_append_3_41 hsa2' (vp_in_nI (by omega) (by omega)) ?_
      rw [nI_clamp (show O.length < 2 ^ 31 by omega)]
      refine hs_up hsa2' (fun τ37 F38 h39 N40 Z41 => ?_)
      have h39 : sx_c τ37 sa2 = some (.inl (sg_a G 2, cap2, .inl ((upd fo2 O.length (vp_nar .byte _))))) := h39
      have h34' := h_F_c F38 h34 (e_kn h34 hsa2' rfl)
      have F2 := F38
      refine sv_goto (tgt := 75) dJ7_append_3_42 (by decide) ?_
      refine sv_aload_n dJ7_append_3_75 rfl ?_
      refine sv_aret (Or.inr ⟨_, rfl⟩) (Or.inl ⟨_, rfl⟩) rfl dJ7_append_3_76 ?_
      have hs9 := h34'
      refine ⟨_, rfl, rfl, sa2, cap2, by omega, ⟨_, z2, ?_, h39, ?_, hcp2, fun i hi => ?_, fun i => ?_⟩, k_Uf_t hf2 (k_Uf_of (h_F_u F1 F2 (U := fun q => q = sb ∨ q = sa2) (fun _ _ z => Or.inl z) (fun _ _ z => Or.inr z) (Nat.le_refl _) (Nat.le_refl _)) (fun _ z => z) (Or.inl rfl) (Nat.le_refl _) (by omega) (by omega))⟩
      · rw [List.length_append]
        exact hs9
      · rw [List.length_append]
        exact hm1
      · rw [List.length_append, List.length_singleton] at hi
        rw [List.getD_eq_getElem?_getD]
        by_cases hx : i = O.length
        · rw [hx, pk_us, List.getElem?_append_right (Nat.le_refl _), Nat.sub_self]; rfl
        · rw [pk_un hx, List.getElem?_append_left (by omega), hfo2 i (by omega), List.getD_eq_getElem?_getD]
      · by_cases hx : i = O.length
        · rw [hx, pk_us]; exact fit_b _
        · rw [pk_un hx]; exact hfi2 i
theorem cb_app (hC : g_C G) (hU : k_U G σ sb sa cap O) {c : Nat} (hc : c < 256) (hl : O.length < 50000) : sx_Cp G 5 YJ8_append_3 [.ref sb, .int (nI c)] σ (fun v τ => v = some (.ref sb) ∧ ∃ sa2 cap2, cap2 ≤ max cap (2 * (O.length + 1)) ∧ k_U G τ sb sa2 cap2 (O ++ [vp_nar .byte (nI c).toInt8.toInt32]) ∧ k_Uf sb sa cap sa2 cap2 σ τ) := by
  refine sx_body (by decide) (Nat.le_of_ble_eq_true rfl) ?_
  have hU0 := hU
  obtain ⟨fo, z0, hsb, hsa, hle, hcp, hfo, hfi⟩ := hU
  refine sv_aload_n dJ8_append_3_0 rfl ?_
  refine sv_iload_n dJ8_append_3_1 rfl ?_
  refine sv_cpP _ (cb_app7 hC hU0 hc hl) okJ7_append_3 rfl (sx_rd_c hsb) rfl (by decide) q660 q2804 q661 q294 dJ8_append_3_2 rfl rfl (by omega) (Nat.le_of_ble_eq_true rfl) ?_
  intro v44 τ42 hp43
  obtain ⟨rfl, sa2, cap2, hm2, hU2, hf2⟩ := hp43
  have N45 := ((k_Uf_F hf2)).1.1
  refine sv_pop dJ8_append_3_5 rfl ?_
  refine sv_aload_n dJ8_append_3_6 rfl ?_
  refine sv_aret (Or.inr ⟨_, rfl⟩) (Or.inl ⟨_, rfl⟩) rfl dJ8_append_3_7 ?_
  exact ⟨_, rfl, rfl, sa2, cap2, hm2, hU2, hf2⟩
theorem cb_set7 (hU : k_U G σ sb sa cap O) : sx_Cp G 4 YJ7_setLength [.ref sb, .int (nI 0)] σ (fun v τ => v = none ∧ k_U G τ sb sa cap [] ∧ h_F (fun q => q = sb) 0 0 σ τ) := by
  refine sx_body (by decide) (Nat.le_of_ble_eq_true rfl) ?_
  have hU0 := hU
  obtain ⟨fo, z0, hsb, hsa, hle, hcp, hfo, hfi⟩ := hU
  have FF0 : h_F (fun q => q = sb) 0 0 σ σ := h_F_r
  refine sv_iload_n dJ7_setLength_0 rfl ?_
  refine sv_if_ge (tgt := 13) dJ7_setLength_1 (by decide) (fun c1 => ?_) (fun c1 => ?_)
  · refine sv_aload_n dJ7_setLength_13 rfl ?_
    refine sv_iload_n dJ7_setLength_14 rfl ?_
    refine sv_cvpR _ (cb_ens0 hU0 (Nat.zero_le _)) okJ7_ensureCapacityInternal rfl (sx_rd_c hsb) rfl q308 q310 q346 rfl q309 dJ7_setLength_15 rfl rfl (by omega) (Nat.le_of_ble_eq_true rfl) ?_
    refine sv_aload_n dJ7_setLength_18 rfl ?_
    refine sv_get fg_J7_79 dJ7_setLength_19 (sx_rd_c hsb) rfl ?_
    refine sv_iload_n dJ7_setLength_22 rfl ?_
    refine sv_icmp_geN (tgt := 63) dJ7_setLength_23 (by decide) (by omega) (by omega) (fun c23 => ?_) (fun c23 => ?_)
    · refine sv_aload_n dJ7_setLength_63 rfl ?_
      refine sv_get fg_J7_79 dJ7_setLength_64 (sx_rd_c hsb) rfl ?_
      refine sv_iload_n dJ7_setLength_67 rfl ?_
      refine sv_icmp_leN (tgt := 76) dJ7_setLength_68 (by decide) (by omega) (by omega) (fun c68 => ?_) (fun c68 => ?_)
      · refine sv_aload_n dJ7_setLength_76 rfl ?_
        refine sv_iload_n dJ7_setLength_77 rfl ?_
        refine sv_put fp_J7_79 dJ7_setLength_78 hsb rfl rfl (Nat.le_of_ble_eq_true rfl) ?_
        refine hs_up hsb (fun τ46 F47 h48 N49 Z50 => ?_)
        have h48 : sx_c τ46 sb = some (.inr (11, [.ref sa, .int (nI 0), .int (b_I z0), .int (nI 0)])) := h48
        have hsa' := h_F_c F47 hsa (e_kn hsa hsb rfl)
        have FF51 := h_F_u FF0 F47 (fun _ _ z => z) (by intro q hq hz; omega) (Nat.le_refl _) (Nat.le_refl _)
        refine sv_vret rfl dJ7_setLength_81 ?_
        exact ⟨_, rfl, rfl, ⟨_, _, h48, hsa', Nat.zero_le _, hcp, fun i hi => absurd hi (Nat.not_lt_zero i), hfi⟩, h_F_w FF51 (fun _ _ z => z) (by omega) (by omega)⟩
      · refine sv_aload_n dJ7_setLength_71 rfl ?_
        refine sv_iconst (nI 1) dJ7_setLength_72 (by decide +kernel) ?_
        refine sv_tI (y := b_I true) (by decide +kernel) ?_
        refine sv_put fp_J7_73 dJ7_setLength_73 hsb (b_I_nar _) (b_I_fit _) (Nat.le_of_ble_eq_true rfl) ?_
        refine hs_up hsb (fun τ52 F53 h54 N55 Z56 => ?_)
        have h54 : sx_c τ52 sb = some (.inr (11, [.ref sa, .int (nI 0), .int (b_I true), .int (nI O.length)])) := h54
        have hsa' := h_F_c F53 hsa (e_kn hsa hsb rfl)
        have FF57 := h_F_u FF0 F53 (fun _ _ z => z) (by intro q hq hz; omega) (Nat.le_refl _) (Nat.le_refl _)
        refine sv_aload_n dJ7_setLength_76 rfl ?_
        refine sv_iload_n dJ7_setLength_77 rfl ?_
        refine sv_put fp_J7_79 dJ7_setLength_78 h54 rfl rfl (Nat.le_of_ble_eq_true rfl) ?_
        refine hs_up h54 (fun τ58 F59 h60 N61 Z62 => ?_)
        have h60 : sx_c τ58 sb = some (.inr (11, [.ref sa, .int (nI 0), .int (b_I true), .int (nI 0)])) := h60
        have hsa'' := h_F_c F59 hsa' (e_kn hsa' h54 rfl)
        have FF63 := h_F_u FF57 F59 (fun _ _ z => z) (by intro q hq hz; omega) (Nat.le_refl _) (Nat.le_refl _)
        refine sv_vret rfl dJ7_setLength_81 ?_
        exact ⟨_, rfl, rfl, ⟨_, _, h60, hsa'', Nat.zero_le _, hcp, fun i hi => absurd hi (Nat.not_lt_zero i), hfi⟩, h_F_w FF63 (fun _ _ z => z) (by omega) (by omega)⟩
    · exact absurd c23 (by omega)
  · exact absurd (nI_pos' (by omega)) c1
theorem cb_set (hU : k_U G σ sb sa cap O) : sx_Cp G 5 YJ8_setLength [.ref sb, .int (nI 0)] σ (fun v τ => v = none ∧ k_U G τ sb sa cap [] ∧ h_F (fun q => q = sb) 0 0 σ τ) := by
  refine sx_body (by decide) (Nat.le_of_ble_eq_true rfl) ?_
  have hU0 := hU
  obtain ⟨fo, z0, hsb, hsa, hle, hcp, hfo, hfi⟩ := hU
  refine sv_aload_n dJ8_setLength_0 rfl ?_
  refine sv_iload_n dJ8_setLength_1 rfl ?_
  refine sv_cpP _ (cb_set7 hU0) okJ7_setLength rfl (sx_rd_c hsb) rfl (by decide) q1288 q2805 q1289 q294 dJ8_setLength_2 rfl rfl (by omega) (Nat.le_of_ble_eq_true rfl) ?_
  intro v67 τ65 hp66
  obtain ⟨rfl, hU2, F64⟩ := hp66
  have N68 := (F64).1.1
  have hsa' := h_F_c F64 hsa (e_kn hsa hsb rfl)
  refine sv_vret rfl dJ8_setLength_5 ?_
  exact ⟨_, rfl, rfl, hU2, F64⟩
theorem cb_ini7 (hC : g_C G) (hs0 : sx_c σ sb = some (.inr (11, [.null, .int (nI 0), .int (b_I false), .int (nI 0)]))) : sx_Cp G 1 YJ7_init [.ref sb, .int (nI 16)] σ (fun v τ => v = none ∧ ∃ sa, sx_n σ ≤ sa ∧ k_U G τ sb sa 16 [] ∧ h_F (fun q => q = sb) 1 16 σ τ) := by
  refine sx_body (by decide) (Nat.le_of_ble_eq_true rfl) ?_
  have FF0 : h_F (fun q => q = sb) 0 0 σ σ := h_F_r
  refine sv_aload_n dJ7_init_0 rfl ?_
  refine sv_oi q271 q194 q195 dJ7_init_1 (by decide) (Nat.le_of_ble_eq_true rfl) ?_
  refine sv_gets 6 rfl q272 dJ7_init_4 ?_
  rw [hC.1]
  refine sv_if_eq (tgt := 25) dJ7_init_7 (by decide) (fun c7 => ?_) (fun c7 => ?_)
  · exact absurd c7 (by decide)
  · refine sv_aload_n dJ7_init_10 rfl ?_
    refine sv_iload_n dJ7_init_11 rfl ?_
    refine sv_newa_byte 16 q295 dJ7_init_12 (nI_pos (by omega)) (nI_clamp (by omega)) (by omega) ?_
    refine hs_al (fun a69 τ70 E75 F71 h72 N73 Z74 => ?_)
    have hs0' := h_F_c F71 hs0 (fun z => z)
    have FF76 := h_F_u FF0 F71 (fun _ _ z => z) (fun _ _ z => z.elim) (Nat.le_refl _) (Nat.le_refl _)
    have h72 : sx_c τ70 a69 = some (.inl (sg_a G 2, 16, .inl ((fun _ => 0)))) := h72
    refine sv_put fp_J7_15 dJ7_init_14 hs0' rfl rfl (Nat.le_of_ble_eq_true rfl) ?_
    refine hs_up hs0' (fun τ77 F78 h79 N80 Z81 => ?_)
    have h79 : sx_c τ77 sb = some (.inr (11, [.ref a69, .int (nI 0), .int (b_I false), .int (nI 0)])) := h79
    have h72' := h_F_c F78 h72 (e_kn h72 hs0' rfl)
    have FF82 := h_F_u FF76 F78 (fun _ _ z => z) (by intro q hq hz; omega) (Nat.le_refl _) (Nat.le_refl _)
    refine sv_aload_n dJ7_init_17 rfl ?_
    refine sv_iconst (nI 0) dJ7_init_18 (by decide +kernel) ?_
    refine sv_put fp_J7_22 dJ7_init_19 h79 rfl rfl (Nat.le_of_ble_eq_true rfl) ?_
    refine hs_up h79 (fun τ83 F84 h85 N86 Z87 => ?_)
    have h85 : sx_c τ83 sb = some (.inr (11, [.ref a69, .int (nI 0), .int (b_I false), .int (nI 0)])) := h85
    have h72'' := h_F_c F84 h72' (e_kn h72' h79 rfl)
    have FF88 := h_F_u FF82 F84 (fun _ _ z => z) (by intro q hq hz; omega) (Nat.le_refl _) (Nat.le_refl _)
    refine sv_goto (tgt := 38) dJ7_init_22 (by decide) ?_
    refine sv_vret rfl dJ7_init_38 ?_
    exact ⟨_, rfl, rfl, a69, by omega, ⟨_, _, h85, h72'', Nat.zero_le _, by omega, fun i hi => absurd hi (Nat.not_lt_zero i), fun i => rfl⟩, h_F_w FF88 (fun _ _ z => z) (by omega) (by omega)⟩
theorem cb_ini (hC : g_C G) (hs0 : sx_c σ sb = some (.inr (11, [.null, .int (nI 0), .int (b_I false), .int (nI 0)]))) : sx_Cp G 2 YJ8_init [.ref sb] σ (fun v τ => v = none ∧ ∃ sa, sx_n σ ≤ sa ∧ k_U G τ sb sa 16 [] ∧ h_F (fun q => q = sb) 1 16 σ τ) := by
  refine sx_body (by decide) (Nat.le_of_ble_eq_true rfl) ?_
  refine sv_aload_n dJ8_init_0 rfl ?_
  refine sv_bipush (nI 16) dJ8_init_1 (by decide +kernel) ?_
  refine sv_ciP _ (cb_ini7 hC hs0) okJ7_init ki_J8_1 dJ8_init_3 rfl rfl (by omega) (Nat.le_of_ble_eq_true rfl) ?_
  intro v92 τ90 hp91
  obtain ⟨rfl, sa, h1, h2, F89⟩ := hp91
  have N93 := (F89).1.1
  refine sv_vret rfl dJ8_init_6 ?_
  exact ⟨_, rfl, rfl, sa, h1, h2, F89⟩
end JB1
