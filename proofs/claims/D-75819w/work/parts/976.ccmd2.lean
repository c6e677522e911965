set_option maxRecDepth 100000
section CM3
variable {G : sx_G} {σ τ : sx_St} {mu : Nat → Nat} {oc lo sv nl cap : Nat} {ow : Nat → Nat} {Λ : Nat → Nat → Nat → Nat} {A : a_A} {V : a_V} {W : Nat → Prop} {c sl : Nat} {N : List a_N}
theorem bv_bit (x : BitVec 32) (k : Nat) (hk : k < 31) : (x.sshiftRight k &&& 1#32 = 1#32) ↔ ¬ (x &&& BitVec.twoPow 32 k = 0#32) := by
  have e1 : (1#32 : BitVec 32) = BitVec.twoPow 32 0 := by decide
  rw [e1, BitVec.and_twoPow, BitVec.and_twoPow, BitVec.getLsbD_sshiftRight]
  have h2 : BitVec.twoPow 32 k ≠ 0#32 := by
    intro h
    have := congrArg (fun v => v.getLsbD k) h
    simp at this
    omega
  have h3 : (0#32 : BitVec 32) ≠ BitVec.twoPow 32 0 := by decide
  simp only [Nat.add_zero]
  have h4 : k < 32 := by omega
  cases hx : x.getLsbD k <;> simp [h4, h2, h3] <;> decide
theorem i_b3 (x : Int32) : decide (x >>> (nI 3 &&& 31) &&& 1 = 1) = !(decide (x &&& 8 = 0)) := by
  have h := bv_bit x.toBitVec 3 (by decide)
  rw [show (nI 3 &&& 31 : Int32) = 3 by decide +kernel]
  have e1 : (x >>> (3 : Int32) &&& 1 = 1) ↔ (x.toBitVec.sshiftRight 3 &&& 1#32 = 1#32) := by
    rw [← Int32.toBitVec_inj, Int32.toBitVec_and, Int32.toBitVec_shiftRight]
    exact Iff.rfl
  have e2 : (x &&& 8 = 0) ↔ (x.toBitVec &&& BitVec.twoPow 32 3 = 0#32) := by
    rw [← Int32.toBitVec_inj, Int32.toBitVec_and]
    exact Iff.rfl
  rw [← decide_not]
  exact decide_eq_decide.mpr (e1.trans (h.trans (not_congr e2.symm)))
theorem dl_b {f l : Int32} {m : a_M} : a_dl f l m = (decide (m.2.2 >>> (nI 3 &&& 31) &&& 1 = 1) && a_in m.1 f l) := by
  rw [i_b3]
  rfl
theorem dl_all {m : a_M} (h : 1 ≤ m.1.toInt) : a_dl 0 2147483647 m = decide (m.2.2 >>> (nI 3 &&& 31) &&& 1 = 1) := by
  rw [dl_b]
  have : a_in m.1 0 2147483647 = true := by
    unfold a_in
    refine decide_eq_true ⟨?_, ?_⟩
    · rw [Int64.le_iff_toInt_le, Int32.toInt_toInt64, Int32.toInt_toInt64]
      exact Int.le_trans (by decide) h
    · rw [Int64.le_iff_toInt_le, Int32.toInt_toInt64, Int32.toInt_toInt64]
      exact Int32.toInt_le _
  rw [this, Bool.and_true]
theorem en_t {A : a_A} {s : Nat} {all : Bool} : A_t (s_en A s all) = A_t A := by
  have hk8 := kp_te A s all
  have hk9 := kp_ti 5 (s_te A s all) 0
  exact (hk9.2.2.2.2.2.2.2.2.2.2.2.2).trans (hk8.2.2.2.2.2.2.2.2.2.2.2.2)
theorem ti_t {A : a_A} : A_t (s_ti 5 A 0) = A_t A := (kp_ti 5 A 0).2.2.2.2.2.2.2.2.2.2.2.2
theorem rd_eq {j b : Nat} {f l : Int32} {pr : a_M → Bool} (hbs : a_bs (A_v A) j = b) (h : ∀ m ∈ a_ms (A_v A) b, pr m = a_dl f l m) : n_rd A j f l = nI ((a_ms (A_v A) b).countP pr) ∧ s_rd A j f l = A_sv A (v_bm (A_v A) b ((a_ms (A_v A) b).filter (fun m => !(pr m)))) := by
  rw [n_rd_e hbs, s_rd_e hbs]
  refine ⟨congrArg nI (List.countP_congr (fun m hm => by rw [h m hm])), ?_⟩
  have e : (a_ms (A_v A) b).filter (fun m => !(a_dl f l m)) = (a_ms (A_v A) b).filter (fun m => !(pr m)) := List.filter_congr (fun m hm => by rw [h m hm])
  rw [e]
theorem c_A_ti {ow2 : Nat → Nat} {cap2 : Nat} (h : c_A G mu oc lo σ sv nl ow Λ cap A) (hJ : c_J G lo τ ow2 sv Λ nl cap2 (s_ti 5 A 0)) (hT : c_T lo σ τ A (s_ti 5 A 0) cap cap2) (hn : (A_n A).length ≤ 100) : c_A G mu oc lo τ sv nl ow2 Λ cap2 (s_ti 5 A 0) ∧ c_B 1300 9000 σ τ := by
  have hk4 := kp_ti 5 A 0
  have b2 := hk4.2.2.2.2.2.1
  have b3 := hJ.2.2.2.2
  have b6 := hk4.2.2.2.2.1
  exact ⟨c_A_T h hJ hT hk4, by have hB := c_B_F hT.2.2; exact ⟨hB.1, by have := hB.2.1; omega, by have := hB.2.2; omega⟩⟩
/-- a result and its state, from their shapes -/
theorem c_R_ok {es : List String} {x : Int32 × a_A} {v : Int32} (hv : v = x.1) (ht : A_t x.2 = 0) (hS : c_S G mu oc σ τ x.2) : c_R es G mu oc σ x (.inl (some (.int v))) τ := ⟨Or.inl ⟨ht, by rw [hv]⟩, hS⟩
theorem cpx_exp1 (hK : c_K G mu oc σ A) {s : Int32} (hi : i_in s (A_v A).2.2.length = false) : sx_C G 100 YX1_expunge [.ref (mu 0), .int s] σ (c_X0 "java/lang/IndexOutOfBoundsException" σ) := by
  refine sx_body (by decide) (Nat.le_of_ble_eq_true rfl) ?_
  obtain ⟨sv, nl, hX, hF, hN⟩ := hK
  obtain ⟨Λ0, hV, hzz, hw⟩ := id hF
  have hx := hX.1
  have hnb := hw.1.1
  have hns := hw.1.2.1
  have hX0 : c_X G mu (sx_n σ) oc σ sv nl (A_st A 0) := hX
  have hF0 : c_F G mu (sx_n σ) σ sv (A_v (A_st A 0)) := hF
  refine sv_aload_n dX1_expunge_0 rfl ?_
  refine sv_iload_n dX1_expunge_1 rfl ?_
  refine sv_cv _ (cgx_sesAt hx hV hi) okX1_sessionAt (sx_rd_c hx) rfl kv_X1_240.1 kv_X1_240.2.1 kv_X1_240.2.2 dX1_expunge_2 rfl rfl (by omega) (Nat.le_of_ble_eq_true rfl) (fun v τ h => by obtain ⟨q, e, _⟩ := h; cases e) (fun E q τ h => ?_)
  obtain ⟨q9, e9, F9⟩ := h
  cases e9
  refine sv_out (fun x hx => by cases hx) ?_
  exact ⟨_, rfl, F9⟩
theorem cpx_exp2 (hK : c_K G mu oc σ A) {j : Nat} (hj : j < (A_v A).2.2.length) (h : ((a_bx (A_v A) j).isSome && !(a_id (A_v A) j) && !(a_rd (A_v A) j)) = false) : sx_C G 100 YX1_expunge [.ref (mu 0), .int (nI j)] σ (c_X0 "java/lang/IllegalStateException" σ) := by
  refine sx_body (by decide) (Nat.le_of_ble_eq_true rfl) ?_
  obtain ⟨sv, nl, hX, hF, hN⟩ := hK
  obtain ⟨Λ0, hV, hzz, hw⟩ := id hF
  have hx := hX.1
  have hnb := hw.1.1
  have hns := hw.1.2.1
  have hX0 : c_X G mu (sx_n σ) oc σ sv nl (A_st A 0) := hX
  have hF0 : c_F G mu (sx_n σ) σ sv (A_v (A_st A 0)) := hF
  have hbl : ∀ b, a_bx (A_v A) j = some b → b < 100 := fun b hb => by have := hw.2.2.1 j b hj hb; omega
  refine sv_aload_n dX1_expunge_0 rfl ?_
  refine sv_iload_n dX1_expunge_1 rfl ?_
  refine sv_cvR _ (cg_sesAt hx hV hj) okX1_sessionAt kv_X1_240 (sx_rd_c hx) rfl dX1_expunge_2 rfl rfl (by omega) (Nat.le_of_ble_eq_true rfl) ?_
  refine sv_cs _ (cgx_wr hV hj hbl h) okX1_requireWriter ks_X1_375.1 ks_X1_375.2 dX1_expunge_5 rfl rfl (by omega) (Nat.le_of_ble_eq_true rfl) (fun v τ h => by obtain ⟨q, e, _⟩ := h; cases e) (fun E q τ h => ?_)
  obtain ⟨q9, e9, F9⟩ := h
  cases e9
  refine sv_out (fun x hx => by cases hx) ?_
  exact ⟨_, rfl, F9⟩
theorem cpx_uex1 (hK : c_K G mu oc σ A) {f l : Int32} {s : Int32} (hi : i_in s (A_v A).2.2.length = false) : sx_C G 100 YX1_uidExpunge [.ref (mu 0), .int s, .int f, .int l] σ (c_X0 "java/lang/IndexOutOfBoundsException" σ) := by
  refine sx_body (by decide) (Nat.le_of_ble_eq_true rfl) ?_
  obtain ⟨sv, nl, hX, hF, hN⟩ := hK
  obtain ⟨Λ0, hV, hzz, hw⟩ := id hF
  have hx := hX.1
  have hnb := hw.1.1
  have hns := hw.1.2.1
  have hX0 : c_X G mu (sx_n σ) oc σ sv nl (A_st A 0) := hX
  have hF0 : c_F G mu (sx_n σ) σ sv (A_v (A_st A 0)) := hF
  refine sv_aload_n dX1_uidExpunge_0 rfl ?_
  refine sv_iload_n dX1_uidExpunge_1 rfl ?_
  refine sv_cv _ (cgx_sesAt hx hV hi) okX1_sessionAt (sx_rd_c hx) rfl kv_X1_240.1 kv_X1_240.2.1 kv_X1_240.2.2 dX1_uidExpunge_2 rfl rfl (by omega) (Nat.le_of_ble_eq_true rfl) (fun v τ h => by obtain ⟨q, e, _⟩ := h; cases e) (fun E q τ h => ?_)
  obtain ⟨q9, e9, F9⟩ := h
  cases e9
  refine sv_out (fun x hx => by cases hx) ?_
  exact ⟨_, rfl, F9⟩
theorem cpx_uex2 (hK : c_K G mu oc σ A) {f l : Int32} {j : Nat} (hj : j < (A_v A).2.2.length) (h : ((a_bx (A_v A) j).isSome && !(a_id (A_v A) j) && !(a_rd (A_v A) j)) = false) : sx_C G 100 YX1_uidExpunge [.ref (mu 0), .int (nI j), .int f, .int l] σ (c_X0 "java/lang/IllegalStateException" σ) := by
  refine sx_body (by decide) (Nat.le_of_ble_eq_true rfl) ?_
  obtain ⟨sv, nl, hX, hF, hN⟩ := hK
  obtain ⟨Λ0, hV, hzz, hw⟩ := id hF
  have hx := hX.1
  have hnb := hw.1.1
  have hns := hw.1.2.1
  have hX0 : c_X G mu (sx_n σ) oc σ sv nl (A_st A 0) := hX
  have hF0 : c_F G mu (sx_n σ) σ sv (A_v (A_st A 0)) := hF
  have hbl : ∀ b, a_bx (A_v A) j = some b → b < 100 := fun b hb => by have := hw.2.2.1 j b hj hb; omega
  refine sv_aload_n dX1_uidExpunge_0 rfl ?_
  refine sv_iload_n dX1_uidExpunge_1 rfl ?_
  refine sv_cvR _ (cg_sesAt hx hV hj) okX1_sessionAt kv_X1_240 (sx_rd_c hx) rfl dX1_uidExpunge_2 rfl rfl (by omega) (Nat.le_of_ble_eq_true rfl) ?_
  refine sv_cs _ (cgx_wr hV hj hbl h) okX1_requireWriter ks_X1_375.1 ks_X1_375.2 dX1_uidExpunge_5 rfl rfl (by omega) (Nat.le_of_ble_eq_true rfl) (fun v τ h => by obtain ⟨q, e, _⟩ := h; cases e) (fun E q τ h => ?_)
  obtain ⟨q9, e9, F9⟩ := h
  cases e9
  refine sv_out (fun x hx => by cases hx) ?_
  exact ⟨_, rfl, F9⟩
theorem cp_exp (hK : c_K G mu oc σ A) {z : Nat} (hz : g_Z G z) (hG : g_L G) {j : Nat} (hj : j < (A_v A).2.2.length) {t : Nat} (ho : o_V t (A_v A)) (h : ((a_bx (A_v A) j).isSome && !(a_id (A_v A) j) && !(a_rd (A_v A) j)) = true) : sx_C G 100 YX1_expunge [.ref (mu 0), .int (nI j)] σ (c_R ["java/lang/IndexOutOfBoundsException", "java/lang/IllegalStateException"] G mu oc σ (x_exp (A_st A 0) j 0 2147483647)) := by
  refine sx_body (by decide) (Nat.le_of_ble_eq_true rfl) ?_
  have hK0 := hK
  obtain ⟨sv, nl, hX, hF, hN⟩ := hK
  obtain ⟨Λ0, hV, hzz, hw⟩ := id hF
  have hx := hX.1
  have hnb := hw.1.1
  have hns := hw.1.2.1
  have hX0 : c_X G mu (sx_n σ) oc σ sv nl (A_st A 0) := hX
  have hF0 : c_F G mu (sx_n σ) σ sv (A_v (A_st A 0)) := hF
  have hbl : ∀ b, a_bx (A_v A) j = some b → b < 100 := fun b hb => by have := hw.2.2.1 j b hj hb; omega
  obtain ⟨b, hbx⟩ := Option.isSome_iff_exists.mp (show (a_bx (A_v A) j).isSome = true by cases hq : (a_bx (A_v A) j).isSome with | true => rfl | false => rw [hq] at h; cases h)
  have hb := hw.2.2.1 j b hj hbx
  refine sv_aload_n dX1_expunge_0 rfl ?_
  refine sv_iload_n dX1_expunge_1 rfl ?_
  refine sv_cvR _ (cg_sesAt hx hV hj) okX1_sessionAt kv_X1_240 (sx_rd_c hx) rfl dX1_expunge_2 rfl rfl (by omega) (Nat.le_of_ble_eq_true rfl) ?_
  refine sv_csR _ (cg_wr hV hj hbl h) okX1_requireWriter ks_X1_375 dX1_expunge_5 rfl rfl (by omega) (Nat.le_of_ble_eq_true rfl) ?_
  refine sv_aload_n dX1_expunge_8 rfl ?_
  refine sv_iload_n dX1_expunge_9 rfl ?_
  refine sv_iconst (nI 3) dX1_expunge_10 (by decide +kernel) ?_
  refine sv_csP _ (cm_flagged hG) okX1_flagged ks_X1_211 dX1_expunge_11 rfl rfl (by omega) (Nat.le_of_ble_eq_true rfl) ?_
  intro v6 τ4 hp5
  obtain ⟨te, rfl, hte, htc, F1⟩ := hp5
  have hK1 := c_K_t (c_K_0 hK0 F1) 0
  have hx1 : sx_c τ4 (mu 0) = some (.inr (0, [.ref sv, _, _, _, _, _, _, _, _])) := h_F_c F1 hx (fun z => z)
  have hP1 : k_P G 1 _ te (fun m => decide (m.2.2 >>> (nI 3 &&& 31) &&& 1 = 1)) := Or.inr (Or.inl ⟨_, sx_rd_c htc, fun m => rfl⟩)
  have hpe : ∀ m ∈ a_ms (A_v A) b, (fun m : a_M => decide (m.2.2 >>> (nI 3 &&& 31) &&& 1 = 1)) m = a_dl 0 2147483647 m := fun m hm => (dl_all ((ho.2.1 b hb).2.1 m hm).1).symm
  refine sv_cvP _ (cc_removes hK1 hz hj hbx hG hP1 (by omega)) okX1_removes kv_X1_389 (sx_rd_c hx1) rfl dX1_expunge_14 rfl rfl (by omega) (Nat.le_of_ble_eq_true rfl) ?_
  intro v9 τ7 hp8
  obtain ⟨rfl, hK9, hB9⟩ := hp8
  refine sv_iret rfl rfl dX1_expunge_17 ?_
  have hbs : a_bs (A_v (s_be (A_st A 0) j)) j = b := a_bs_e ((be_bx (A_st A 0) j hj).trans hbx)
  have hrd := rd_eq (A := s_be (A_st A 0) j) (f := 0) (l := 2147483647) hbs hpe
  refine c_R_ok hrd.1.symm en_t ?_
  show c_S G mu oc σ _ (s_en (s_rd (s_be (A_st A 0) j) j 0 2147483647) j true)
  rw [hrd.2]
  exact c_S_B hK9 (c_B_t (c_B_F F1) hB9 (Nat.le_refl _) (Nat.le_refl _)) (by omega) (by omega)
theorem cp_uex (hK : c_K G mu oc σ A) {z : Nat} (hz : g_Z G z) (hG : g_L G) {f l : Int32} {j : Nat} (hj : j < (A_v A).2.2.length) (h : ((a_bx (A_v A) j).isSome && !(a_id (A_v A) j) && !(a_rd (A_v A) j)) = true) : sx_C G 100 YX1_uidExpunge [.ref (mu 0), .int (nI j), .int f, .int l] σ (c_R ["java/lang/IndexOutOfBoundsException", "java/lang/IllegalStateException"] G mu oc σ (x_exp (A_st A 0) j f l)) := by
  refine sx_body (by decide) (Nat.le_of_ble_eq_true rfl) ?_
  have hK0 := hK
  obtain ⟨sv, nl, hX, hF, hN⟩ := hK
  obtain ⟨Λ0, hV, hzz, hw⟩ := id hF
  have hx := hX.1
  have hnb := hw.1.1
  have hns := hw.1.2.1
  have hX0 : c_X G mu (sx_n σ) oc σ sv nl (A_st A 0) := hX
  have hF0 : c_F G mu (sx_n σ) σ sv (A_v (A_st A 0)) := hF
  have hbl : ∀ b, a_bx (A_v A) j = some b → b < 100 := fun b hb => by have := hw.2.2.1 j b hj hb; omega
  obtain ⟨b, hbx⟩ := Option.isSome_iff_exists.mp (show (a_bx (A_v A) j).isSome = true by cases hq : (a_bx (A_v A) j).isSome with | true => rfl | false => rw [hq] at h; cases h)
  have hb := hw.2.2.1 j b hj hbx
  refine sv_aload_n dX1_uidExpunge_0 rfl ?_
  refine sv_iload_n dX1_uidExpunge_1 rfl ?_
  refine sv_cvR _ (cg_sesAt hx hV hj) okX1_sessionAt kv_X1_240 (sx_rd_c hx) rfl dX1_uidExpunge_2 rfl rfl (by omega) (Nat.le_of_ble_eq_true rfl) ?_
  refine sv_csR _ (cg_wr hV hj hbl h) okX1_requireWriter ks_X1_375 dX1_uidExpunge_5 rfl rfl (by omega) (Nat.le_of_ble_eq_true rfl) ?_
  refine sv_aload_n dX1_uidExpunge_8 rfl ?_
  refine sv_iload_n dX1_uidExpunge_9 rfl ?_
  refine sv_iconst (nI 3) dX1_uidExpunge_10 (by decide +kernel) ?_
  refine sv_csP _ (cm_flagged hG) okX1_flagged ks_X1_211 dX1_uidExpunge_11 rfl rfl (by omega) (Nat.le_of_ble_eq_true rfl) ?_
  intro v12 τ10 hp11
  obtain ⟨te, rfl, hte, htc, F1⟩ := hp11
  have hK1 := c_K_t (c_K_0 hK0 F1) 0
  have hx1 : sx_c τ10 (mu 0) = some (.inr (0, [.ref sv, _, _, _, _, _, _, _, _])) := h_F_c F1 hx (fun z => z)
  refine sv_iload_n dX1_uidExpunge_14 rfl ?_
  refine sv_iload_n dX1_uidExpunge_15 rfl ?_
  refine sv_csP _ (cm_named hG) okX1_named ks_X1_381 dX1_uidExpunge_16 rfl rfl (by omega) (Nat.le_of_ble_eq_true rfl) ?_
  intro v15 τ13 hp14
  obtain ⟨te2, rfl, hte2, htc2, F2⟩ := hp14
  have F12 := h_F_u F1 F2 (fun _ _ z => z) (fun _ _ z => z.elim) (Nat.le_refl _) (Nat.le_refl _)
  have htc := h_F_c F2 htc (fun z => z)
  refine sv_csP _ (cm_both hG) okX1_both ks_X1_393 dX1_uidExpunge_19 rfl rfl (by omega) (Nat.le_of_ble_eq_true rfl) ?_
  intro v18 τ16 hp17
  obtain ⟨te3, rfl, hte3, htc3, F3⟩ := hp17
  have F13 := h_F_u F12 F3 (fun _ _ z => z) (fun _ _ z => z.elim) (Nat.le_refl _) (Nat.le_refl _)
  have htc := h_F_c F3 htc (fun z => z)
  have htc2 := h_F_c F3 htc2 (fun z => z)
  have hK3 := c_K_t (c_K_0 hK0 F13) 0
  have hx1 : sx_c τ16 (mu 0) = some (.inr (0, [.ref sv, _, _, _, _, _, _, _, _])) := h_F_c F13 hx (fun z => z)
  have hP3 : k_P G 2 _ te3 (fun m => (decide (m.2.2 >>> (nI 3 &&& 31) &&& 1 = 1) && a_in m.1 f l)) := Or.inr (Or.inr (Or.inr (Or.inr (Or.inr (Or.inr (Or.inr (Or.inr (Or.inl ⟨te, te2, _, _, sx_rd_c htc3, Or.inr (Or.inl ⟨_, sx_rd_c htc, fun m => rfl⟩), Or.inl ⟨_, _, sx_rd_c htc2, fun m => rfl⟩, fun m => rfl⟩))))))))
  have hpe : ∀ m ∈ a_ms (A_v A) b, (fun m : a_M => (decide (m.2.2 >>> (nI 3 &&& 31) &&& 1 = 1) && a_in m.1 f l)) m = a_dl f l m := fun m hm => dl_b.symm
  refine sv_cvP _ (cc_removes hK3 hz hj hbx hG hP3 (by omega)) okX1_removes kv_X1_389 (sx_rd_c hx1) rfl dX1_uidExpunge_22 rfl rfl (by omega) (Nat.le_of_ble_eq_true rfl) ?_
  intro v21 τ19 hp20
  obtain ⟨rfl, hK9, hB9⟩ := hp20
  refine sv_iret rfl rfl dX1_uidExpunge_25 ?_
  have hbs : a_bs (A_v (s_be (A_st A 0) j)) j = b := a_bs_e ((be_bx (A_st A 0) j hj).trans hbx)
  have hrd := rd_eq (A := s_be (A_st A 0) j) (f := f) (l := l) hbs hpe
  refine c_R_ok hrd.1.symm en_t ?_
  show c_S G mu oc σ _ (s_en (s_rd (s_be (A_st A 0) j) j f l) j true)
  rw [hrd.2]
  exact c_S_B hK9 (c_B_t (c_B_F F13) hB9 (Nat.le_refl _) (Nat.le_refl _)) (by omega) (by omega)
theorem pm_exp (hK : c_K G mu oc σ A) {z : Nat} (hz : g_Z G z) (hG : g_L G) {t : Nat} (ho : o_V t (A_v A)) {s : Int32} : sx_C G 100 YX1_expunge [.ref (mu 0), .int s] σ (c_R ["java/lang/IndexOutOfBoundsException", "java/lang/IllegalStateException"] G mu oc σ (sp_exp A s 0 2147483647)) := by
  have hns : (A_v A).2.2.length ≤ 4 := by obtain ⟨_, _, _, ⟨_, _, _, hw⟩, _⟩ := hK; exact hw.1.2.1
  unfold sp_exp
  refine c_2 hK (fun h => cpx_exp1 hK h) (fun h1 h2 => ?_) (fun h1 h2 => ?_)
  · obtain ⟨j, hj, rfl⟩ := i_in_of (by omega) h1
    rw [chg_j hj hns] at h2
    exact cpx_exp2 hK hj h2
  · obtain ⟨j, hj, rfl⟩ := i_in_of (by omega) h1
    rw [chg_j hj hns] at h2
    rw [nI_clamp (by omega)]
    exact cp_exp hK hz hG hj ho h2
theorem pm_uex (hK : c_K G mu oc σ A) {z : Nat} (hz : g_Z G z) (hG : g_L G) {f l : Int32} {s : Int32} : sx_C G 100 YX1_uidExpunge [.ref (mu 0), .int s, .int f, .int l] σ (c_R ["java/lang/IndexOutOfBoundsException", "java/lang/IllegalStateException"] G mu oc σ (sp_exp A s f l)) := by
  have hns : (A_v A).2.2.length ≤ 4 := by obtain ⟨_, _, _, ⟨_, _, _, hw⟩, _⟩ := hK; exact hw.1.2.1
  unfold sp_exp
  refine c_2 hK (fun h => cpx_uex1 hK h) (fun h1 h2 => ?_) (fun h1 h2 => ?_)
  · obtain ⟨j, hj, rfl⟩ := i_in_of (by omega) h1
    rw [chg_j hj hns] at h2
    exact cpx_uex2 hK hj h2
  · obtain ⟨j, hj, rfl⟩ := i_in_of (by omega) h1
    rw [chg_j hj hns] at h2
    rw [nI_clamp (by omega)]
    exact cp_uex hK hz hG hj h2
end CM3
