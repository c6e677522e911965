set_option maxRecDepth 100000
section MRX
variable {G : sx_G} {h : Nat} {M : m_M} {σ : sx_St} {V : a_V} {A : a_A} {r r' : Nat → Int64} {t : Nat}
/-- texts that are told -/
def o_j (o it : List Int32) : List Int32 := o ++ ((if 0 < o.length then [nI 32] else []) ++ it)
def w_m (m : a_M) : List Int32 := d_n m.1.toNatClampNeg ++ (nI 58 :: (d_n m.2.1.toNatClampNeg ++ w_fs m.2.2))
def w_e (V : a_V) (s k : Nat) : List Int32 := d_n (k + 1) ++ (nI 58 :: (d_n (a_e V s k).1.toNatClampNeg ++ (w_fs (a_e V s k).2 ++ (if a_go V s k then [nI 33] else []))))
def w_n (n : a_N) : List Int32 := d_n n.1.toNatClampNeg ++ (nI (if n.2.1 = 0 then 45 else if n.2.1 = 1 then 61 else 43) :: (d_n n.2.2.1.toNatClampNeg ++ (if n.2.1 = 1 then nI 58 :: w_fs n.2.2.2 else [])))
def o_t (g : Nat → List Int32) : Nat → List Int32
  | 0 => []
  | k + 1 => o_j (o_t g k) (g k)
def sp_wbx (A : a_A) (b : Int32) : Int32 × a_A := g_1 (i_in b (A_v A).2.1.length) A (nI (o_t (fun k => w_m (a_m (A_v A) b.toNatClampNeg k)) (a_ms (A_v A) b.toNatClampNeg).length).length, A_so (A_st A 0) (o_t (fun k => w_m (a_m (A_v A) b.toNatClampNeg k)) (a_ms (A_v A) b.toNatClampNeg).length))
def sp_wvw (A : a_A) (s : Int32) : Int32 × a_A := g_1 (i_in s (A_v A).2.2.length) A (nI (o_t (w_e (A_v A) s.toNatClampNeg) (a_es (A_v A) s.toNatClampNeg).length).length, A_so (A_st A 0) (o_t (w_e (A_v A) s.toNatClampNeg) (a_es (A_v A) s.toNatClampNeg).length))
def sp_wnt (A : a_A) : Int32 × a_A := (nI (o_t (fun k => w_n ((A_n A).getD k (0, 0, 0, 0))) (A_n A).length).length, A_so (A_st A 0) (o_t (fun k => w_n ((A_n A).getD k (0, 0, 0, 0))) (A_n A).length))
def sp_out (A : a_A) (x : Int32) : Int32 × a_A := g_1 (i_in x (A_o A).length) A ((A_o A).getD x.toNatClampNeg 0, A_st A 0)
theorem o_j_l (o it : List Int32) : (o_j o it).length ≤ o.length + 1 + it.length := by
  unfold o_j
  rw [List.length_append, List.length_append]
  split <;> simp <;> omega
theorem o_t_l (g : Nat → List Int32) (c : Nat) : ∀ n, (∀ k, k < n → (g k).length ≤ c) → (o_t g n).length ≤ (c + 1) * n := by
  intro n
  induction n with
  | zero => intro _; exact Nat.le_refl _
  | succ n ih =>
    intro h
    have h1 := ih (fun k hk => h k (by omega))
    have h2 := o_j_l (o_t g n) (g n)
    have h3 := h n (by omega)
    show (o_j (o_t g n) (g n)).length ≤ _
    rw [Nat.mul_succ]
    omega
theorem d_n_l (n : Nat) : (d_n n).length ≤ 8 := by
  unfold d_n
  rw [d_r_l]
  have := d_l_le 7 n
  omega
theorem d_n_1 {n : Nat} (h : n < 10) : (d_n n).length = 1 := by
  unfold d_n
  rw [d_r_l, show d_l n 7 = 0 from if_pos h]
theorem d_n_2 {n : Nat} (h : n < 100) : (d_n n).length ≤ 2 := by
  unfold d_n
  rw [d_r_l]
  show (if n < 10 then 0 else (if n / 10 < 10 then 0 else d_l (n / 10 / 10) 5 + 1) + 1) + 1 ≤ 2
  split
  · omega
  · rw [if_pos (by omega)]
    omega
theorem i32_nat {x : Int32} (h : 0 ≤ x.toInt) : x = nI x.toNatClampNeg ∧ (x.toNatClampNeg : Int) = x.toInt := by
  have h2 := Int32.toInt_lt x
  have e : x = nI x.toInt.toNat := by
    apply Int32.toInt_inj.mp
    rw [nI_toInt (by omega)]
    omega
  have e2 : x.toNatClampNeg = x.toInt.toNat := by
    conv => lhs; rw [e]
    exact nI_clamp (by omega)
  rw [e2]
  exact ⟨e, by omega⟩
theorem so_wr (A : a_A) (o l : List Int32) : s_wr (A_so A o) l = A_so A (o ++ l) := rfl
theorem so_g (A : a_A) (o : List Int32) : w_g (A_so A o) = if 0 < o.length then [nI 32] else [] := rfl
theorem wr_o {o it : List Int32} {x : List Int32} (h : x = o ++ ((if 0 < o.length then [nI 32] else []) ++ it)) : x = o_j o it := h
theorem A_o_so (A : a_A) (o : List Int32) : A_o (A_so A o) = o := rfl
theorem gl_le (o : List Int32) : (if 0 < o.length then [nI 32] else []).length ≤ 1 := by split <;> simp
theorem ct_writeBox (hn : h + 11 < sx_n σ) (hJ : m_J M A) (ho : o_V t (A_v A)) (ht6 : t ≤ 1000) {b : Int32} : sx_Cp G 4 YX3_writeBox [.ref h, .int b] (m_S G h M σ) (fun v τ => v = some (.int ((sp_wbx A b).1)) ∧ ∃ M2, τ = m_S G h M2 σ ∧ m_J M2 ((sp_wbx A b).2)) := by
  have loop : ∀ (b t : Nat) A, o_V t (A_v A) → t ≤ 1000 → b < (A_v A).2.1.length → (a_ms (A_v A) b).length ≤ 30 → ∀ q k M, m_J M (A_so A (o_t (fun k => w_m (a_m (A_v A) b k)) k)) → k ≤ (a_ms (A_v A) b).length → (a_ms (A_v A) b).length + 1 ≤ k + q → sx_V G 4 YX3_writeBox 21 [some (.ref h), some (.int (nI b)), some (.int (nI k))] [] (m_S G h M σ) (fun o τ => ∃ v, o = .inl v ∧ v = some (.int (nI (o_t (fun k => w_m (a_m (A_v A) b k)) (a_ms (A_v A) b).length).length)) ∧ ∃ M2, τ = m_S G h M2 σ ∧ m_J M2 (A_so A (o_t (fun k => w_m (a_m (A_v A) b k)) (a_ms (A_v A) b).length))) := by
    intro b t A ho ht6 hb hml q
    induction q with
    | zero => intro k M hJ h1 h2; exact absurd h2 (by omega)
    | succ q ih =>
    intro k M hJ h1 h2
    have hb3 : (A_v A).2.1.length ≤ 3 := hJ.2.2.1.1.1
    have hol := o_t_l (fun k => w_m (a_m (A_v A) b k)) 22 k (fun k _ => by show (w_m (a_m (A_v A) b k)).length ≤ 22; unfold w_m; rw [List.length_append, List.length_cons, List.length_append]; have h1 := d_n_l (a_m (A_v A) b k).1.toNatClampNeg; have h2 := d_n_l (a_m (A_v A) b k).2.1.toNatClampNeg; have h3 := w_fs_l (a_m (A_v A) b k).2.2; omega)
    have hgl := gl_le (o_t (fun k => w_m (a_m (A_v A) b k)) k)
    refine sv_iload_n dX3_writeBox_21 rfl ?_
    refine sv_aload_n dX3_writeBox_22 rfl ?_
    refine sv_iload_n dX3_writeBox_23 rfl ?_
    refine sv_cvR _ (ct_manyIn (V := A_v A) hn (m_J_e hJ).1 hJ.2.2.1.1 hb) okX3_manyIn kv_X3_100 (sx_rd_c (m_S_0 hn)) rfl dX3_writeBox_24 rfl rfl (by decide) (Nat.le_of_ble_eq_true rfl) ?_
    refine sv_icmp_geN (tgt := 79) dX3_writeBox_27 (by decide) (by omega) (by omega) (fun c27 => ?_) (fun c27 => ?_)
    · have hke : k = (a_ms (A_v A) b).length := by omega
      subst hke
      refine sv_aload_n dX3_writeBox_79 rfl ?_
      refine sm_get hn fg_X3_519 dX3_writeBox_80 rfl ?_
      refine sv_iret rfl rfl dX3_writeBox_83 ?_
      exact ⟨_, rfl, r_I hJ.2.2.2.2.2.2.2.2.2.1.2.1, _, rfl, hJ⟩
    · have hk : k < (a_ms (A_v A) b).length := by omega
      have hom : o_M (a_b (A_v A) b).2.1 (a_m (A_v A) b k) := (ho.2.1 b hb).2.1 _ (gd_mem hk)
      have hnx := (ho.2.1 b hb).1.2
      obtain ⟨u1, u2⟩ := i32_nat (x := (a_m (A_v A) b k).1) (by have := hom.1; omega)
      obtain ⟨z1, z2⟩ := i32_nat (x := (a_m (A_v A) b k).2.1) (by have := hom.2.2.1; omega)
      have hu9 : (a_m (A_v A) b k).1.toNatClampNeg < 100000000 := by have h9 := hom.2.1; rw [Int32.lt_iff_toInt_lt] at h9; have : (a_m (A_v A) b k).1.toInt < (a_b (A_v A) b).2.1.toInt := h9; omega
      have hz9 : (a_m (A_v A) b k).2.1.toNatClampNeg < 100000000 := by have h9 := hom.2.2.2; have : (a_m (A_v A) b k).2.1.toInt ≤ 9999 := h9; omega
      have hd1 := d_n_l (a_m (A_v A) b k).1.toNatClampNeg
      have hd2 := d_n_l (a_m (A_v A) b k).2.1.toNatClampNeg
      refine sv_aload_n dX3_writeBox_30 rfl ?_
      refine sv_cvP _ (ct_writeGap hn hJ (by rw [A_o_so]; omega)) okX3_writeGap kv_X3_525 (sx_rd_c (m_S_0 hn)) rfl dX3_writeBox_31 rfl rfl (by decide) (Nat.le_of_ble_eq_true rfl) ?_
      intro v1 t1 hp1
      obtain ⟨rfl, M1, rfl, hJ1⟩ := hp1
      rw [so_wr, so_g] at hJ1
      refine sv_aload_n dX3_writeBox_34 rfl ?_
      refine sv_aload_n dX3_writeBox_35 rfl ?_
      refine sv_iload_n dX3_writeBox_36 rfl ?_
      refine sv_iload_n dX3_writeBox_37 rfl ?_
      refine sv_iconst (nI 0) dX3_writeBox_38 (by decide +kernel) ?_
      refine sv_cvR _ (ct_uid (V := A_v A) hn (m_J_e hJ1).1 hJ1.2.2.1.1 hb hk) okX3_ofMessage kv_X3_103 (sx_rd_c (m_S_0 hn)) rfl dX3_writeBox_39 rfl rfl (by decide) (Nat.le_of_ble_eq_true rfl) ?_
      refine sv_topI u1 ?_
      refine sv_cvP _ (ct_writeNumber hn hJ1 hu9 (by rw [A_o_so]; simp only [List.length_append, List.length_cons, List.length_nil]; omega)) okX3_writeNumber kv_X3_528 (sx_rd_c (m_S_0 hn)) rfl dX3_writeBox_42 rfl rfl (by decide) (Nat.le_of_ble_eq_true rfl) ?_
      intro v2 t2 hp2
      obtain ⟨rfl, M2, rfl, hJ2⟩ := hp2
      rw [so_wr] at hJ2
      refine sv_aload_n dX3_writeBox_45 rfl ?_
      refine sv_bipush (nI 58) dX3_writeBox_46 (by decide +kernel) ?_
      refine sv_cvP _ (ct_write hn hJ2 (by omega) (by rw [A_o_so]; simp only [List.length_append, List.length_cons, List.length_nil]; omega)) okX3_write kv_X3_522 (sx_rd_c (m_S_0 hn)) rfl dX3_writeBox_48 rfl rfl (by decide) (Nat.le_of_ble_eq_true rfl) ?_
      intro v3 t3 hp3
      obtain ⟨rfl, M3, rfl, hJ3⟩ := hp3
      rw [so_wr] at hJ3
      refine sv_aload_n dX3_writeBox_51 rfl ?_
      refine sv_aload_n dX3_writeBox_52 rfl ?_
      refine sv_iload_n dX3_writeBox_53 rfl ?_
      refine sv_iload_n dX3_writeBox_54 rfl ?_
      refine sv_iconst (nI 1) dX3_writeBox_55 (by decide +kernel) ?_
      refine sv_cvR _ (ct_size (V := A_v A) hn (m_J_e hJ3).1 hJ3.2.2.1.1 hb hk) okX3_ofMessage kv_X3_103 (sx_rd_c (m_S_0 hn)) rfl dX3_writeBox_56 rfl rfl (by decide) (Nat.le_of_ble_eq_true rfl) ?_
      refine sv_topI z1 ?_
      refine sv_cvP _ (ct_writeNumber hn hJ3 hz9 (by rw [A_o_so]; simp only [List.length_append, List.length_cons, List.length_nil]; omega)) okX3_writeNumber kv_X3_528 (sx_rd_c (m_S_0 hn)) rfl dX3_writeBox_59 rfl rfl (by decide) (Nat.le_of_ble_eq_true rfl) ?_
      intro v4 t4 hp4
      obtain ⟨rfl, M4, rfl, hJ4⟩ := hp4
      rw [so_wr] at hJ4
      refine sv_aload_n dX3_writeBox_62 rfl ?_
      refine sv_aload_n dX3_writeBox_63 rfl ?_
      refine sv_iload_n dX3_writeBox_64 rfl ?_
      refine sv_iload_n dX3_writeBox_65 rfl ?_
      refine sv_iconst (nI 2) dX3_writeBox_66 (by decide +kernel) ?_
      refine sv_cvR _ (ct_flags (V := A_v A) hn (m_J_e hJ4).1 hJ4.2.2.1.1 hb hk) okX3_ofMessage kv_X3_103 (sx_rd_c (m_S_0 hn)) rfl dX3_writeBox_67 rfl rfl (by decide) (Nat.le_of_ble_eq_true rfl) ?_
      refine sv_cvP _ (ct_writeFlags hn hJ4 (by rw [A_o_so]; simp only [List.length_append, List.length_cons, List.length_nil]; omega)) okX3_writeFlags kv_X3_531 (sx_rd_c (m_S_0 hn)) rfl dX3_writeBox_70 rfl rfl (by decide) (Nat.le_of_ble_eq_true rfl) ?_
      intro v5 t5 hp5
      obtain ⟨rfl, M5, rfl, hJ5⟩ := hp5
      rw [so_wr] at hJ5
      have hfin : (o_t (fun k => w_m (a_m (A_v A) b k)) k) ++ (if 0 < (o_t (fun k => w_m (a_m (A_v A) b k)) k).length then [nI 32] else []) ++ d_n (a_m (A_v A) b k).1.toNatClampNeg ++ [nI 58] ++ d_n (a_m (A_v A) b k).2.1.toNatClampNeg ++ w_fs (a_m (A_v A) b k).2.2 = o_t (fun k => w_m (a_m (A_v A) b k)) (k + 1) := by show _ = o_j _ (w_m _); unfold o_j w_m; simp only [List.append_assoc, List.cons_append, List.nil_append]
      rw [hfin] at hJ5
      have hih := ih (k + 1) _ hJ5 (by omega) (by omega)
      refine sv_iincN dX3_writeBox_73 rfl (by decide) ?_
      refine sv_goto (tgt := 21) dX3_writeBox_76 (by decide) ?_
      exact hih
  refine sx_body (by decide) (Nat.le_of_ble_eq_true rfl) ?_
  refine sv_aload_n dX3_writeBox_0 rfl ?_
  refine sv_aload_n dX3_writeBox_1 rfl ?_
  refine sv_iload_n dX3_writeBox_2 rfl ?_
  refine sv_cvR _ (ct_isBox hn (m_J_e hJ).1 hJ.2.2.1.1) okX3_isBox kv_X3_189 (sx_rd_c (m_S_0 hn)) rfl dX3_writeBox_3 rfl rfl (by decide) (Nat.le_of_ble_eq_true rfl) ?_
  refine sv_cvR _ (ct_passes hn) okX3_passes kv_X3_266 (sx_rd_c (m_S_0 hn)) rfl dX3_writeBox_6 rfl rfl (by decide) (Nat.le_of_ble_eq_true rfl) ?_
  refine sv_if_neB (tgt := 14) dX3_writeBox_9 (by decide) (fun c9 => ?_) (fun c9 => ?_)
  · have hJ0 := m_J_t hJ 0
    unfold sp_wbx
    rw [g_1t c9, t_hr_1 c9]
    have hb3 := hJ.2.2.1.1.1
    obtain ⟨j, hj, rfl⟩ := i_in_of (by omega) c9
    have ej : (nI j).toNatClampNeg = j := nI_clamp (by omega)
    rw [ej]
    have hml := hJ.2.2.1.1.2.2 j hj
    refine sv_aload_n dX3_writeBox_14 rfl ?_
    refine sv_iconst (nI 0) dX3_writeBox_15 (by decide +kernel) ?_
    refine sm_put hn fp_X3_519 dX3_writeBox_16 rfl (by decide) ?_
    have hJ2 := m_J_o0 hJ0
    refine sv_iconst (nI 0) dX3_writeBox_19 (by decide +kernel) ?_
    refine sv_istore_n dX3_writeBox_20 (by decide) ?_
    exact loop j t (A_st A 0) ho ht6 hj hml 31 0 _ hJ2 (by omega) (by show (a_ms (A_v A) j).length + 1 ≤ _; omega)
  · unfold sp_wbx
    rw [g_1f c9]
    refine sv_iconst (nI 0) dX3_writeBox_12 (by decide +kernel) ?_
    refine sv_iret rfl rfl dX3_writeBox_13 ?_
    exact ⟨_, rfl, r_I nI_0, _, rfl, m_J_t hJ _⟩
end MRX
