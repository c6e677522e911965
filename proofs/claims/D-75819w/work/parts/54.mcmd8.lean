set_option maxRecDepth 100000
section MRR
variable {G : sx_G} {h : Nat} {M : m_M} {σ : sx_St} {V : a_V} {A : a_A} {r r' : Nat → Int64} {t : Nat}
def x_cpy (A : a_A) (s f u b : Nat) : Int32 × a_A := (nI (a_mf (A_v (s_be A s)) s f u).length, s_en (A_sv (s_be A s) (v_cs (A_v (s_be A s)) b (a_mf (A_v (s_be A s)) s f u))) s true)
def sp_cpy (A : a_A) (s k l b : Int32) : Int32 × a_A := g_3 (a_X (A_v A) s k l b) (decide (k ≤ l)) (a_Z (A_v A) s k l b (a_can (A_v A) s)) A (x_cpy (A_st A 0) s.toNatClampNeg (k.toNatClampNeg - 1) l.toNatClampNeg b.toNatClampNeg)
def v_mv (V : a_V) (s f u b : Nat) : a_V := v_bm (v_cs V b (a_mf V s f u)) (a_bs V s) ((a_ms (v_cs V b (a_mf V s f u)) (a_bs V s)).filter (fun y => !(r_g (a_es V s) f u y)))
def x_mov (A : a_A) (s f u b : Nat) : Int32 × a_A := (nI (a_mf (A_v (s_be A s)) s f u).length, s_en (A_sv (s_be A s) (v_mv (A_v (s_be A s)) s f u b)) s true)
def sp_mov (A : a_A) (s k l b : Int32) : Int32 × a_A := g_3 (a_X (A_v A) s k l b) (decide (k ≤ l)) (a_Z (A_v A) s k l b (a_chg (A_v A) s)) A (x_mov (A_st A 0) s.toNatClampNeg (k.toNatClampNeg - 1) l.toNatClampNeg b.toNatClampNeg)
theorem be_mo {s u k : Nat} (hs : s < (A_v A).2.2.length) : a_mo (A_v (s_be A s)) u k = a_mo (A_v A) u k := by
  unfold a_mo a_e
  rw [be_bx _ _ hs, show a_es (A_v (s_be A s)) u = a_es (A_v A) u from v_ac_es hs]
  rfl
theorem be_th {s u f n : Nat} (hs : s < (A_v A).2.2.length) : a_th (A_v (s_be A s)) u f n = a_th (A_v A) u f n := by
  unfold a_th a_go
  simp only [be_mo hs]
theorem er_find {L : List a_M} {u : Int32} (hL : L_lt L) (hx : ∃ x ∈ L, x.1 = u) : ∃ i, i < L.length ∧ a_find L u = some i ∧ L.eraseIdx i = L.filter (fun y => !(y.1 == u)) := by
  cases hf : a_find L u with
  | none =>
    obtain ⟨x, h1, h2⟩ := hx
    exact absurd h2 (a_find_n hf x h1)
  | some i =>
    refine ⟨i, a_find_lt hf, rfl, ?_⟩
    obtain ⟨pre, x, post, rfl, rfl, hx, hp⟩ := a_find_s hf
    have h2 := (L_split hL).2
    rw [er_mid, List.filter_append, List.filter_cons_of_neg (by simp [hx])]
    rw [List.filter_eq_self.mpr (fun y hy => by simpa using hp y hy), List.filter_eq_self.mpr (fun y hy => by have := Int32.ne_of_lt (h2 y hy); rw [hx] at this; simpa using this.symm)]
def q_k (F : List a_M) (k : Nat) (y : a_M) : Bool := !((F.take k).any (fun m => m.1 == y.1))
theorem q_k_s {F : List a_M} {k : Nat} (hk : k < F.length) (y : a_M) : q_k F (k + 1) y = ((!(y.1 == (F.getD k (0, 0, 0)).1)) && q_k F k y) := by
  unfold q_k
  rw [List.take_add_one, List.getElem?_eq_getElem hk, List.getD_eq_getElem?_getD, List.getElem?_eq_getElem hk, List.any_append]
  show (!(_ || List.any [F[k]] _)) = (!(y.1 == F[k].1) && _)
  rw [show List.any [F[k]] (fun m => m.1 == y.1) = (y.1 == F[k].1) from by simp [List.any_cons, BEq.comm], Bool.not_or, Bool.and_comm]
theorem q_k_l {L F : List a_M} {k : Nat} (hk : k < F.length) : L.filter (q_k F (k + 1)) = (L.filter (q_k F k)).filter (fun y => !(y.1 == (F.getD k (0, 0, 0)).1)) := by
  rw [List.filter_filter]
  exact List.filter_congr (fun y _ => q_k_s hk y)
theorem L_sub {L L' : List a_M} (h : L_lt L) (hs : L'.Sublist L) : L_lt L' := List.Pairwise.sublist hs h
/-- what a move leaves -/
theorem mv_fin (ho : o_V t V) (ht : t ≤ 1000) {s c b f u : Nat} (hs : s < V.2.2.length) (hbx : a_bx V s = some c) (hc : c < V.2.1.length) (hl : (a_mf V s f u).length ≤ 60) : (a_ms (v_cs V b (a_mf V s f u)) c).filter (q_k (a_mf V s f u) (a_mf V s f u).length) = (a_ms (v_cs V b (a_mf V s f u)) c).filter (fun y => !(r_g (a_es V s) f u y)) := by
  have hE : E_lt (a_es V s) := (ho.2.2 s hs).1.2.1
  refine List.filter_congr (fun y hy => ?_)
  unfold q_k
  rw [List.take_length]
  congr 1
  rw [Bool.eq_iff_iff, List.any_eq_true, r_g_iff hE]
  obtain ⟨l', h1, h2⟩ := v_cs_ms (V := V) (b := b) (c := c) (l := a_mf V s f u)
  constructor
  · rintro ⟨m, hm, he⟩
    rw [a_mf_e hbx, List.mem_filter, r_g_iff hE] at hm
    obtain ⟨_, i, g1, g2, g3, g4⟩ := hm
    exact ⟨i, g1, g2, g3, g4.trans (by simpa using he)⟩
  · rintro ⟨i, g1, g2, g3, g4⟩
    rw [h1] at hy
    rcases List.mem_append.mp hy with g | g
    · refine ⟨y, ?_, by simp⟩
      rw [a_mf_e hbx, List.mem_filter, r_g_iff hE]
      exact ⟨g, i, g1, g2, g3, g4⟩
    · exfalso
      obtain ⟨k, w1, w2⟩ := h2 y g
      have w3 := (o_far ho ht hc (show k ≤ 60 by omega)).1
      have w4 : ((a_es V s).getD i (0, 0)).1 < (a_b V c).2.1 := o_uid ho hs hbx g3
      rw [g4, w2] at w4
      exact Int32.lt_irrefl (Int32.lt_of_lt_of_le w4 w3)
theorem mf_mem (ho : o_V t V) {s c f u : Nat} (hbx : a_bx V s = some c) {k : Nat} (hk : k < (a_mf V s f u).length) : (a_mf V s f u).getD k (0, 0, 0) ∈ a_ms V c := by
  have := gd_mem hk
  rw [a_mf_e hbx] at this ⊢
  exact (List.mem_filter.mp this).1
theorem mf_lt (ho : o_V t V) {s c f u : Nat} (hbx : a_bx V s = some c) (hc : c < V.2.1.length) : L_lt (a_mf V s f u) := by
  rw [a_mf_e hbx]
  exact L_sub (ho.2.1 c hc).2.2.1 List.filter_sublist
theorem mf_q {F : List a_M} (hF : L_lt F) {k : Nat} (hk : k < F.length) : q_k F k (F.getD k (0, 0, 0)) = true := by
  unfold q_k
  rw [Bool.not_eq_true', List.any_eq_false]
  intro m hm
  obtain ⟨i, hi, rfl⟩ := List.mem_iff_getElem.mp hm
  rw [List.length_take] at hi
  rw [List.getElem_take, List.getD_eq_getElem?_getD, List.getElem?_eq_getElem hk]
  have := List.pairwise_iff_getElem.mp hF i k (by omega) hk (by omega)
  have := Int32.ne_of_lt this
  simpa using this
theorem mf_sz (ho : o_V t V) {s c f u : Nat} (hbx : a_bx V s = some c) (hc : c < V.2.1.length) : ∀ m ∈ a_mf V s f u, 1 ≤ m.2.1.toInt ∧ m.2.1.toInt ≤ 9999 := by
  intro m hm
  rw [a_mf_e hbx] at hm
  have := (ho.2.1 c hc).2.1 m (List.mem_filter.mp hm).1
  exact this.2.2
theorem v_bm_W {b : Nat} {L : List a_M} (hw : w_V V) (hl : L.length ≤ 30) : w_V (v_bm V b L) := w_V_b hw hl
theorem ct_copy (hn : h + 11 < sx_n σ) (hJ : m_J M A) (ho : o_V t (A_v A)) (ht6 : t ≤ 1000) {s k l b : Int32} : sx_Cp G 12 YX3_copy [.ref h, .int s, .int k, .int l, .int b] (m_S G h M σ) (fun v τ => v = some (.int ((sp_cpy A s k l b).1)) ∧ ∃ M2, τ = m_S G h M2 σ ∧ m_J M2 ((sp_cpy A s k l b).2)) := by
  refine sx_body (by decide) (Nat.le_of_ble_eq_true rfl) ?_
  refine sv_aload_n dX3_copy_0 rfl ?_
  refine sv_iload_n dX3_copy_1 rfl ?_
  refine sv_iload_n dX3_copy_2 rfl ?_
  refine sv_iload_n dX3_copy_3 rfl ?_
  refine sv_iload dX3_copy_4 rfl ?_
  refine sv_aload_n dX3_copy_6 rfl ?_
  refine sv_iload_n dX3_copy_7 rfl ?_
  refine sv_cvR _ (ct_canDo hn (m_J_e hJ) hJ.2.2.1) okX3_canDo kv_X3_169 (sx_rd_c (m_S_0 hn)) rfl dX3_copy_8 rfl rfl (by decide) (Nat.le_of_ble_eq_true rfl) ?_
  refine sv_cvR _ (ct_asksCopy (can := a_can (A_v A) s) hn (m_J_e hJ) hJ.2.2.1) okX3_asksCopy kv_X3_256 (sx_rd_c (m_S_0 hn)) rfl dX3_copy_11 rfl rfl (by decide) (Nat.le_of_ble_eq_true rfl) ?_
  refine sv_if_neB (tgt := 19) dX3_copy_14 (by decide) (fun c14 => ?_) (fun c14 => ?_)
  · have hA := c14
    simp only [Bool.and_eq_true] at hA
    have hX := hA.1
    unfold a_X at hX
    rw [Bool.and_eq_true] at hX
    obtain ⟨j, f, u, hj, hf, hu, rfl, rfl, rfl, ej, ek, el⟩ := a_are_of hJ.2.2.1 hX.1
    have hb3 := hJ.2.2.1.1.1
    have hs4 := hJ.2.2.1.1.2.1
    obtain ⟨b, hb, rfl⟩ := i_in_of (by omega) hX.2
    have eb : (nI b).toNatClampNeg = b := nI_clamp (by omega)
    have hZ := hA.2.2
    unfold a_Z at hZ
    rw [Bool.and_eq_true, Bool.and_eq_true (a_can _ _)] at hZ
    obtain ⟨j2, c, _, e2, ej2, hbx, hc, hid⟩ := a_can_of hJ.2.2.1 hZ.2.1
    rw [ej] at ej2
    subst ej2
    have hel := hJ.2.2.1.2.1 j hj
    have hfu : f ≤ u := by have := of_decide_eq_true hA.2.1; rw [nI_leI (by omega) (by omega)] at this; omega
    have hrm := hZ.2.2
    rw [ej, ek, el, eb, Nat.add_sub_cancel] at hrm
    have hsp : sp_cpy A (nI j) (nI (f + 1)) (nI (u + 1)) (nI b) = x_cpy (A_st A 0) j f (u + 1) b := by unfold sp_cpy; rw [g_3t c14, ej, ek, el, eb]; rfl
    rw [hsp]
    rw [t_hr_3 c14]
    have hJ0 := m_J_t hJ 0
    refine sv_aload_n dX3_copy_19 rfl ?_
    refine sv_iload_n dX3_copy_20 rfl ?_
    refine sv_cvP _ (ct_begins hn hJ0 hj) okX3_begins kv_X3_196 (sx_rd_c (m_S_0 hn)) rfl dX3_copy_21 rfl rfl (by decide) (Nat.le_of_ble_eq_true rfl) ?_
    intro v1 t1 hp1
    obtain ⟨rfl, M1, rfl, hJ1⟩ := hp1
    have hj1 : j < (A_v (s_be (A_st A 0) j)).2.2.length := by rw [be_len]; exact hj
    have hbx1 : a_bx (A_v (s_be (A_st A 0) j)) j = some c := (be_bx _ _ hj).trans hbx
    have ho1 := be_o (A := A_st A 0) ho j hj
    have hu1 : u + 1 ≤ (a_es (A_v (s_be (A_st A 0) j)) j).length := by rw [show a_es (A_v (s_be (A_st A 0) j)) j = a_es (A_v A) j from v_ac_es hj]; omega
    have hrm1 : a_room (A_v (s_be (A_st A 0) j)) b (a_th (A_v (s_be (A_st A 0) j)) j f (u + 1 - f)) = true := by rw [be_th (A := A_st A 0) hj]; exact hrm
    refine sv_aload_n dX3_copy_24 rfl ?_
    refine sv_iload_n dX3_copy_25 rfl ?_
    refine sv_iconst (nI 1) dX3_copy_26 (by decide +kernel) ?_
    refine sv_topI (y := b_I true) rfl ?_
    refine sv_aload_n dX3_copy_27 rfl ?_
    refine sv_iload_n dX3_copy_28 rfl ?_
    refine sv_iload_n dX3_copy_29 rfl ?_
    refine sv_iload_n dX3_copy_30 rfl ?_
    refine sv_iload dX3_copy_31 rfl ?_
    refine sv_cvP _ (ct_copies hn hJ1 ho1 ht6 hj1 hbx1 hb (by omega) hu1 hrm1) okX3_copies kv_X3_260 (sx_rd_c (m_S_0 hn)) rfl dX3_copy_33 rfl rfl (by decide) (Nat.le_of_ble_eq_true rfl) ?_
    intro v2 t2 hp2
    obtain ⟨rfl, M2, rfl, hJ2, hcp2⟩ := hp2
    refine sv_cvP _ (ct_done_t hn hJ2 hj1 (by show 0 + 700 ≤ 1000; omega)) okX3_done kv_X3_214 (sx_rd_c (m_S_0 hn)) rfl dX3_copy_36 rfl rfl (by decide) (Nat.le_of_ble_eq_true rfl) ?_
    intro v3 t3 hp3
    obtain ⟨rfl, M3, rfl, hJ3⟩ := hp3
    refine sv_iret rfl rfl dX3_copy_39 ?_
    exact ⟨_, rfl, rfl, M3, rfl, hJ3⟩
  · unfold sp_cpy
    rw [g_3f c14]
    refine sv_iconst (nI 0) dX3_copy_17 (by decide +kernel) ?_
    refine sv_iret rfl rfl dX3_copy_18 ?_
    exact ⟨_, rfl, r_I nI_0, _, rfl, m_J_t hJ _⟩
theorem ct_move (hn : h + 11 < sx_n σ) (hJ : m_J M A) (ho : o_V t (A_v A)) (ht6 : t ≤ 1000) {s k l b : Int32} : sx_Cp G 12 YX3_move [.ref h, .int s, .int k, .int l, .int b] (m_S G h M σ) (fun v τ => v = some (.int ((sp_mov A s k l b).1)) ∧ ∃ M2, τ = m_S G h M2 σ ∧ m_J M2 ((sp_mov A s k l b).2)) := by
  have loop : ∀ (s c b f u t : Nat) (x1 x2 x3 : Int32) A, o_V t (A_v A) → t ≤ 1000 → s < (A_v A).2.2.length → a_bx (A_v A) s = some c → c < (A_v A).2.1.length → b < (A_v A).2.1.length → (a_mf (A_v A) s f u).length ≤ 30 → (A_n A).length + 700 ≤ 1000 → ∀ q k M, m_J M (A_sv A (v_bm (v_cs (A_v A) b (a_mf (A_v A) s f u)) c ((a_ms (v_cs (A_v A) b (a_mf (A_v A) s f u)) c).filter (q_k (a_mf (A_v A) s f u) k)))) → (∀ j, j < (a_mf (A_v A) s f u).length → M.2.2.2 1 j = ((a_mf (A_v A) s f u).getD j (0, 0, 0)).1) → k ≤ (a_mf (A_v A) s f u).length → (a_mf (A_v A) s f u).length + 1 ≤ k + q → sx_V G 12 YX3_move 38 [some (.ref h), some (.int (nI s)), some (.int x1), some (.int x2), some (.int x3), some (.int (nI (a_mf (A_v A) s f u).length)), some (.int (nI k))] [] (m_S G h M σ) (fun o τ => ∃ v, o = .inl v ∧ v = some (.int (nI (a_mf (A_v A) s f u).length)) ∧ ∃ M2, τ = m_S G h M2 σ ∧ m_J M2 (s_en (A_sv A (v_mv (A_v A) s f u b)) s true)) := by
    intro s c b f u t x1 x2 x3 A ho ht6 hs hbx hc hb hFl hnl q
    induction q with
    | zero => intro k M hJ hcp g1 g2; exact absurd g2 (by omega)
    | succ q ih =>
    intro k M hJ hcp g1 g2
    have hb3 := hJ.2.2.1.1.1
    have hs4 := hJ.2.2.1.1.2.1
    have hc1 : c < (v_cs (A_v A) b (a_mf (A_v A) s f u)).2.1.length := Nat.lt_of_lt_of_eq hc (a_ub_n _ _ _).symm
    have hcV : c < (A_v (A_sv A (v_bm (v_cs (A_v A) b (a_mf (A_v A) s f u)) c ((a_ms (v_cs (A_v A) b (a_mf (A_v A) s f u)) c).filter (q_k (a_mf (A_v A) s f u) k))))).2.1.length := Nat.lt_of_lt_of_eq hc1 v_bm_n.symm
    have hmsV : a_ms (A_v (A_sv A (v_bm (v_cs (A_v A) b (a_mf (A_v A) s f u)) c ((a_ms (v_cs (A_v A) b (a_mf (A_v A) s f u)) c).filter (q_k (a_mf (A_v A) s f u) k))))) c = (a_ms (v_cs (A_v A) b (a_mf (A_v A) s f u)) c).filter (q_k (a_mf (A_v A) s f u) k) := v_bm_ms hc1
    have hml := hJ.2.2.1.1.2.2 c hcV
    have ho1 := o_V_cs (b := b) ho ht6 hb (l := (a_mf (A_v A) s f u)) (by omega) (mf_sz ho hbx hc)
    have hL1 : L_lt (a_ms (v_cs (A_v A) b (a_mf (A_v A) s f u)) c) := (ho1.2.1 c hc1).2.2.1
    have hLk : L_lt ((a_ms (v_cs (A_v A) b (a_mf (A_v A) s f u)) c).filter (q_k (a_mf (A_v A) s f u) k)) := L_sub hL1 List.filter_sublist
    refine sv_iload dX3_move_38 rfl ?_
    refine sv_iload dX3_move_40 rfl ?_
    refine sv_icmp_geN (tgt := 76) dX3_move_42 (by decide) (by omega) (by omega) (fun c42 => ?_) (fun c42 => ?_)
    · have hke : k = (a_mf (A_v A) s f u).length := by omega
      subst hke
      have hvm : v_bm (v_cs (A_v A) b (a_mf (A_v A) s f u)) c ((a_ms (v_cs (A_v A) b (a_mf (A_v A) s f u)) c).filter (q_k (a_mf (A_v A) s f u) (a_mf (A_v A) s f u).length)) = v_mv (A_v A) s f u b := by rw [mv_fin ho ht6 hs hbx hc (by omega)]; unfold v_mv; rw [a_bs_e hbx]
      rw [hvm] at hJ
      refine sv_aload_n dX3_move_76 rfl ?_
      refine sv_iload_n dX3_move_77 rfl ?_
      refine sv_iconst (nI 1) dX3_move_78 (by decide +kernel) ?_
      refine sv_topI (y := b_I true) rfl ?_
      refine sv_iload dX3_move_79 rfl ?_
      refine sv_cvP _ (ct_done_t hn hJ hs hnl) okX3_done kv_X3_214 (sx_rd_c (m_S_0 hn)) rfl dX3_move_81 rfl rfl (by decide) (Nat.le_of_ble_eq_true rfl) ?_
      intro v3 t3 hp3
      obtain ⟨rfl, M3, rfl, hJ3⟩ := hp3
      refine sv_iret rfl rfl dX3_move_84 ?_
      exact ⟨_, rfl, rfl, M3, rfl, hJ3⟩
    · have hk : k < (a_mf (A_v A) s f u).length := by omega
      obtain ⟨i, hi, hfi, her⟩ := er_find (u := ((a_mf (A_v A) s f u).getD k (0, 0, 0)).1) hLk ⟨_, List.mem_filter.mpr ⟨by obtain ⟨l2, h1, _⟩ := v_cs_ms (V := A_v A) (b := b) (c := c) (l := (a_mf (A_v A) s f u)); rw [h1]; exact List.mem_append_left _ (mf_mem ho hbx hk), mf_q (mf_lt ho hbx hc) hk⟩, rfl⟩
      rw [← q_k_l hk] at her
      rw [← hmsV] at hi hfi her
      refine sv_aload_n dX3_move_45 rfl ?_
      refine sv_aload_n dX3_move_46 rfl ?_
      refine sv_iload_n dX3_move_47 rfl ?_
      refine sv_cvR _ (ct_boxOf hn (m_J_e hJ) hJ.2.2.1 hs) okX3_boxOf kv_X3_87 (sx_rd_c (m_S_0 hn)) rfl dX3_move_48 rfl rfl (by decide) (Nat.le_of_ble_eq_true rfl) ?_
      rw [show a_bx (A_v (A_sv A (v_bm (v_cs (A_v A) b (a_mf (A_v A) s f u)) c ((a_ms (v_cs (A_v A) b (a_mf (A_v A) s f u)) c).filter (q_k (a_mf (A_v A) s f u) k))))) s = some c from hbx]
      show sx_V G 12 _ _ _ (.int (nI c) :: _) _ _
      refine sv_aload_n dX3_move_51 rfl ?_
      refine sv_aload_n dX3_move_52 rfl ?_
      refine sv_iload_n dX3_move_53 rfl ?_
      refine sv_cvR _ (ct_boxOf hn (m_J_e hJ) hJ.2.2.1 hs) okX3_boxOf kv_X3_87 (sx_rd_c (m_S_0 hn)) rfl dX3_move_54 rfl rfl (by decide) (Nat.le_of_ble_eq_true rfl) ?_
      rw [show a_bx (A_v (A_sv A (v_bm (v_cs (A_v A) b (a_mf (A_v A) s f u)) c ((a_ms (v_cs (A_v A) b (a_mf (A_v A) s f u)) c).filter (q_k (a_mf (A_v A) s f u) k))))) s = some c from hbx]
      show sx_V G 12 _ _ _ (.int (nI c) :: _) _ _
      refine sv_aload_n dX3_move_57 rfl ?_
      refine sm_get hn fg_X3_31 dX3_move_58 rfl ?_
      refine sv_iload dX3_move_61 rfl ?_
      refine sm_b1ld hn dX3_move_63 (by omega) ?_
      refine sv_topI (y := ((a_mf (A_v A) s f u).getD k (0, 0, 0)).1) (hcp k hk) ?_
      refine sv_cvR _ (ct_withUid hn (m_J_e hJ).1 hJ.2.2.1.1 hcV) okX3_withUid kv_X3_110 (sx_rd_c (m_S_0 hn)) rfl dX3_move_64 rfl rfl (by decide) (Nat.le_of_ble_eq_true rfl) ?_
      rw [hfi]
      show sx_V G 12 _ _ _ (.int (nI i) :: _) _ _
      refine sv_cvR _ (ct_removeMessage (n := (a_ms (A_v (A_sv A (v_bm (v_cs (A_v A) b (a_mf (A_v A) s f u)) c ((a_ms (v_cs (A_v A) b (a_mf (A_v A) s f u)) c).filter (q_k (a_mf (A_v A) s f u) k))))) c).length) hn hJ.1 (by omega) hi (by omega) (hJ.2.1.1.2.2.2 c hcV).2.1) okX3_removeMessage kv_X3_238 (sx_rd_c (m_S_0 hn)) rfl dX3_move_67 rfl rfl (by decide) (Nat.le_of_ble_eq_true rfl) ?_
      have hJ3 := m_J_a hJ (e_V_rm hJ.2.2.1 hcV hi hJ.2.1) (w_V_rm hJ.2.2.1 hcV)
      rw [her, show v_bm (A_v (A_sv A (v_bm (v_cs (A_v A) b (a_mf (A_v A) s f u)) c ((a_ms (v_cs (A_v A) b (a_mf (A_v A) s f u)) c).filter (q_k (a_mf (A_v A) s f u) k))))) c ((a_ms (v_cs (A_v A) b (a_mf (A_v A) s f u)) c).filter (q_k (a_mf (A_v A) s f u) (k + 1))) = v_bm (v_cs (A_v A) b (a_mf (A_v A) s f u)) c ((a_ms (v_cs (A_v A) b (a_mf (A_v A) s f u)) c).filter (q_k (a_mf (A_v A) s f u) (k + 1))) from v_bm_bm hc1] at hJ3
      refine sv_iincN dX3_move_70 rfl (by decide) ?_
      refine sv_goto (tgt := 38) dX3_move_73 (by decide) ?_
      exact ih (k + 1) _ hJ3 hcp (by omega) (by omega)
  refine sx_body (by decide) (Nat.le_of_ble_eq_true rfl) ?_
  refine sv_aload_n dX3_move_0 rfl ?_
  refine sv_iload_n dX3_move_1 rfl ?_
  refine sv_iload_n dX3_move_2 rfl ?_
  refine sv_iload_n dX3_move_3 rfl ?_
  refine sv_iload dX3_move_4 rfl ?_
  refine sv_aload_n dX3_move_6 rfl ?_
  refine sv_iload_n dX3_move_7 rfl ?_
  refine sv_cvR _ (ct_canChange hn (m_J_e hJ) hJ.2.2.1) okX3_canChange kv_X3_231 (sx_rd_c (m_S_0 hn)) rfl dX3_move_8 rfl rfl (by decide) (Nat.le_of_ble_eq_true rfl) ?_
  refine sv_cvR _ (ct_asksCopy (can := a_chg (A_v A) s) hn (m_J_e hJ) hJ.2.2.1) okX3_asksCopy kv_X3_256 (sx_rd_c (m_S_0 hn)) rfl dX3_move_11 rfl rfl (by decide) (Nat.le_of_ble_eq_true rfl) ?_
  refine sv_if_neB (tgt := 19) dX3_move_14 (by decide) (fun c14 => ?_) (fun c14 => ?_)
  · have hA := c14
    simp only [Bool.and_eq_true] at hA
    have hX := hA.1
    unfold a_X at hX
    rw [Bool.and_eq_true] at hX
    obtain ⟨j, f, u, hj, hf, hu, rfl, rfl, rfl, ej, ek, el⟩ := a_are_of hJ.2.2.1 hX.1
    have hb3 := hJ.2.2.1.1.1
    have hs4 := hJ.2.2.1.1.2.1
    obtain ⟨b, hb, rfl⟩ := i_in_of (by omega) hX.2
    have eb : (nI b).toNatClampNeg = b := nI_clamp (by omega)
    have hZ := hA.2.2
    unfold a_Z at hZ
    rw [Bool.and_eq_true, Bool.and_eq_true (a_chg _ _)] at hZ
    obtain ⟨j2, c, _, e2, ej2, hbx, hc, hid, hrd⟩ := a_chg_of hJ.2.2.1 hZ.2.1
    rw [ej] at ej2
    subst ej2
    have hel := hJ.2.2.1.2.1 j hj
    have hfu : f ≤ u := by have := of_decide_eq_true hA.2.1; rw [nI_leI (by omega) (by omega)] at this; omega
    have hrm := hZ.2.2
    rw [ej, ek, el, eb, Nat.add_sub_cancel] at hrm
    have hsp : sp_mov A (nI j) (nI (f + 1)) (nI (u + 1)) (nI b) = x_mov (A_st A 0) j f (u + 1) b := by unfold sp_mov; rw [g_3t c14, ej, ek, el, eb]; rfl
    rw [hsp]
    rw [t_hr_3 c14]
    have hJ0 := m_J_t hJ 0
    refine sv_aload_n dX3_move_19 rfl ?_
    refine sv_iload_n dX3_move_20 rfl ?_
    refine sv_cvP _ (ct_begins hn hJ0 hj) okX3_begins kv_X3_196 (sx_rd_c (m_S_0 hn)) rfl dX3_move_21 rfl rfl (by decide) (Nat.le_of_ble_eq_true rfl) ?_
    intro v1 t1 hp1
    obtain ⟨rfl, M1, rfl, hJ1⟩ := hp1
    have hj1 : j < (A_v (s_be (A_st A 0) j)).2.2.length := by rw [be_len]; exact hj
    have hbx1 : a_bx (A_v (s_be (A_st A 0) j)) j = some c := (be_bx _ _ hj).trans hbx
    have ho1 := be_o (A := A_st A 0) ho j hj
    have hu1 : u + 1 ≤ (a_es (A_v (s_be (A_st A 0) j)) j).length := by rw [show a_es (A_v (s_be (A_st A 0) j)) j = a_es (A_v A) j from v_ac_es hj]; omega
    have hrm1 : a_room (A_v (s_be (A_st A 0) j)) b (a_th (A_v (s_be (A_st A 0) j)) j f (u + 1 - f)) = true := by rw [be_th (A := A_st A 0) hj]; exact hrm
    refine sv_aload_n dX3_move_24 rfl ?_
    refine sv_iload_n dX3_move_25 rfl ?_
    refine sv_iload_n dX3_move_26 rfl ?_
    refine sv_iload_n dX3_move_27 rfl ?_
    refine sv_iload dX3_move_28 rfl ?_
    refine sv_cvP _ (ct_copies hn hJ1 ho1 ht6 hj1 hbx1 hb (by omega) hu1 hrm1) okX3_copies kv_X3_260 (sx_rd_c (m_S_0 hn)) rfl dX3_move_30 rfl rfl (by decide) (Nat.le_of_ble_eq_true rfl) ?_
    intro v2 t2 hp2
    obtain ⟨rfl, M2, rfl, hJ2, hcp2⟩ := hp2
    refine sv_istore dX3_move_33 (by decide) ?_
    refine sv_iconst (nI 0) dX3_move_35 (by decide +kernel) ?_
    refine sv_istore dX3_move_36 (by decide) ?_
    have hFl : (a_mf (A_v (s_be (A_st A 0) j)) j f (u + 1)).length ≤ 30 := by rcases Nat.eq_zero_or_pos (a_mf (A_v (s_be (A_st A 0) j)) j f (u + 1)).length with q | q; omega; have hth := th_fl (f := f) ho1 hj1 hbx1 hc (u + 1 - f) (by omega); rw [show f + (u + 1 - f) = u + 1 by omega, ← a_mf_e hbx1] at hth; have hml : (a_ms (A_v (s_be (A_st A 0) j)) b).length ≤ 30 := hJ1.2.2.1.1.2.2 b hb; have := room_lt ho1 hml (by have := a_th_le (A_v (s_be (A_st A 0) j)) j f (u + 1 - f); omega) hrm1 (by rw [hth]; exact q); omega
    have hlo := loop j c b f (u + 1) t (nI (f + 1)) (nI (u + 1)) (nI b) (s_be (A_st A 0) j) ho1 ht6 hj1 hbx1 hc hb hFl (by show 0 + 700 ≤ 1000; omega) 31 0 M2 (by rw [show (a_ms (v_cs (A_v (s_be (A_st A 0) j)) b (a_mf (A_v (s_be (A_st A 0) j)) j f (u + 1))) c).filter (q_k (a_mf (A_v (s_be (A_st A 0) j)) j f (u + 1)) 0) = a_ms (v_cs (A_v (s_be (A_st A 0) j)) b (a_mf (A_v (s_be (A_st A 0) j)) j f (u + 1))) c from List.filter_eq_self.mpr (fun y _ => rfl), v_bm_id (V := v_cs (A_v (s_be (A_st A 0) j)) b (a_mf (A_v (s_be (A_st A 0) j)) j f (u + 1))) (Nat.lt_of_lt_of_eq hc (a_ub_n _ _ _).symm)]; exact hJ2) hcp2 (by omega) (by omega)
    exact hlo
  · unfold sp_mov
    rw [g_3f c14]
    refine sv_iconst (nI 0) dX3_move_17 (by decide +kernel) ?_
    refine sv_iret rfl rfl dX3_move_18 ?_
    exact ⟨_, rfl, r_I nI_0, _, rfl, m_J_t hJ _⟩
end MRR
