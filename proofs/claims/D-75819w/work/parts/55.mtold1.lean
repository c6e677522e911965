set_option maxRecDepth 100000
section MRS
variable {G : sx_G} {h : Nat} {M : m_M} {σ : sx_St} {V : a_V} {A : a_A} {r r' : Nat → Int64} {t : Nat}
/-- what is gathered in a loop -/
def z_f (g : Int32 → Nat → Int32) : Nat → Int32
  | 0 => 0
  | n + 1 => g (z_f g n) n
def a_all (V : a_V) : Nat → Nat
  | 0 => 0
  | n + 1 => a_all V n + (a_ms V n).length
def a_bit (k : Nat) : Int32 := nI 1 <<< (nI k &&& 31)
def a_szs (V : a_V) (b : Nat) : Int32 := z_f (fun x m => x + (a_m V b m).2.1) (a_ms V b).length
def a_fm (V : a_V) (b : Nat) (f : Int32) : Nat := (a_ms V b).countP (fun m => !(decide (m.2.2 &&& f = 0)))
def a_sel (V : a_V) (b : Int32) : Int32 := z_f (fun x s => x ||| (if o_I (a_bx V s) = b then a_bit s else 0)) V.2.2.length
theorem a_in_of {x hi : Int32} (h : a_in x 0 hi = true) : ∃ w, x = nI w ∧ x.toNatClampNeg = w ∧ (w : Int) ≤ hi.toInt := by
  unfold a_in at h
  have := of_decide_eq_true h
  rw [i64_le, i64_le, Int32.le_iff_toInt_le, Int32.le_iff_toInt_le, show (0 : Int32).toInt = 0 from rfl] at this
  have h2 := Int32.toInt_lt x
  have e : x = nI x.toInt.toNat := by
    apply Int32.toInt_inj.mp
    rw [nI_toInt (by omega)]
    omega
  refine ⟨x.toInt.toNat, e, ?_, by omega⟩
  conv => lhs; rw [e]
  exact nI_clamp (by omega)
theorem a_fm_le (V : a_V) (b : Nat) (f : Int32) : a_fm V b f ≤ (a_ms V b).length := List.countP_le_length
theorem ct_allMessages (hn : h + 11 < sx_n σ) (hE : e_Vb (m_w M) V) (hw : w_Vb V) : sx_Cr G 2 YX3_allMessages [.ref h] (m_S G h M σ) (some (.int (nI (a_all V V.2.1.length)))) (m_S G h M σ) := by
  have loop : ∀ q k, k ≤ V.2.1.length → V.2.1.length + 1 ≤ k + q → sx_V G 2 YX3_allMessages 4 [some (.ref h), some (.int (nI (a_all V k))), some (.int (nI k))] [] (m_S G h M σ) (fun o τ => ∃ v, o = .inl v ∧ v = (some (.int (nI (a_all V V.2.1.length)))) ∧ τ = m_S G h M σ) := by
    have hb3 := hw.1
    intro q
    induction q with
    | zero => intro k h1 h2; exact absurd h2 (by omega)
    | succ q ih =>
    intro k h1 h2
    refine sv_iload_n dX3_allMessages_4 rfl ?_
    refine sv_aload_n dX3_allMessages_5 rfl ?_
    refine sv_cvR _ (ct_boxes hn hE hw) okX3_boxes kv_X3_66 (sx_rd_c (m_S_0 hn)) rfl dX3_allMessages_6 rfl rfl (by decide) (Nat.le_of_ble_eq_true rfl) ?_
    refine sv_icmp_geN (tgt := 26) dX3_allMessages_9 (by decide) (by omega) (by omega) (fun c9 => ?_) (fun c9 => ?_)
    · refine sv_iload_n dX3_allMessages_26 rfl ?_
      refine sv_iret rfl rfl dX3_allMessages_27 ?_
      exact ⟨_, rfl, r_I (by rw [show V.2.1.length = k by omega]), rfl⟩
    · have hk : k < V.2.1.length := by omega
      refine sv_iload_n dX3_allMessages_12 rfl ?_
      refine sv_aload_n dX3_allMessages_13 rfl ?_
      refine sv_iload_n dX3_allMessages_14 rfl ?_
      refine sv_cvR _ (ct_manyIn hn hE hw hk) okX3_manyIn kv_X3_100 (sx_rd_c (m_S_0 hn)) rfl dX3_allMessages_15 rfl rfl (by decide) (Nat.le_of_ble_eq_true rfl) ?_
      refine sv_iaddN dX3_allMessages_18 ?_
      refine sv_istore_n dX3_allMessages_19 (by decide) ?_
      refine sv_iincN dX3_allMessages_20 rfl (by decide) ?_
      refine sv_goto (tgt := 4) dX3_allMessages_23 (by decide) ?_
      exact ih (k + 1) (by omega) (by omega)
  refine sx_body (by decide) (Nat.le_of_ble_eq_true rfl) ?_
  refine sv_iconst (nI 0) dX3_allMessages_0 (by decide +kernel) ?_
  refine sv_istore_n dX3_allMessages_1 (by decide) ?_
  refine sv_iconst (nI 0) dX3_allMessages_2 (by decide +kernel) ?_
  refine sv_istore_n dX3_allMessages_3 (by decide) ?_
  exact loop (V.2.1.length + 1) 0 (by omega) (by omega)
theorem ct_sizesOf (hn : h + 11 < sx_n σ) (hE : e_Vb (m_w M) V) (hw : w_Vb V) {b : Nat} (hb : b < V.2.1.length) : sx_Cr G 3 YX3_sizesOf [.ref h, .int (nI b)] (m_S G h M σ) (some (.int (a_szs V b))) (m_S G h M σ) := by
  have loop : ∀ q k, k ≤ (a_ms V b).length → (a_ms V b).length + 1 ≤ k + q → sx_V G 3 YX3_sizesOf 4 [some (.ref h), some (.int (nI b)), some (.int (z_f (fun x m => x + (a_m V b m).2.1) k)), some (.int (nI k))] [] (m_S G h M σ) (fun o τ => ∃ v, o = .inl v ∧ v = (some (.int (a_szs V b))) ∧ τ = m_S G h M σ) := by
    have hb3 := hw.1
    have hl := hw.2.2 b hb
    intro q
    induction q with
    | zero => intro k h1 h2; exact absurd h2 (by omega)
    | succ q ih =>
    intro k h1 h2
    refine sv_iload_n dX3_sizesOf_4 rfl ?_
    refine sv_aload_n dX3_sizesOf_5 rfl ?_
    refine sv_iload_n dX3_sizesOf_6 rfl ?_
    refine sv_cvR _ (ct_manyIn hn hE hw hb) okX3_manyIn kv_X3_100 (sx_rd_c (m_S_0 hn)) rfl dX3_sizesOf_7 rfl rfl (by decide) (Nat.le_of_ble_eq_true rfl) ?_
    refine sv_icmp_geN (tgt := 29) dX3_sizesOf_10 (by decide) (by omega) (by omega) (fun c10 => ?_) (fun c10 => ?_)
    · refine sv_iload_n dX3_sizesOf_29 rfl ?_
      refine sv_iret rfl rfl dX3_sizesOf_30 ?_
      exact ⟨_, rfl, r_I (by unfold a_szs; rw [show (a_ms V b).length = k by omega]), rfl⟩
    · have hk : k < (a_ms V b).length := by omega
      refine sv_iload_n dX3_sizesOf_13 rfl ?_
      refine sv_aload_n dX3_sizesOf_14 rfl ?_
      refine sv_iload_n dX3_sizesOf_15 rfl ?_
      refine sv_iload_n dX3_sizesOf_16 rfl ?_
      refine sv_iconst (nI 1) dX3_sizesOf_17 (by decide +kernel) ?_
      refine sv_cvR _ (ct_size hn hE hw hb hk) okX3_ofMessage kv_X3_103 (sx_rd_c (m_S_0 hn)) rfl dX3_sizesOf_18 rfl rfl (by decide) (Nat.le_of_ble_eq_true rfl) ?_
      refine sv_iadd dX3_sizesOf_21 ?_
      refine sv_istore_n dX3_sizesOf_22 (by decide) ?_
      refine sv_iincN dX3_sizesOf_23 rfl (by decide) ?_
      refine sv_goto (tgt := 4) dX3_sizesOf_26 (by decide) ?_
      exact ih (k + 1) (by omega) (by omega)
  refine sx_body (by decide) (Nat.le_of_ble_eq_true rfl) ?_
  refine sv_iconst (nI 0) dX3_sizesOf_0 (by decide +kernel) ?_
  refine sv_topI (y := 0) nI_0 ?_
  refine sv_istore_n dX3_sizesOf_1 (by decide) ?_
  refine sv_iconst (nI 0) dX3_sizesOf_2 (by decide +kernel) ?_
  refine sv_istore_n dX3_sizesOf_3 (by decide) ?_
  exact loop ((a_ms V b).length + 1) 0 (by omega) (by omega)
theorem ct_flaggedMany (hn : h + 11 < sx_n σ) (hE : e_Vb (m_w M) V) (hw : w_Vb V) {b : Nat} (hb : b < V.2.1.length) {f : Int32} : sx_Cr G 3 YX3_flaggedMany [.ref h, .int (nI b), .int f] (m_S G h M σ) (some (.int (nI (a_fm V b f)))) (m_S G h M σ) := by
  have loop : ∀ q k, k ≤ (a_ms V b).length → (a_ms V b).length + 1 ≤ k + q → sx_V G 3 YX3_flaggedMany 5 [some (.ref h), some (.int (nI b)), some (.int f), some (.int (nI ((List.range k).countP (fun j => !(decide ((a_m V b j).2.2 &&& f = 0)))))), some (.int (nI k))] [] (m_S G h M σ) (fun o τ => ∃ v, o = .inl v ∧ v = (some (.int (nI (a_fm V b f)))) ∧ τ = m_S G h M σ) := by
    have hb3 := hw.1
    have hl := hw.2.2 b hb
    intro q
    induction q with
    | zero => intro k h1 h2; exact absurd h2 (by omega)
    | succ q ih =>
    intro k h1 h2
    refine sv_iload dX3_flaggedMany_5 rfl ?_
    refine sv_aload_n dX3_flaggedMany_7 rfl ?_
    refine sv_iload_n dX3_flaggedMany_8 rfl ?_
    refine sv_cvR _ (ct_manyIn hn hE hw hb) okX3_manyIn kv_X3_100 (sx_rd_c (m_S_0 hn)) rfl dX3_flaggedMany_9 rfl rfl (by decide) (Nat.le_of_ble_eq_true rfl) ?_
    refine sv_icmp_geN (tgt := 42) dX3_flaggedMany_12 (by decide) (by omega) (by omega) (fun c12 => ?_) (fun c12 => ?_)
    · refine sv_iload_n dX3_flaggedMany_42 rfl ?_
      refine sv_iret rfl rfl dX3_flaggedMany_43 ?_
      exact ⟨_, rfl, r_I (congrArg nI (by rw [show k = (a_ms V b).length by omega]; exact (countP_gd (ms := a_ms V b) (fun m => !(decide (m.2.2 &&& f = 0)))).symm)), rfl⟩
    · have hk : k < (a_ms V b).length := by omega
      refine sv_iload_n dX3_flaggedMany_15 rfl ?_
      refine sv_aload_n dX3_flaggedMany_16 rfl ?_
      refine sv_iload_n dX3_flaggedMany_17 rfl ?_
      refine sv_iload dX3_flaggedMany_18 rfl ?_
      refine sv_iconst (nI 2) dX3_flaggedMany_20 (by decide +kernel) ?_
      refine sv_cvR _ (ct_flags hn hE hw hb hk) okX3_ofMessage kv_X3_103 (sx_rd_c (m_S_0 hn)) rfl dX3_flaggedMany_21 rfl rfl (by decide) (Nat.le_of_ble_eq_true rfl) ?_
      refine sv_iload_n dX3_flaggedMany_24 rfl ?_
      refine sv_iand dX3_flaggedMany_25 ?_
      refine sv_if_eq (tgt := 33) dX3_flaggedMany_26 (by decide) (fun c26 => ?_) (fun c26 => ?_)
      · have hin : (!(decide ((a_m V b k).2.2 &&& f = 0))) = false := by rw [decide_eq_true c26]; rfl
        refine sv_iconst (nI 0) dX3_flaggedMany_33 (by decide +kernel) ?_
        refine sv_iaddN dX3_flaggedMany_34 ?_
        refine sv_istore_n dX3_flaggedMany_35 (by decide) ?_
        refine sv_iincN dX3_flaggedMany_36 rfl (by decide) ?_
        refine sv_goto (tgt := 5) dX3_flaggedMany_39 (by decide) ?_
        have hih := ih (k + 1) (by omega) (by omega)
        rw [countP_rs, hin] at hih
        exact hih
      · have hin : (!(decide ((a_m V b k).2.2 &&& f = 0))) = true := by rw [decide_eq_false c26]; rfl
        refine sv_iconst (nI 1) dX3_flaggedMany_29 (by decide +kernel) ?_
        refine sv_goto (tgt := 34) dX3_flaggedMany_30 (by decide) ?_
        refine sv_iaddN dX3_flaggedMany_34 ?_
        refine sv_istore_n dX3_flaggedMany_35 (by decide) ?_
        refine sv_iincN dX3_flaggedMany_36 rfl (by decide) ?_
        refine sv_goto (tgt := 5) dX3_flaggedMany_39 (by decide) ?_
        have hih := ih (k + 1) (by omega) (by omega)
        rw [countP_rs, hin] at hih
        exact hih
  refine sx_body (by decide) (Nat.le_of_ble_eq_true rfl) ?_
  refine sv_iconst (nI 0) dX3_flaggedMany_0 (by decide +kernel) ?_
  refine sv_istore_n dX3_flaggedMany_1 (by decide) ?_
  refine sv_iconst (nI 0) dX3_flaggedMany_2 (by decide +kernel) ?_
  refine sv_istore dX3_flaggedMany_3 (by decide) ?_
  exact loop ((a_ms V b).length + 1) 0 (by omega) (by omega)
theorem ct_selecting (hn : h + 11 < sx_n σ) (hE : e_V (m_w M) V) (hw : w_V V) {b : Int32} : sx_Cr G 2 YX3_selecting [.ref h, .int b] (m_S G h M σ) (some (.int (a_sel V b))) (m_S G h M σ) := by
  have loop : ∀ q k, k ≤ V.2.2.length → V.2.2.length + 1 ≤ k + q → sx_V G 2 YX3_selecting 4 [some (.ref h), some (.int b), some (.int (z_f (fun x s => x ||| (if o_I (a_bx V s) = b then a_bit s else 0)) k)), some (.int (nI k))] [] (m_S G h M σ) (fun o τ => ∃ v, o = .inl v ∧ v = (some (.int (a_sel V b))) ∧ τ = m_S G h M σ) := by
    have hs4 := hw.1.2.1
    intro q
    induction q with
    | zero => intro k h1 h2; exact absurd h2 (by omega)
    | succ q ih =>
    intro k h1 h2
    refine sv_iload_n dX3_selecting_4 rfl ?_
    refine sv_aload_n dX3_selecting_5 rfl ?_
    refine sv_cvR _ (ct_sessions hn hE.1 hw.1) okX3_sessions kv_X3_74 (sx_rd_c (m_S_0 hn)) rfl dX3_selecting_6 rfl rfl (by decide) (Nat.le_of_ble_eq_true rfl) ?_
    refine sv_icmp_geN (tgt := 37) dX3_selecting_9 (by decide) (by omega) (by omega) (fun c9 => ?_) (fun c9 => ?_)
    · refine sv_iload_n dX3_selecting_37 rfl ?_
      refine sv_iret rfl rfl dX3_selecting_38 ?_
      exact ⟨_, rfl, r_I (by unfold a_sel; rw [show V.2.2.length = k by omega]), rfl⟩
    · have hk : k < V.2.2.length := by omega
      refine sv_iload_n dX3_selecting_12 rfl ?_
      refine sv_aload_n dX3_selecting_13 rfl ?_
      refine sv_iload_n dX3_selecting_14 rfl ?_
      refine sv_cvR _ (ct_boxOf hn hE hw hk) okX3_boxOf kv_X3_87 (sx_rd_c (m_S_0 hn)) rfl dX3_selecting_15 rfl rfl (by decide) (Nat.le_of_ble_eq_true rfl) ?_
      refine sv_iload_n dX3_selecting_18 rfl ?_
      refine sv_icmp_ne (tgt := 28) dX3_selecting_19 (by decide) (fun c19 => ?_) (fun c19 => ?_)
      · have hbt : nI 0 = (if o_I (a_bx V k) = b then a_bit k else 0) := by rw [if_neg c19]; exact nI_0
        refine sv_iconst (nI 0) dX3_selecting_28 (by decide +kernel) ?_
        refine sv_topI hbt ?_
        refine sv_ior dX3_selecting_29 ?_
        refine sv_istore_n dX3_selecting_30 (by decide) ?_
        refine sv_iincN dX3_selecting_31 rfl (by decide) ?_
        refine sv_goto (tgt := 4) dX3_selecting_34 (by decide) ?_
        exact ih (k + 1) (by omega) (by omega)
      · have hbt : nI 1 <<< (nI k &&& 31) = (if o_I (a_bx V k) = b then a_bit k else 0) := by rw [if_pos c19]; rfl
        refine sv_iconst (nI 1) dX3_selecting_22 (by decide +kernel) ?_
        refine sv_iload_n dX3_selecting_23 rfl ?_
        refine sv_ishl dX3_selecting_24 ?_
        refine sv_goto (tgt := 29) dX3_selecting_25 (by decide) ?_
        refine sv_topI hbt ?_
        refine sv_ior dX3_selecting_29 ?_
        refine sv_istore_n dX3_selecting_30 (by decide) ?_
        refine sv_iincN dX3_selecting_31 rfl (by decide) ?_
        refine sv_goto (tgt := 4) dX3_selecting_34 (by decide) ?_
        exact ih (k + 1) (by omega) (by omega)
  refine sx_body (by decide) (Nat.le_of_ble_eq_true rfl) ?_
  refine sv_iconst (nI 0) dX3_selecting_0 (by decide +kernel) ?_
  refine sv_topI (y := 0) nI_0 ?_
  refine sv_istore_n dX3_selecting_1 (by decide) ?_
  refine sv_iconst (nI 0) dX3_selecting_2 (by decide +kernel) ?_
  refine sv_istore_n dX3_selecting_3 (by decide) ?_
  exact loop (V.2.2.length + 1) 0 (by omega) (by omega)
def e_w (es : List a_E) (u : Int32) : Int32 := match es.findIdx? (fun e => e.1 == u) with
  | some k => nI (k + 1)
  | none => -1
theorem e_w_s {es : List a_E} {u : Int32} {k : Nat} (hk : k < es.length) (h : ∀ j, j < k → (es.getD j (0, 0)).1 ≠ u) (he : (es.getD k (0, 0)).1 = u) : e_w es u = nI (k + 1) := by
  unfold e_w
  have : es.findIdx? (fun e => e.1 == u) = some k := by
    rw [List.findIdx?_eq_some_iff_getElem]
    refine ⟨hk, ?_, fun j hj => ?_⟩
    · rw [List.getD_eq_getElem?_getD, List.getElem?_eq_getElem hk] at he
      simpa using he
    · have := h j hj
      rw [List.getD_eq_getElem?_getD, List.getElem?_eq_getElem (show j < es.length by omega)] at this
      simpa using this
  rw [this]
theorem e_w_n {es : List a_E} {u : Int32} (h : ∀ j, j < es.length → (es.getD j (0, 0)).1 ≠ u) : e_w es u = -1 := by
  unfold e_w
  have : es.findIdx? (fun e => e.1 == u) = none := by
    rw [List.findIdx?_eq_none_iff]
    intro e he
    obtain ⟨j, hj, rfl⟩ := List.mem_iff_getElem.mp he
    have := h j hj
    rw [List.getD_eq_getElem?_getD, List.getElem?_eq_getElem hj] at this
    simpa using this
  rw [this]
theorem ct_entryWith (hn : h + 11 < sx_n σ) (hE : e_V (m_w M) V) (hw : w_V V) {s : Nat} (hs : s < V.2.2.length) {u : Int32} : sx_Cr G 3 YX3_entryWith [.ref h, .int (nI s), .int u] (m_S G h M σ) (some (.int (e_w (a_es V s) u))) (m_S G h M σ) := by
  have loop : ∀ q k, k ≤ (a_es V s).length → (a_es V s).length + 1 ≤ k + q → (∀ j, j < k → ((a_es V s).getD j (0, 0)).1 ≠ u) → sx_V G 3 YX3_entryWith 2 [some (.ref h), some (.int (nI s)), some (.int u), some (.int (nI (k + 1)))] [] (m_S G h M σ) (fun o τ => ∃ v, o = .inl v ∧ v = (some (.int (e_w (a_es V s) u))) ∧ τ = m_S G h M σ) := by
    have hel := hw.2.1 s hs
    intro q
    induction q with
    | zero => intro k h1 h2 h3; exact absurd h2 (by omega)
    | succ q ih =>
    intro k h1 h2 h3
    refine sv_iload_n dX3_entryWith_2 rfl ?_
    refine sv_aload_n dX3_entryWith_3 rfl ?_
    refine sv_iload_n dX3_entryWith_4 rfl ?_
    refine sv_cvR _ (ct_entries hn hE hw hs) okX3_entries kv_X3_97 (sx_rd_c (m_S_0 hn)) rfl dX3_entryWith_5 rfl rfl (by decide) (Nat.le_of_ble_eq_true rfl) ?_
    refine sv_icmp_gtN (tgt := 30) dX3_entryWith_8 (by decide) (by omega) (by omega) (fun c8 => ?_) (fun c8 => ?_)
    · have hfin : some (Value.int (-1)) = (some (.int (e_w (a_es V s) u))) := r_I (e_w_n (fun j hj => h3 j (by omega))).symm
      refine sv_iconst (-1) dX3_entryWith_30 (by decide +kernel) ?_
      refine sv_iret rfl rfl dX3_entryWith_31 ?_
      exact ⟨_, rfl, hfin, rfl⟩
    · have hk : k < (a_es V s).length := by omega
      refine sv_aload_n dX3_entryWith_11 rfl ?_
      refine sv_iload_n dX3_entryWith_12 rfl ?_
      refine sv_iload_n dX3_entryWith_13 rfl ?_
      refine sv_iconst (nI 0) dX3_entryWith_14 (by decide +kernel) ?_
      refine sv_cvR _ (ct_euid hn hE hw hs hk) okX3_ofEntry kv_X3_107 (sx_rd_c (m_S_0 hn)) rfl dX3_entryWith_15 rfl rfl (by decide) (Nat.le_of_ble_eq_true rfl) ?_
      refine sv_iload_n dX3_entryWith_18 rfl ?_
      refine sv_icmp_ne (tgt := 24) dX3_entryWith_19 (by decide) (fun c19 => ?_) (fun c19 => ?_)
      · refine sv_iincN dX3_entryWith_24 rfl (by decide) ?_
        refine sv_goto (tgt := 2) dX3_entryWith_27 (by decide) ?_
        refine ih (k + 1) (by omega) (by omega) (fun j hj => ?_)
        by_cases hjk : j = k
        · rw [hjk]; exact c19
        · exact h3 j (by omega)
      · have hfin : some (Value.int (nI (k + 1))) = (some (.int (e_w (a_es V s) u))) := r_I (e_w_s hk h3 c19).symm
        refine sv_iload_n dX3_entryWith_22 rfl ?_
        refine sv_iret rfl rfl dX3_entryWith_23 ?_
        exact ⟨_, rfl, hfin, rfl⟩
  refine sx_body (by decide) (Nat.le_of_ble_eq_true rfl) ?_
  refine sv_iconst (nI 1) dX3_entryWith_0 (by decide +kernel) ?_
  refine sv_istore_n dX3_entryWith_1 (by decide) ?_
  exact loop ((a_es V s).length + 1) 0 (by omega) (by omega) (fun j hj => absurd hj (Nat.not_lt_zero j))
def p_prop (A : a_A) (w : Nat) : Int32 := match w with
  | 0 => nI (A_v A).2.1.length
  | 1 => nI (A_v A).2.2.length
  | 2 => (A_v A).1
  | 3 => nI (a_all (A_v A) (A_v A).2.1.length)
  | _ => nI (A_n A).length
def sp_prop (A : a_A) (x : Int32) : Int32 × a_A := g_1 (a_in x 0 4) A (p_prop A x.toNatClampNeg, A_st A 0)
def p_box (V : a_V) (b w : Nat) : Int32 := match w with
  | 0 => nI (a_ms V b).length
  | 1 => (a_b V b).2.1
  | 2 => a_szs V b
  | 3 => nI ((a_ms V b).length - a_fm V b 1)
  | 4 => nI (a_fm V b 8)
  | _ => a_sel V (nI b)
def sp_box (A : a_A) (b x : Int32) : Int32 × a_A := g_2 (i_in b (A_v A).2.1.length) (a_in x 0 5) A (p_box (A_v A) b.toNatClampNeg x.toNatClampNeg, A_st A 0)
def p_msg (V : a_V) (b m w : Nat) : Int32 := match w with
  | 0 => (a_m V b m).1
  | 1 => (a_m V b m).2.1
  | _ => (a_m V b m).2.2
def sp_msg (A : a_A) (b m x : Int32) : Int32 × a_A := g_2 (i_in b (A_v A).2.1.length && i_in m (a_ms (A_v A) b.toNatClampNeg).length) (a_in x 0 2) A (p_msg (A_v A) b.toNatClampNeg m.toNatClampNeg x.toNatClampNeg, A_st A 0)
def sp_idx (A : a_A) (b u : Int32) : Int32 × a_A := g_1 (i_in b (A_v A).2.1.length) A (o_I (a_find (a_ms (A_v A) b.toNatClampNeg) u), A_st A 0)
def p_ses (V : a_V) (s w : Nat) : Int32 := match w with
  | 0 => o_I (a_bx V s)
  | 1 => b_I ((a_bx V s).isSome && a_rd V s)
  | 2 => b_I (a_id V s)
  | 3 => nI (a_es V s).length
  | 4 => nI (a_gm V s (a_es V s).length)
  | 5 => nI (a_om V s)
  | _ => nI (a_nm V s)
def sp_ses (A : a_A) (s x : Int32) : Int32 × a_A := g_2 (i_in s (A_v A).2.2.length) (a_in x 0 6) A (p_ses (A_v A) s.toNatClampNeg x.toNatClampNeg, A_st A 0)
def sp_num (A : a_A) (s u : Int32) : Int32 × a_A := g_1 (i_in s (A_v A).2.2.length) A (e_w (a_es (A_v A) s.toNatClampNeg) u, A_st A 0)
def sp_pen (A : a_A) (s : Int32) : Int32 × a_A := g_1 (i_in s (A_v A).2.2.length) A (nI (a_pe (A_v A) s.toNatClampNeg), A_st A 0)
def a_upd (V : a_V) (s : Nat) : Bool := (a_bx V s).isSome && decide (a_pe V s = 0)
def sp_cur (A : a_A) (s : Int32) : Int32 × a_A := g_1 (i_in s (A_v A).2.2.length) A (b_I (a_upd (A_v A) s.toNatClampNeg), A_st A 0)
def sp_acc (A : a_A) (s x : Int32) : Int32 × a_A := g_2 (i_in s (A_v A).2.2.length) (a_in x 0 4) A (a_ac (A_v A) s.toNatClampNeg x.toNatClampNeg, A_st A 0)
def sp_not (A : a_A) (i x : Int32) : Int32 × a_A := g_2 (a_in x 0 3) (i_in i (A_n A).length) A (nx_n ((A_n A).getD i.toNatClampNeg (0, 0, 0, 0)) x.toNatClampNeg, A_st A 0)
theorem ct_property (hn : h + 11 < sx_n σ) (hJ : m_J M A) {x : Int32} : sx_Cp G 4 YX3_property [.ref h, .int x] (m_S G h M σ) (fun v τ => v = some (.int ((sp_prop A x).1)) ∧ ∃ M2, τ = m_S G h M2 σ ∧ m_J M2 ((sp_prop A x).2)) := by
  refine sx_body (by decide) (Nat.le_of_ble_eq_true rfl) ?_
  refine sv_aload_n dX3_property_0 rfl ?_
  refine sv_iload_n dX3_property_1 rfl ?_
  refine sv_i2l dX3_property_2 ?_
  refine sv_lconst 0 dX3_property_3 (by decide) ?_
  refine sv_ldc2 q2628 dX3_property_4 ?_
  refine sv_csR _ ct_in okX3_in ks_X3_70 dX3_property_7 rfl rfl (by decide) (Nat.le_of_ble_eq_true rfl) ?_
  refine sv_cvR _ (ct_passes (a := a_in x 0 4) hn) okX3_passes kv_X3_266 (sx_rd_c (m_S_0 hn)) rfl dX3_property_10 rfl rfl (by decide) (Nat.le_of_ble_eq_true rfl) ?_
  refine sv_if_neB (tgt := 18) dX3_property_13 (by decide) (fun c13 => ?_) (fun c13 => ?_)
  · have hsp : sp_prop A x = (p_prop A x.toNatClampNeg, A_st A 0) := by unfold sp_prop; rw [g_1t c13]
    rw [hsp]
    rw [t_hr_1 c13]
    have hJ0 := m_J_t hJ 0
    obtain ⟨w, rfl, ew, hw8⟩ := a_in_of c13
    have hw9 : w = 0 ∨ w = 1 ∨ w = 2 ∨ w = 3 ∨ w = 4 := by have hz : (w : Int) ≤ 4 := hw8; omega
    rw [ew]
    refine sv_iload_n dX3_property_18 rfl ?_
    rcases hw9 with rfl | rfl | rfl | rfl | rfl
    · refine sv_tableIn (off := 29) (tgt := 48) dX3_property_19 (by decide +kernel) (by decide +kernel) (by decide +kernel) (by decide) ?_
      refine sv_aload_n dX3_property_48 rfl ?_
      refine sv_cvR _ (ct_boxes hn (m_J_e hJ0).1 hJ0.2.2.1.1) okX3_boxes kv_X3_66 (sx_rd_c (m_S_0 hn)) rfl dX3_property_49 rfl rfl (by decide) (Nat.le_of_ble_eq_true rfl) ?_
      refine sv_iret rfl rfl dX3_property_52 ?_
      exact ⟨_, rfl, rfl, _, rfl, hJ0⟩
    · refine sv_tableIn (off := 34) (tgt := 53) dX3_property_19 (by decide +kernel) (by decide +kernel) (by decide +kernel) (by decide) ?_
      refine sv_aload_n dX3_property_53 rfl ?_
      refine sv_cvR _ (ct_sessions hn (m_J_e hJ0).1 hJ0.2.2.1.1) okX3_sessions kv_X3_74 (sx_rd_c (m_S_0 hn)) rfl dX3_property_54 rfl rfl (by decide) (Nat.le_of_ble_eq_true rfl) ?_
      refine sv_iret rfl rfl dX3_property_57 ?_
      exact ⟨_, rfl, rfl, _, rfl, hJ0⟩
    · refine sv_tableIn (off := 39) (tgt := 58) dX3_property_19 (by decide +kernel) (by decide +kernel) (by decide +kernel) (by decide) ?_
      refine sv_aload_n dX3_property_58 rfl ?_
      refine sv_iconst (nI 0) dX3_property_59 (by decide +kernel) ?_
      refine sv_cvR _ (ct_get hn (by omega)) okX3_get kv_X3_62 (sx_rd_c (m_S_0 hn)) rfl dX3_property_60 rfl rfl (by decide) (Nat.le_of_ble_eq_true rfl) ?_
      refine sv_iret rfl rfl dX3_property_63 ?_
      exact ⟨_, rfl, r_I (m_J_e hJ0).1.1, _, rfl, hJ0⟩
    · refine sv_tableIn (off := 45) (tgt := 64) dX3_property_19 (by decide +kernel) (by decide +kernel) (by decide +kernel) (by decide) ?_
      refine sv_aload_n dX3_property_64 rfl ?_
      refine sv_cvR _ (ct_allMessages hn (m_J_e hJ0).1 hJ0.2.2.1.1) okX3_allMessages kv_X3_488 (sx_rd_c (m_S_0 hn)) rfl dX3_property_65 rfl rfl (by decide) (Nat.le_of_ble_eq_true rfl) ?_
      refine sv_iret rfl rfl dX3_property_68 ?_
      exact ⟨_, rfl, rfl, _, rfl, hJ0⟩
    · refine sv_tableOut (tgt := 69) dX3_property_19 (by decide +kernel) (by decide) ?_
      refine sv_aload_n dX3_property_69 rfl ?_
      refine sm_get hn fg_X3_138 dX3_property_70 rfl ?_
      refine sv_iret rfl rfl dX3_property_73 ?_
      exact ⟨_, rfl, r_I hJ0.2.2.2.2.2.1.2.1, _, rfl, hJ0⟩
  · unfold sp_prop
    rw [g_1f c13]
    refine sv_iconst (nI 0) dX3_property_16 (by decide +kernel) ?_
    refine sv_iret rfl rfl dX3_property_17 ?_
    exact ⟨_, rfl, r_I nI_0, _, rfl, m_J_t hJ _⟩
theorem ct_box (hn : h + 11 < sx_n σ) (hJ : m_J M A) {b x : Int32} : sx_Cp G 4 YX3_box [.ref h, .int b, .int x] (m_S G h M σ) (fun v τ => v = some (.int ((sp_box A b x).1)) ∧ ∃ M2, τ = m_S G h M2 σ ∧ m_J M2 ((sp_box A b x).2)) := by
  refine sx_body (by decide) (Nat.le_of_ble_eq_true rfl) ?_
  refine sv_aload_n dX3_box_0 rfl ?_
  refine sv_aload_n dX3_box_1 rfl ?_
  refine sv_iload_n dX3_box_2 rfl ?_
  refine sv_cvR _ (ct_isBox hn (m_J_e hJ).1 hJ.2.2.1.1) okX3_isBox kv_X3_189 (sx_rd_c (m_S_0 hn)) rfl dX3_box_3 rfl rfl (by decide) (Nat.le_of_ble_eq_true rfl) ?_
  refine sv_iload_n dX3_box_6 rfl ?_
  refine sv_i2l dX3_box_7 ?_
  refine sv_lconst 0 dX3_box_8 (by decide) ?_
  refine sv_ldc2 q2637 dX3_box_9 ?_
  refine sv_csR _ ct_in okX3_in ks_X3_70 dX3_box_12 rfl rfl (by decide) (Nat.le_of_ble_eq_true rfl) ?_
  refine sv_cvR _ (ct_passes2 (b := a_in x 0 5) hn) okX3_passes2 kv_X3_192 (sx_rd_c (m_S_0 hn)) rfl dX3_box_15 rfl rfl (by decide) (Nat.le_of_ble_eq_true rfl) ?_
  refine sv_if_neB (tgt := 23) dX3_box_18 (by decide) (fun c18 => ?_) (fun c18 => ?_)
  · have hsp : sp_box A b x = (p_box (A_v A) b.toNatClampNeg x.toNatClampNeg, A_st A 0) := by unfold sp_box; rw [g_2t c18]
    rw [hsp]
    rw [t_hr_2 c18]
    have hJ0 := m_J_t hJ 0
    have hc2 := c18
    rw [Bool.and_eq_true] at hc2
    have hb3 := hJ.2.2.1.1.1
    obtain ⟨j, hj, rfl⟩ := i_in_of (by omega) hc2.1
    have ej : (nI j).toNatClampNeg = j := nI_clamp (by omega)
    rw [ej]
    have hml := hJ.2.2.1.1.2.2 j hj
    obtain ⟨w, rfl, ew, hw8⟩ := a_in_of hc2.2
    have hw9 : w = 0 ∨ w = 1 ∨ w = 2 ∨ w = 3 ∨ w = 4 ∨ w = 5 := by have hz : (w : Int) ≤ 5 := hw8; omega
    rw [ew]
    refine sv_iload_n dX3_box_23 rfl ?_
    rcases hw9 with rfl | rfl | rfl | rfl | rfl | rfl
    · refine sv_tableIn (off := 36) (tgt := 60) dX3_box_24 (by decide +kernel) (by decide +kernel) (by decide +kernel) (by decide) ?_
      refine sv_aload_n dX3_box_60 rfl ?_
      refine sv_iload_n dX3_box_61 rfl ?_
      refine sv_cvR _ (ct_manyIn hn (m_J_e hJ0).1 hJ0.2.2.1.1 hj) okX3_manyIn kv_X3_100 (sx_rd_c (m_S_0 hn)) rfl dX3_box_62 rfl rfl (by decide) (Nat.le_of_ble_eq_true rfl) ?_
      refine sv_iret rfl rfl dX3_box_65 ?_
      exact ⟨_, rfl, rfl, _, rfl, hJ0⟩
    · refine sv_tableIn (off := 42) (tgt := 66) dX3_box_24 (by decide +kernel) (by decide +kernel) (by decide +kernel) (by decide) ?_
      refine sv_aload_n dX3_box_66 rfl ?_
      refine sv_iload_n dX3_box_67 rfl ?_
      refine sv_csR _ (ct_boxAt (b := j)) okX3_boxAt ks_X3_77 dX3_box_68 rfl rfl (by decide) (Nat.le_of_ble_eq_true rfl) ?_
      refine sv_iconst (nI 2) dX3_box_71 (by decide +kernel) ?_
      refine sv_iaddN dX3_box_72 ?_
      refine sv_cvR _ (ct_get hn (by omega)) okX3_get kv_X3_62 (sx_rd_c (m_S_0 hn)) rfl dX3_box_73 rfl rfl (by decide) (Nat.le_of_ble_eq_true rfl) ?_
      refine sv_iret rfl rfl dX3_box_76 ?_
      exact ⟨_, rfl, r_I ((m_J_e hJ0).1.2.2.2 j hj).2.2.1, _, rfl, hJ0⟩
    · refine sv_tableIn (off := 53) (tgt := 77) dX3_box_24 (by decide +kernel) (by decide +kernel) (by decide +kernel) (by decide) ?_
      refine sv_aload_n dX3_box_77 rfl ?_
      refine sv_iload_n dX3_box_78 rfl ?_
      refine sv_cvR _ (ct_sizesOf hn (m_J_e hJ0).1 hJ0.2.2.1.1 hj) okX3_sizesOf kv_X3_493 (sx_rd_c (m_S_0 hn)) rfl dX3_box_79 rfl rfl (by decide) (Nat.le_of_ble_eq_true rfl) ?_
      refine sv_iret rfl rfl dX3_box_82 ?_
      exact ⟨_, rfl, rfl, _, rfl, hJ0⟩
    · refine sv_tableIn (off := 59) (tgt := 83) dX3_box_24 (by decide +kernel) (by decide +kernel) (by decide +kernel) (by decide) ?_
      refine sv_aload_n dX3_box_83 rfl ?_
      refine sv_iload_n dX3_box_84 rfl ?_
      refine sv_cvR _ (ct_manyIn hn (m_J_e hJ0).1 hJ0.2.2.1.1 hj) okX3_manyIn kv_X3_100 (sx_rd_c (m_S_0 hn)) rfl dX3_box_85 rfl rfl (by decide) (Nat.le_of_ble_eq_true rfl) ?_
      refine sv_aload_n dX3_box_88 rfl ?_
      refine sv_iload_n dX3_box_89 rfl ?_
      refine sv_iconst (nI 1) dX3_box_90 (by decide +kernel) ?_
      refine sv_topI (y := 1) (by decide +kernel) ?_
      refine sv_cvR _ (ct_flaggedMany (f := 1) hn (m_J_e hJ0).1 hJ0.2.2.1.1 hj) okX3_flaggedMany kv_X3_496 (sx_rd_c (m_S_0 hn)) rfl dX3_box_91 rfl rfl (by decide) (Nat.le_of_ble_eq_true rfl) ?_
      have hfl := a_fm_le (A_v (A_st A 0)) j 1
      refine sv_isubN dX3_box_94 (by omega) ?_
      refine sv_iret rfl rfl dX3_box_95 ?_
      exact ⟨_, rfl, rfl, _, rfl, hJ0⟩
    · refine sv_tableIn (off := 72) (tgt := 96) dX3_box_24 (by decide +kernel) (by decide +kernel) (by decide +kernel) (by decide) ?_
      refine sv_aload_n dX3_box_96 rfl ?_
      refine sv_iload_n dX3_box_97 rfl ?_
      refine sv_bipush (nI 8) dX3_box_98 (by decide +kernel) ?_
      refine sv_topI (y := 8) (by decide +kernel) ?_
      refine sv_cvR _ (ct_flaggedMany (f := 8) hn (m_J_e hJ0).1 hJ0.2.2.1.1 hj) okX3_flaggedMany kv_X3_496 (sx_rd_c (m_S_0 hn)) rfl dX3_box_100 rfl rfl (by decide) (Nat.le_of_ble_eq_true rfl) ?_
      refine sv_iret rfl rfl dX3_box_103 ?_
      exact ⟨_, rfl, rfl, _, rfl, hJ0⟩
    · refine sv_tableOut (tgt := 104) dX3_box_24 (by decide +kernel) (by decide) ?_
      refine sv_aload_n dX3_box_104 rfl ?_
      refine sv_iload_n dX3_box_105 rfl ?_
      refine sv_cvR _ (ct_selecting hn (m_J_e hJ0) hJ0.2.2.1) okX3_selecting kv_X3_499 (sx_rd_c (m_S_0 hn)) rfl dX3_box_106 rfl rfl (by decide) (Nat.le_of_ble_eq_true rfl) ?_
      refine sv_iret rfl rfl dX3_box_109 ?_
      exact ⟨_, rfl, rfl, _, rfl, hJ0⟩
  · unfold sp_box
    rw [g_2f c18]
    refine sv_iconst (nI 0) dX3_box_21 (by decide +kernel) ?_
    refine sv_iret rfl rfl dX3_box_22 ?_
    exact ⟨_, rfl, r_I nI_0, _, rfl, m_J_t hJ _⟩
end MRS
