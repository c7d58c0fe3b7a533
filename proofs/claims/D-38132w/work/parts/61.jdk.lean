/-! ===== the JDK's lists in the small machine ===== -/
theorem sl_kds_1 (t : Nat) (vs : List Value) : sw_kds (some (t, vs)) [t] = true := by simp [sw_kds]
theorem sl_kds_67 (vs : List Value) : sw_kds (some (67, vs)) [67, 70] = true := rfl
theorem sl_k67 {t : Nat} (vs : List Value) (h : t ∈ sw_k67) : sw_kds (some (t, vs)) sw_k67 = true := by simp [sw_kds, h]
theorem sl_max_nI {a b : Nat} (ha : a < 2 ^ 31) (hb : b < 2 ^ 31) : sw_max (nI a) (nI b) = nI (max a b) := by
  unfold sw_max
  by_cases h : a < b
  · rw [if_pos (nI_lt h hb), Nat.max_eq_right (Nat.le_of_lt h)]
  · rw [if_neg (nI_nlt (Nat.le_of_not_lt h) ha), Nat.max_eq_left (Nat.le_of_not_lt h)]
theorem sl_min_nI {a b : Nat} (ha : a < 2 ^ 31) (hb : b < 2 ^ 31) : sw_min (nI a) (nI b) = nI (min a b) := by
  unfold sw_min
  by_cases h : b < a
  · rw [if_pos (nI_lt h ha), Nat.min_eq_right (Nat.le_of_lt h)]
  · rw [if_neg (nI_nlt (Nat.le_of_not_lt h) hb), Nat.min_eq_left (Nat.le_of_not_lt h)]
/-- the capacities of a list that grows by single adds -/
def sl_caps : List Nat := [0, 10, 15, 22, 33, 49, 73, 109, 163, 244, 366, 549, 823, 1234]
def sl_nc (c : Nat) : Nat := if c = 0 then 10 else c + c / 2
theorem sl_caps_next : ∀ c ∈ sl_caps, c < 1000 → sl_nc c ∈ sl_caps := by decide
theorem sl_caps_le : ∀ c ∈ sl_caps, c ≤ 1234 := by decide
def sl_gA (n : Nat) : Nat := if n ∈ sl_caps then 1 else 0
def sl_gS (n : Nat) : Nat := if n ∈ sl_caps then sl_nc n else 0
/-- the cells of a list's array -/
def sl_bk (ev : Nat → Nat) (arr : Nat) (vs : List Value) (pad : Nat) : sl_A := fun h => (arr = ev 10 ∧ vs = [] ∧ pad = 0) ∨ (vs.length + pad ≠ 0 ∧ h arr = some (67, vs ++ List.replicate pad .null))
def sl_lo (ev : Nat → Nat) (a : Nat) (vs : List Value) (mc : Int32) (arr pad : Nat) : List sl_A := [sl_pt a (24, [.int mc, .ref arr, .int (nI vs.length)]), sl_bk ev arr vs pad]
def sl_lx (Q : Nat → Prop) (ev : Nat → Nat) (a : Nat) (vs : List Value) : sl_A := sl_ex fun x : Int32 × Nat × Nat => sl_all (sl_lp (Q (vs.length + x.2.2)) :: sl_lo ev a vs x.1 x.2.1 x.2.2)
/-- a list; one that may grow -/
abbrev sl_li := sl_lx fun c => c < 50000
abbrev sl_ls := sl_lx fun c => c ∈ sl_caps
theorem sl_rd_bk {H : sl_H} {ev : Nat → Nat} {arr pad : Nat} {vs : List Value} (h : sl_rd H (sl_bk ev arr vs pad)) : (arr = ev 10 ∧ vs = [] ∧ pad = 0) ∨ H arr = some (67, vs ++ List.replicate pad .null) := by
  obtain ⟨f, h | ⟨-, h⟩⟩ := h
  · exact Or.inl h
  · exact Or.inr (sl_rd_pt.mp ⟨f, h⟩)
theorem sl_rd_lx {Q : Nat → Prop} {H : sl_H} {ev : Nat → Nat} {a : Nat} {vs : List Value} (h : sl_rd H (sl_lx Q ev a vs)) : ∃ mc arr pad, Q (vs.length + pad) ∧ H a = some (24, [.int mc, .ref arr, .int (nI vs.length)]) ∧ ((arr = ev 10 ∧ vs = [] ∧ pad = 0) ∨ H arr = some (67, vs ++ List.replicate pad .null)) := by
  obtain ⟨⟨mc, arr, pad⟩, h⟩ := sl_rd_ex.mp h
  obtain ⟨h1, h2, h3, -⟩ := sl_rd_all h
  exact ⟨mc, arr, pad, sl_rd_lp.mp h1, sl_rd_pt.mp h2, sl_rd_bk h3⟩
theorem sl_st.lx {Q : Nat → Prop} {ev : Nat → Nat} {c s : Nat} {P : sw_P} {a : Nat} {vs : List Value} {F : List sl_A} (h : sl_st ev c s P (sl_lx Q ev a vs :: F)) : ∃ mc arr pad, Q (vs.length + pad) ∧ sl_st ev c s P (sl_pt a (24, [.int mc, .ref arr, .int (nI vs.length)]) :: sl_bk ev arr vs pad :: F) := by
  obtain ⟨⟨mc, arr, pad⟩, h⟩ := h.exs
  obtain ⟨hq, h⟩ := sl_st.lps.mp (sl_st.flat.mp h)
  exact ⟨mc, arr, pad, hq, h⟩
theorem sl_st.oflx {Q : Nat → Prop} {ev : Nat → Nat} {c s : Nat} {P : sw_P} {a : Nat} {vs : List Value} {F : List sl_A} {mc : Int32} {arr pad : Nat} (hq : Q (vs.length + pad)) (h : sl_st ev c s P (sl_pt a (24, [.int mc, .ref arr, .int (nI vs.length)]) :: sl_bk ev arr vs pad :: F)) : sl_st ev c s P (sl_lx Q ev a vs :: F) :=
  sl_st.ofex (A := fun x : Int32 × Nat × Nat => sl_all (sl_lp (Q (vs.length + x.2.2)) :: sl_lo ev a vs x.1 x.2.1 x.2.2)) (mc, arr, pad) (sl_st.flat.mpr (sl_st.lps.mpr ⟨hq, h⟩))
theorem sl_st.bk {ev : Nat → Nat} {c s : Nat} {P : sw_P} {arr pad : Nat} {vs : List Value} {F : List sl_A} (h : sl_st ev c s P (sl_bk ev arr vs pad :: F)) : ((arr = ev 10 ∧ vs = [] ∧ pad = 0) ∧ sl_st ev c s P F) ∨ (vs.length + pad ≠ 0 ∧ sl_st ev c s P (sl_pt arr (67, vs ++ List.replicate pad .null) :: F)) := by
  obtain ⟨h1, h2, h3, h4, h5⟩ := h
  obtain ⟨f, (q | q), hr⟩ := sl_swap h5
  · exact Or.inl ⟨q, h1, h2, h3, h4, sl_wide _ hr⟩
  · exact Or.inr ⟨q.1, h1, h2, h3, h4, sl_swap ⟨f, q.2, hr⟩⟩
theorem sl_st.ofbk {ev : Nat → Nat} {c s : Nat} {P : sw_P} {arr pad : Nat} {vs : List Value} {F : List sl_A} (hp : vs.length + pad ≠ 0) (h : sl_st ev c s P (sl_pt arr (67, vs ++ List.replicate pad .null) :: F)) : sl_st ev c s P (sl_bk ev arr vs pad :: F) := by
  obtain ⟨h1, h2, h3, h4, h5⟩ := h
  obtain ⟨f, q, hr⟩ := sl_swap h5
  exact ⟨h1, h2, h3, h4, sl_swap ⟨f, Or.inr ⟨hp, q⟩, hr⟩⟩
theorem sl_st.ofbk0 {ev : Nat → Nat} {c s : Nat} {P : sw_P} {F : List sl_A} (h : sl_st ev c s P F) : sl_st ev c s P (sl_bk ev (ev 10) [] 0 :: F) := by
  obtain ⟨h1, h2, h3, h4, h5⟩ := h
  refine ⟨h1, h2, h3, h4, sl_swap ⟨fun _ => false, Or.inl ⟨rfl, rfl, rfl⟩, ?_⟩⟩
  have e : sl_out (fun _ => false) (sw_hp P) = sw_hp P := by funext a; rfl
  exact e.symm ▸ h5
theorem sl_st.weakls {ev : Nat → Nat} {c s : Nat} {P : sw_P} {a : Nat} {vs : List Value} {F : List sl_A} {Q Q' : Nat → Prop} (h : sl_st ev c s P (sl_lx Q ev a vs :: F)) (hQ : ∀ c, Q c → Q' c) : sl_st ev c s P (sl_lx Q' ev a vs :: F) := by
  obtain ⟨mc, arr, pad, hq, h⟩ := h.lx
  exact sl_st.oflx (hQ _ hq) h
theorem sl_capQ (c : Nat) (h : c ∈ sl_caps) : c < 50000 := Nat.lt_of_le_of_lt (sl_caps_le c h) (by decide)
/-! readers -/
theorem jc_J0_init {D a : Nat} {P : sw_P} (hD : 1 ≤ D) : sw_Z D m_J0_init [.ref a] P = some (.inl none, P) := by
  obtain ⟨d, hDe, hDn⟩ := sw_dep hD; subst hDe; replace hD := hDn; clear hDn
  rw [M_J0_init _ _ _ rfl]; simp only [at_J0_init_0, ey_ld, sk_ld_s, ex_oin, ex_ret, sw_gl_0, sw_gl_s, sw_fx_n, sw_fx_i, sw_fx_r, sw_fx_0, sw_fx_l, sw_fx_d, sw_sl1_0, sw_sl1_1, sw_sl1_s, sw_no_0, sw_no_s, sw_no_e, sw_mk_t, sw_mk_f, sw_mk_e, sw_en_0, sw_en_n, sw_en_i, sw_en_r, sw_en_z, sw_en_l, sw_en_d, sw_ok_0, sw_ok_1, sw_ok_2, sw_ok_3, sw_ok_4, sw_bo_s, sw_oi_s, sw_cl_s, sw_cl_x, sw_psh_s, sw_psh_n, sw_kd_s, sw_op_s, sw_oc_s, sw_oc_e, sw_oa_s, sw_el_n, sw_el_r, sl_kds_1, sl_kds_67, sw_fit_i, sw_fit_r, sw_fit_n, sw_fit_l, sw_fit_d, sw_fit_b, sw_fit_0, sw_fit_1, sw_rel_0, sw_rel_1, sw_rel_2, sw_rel_3, sw_rel_4, sw_rel_5, sw_hp_set, sw_nx_set, sw_sl_set, sw_ev_set, sw_hp_new, sw_nx_new, sw_sl_new, sw_ev_new, List.getElem?_cons_zero, List.getElem?_cons_succ, List.set_cons_zero, List.set_cons_succ, List.length_cons, List.length_nil, Nat.reduceAdd, Nat.reduceSub, Nat.reduceLT, Nat.reduceLeDiff, Nat.zero_lt_succ, Nat.zero_add, beq_self_eq_true, Bool.true_and, and_true, true_and, and_self, not_true_eq_false, not_false_eq_true, ↓reduceIte, Nat.reduceBEq, eq_self]
theorem jc_J2_size {D a : Nat} {P : sw_P} {x y : Value} {n : Int32} (hD : 1 ≤ D) (h : sw_hp P a = some (24, [x, y, .int n])) : sw_Z D m_J2_size [.ref a] P = some (.inl (some (.int n)), P) := by
  obtain ⟨d, hDe, hDn⟩ := sw_dep hD; subst hDe; replace hD := hDn; clear hDn
  rw [M_J2_size _ _ _ rfl]; simp only [at_J2_size_0, ey_ld, sk_ld_s, ey_gf, sk_gf_s, sk_v_s, ex_rv, sw_gl_0, sw_gl_s, sw_fx_n, sw_fx_i, sw_fx_r, sw_fx_0, sw_fx_l, sw_fx_d, sw_sl1_0, sw_sl1_1, sw_sl1_s, sw_no_0, sw_no_s, sw_no_e, sw_mk_t, sw_mk_f, sw_mk_e, sw_en_0, sw_en_n, sw_en_i, sw_en_r, sw_en_z, sw_en_l, sw_en_d, sw_ok_0, sw_ok_1, sw_ok_2, sw_ok_3, sw_ok_4, sw_bo_s, sw_oi_s, sw_cl_s, sw_cl_x, sw_psh_s, sw_psh_n, sw_kd_s, sw_op_s, sw_oc_s, sw_oc_e, sw_oa_s, sw_el_n, sw_el_r, sl_kds_1, sl_kds_67, sw_fit_i, sw_fit_r, sw_fit_n, sw_fit_l, sw_fit_d, sw_fit_b, sw_fit_0, sw_fit_1, sw_rel_0, sw_rel_1, sw_rel_2, sw_rel_3, sw_rel_4, sw_rel_5, sw_hp_set, sw_nx_set, sw_sl_set, sw_ev_set, sw_hp_new, sw_nx_new, sw_sl_new, sw_ev_new, List.getElem?_cons_zero, List.getElem?_cons_succ, List.set_cons_zero, List.set_cons_succ, List.length_cons, List.length_nil, Nat.reduceAdd, Nat.reduceSub, Nat.reduceLT, Nat.reduceLeDiff, Nat.zero_lt_succ, Nat.zero_add, beq_self_eq_true, Bool.true_and, and_true, true_and, and_self, not_true_eq_false, not_false_eq_true, ↓reduceIte, Nat.reduceBEq, eq_self, h]
theorem jc_J2_isEmpty {D a : Nat} {P : sw_P} {x y : Value} {n : Int32} (hD : 1 ≤ D) (h : sw_hp P a = some (24, [x, y, .int n])) : sw_Z D m_J2_isEmpty [.ref a] P = some (.inl (some (.int (sw_b (decide (n = 0))))), P) := by
  obtain ⟨d, hDe, hDn⟩ := sw_dep hD; subst hDe; replace hD := hDn; clear hDn
  rw [M_J2_isEmpty _ _ _ rfl]; simp only [at_J2_isEmpty_0, at_J2_isEmpty_1, at_J2_isEmpty_2, ey_ld, sk_ld_s, ey_gf, sk_gf_s, sk_v_s, ex_iz, ex_push, ex_goto, ex_rv, sw_gl_0, sw_gl_s, sw_fx_n, sw_fx_i, sw_fx_r, sw_fx_0, sw_fx_l, sw_fx_d, sw_sl1_0, sw_sl1_1, sw_sl1_s, sw_no_0, sw_no_s, sw_no_e, sw_mk_t, sw_mk_f, sw_mk_e, sw_en_0, sw_en_n, sw_en_i, sw_en_r, sw_en_z, sw_en_l, sw_en_d, sw_ok_0, sw_ok_1, sw_ok_2, sw_ok_3, sw_ok_4, sw_bo_s, sw_oi_s, sw_cl_s, sw_cl_x, sw_psh_s, sw_psh_n, sw_kd_s, sw_op_s, sw_oc_s, sw_oc_e, sw_oa_s, sw_el_n, sw_el_r, sl_kds_1, sl_kds_67, sw_fit_i, sw_fit_r, sw_fit_n, sw_fit_l, sw_fit_d, sw_fit_b, sw_fit_0, sw_fit_1, sw_rel_0, sw_rel_1, sw_rel_2, sw_rel_3, sw_rel_4, sw_rel_5, sw_hp_set, sw_nx_set, sw_sl_set, sw_ev_set, sw_hp_new, sw_nx_new, sw_sl_new, sw_ev_new, List.getElem?_cons_zero, List.getElem?_cons_succ, List.set_cons_zero, List.set_cons_succ, List.length_cons, List.length_nil, Nat.reduceAdd, Nat.reduceSub, Nat.reduceLT, Nat.reduceLeDiff, Nat.zero_lt_succ, Nat.zero_add, beq_self_eq_true, Bool.true_and, and_true, true_and, and_self, not_true_eq_false, not_false_eq_true, ↓reduceIte, Nat.reduceBEq, eq_self, h]
  by_cases hn : n = 0
  · simp only [at_J2_isEmpty_0, at_J2_isEmpty_1, at_J2_isEmpty_2, ey_ld, sk_ld_s, ey_gf, sk_gf_s, sk_v_s, ex_iz, ex_push, ex_goto, ex_rv, sw_gl_0, sw_gl_s, sw_fx_n, sw_fx_i, sw_fx_r, sw_fx_0, sw_fx_l, sw_fx_d, sw_sl1_0, sw_sl1_1, sw_sl1_s, sw_no_0, sw_no_s, sw_no_e, sw_mk_t, sw_mk_f, sw_mk_e, sw_en_0, sw_en_n, sw_en_i, sw_en_r, sw_en_z, sw_en_l, sw_en_d, sw_ok_0, sw_ok_1, sw_ok_2, sw_ok_3, sw_ok_4, sw_bo_s, sw_oi_s, sw_cl_s, sw_cl_x, sw_psh_s, sw_psh_n, sw_kd_s, sw_op_s, sw_oc_s, sw_oc_e, sw_oa_s, sw_el_n, sw_el_r, sl_kds_1, sl_kds_67, sw_fit_i, sw_fit_r, sw_fit_n, sw_fit_l, sw_fit_d, sw_fit_b, sw_fit_0, sw_fit_1, sw_rel_0, sw_rel_1, sw_rel_2, sw_rel_3, sw_rel_4, sw_rel_5, sw_hp_set, sw_nx_set, sw_sl_set, sw_ev_set, sw_hp_new, sw_nx_new, sw_sl_new, sw_ev_new, List.getElem?_cons_zero, List.getElem?_cons_succ, List.set_cons_zero, List.set_cons_succ, List.length_cons, List.length_nil, Nat.reduceAdd, Nat.reduceSub, Nat.reduceLT, Nat.reduceLeDiff, Nat.zero_lt_succ, Nat.zero_add, beq_self_eq_true, Bool.true_and, and_true, true_and, and_self, not_true_eq_false, not_false_eq_true, ↓reduceIte, Nat.reduceBEq, eq_self, hn, decide_true, sw_b_t]
  · simp only [at_J2_isEmpty_0, at_J2_isEmpty_1, at_J2_isEmpty_2, ey_ld, sk_ld_s, ey_gf, sk_gf_s, sk_v_s, ex_iz, ex_push, ex_goto, ex_rv, sw_gl_0, sw_gl_s, sw_fx_n, sw_fx_i, sw_fx_r, sw_fx_0, sw_fx_l, sw_fx_d, sw_sl1_0, sw_sl1_1, sw_sl1_s, sw_no_0, sw_no_s, sw_no_e, sw_mk_t, sw_mk_f, sw_mk_e, sw_en_0, sw_en_n, sw_en_i, sw_en_r, sw_en_z, sw_en_l, sw_en_d, sw_ok_0, sw_ok_1, sw_ok_2, sw_ok_3, sw_ok_4, sw_bo_s, sw_oi_s, sw_cl_s, sw_cl_x, sw_psh_s, sw_psh_n, sw_kd_s, sw_op_s, sw_oc_s, sw_oc_e, sw_oa_s, sw_el_n, sw_el_r, sl_kds_1, sl_kds_67, sw_fit_i, sw_fit_r, sw_fit_n, sw_fit_l, sw_fit_d, sw_fit_b, sw_fit_0, sw_fit_1, sw_rel_0, sw_rel_1, sw_rel_2, sw_rel_3, sw_rel_4, sw_rel_5, sw_hp_set, sw_nx_set, sw_sl_set, sw_ev_set, sw_hp_new, sw_nx_new, sw_sl_new, sw_ev_new, List.getElem?_cons_zero, List.getElem?_cons_succ, List.set_cons_zero, List.set_cons_succ, List.length_cons, List.length_nil, Nat.reduceAdd, Nat.reduceSub, Nat.reduceLT, Nat.reduceLeDiff, Nat.zero_lt_succ, Nat.zero_add, beq_self_eq_true, Bool.true_and, and_true, true_and, and_self, not_true_eq_false, not_false_eq_true, ↓reduceIte, Nat.reduceBEq, eq_self, hn, decide_false, sw_b_f]
theorem jc_J7_checkIndex {D i n : Nat} {P : sw_P} {v : Value} (hD : 1 ≤ D) (hv : v = .null) (hi : i < n) (hn : n < 2 ^ 31) : sw_Z D m_J7_checkIndex [.int (nI i), .int (nI n), v] P = some (.inl (some (.int (nI i))), P) := by
  subst hv
  obtain ⟨d, hDe, hDn⟩ := sw_dep hD; subst hDe; replace hD := hDn; clear hDn
  have e1 : ¬ nI i < 0 := nI_pos (by omega)
  have e2 : nI i < nI n := nI_lt hi hn
  rw [M_J7_checkIndex _ _ _ rfl]; simp only [at_J7_checkIndex_0, at_J7_checkIndex_1, at_J7_checkIndex_2, ey_ld, sk_ld_s, ex_iz, ex_ic, ex_goto, ex_rv, sw_gl_0, sw_gl_s, sw_fx_n, sw_fx_i, sw_fx_r, sw_fx_0, sw_fx_l, sw_fx_d, sw_sl1_0, sw_sl1_1, sw_sl1_s, sw_no_0, sw_no_s, sw_no_e, sw_mk_t, sw_mk_f, sw_mk_e, sw_en_0, sw_en_n, sw_en_i, sw_en_r, sw_en_z, sw_en_l, sw_en_d, sw_ok_0, sw_ok_1, sw_ok_2, sw_ok_3, sw_ok_4, sw_bo_s, sw_oi_s, sw_cl_s, sw_cl_x, sw_psh_s, sw_psh_n, sw_kd_s, sw_op_s, sw_oc_s, sw_oc_e, sw_oa_s, sw_el_n, sw_el_r, sl_kds_1, sl_kds_67, sw_fit_i, sw_fit_r, sw_fit_n, sw_fit_l, sw_fit_d, sw_fit_b, sw_fit_0, sw_fit_1, sw_rel_0, sw_rel_1, sw_rel_2, sw_rel_3, sw_rel_4, sw_rel_5, sw_hp_set, sw_nx_set, sw_sl_set, sw_ev_set, sw_hp_new, sw_nx_new, sw_sl_new, sw_ev_new, List.getElem?_cons_zero, List.getElem?_cons_succ, List.set_cons_zero, List.set_cons_succ, List.length_cons, List.length_nil, Nat.reduceAdd, Nat.reduceSub, Nat.reduceLT, Nat.reduceLeDiff, Nat.zero_lt_succ, Nat.zero_add, beq_self_eq_true, Bool.true_and, and_true, true_and, and_self, not_true_eq_false, not_false_eq_true, ↓reduceIte, Nat.reduceBEq, eq_self, e1, e2]
theorem jc_J6_checkIndex {D i n : Nat} {P : sw_P} (hD : 2 ≤ D) (hi : i < n) (hn : n < 2 ^ 31) : sw_Z D m_J6_checkIndex [.int (nI i), .int (nI n)] P = some (.inl (some (.int (nI i))), P) := by
  obtain ⟨d, hDe, hDn⟩ := sw_dep hD; subst hDe; replace hD := hDn; clear hDn
  have e := jc_J7_checkIndex (D := d) (P := P) hD rfl hi hn
  rw [M_J6_checkIndex _ _ _ rfl]; simp only [at_J6_checkIndex_0, ey_ld, sk_ld_s, ex_push, ey_cs3, sk_c_s, ex_rv, sw_gl_0, sw_gl_s, sw_fx_n, sw_fx_i, sw_fx_r, sw_fx_0, sw_fx_l, sw_fx_d, sw_sl1_0, sw_sl1_1, sw_sl1_s, sw_no_0, sw_no_s, sw_no_e, sw_mk_t, sw_mk_f, sw_mk_e, sw_en_0, sw_en_n, sw_en_i, sw_en_r, sw_en_z, sw_en_l, sw_en_d, sw_ok_0, sw_ok_1, sw_ok_2, sw_ok_3, sw_ok_4, sw_bo_s, sw_oi_s, sw_cl_s, sw_cl_x, sw_psh_s, sw_psh_n, sw_kd_s, sw_op_s, sw_oc_s, sw_oc_e, sw_oa_s, sw_el_n, sw_el_r, sl_kds_1, sl_kds_67, sw_fit_i, sw_fit_r, sw_fit_n, sw_fit_l, sw_fit_d, sw_fit_b, sw_fit_0, sw_fit_1, sw_rel_0, sw_rel_1, sw_rel_2, sw_rel_3, sw_rel_4, sw_rel_5, sw_hp_set, sw_nx_set, sw_sl_set, sw_ev_set, sw_hp_new, sw_nx_new, sw_sl_new, sw_ev_new, List.getElem?_cons_zero, List.getElem?_cons_succ, List.set_cons_zero, List.set_cons_succ, List.length_cons, List.length_nil, Nat.reduceAdd, Nat.reduceSub, Nat.reduceLT, Nat.reduceLeDiff, Nat.zero_lt_succ, Nat.zero_add, beq_self_eq_true, Bool.true_and, and_true, true_and, and_self, not_true_eq_false, not_false_eq_true, ↓reduceIte, Nat.reduceBEq, eq_self, e]
theorem jc_J2_elementData {D a arr i : Nat} {P : sw_P} {x y v : Value} {ws : List Value} (hD : 1 ≤ D) (h : sw_hp P a = some (24, [x, .ref arr, y])) (hr : sw_hp P arr = some (67, ws)) (hi : i < 2 ^ 31) (hw : ws[i]? = some v) (hf : sw_fit 2 v = true) : sw_Z D m_J2_elementData [.ref a, .int (nI i)] P = some (.inl (some v), P) := by
  obtain ⟨d, hDe, hDn⟩ := sw_dep hD; subst hDe; replace hD := hDn; clear hDn
  have e1 : ¬ nI i < 0 := nI_pos hi
  have e2 : (nI i).toNatClampNeg = i := nI_clamp hi
  rw [M_J2_elementData _ _ _ rfl]; simp only [at_J2_elementData_0, ey_ld, sk_ld_s, ey_gf, sk_gf_s, sk_v_s, ey_ald, sk_ald_s, ex_rv, sw_gl_0, sw_gl_s, sw_fx_n, sw_fx_i, sw_fx_r, sw_fx_0, sw_fx_l, sw_fx_d, sw_sl1_0, sw_sl1_1, sw_sl1_s, sw_no_0, sw_no_s, sw_no_e, sw_mk_t, sw_mk_f, sw_mk_e, sw_en_0, sw_en_n, sw_en_i, sw_en_r, sw_en_z, sw_en_l, sw_en_d, sw_ok_0, sw_ok_1, sw_ok_2, sw_ok_3, sw_ok_4, sw_bo_s, sw_oi_s, sw_cl_s, sw_cl_x, sw_psh_s, sw_psh_n, sw_kd_s, sw_op_s, sw_oc_s, sw_oc_e, sw_oa_s, sw_el_n, sw_el_r, sl_kds_1, sl_kds_67, sw_fit_i, sw_fit_r, sw_fit_n, sw_fit_l, sw_fit_d, sw_fit_b, sw_fit_0, sw_fit_1, sw_rel_0, sw_rel_1, sw_rel_2, sw_rel_3, sw_rel_4, sw_rel_5, sw_hp_set, sw_nx_set, sw_sl_set, sw_ev_set, sw_hp_new, sw_nx_new, sw_sl_new, sw_ev_new, List.getElem?_cons_zero, List.getElem?_cons_succ, List.set_cons_zero, List.set_cons_succ, List.length_cons, List.length_nil, Nat.reduceAdd, Nat.reduceSub, Nat.reduceLT, Nat.reduceLeDiff, Nat.zero_lt_succ, Nat.zero_add, beq_self_eq_true, Bool.true_and, and_true, true_and, and_self, not_true_eq_false, not_false_eq_true, ↓reduceIte, Nat.reduceBEq, eq_self, h, hr, e1, e2, hw, hf]
theorem jc_J2_get {Q : Nat → Prop} {ev : Nat → Nat} {D a i b : Nat} {P : sw_P} {vs : List Value} (hD : 3 ≤ D) (h : sl_rd (sw_hp P) (sl_lx Q ev a vs)) (hi : vs[i]? = some (.ref b)) (hn : vs.length < 2 ^ 31) : sw_Z D m_J2_get [.ref a, .int (nI i)] P = some (.inl (some (.ref b)), P) := by
  obtain ⟨d, hDe, hDn⟩ := sw_dep hD; subst hDe; replace hD := hDn; clear hDn
  obtain ⟨mc, arr, pad, -, h1, h2⟩ := sl_rd_lx h
  have hlt : i < vs.length := (List.getElem?_eq_some_iff.mp hi).1
  have hr : sw_hp P arr = some (67, vs ++ List.replicate pad .null) := by
    rcases h2 with ⟨-, q, -⟩ | q
    · subst q; cases hi
    · exact q
  have e1 := jc_J6_checkIndex (D := d) (P := P) hD hlt hn
  have e2 := jc_J2_elementData (D := d) (i := i) (by omega) h1 hr (by omega) (show _ = some (Value.ref b) from by rw [List.getElem?_append_left hlt]; exact hi) rfl
  rw [M_J2_get _ _ _ rfl]; simp only [at_J2_get_0, ey_ld, sk_ld_s, ey_gf, sk_gf_s, sk_v_s, ey_cs2, sk_c_s, ex_pop_i, ex_pop_r, ex_pop_n, ey_cv1, ex_rv, sw_gl_0, sw_gl_s, sw_fx_n, sw_fx_i, sw_fx_r, sw_fx_0, sw_fx_l, sw_fx_d, sw_sl1_0, sw_sl1_1, sw_sl1_s, sw_no_0, sw_no_s, sw_no_e, sw_mk_t, sw_mk_f, sw_mk_e, sw_en_0, sw_en_n, sw_en_i, sw_en_r, sw_en_z, sw_en_l, sw_en_d, sw_ok_0, sw_ok_1, sw_ok_2, sw_ok_3, sw_ok_4, sw_bo_s, sw_oi_s, sw_cl_s, sw_cl_x, sw_psh_s, sw_psh_n, sw_kd_s, sw_op_s, sw_oc_s, sw_oc_e, sw_oa_s, sw_el_n, sw_el_r, sl_kds_1, sl_kds_67, sw_fit_i, sw_fit_r, sw_fit_n, sw_fit_l, sw_fit_d, sw_fit_b, sw_fit_0, sw_fit_1, sw_rel_0, sw_rel_1, sw_rel_2, sw_rel_3, sw_rel_4, sw_rel_5, sw_hp_set, sw_nx_set, sw_sl_set, sw_ev_set, sw_hp_new, sw_nx_new, sw_sl_new, sw_ev_new, List.getElem?_cons_zero, List.getElem?_cons_succ, List.set_cons_zero, List.set_cons_succ, List.length_cons, List.length_nil, Nat.reduceAdd, Nat.reduceSub, Nat.reduceLT, Nat.reduceLeDiff, Nat.zero_lt_succ, Nat.zero_add, beq_self_eq_true, Bool.true_and, and_true, true_and, and_self, not_true_eq_false, not_false_eq_true, ↓reduceIte, Nat.reduceBEq, eq_self, h1, e1, e2]
theorem jc_J2_sizeR {Q : Nat → Prop} {ev : Nat → Nat} {D a : Nat} {P : sw_P} {vs : List Value} (hD : 1 ≤ D) (h : sl_rd (sw_hp P) (sl_lx Q ev a vs)) : sw_Z D m_J2_size [.ref a] P = some (.inl (some (.int (nI vs.length))), P) := by
  obtain ⟨mc, arr, pad, -, h1, h2⟩ := sl_rd_lx h
  exact jc_J2_size hD h1
theorem jc_J8_ordinal {D a : Nat} {P : sw_P} {n : Int32} (hD : 1 ≤ D) (h : sw_hp P a = some (40, [.int n])) : sw_Z D m_J8_ordinal [.ref a] P = some (.inl (some (.int n)), P) := by
  obtain ⟨d, hDe, hDn⟩ := sw_dep hD; subst hDe; replace hD := hDn; clear hDn
  rw [M_J8_ordinal _ _ _ rfl]; simp only [at_J8_ordinal_0, ey_ld, sk_ld_s, ey_gf, sk_gf_s, sk_v_s, ex_rv, sw_gl_0, sw_gl_s, sw_fx_n, sw_fx_i, sw_fx_r, sw_fx_0, sw_fx_l, sw_fx_d, sw_sl1_0, sw_sl1_1, sw_sl1_s, sw_no_0, sw_no_s, sw_no_e, sw_mk_t, sw_mk_f, sw_mk_e, sw_en_0, sw_en_n, sw_en_i, sw_en_r, sw_en_z, sw_en_l, sw_en_d, sw_ok_0, sw_ok_1, sw_ok_2, sw_ok_3, sw_ok_4, sw_bo_s, sw_oi_s, sw_cl_s, sw_cl_x, sw_psh_s, sw_psh_n, sw_kd_s, sw_op_s, sw_oc_s, sw_oc_e, sw_oa_s, sw_el_n, sw_el_r, sl_kds_1, sl_kds_67, sw_fit_i, sw_fit_r, sw_fit_n, sw_fit_l, sw_fit_d, sw_fit_b, sw_fit_0, sw_fit_1, sw_rel_0, sw_rel_1, sw_rel_2, sw_rel_3, sw_rel_4, sw_rel_5, sw_hp_set, sw_nx_set, sw_sl_set, sw_ev_set, sw_hp_new, sw_nx_new, sw_sl_new, sw_ev_new, List.getElem?_cons_zero, List.getElem?_cons_succ, List.set_cons_zero, List.set_cons_succ, List.length_cons, List.length_nil, Nat.reduceAdd, Nat.reduceSub, Nat.reduceLT, Nat.reduceLeDiff, Nat.zero_lt_succ, Nat.zero_add, beq_self_eq_true, Bool.true_and, and_true, true_and, and_self, not_true_eq_false, not_false_eq_true, ↓reduceIte, Nat.reduceBEq, eq_self, h]
theorem jc_J24_equals {D a b : Nat} {P : sw_P} (hD : 1 ≤ D) : sw_Z D m_J24_equals [.ref a, .ref b] P = some (.inl (some (.int (sw_b (decide (a = b))))), P) := by
  obtain ⟨d, hDe, hDn⟩ := sw_dep hD; subst hDe; replace hD := hDn; clear hDn
  rw [M_J24_equals _ _ _ rfl]; simp only [at_J24_equals_0, at_J24_equals_1, at_J24_equals_2, ey_ld, sk_ld_s, ex_iac_t, ex_iac_f, ex_push, ex_goto, ex_rv, sw_gl_0, sw_gl_s, sw_fx_n, sw_fx_i, sw_fx_r, sw_fx_0, sw_fx_l, sw_fx_d, sw_sl1_0, sw_sl1_1, sw_sl1_s, sw_no_0, sw_no_s, sw_no_e, sw_mk_t, sw_mk_f, sw_mk_e, sw_en_0, sw_en_n, sw_en_i, sw_en_r, sw_en_z, sw_en_l, sw_en_d, sw_ok_0, sw_ok_1, sw_ok_2, sw_ok_3, sw_ok_4, sw_bo_s, sw_oi_s, sw_cl_s, sw_cl_x, sw_psh_s, sw_psh_n, sw_kd_s, sw_op_s, sw_oc_s, sw_oc_e, sw_oa_s, sw_el_n, sw_el_r, sl_kds_1, sl_kds_67, sw_fit_i, sw_fit_r, sw_fit_n, sw_fit_l, sw_fit_d, sw_fit_b, sw_fit_0, sw_fit_1, sw_rel_0, sw_rel_1, sw_rel_2, sw_rel_3, sw_rel_4, sw_rel_5, sw_hp_set, sw_nx_set, sw_sl_set, sw_ev_set, sw_hp_new, sw_nx_new, sw_sl_new, sw_ev_new, List.getElem?_cons_zero, List.getElem?_cons_succ, List.set_cons_zero, List.set_cons_succ, List.length_cons, List.length_nil, Nat.reduceAdd, Nat.reduceSub, Nat.reduceLT, Nat.reduceLeDiff, Nat.zero_lt_succ, Nat.zero_add, beq_self_eq_true, Bool.true_and, and_true, true_and, and_self, not_true_eq_false, not_false_eq_true, ↓reduceIte, Nat.reduceBEq, eq_self]
  by_cases hn : a = b
  · simp only [at_J24_equals_0, at_J24_equals_1, at_J24_equals_2, ey_ld, sk_ld_s, ex_iac_t, ex_iac_f, ex_push, ex_goto, ex_rv, sw_gl_0, sw_gl_s, sw_fx_n, sw_fx_i, sw_fx_r, sw_fx_0, sw_fx_l, sw_fx_d, sw_sl1_0, sw_sl1_1, sw_sl1_s, sw_no_0, sw_no_s, sw_no_e, sw_mk_t, sw_mk_f, sw_mk_e, sw_en_0, sw_en_n, sw_en_i, sw_en_r, sw_en_z, sw_en_l, sw_en_d, sw_ok_0, sw_ok_1, sw_ok_2, sw_ok_3, sw_ok_4, sw_bo_s, sw_oi_s, sw_cl_s, sw_cl_x, sw_psh_s, sw_psh_n, sw_kd_s, sw_op_s, sw_oc_s, sw_oc_e, sw_oa_s, sw_el_n, sw_el_r, sl_kds_1, sl_kds_67, sw_fit_i, sw_fit_r, sw_fit_n, sw_fit_l, sw_fit_d, sw_fit_b, sw_fit_0, sw_fit_1, sw_rel_0, sw_rel_1, sw_rel_2, sw_rel_3, sw_rel_4, sw_rel_5, sw_hp_set, sw_nx_set, sw_sl_set, sw_ev_set, sw_hp_new, sw_nx_new, sw_sl_new, sw_ev_new, List.getElem?_cons_zero, List.getElem?_cons_succ, List.set_cons_zero, List.set_cons_succ, List.length_cons, List.length_nil, Nat.reduceAdd, Nat.reduceSub, Nat.reduceLT, Nat.reduceLeDiff, Nat.zero_lt_succ, Nat.zero_add, beq_self_eq_true, Bool.true_and, and_true, true_and, and_self, not_true_eq_false, not_false_eq_true, ↓reduceIte, Nat.reduceBEq, eq_self, hn, decide_true, sw_b_t]
  · simp only [at_J24_equals_0, at_J24_equals_1, at_J24_equals_2, ey_ld, sk_ld_s, ex_iac_t, ex_iac_f, ex_push, ex_goto, ex_rv, sw_gl_0, sw_gl_s, sw_fx_n, sw_fx_i, sw_fx_r, sw_fx_0, sw_fx_l, sw_fx_d, sw_sl1_0, sw_sl1_1, sw_sl1_s, sw_no_0, sw_no_s, sw_no_e, sw_mk_t, sw_mk_f, sw_mk_e, sw_en_0, sw_en_n, sw_en_i, sw_en_r, sw_en_z, sw_en_l, sw_en_d, sw_ok_0, sw_ok_1, sw_ok_2, sw_ok_3, sw_ok_4, sw_bo_s, sw_oi_s, sw_cl_s, sw_cl_x, sw_psh_s, sw_psh_n, sw_kd_s, sw_op_s, sw_oc_s, sw_oc_e, sw_oa_s, sw_el_n, sw_el_r, sl_kds_1, sl_kds_67, sw_fit_i, sw_fit_r, sw_fit_n, sw_fit_l, sw_fit_d, sw_fit_b, sw_fit_0, sw_fit_1, sw_rel_0, sw_rel_1, sw_rel_2, sw_rel_3, sw_rel_4, sw_rel_5, sw_hp_set, sw_nx_set, sw_sl_set, sw_ev_set, sw_hp_new, sw_nx_new, sw_sl_new, sw_ev_new, List.getElem?_cons_zero, List.getElem?_cons_succ, List.set_cons_zero, List.set_cons_succ, List.length_cons, List.length_nil, Nat.reduceAdd, Nat.reduceSub, Nat.reduceLT, Nat.reduceLeDiff, Nat.zero_lt_succ, Nat.zero_add, beq_self_eq_true, Bool.true_and, and_true, true_and, and_self, not_true_eq_false, not_false_eq_true, ↓reduceIte, Nat.reduceBEq, eq_self, hn, decide_false, sw_b_f]
/-! growth -/
theorem jc_J3_newLength {D a b q : Nat} {P : sw_P} (hD : 1 ≤ D) (ha : a + max b q < 2 ^ 30) (h0 : 0 < a + max b q) : sw_Z D m_J3_newLength [.int (nI a), .int (nI b), .int (nI q)] P = some (.inl (some (.int (nI (a + max b q)))), P) := by
  obtain ⟨d, hDe, hDn⟩ := sw_dep hD; subst hDe; replace hD := hDn; clear hDn
  have e1 : sw_max (nI b) (nI q) = nI (max b q) := sl_max_nI (by omega) (by omega)
  have e2 : ¬ nI (a + max b q) ≤ 0 := nI_nle h0 (by omega)
  have e3 : ¬ (2147483639 : Int32) < nI (a + max b q) := nI_nlt (a := 2147483639) (by omega) (by omega)
  rw [M_J3_newLength _ _ _ rfl]; simp only [at_J3_newLength_0, at_J3_newLength_1, ey_ld, sk_ld_s, ex_mm, ex_ii, ex_sti, ex_push, ex_ic, ex_rv, sw_gl_0, sw_gl_s, sw_fx_n, sw_fx_i, sw_fx_r, sw_fx_0, sw_fx_l, sw_fx_d, sw_sl1_0, sw_sl1_1, sw_sl1_s, sw_no_0, sw_no_s, sw_no_e, sw_mk_t, sw_mk_f, sw_mk_e, sw_en_0, sw_en_n, sw_en_i, sw_en_r, sw_en_z, sw_en_l, sw_en_d, sw_ok_0, sw_ok_1, sw_ok_2, sw_ok_3, sw_ok_4, sw_bo_s, sw_oi_s, sw_cl_s, sw_cl_x, sw_psh_s, sw_psh_n, sw_kd_s, sw_op_s, sw_oc_s, sw_oc_e, sw_oa_s, sw_el_n, sw_el_r, sl_kds_1, sl_kds_67, sw_fit_i, sw_fit_r, sw_fit_n, sw_fit_l, sw_fit_d, sw_fit_b, sw_fit_0, sw_fit_1, sw_rel_0, sw_rel_1, sw_rel_2, sw_rel_3, sw_rel_4, sw_rel_5, sw_hp_set, sw_nx_set, sw_sl_set, sw_ev_set, sw_hp_new, sw_nx_new, sw_sl_new, sw_ev_new, List.getElem?_cons_zero, List.getElem?_cons_succ, List.set_cons_zero, List.set_cons_succ, List.length_cons, List.length_nil, Nat.reduceAdd, Nat.reduceSub, Nat.reduceLT, Nat.reduceLeDiff, Nat.zero_lt_succ, Nat.zero_add, beq_self_eq_true, Bool.true_and, and_true, true_and, and_self, not_true_eq_false, not_false_eq_true, ↓reduceIte, Nat.reduceBEq, eq_self, e1, nI_add, e2, e3]
theorem sl_cpy_take (vs : List Value) (k : Nat) : sw_cpy vs (List.replicate k (sw_dv 67)) 0 0 (min vs.length k) = vs.take k ++ List.replicate (k - vs.length) .null := by
  unfold sw_cpy
  simp only [List.take_zero, List.nil_append, List.drop_zero, Nat.zero_add, List.drop_replicate]
  rw [show k - min vs.length k = k - vs.length by omega]
  congr 1
  rcases Nat.le_total vs.length k with h | h
  · rw [Nat.min_eq_left h, List.take_of_length_le (Nat.le_refl _), List.take_of_length_le h]
  · rw [Nat.min_eq_right h]
theorem jc_J5_copyOf_2 {D a k t : Nat} {P : sw_P} {vs : List Value} (hD : 1 ≤ D) (h : sw_hp P a = some (t, vs)) (ht : t = 67 ∨ t = 70) (hk : k ≤ 1048576) (hl : vs.length < 2 ^ 31) (hv : ∀ v ∈ vs, sw_el P sw_k67 v = true) (hn : ∀ q, sw_nx P ≤ q → sw_hp P q = none) : sw_Z D m_J5_copyOf_2 [.ref a, .int (nI k), .ref (sw_ev P 50)] P = some (.inl (some (.ref (sw_nx P))), sw_new P (67, vs.take k ++ List.replicate (k - vs.length) .null)) := by
  obtain ⟨d, hDe, hDn⟩ := sw_dep hD; subst hDe; replace hD := hDn; clear hDn
  have hne : a ≠ sw_nx P := by
    intro e
    rw [hn a (by omega)] at h
    cases h
  have e1 : (0 : Int32) ≤ nI k := nI_pos' (by omega)
  have e2 : (nI k).toNatClampNeg = k := nI_clamp (by omega)
  have e3 : sw_min (Int32.ofNat vs.length) (nI k) = nI (min vs.length k) := sl_min_nI hl (by omega)
  have e4 : (0 : Int32) ≤ nI (min vs.length k) := nI_pos' (by omega)
  have e5 : (nI (min vs.length k)).toNatClampNeg = min vs.length k := nI_clamp (by omega)
  have e6 : (0 : Int32).toNatClampNeg = 0 := rfl
  have e7 : (0 : Int32) ≤ 0 := by decide
  have e8 : ((vs.drop 0).take (min vs.length k)).all (sw_ce (sw_new P (67, List.replicate k (sw_dv 67))) 67) = true := by
    rw [List.all_eq_true]
    intro v hm
    have hm := hv v (List.mem_of_mem_drop (List.mem_of_mem_take hm))
    show sw_el _ _ v = true
    cases v with
    | ref b =>
      have hm : sw_kds (sw_hp P b) sw_k67 = true := hm
      show sw_kds (if b = sw_nx P then _ else sw_hp P b) sw_k67 = true
      rw [if_neg]
      · exact hm
      · intro e
        rw [hn b (Nat.le_of_eq e.symm)] at hm
        cases hm
    | _ => first | rfl | exact hm
  have e9 : 64 ≤ t := by omega
  have h2 : sw_hp (sw_new P (67, List.replicate k (sw_dv 67))) a = some (t, vs) := by
    show (if a = sw_nx P then _ else sw_hp P a) = _
    rw [if_neg hne]; exact h
  have h3 : sw_hp (sw_new P (67, List.replicate k (sw_dv 67))) (sw_nx P) = some (67, List.replicate k (sw_dv 67)) := if_pos rfl
  have hoc : ∀ f : List Value → Option sw_R, sw_oc (some (t, vs)) 67 f = f vs := by
    intro f
    rcases ht with e | e <;> subst e <;> rfl
  have e10 : min vs.length k ≤ vs.length := by omega
  have e11 : min vs.length k ≤ (List.replicate k (sw_dv 67)).length := by rw [List.length_replicate]; omega
  rw [M_J5_copyOf_2 _ _ _ rfl]
  simp only [at_J5_copyOf_2_0, at_J5_copyOf_2_2, ey_ld, sk_ld_s, ex_gs, ex_iac_f, ex_na, ex_goto, sw_gl_0, sw_gl_s, sw_fx_n, sw_fx_i, sw_fx_r, sw_fx_0, sw_fx_l, sw_fx_d, sw_sl1_0, sw_sl1_1, sw_sl1_s, sw_no_0, sw_no_s, sw_no_e, sw_mk_t, sw_mk_f, sw_mk_e, sw_en_0, sw_en_n, sw_en_i, sw_en_r, sw_en_z, sw_en_l, sw_en_d, sw_ok_0, sw_ok_1, sw_ok_2, sw_ok_3, sw_ok_4, sw_bo_s, sw_oi_s, sw_cl_s, sw_cl_x, sw_psh_s, sw_psh_n, sw_kd_s, sw_op_s, sw_oc_s, sw_oc_e, sw_oa_s, sw_el_n, sw_el_r, sl_kds_1, sl_kds_67, sw_fit_i, sw_fit_r, sw_fit_n, sw_fit_l, sw_fit_d, sw_fit_b, sw_fit_0, sw_fit_1, sw_rel_0, sw_rel_1, sw_rel_2, sw_rel_3, sw_rel_4, sw_rel_5, sw_hp_set, sw_nx_set, sw_sl_set, sw_ev_set, sw_hp_new, sw_nx_new, sw_sl_new, sw_ev_new, List.getElem?_cons_zero, List.getElem?_cons_succ, List.set_cons_zero, List.set_cons_succ, List.length_cons, List.length_nil, Nat.reduceAdd, Nat.reduceSub, Nat.reduceLT, Nat.reduceLeDiff, Nat.zero_lt_succ, Nat.zero_add, beq_self_eq_true, Bool.true_and, and_true, true_and, and_self, not_true_eq_false, not_false_eq_true, ↓reduceIte, Nat.reduceBEq, eq_self, e1, e2, hk]
  generalize hP1 : sw_new P (67, List.replicate k (sw_dv 67)) = P1 at *
  simp only [ex_sta, ey_ld, sk_ld_s, ex_push, ey_al, sk_al_s, ex_mm, ey_cp, sk_cp1_s, sk_cp2_s, ex_rv, sw_gl_0, sw_gl_s, sw_fx_n, sw_fx_i, sw_fx_r, sw_fx_0, sw_fx_l, sw_fx_d, sw_sl1_0, sw_sl1_1, sw_sl1_s, sw_no_0, sw_no_s, sw_no_e, sw_mk_t, sw_mk_f, sw_mk_e, sw_en_0, sw_en_n, sw_en_i, sw_en_r, sw_en_z, sw_en_l, sw_en_d, sw_ok_0, sw_ok_1, sw_ok_2, sw_ok_3, sw_ok_4, sw_bo_s, sw_oi_s, sw_cl_s, sw_cl_x, sw_psh_s, sw_psh_n, sw_kd_s, sw_op_s, sw_oc_s, sw_oc_e, sw_oa_s, sw_el_n, sw_el_r, sl_kds_1, sl_kds_67, sw_fit_i, sw_fit_r, sw_fit_n, sw_fit_l, sw_fit_d, sw_fit_b, sw_fit_0, sw_fit_1, sw_rel_0, sw_rel_1, sw_rel_2, sw_rel_3, sw_rel_4, sw_rel_5, sw_hp_set, sw_nx_set, sw_sl_set, sw_ev_set, sw_hp_new, sw_nx_new, sw_sl_new, sw_ev_new, List.getElem?_cons_zero, List.getElem?_cons_succ, List.set_cons_zero, List.set_cons_succ, List.length_cons, List.length_nil, Nat.reduceAdd, Nat.reduceSub, Nat.reduceLT, Nat.reduceLeDiff, Nat.zero_lt_succ, Nat.zero_add, beq_self_eq_true, Bool.true_and, and_true, true_and, and_self, not_true_eq_false, not_false_eq_true, ↓reduceIte, Nat.reduceBEq, eq_self, h2, h3, hoc, e3, e4, e5, e6, e7, e8, e9, e10, e11]
  rw [← hP1, sw_set_new _ _ _ _ _ (by unfold sw_cpy; simp; omega), sl_cpy_take]
theorem jc_J5_copyOf {D a k t : Nat} {P : sw_P} {vs : List Value} (hD : 2 ≤ D) (h : sw_hp P a = some (t, vs)) (ht : t = 67 ∨ t = 70) (hk : k ≤ 1048576) (hl : vs.length < 2 ^ 31) (hv : ∀ v ∈ vs, sw_el P sw_k67 v = true) (hn : ∀ q, sw_nx P ≤ q → sw_hp P q = none) : sw_Z D m_J5_copyOf [.ref a, .int (nI k)] P = some (.inl (some (.ref (sw_nx P))), sw_new P (67, vs.take k ++ List.replicate (k - vs.length) .null)) := by
  obtain ⟨d, hDe, hDn⟩ := sw_dep hD; subst hDe; replace hD := hDn; clear hDn
  have e1 : sw_kds (some (t, vs)) [67, 70] = true := by rcases ht with e | e <;> subst e <;> rfl
  have e2 := jc_J5_copyOf_2 (D := d) (P := P) hD h ht hk hl hv hn
  rw [M_J5_copyOf _ _ _ rfl]; simp only [at_J5_copyOf_0, ey_ld, sk_ld_s, ex_gc, ey_cs3, sk_c_s, ex_rv, sw_gl_0, sw_gl_s, sw_fx_n, sw_fx_i, sw_fx_r, sw_fx_0, sw_fx_l, sw_fx_d, sw_sl1_0, sw_sl1_1, sw_sl1_s, sw_no_0, sw_no_s, sw_no_e, sw_mk_t, sw_mk_f, sw_mk_e, sw_en_0, sw_en_n, sw_en_i, sw_en_r, sw_en_z, sw_en_l, sw_en_d, sw_ok_0, sw_ok_1, sw_ok_2, sw_ok_3, sw_ok_4, sw_bo_s, sw_oi_s, sw_cl_s, sw_cl_x, sw_psh_s, sw_psh_n, sw_kd_s, sw_op_s, sw_oc_s, sw_oc_e, sw_oa_s, sw_el_n, sw_el_r, sl_kds_1, sl_kds_67, sw_fit_i, sw_fit_r, sw_fit_n, sw_fit_l, sw_fit_d, sw_fit_b, sw_fit_0, sw_fit_1, sw_rel_0, sw_rel_1, sw_rel_2, sw_rel_3, sw_rel_4, sw_rel_5, sw_hp_set, sw_nx_set, sw_sl_set, sw_ev_set, sw_hp_new, sw_nx_new, sw_sl_new, sw_ev_new, List.getElem?_cons_zero, List.getElem?_cons_succ, List.set_cons_zero, List.set_cons_succ, List.length_cons, List.length_nil, Nat.reduceAdd, Nat.reduceSub, Nat.reduceLT, Nat.reduceLeDiff, Nat.zero_lt_succ, Nat.zero_add, beq_self_eq_true, Bool.true_and, and_true, true_and, and_self, not_true_eq_false, not_false_eq_true, ↓reduceIte, Nat.reduceBEq, eq_self, h, e1, e2]
theorem jc_J2_init {D a : Nat} {P : sw_P} {x y z : Value} (hD : 3 ≤ D) (h : sw_hp P a = some (24, [x, y, z])) : sw_Z D m_J2_init [.ref a] P = some (.inl none, sw_set P a (24, [.int 0, .ref (sw_ev P 10), z])) := by
  obtain ⟨d, hDe, hDn⟩ := sw_dep hD; subst hDe; replace hD := hDn; clear hDn
  obtain ⟨d, hDe, hDn⟩ := sw_dep (D := d) (k := 1) (by omega); subst hDe; replace hD := hDn; clear hDn
  have e0 : ∀ Q : sw_P, sw_Z d m_J0_init [.ref a] Q = some (.inl none, Q) := fun Q => jc_J0_init hD
  have e1 : sw_Z (d + 1) m_J1_init [.ref a] P = some (.inl none, sw_set P a (24, [.int 0, y, z])) := by
    rw [M_J1_init _ _ _ rfl]; simp only [at_J1_init_0, ey_ld, sk_ld_s, ey_ci0, sk_c_s, ex_push, ey_pf, sk_pf_s, sw_set_set, ex_ret, sw_gl_0, sw_gl_s, sw_fx_n, sw_fx_i, sw_fx_r, sw_fx_0, sw_fx_l, sw_fx_d, sw_sl1_0, sw_sl1_1, sw_sl1_s, sw_no_0, sw_no_s, sw_no_e, sw_mk_t, sw_mk_f, sw_mk_e, sw_en_0, sw_en_n, sw_en_i, sw_en_r, sw_en_z, sw_en_l, sw_en_d, sw_ok_0, sw_ok_1, sw_ok_2, sw_ok_3, sw_ok_4, sw_bo_s, sw_oi_s, sw_cl_s, sw_cl_x, sw_psh_s, sw_psh_n, sw_kd_s, sw_op_s, sw_oc_s, sw_oc_e, sw_oa_s, sw_el_n, sw_el_r, sl_kds_1, sl_kds_67, sw_fit_i, sw_fit_r, sw_fit_n, sw_fit_l, sw_fit_d, sw_fit_b, sw_fit_0, sw_fit_1, sw_rel_0, sw_rel_1, sw_rel_2, sw_rel_3, sw_rel_4, sw_rel_5, sw_hp_set, sw_nx_set, sw_sl_set, sw_ev_set, sw_hp_new, sw_nx_new, sw_sl_new, sw_ev_new, List.getElem?_cons_zero, List.getElem?_cons_succ, List.set_cons_zero, List.set_cons_succ, List.length_cons, List.length_nil, Nat.reduceAdd, Nat.reduceSub, Nat.reduceLT, Nat.reduceLeDiff, Nat.zero_lt_succ, Nat.zero_add, beq_self_eq_true, Bool.true_and, and_true, true_and, and_self, not_true_eq_false, not_false_eq_true, ↓reduceIte, Nat.reduceBEq, eq_self, e0, h]
  rw [M_J2_init _ _ _ rfl]; simp only [at_J2_init_0, ey_ld, sk_ld_s, ey_ci0, sk_c_s, ex_gs, ey_pf, sk_pf_s, sw_set_set, ex_ret, sw_gl_0, sw_gl_s, sw_fx_n, sw_fx_i, sw_fx_r, sw_fx_0, sw_fx_l, sw_fx_d, sw_sl1_0, sw_sl1_1, sw_sl1_s, sw_no_0, sw_no_s, sw_no_e, sw_mk_t, sw_mk_f, sw_mk_e, sw_en_0, sw_en_n, sw_en_i, sw_en_r, sw_en_z, sw_en_l, sw_en_d, sw_ok_0, sw_ok_1, sw_ok_2, sw_ok_3, sw_ok_4, sw_bo_s, sw_oi_s, sw_cl_s, sw_cl_x, sw_psh_s, sw_psh_n, sw_kd_s, sw_op_s, sw_oc_s, sw_oc_e, sw_oa_s, sw_el_n, sw_el_r, sl_kds_1, sl_kds_67, sw_fit_i, sw_fit_r, sw_fit_n, sw_fit_l, sw_fit_d, sw_fit_b, sw_fit_0, sw_fit_1, sw_rel_0, sw_rel_1, sw_rel_2, sw_rel_3, sw_rel_4, sw_rel_5, sw_hp_set, sw_nx_set, sw_sl_set, sw_ev_set, sw_hp_new, sw_nx_new, sw_sl_new, sw_ev_new, List.getElem?_cons_zero, List.getElem?_cons_succ, List.set_cons_zero, List.set_cons_succ, List.length_cons, List.length_nil, Nat.reduceAdd, Nat.reduceSub, Nat.reduceLT, Nat.reduceLeDiff, Nat.zero_lt_succ, Nat.zero_add, beq_self_eq_true, Bool.true_and, and_true, true_and, and_self, not_true_eq_false, not_false_eq_true, ↓reduceIte, Nat.reduceBEq, eq_self, e1]
