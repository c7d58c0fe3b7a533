/-! ===== the component's main class: a node ===== -/
theorem sl_setF {N : List (Nat × sp_Node)} {j : Nat} {y : Nat × sp_Node} (hl : N.length ≤ 80) (hy : N[j]? = some y) (f : Bool) : (N.set j (y.1, sp_mk y.2 f)).map (·.2) = sp_setF (N.map (·.2)) j f := by
  unfold sp_setF
  rw [sp_nd_nI (by rw [List.length_map]; exact hl) (x := y.2) (by rw [List.getElem?_map, hy]; rfl), List.map_set]
section
variable {ev : Nat → Nat} {x bd mach l D d c s : Nat} {pa : sp_PA} {N : List (Nat × sp_Node)} {B : List sp_Blk} {T L : List Int32} {out : Int32} {m : sp_Mach} {b0 b' : sp_Bd} {F : List sl_A} {P : sw_P}
theorem jc_X1_isFreeNode {v : Int32} (hD : 5 ≤ D) (hx : sw_hp P x = some (sp_xC pa mach bd)) (h : sl_rds (sw_hp P) (sl_prog ev pa N B T out)) (hN : N.length ≤ 80) : sw_Z D m_X1_isFreeNode [.ref x, .int v] P = some (.inl (some (.int (sw_b (sp_fn (N.map (·.2)) v)))), P) := by
  obtain ⟨d, hDe, hDn⟩ := sw_dep hD; subst hDe; replace hD := hDn; clear hDn
  have h0 := sl_rd_pt.mp (sl_rds_at h 0 rfl)
  have e1 := jc_J2_sizeR (D := d) (by omega) (sl_rds_at h 1 rfl)
  obtain ⟨_, _, _, _, e3, _⟩ := sl_rd_lx (sl_rds_at h 1 rfl)
  rw [List.length_map] at e1
  unfold sp_fn
  rw [List.length_map]
  cases c1 : sp_at v (nI N.length)
  · rw [Bool.false_and, sw_b_f]
    by_cases c2 : v < 0
    · rw [M_X1_isFreeNode _ _ _ rfl]; simp only [at_X1_isFreeNode_0, at_X1_isFreeNode_1, at_X1_isFreeNode_2, ey_ld, sk_ld_s, ex_iz, ey_gf, sk_gf_s, sk_v_s, ey_cv0, sk_c_s, ex_ic, ey_cv1, ex_push, ex_goto, ex_rv, sw_gl_0, sw_gl_s, sw_fx_n, sw_fx_i, sw_fx_r, sw_fx_0, sw_fx_l, sw_fx_d, sw_sl1_0, sw_sl1_1, sw_sl1_s, sw_no_0, sw_no_s, sw_no_e, sw_mk_t, sw_mk_f, sw_mk_e, sw_en_0, sw_en_n, sw_en_i, sw_en_r, sw_en_z, sw_en_l, sw_en_d, sw_ok_0, sw_ok_1, sw_ok_2, sw_ok_3, sw_ok_4, sw_bo_s, sw_oi_s, sw_cl_s, sw_cl_x, sw_psh_s, sw_psh_n, sw_kd_s, sw_op_s, sw_oc_s, sw_oc_e, sw_oa_s, sw_el_n, sw_el_r, sl_kds_1, sl_kds_67, sw_fit_i, sw_fit_r, sw_fit_n, sw_fit_l, sw_fit_d, sw_fit_b, sw_fit_0, sw_fit_1, sw_rel_0, sw_rel_1, sw_rel_2, sw_rel_3, sw_rel_4, sw_rel_5, sw_hp_set, sw_nx_set, sw_sl_set, sw_ev_set, sw_hp_new, sw_nx_new, sw_sl_new, sw_ev_new, List.getElem?_cons_zero, List.getElem?_cons_succ, List.set_cons_zero, List.set_cons_succ, List.length_cons, List.length_nil, Nat.reduceAdd, Nat.reduceSub, Nat.reduceLT, Nat.reduceLeDiff, Nat.zero_lt_succ, Nat.zero_add, beq_self_eq_true, Bool.true_and, and_true, true_and, and_self, not_true_eq_false, not_false_eq_true, ↓reduceIte, Nat.reduceBEq, eq_self, sw_b_0, sw_b_1, decide_eq_false_iff_not, decide_eq_true_eq, sl_n10, sl_n01, Decidable.not_not, sl_ct, sl_cats_0, sl_cats_i, sl_cats_r, sl_cats_n, sl_cats_l, sl_ok_5, sl_ok9, decide_true, sp_machC, sp_nodeC, sp_opC, sl_z0, sl_z1, sl_z2, sl_z3, sl_z4, sl_z5, sl_z6, sl_z7, sl_c0, sl_c1, sl_c2, sl_c3, sl_c4, sl_c5, sl_c6, sl_c7, List.length_map, sp_lifeC, sp_inC, sp_rnC, eq_true c2]
    · by_cases c3 : nI N.length ≤ v
      · rw [M_X1_isFreeNode _ _ _ rfl]; simp only [at_X1_isFreeNode_0, at_X1_isFreeNode_1, at_X1_isFreeNode_2, ey_ld, sk_ld_s, ex_iz, ey_gf, sk_gf_s, sk_v_s, ey_cv0, sk_c_s, ex_ic, ey_cv1, ex_push, ex_goto, ex_rv, sw_gl_0, sw_gl_s, sw_fx_n, sw_fx_i, sw_fx_r, sw_fx_0, sw_fx_l, sw_fx_d, sw_sl1_0, sw_sl1_1, sw_sl1_s, sw_no_0, sw_no_s, sw_no_e, sw_mk_t, sw_mk_f, sw_mk_e, sw_en_0, sw_en_n, sw_en_i, sw_en_r, sw_en_z, sw_en_l, sw_en_d, sw_ok_0, sw_ok_1, sw_ok_2, sw_ok_3, sw_ok_4, sw_bo_s, sw_oi_s, sw_cl_s, sw_cl_x, sw_psh_s, sw_psh_n, sw_kd_s, sw_op_s, sw_oc_s, sw_oc_e, sw_oa_s, sw_el_n, sw_el_r, sl_kds_1, sl_kds_67, sw_fit_i, sw_fit_r, sw_fit_n, sw_fit_l, sw_fit_d, sw_fit_b, sw_fit_0, sw_fit_1, sw_rel_0, sw_rel_1, sw_rel_2, sw_rel_3, sw_rel_4, sw_rel_5, sw_hp_set, sw_nx_set, sw_sl_set, sw_ev_set, sw_hp_new, sw_nx_new, sw_sl_new, sw_ev_new, List.getElem?_cons_zero, List.getElem?_cons_succ, List.set_cons_zero, List.set_cons_succ, List.length_cons, List.length_nil, Nat.reduceAdd, Nat.reduceSub, Nat.reduceLT, Nat.reduceLeDiff, Nat.zero_lt_succ, Nat.zero_add, beq_self_eq_true, Bool.true_and, and_true, true_and, and_self, not_true_eq_false, not_false_eq_true, ↓reduceIte, Nat.reduceBEq, eq_self, sw_b_0, sw_b_1, decide_eq_false_iff_not, decide_eq_true_eq, sl_n10, sl_n01, Decidable.not_not, sl_ct, sl_cats_0, sl_cats_i, sl_cats_r, sl_cats_n, sl_cats_l, sl_ok_5, sl_ok9, decide_true, sp_machC, sp_nodeC, sp_opC, sl_z0, sl_z1, sl_z2, sl_z3, sl_z4, sl_z5, sl_z6, sl_z7, sl_c0, sl_c1, sl_c2, sl_c3, sl_c4, sl_c5, sl_c6, sl_c7, List.length_map, sp_lifeC, sp_inC, sp_rnC, eq_false c2, eq_true c3, hx, sp_xC, h0, e1, e3]
      · exfalso
        unfold sp_at at c1
        rw [decide_eq_true (Int32.not_lt.mp c2), decide_eq_true (Int32.not_le.mp c3)] at c1
        cases c1
  · obtain ⟨k, hk, rfl⟩ := sp_at_of (by omega) c1
    have ex : N[k]? = some N[k] := List.getElem?_eq_getElem hk
    have e4 := jc_X2_at (D := d) (by omega) h hN ex
    have e5 := sl_prog_node h ex
    have c2 : ¬ nI k < 0 := nI_pos (by omega)
    have c3 : ¬ nI N.length ≤ nI k := nI_ge hk (by omega)
    rw [Bool.true_and, sp_nd_nI (by rw [List.length_map]; exact hN) (x := N[k].2) (by rw [List.getElem?_map, ex]; rfl)]
    cases c4 : N[k].2.2.2.2
    · rw [M_X1_isFreeNode _ _ _ rfl]; simp only [at_X1_isFreeNode_0, at_X1_isFreeNode_1, at_X1_isFreeNode_2, ey_ld, sk_ld_s, ex_iz, ey_gf, sk_gf_s, sk_v_s, ey_cv0, sk_c_s, ex_ic, ey_cv1, ex_push, ex_goto, ex_rv, sw_gl_0, sw_gl_s, sw_fx_n, sw_fx_i, sw_fx_r, sw_fx_0, sw_fx_l, sw_fx_d, sw_sl1_0, sw_sl1_1, sw_sl1_s, sw_no_0, sw_no_s, sw_no_e, sw_mk_t, sw_mk_f, sw_mk_e, sw_en_0, sw_en_n, sw_en_i, sw_en_r, sw_en_z, sw_en_l, sw_en_d, sw_ok_0, sw_ok_1, sw_ok_2, sw_ok_3, sw_ok_4, sw_bo_s, sw_oi_s, sw_cl_s, sw_cl_x, sw_psh_s, sw_psh_n, sw_kd_s, sw_op_s, sw_oc_s, sw_oc_e, sw_oa_s, sw_el_n, sw_el_r, sl_kds_1, sl_kds_67, sw_fit_i, sw_fit_r, sw_fit_n, sw_fit_l, sw_fit_d, sw_fit_b, sw_fit_0, sw_fit_1, sw_rel_0, sw_rel_1, sw_rel_2, sw_rel_3, sw_rel_4, sw_rel_5, sw_hp_set, sw_nx_set, sw_sl_set, sw_ev_set, sw_hp_new, sw_nx_new, sw_sl_new, sw_ev_new, List.getElem?_cons_zero, List.getElem?_cons_succ, List.set_cons_zero, List.set_cons_succ, List.length_cons, List.length_nil, Nat.reduceAdd, Nat.reduceSub, Nat.reduceLT, Nat.reduceLeDiff, Nat.zero_lt_succ, Nat.zero_add, beq_self_eq_true, Bool.true_and, and_true, true_and, and_self, not_true_eq_false, not_false_eq_true, ↓reduceIte, Nat.reduceBEq, eq_self, sw_b_0, sw_b_1, decide_eq_false_iff_not, decide_eq_true_eq, sl_n10, sl_n01, Decidable.not_not, sl_ct, sl_cats_0, sl_cats_i, sl_cats_r, sl_cats_n, sl_cats_l, sl_ok_5, sl_ok9, decide_true, sp_machC, sp_nodeC, sp_opC, sl_z0, sl_z1, sl_z2, sl_z3, sl_z4, sl_z5, sl_z6, sl_z7, sl_c0, sl_c1, sl_c2, sl_c3, sl_c4, sl_c5, sl_c6, sl_c7, List.length_map, sp_lifeC, sp_inC, sp_rnC, eq_false c2, eq_false c3, hx, sp_xC, h0, e1, e3, e4, e5, sp_nodeC, c4, sw_b_f, sw_b_t, Bool.not_false]
    · rw [M_X1_isFreeNode _ _ _ rfl]; simp only [at_X1_isFreeNode_0, at_X1_isFreeNode_1, at_X1_isFreeNode_2, ey_ld, sk_ld_s, ex_iz, ey_gf, sk_gf_s, sk_v_s, ey_cv0, sk_c_s, ex_ic, ey_cv1, ex_push, ex_goto, ex_rv, sw_gl_0, sw_gl_s, sw_fx_n, sw_fx_i, sw_fx_r, sw_fx_0, sw_fx_l, sw_fx_d, sw_sl1_0, sw_sl1_1, sw_sl1_s, sw_no_0, sw_no_s, sw_no_e, sw_mk_t, sw_mk_f, sw_mk_e, sw_en_0, sw_en_n, sw_en_i, sw_en_r, sw_en_z, sw_en_l, sw_en_d, sw_ok_0, sw_ok_1, sw_ok_2, sw_ok_3, sw_ok_4, sw_bo_s, sw_oi_s, sw_cl_s, sw_cl_x, sw_psh_s, sw_psh_n, sw_kd_s, sw_op_s, sw_oc_s, sw_oc_e, sw_oa_s, sw_el_n, sw_el_r, sl_kds_1, sl_kds_67, sw_fit_i, sw_fit_r, sw_fit_n, sw_fit_l, sw_fit_d, sw_fit_b, sw_fit_0, sw_fit_1, sw_rel_0, sw_rel_1, sw_rel_2, sw_rel_3, sw_rel_4, sw_rel_5, sw_hp_set, sw_nx_set, sw_sl_set, sw_ev_set, sw_hp_new, sw_nx_new, sw_sl_new, sw_ev_new, List.getElem?_cons_zero, List.getElem?_cons_succ, List.set_cons_zero, List.set_cons_succ, List.length_cons, List.length_nil, Nat.reduceAdd, Nat.reduceSub, Nat.reduceLT, Nat.reduceLeDiff, Nat.zero_lt_succ, Nat.zero_add, beq_self_eq_true, Bool.true_and, and_true, true_and, and_self, not_true_eq_false, not_false_eq_true, ↓reduceIte, Nat.reduceBEq, eq_self, sw_b_0, sw_b_1, decide_eq_false_iff_not, decide_eq_true_eq, sl_n10, sl_n01, Decidable.not_not, sl_ct, sl_cats_0, sl_cats_i, sl_cats_r, sl_cats_n, sl_cats_l, sl_ok_5, sl_ok9, decide_true, sp_machC, sp_nodeC, sp_opC, sl_z0, sl_z1, sl_z2, sl_z3, sl_z4, sl_z5, sl_z6, sl_z7, sl_c0, sl_c1, sl_c2, sl_c3, sl_c4, sl_c5, sl_c6, sl_c7, List.length_map, sp_lifeC, sp_inC, sp_rnC, eq_false c2, eq_false c3, hx, sp_xC, h0, e1, e3, e4, e5, sp_nodeC, c4, sw_b_f, sw_b_t, Bool.not_true]
theorem jc_X1_node13 {e kn : Nat} {a b : Int32} {G : sl_A} (hd : 266 ≤ d) (hN : N.length < 80) (hf : sp_fit ((N.map (·.2)) ++ [(kn, a, b, false)], B.map (fun y => y.2.map (·.2)), T, out, m, L) 0 b') (h : sl_st ev c s P (sl_prog ev pa N B T out ++ (sl_pt e (sp_nodeC ev (kn, a, b, false)) :: sl_pt x (sp_xC pa mach bd) :: sl_pt mach (sp_machC m l) :: sl_pt l (64, L.map .int) :: G :: F))) :
    ∃ P', sw_at (sw_Z d) b_X1_node 13 [some (.ref x), none, none, none, some (.ref e)] [] P = some (.inl (some (.int (nI N.length))), P') ∧ sp_CS ev (c + (2 + sp_kA b')) (s + (170 + sp_kS (N.length + 1) b')) P' x ((N.map (·.2)) ++ [(kn, a, b, false)], B.map (fun y => y.2.map (·.2)), T, out, m, L) b' F := by
  have h1 : sl_st ev c s P (sl_pt e (sp_nodeC ev (kn, a, b, false)) :: (sl_prog ev pa N B T out ++ (sl_pt x (sp_xC pa mach bd) :: sl_pt mach (sp_machC m l) :: sl_pt l (64, L.map .int) :: G :: F))) := h.pp 7 [6, 0, 1, 2, 3, 4, 5]
  obtain ⟨P1, r1, s1⟩ := sl_prog_add (D := d) (by omega) (by omega) h1
  have s2 : sl_st ev _ _ P1 (sl_pt x (sp_xC pa mach bd) :: sl_pt mach (sp_machC m l) :: sl_pt l (64, L.map .int) :: (sl_prog ev pa (N ++ [(e, kn, a, b, false)]) B T out ++ (G :: F))) := s1.pp 10 [6, 7, 8, 0, 1, 2, 3, 4, 5, 9]
  have hx0 := h.get 7 rfl
  have hp0 := h.get 0 rfl
  have hx1 := s2.get 0 rfl
  have hp1 := s2.get 3 rfl
  obtain ⟨_, _, _, _, e3, _⟩ := sl_rd_lx (h.at 1 rfl)
  have hmap : (N ++ [(e, kn, a, b, false)]).map (·.2) = (N.map (·.2)) ++ [(kn, a, b, false)] := by rw [List.map_append]; rfl
  obtain ⟨P', bd', r2, s4⟩ := jc_X1_renew (D := d) (b' := b') (by omega) (by rw [hmap]; exact hf) s2
  have s6 : sl_st ev _ _ P' (G :: (sl_cs ev x bd' mach l pa (N ++ [(e, kn, a, b, false)]) B T out m L b' ++ F)) := s4.pp 11 [10, 0, 1, 2, 3, 4, 5, 6, 7, 8, 9]
  have hlen : (N ++ [(e, kn, a, b, false)]).length = N.length + 1 := by rw [List.length_append]; rfl
  rw [hlen] at s6
  have hgA : sl_gA N.length ≤ 1 := by unfold sl_gA; split <;> omega
  have hgS : sl_gS N.length ≤ 164 := by
    unfold sl_gS
    split
    · rename_i q
      unfold sl_nc
      split <;> omega
    · omega
  have hx2 := s6.get 1 rfl
  have hp2 := s6.get 5 rfl
  have s7 := jc_J2_sizeR (D := d) (by omega) (s6.at 6 rfl)
  obtain ⟨_, _, _, _, e7, _⟩ := sl_rd_lx (s6.at 6 rfl)
  rw [List.length_map, hlen] at s7
  refine ⟨P', ?_, bd', mach, l, pa, N ++ [(e, kn, a, b, false)], B, hmap, rfl, s6.drop.wk (by omega) (by omega)⟩
  rw [at_X1_node_13]; simp only [ey_ld, sk_ld_s, ex_push, ey_cs3, sk_c_s, ex_nw, ex_dup_i, ex_dup_r, ex_dup_n, ey_cs1, ey_ci3, ex_sta, ex_sta_n, ey_cv0, ex_iz, ey_cv1, ex_ic, ex_goto, ey_gf, sk_gf_s, sk_v_s, ey_pf, sk_pf_s, sw_set_set, ex_pop_i, ex_pop_r, ex_pop_n, ex_ii, ex_rv, sw_gl_0, sw_gl_s, sw_fx_n, sw_fx_i, sw_fx_r, sw_fx_0, sw_fx_l, sw_fx_d, sw_sl1_0, sw_sl1_1, sw_sl1_s, sw_no_0, sw_no_s, sw_no_e, sw_mk_t, sw_mk_f, sw_mk_e, sw_en_0, sw_en_n, sw_en_i, sw_en_r, sw_en_z, sw_en_l, sw_en_d, sw_ok_0, sw_ok_1, sw_ok_2, sw_ok_3, sw_ok_4, sw_bo_s, sw_oi_s, sw_cl_s, sw_cl_x, sw_psh_s, sw_psh_n, sw_kd_s, sw_op_s, sw_oc_s, sw_oc_e, sw_oa_s, sw_el_n, sw_el_r, sl_kds_1, sl_kds_67, sw_fit_i, sw_fit_r, sw_fit_n, sw_fit_l, sw_fit_d, sw_fit_b, sw_fit_0, sw_fit_1, sw_rel_0, sw_rel_1, sw_rel_2, sw_rel_3, sw_rel_4, sw_rel_5, sw_hp_set, sw_nx_set, sw_sl_set, sw_ev_set, sw_hp_new, sw_nx_new, sw_sl_new, sw_ev_new, List.getElem?_cons_zero, List.getElem?_cons_succ, List.set_cons_zero, List.set_cons_succ, List.length_cons, List.length_nil, Nat.reduceAdd, Nat.reduceSub, Nat.reduceLT, Nat.reduceLeDiff, Nat.zero_lt_succ, Nat.zero_add, beq_self_eq_true, Bool.true_and, and_true, true_and, and_self, not_true_eq_false, not_false_eq_true, ↓reduceIte, Nat.reduceBEq, eq_self, sw_b_0, sw_b_1, decide_eq_false_iff_not, decide_eq_true_eq, sl_n10, sl_n01, Decidable.not_not, sl_ct, sl_cats_0, sl_cats_i, sl_cats_r, sl_cats_n, sl_cats_l, sl_ok_5, sl_ok9, decide_true, sp_machC, sp_nodeC, sp_opC, sl_z0, sl_z1, sl_z2, sl_z3, sl_z4, sl_z5, sl_z6, sl_z7, sl_c0, sl_c1, sl_c2, sl_c3, sl_c4, sl_c5, sl_c6, sl_c7, List.length_map, sp_lifeC, sp_inC, sp_rnC, hx0, sp_xC, hp0, e3, r1, hx1, r2, hx2, hp2, s7, e7, nI_pred]
theorem jc_X1_node10 {e kn : Nat} {a b : Int32} (hd : 266 ≤ d) (hk : kn < 6) (hN : N.length ≤ 80) (hab : 2 ≤ kn → ∃ ja jb, ja < N.length ∧ jb < N.length ∧ ja ≠ jb ∧ a = nI ja ∧ b = nI jb) (hf : N.length < 80 → sp_fit ((if 2 ≤ kn then sp_setF (sp_setF (N.map (·.2)) a.toNatClampNeg true) b.toNatClampNeg true else N.map (·.2)) ++ [(kn, a, b, false)], B.map (fun y => y.2.map (·.2)), T, out, m, L) 0 b') (h : sl_st ev c s P (sl_pt e (sp_nodeC ev (kn, a, b, false)) :: (sl_cs ev x bd mach l pa N B T out m L b0 ++ F))) :
    (80 ≤ N.length ∧ sw_at (sw_Z d) b_X1_node 10 [some (.ref x), none, some (.int a), some (.int b), some (.ref e)] [] P = some (.inr 1, sw_bump P)) ∨ (N.length < 80 ∧ ∃ P', sw_at (sw_Z d) b_X1_node 10 [some (.ref x), none, some (.int a), some (.int b), some (.ref e)] [] P = some (.inl (some (.int (nI N.length))), P') ∧ sp_CS ev (c + (2 + sp_kA b')) (s + (170 + sp_kS (N.length + 1) b')) P' x ((if 2 ≤ kn then sp_setF (sp_setF (N.map (·.2)) a.toNatClampNeg true) b.toNatClampNeg true else N.map (·.2)) ++ [(kn, a, b, false)], B.map (fun y => y.2.map (·.2)), T, out, m, L) b' F) := by
  have h0 := h.get 0 rfl
  have hx := h.get 1 rfl
  have h1 : sl_st ev c s P (sl_prog ev pa N B T out ++ (sl_pt e (sp_nodeC ev (kn, a, b, false)) :: sl_pt x (sp_xC pa mach bd) :: sl_pt mach (sp_machC m l) :: sl_pt l (64, L.map .int) :: sl_bld ev bd mach pa b0 :: F)) := h.pp 11 [5, 6, 7, 8, 9, 10, 0, 1, 3, 4, 2]
  have hp : sl_rds (sw_hp P) (sl_prog ev pa N B T out) := (sl_rds_append.mp h1.rd).1
  have hp0 := h1.get 0 rfl
  have e1 := jc_J2_sizeR (D := d) (by omega) (h1.at 1 rfl)
  obtain ⟨_, _, _, _, e3, _⟩ := sl_rd_lx (h1.at 1 rfl)
  rw [List.length_map] at e1
  have et := jc_X1_checkState (D := d) (P := P) (b := true) (by omega)
  have ef := jc_X1_checkState (D := d) (P := P) (b := false) (by omega)
  rw [sw_b_t, sp_ck_t] at et
  rw [sw_b_f, sp_ck_f] at ef
  by_cases c1 : 80 ≤ N.length
  · refine Or.inl ⟨c1, ?_⟩
    have c1' : (80 : Int32) ≤ nI N.length := nI_le (a := 80) c1 (by omega)
    rw [at_X1_node_10]; simp only [at_X1_node_11, at_X1_node_12, ey_ld, sk_ld_s, ex_push, ey_cs3, sk_c_s, ex_nw, ex_dup_i, ex_dup_r, ex_dup_n, ey_cs1, ey_ci3, ex_sta, ex_sta_n, ey_cv0, ex_iz, ey_cv1, ex_ic, ex_goto, ey_gf, sk_gf_s, sk_v_s, ey_pf, sk_pf_s, sw_set_set, ex_pop_i, ex_pop_r, ex_pop_n, ex_ii, ex_rv, sw_gl_0, sw_gl_s, sw_fx_n, sw_fx_i, sw_fx_r, sw_fx_0, sw_fx_l, sw_fx_d, sw_sl1_0, sw_sl1_1, sw_sl1_s, sw_no_0, sw_no_s, sw_no_e, sw_mk_t, sw_mk_f, sw_mk_e, sw_en_0, sw_en_n, sw_en_i, sw_en_r, sw_en_z, sw_en_l, sw_en_d, sw_ok_0, sw_ok_1, sw_ok_2, sw_ok_3, sw_ok_4, sw_bo_s, sw_oi_s, sw_cl_s, sw_cl_x, sw_psh_s, sw_psh_n, sw_kd_s, sw_op_s, sw_oc_s, sw_oc_e, sw_oa_s, sw_el_n, sw_el_r, sl_kds_1, sl_kds_67, sw_fit_i, sw_fit_r, sw_fit_n, sw_fit_l, sw_fit_d, sw_fit_b, sw_fit_0, sw_fit_1, sw_rel_0, sw_rel_1, sw_rel_2, sw_rel_3, sw_rel_4, sw_rel_5, sw_hp_set, sw_nx_set, sw_sl_set, sw_ev_set, sw_hp_new, sw_nx_new, sw_sl_new, sw_ev_new, List.getElem?_cons_zero, List.getElem?_cons_succ, List.set_cons_zero, List.set_cons_succ, List.length_cons, List.length_nil, Nat.reduceAdd, Nat.reduceSub, Nat.reduceLT, Nat.reduceLeDiff, Nat.zero_lt_succ, Nat.zero_add, beq_self_eq_true, Bool.true_and, and_true, true_and, and_self, not_true_eq_false, not_false_eq_true, ↓reduceIte, Nat.reduceBEq, eq_self, sw_b_0, sw_b_1, decide_eq_false_iff_not, decide_eq_true_eq, sl_n10, sl_n01, Decidable.not_not, sl_ct, sl_cats_0, sl_cats_i, sl_cats_r, sl_cats_n, sl_cats_l, sl_ok_5, sl_ok9, decide_true, sp_machC, sp_nodeC, sp_opC, sl_z0, sl_z1, sl_z2, sl_z3, sl_z4, sl_z5, sl_z6, sl_z7, sl_c0, sl_c1, sl_c2, sl_c3, sl_c4, sl_c5, sl_c6, sl_c7, List.length_map, sp_lifeC, sp_inC, sp_rnC, hx, sp_xC, hp0, e1, e3, eq_true c1', ef, sw_cl_x]
  · have c2 : N.length < 80 := by omega
    refine Or.inr ⟨c2, ?_⟩
    have hf' := hf c2
    have c1' : ¬ (80 : Int32) ≤ nI N.length := nI_ge (b := 80) c2 (by omega)
    have e4 := jc_X16_isOfTwo (D := d) (by omega) h.bs h0 (by exact hk)
    dsimp only at e4
    by_cases c3 : 2 ≤ kn
    · rw [if_pos c3] at hf' ⊢
      rw [decide_eq_true c3, sw_b_t] at e4
      obtain ⟨ja, jb, ha, hb, hne, rfl, rfl⟩ := hab c3
      rw [nI_clamp (by omega), nI_clamp (by omega)] at hf' ⊢
      have exa : N[ja]? = some N[ja] := List.getElem?_eq_getElem ha
      have exb : N[jb]? = some N[jb] := List.getElem?_eq_getElem hb
      have a1 := jc_X2_at (D := d) (by omega) hp hN exa
      have a2 := sl_prog_node hp exa
      have g1 := sl_prog_fl h1 exa (sp_mk N[ja].2 true)
      have hNb : (N.set ja (N[ja].1, sp_mk N[ja].2 true))[jb]? = some N[jb] := by rw [List.getElem?_set_ne hne]; exact exb
      have hl2 : (N.set ja (N[ja].1, sp_mk N[ja].2 true)).length = N.length := List.length_set
      have hp' : sl_rds _ (sl_prog ev pa (N.set ja (N[ja].1, sp_mk N[ja].2 true)) B T out) := (sl_rds_append.mp g1.rd).1
      have b1 := jc_X2_at (D := d) (by omega) hp' (by omega) hNb
      have b2 := sl_prog_node hp' hNb
      have g2 := sl_prog_fl g1 hNb (sp_mk N[jb].2 true)
      have hx2 := g1.get 7 rfl
      have hp2 := g1.get 0 rfl
      have hl3 : ((N.set ja (N[ja].1, sp_mk N[ja].2 true)).set jb (N[jb].1, sp_mk N[jb].2 true)).length = N.length := by rw [List.length_set, hl2]
      have hm : ((N.set ja (N[ja].1, sp_mk N[ja].2 true)).set jb (N[jb].1, sp_mk N[jb].2 true)).map (·.2) = sp_setF (sp_setF (N.map (·.2)) ja true) jb true := by
        rw [sl_setF (by omega) hNb, sl_setF hN exa]
      obtain ⟨P', r1, r2⟩ := jc_X1_node13 (b' := b') hd (by omega) (by rw [hm]; exact hf') g2
      rw [hl3] at r1 r2
      rw [hm] at r2
      refine ⟨P', ?_, r2⟩
      rw [← r1]
      have d1 : ¬ x = N[ja].1 := fun e => by rw [e, a2] at hx; cases hx
      have d2 : ¬ pa.1 = N[ja].1 := fun e => by rw [e, a2] at hp0; cases hp0
      rw [show sp_nodeC ev (sp_mk N[ja].2 true) = (15, [.ref (ev N[ja].2.1), .int N[ja].2.2.1, .int N[ja].2.2.2.1, .int 1]) from rfl] at b1 b2
      rw [show sp_nodeC ev (sp_mk N[ja].2 true) = (15, [.ref (ev N[ja].2.1), .int N[ja].2.2.1, .int N[ja].2.2.2.1, .int 1]) from rfl, show sp_nodeC ev (sp_mk N[jb].2 true) = (15, [.ref (ev N[jb].2.1), .int N[jb].2.2.1, .int N[jb].2.2.2.1, .int 1]) from rfl]
      rw [sw_hp_set] at b2
      rw [at_X1_node_10]; simp only [at_X1_node_12, ey_ld, sk_ld_s, ex_push, ey_cs3, sk_c_s, ex_nw, ex_dup_i, ex_dup_r, ex_dup_n, ey_cs1, ey_ci3, ex_sta, ex_sta_n, ey_cv0, ex_iz, ey_cv1, ex_ic, ex_goto, ey_gf, sk_gf_s, sk_v_s, ey_pf, sk_pf_s, sw_set_set, ex_pop_i, ex_pop_r, ex_pop_n, ex_ii, ex_rv, sw_gl_0, sw_gl_s, sw_fx_n, sw_fx_i, sw_fx_r, sw_fx_0, sw_fx_l, sw_fx_d, sw_sl1_0, sw_sl1_1, sw_sl1_s, sw_no_0, sw_no_s, sw_no_e, sw_mk_t, sw_mk_f, sw_mk_e, sw_en_0, sw_en_n, sw_en_i, sw_en_r, sw_en_z, sw_en_l, sw_en_d, sw_ok_0, sw_ok_1, sw_ok_2, sw_ok_3, sw_ok_4, sw_bo_s, sw_oi_s, sw_cl_s, sw_cl_x, sw_psh_s, sw_psh_n, sw_kd_s, sw_op_s, sw_oc_s, sw_oc_e, sw_oa_s, sw_el_n, sw_el_r, sl_kds_1, sl_kds_67, sw_fit_i, sw_fit_r, sw_fit_n, sw_fit_l, sw_fit_d, sw_fit_b, sw_fit_0, sw_fit_1, sw_rel_0, sw_rel_1, sw_rel_2, sw_rel_3, sw_rel_4, sw_rel_5, sw_hp_set, sw_nx_set, sw_sl_set, sw_ev_set, sw_hp_new, sw_nx_new, sw_sl_new, sw_ev_new, List.getElem?_cons_zero, List.getElem?_cons_succ, List.set_cons_zero, List.set_cons_succ, List.length_cons, List.length_nil, Nat.reduceAdd, Nat.reduceSub, Nat.reduceLT, Nat.reduceLeDiff, Nat.zero_lt_succ, Nat.zero_add, beq_self_eq_true, Bool.true_and, and_true, true_and, and_self, not_true_eq_false, not_false_eq_true, ↓reduceIte, Nat.reduceBEq, eq_self, sw_b_0, sw_b_1, decide_eq_false_iff_not, decide_eq_true_eq, sl_n10, sl_n01, Decidable.not_not, sl_ct, sl_cats_0, sl_cats_i, sl_cats_r, sl_cats_n, sl_cats_l, sl_ok_5, sl_ok9, decide_true, sp_machC, sp_nodeC, sp_opC, sl_z0, sl_z1, sl_z2, sl_z3, sl_z4, sl_z5, sl_z6, sl_z7, sl_c0, sl_c1, sl_c2, sl_c3, sl_c4, sl_c5, sl_c6, sl_c7, List.length_map, sp_lifeC, sp_inC, sp_rnC, hx, sp_xC, hp0, e1, e3, eq_false c1', et, h0, sp_nodeC, e4, a1, a2, b1, b2, d1, d2]
    · rw [if_neg c3] at hf' ⊢
      rw [decide_eq_false c3, sw_b_f] at e4
      obtain ⟨P', r1, r2⟩ := jc_X1_node13 (b' := b') hd c2 hf' h1
      refine ⟨P', ?_, r2⟩
      rw [← r1]
      rw [at_X1_node_10]; simp only [at_X1_node_12, ey_ld, sk_ld_s, ex_push, ey_cs3, sk_c_s, ex_nw, ex_dup_i, ex_dup_r, ex_dup_n, ey_cs1, ey_ci3, ex_sta, ex_sta_n, ey_cv0, ex_iz, ey_cv1, ex_ic, ex_goto, ey_gf, sk_gf_s, sk_v_s, ey_pf, sk_pf_s, sw_set_set, ex_pop_i, ex_pop_r, ex_pop_n, ex_ii, ex_rv, sw_gl_0, sw_gl_s, sw_fx_n, sw_fx_i, sw_fx_r, sw_fx_0, sw_fx_l, sw_fx_d, sw_sl1_0, sw_sl1_1, sw_sl1_s, sw_no_0, sw_no_s, sw_no_e, sw_mk_t, sw_mk_f, sw_mk_e, sw_en_0, sw_en_n, sw_en_i, sw_en_r, sw_en_z, sw_en_l, sw_en_d, sw_ok_0, sw_ok_1, sw_ok_2, sw_ok_3, sw_ok_4, sw_bo_s, sw_oi_s, sw_cl_s, sw_cl_x, sw_psh_s, sw_psh_n, sw_kd_s, sw_op_s, sw_oc_s, sw_oc_e, sw_oa_s, sw_el_n, sw_el_r, sl_kds_1, sl_kds_67, sw_fit_i, sw_fit_r, sw_fit_n, sw_fit_l, sw_fit_d, sw_fit_b, sw_fit_0, sw_fit_1, sw_rel_0, sw_rel_1, sw_rel_2, sw_rel_3, sw_rel_4, sw_rel_5, sw_hp_set, sw_nx_set, sw_sl_set, sw_ev_set, sw_hp_new, sw_nx_new, sw_sl_new, sw_ev_new, List.getElem?_cons_zero, List.getElem?_cons_succ, List.set_cons_zero, List.set_cons_succ, List.length_cons, List.length_nil, Nat.reduceAdd, Nat.reduceSub, Nat.reduceLT, Nat.reduceLeDiff, Nat.zero_lt_succ, Nat.zero_add, beq_self_eq_true, Bool.true_and, and_true, true_and, and_self, not_true_eq_false, not_false_eq_true, ↓reduceIte, Nat.reduceBEq, eq_self, sw_b_0, sw_b_1, decide_eq_false_iff_not, decide_eq_true_eq, sl_n10, sl_n01, Decidable.not_not, sl_ct, sl_cats_0, sl_cats_i, sl_cats_r, sl_cats_n, sl_cats_l, sl_ok_5, sl_ok9, decide_true, sp_machC, sp_nodeC, sp_opC, sl_z0, sl_z1, sl_z2, sl_z3, sl_z4, sl_z5, sl_z6, sl_z7, sl_c0, sl_c1, sl_c2, sl_c3, sl_c4, sl_c5, sl_c6, sl_c7, List.length_map, sp_lifeC, sp_inC, sp_rnC, hx, sp_xC, hp0, e1, e3, eq_false c1', et, h0, sp_nodeC, e4]
theorem jc_X1_node {k a b : Int32} (hD : 267 ≤ D) (hN : N.length ≤ 80) (hf : ∀ q v, cM_node (N.map (·.2), B.map (fun y => y.2.map (·.2)), T, out, m, L) k a b = .inl (q, v) → sp_fit q 0 b') (h : sl_st ev c s P (sl_cs ev x bd mach l pa N B T out m L b0 ++ F)) :
    ∃ P', sw_Z D m_X1_node [.ref x, .int k, .int a, .int b] P = some (sp_o (sp_rel (cM_node (N.map (·.2), B.map (fun y => y.2.map (·.2)), T, out, m, L) k a b)), P') ∧
      ((∃ e, cM_node (N.map (·.2), B.map (fun y => y.2.map (·.2)), T, out, m, L) k a b = .inr e ∧ sl_st ev (c + 2) (s + 10) P' (sl_cs ev x bd mach l pa N B T out m L b0 ++ F)) ∨ ∃ q v, cM_node (N.map (·.2), B.map (fun y => y.2.map (·.2)), T, out, m, L) k a b = .inl (q, v) ∧ sp_CS ev (c + (3 + sp_kA b')) (s + (174 + sp_kS (N.length + 1) b')) P' x q b' F) := by
  obtain ⟨d, hDe, hDn⟩ := sw_dep hD; subst hDe; replace hD := hDn; clear hDn
  have e1 := jc_X1_mustBeIn (D := d) (P := P) (v := k) (lo := 0) (hi := 5) (by omega)
  unfold cM_node at hf ⊢
  cases c1 : sp_in k 0 5
  · rw [c1, sp_ck_f] at e1
    rw [if_pos rfl]
    refine ⟨_, ?_, Or.inl ⟨0, rfl, h.bump.wk (by omega) (by omega)⟩⟩
    rw [M_X1_node _ _ _ rfl]; simp only [at_X1_node_0, ey_ld, sk_ld_s, ex_push, ey_cs3, sk_c_s, ex_nw, ex_dup_i, ex_dup_r, ex_dup_n, ey_cs1, ey_ci3, ex_sta, ex_sta_n, ey_cv0, ex_iz, ey_cv1, ex_ic, ex_goto, ey_gf, sk_gf_s, sk_v_s, ey_pf, sk_pf_s, sw_set_set, ex_pop_i, ex_pop_r, ex_pop_n, ex_ii, ex_rv, sw_gl_0, sw_gl_s, sw_fx_n, sw_fx_i, sw_fx_r, sw_fx_0, sw_fx_l, sw_fx_d, sw_sl1_0, sw_sl1_1, sw_sl1_s, sw_no_0, sw_no_s, sw_no_e, sw_mk_t, sw_mk_f, sw_mk_e, sw_en_0, sw_en_n, sw_en_i, sw_en_r, sw_en_z, sw_en_l, sw_en_d, sw_ok_0, sw_ok_1, sw_ok_2, sw_ok_3, sw_ok_4, sw_bo_s, sw_oi_s, sw_cl_s, sw_cl_x, sw_psh_s, sw_psh_n, sw_kd_s, sw_op_s, sw_oc_s, sw_oc_e, sw_oa_s, sw_el_n, sw_el_r, sl_kds_1, sl_kds_67, sw_fit_i, sw_fit_r, sw_fit_n, sw_fit_l, sw_fit_d, sw_fit_b, sw_fit_0, sw_fit_1, sw_rel_0, sw_rel_1, sw_rel_2, sw_rel_3, sw_rel_4, sw_rel_5, sw_hp_set, sw_nx_set, sw_sl_set, sw_ev_set, sw_hp_new, sw_nx_new, sw_sl_new, sw_ev_new, List.getElem?_cons_zero, List.getElem?_cons_succ, List.set_cons_zero, List.set_cons_succ, List.length_cons, List.length_nil, Nat.reduceAdd, Nat.reduceSub, Nat.reduceLT, Nat.reduceLeDiff, Nat.zero_lt_succ, Nat.zero_add, beq_self_eq_true, Bool.true_and, and_true, true_and, and_self, not_true_eq_false, not_false_eq_true, ↓reduceIte, Nat.reduceBEq, eq_self, sw_b_0, sw_b_1, decide_eq_false_iff_not, decide_eq_true_eq, sl_n10, sl_n01, Decidable.not_not, sl_ct, sl_cats_0, sl_cats_i, sl_cats_r, sl_cats_n, sl_cats_l, sl_ok_5, sl_ok9, decide_true, sp_machC, sp_nodeC, sp_opC, sl_z0, sl_z1, sl_z2, sl_z3, sl_z4, sl_z5, sl_z6, sl_z7, sl_c0, sl_c1, sl_c2, sl_c3, sl_c4, sl_c5, sl_c6, sl_c7, List.length_map, sp_lifeC, sp_inC, sp_rnC, e1, sw_cl_x, sp_o, sp_rel]
  · rw [c1, sp_ck_t] at e1
    rw [c1, if_neg (by decide)] at hf
    rw [if_neg (by decide)]
    obtain ⟨kn, hkn, rfl⟩ := sp_in_of (n := 5) (by omega) (by decide) c1
    rw [nI_clamp (by omega)] at hf ⊢
    have hev := h.ev
    have g1 : sl_st ev (c + 1) (s + 4) _ (sl_pt (sw_nx P) (sp_nodeC ev (kn, a, b, false)) :: (sl_cs ev x bd mach l pa N B T out m L b0 ++ F)) := h.new (sp_nodeC ev (kn, a, b, false))
    have k1 := jc_X1_kindOf (D := d) (P := sw_new P (15, [.null, .int 0, .int 0, .int 0])) (ev := ev) (j := kn) (by omega) hev (by omega)
    have k2 := jc_X16_init (D := d) (P := sw_new P (15, [.null, .int 0, .int 0, .int 0])) (a := sw_nx P) (k := ev kn) (x := a) (y := b) (by omega) (if_pos rfl)
    rw [sw_set_new P 15 15 [.null, .int 0, .int 0, .int 0] [.ref (ev kn), .int a, .int b, .int 0] rfl] at k2
    have k3 := jc_X16_isOfTwo (D := d) (by omega) g1.bs (g1.get 0 rfl) (by exact (by omega : kn < 6))
    dsimp only at k3
    have hx : sw_hp (sw_new P (sp_nodeC ev (kn, a, b, false))) x = some (sp_xC pa mach bd) := g1.get 1 rfl
    have hp : sl_rds (sw_hp (sw_new P (sp_nodeC ev (kn, a, b, false)))) (sl_prog ev pa N B T out) := (sl_rds_append.mp (show sl_rds _ (sl_prog ev pa N B T out ++ F) from g1.rd.2.2.2.2.2)).1
    have fa := jc_X1_isFreeNode (D := d) (v := a) (by omega) hx hp hN
    have fb := jc_X1_isFreeNode (D := d) (v := b) (by omega) hx hp hN
    have et := jc_X1_must (D := d) (P := sw_new P (sp_nodeC ev (kn, a, b, false))) (b := true) (by omega)
    have ef := jc_X1_must (D := d) (P := sw_new P (sp_nodeC ev (kn, a, b, false))) (b := false) (by omega)
    rw [sw_b_t, sp_ck_t] at et
    rw [sw_b_f, sp_ck_f] at ef
    have hev2 : sw_nx (sw_new P (15, [Value.null, .int 0, .int 0, .int 0])) = sw_nx P + 1 := rfl
    have fold : ∀ (v : Value), (sw_new P (15, [.ref (ev kn), .int a, .int b, .int 0])) = sw_new P (sp_nodeC ev (kn, a, b, false)) := fun _ => rfl
    rw [fold .null] at k2
    have hx' := h.get 0 rfl
    have fx := sl_ne_nx hx' h.nx0
    have hat : sw_hp (sw_new P (sp_nodeC ev (kn, a, b, false))) (sw_nx P) = some (sp_nodeC ev (kn, a, b, false)) := if_pos rfl
    dsimp only [sp_nodeC] at k2 k3 fa fb et ef hx hat
    by_cases c3 : 2 ≤ kn
    · have hnk : sp_nok (N.map (·.2)) kn a b = (sp_fn (N.map (·.2)) a && (sp_fn (N.map (·.2)) b && decide (¬ a = b))) := if_pos c3
      rw [hnk] at hf ⊢
      rw [decide_eq_true c3, sw_b_t] at k3
      cases c4 : sp_fn (N.map (·.2)) a
      · rw [c4] at fa
        rw [Bool.false_and, if_pos rfl]
        refine ⟨_, ?_, Or.inl ⟨0, rfl, g1.bump.drop⟩⟩
        rw [M_X1_node _ _ _ rfl]; simp only [at_X1_node_0, at_X1_node_1, at_X1_node_2, ey_ld, sk_ld_s, ex_push, ey_cs3, sk_c_s, ex_nw, ex_dup_i, ex_dup_r, ex_dup_n, ey_cs1, ey_ci3, ex_sta, ex_sta_n, ey_cv0, ex_iz, ey_cv1, ex_ic, ex_goto, ey_gf, sk_gf_s, sk_v_s, ey_pf, sk_pf_s, sw_set_set, ex_pop_i, ex_pop_r, ex_pop_n, ex_ii, ex_rv, sw_gl_0, sw_gl_s, sw_fx_n, sw_fx_i, sw_fx_r, sw_fx_0, sw_fx_l, sw_fx_d, sw_sl1_0, sw_sl1_1, sw_sl1_s, sw_no_0, sw_no_s, sw_no_e, sw_mk_t, sw_mk_f, sw_mk_e, sw_en_0, sw_en_n, sw_en_i, sw_en_r, sw_en_z, sw_en_l, sw_en_d, sw_ok_0, sw_ok_1, sw_ok_2, sw_ok_3, sw_ok_4, sw_bo_s, sw_oi_s, sw_cl_s, sw_cl_x, sw_psh_s, sw_psh_n, sw_kd_s, sw_op_s, sw_oc_s, sw_oc_e, sw_oa_s, sw_el_n, sw_el_r, sl_kds_1, sl_kds_67, sw_fit_i, sw_fit_r, sw_fit_n, sw_fit_l, sw_fit_d, sw_fit_b, sw_fit_0, sw_fit_1, sw_rel_0, sw_rel_1, sw_rel_2, sw_rel_3, sw_rel_4, sw_rel_5, sw_hp_set, sw_nx_set, sw_sl_set, sw_ev_set, sw_hp_new, sw_nx_new, sw_sl_new, sw_ev_new, List.getElem?_cons_zero, List.getElem?_cons_succ, List.set_cons_zero, List.set_cons_succ, List.length_cons, List.length_nil, Nat.reduceAdd, Nat.reduceSub, Nat.reduceLT, Nat.reduceLeDiff, Nat.zero_lt_succ, Nat.zero_add, beq_self_eq_true, Bool.true_and, and_true, true_and, and_self, not_true_eq_false, not_false_eq_true, ↓reduceIte, Nat.reduceBEq, eq_self, sw_b_0, sw_b_1, decide_eq_false_iff_not, decide_eq_true_eq, sl_n10, sl_n01, Decidable.not_not, sl_ct, sl_cats_0, sl_cats_i, sl_cats_r, sl_cats_n, sl_cats_l, sl_ok_5, sl_ok9, decide_true, sp_machC, sp_nodeC, sp_opC, sl_z0, sl_z1, sl_z2, sl_z3, sl_z4, sl_z5, sl_z6, sl_z7, sl_c0, sl_c1, sl_c2, sl_c3, sl_c4, sl_c5, sl_c6, sl_c7, List.length_map, sp_lifeC, sp_inC, sp_rnC, e1, k1, k2, hat, k3, hx, sp_xC, fa, ef, sw_cl_x, sp_o, sp_rel]
      · rw [c4, sw_b_t] at fa
        rw [c4, Bool.true_and] at hf
        rw [Bool.true_and]
        cases c5 : sp_fn (N.map (·.2)) b
        · rw [c5] at fb
          rw [Bool.false_and, if_pos rfl]
          refine ⟨_, ?_, Or.inl ⟨0, rfl, g1.bump.drop⟩⟩
          rw [M_X1_node _ _ _ rfl]; simp only [at_X1_node_0, at_X1_node_1, at_X1_node_2, ey_ld, sk_ld_s, ex_push, ey_cs3, sk_c_s, ex_nw, ex_dup_i, ex_dup_r, ex_dup_n, ey_cs1, ey_ci3, ex_sta, ex_sta_n, ey_cv0, ex_iz, ey_cv1, ex_ic, ex_goto, ey_gf, sk_gf_s, sk_v_s, ey_pf, sk_pf_s, sw_set_set, ex_pop_i, ex_pop_r, ex_pop_n, ex_ii, ex_rv, sw_gl_0, sw_gl_s, sw_fx_n, sw_fx_i, sw_fx_r, sw_fx_0, sw_fx_l, sw_fx_d, sw_sl1_0, sw_sl1_1, sw_sl1_s, sw_no_0, sw_no_s, sw_no_e, sw_mk_t, sw_mk_f, sw_mk_e, sw_en_0, sw_en_n, sw_en_i, sw_en_r, sw_en_z, sw_en_l, sw_en_d, sw_ok_0, sw_ok_1, sw_ok_2, sw_ok_3, sw_ok_4, sw_bo_s, sw_oi_s, sw_cl_s, sw_cl_x, sw_psh_s, sw_psh_n, sw_kd_s, sw_op_s, sw_oc_s, sw_oc_e, sw_oa_s, sw_el_n, sw_el_r, sl_kds_1, sl_kds_67, sw_fit_i, sw_fit_r, sw_fit_n, sw_fit_l, sw_fit_d, sw_fit_b, sw_fit_0, sw_fit_1, sw_rel_0, sw_rel_1, sw_rel_2, sw_rel_3, sw_rel_4, sw_rel_5, sw_hp_set, sw_nx_set, sw_sl_set, sw_ev_set, sw_hp_new, sw_nx_new, sw_sl_new, sw_ev_new, List.getElem?_cons_zero, List.getElem?_cons_succ, List.set_cons_zero, List.set_cons_succ, List.length_cons, List.length_nil, Nat.reduceAdd, Nat.reduceSub, Nat.reduceLT, Nat.reduceLeDiff, Nat.zero_lt_succ, Nat.zero_add, beq_self_eq_true, Bool.true_and, and_true, true_and, and_self, not_true_eq_false, not_false_eq_true, ↓reduceIte, Nat.reduceBEq, eq_self, sw_b_0, sw_b_1, decide_eq_false_iff_not, decide_eq_true_eq, sl_n10, sl_n01, Decidable.not_not, sl_ct, sl_cats_0, sl_cats_i, sl_cats_r, sl_cats_n, sl_cats_l, sl_ok_5, sl_ok9, decide_true, sp_machC, sp_nodeC, sp_opC, sl_z0, sl_z1, sl_z2, sl_z3, sl_z4, sl_z5, sl_z6, sl_z7, sl_c0, sl_c1, sl_c2, sl_c3, sl_c4, sl_c5, sl_c6, sl_c7, List.length_map, sp_lifeC, sp_inC, sp_rnC, e1, k1, k2, hat, k3, hx, sp_xC, fa, fb, ef, sw_cl_x, sp_o, sp_rel]
        · rw [c5, sw_b_t] at fb
          rw [c5, Bool.true_and] at hf
          rw [Bool.true_and]
          by_cases c6 : a = b
          · rw [decide_eq_false (fun q => q c6), if_pos rfl]
            refine ⟨_, ?_, Or.inl ⟨0, rfl, g1.bump.drop⟩⟩
            rw [M_X1_node _ _ _ rfl]; simp only [at_X1_node_0, at_X1_node_1, at_X1_node_2, ey_ld, sk_ld_s, ex_push, ey_cs3, sk_c_s, ex_nw, ex_dup_i, ex_dup_r, ex_dup_n, ey_cs1, ey_ci3, ex_sta, ex_sta_n, ey_cv0, ex_iz, ey_cv1, ex_ic, ex_goto, ey_gf, sk_gf_s, sk_v_s, ey_pf, sk_pf_s, sw_set_set, ex_pop_i, ex_pop_r, ex_pop_n, ex_ii, ex_rv, sw_gl_0, sw_gl_s, sw_fx_n, sw_fx_i, sw_fx_r, sw_fx_0, sw_fx_l, sw_fx_d, sw_sl1_0, sw_sl1_1, sw_sl1_s, sw_no_0, sw_no_s, sw_no_e, sw_mk_t, sw_mk_f, sw_mk_e, sw_en_0, sw_en_n, sw_en_i, sw_en_r, sw_en_z, sw_en_l, sw_en_d, sw_ok_0, sw_ok_1, sw_ok_2, sw_ok_3, sw_ok_4, sw_bo_s, sw_oi_s, sw_cl_s, sw_cl_x, sw_psh_s, sw_psh_n, sw_kd_s, sw_op_s, sw_oc_s, sw_oc_e, sw_oa_s, sw_el_n, sw_el_r, sl_kds_1, sl_kds_67, sw_fit_i, sw_fit_r, sw_fit_n, sw_fit_l, sw_fit_d, sw_fit_b, sw_fit_0, sw_fit_1, sw_rel_0, sw_rel_1, sw_rel_2, sw_rel_3, sw_rel_4, sw_rel_5, sw_hp_set, sw_nx_set, sw_sl_set, sw_ev_set, sw_hp_new, sw_nx_new, sw_sl_new, sw_ev_new, List.getElem?_cons_zero, List.getElem?_cons_succ, List.set_cons_zero, List.set_cons_succ, List.length_cons, List.length_nil, Nat.reduceAdd, Nat.reduceSub, Nat.reduceLT, Nat.reduceLeDiff, Nat.zero_lt_succ, Nat.zero_add, beq_self_eq_true, Bool.true_and, and_true, true_and, and_self, not_true_eq_false, not_false_eq_true, ↓reduceIte, Nat.reduceBEq, eq_self, sw_b_0, sw_b_1, decide_eq_false_iff_not, decide_eq_true_eq, sl_n10, sl_n01, Decidable.not_not, sl_ct, sl_cats_0, sl_cats_i, sl_cats_r, sl_cats_n, sl_cats_l, sl_ok_5, sl_ok9, decide_true, sp_machC, sp_nodeC, sp_opC, sl_z0, sl_z1, sl_z2, sl_z3, sl_z4, sl_z5, sl_z6, sl_z7, sl_c0, sl_c1, sl_c2, sl_c3, sl_c4, sl_c5, sl_c6, sl_c7, List.length_map, sp_lifeC, sp_inC, sp_rnC, e1, k1, k2, hat, k3, hx, sp_xC, fa, fb, eq_true c6, ef, sw_cl_x, sp_o, sp_rel]
          · rw [decide_eq_true c6, if_neg (by decide)] at hf
            rw [decide_eq_true c6, if_neg (by decide)]
            have hab : 2 ≤ kn → ∃ ja jb, ja < N.length ∧ jb < N.length ∧ ja ≠ jb ∧ a = nI ja ∧ b = nI jb := by
              intro _
              unfold sp_fn at c4 c5
              rw [List.length_map, Bool.and_eq_true] at c4 c5
              obtain ⟨ja, j1, j2⟩ := sp_at_of (by omega) c4.1
              obtain ⟨jb, j3, j4⟩ := sp_at_of (by omega) c5.1
              exact ⟨ja, jb, j1, j3, fun e => c6 (by rw [j2, j4, e]), j2, j4⟩
            have hlen : (N.map (·.2)).length = N.length := List.length_map ..
            dsimp only at hf ⊢
            rw [hlen] at hf ⊢
            rcases jc_X1_node10 (b' := b') (d := d) (by omega) (by omega) hN hab (fun q => hf _ _ (if_neg (by omega))) g1 with ⟨n1, n2⟩ | ⟨n1, P', n2, n3⟩
            · rw [if_pos n1]
              refine ⟨_, Eq.trans ?_ n2, Or.inl ⟨1, rfl, g1.bump.drop⟩⟩
              rw [M_X1_node _ _ _ rfl]; simp only [at_X1_node_0, at_X1_node_2, ey_ld, sk_ld_s, ex_push, ey_cs3, sk_c_s, ex_nw, ex_dup_i, ex_dup_r, ex_dup_n, ey_cs1, ey_ci3, ex_sta, ex_sta_n, ey_cv0, ex_iz, ey_cv1, ex_ic, ex_goto, ey_gf, sk_gf_s, sk_v_s, ey_pf, sk_pf_s, sw_set_set, ex_pop_i, ex_pop_r, ex_pop_n, ex_ii, ex_rv, sw_gl_0, sw_gl_s, sw_fx_n, sw_fx_i, sw_fx_r, sw_fx_0, sw_fx_l, sw_fx_d, sw_sl1_0, sw_sl1_1, sw_sl1_s, sw_no_0, sw_no_s, sw_no_e, sw_mk_t, sw_mk_f, sw_mk_e, sw_en_0, sw_en_n, sw_en_i, sw_en_r, sw_en_z, sw_en_l, sw_en_d, sw_ok_0, sw_ok_1, sw_ok_2, sw_ok_3, sw_ok_4, sw_bo_s, sw_oi_s, sw_cl_s, sw_cl_x, sw_psh_s, sw_psh_n, sw_kd_s, sw_op_s, sw_oc_s, sw_oc_e, sw_oa_s, sw_el_n, sw_el_r, sl_kds_1, sl_kds_67, sw_fit_i, sw_fit_r, sw_fit_n, sw_fit_l, sw_fit_d, sw_fit_b, sw_fit_0, sw_fit_1, sw_rel_0, sw_rel_1, sw_rel_2, sw_rel_3, sw_rel_4, sw_rel_5, sw_hp_set, sw_nx_set, sw_sl_set, sw_ev_set, sw_hp_new, sw_nx_new, sw_sl_new, sw_ev_new, List.getElem?_cons_zero, List.getElem?_cons_succ, List.set_cons_zero, List.set_cons_succ, List.length_cons, List.length_nil, Nat.reduceAdd, Nat.reduceSub, Nat.reduceLT, Nat.reduceLeDiff, Nat.zero_lt_succ, Nat.zero_add, beq_self_eq_true, Bool.true_and, and_true, true_and, and_self, not_true_eq_false, not_false_eq_true, ↓reduceIte, Nat.reduceBEq, eq_self, sw_b_0, sw_b_1, decide_eq_false_iff_not, decide_eq_true_eq, sl_n10, sl_n01, Decidable.not_not, sl_ct, sl_cats_0, sl_cats_i, sl_cats_r, sl_cats_n, sl_cats_l, sl_ok_5, sl_ok9, decide_true, sp_machC, sp_nodeC, sp_opC, sl_z0, sl_z1, sl_z2, sl_z3, sl_z4, sl_z5, sl_z6, sl_z7, sl_c0, sl_c1, sl_c2, sl_c3, sl_c4, sl_c5, sl_c6, sl_c7, List.length_map, sp_lifeC, sp_inC, sp_rnC, e1, k1, k2, hat, k3, hx, sp_xC, fa, fb, eq_false c6, et]
            · rw [if_neg (by omega)]
              refine ⟨P', Eq.trans ?_ n2, Or.inr ⟨_, _, rfl, ?_⟩⟩
              · rw [M_X1_node _ _ _ rfl]; simp only [at_X1_node_0, at_X1_node_2, ey_ld, sk_ld_s, ex_push, ey_cs3, sk_c_s, ex_nw, ex_dup_i, ex_dup_r, ex_dup_n, ey_cs1, ey_ci3, ex_sta, ex_sta_n, ey_cv0, ex_iz, ey_cv1, ex_ic, ex_goto, ey_gf, sk_gf_s, sk_v_s, ey_pf, sk_pf_s, sw_set_set, ex_pop_i, ex_pop_r, ex_pop_n, ex_ii, ex_rv, sw_gl_0, sw_gl_s, sw_fx_n, sw_fx_i, sw_fx_r, sw_fx_0, sw_fx_l, sw_fx_d, sw_sl1_0, sw_sl1_1, sw_sl1_s, sw_no_0, sw_no_s, sw_no_e, sw_mk_t, sw_mk_f, sw_mk_e, sw_en_0, sw_en_n, sw_en_i, sw_en_r, sw_en_z, sw_en_l, sw_en_d, sw_ok_0, sw_ok_1, sw_ok_2, sw_ok_3, sw_ok_4, sw_bo_s, sw_oi_s, sw_cl_s, sw_cl_x, sw_psh_s, sw_psh_n, sw_kd_s, sw_op_s, sw_oc_s, sw_oc_e, sw_oa_s, sw_el_n, sw_el_r, sl_kds_1, sl_kds_67, sw_fit_i, sw_fit_r, sw_fit_n, sw_fit_l, sw_fit_d, sw_fit_b, sw_fit_0, sw_fit_1, sw_rel_0, sw_rel_1, sw_rel_2, sw_rel_3, sw_rel_4, sw_rel_5, sw_hp_set, sw_nx_set, sw_sl_set, sw_ev_set, sw_hp_new, sw_nx_new, sw_sl_new, sw_ev_new, List.getElem?_cons_zero, List.getElem?_cons_succ, List.set_cons_zero, List.set_cons_succ, List.length_cons, List.length_nil, Nat.reduceAdd, Nat.reduceSub, Nat.reduceLT, Nat.reduceLeDiff, Nat.zero_lt_succ, Nat.zero_add, beq_self_eq_true, Bool.true_and, and_true, true_and, and_self, not_true_eq_false, not_false_eq_true, ↓reduceIte, Nat.reduceBEq, eq_self, sw_b_0, sw_b_1, decide_eq_false_iff_not, decide_eq_true_eq, sl_n10, sl_n01, Decidable.not_not, sl_ct, sl_cats_0, sl_cats_i, sl_cats_r, sl_cats_n, sl_cats_l, sl_ok_5, sl_ok9, decide_true, sp_machC, sp_nodeC, sp_opC, sl_z0, sl_z1, sl_z2, sl_z3, sl_z4, sl_z5, sl_z6, sl_z7, sl_c0, sl_c1, sl_c2, sl_c3, sl_c4, sl_c5, sl_c6, sl_c7, List.length_map, sp_lifeC, sp_inC, sp_rnC, e1, k1, k2, hat, k3, hx, sp_xC, fa, fb, eq_false c6, et]
              · obtain ⟨z1, z2, z3, z4, z5, z6, z7, z8, z9⟩ := n3
                exact ⟨z1, z2, z3, z4, z5, z6, z7, z8, z9.wk (by omega) (by omega)⟩
    · have hnk : sp_nok (N.map (·.2)) kn a b = (decide (b = 0) && (if kn = 0 then sp_in a (-999) 999 else sp_in a 0 7)) := if_neg c3
      rw [hnk] at hf ⊢
      rw [decide_eq_false c3] at k3
      by_cases c4 : b = 0
      · rw [decide_eq_true c4, Bool.true_and] at hf
        rw [decide_eq_true c4, Bool.true_and]
        have hkn' : kn = 0 ∨ kn = 1 := by omega
        have m0 := jc_X1_mustBeIn (D := d) (P := sw_new P (sp_nodeC ev (kn, a, b, false))) (v := a) (lo := -999) (hi := 999) (by omega)
        have m1 := jc_X1_mustBeIn (D := d) (P := sw_new P (sp_nodeC ev (kn, a, b, false))) (v := a) (lo := 0) (hi := 7) (by omega)
        dsimp only [sp_nodeC] at m0 m1
        have hlen : (N.map (·.2)).length = N.length := List.length_map ..
        have main : ∀ g : Bool, (if kn = 0 then sp_in a (-999) 999 else sp_in a 0 7) = g → (g = false → sw_Z (d + 1) m_X1_node [.ref x, .int (nI kn), .int a, .int b] P = some (.inr 0, sw_bump (sw_new P (sp_nodeC ev (kn, a, b, false))))) ∧ (g = true → sw_Z (d + 1) m_X1_node [.ref x, .int (nI kn), .int a, .int b] P = sw_at (sw_Z d) b_X1_node 10 [some (.ref x), none, some (.int a), some (.int b), some (.ref (sw_nx P))] [] (sw_new P (sp_nodeC ev (kn, a, b, false)))) := by
          intro g hg
          rcases hkn' with rfl | rfl
          · rw [if_pos rfl] at hg
            rw [hg] at m0
            simp only [show nI 0 = (0 : Int32) from rfl] at e1 k1
            refine ⟨fun q => ?_, fun q => ?_⟩
            · rw [q, sp_ck_f] at m0
              rw [M_X1_node _ _ _ rfl]; simp only [at_X1_node_0, at_X1_node_3, at_X1_node_5, at_X1_node_7, at_X1_node_9, ey_ld, sk_ld_s, ex_push, ey_cs3, sk_c_s, ex_nw, ex_dup_i, ex_dup_r, ex_dup_n, ey_cs1, ey_ci3, ex_sta, ex_sta_n, ey_cv0, ex_iz, ey_cv1, ex_ic, ex_goto, ey_gf, sk_gf_s, sk_v_s, ey_pf, sk_pf_s, sw_set_set, ex_pop_i, ex_pop_r, ex_pop_n, ex_ii, ex_rv, sw_gl_0, sw_gl_s, sw_fx_n, sw_fx_i, sw_fx_r, sw_fx_0, sw_fx_l, sw_fx_d, sw_sl1_0, sw_sl1_1, sw_sl1_s, sw_no_0, sw_no_s, sw_no_e, sw_mk_t, sw_mk_f, sw_mk_e, sw_en_0, sw_en_n, sw_en_i, sw_en_r, sw_en_z, sw_en_l, sw_en_d, sw_ok_0, sw_ok_1, sw_ok_2, sw_ok_3, sw_ok_4, sw_bo_s, sw_oi_s, sw_cl_s, sw_cl_x, sw_psh_s, sw_psh_n, sw_kd_s, sw_op_s, sw_oc_s, sw_oc_e, sw_oa_s, sw_el_n, sw_el_r, sl_kds_1, sl_kds_67, sw_fit_i, sw_fit_r, sw_fit_n, sw_fit_l, sw_fit_d, sw_fit_b, sw_fit_0, sw_fit_1, sw_rel_0, sw_rel_1, sw_rel_2, sw_rel_3, sw_rel_4, sw_rel_5, sw_hp_set, sw_nx_set, sw_sl_set, sw_ev_set, sw_hp_new, sw_nx_new, sw_sl_new, sw_ev_new, List.getElem?_cons_zero, List.getElem?_cons_succ, List.set_cons_zero, List.set_cons_succ, List.length_cons, List.length_nil, Nat.reduceAdd, Nat.reduceSub, Nat.reduceLT, Nat.reduceLeDiff, Nat.zero_lt_succ, Nat.zero_add, beq_self_eq_true, Bool.true_and, and_true, true_and, and_self, not_true_eq_false, not_false_eq_true, ↓reduceIte, Nat.reduceBEq, eq_self, sw_b_0, sw_b_1, decide_eq_false_iff_not, decide_eq_true_eq, sl_n10, sl_n01, Decidable.not_not, sl_ct, sl_cats_0, sl_cats_i, sl_cats_r, sl_cats_n, sl_cats_l, sl_ok_5, sl_ok9, decide_true, sp_machC, sp_nodeC, sp_opC, sl_z0, sl_z1, sl_z2, sl_z3, sl_z4, sl_z5, sl_z6, sl_z7, sl_c0, sl_c1, sl_c2, sl_c3, sl_c4, sl_c5, sl_c6, sl_c7, List.length_map, sp_lifeC, sp_inC, sp_rnC, e1, k1, k2, hat, k3, eq_true c4, et, m0, sw_cl_x, show nI 0 = (0 : Int32) from rfl]
            · rw [q, sp_ck_t] at m0
              rw [M_X1_node _ _ _ rfl]; simp only [at_X1_node_0, at_X1_node_3, at_X1_node_5, at_X1_node_7, at_X1_node_9, ey_ld, sk_ld_s, ex_push, ey_cs3, sk_c_s, ex_nw, ex_dup_i, ex_dup_r, ex_dup_n, ey_cs1, ey_ci3, ex_sta, ex_sta_n, ey_cv0, ex_iz, ey_cv1, ex_ic, ex_goto, ey_gf, sk_gf_s, sk_v_s, ey_pf, sk_pf_s, sw_set_set, ex_pop_i, ex_pop_r, ex_pop_n, ex_ii, ex_rv, sw_gl_0, sw_gl_s, sw_fx_n, sw_fx_i, sw_fx_r, sw_fx_0, sw_fx_l, sw_fx_d, sw_sl1_0, sw_sl1_1, sw_sl1_s, sw_no_0, sw_no_s, sw_no_e, sw_mk_t, sw_mk_f, sw_mk_e, sw_en_0, sw_en_n, sw_en_i, sw_en_r, sw_en_z, sw_en_l, sw_en_d, sw_ok_0, sw_ok_1, sw_ok_2, sw_ok_3, sw_ok_4, sw_bo_s, sw_oi_s, sw_cl_s, sw_cl_x, sw_psh_s, sw_psh_n, sw_kd_s, sw_op_s, sw_oc_s, sw_oc_e, sw_oa_s, sw_el_n, sw_el_r, sl_kds_1, sl_kds_67, sw_fit_i, sw_fit_r, sw_fit_n, sw_fit_l, sw_fit_d, sw_fit_b, sw_fit_0, sw_fit_1, sw_rel_0, sw_rel_1, sw_rel_2, sw_rel_3, sw_rel_4, sw_rel_5, sw_hp_set, sw_nx_set, sw_sl_set, sw_ev_set, sw_hp_new, sw_nx_new, sw_sl_new, sw_ev_new, List.getElem?_cons_zero, List.getElem?_cons_succ, List.set_cons_zero, List.set_cons_succ, List.length_cons, List.length_nil, Nat.reduceAdd, Nat.reduceSub, Nat.reduceLT, Nat.reduceLeDiff, Nat.zero_lt_succ, Nat.zero_add, beq_self_eq_true, Bool.true_and, and_true, true_and, and_self, not_true_eq_false, not_false_eq_true, ↓reduceIte, Nat.reduceBEq, eq_self, sw_b_0, sw_b_1, decide_eq_false_iff_not, decide_eq_true_eq, sl_n10, sl_n01, Decidable.not_not, sl_ct, sl_cats_0, sl_cats_i, sl_cats_r, sl_cats_n, sl_cats_l, sl_ok_5, sl_ok9, decide_true, sp_machC, sp_nodeC, sp_opC, sl_z0, sl_z1, sl_z2, sl_z3, sl_z4, sl_z5, sl_z6, sl_z7, sl_c0, sl_c1, sl_c2, sl_c3, sl_c4, sl_c5, sl_c6, sl_c7, List.length_map, sp_lifeC, sp_inC, sp_rnC, e1, k1, k2, hat, k3, eq_true c4, et, m0, show nI 0 = (0 : Int32) from rfl]
          · rw [if_neg (by decide)] at hg
            rw [hg] at m1
            refine ⟨fun q => ?_, fun q => ?_⟩
            · rw [q, sp_ck_f] at m1
              rw [M_X1_node _ _ _ rfl]; simp only [at_X1_node_0, at_X1_node_3, at_X1_node_5, at_X1_node_6, at_X1_node_7, at_X1_node_8, at_X1_node_9, ey_ld, sk_ld_s, ex_push, ey_cs3, sk_c_s, ex_nw, ex_dup_i, ex_dup_r, ex_dup_n, ey_cs1, ey_ci3, ex_sta, ex_sta_n, ey_cv0, ex_iz, ey_cv1, ex_ic, ex_goto, ey_gf, sk_gf_s, sk_v_s, ey_pf, sk_pf_s, sw_set_set, ex_pop_i, ex_pop_r, ex_pop_n, ex_ii, ex_rv, sw_gl_0, sw_gl_s, sw_fx_n, sw_fx_i, sw_fx_r, sw_fx_0, sw_fx_l, sw_fx_d, sw_sl1_0, sw_sl1_1, sw_sl1_s, sw_no_0, sw_no_s, sw_no_e, sw_mk_t, sw_mk_f, sw_mk_e, sw_en_0, sw_en_n, sw_en_i, sw_en_r, sw_en_z, sw_en_l, sw_en_d, sw_ok_0, sw_ok_1, sw_ok_2, sw_ok_3, sw_ok_4, sw_bo_s, sw_oi_s, sw_cl_s, sw_cl_x, sw_psh_s, sw_psh_n, sw_kd_s, sw_op_s, sw_oc_s, sw_oc_e, sw_oa_s, sw_el_n, sw_el_r, sl_kds_1, sl_kds_67, sw_fit_i, sw_fit_r, sw_fit_n, sw_fit_l, sw_fit_d, sw_fit_b, sw_fit_0, sw_fit_1, sw_rel_0, sw_rel_1, sw_rel_2, sw_rel_3, sw_rel_4, sw_rel_5, sw_hp_set, sw_nx_set, sw_sl_set, sw_ev_set, sw_hp_new, sw_nx_new, sw_sl_new, sw_ev_new, List.getElem?_cons_zero, List.getElem?_cons_succ, List.set_cons_zero, List.set_cons_succ, List.length_cons, List.length_nil, Nat.reduceAdd, Nat.reduceSub, Nat.reduceLT, Nat.reduceLeDiff, Nat.zero_lt_succ, Nat.zero_add, beq_self_eq_true, Bool.true_and, and_true, true_and, and_self, not_true_eq_false, not_false_eq_true, ↓reduceIte, Nat.reduceBEq, eq_self, sw_b_0, sw_b_1, decide_eq_false_iff_not, decide_eq_true_eq, sl_n10, sl_n01, Decidable.not_not, sl_ct, sl_cats_0, sl_cats_i, sl_cats_r, sl_cats_n, sl_cats_l, sl_ok_5, sl_ok9, decide_true, sp_machC, sp_nodeC, sp_opC, sl_z0, sl_z1, sl_z2, sl_z3, sl_z4, sl_z5, sl_z6, sl_z7, sl_c0, sl_c1, sl_c2, sl_c3, sl_c4, sl_c5, sl_c6, sl_c7, List.length_map, sp_lifeC, sp_inC, sp_rnC, e1, k1, k2, hat, k3, eq_true c4, et, m1, sw_cl_x, show ¬ nI 1 = 0 by decide]
            · rw [q, sp_ck_t] at m1
              rw [M_X1_node _ _ _ rfl]; simp only [at_X1_node_0, at_X1_node_3, at_X1_node_5, at_X1_node_6, at_X1_node_7, at_X1_node_8, at_X1_node_9, ey_ld, sk_ld_s, ex_push, ey_cs3, sk_c_s, ex_nw, ex_dup_i, ex_dup_r, ex_dup_n, ey_cs1, ey_ci3, ex_sta, ex_sta_n, ey_cv0, ex_iz, ey_cv1, ex_ic, ex_goto, ey_gf, sk_gf_s, sk_v_s, ey_pf, sk_pf_s, sw_set_set, ex_pop_i, ex_pop_r, ex_pop_n, ex_ii, ex_rv, sw_gl_0, sw_gl_s, sw_fx_n, sw_fx_i, sw_fx_r, sw_fx_0, sw_fx_l, sw_fx_d, sw_sl1_0, sw_sl1_1, sw_sl1_s, sw_no_0, sw_no_s, sw_no_e, sw_mk_t, sw_mk_f, sw_mk_e, sw_en_0, sw_en_n, sw_en_i, sw_en_r, sw_en_z, sw_en_l, sw_en_d, sw_ok_0, sw_ok_1, sw_ok_2, sw_ok_3, sw_ok_4, sw_bo_s, sw_oi_s, sw_cl_s, sw_cl_x, sw_psh_s, sw_psh_n, sw_kd_s, sw_op_s, sw_oc_s, sw_oc_e, sw_oa_s, sw_el_n, sw_el_r, sl_kds_1, sl_kds_67, sw_fit_i, sw_fit_r, sw_fit_n, sw_fit_l, sw_fit_d, sw_fit_b, sw_fit_0, sw_fit_1, sw_rel_0, sw_rel_1, sw_rel_2, sw_rel_3, sw_rel_4, sw_rel_5, sw_hp_set, sw_nx_set, sw_sl_set, sw_ev_set, sw_hp_new, sw_nx_new, sw_sl_new, sw_ev_new, List.getElem?_cons_zero, List.getElem?_cons_succ, List.set_cons_zero, List.set_cons_succ, List.length_cons, List.length_nil, Nat.reduceAdd, Nat.reduceSub, Nat.reduceLT, Nat.reduceLeDiff, Nat.zero_lt_succ, Nat.zero_add, beq_self_eq_true, Bool.true_and, and_true, true_and, and_self, not_true_eq_false, not_false_eq_true, ↓reduceIte, Nat.reduceBEq, eq_self, sw_b_0, sw_b_1, decide_eq_false_iff_not, decide_eq_true_eq, sl_n10, sl_n01, Decidable.not_not, sl_ct, sl_cats_0, sl_cats_i, sl_cats_r, sl_cats_n, sl_cats_l, sl_ok_5, sl_ok9, decide_true, sp_machC, sp_nodeC, sp_opC, sl_z0, sl_z1, sl_z2, sl_z3, sl_z4, sl_z5, sl_z6, sl_z7, sl_c0, sl_c1, sl_c2, sl_c3, sl_c4, sl_c5, sl_c6, sl_c7, List.length_map, sp_lifeC, sp_inC, sp_rnC, e1, k1, k2, hat, k3, eq_true c4, et, m1, show ¬ nI 1 = 0 by decide]
        generalize hg : (if kn = 0 then sp_in a (-999) 999 else sp_in a 0 7) = g at hf ⊢
        obtain ⟨mf, mt⟩ := main g hg
        cases g
        · rw [if_pos rfl]
          exact ⟨_, mf rfl, Or.inl ⟨0, rfl, g1.bump.drop⟩⟩
        · rw [if_neg (by decide)] at hf
          rw [if_neg (by decide)]
          dsimp only at hf ⊢
          rw [hlen] at hf ⊢
          rcases jc_X1_node10 (b' := b') (d := d) (by omega) (by omega) hN (fun q => absurd q c3) (fun q => hf _ _ (if_neg (by omega))) g1 with ⟨n1, n2⟩ | ⟨n1, P', n2, n3⟩
          · rw [if_pos n1]
            exact ⟨_, (mt rfl).trans n2, Or.inl ⟨1, rfl, g1.bump.drop⟩⟩
          · rw [if_neg (by omega)]
            refine ⟨P', (mt rfl).trans n2, Or.inr ⟨_, _, rfl, ?_⟩⟩
            obtain ⟨z1, z2, z3, z4, z5, z6, z7, z8, z9⟩ := n3
            exact ⟨z1, z2, z3, z4, z5, z6, z7, z8, z9.wk (by omega) (by omega)⟩
      · rw [decide_eq_false c4, Bool.false_and, if_pos rfl]
        refine ⟨_, ?_, Or.inl ⟨0, rfl, g1.bump.drop⟩⟩
        rw [M_X1_node _ _ _ rfl]; simp only [at_X1_node_0, at_X1_node_3, at_X1_node_4, at_X1_node_5, ey_ld, sk_ld_s, ex_push, ey_cs3, sk_c_s, ex_nw, ex_dup_i, ex_dup_r, ex_dup_n, ey_cs1, ey_ci3, ex_sta, ex_sta_n, ey_cv0, ex_iz, ey_cv1, ex_ic, ex_goto, ey_gf, sk_gf_s, sk_v_s, ey_pf, sk_pf_s, sw_set_set, ex_pop_i, ex_pop_r, ex_pop_n, ex_ii, ex_rv, sw_gl_0, sw_gl_s, sw_fx_n, sw_fx_i, sw_fx_r, sw_fx_0, sw_fx_l, sw_fx_d, sw_sl1_0, sw_sl1_1, sw_sl1_s, sw_no_0, sw_no_s, sw_no_e, sw_mk_t, sw_mk_f, sw_mk_e, sw_en_0, sw_en_n, sw_en_i, sw_en_r, sw_en_z, sw_en_l, sw_en_d, sw_ok_0, sw_ok_1, sw_ok_2, sw_ok_3, sw_ok_4, sw_bo_s, sw_oi_s, sw_cl_s, sw_cl_x, sw_psh_s, sw_psh_n, sw_kd_s, sw_op_s, sw_oc_s, sw_oc_e, sw_oa_s, sw_el_n, sw_el_r, sl_kds_1, sl_kds_67, sw_fit_i, sw_fit_r, sw_fit_n, sw_fit_l, sw_fit_d, sw_fit_b, sw_fit_0, sw_fit_1, sw_rel_0, sw_rel_1, sw_rel_2, sw_rel_3, sw_rel_4, sw_rel_5, sw_hp_set, sw_nx_set, sw_sl_set, sw_ev_set, sw_hp_new, sw_nx_new, sw_sl_new, sw_ev_new, List.getElem?_cons_zero, List.getElem?_cons_succ, List.set_cons_zero, List.set_cons_succ, List.length_cons, List.length_nil, Nat.reduceAdd, Nat.reduceSub, Nat.reduceLT, Nat.reduceLeDiff, Nat.zero_lt_succ, Nat.zero_add, beq_self_eq_true, Bool.true_and, and_true, true_and, and_self, not_true_eq_false, not_false_eq_true, ↓reduceIte, Nat.reduceBEq, eq_self, sw_b_0, sw_b_1, decide_eq_false_iff_not, decide_eq_true_eq, sl_n10, sl_n01, Decidable.not_not, sl_ct, sl_cats_0, sl_cats_i, sl_cats_r, sl_cats_n, sl_cats_l, sl_ok_5, sl_ok9, decide_true, sp_machC, sp_nodeC, sp_opC, sl_z0, sl_z1, sl_z2, sl_z3, sl_z4, sl_z5, sl_z6, sl_z7, sl_c0, sl_c1, sl_c2, sl_c3, sl_c4, sl_c5, sl_c6, sl_c7, List.length_map, sp_lifeC, sp_inC, sp_rnC, e1, k1, k2, hat, k3, eq_false c4, ef, sw_cl_x, sp_o, sp_rel]
end
