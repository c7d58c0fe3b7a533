/-! ===== the program's own sums ===== -/
def sp_stms (B : List (List sp_Stm)) : Nat → Int32 := sw_it (fun k q => q + nI (B.getD k []).length) 0
section
variable {ev : Nat → Nat} {D d : Nat} {pa : sp_PA} {N : List (Nat × sp_Node)} {B : List sp_Blk} {T : List Int32} {out : Int32} {P : sw_P}
theorem jc_X2_statements (hD : 4 ≤ D) (hB : B.length = 4) (h : sl_rds (sw_hp P) (sl_prog ev pa N B T out)) : sw_Z D m_X2_statements [.ref pa.1] P = some (.inl (some (.int (sp_stms (B.map fun y => y.2.map (·.2)) 4))), P) := by
  obtain ⟨d, hDe, hDn⟩ := sw_dep hD; subst hDe; replace hD := hDn; clear hDn
  have h0 := sl_rd_pt.mp (sl_rds_at h 0 rfl)
  obtain ⟨_, _, _, _, e3, _⟩ := sl_rd_lx (sl_rds_at h 3 rfl)
  have hloop : ∀ j k, k + j = 4 → sw_at (sw_Z d) b_X2_statements 1 [some (.ref pa.1), some (.int (sp_stms (B.map fun y => y.2.map (·.2)) k)), some (.int (nI k))] [] P = some (.inl (some (.int (sp_stms (B.map fun y => y.2.map (·.2)) 4))), P) := by
    intro j
    induction j with
    | zero =>
      intro k hk
      have : k = 4 := by omega
      subst this
      have e2 : (4 : Int32) ≤ nI 4 := by decide
      rw [at_X2_statements_1]; simp only [at_X2_statements_2, ex_push, ex_sti, ex_goto, ey_ld, sk_ld_s, ex_ic, ey_gf, sk_gf_s, sk_v_s, ey_cv1, sk_c_s, ex_ct, ey_cv0, ex_ii, ey_inc, sk_inc_s, ex_rv, sw_gl_0, sw_gl_s, sw_fx_n, sw_fx_i, sw_fx_r, sw_fx_0, sw_fx_l, sw_fx_d, sw_sl1_0, sw_sl1_1, sw_sl1_s, sw_no_0, sw_no_s, sw_no_e, sw_mk_t, sw_mk_f, sw_mk_e, sw_en_0, sw_en_n, sw_en_i, sw_en_r, sw_en_z, sw_en_l, sw_en_d, sw_ok_0, sw_ok_1, sw_ok_2, sw_ok_3, sw_ok_4, sw_bo_s, sw_oi_s, sw_cl_s, sw_cl_x, sw_psh_s, sw_psh_n, sw_kd_s, sw_op_s, sw_oc_s, sw_oc_e, sw_oa_s, sw_el_n, sw_el_r, sl_kds_1, sl_kds_67, sw_fit_i, sw_fit_r, sw_fit_n, sw_fit_l, sw_fit_d, sw_fit_b, sw_fit_0, sw_fit_1, sw_rel_0, sw_rel_1, sw_rel_2, sw_rel_3, sw_rel_4, sw_rel_5, sw_hp_set, sw_nx_set, sw_sl_set, sw_ev_set, sw_hp_new, sw_nx_new, sw_sl_new, sw_ev_new, List.getElem?_cons_zero, List.getElem?_cons_succ, List.set_cons_zero, List.set_cons_succ, List.length_cons, List.length_nil, Nat.reduceAdd, Nat.reduceSub, Nat.reduceLT, Nat.reduceLeDiff, Nat.zero_lt_succ, Nat.zero_add, beq_self_eq_true, Bool.true_and, and_true, true_and, and_self, not_true_eq_false, not_false_eq_true, ↓reduceIte, Nat.reduceBEq, eq_self, sw_b_0, sw_b_1, decide_eq_false_iff_not, decide_eq_true_eq, sl_n10, sl_n01, Decidable.not_not, sl_ct, sl_cats_0, sl_cats_i, sl_cats_r, sl_cats_n, sl_cats_l, sl_ok_5, sl_ok9, decide_true, sp_machC, sp_nodeC, sp_opC, sl_z0, sl_z1, sl_z2, sl_z3, sl_z4, sl_z5, sl_z6, sl_z7, sl_c0, sl_c1, sl_c2, sl_c3, sl_c4, sl_c5, sl_c6, sl_c7, List.length_map, sp_lifeC, sp_inC, sp_rnC, e2]
    | succ j ih =>
      intro k hk
      have e0 : ¬ nI 4 ≤ nI k := nI_ge (by omega) (by omega)
      have e2 : ¬ (4 : Int32) ≤ nI k := e0
      have ex : B[k]? = some B[k] := List.getElem?_eq_getElem (by omega)
      have e4 := jc_J2_get (D := d) (by omega) (sl_rds_at h 3 rfl) (sl_refs_at ex) (by rw [List.length_map]; omega)
      have hb := (sl_prog_blk h ex).1
      have e5 := jc_J2_sizeR (D := d) (by omega) hb
      obtain ⟨_, _, _, _, e6, _⟩ := sl_rd_lx hb
      have hgd : (B.map fun y => y.2.map (·.2)).getD k [] = B[k].2.map (·.2) := sp_getD (by rw [List.getElem?_map, ex]; rfl)
      have hst : sp_stms (B.map fun y => y.2.map (·.2)) (k + 1) = sp_stms (B.map fun y => y.2.map (·.2)) k + nI B[k].2.length := by
        show _ + nI ((B.map fun y => y.2.map (·.2)).getD k []).length = _
        rw [hgd, List.length_map]; rfl
      rw [List.length_map] at e5
      have hs := ih (k + 1) (by omega)
      rw [← hs, hst]
      rw [at_X2_statements_1]; simp only [ex_push, ex_sti, ex_goto, ey_ld, sk_ld_s, ex_ic, ey_gf, sk_gf_s, sk_v_s, ey_cv1, sk_c_s, ex_ct, ey_cv0, ex_ii, ey_inc, sk_inc_s, ex_rv, sw_gl_0, sw_gl_s, sw_fx_n, sw_fx_i, sw_fx_r, sw_fx_0, sw_fx_l, sw_fx_d, sw_sl1_0, sw_sl1_1, sw_sl1_s, sw_no_0, sw_no_s, sw_no_e, sw_mk_t, sw_mk_f, sw_mk_e, sw_en_0, sw_en_n, sw_en_i, sw_en_r, sw_en_z, sw_en_l, sw_en_d, sw_ok_0, sw_ok_1, sw_ok_2, sw_ok_3, sw_ok_4, sw_bo_s, sw_oi_s, sw_cl_s, sw_cl_x, sw_psh_s, sw_psh_n, sw_kd_s, sw_op_s, sw_oc_s, sw_oc_e, sw_oa_s, sw_el_n, sw_el_r, sl_kds_1, sl_kds_67, sw_fit_i, sw_fit_r, sw_fit_n, sw_fit_l, sw_fit_d, sw_fit_b, sw_fit_0, sw_fit_1, sw_rel_0, sw_rel_1, sw_rel_2, sw_rel_3, sw_rel_4, sw_rel_5, sw_hp_set, sw_nx_set, sw_sl_set, sw_ev_set, sw_hp_new, sw_nx_new, sw_sl_new, sw_ev_new, List.getElem?_cons_zero, List.getElem?_cons_succ, List.set_cons_zero, List.set_cons_succ, List.length_cons, List.length_nil, Nat.reduceAdd, Nat.reduceSub, Nat.reduceLT, Nat.reduceLeDiff, Nat.zero_lt_succ, Nat.zero_add, beq_self_eq_true, Bool.true_and, and_true, true_and, and_self, not_true_eq_false, not_false_eq_true, ↓reduceIte, Nat.reduceBEq, eq_self, sw_b_0, sw_b_1, decide_eq_false_iff_not, decide_eq_true_eq, sl_n10, sl_n01, Decidable.not_not, sl_ct, sl_cats_0, sl_cats_i, sl_cats_r, sl_cats_n, sl_cats_l, sl_ok_5, sl_ok9, decide_true, sp_machC, sp_nodeC, sp_opC, sl_z0, sl_z1, sl_z2, sl_z3, sl_z4, sl_z5, sl_z6, sl_z7, sl_c0, sl_c1, sl_c2, sl_c3, sl_c4, sl_c5, sl_c6, sl_c7, List.length_map, sp_lifeC, sp_inC, sp_rnC, h0, e2, e3, e4, e5, e6, sl_kds_1, nI_1]
  have hs := hloop 4 0 (by omega)
  rw [M_X2_statements _ _ _ rfl]; simp only [at_X2_statements_0, ex_push, ex_sti, ex_goto, ey_ld, sk_ld_s, ex_ic, ey_gf, sk_gf_s, sk_v_s, ey_cv1, sk_c_s, ex_ct, ey_cv0, ex_ii, ey_inc, sk_inc_s, ex_rv, sw_gl_0, sw_gl_s, sw_fx_n, sw_fx_i, sw_fx_r, sw_fx_0, sw_fx_l, sw_fx_d, sw_sl1_0, sw_sl1_1, sw_sl1_s, sw_no_0, sw_no_s, sw_no_e, sw_mk_t, sw_mk_f, sw_mk_e, sw_en_0, sw_en_n, sw_en_i, sw_en_r, sw_en_z, sw_en_l, sw_en_d, sw_ok_0, sw_ok_1, sw_ok_2, sw_ok_3, sw_ok_4, sw_bo_s, sw_oi_s, sw_cl_s, sw_cl_x, sw_psh_s, sw_psh_n, sw_kd_s, sw_op_s, sw_oc_s, sw_oc_e, sw_oa_s, sw_el_n, sw_el_r, sl_kds_1, sl_kds_67, sw_fit_i, sw_fit_r, sw_fit_n, sw_fit_l, sw_fit_d, sw_fit_b, sw_fit_0, sw_fit_1, sw_rel_0, sw_rel_1, sw_rel_2, sw_rel_3, sw_rel_4, sw_rel_5, sw_hp_set, sw_nx_set, sw_sl_set, sw_ev_set, sw_hp_new, sw_nx_new, sw_sl_new, sw_ev_new, List.getElem?_cons_zero, List.getElem?_cons_succ, List.set_cons_zero, List.set_cons_succ, List.length_cons, List.length_nil, Nat.reduceAdd, Nat.reduceSub, Nat.reduceLT, Nat.reduceLeDiff, Nat.zero_lt_succ, Nat.zero_add, beq_self_eq_true, Bool.true_and, and_true, true_and, and_self, not_true_eq_false, not_false_eq_true, ↓reduceIte, Nat.reduceBEq, eq_self, sw_b_0, sw_b_1, decide_eq_false_iff_not, decide_eq_true_eq, sl_n10, sl_n01, Decidable.not_not, sl_ct, sl_cats_0, sl_cats_i, sl_cats_r, sl_cats_n, sl_cats_l, sl_ok_5, sl_ok9, decide_true, sp_machC, sp_nodeC, sp_opC, sl_z0, sl_z1, sl_z2, sl_z3, sl_z4, sl_z5, sl_z6, sl_z7, sl_c0, sl_c1, sl_c2, sl_c3, sl_c4, sl_c5, sl_c6, sl_c7, List.length_map, sp_lifeC, sp_inC, sp_rnC]
  exact hs
end
