/-! ===== the value of a node ===== -/
def sp_nv (ns : List sp_Node) (V : List Int32) : Nat → Nat → Int32
  | 0, _ => 0
  | f + 1, j => if (sp_nd ns (nI j)).1 = 0 then (sp_nd ns (nI j)).2.1 else if (sp_nd ns (nI j)).1 = 1 then sp_rg V (sp_nd ns (nI j)).2.1 else
      if (sp_nd ns (nI j)).1 = 2 then sp_nv ns V f (sp_nd ns (nI j)).2.1.toNatClampNeg + sp_nv ns V f (sp_nd ns (nI j)).2.2.1.toNatClampNeg
      else if (sp_nd ns (nI j)).1 = 3 then sp_nv ns V f (sp_nd ns (nI j)).2.1.toNatClampNeg - sp_nv ns V f (sp_nd ns (nI j)).2.2.1.toNatClampNeg
      else if (sp_nd ns (nI j)).1 = 4 then sp_nv ns V f (sp_nd ns (nI j)).2.1.toNatClampNeg * sp_nv ns V f (sp_nd ns (nI j)).2.2.1.toNatClampNeg
      else 3 * sp_nv ns V f (sp_nd ns (nI j)).2.1.toNatClampNeg + 2 * sp_nv ns V f (sp_nd ns (nI j)).2.2.1.toNatClampNeg + 1
section
variable {ev : Nat → Nat} {a : Nat} {pa : sp_PA} {N : List (Nat × sp_Node)} {B : List sp_Blk} {T V : List Int32} {out : Int32} {P : sw_P}
theorem jc_X2_value (hb : sl_bs ev P) (h : sl_rds (sw_hp P) (sl_prog ev pa N B T out)) (hok : sp_ok (N.map (·.2))) (hV : V.length = 8) (ha : sw_hp P a = some (64, V.map .int)) : ∀ f j D, j < f → j < N.length → f + 6 ≤ D → sw_Z D m_X2_value [.ref pa.1, .int (nI j), .ref a] P = some (.inl (some (.int (sp_nv (N.map (·.2)) V f j))), P) := by
  intro f
  induction f with
  | zero => intro j D hj; omega
  | succ f ih =>
    intro j D hj hjn hD
    obtain ⟨d, hDe, hDn⟩ := sw_dep hD; subst hDe; replace hD := hDn; clear hDn
    have hl : (N.map (·.2)).length ≤ 80 := hok.1
    have h0 := sl_rd_pt.mp (sl_rds_at h 0 rfl)
    have hNl : N.length ≤ 80 := by rwa [List.length_map] at hl
    have hy : N[j]? = some N[j] := List.getElem?_eq_getElem hjn
    have e0 := jc_X2_at (D := d) (by omega) h hNl hy
    have hn := sl_prog_node h hy
    have hym : (N.map (·.2))[j]? = some N[j].2 := by rw [List.getElem?_map, hy]; rfl
    have hnd : sp_nd (N.map (·.2)) (nI j) = N[j].2 := sp_nd_nI hl hym
    obtain ⟨hx, hk, hv⟩ := hok.2 j _ hym
    have e1 := jc_X16_is (D := d) (j := 0) (by omega) hb hn hx (by decide)
    have e2 := jc_X16_is (D := d) (j := 1) (by omega) hb hn hx (by decide)
    have e3 := jc_J8_ordinal (D := d) (P := P) (by omega) (hb.2.2 N[j].2.1 hx)
    unfold sp_nv
    rw [hnd]
    by_cases c0 : N[j].2.1 = 0
    · rw [if_pos c0]
      rw [M_X2_value _ _ _ rfl]; simp only [at_X2_value_0, at_X2_value_1, at_X2_value_2, at_X2_value_3, at_X2_value_4, at_X2_value_5, at_X2_value_6, ey_ld, sk_ld_s, ey_cv1, sk_c_s, ex_sta, ex_sta_n, ex_gs, ex_iz, ey_gf, sk_gf_s, sk_v_s, ex_rv, ey_ald, sk_ald_s, ey_cv2, ex_sti, ey_cv0, ex_sw, sw_lk_e, sw_lk_c, ex_ii, ey_cs2, sw_gl_0, sw_gl_s, sw_fx_n, sw_fx_i, sw_fx_r, sw_fx_0, sw_fx_l, sw_fx_d, sw_sl1_0, sw_sl1_1, sw_sl1_s, sw_no_0, sw_no_s, sw_no_e, sw_mk_t, sw_mk_f, sw_mk_e, sw_en_0, sw_en_n, sw_en_i, sw_en_r, sw_en_z, sw_en_l, sw_en_d, sw_ok_0, sw_ok_1, sw_ok_2, sw_ok_3, sw_ok_4, sw_bo_s, sw_oi_s, sw_cl_s, sw_cl_x, sw_psh_s, sw_psh_n, sw_kd_s, sw_op_s, sw_oc_s, sw_oc_e, sw_oa_s, sw_el_n, sw_el_r, sl_kds_1, sl_kds_67, sw_fit_i, sw_fit_r, sw_fit_n, sw_fit_l, sw_fit_d, sw_fit_b, sw_fit_0, sw_fit_1, sw_rel_0, sw_rel_1, sw_rel_2, sw_rel_3, sw_rel_4, sw_rel_5, sw_hp_set, sw_nx_set, sw_sl_set, sw_ev_set, sw_hp_new, sw_nx_new, sw_sl_new, sw_ev_new, List.getElem?_cons_zero, List.getElem?_cons_succ, List.set_cons_zero, List.set_cons_succ, List.length_cons, List.length_nil, Nat.reduceAdd, Nat.reduceSub, Nat.reduceLT, Nat.reduceLeDiff, Nat.zero_lt_succ, Nat.zero_add, beq_self_eq_true, Bool.true_and, and_true, true_and, and_self, not_true_eq_false, not_false_eq_true, ↓reduceIte, Nat.reduceBEq, eq_self, sw_b_0, sw_b_1, decide_eq_false_iff_not, decide_eq_true_eq, sl_n10, sl_n01, Decidable.not_not, sl_ct, sl_cats_0, sl_cats_i, sl_cats_r, sl_cats_n, sl_cats_l, sl_ok_5, sl_ok9, decide_true, sp_machC, sp_nodeC, sp_opC, sl_z0, sl_z1, sl_z2, sl_z3, sl_z4, sl_z5, sl_z6, sl_z7, sl_c0, sl_c1, sl_c2, sl_c3, sl_c4, sl_c5, sl_c6, sl_c7, List.length_map, sp_lifeC, sp_inC, sp_rnC, hb.1, h0, e0, hn, sp_nodeC, e1, e2, eq_true c0, decide_true, sw_b_t]
    · rw [if_neg c0]
      by_cases c1 : N[j].2.1 = 1
      · rw [if_pos c1]
        obtain ⟨v, v1, v2⟩ := hv c1
        obtain ⟨g1, g2, g3⟩ := sp_rg_at hV (by omega) ⟨v, v1, v2⟩
        rw [M_X2_value _ _ _ rfl]; simp only [at_X2_value_0, at_X2_value_1, at_X2_value_2, at_X2_value_3, at_X2_value_4, at_X2_value_5, at_X2_value_6, ey_ld, sk_ld_s, ey_cv1, sk_c_s, ex_sta, ex_sta_n, ex_gs, ex_iz, ey_gf, sk_gf_s, sk_v_s, ex_rv, ey_ald, sk_ald_s, ey_cv2, ex_sti, ey_cv0, ex_sw, sw_lk_e, sw_lk_c, ex_ii, ey_cs2, sw_gl_0, sw_gl_s, sw_fx_n, sw_fx_i, sw_fx_r, sw_fx_0, sw_fx_l, sw_fx_d, sw_sl1_0, sw_sl1_1, sw_sl1_s, sw_no_0, sw_no_s, sw_no_e, sw_mk_t, sw_mk_f, sw_mk_e, sw_en_0, sw_en_n, sw_en_i, sw_en_r, sw_en_z, sw_en_l, sw_en_d, sw_ok_0, sw_ok_1, sw_ok_2, sw_ok_3, sw_ok_4, sw_bo_s, sw_oi_s, sw_cl_s, sw_cl_x, sw_psh_s, sw_psh_n, sw_kd_s, sw_op_s, sw_oc_s, sw_oc_e, sw_oa_s, sw_el_n, sw_el_r, sl_kds_1, sl_kds_67, sw_fit_i, sw_fit_r, sw_fit_n, sw_fit_l, sw_fit_d, sw_fit_b, sw_fit_0, sw_fit_1, sw_rel_0, sw_rel_1, sw_rel_2, sw_rel_3, sw_rel_4, sw_rel_5, sw_hp_set, sw_nx_set, sw_sl_set, sw_ev_set, sw_hp_new, sw_nx_new, sw_sl_new, sw_ev_new, List.getElem?_cons_zero, List.getElem?_cons_succ, List.set_cons_zero, List.set_cons_succ, List.length_cons, List.length_nil, Nat.reduceAdd, Nat.reduceSub, Nat.reduceLT, Nat.reduceLeDiff, Nat.zero_lt_succ, Nat.zero_add, beq_self_eq_true, Bool.true_and, and_true, true_and, and_self, not_true_eq_false, not_false_eq_true, ↓reduceIte, Nat.reduceBEq, eq_self, sw_b_0, sw_b_1, decide_eq_false_iff_not, decide_eq_true_eq, sl_n10, sl_n01, Decidable.not_not, sl_ct, sl_cats_0, sl_cats_i, sl_cats_r, sl_cats_n, sl_cats_l, sl_ok_5, sl_ok9, decide_true, sp_machC, sp_nodeC, sp_opC, sl_z0, sl_z1, sl_z2, sl_z3, sl_z4, sl_z5, sl_z6, sl_z7, sl_c0, sl_c1, sl_c2, sl_c3, sl_c4, sl_c5, sl_c6, sl_c7, List.length_map, sp_lifeC, sp_inC, sp_rnC, hb.1, h0, e0, hn, sp_nodeC, e1, e2, eq_false c0, eq_true c1, decide_true, decide_false, sw_b_t, sw_b_f, ha, g1, g2, g3]
      · rw [if_neg c1]
        obtain ⟨ja, jb, j1, j2, j3, j4⟩ := hk (by omega)
        have ra := ih ja d (by omega) (by omega) (by omega)
        have rb := ih jb d (by omega) (by omega) (by omega)
        have ta : (nI ja).toNatClampNeg = ja := nI_clamp (by omega)
        have tb : (nI jb).toNatClampNeg = jb := nI_clamp (by omega)
        have hor : N[j].2.1 = 2 ∨ N[j].2.1 = 3 ∨ N[j].2.1 = 4 ∨ N[j].2.1 = 5 := by omega
        have ec := fun x y => jc_X1_callOf (D := d) (P := P) (x := x) (y := y) (by omega)
        rw [j3, j4, ta, tb]
        rcases hor with q | q | q | q <;> (rw [q] at e3; rw [M_X2_value _ _ _ rfl]; simp only [at_X2_value_0, at_X2_value_1, at_X2_value_2, at_X2_value_3, at_X2_value_4, at_X2_value_5, at_X2_value_6, ey_ld, sk_ld_s, ey_cv1, sk_c_s, ex_sta, ex_sta_n, ex_gs, ex_iz, ey_gf, sk_gf_s, sk_v_s, ex_rv, ey_ald, sk_ald_s, ey_cv2, ex_sti, ey_cv0, ex_sw, sw_lk_e, sw_lk_c, ex_ii, ey_cs2, sw_gl_0, sw_gl_s, sw_fx_n, sw_fx_i, sw_fx_r, sw_fx_0, sw_fx_l, sw_fx_d, sw_sl1_0, sw_sl1_1, sw_sl1_s, sw_no_0, sw_no_s, sw_no_e, sw_mk_t, sw_mk_f, sw_mk_e, sw_en_0, sw_en_n, sw_en_i, sw_en_r, sw_en_z, sw_en_l, sw_en_d, sw_ok_0, sw_ok_1, sw_ok_2, sw_ok_3, sw_ok_4, sw_bo_s, sw_oi_s, sw_cl_s, sw_cl_x, sw_psh_s, sw_psh_n, sw_kd_s, sw_op_s, sw_oc_s, sw_oc_e, sw_oa_s, sw_el_n, sw_el_r, sl_kds_1, sl_kds_67, sw_fit_i, sw_fit_r, sw_fit_n, sw_fit_l, sw_fit_d, sw_fit_b, sw_fit_0, sw_fit_1, sw_rel_0, sw_rel_1, sw_rel_2, sw_rel_3, sw_rel_4, sw_rel_5, sw_hp_set, sw_nx_set, sw_sl_set, sw_ev_set, sw_hp_new, sw_nx_new, sw_sl_new, sw_ev_new, List.getElem?_cons_zero, List.getElem?_cons_succ, List.set_cons_zero, List.set_cons_succ, List.length_cons, List.length_nil, Nat.reduceAdd, Nat.reduceSub, Nat.reduceLT, Nat.reduceLeDiff, Nat.zero_lt_succ, Nat.zero_add, beq_self_eq_true, Bool.true_and, and_true, true_and, and_self, not_true_eq_false, not_false_eq_true, ↓reduceIte, Nat.reduceBEq, eq_self, sw_b_0, sw_b_1, decide_eq_false_iff_not, decide_eq_true_eq, sl_n10, sl_n01, Decidable.not_not, sl_ct, sl_cats_0, sl_cats_i, sl_cats_r, sl_cats_n, sl_cats_l, sl_ok_5, sl_ok9, decide_true, sp_machC, sp_nodeC, sp_opC, sl_z0, sl_z1, sl_z2, sl_z3, sl_z4, sl_z5, sl_z6, sl_z7, sl_c0, sl_c1, sl_c2, sl_c3, sl_c4, sl_c5, sl_c6, sl_c7, List.length_map, sp_lifeC, sp_inC, sp_rnC, hb.1, h0, e0, hn, sp_nodeC, e1, e2, eq_false c0, eq_false c1, decide_false, sw_b_f, j3, j4, ra, rb, ec, q, show nI 2 = (2 : Int32) from rfl, show nI 3 = (3 : Int32) from rfl, show nI 4 = (4 : Int32) from rfl, show nI 5 = (5 : Int32) from rfl, e3, hb.2.2, show ((3 : Int32) = 2) = False by decide, show ((4 : Int32) = 2) = False by decide, show ((4 : Int32) = 3) = False by decide, show ((5 : Int32) = 2) = False by decide, show ((5 : Int32) = 3) = False by decide, show ((5 : Int32) = 4) = False by decide, not_false_eq_true, show ((2 : Nat) = 0) = False by decide, show ((2 : Nat) = 1) = False by decide, show ((3 : Nat) = 0) = False by decide, show ((3 : Nat) = 1) = False by decide, show ((3 : Nat) = 2) = False by decide, show ((4 : Nat) = 0) = False by decide, show ((4 : Nat) = 1) = False by decide, show ((4 : Nat) = 2) = False by decide, show ((4 : Nat) = 3) = False by decide, show ((5 : Nat) = 0) = False by decide, show ((5 : Nat) = 1) = False by decide, show ((5 : Nat) = 2) = False by decide, show ((5 : Nat) = 3) = False by decide, show ((5 : Nat) = 4) = False by decide])
end
