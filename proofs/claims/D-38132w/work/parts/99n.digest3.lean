/-! ===== the component's main class: the digest and the constructor ===== -/
def sp_dgA (q : sp_Q) (b : sp_Bd) (bs : Nat → sp_Bd) (b1 bo : sp_Bd) : Nat := 16 + 1 + (sp_fm (sp_ansV q b) 8 0).length + 8 * b.1.length + (sp_fm (sp_valV b) b.2.2.2.2.1 0).length + ((sp_fm (sp_callV b) b.1.length 0).length + 7 * b.2.2.1.length) + (2 + sp_kA bo) + 1 + sp_enA bs 7 5 + (1 + sp_kA b1)
def sp_dgS (q : sp_Q) (b : sp_Bd) (bs : Nat → sp_Bd) (b1 bo : sp_Bd) : Nat := 16 + 8 + (sp_fm (sp_ansV q b) 8 0).length + 8 * b.1.length + (sp_fm (sp_valV b) b.2.2.2.2.1 0).length + ((sp_fm (sp_callV b) b.1.length 0).length + 7 * b.2.2.1.length) + (12 + sp_kS q.1.length bo) + 4 + sp_enS q.1.length bs 7 5 + (6 + sp_kS q.1.length b1)
theorem ex_na64_4 {cf : sw_F} {B : sw_B} {r : List sw_I} {l : sw_L} {st : List Value} {P : sw_P} : sw_ex cf B (sw_na 64 :: r) l (.int 4 :: st) P = sw_ex cf B r l (.ref (sw_nx P) :: st) (sw_new P (64, [.int 0, .int 0, .int 0, .int 0])) := (ex_na 64 4).trans (if_pos (by decide))
section
variable {ev : Nat → Nat} {x bd mach l D d c s : Nat} {pa : sp_PA} {N : List (Nat × sp_Node)} {B : List sp_Blk} {T L : List Int32} {out : Int32} {m : sp_Mach} {b b1 bo : sp_Bd} {bs : Nat → sp_Bd} {F : List sl_A} {P : sw_P}
theorem jc_X1_digest1 (hd : 8 ≤ d) (hN : N.length ≤ 80) (hB : B.length = 4) (hb : sp_bok T out b) : ∀ j w, w + j = 16 → ∀ c s P y, sl_st ev c s P (sl_cs ev x bd mach l pa N B T out m L b ++ F) →
    ∃ P', sw_at (sw_Z d) b_X1_digest 1 [some (.ref x), some (.long y), none, some (.int (nI w))] [] P = sw_at (sw_Z d) b_X1_digest 2 [some (.ref x), some (.long (sp_mix y (sp_fm (fun w => [sp_manyT (N.map (·.2), B.map (fun y => y.2.map (·.2)), T, out, m, L) b w]) j w))), none, none] [] P' ∧ sl_st ev (c + j) (s + j) P' (sl_cs ev x bd mach l pa N B T out m L b ++ F) := by
  intro j
  induction j with
  | zero =>
    intro w hw c s P y h
    have : w = 16 := by omega
    subst this
    have e1 : (15 : Int32) < nI 16 := by decide
    refine ⟨P, ?_, h⟩
    rw [at_X1_digest_1]; simp only [ex_push, ex_stl, ex_sti, ex_goto, ey_ld, sk_ld_s, ex_ic, ex_na, ex_dup_i, ex_dup_r, ex_dup_n, ey_cv1, sk_c_s, ey_ast, sk_ast_s, ey_cs2, ey_inc, sk_inc_s, ey_gf, sk_gf_s, sk_v_s, ey_cv0, ex_iz, ey_cv3, ex_sta, ex_sta_n, ex_rv, sw_gl_0, sw_gl_s, sw_fx_n, sw_fx_i, sw_fx_r, sw_fx_0, sw_fx_l, sw_fx_d, sw_sl1_0, sw_sl1_1, sw_sl1_s, sw_no_0, sw_no_s, sw_no_e, sw_mk_t, sw_mk_f, sw_mk_e, sw_en_0, sw_en_n, sw_en_i, sw_en_r, sw_en_z, sw_en_l, sw_en_d, sw_ok_0, sw_ok_1, sw_ok_2, sw_ok_3, sw_ok_4, sw_bo_s, sw_oi_s, sw_cl_s, sw_cl_x, sw_psh_s, sw_psh_n, sw_kd_s, sw_op_s, sw_oc_s, sw_oc_e, sw_oa_s, sw_el_n, sw_el_r, sl_kds_1, sl_kds_67, sw_fit_i, sw_fit_r, sw_fit_n, sw_fit_l, sw_fit_d, sw_fit_b, sw_fit_0, sw_fit_1, sw_rel_0, sw_rel_1, sw_rel_2, sw_rel_3, sw_rel_4, sw_rel_5, sw_hp_set, sw_nx_set, sw_sl_set, sw_ev_set, sw_hp_new, sw_nx_new, sw_sl_new, sw_ev_new, List.getElem?_cons_zero, List.getElem?_cons_succ, List.set_cons_zero, List.set_cons_succ, List.length_cons, List.length_nil, Nat.reduceAdd, Nat.reduceSub, Nat.reduceLT, Nat.reduceLeDiff, Nat.zero_lt_succ, Nat.zero_add, beq_self_eq_true, Bool.true_and, and_true, true_and, and_self, not_true_eq_false, not_false_eq_true, ↓reduceIte, Nat.reduceBEq, eq_self, sw_b_0, sw_b_1, decide_eq_false_iff_not, decide_eq_true_eq, sl_n10, sl_n01, Decidable.not_not, sl_ct, sl_cats_0, sl_cats_i, sl_cats_r, sl_cats_n, sl_cats_l, sl_ok_5, sl_ok9, decide_true, sp_machC, sp_nodeC, sp_opC, sl_z0, sl_z1, sl_z2, sl_z3, sl_z4, sl_z5, sl_z6, sl_z7, sl_c0, sl_c1, sl_c2, sl_c3, sl_c4, sl_c5, sl_c6, sl_c7, List.length_map, sp_lifeC, sp_inC, sp_rnC, eq_true e1]
    rfl
  | succ j ih =>
    intro w hw c s P y h
    have e1 : ¬ (15 : Int32) < nI w := nI_nlt (a := 15) (by omega) (by omega)
    obtain ⟨m1, m2, m3⟩ := sl_mix1 (d := d) (v := sp_manyT (N.map (·.2), B.map (fun y => y.2.map (·.2)), T, out, m, L) b w) (by omega) y h
    have e3 := jc_X1_manyNow (D := d) (w := w) (by omega) hN hB hb m3 (by omega)
    have hx0 := (sl_cs_rd h).1
    have fx := sl_ne_nx hx0 h.nx0
    obtain ⟨P', r1, r2⟩ := ih (w + 1) (by omega) _ _ _ (sp_mix y [sp_manyT (N.map (·.2), B.map (fun y => y.2.map (·.2)), T, out, m, L) b w]) m2
    refine ⟨P', ?_, r2.wk (by omega) (by omega)⟩
    rw [show sp_fm (fun w => [sp_manyT (N.map (·.2), B.map (fun y => y.2.map (·.2)), T, out, m, L) b w]) (j + 1) w = sp_manyT (N.map (·.2), B.map (fun y => y.2.map (·.2)), T, out, m, L) b w :: sp_fm (fun w => [sp_manyT (N.map (·.2), B.map (fun y => y.2.map (·.2)), T, out, m, L) b w]) j (w + 1) from rfl, sp_mix_cons, ← r1]
    rw [at_X1_digest_1]; simp only [ex_push, ex_stl, ex_sti, ex_goto, ey_ld, sk_ld_s, ex_ic, ex_dup_i, ex_dup_r, ex_dup_n, ey_cv1, sk_c_s, ey_ast, sk_ast_s, ey_cs2, ey_inc, sk_inc_s, ey_gf, sk_gf_s, sk_v_s, ey_cv0, ex_iz, ey_cv3, ex_sta, ex_sta_n, ex_rv, sw_gl_0, sw_gl_s, sw_fx_n, sw_fx_i, sw_fx_r, sw_fx_0, sw_fx_l, sw_fx_d, sw_sl1_0, sw_sl1_1, sw_sl1_s, sw_no_0, sw_no_s, sw_no_e, sw_mk_t, sw_mk_f, sw_mk_e, sw_en_0, sw_en_n, sw_en_i, sw_en_r, sw_en_z, sw_en_l, sw_en_d, sw_ok_0, sw_ok_1, sw_ok_2, sw_ok_3, sw_ok_4, sw_bo_s, sw_oi_s, sw_cl_s, sw_cl_x, sw_psh_s, sw_psh_n, sw_kd_s, sw_op_s, sw_oc_s, sw_oc_e, sw_oa_s, sw_el_n, sw_el_r, sl_kds_1, sl_kds_67, sw_fit_i, sw_fit_r, sw_fit_n, sw_fit_l, sw_fit_d, sw_fit_b, sw_fit_0, sw_fit_1, sw_rel_0, sw_rel_1, sw_rel_2, sw_rel_3, sw_rel_4, sw_rel_5, sw_hp_set, sw_nx_set, sw_sl_set, sw_ev_set, sw_hp_new, sw_nx_new, sw_sl_new, sw_ev_new, List.getElem?_cons_zero, List.getElem?_cons_succ, List.set_cons_zero, List.set_cons_succ, List.length_cons, List.length_nil, Nat.reduceAdd, Nat.reduceSub, Nat.reduceLT, Nat.reduceLeDiff, Nat.zero_lt_succ, Nat.zero_add, beq_self_eq_true, Bool.true_and, and_true, true_and, and_self, not_true_eq_false, not_false_eq_true, ↓reduceIte, Nat.reduceBEq, eq_self, sw_b_0, sw_b_1, decide_eq_false_iff_not, decide_eq_true_eq, sl_n10, sl_n01, Decidable.not_not, sl_ct, sl_cats_0, sl_cats_i, sl_cats_r, sl_cats_n, sl_cats_l, sl_ok_5, sl_ok9, decide_true, sp_machC, sp_nodeC, sp_opC, sl_z0, sl_z1, sl_z2, sl_z3, sl_z4, sl_z5, sl_z6, sl_z7, sl_c0, sl_c1, sl_c2, sl_c3, sl_c4, sl_c5, sl_c6, sl_c7, List.length_map, sp_lifeC, sp_inC, sp_rnC, ex_na64_1, sl_vt64, eq_false e1, hx0, fx, sp_xC, e3, m1, nI_1]
theorem jc_X1_digest3 (hd : 8 ≤ d) (hb : sp_bok T out b) : ∀ j v, v + j = 8 → ∀ c s P y, sl_st ev c s P (sl_cs ev x bd mach l pa N B T out m L b ++ F) →
    ∃ P', sw_at (sw_Z d) b_X1_digest 3 [some (.ref x), some (.long y), none, some (.int (nI v))] [] P = sw_at (sw_Z d) b_X1_digest 5 [some (.ref x), some (.long (sp_mix y (sp_fm (sp_ansV (N.map (·.2), B.map (fun y => y.2.map (·.2)), T, out, m, L) b) j v))), none, none] [] P' ∧ sl_st ev (c + (sp_fm (sp_ansV (N.map (·.2), B.map (fun y => y.2.map (·.2)), T, out, m, L) b) j v).length) (s + (sp_fm (sp_ansV (N.map (·.2), B.map (fun y => y.2.map (·.2)), T, out, m, L) b) j v).length) P' (sl_cs ev x bd mach l pa N B T out m L b ++ F) := by
  intro j
  induction j with
  | zero =>
    intro v hv c s P y h
    have : v = 8 := by omega
    subst this
    have e1 : (8 : Int32) ≤ nI 8 := by decide
    refine ⟨P, ?_, h⟩
    rw [at_X1_digest_3]; simp only [ex_push, ex_stl, ex_sti, ex_goto, ey_ld, sk_ld_s, ex_ic, ex_na, ex_dup_i, ex_dup_r, ex_dup_n, ey_cv1, sk_c_s, ey_ast, sk_ast_s, ey_cs2, ey_inc, sk_inc_s, ey_gf, sk_gf_s, sk_v_s, ey_cv0, ex_iz, ey_cv3, ex_sta, ex_sta_n, ex_rv, sw_gl_0, sw_gl_s, sw_fx_n, sw_fx_i, sw_fx_r, sw_fx_0, sw_fx_l, sw_fx_d, sw_sl1_0, sw_sl1_1, sw_sl1_s, sw_no_0, sw_no_s, sw_no_e, sw_mk_t, sw_mk_f, sw_mk_e, sw_en_0, sw_en_n, sw_en_i, sw_en_r, sw_en_z, sw_en_l, sw_en_d, sw_ok_0, sw_ok_1, sw_ok_2, sw_ok_3, sw_ok_4, sw_bo_s, sw_oi_s, sw_cl_s, sw_cl_x, sw_psh_s, sw_psh_n, sw_kd_s, sw_op_s, sw_oc_s, sw_oc_e, sw_oa_s, sw_el_n, sw_el_r, sl_kds_1, sl_kds_67, sw_fit_i, sw_fit_r, sw_fit_n, sw_fit_l, sw_fit_d, sw_fit_b, sw_fit_0, sw_fit_1, sw_rel_0, sw_rel_1, sw_rel_2, sw_rel_3, sw_rel_4, sw_rel_5, sw_hp_set, sw_nx_set, sw_sl_set, sw_ev_set, sw_hp_new, sw_nx_new, sw_sl_new, sw_ev_new, List.getElem?_cons_zero, List.getElem?_cons_succ, List.set_cons_zero, List.set_cons_succ, List.length_cons, List.length_nil, Nat.reduceAdd, Nat.reduceSub, Nat.reduceLT, Nat.reduceLeDiff, Nat.zero_lt_succ, Nat.zero_add, beq_self_eq_true, Bool.true_and, and_true, true_and, and_self, not_true_eq_false, not_false_eq_true, ↓reduceIte, Nat.reduceBEq, eq_self, sw_b_0, sw_b_1, decide_eq_false_iff_not, decide_eq_true_eq, sl_n10, sl_n01, Decidable.not_not, sl_ct, sl_cats_0, sl_cats_i, sl_cats_r, sl_cats_n, sl_cats_l, sl_ok_5, sl_ok9, decide_true, sp_machC, sp_nodeC, sp_opC, sl_z0, sl_z1, sl_z2, sl_z3, sl_z4, sl_z5, sl_z6, sl_z7, sl_c0, sl_c1, sl_c2, sl_c3, sl_c4, sl_c5, sl_c6, sl_c7, List.length_map, sp_lifeC, sp_inC, sp_rnC, eq_true e1]
    rfl
  | succ j ih =>
    intro v hv c s P y h
    have e1 : ¬ (8 : Int32) ≤ nI v := nI_ge (b := 8) (by omega) (by omega)
    obtain ⟨hx0, hm0, hp0, -⟩ := sl_cs_rd h
    have h0 := sl_rd_pt.mp (sl_rds_at hp0 0 rfl)
    have e2 := jc_X1_has (D := d) (P := P) (x := out) (k := nI v) (by omega)
    have hst : sp_fm (sp_ansV (N.map (·.2), B.map (fun y => y.2.map (·.2)), T, out, m, L) b) (j + 1) v = sp_ansV (N.map (·.2), B.map (fun y => y.2.map (·.2)), T, out, m, L) b v ++ sp_fm (sp_ansV (N.map (·.2), B.map (fun y => y.2.map (·.2)), T, out, m, L) b) j (v + 1) := rfl
    rw [hst, sp_mix_app, List.length_append]
    cases c2 : sp_has out (nI v)
    · rw [c2, sw_b_f] at e2
      have hv' : sp_ansV (N.map (·.2), B.map (fun y => y.2.map (·.2)), T, out, m, L) b v = [] := if_neg (by rw [c2]; decide)
      rw [hv']
      obtain ⟨P', r2, g2⟩ := ih (v + 1) (by omega) c s P y h
      refine ⟨P', ?_, g2.wk (by show _ ≤ c + (0 + _); omega) (by show _ ≤ s + (0 + _); omega)⟩
      rw [show sp_mix y [] = y from rfl, ← r2]
      rw [at_X1_digest_3]; simp only [at_X1_digest_4, ex_push, ex_stl, ex_sti, ex_goto, ey_ld, sk_ld_s, ex_ic, ex_na, ex_dup_i, ex_dup_r, ex_dup_n, ey_cv1, sk_c_s, ey_ast, sk_ast_s, ey_cs2, ey_inc, sk_inc_s, ey_gf, sk_gf_s, sk_v_s, ey_cv0, ex_iz, ey_cv3, ex_sta, ex_sta_n, ex_rv, sw_gl_0, sw_gl_s, sw_fx_n, sw_fx_i, sw_fx_r, sw_fx_0, sw_fx_l, sw_fx_d, sw_sl1_0, sw_sl1_1, sw_sl1_s, sw_no_0, sw_no_s, sw_no_e, sw_mk_t, sw_mk_f, sw_mk_e, sw_en_0, sw_en_n, sw_en_i, sw_en_r, sw_en_z, sw_en_l, sw_en_d, sw_ok_0, sw_ok_1, sw_ok_2, sw_ok_3, sw_ok_4, sw_bo_s, sw_oi_s, sw_cl_s, sw_cl_x, sw_psh_s, sw_psh_n, sw_kd_s, sw_op_s, sw_oc_s, sw_oc_e, sw_oa_s, sw_el_n, sw_el_r, sl_kds_1, sl_kds_67, sw_fit_i, sw_fit_r, sw_fit_n, sw_fit_l, sw_fit_d, sw_fit_b, sw_fit_0, sw_fit_1, sw_rel_0, sw_rel_1, sw_rel_2, sw_rel_3, sw_rel_4, sw_rel_5, sw_hp_set, sw_nx_set, sw_sl_set, sw_ev_set, sw_hp_new, sw_nx_new, sw_sl_new, sw_ev_new, List.getElem?_cons_zero, List.getElem?_cons_succ, List.set_cons_zero, List.set_cons_succ, List.length_cons, List.length_nil, Nat.reduceAdd, Nat.reduceSub, Nat.reduceLT, Nat.reduceLeDiff, Nat.zero_lt_succ, Nat.zero_add, beq_self_eq_true, Bool.true_and, and_true, true_and, and_self, not_true_eq_false, not_false_eq_true, ↓reduceIte, Nat.reduceBEq, eq_self, sw_b_0, sw_b_1, decide_eq_false_iff_not, decide_eq_true_eq, sl_n10, sl_n01, Decidable.not_not, sl_ct, sl_cats_0, sl_cats_i, sl_cats_r, sl_cats_n, sl_cats_l, sl_ok_5, sl_ok9, decide_true, sp_machC, sp_nodeC, sp_opC, sl_z0, sl_z1, sl_z2, sl_z3, sl_z4, sl_z5, sl_z6, sl_z7, sl_c0, sl_c1, sl_c2, sl_c3, sl_c4, sl_c5, sl_c6, sl_c7, List.length_map, sp_lifeC, sp_inC, sp_rnC, hx0, sp_xC, h0, eq_false e1, e2, nI_1]
    · rw [c2, sw_b_t] at e2
      have hv' : sp_ansV (N.map (·.2), B.map (fun y => y.2.map (·.2)), T, out, m, L) b v = [sp_ans b.1 b.2.1 b.2.2.2.1 (nI v)] := if_pos c2
      rw [hv']
      obtain ⟨m1, m2, m3⟩ := sl_mix1 (d := d) (v := sp_ans b.1 b.2.1 b.2.2.2.1 (nI v)) (by omega) y h
      obtain ⟨hx, hm, hp, ol, lv, cl, rn, ca, rq, ra, rb, rs, M, Rw, K, hF⟩ := sl_cs_rd m3
      obtain ⟨hok, -⟩ := hb.1 M Rw hF.1 hF.2.1
      obtain ⟨⟨k, a1⟩, a2, a3⟩ := hb.2.2.2.2.2.1 v (by omega) c2
      have e3 := jc_X4_answer (D := d) (k := k) (v := nI v) (ns := b.2.2.2.1.2.2.1.length) (z := b.2.2.2.1) (by omega) hF.2.2.2.1 hF.2.2.2.2.1 hok (by rw [hF.2.1, ← a1, ← hF.2.1, List.length_map]) hb.2.2.2.1 hb.2.2.2.2.1 hF.2.2.2.2.2.1 hF.2.2.2.2.2.2.1 hF.2.2.2.2.2.2.2.1 (by rw [hF.2.1]; exact a2) (by rw [hF.1, hF.2.1]; exact a3)
      rw [hF.1, hF.2.1] at e3
      have kd : sw_kd (sw_hp (sw_new P (64, [.int 0])) bd) 3 = true := by rw [hF.2.2.2.1]; rfl
      rw [sw_hp_new] at kd
      have fx := sl_ne_nx hx0 h.nx0
      obtain ⟨P', r2, g2⟩ := ih (v + 1) (by omega) _ _ _ (sp_mix y [sp_ans b.1 b.2.1 b.2.2.2.1 (nI v)]) m2
      refine ⟨P', ?_, g2.wk (by show _ ≤ c + (1 + _); omega) (by show _ ≤ s + (1 + _); omega)⟩
      rw [← r2]
      rw [at_X1_digest_3]; simp only [at_X1_digest_4, ex_push, ex_stl, ex_sti, ex_goto, ey_ld, sk_ld_s, ex_ic, ex_dup_i, ex_dup_r, ex_dup_n, ey_cv1, sk_c_s, ey_ast, sk_ast_s, ey_cs2, ey_inc, sk_inc_s, ey_gf, sk_gf_s, sk_v_s, ey_cv0, ex_iz, ey_cv3, ex_sta, ex_sta_n, ex_rv, sw_gl_0, sw_gl_s, sw_fx_n, sw_fx_i, sw_fx_r, sw_fx_0, sw_fx_l, sw_fx_d, sw_sl1_0, sw_sl1_1, sw_sl1_s, sw_no_0, sw_no_s, sw_no_e, sw_mk_t, sw_mk_f, sw_mk_e, sw_en_0, sw_en_n, sw_en_i, sw_en_r, sw_en_z, sw_en_l, sw_en_d, sw_ok_0, sw_ok_1, sw_ok_2, sw_ok_3, sw_ok_4, sw_bo_s, sw_oi_s, sw_cl_s, sw_cl_x, sw_psh_s, sw_psh_n, sw_kd_s, sw_op_s, sw_oc_s, sw_oc_e, sw_oa_s, sw_el_n, sw_el_r, sl_kds_1, sl_kds_67, sw_fit_i, sw_fit_r, sw_fit_n, sw_fit_l, sw_fit_d, sw_fit_b, sw_fit_0, sw_fit_1, sw_rel_0, sw_rel_1, sw_rel_2, sw_rel_3, sw_rel_4, sw_rel_5, sw_hp_set, sw_nx_set, sw_sl_set, sw_ev_set, sw_hp_new, sw_nx_new, sw_sl_new, sw_ev_new, List.getElem?_cons_zero, List.getElem?_cons_succ, List.set_cons_zero, List.set_cons_succ, List.length_cons, List.length_nil, Nat.reduceAdd, Nat.reduceSub, Nat.reduceLT, Nat.reduceLeDiff, Nat.zero_lt_succ, Nat.zero_add, beq_self_eq_true, Bool.true_and, and_true, true_and, and_self, not_true_eq_false, not_false_eq_true, ↓reduceIte, Nat.reduceBEq, eq_self, sw_b_0, sw_b_1, decide_eq_false_iff_not, decide_eq_true_eq, sl_n10, sl_n01, Decidable.not_not, sl_ct, sl_cats_0, sl_cats_i, sl_cats_r, sl_cats_n, sl_cats_l, sl_ok_5, sl_ok9, decide_true, sp_machC, sp_nodeC, sp_opC, sl_z0, sl_z1, sl_z2, sl_z3, sl_z4, sl_z5, sl_z6, sl_z7, sl_c0, sl_c1, sl_c2, sl_c3, sl_c4, sl_c5, sl_c6, sl_c7, List.length_map, sp_lifeC, sp_inC, sp_rnC, ex_na64_1, sl_vt64, hx0, fx, sp_xC, h0, eq_false e1, e2, kd, e3, m1, nI_1]
theorem sp_manyB_9 (m m' : sp_Mach) (b : sp_Bd) : sp_manyB m b 9 = sp_manyB m' b 9 := by
  unfold sp_manyB sp_many
  simp only [show nI 9 = (9 : Int32) from rfl, show ((9 : Int32) = 3) = False by decide, show ((9 : Int32) = 4) = False by decide, show ((9 : Int32) = 5) = False by decide, show ((9 : Int32) = 6) = False by decide, show ((9 : Int32) = 7) = False by decide, show ((9 : Int32) = 8) = False by decide, ↓reduceIte]
theorem sp_manyB_13 (m m' : sp_Mach) (b : sp_Bd) : sp_manyB m b 13 = sp_manyB m' b 13 := by
  unfold sp_manyB sp_many
  simp only [show nI 13 = (13 : Int32) from rfl, show ((13 : Int32) = 3) = False by decide, show ((13 : Int32) = 4) = False by decide, show ((13 : Int32) = 5) = False by decide, show ((13 : Int32) = 6) = False by decide, show ((13 : Int32) = 7) = False by decide, show ((13 : Int32) = 8) = False by decide, show ((13 : Int32) = 9) = False by decide, show ((13 : Int32) = 10) = False by decide, show ((13 : Int32) = 11) = False by decide, show ((13 : Int32) = 12) = False by decide, ↓reduceIte]
def sp_dg1 (q : sp_Q) (b : sp_Bd) : Int64 := sp_mix (sp_mix (sp_mix 58132 (sp_fm (fun w => [sp_manyT q b w]) 16 0)) (sp_mnt q.1 q.2.1 q.2.2.1)) (sp_fm (sp_ansV q b) 8 0)
def sp_dg2 (b : sp_Bd) (bs : Nat → sp_Bd) (b1 bo : sp_Bd) (m : sp_Mach) (y : Int64) : Int64 := sp_mix (sp_mix (sp_mix (sp_mix y (sp_fm (fun p => sp_told (b.1.getD p sp_oz)) b.1.length 0)) (sp_fm (sp_valV b) b.2.2.2.2.1 0)) (sp_fm (sp_callV b) b.1.length 0 ++ sp_fm (sp_codeV b) b.2.2.1.length 0)) [sp_eno bs 7 5, b1.2.2.2.1.2.2.2.2.2.2 - b.2.2.2.1.2.2.2.2.2.2, sp_manyB m bo 9, sp_manyB m bo 13]
theorem sp_digest_eq (q : sp_Q) (b : sp_Bd) (bs : Nat → sp_Bd) (b1 bo : sp_Bd) (m' : sp_Mach) : sp_digest q b bs b1 bo = sp_dg2 b bs b1 bo m' (sp_dg1 q b) := by
  unfold sp_digest sp_dgL sp_dg1 sp_dg2
  rw [sp_manyB_9 _ m', sp_manyB_13 _ m']
  simp only [sp_mix_app]
theorem sl_side {d c s p7 p6 p8 : Nat} {mo : sp_Mach} {v : List Value} (hd : 7 ≤ d) (hbo : sp_bok T out bo) (h : sl_st ev c s P (sl_cs ev x bd mach l pa N B T out m L b ++ (sl_pt p8 (64, v) :: sl_bld ev p7 p6 pa bo :: sl_pt p6 (sp_machC mo l) :: F))) (w : Nat) (hw : 3 ≤ w ∧ w < 16) : sw_kd (sw_hp P p7) 3 = true ∧ sw_Z d m_X4_many [.ref p7, .int (nI w)] P = some (.inl (some (.int (sp_manyB mo bo w))), P) := by
  have m1 : sp_mach (sw_hp P) p6 mo L := ⟨l, h.get 12 rfl, h.get 3 rfl⟩
  obtain ⟨ol, lv, cl, rn, ca, rq, ra, rb, rs, M, Rw, K, hF⟩ := sp_bd_rd m1 (sl_cs_rd h).2.2.1 (h.at 11 rfl)
  exact ⟨by rw [hF.2.2.2.1]; rfl, jc_X4_manyB (D := d) (by omega) hF hbo hw⟩
theorem jc_X1_digest5 {y3 : Int64} (hd : 271 ≤ d) (hb : sp_bok T out b)
    (hf : ∀ r, 5 ≤ r → r < 12 → sp_fit (N.map (·.2), B.map (fun y => y.2.map (·.2)), T, out, sp_mr m r, L) 0 (bs r) ∧ sp_bok T out (bs r)) (hf1 : sp_fit (N.map (·.2), B.map (fun y => y.2.map (·.2)), T, out, m, L) 1 b1) (hfo : sp_fit (N.map (·.2), B.map (fun y => y.2.map (·.2)), T, out, (6, 4, m.2.2.1, m.2.2.2.1, true), L) 0 bo) (hbo : sp_bok T out bo)
    (s4 : sl_st ev c s P (sl_cs ev x bd mach l pa N B T out m L b ++ F)) :
    ∃ P', sw_at (sw_Z d) b_X1_digest 5 [some (.ref x), some (.long y3), none, none] [] P = some (.inl (some (.long (sp_dg2 b bs b1 bo (6, 4, m.2.2.1, m.2.2.2.1, true) y3))), P') ∧ sl_st ev (c + (8 * b.1.length + (sp_fm (sp_valV b) b.2.2.2.2.1 0).length + ((sp_fm (sp_callV b) b.1.length 0).length + 7 * b.2.2.1.length) + (2 + sp_kA bo) + 1 + sp_enA bs 7 5 + (1 + sp_kA b1))) (s + (8 * b.1.length + (sp_fm (sp_valV b) b.2.2.2.2.1 0).length + ((sp_fm (sp_callV b) b.1.length 0).length + 7 * b.2.2.1.length) + (12 + sp_kS N.length bo) + 4 + sp_enS N.length bs 7 5 + (6 + sp_kS N.length b1))) P' (sl_cs ev x bd mach l pa N B T out m L b ++ F) := by
  obtain ⟨P4, r4, s5⟩ := jc_X1_mixChosen (D := d) (y := y3) (by omega) hb s4
  obtain ⟨P5, r5, s6⟩ := jc_X1_mixValues (D := d) (y := sp_mix y3 (sp_fm (fun p => sp_told (b.1.getD p sp_oz)) b.1.length 0)) (by omega) hb s5
  obtain ⟨P6, r6, s7⟩ := jc_X1_mixCode (D := d) (y := sp_mix (sp_mix y3 (sp_fm (fun p => sp_told (b.1.getD p sp_oz)) b.1.length 0)) (sp_fm (sp_valV b) b.2.2.2.2.1 0)) (by omega) hb s6
  unfold sp_dg2
  generalize sp_mix y3 (sp_fm (fun p => sp_told (b.1.getD p sp_oz)) b.1.length 0) = y4 at r4 r5 r6 ⊢
  generalize sp_mix y4 (sp_fm (sp_valV b) b.2.2.2.2.1 0) = y5 at r5 r6 ⊢
  generalize sp_mix y5 (sp_fm (sp_callV b) b.1.length 0 ++ sp_fm (sp_codeV b) b.2.2.1.length 0) = y6 at r6 ⊢
  have hx3 := (sl_cs_rd s4).1
  have hx4 := (sl_cs_rd s5).1
  have hx5 := (sl_cs_rd s6).1
  have hx6 := (sl_cs_rd s7).1
  have hm6 := s7.get 2 rfl
  -- another machine
  obtain ⟨P7, P8, q1, q2, q3, -, s8⟩ := jc_X1_side (D := d) (tw := true) (r := 6) (k := 4) (by omega) hfo s7
  have a1 := s8.new (64, [.int 0, .int 0, .int 0, .int 0])
  have a2 : sl_st ev _ _ _ (sl_cs ev x bd mach l pa N B T out m L b ++ (sl_pt (sw_nx P8) (64, [.int 0, .int 0, .int 0, .int 0]) :: sl_bld ev (sw_nx P7) (sw_nx P6) pa bo :: sl_pt (sw_nx P6) (sp_machC (6, 4, m.2.2.1, m.2.2.2.1, true) l) :: F)) := a1.pp 13 [1, 2, 3, 4, 5, 6, 7, 8, 9, 10, 0, 11, 12]
  obtain ⟨P9, t1, t2⟩ := jc_X1_enoughNow (D := d) (bs := bs) (by omega) hf a2
  generalize sp_eno bs 7 5 = w1 at t1 ⊢
  have t4 : sl_st ev _ _ _ (sl_cs ev x bd mach l pa N B T out m L b ++ (sl_pt (sw_nx P8) (64, [.int w1, .int 0, .int 0, .int 0]) :: sl_bld ev (sw_nx P7) (sw_nx P6) pa bo :: sl_pt (sw_nx P6) (sp_machC (6, 4, m.2.2.1, m.2.2.2.1, true) l) :: F)) := t2.set 10 (64, [.int w1, .int 0, .int 0, .int 0]) rfl
  obtain ⟨P10, u1, u2⟩ := jc_X1_unorderedNow (D := d) (by omega) hf1 t4
  generalize b1.2.2.2.1.2.2.2.2.2.2 - b.2.2.2.1.2.2.2.2.2.2 = w2 at u1 ⊢
  have u4 : sl_st ev _ _ _ (sl_cs ev x bd mach l pa N B T out m L b ++ (sl_pt (sw_nx P8) (64, [.int w1, .int w2, .int 0, .int 0]) :: sl_bld ev (sw_nx P7) (sw_nx P6) pa bo :: sl_pt (sw_nx P6) (sp_machC (6, 4, m.2.2.1, m.2.2.2.1, true) l) :: F)) := u2.set 10 (64, [.int w1, .int w2, .int 0, .int 0]) rfl
  obtain ⟨v1, v2⟩ := sl_side (d := d) (by omega) hbo u4 9 (by omega)
  generalize sp_manyB (6, 4, m.2.2.1, m.2.2.2.1, true) bo 9 = w3 at v2 ⊢
  have w4 : sl_st ev _ _ _ (sl_cs ev x bd mach l pa N B T out m L b ++ (sl_pt (sw_nx P8) (64, [.int w1, .int w2, .int w3, .int 0]) :: sl_bld ev (sw_nx P7) (sw_nx P6) pa bo :: sl_pt (sw_nx P6) (sp_machC (6, 4, m.2.2.1, m.2.2.2.1, true) l) :: F)) := u4.set 10 (64, [.int w1, .int w2, .int w3, .int 0]) rfl
  obtain ⟨v3, v4⟩ := sl_side (d := d) (by omega) hbo w4 13 (by omega)
  generalize sp_manyB (6, 4, m.2.2.1, m.2.2.2.1, true) bo 13 = w5 at v4 ⊢
  have z4 : sl_st ev _ _ _ (sl_cs ev x bd mach l pa N B T out m L b ++ (sl_pt (sw_nx P8) (64, [.int w1, .int w2, .int w3, .int w5]) :: sl_bld ev (sw_nx P7) (sw_nx P6) pa bo :: sl_pt (sw_nx P6) (sp_machC (6, 4, m.2.2.1, m.2.2.2.1, true) l) :: F)) := w4.set 10 (64, [.int w1, .int w2, .int w3, .int w5]) rfl
  have x3 := jc_X1_mix (D := d) (x := y6) (l := [w1, w2, w3, w5]) (by omega) (by show 4 < 1000; decide) (z4.get 10 rfl)
  have z5 : sl_st ev _ _ _ (sl_pt (sw_nx P8) (64, [.int w1, .int w2, .int w3, .int w5]) :: sl_bld ev (sw_nx P7) (sw_nx P6) pa bo :: sl_pt (sw_nx P6) (sp_machC (6, 4, m.2.2.1, m.2.2.2.1, true) l) :: (sl_cs ev x bd mach l pa N B T out m L b ++ F)) := z4.pp 13 [10, 11, 12, 0, 1, 2, 3, 4, 5, 6, 7, 8, 9]
  have ha0 := a2.get 0 rfl
  have ht1 := t2.get 10 rfl
  have ht0 := t4.get 0 rfl
  have hu1 := u2.get 10 rfl
  have hw1 := u4.get 10 rfl
  have hw2 := w4.get 10 rfl
  rw [show (nI 9 : Int32) = 9 from rfl] at v2
  rw [show (nI 13 : Int32) = 13 from rfl] at v4
  unfold sp_machC at hm6
  rw [sw_b_t] at q1
  dsimp only [sp_xC] at q2 ha0 ht0 hx3 hx4 hx5 hx6
  rw [sw_hp_new] at ha0
  rw [sw_hp_set] at ht0 hw1 hw2
  simp only [sw_hp_set] at v1 v3
  refine ⟨_, ?_, z5.drop.drop.drop.wk ?_ ?_⟩
  · rw [at_X1_digest_5]; simp only [ex_push, ex_stl, ex_sti, ex_goto, ey_ld, sk_ld_s, ex_ic, ex_dup_i, ex_dup_r, ex_dup_n, ey_cv1, sk_c_s, ey_ast, sk_ast_s, ey_cs2, ey_inc, sk_inc_s, ey_gf, sk_gf_s, sk_v_s, ey_cv0, ex_iz, ey_cv3, ex_sta, ex_sta_n, ex_rv, sw_gl_0, sw_gl_s, sw_fx_n, sw_fx_i, sw_fx_r, sw_fx_0, sw_fx_l, sw_fx_d, sw_sl1_0, sw_sl1_1, sw_sl1_s, sw_no_0, sw_no_s, sw_no_e, sw_mk_t, sw_mk_f, sw_mk_e, sw_en_0, sw_en_n, sw_en_i, sw_en_r, sw_en_z, sw_en_l, sw_en_d, sw_ok_0, sw_ok_1, sw_ok_2, sw_ok_3, sw_ok_4, sw_bo_s, sw_oi_s, sw_cl_s, sw_cl_x, sw_psh_s, sw_psh_n, sw_kd_s, sw_op_s, sw_oc_s, sw_oc_e, sw_oa_s, sw_el_n, sw_el_r, sl_kds_1, sl_kds_67, sw_fit_i, sw_fit_r, sw_fit_n, sw_fit_l, sw_fit_d, sw_fit_b, sw_fit_0, sw_fit_1, sw_rel_0, sw_rel_1, sw_rel_2, sw_rel_3, sw_rel_4, sw_rel_5, sw_hp_set, sw_nx_set, sw_sl_set, sw_ev_set, sw_hp_new, sw_nx_new, sw_sl_new, sw_ev_new, List.getElem?_cons_zero, List.getElem?_cons_succ, List.set_cons_zero, List.set_cons_succ, List.length_cons, List.length_nil, Nat.reduceAdd, Nat.reduceSub, Nat.reduceLT, Nat.reduceLeDiff, Nat.zero_lt_succ, Nat.zero_add, beq_self_eq_true, Bool.true_and, and_true, true_and, and_self, not_true_eq_false, not_false_eq_true, ↓reduceIte, Nat.reduceBEq, eq_self, sw_b_0, sw_b_1, decide_eq_false_iff_not, decide_eq_true_eq, sl_n10, sl_n01, Decidable.not_not, sl_ct, sl_cats_0, sl_cats_i, sl_cats_r, sl_cats_n, sl_cats_l, sl_ok_5, sl_ok9, decide_true, sp_machC, sp_nodeC, sp_opC, sl_z0, sl_z1, sl_z2, sl_z3, sl_z4, sl_z5, sl_z6, sl_z7, sl_c0, sl_c1, sl_c2, sl_c3, sl_c4, sl_c5, sl_c6, sl_c7, List.length_map, sp_lifeC, sp_inC, sp_rnC, ex_na64_4, hx3, hx4, hx5, hx6, hm6, r4, r5, r6, q1, q2, q3, ha0, t1, ht1, ht0, u1, hu1, hw1, hw2, v1, v2, v3, v4, x3, sl_vt64, sw_b_t]
  · show c + 8 * _ + _ + _ + (2 + _) + 1 + _ + (1 + _) ≤ _
    omega
  · show s + 8 * _ + _ + _ + (12 + _) + 4 + _ + (6 + _) ≤ _
    omega
theorem jc_X1_digest (hD : 272 ≤ D) (hN : N.length ≤ 80) (hok : sp_ok (N.map (·.2))) (hB : sp_okB N.length (B.map fun y => y.2.map (·.2))) (hV : sp_okV (B.map fun y => y.2.map (·.2))) (hT : T.length = 4) (hTn : ∀ k, k < 4 → ∃ n, n < 100000 ∧ T.getD k 0 = nI n) (hb : sp_bok T out b)
    (hf : ∀ r, 5 ≤ r → r < 12 → sp_fit (N.map (·.2), B.map (fun y => y.2.map (·.2)), T, out, sp_mr m r, L) 0 (bs r) ∧ sp_bok T out (bs r)) (hf1 : sp_fit (N.map (·.2), B.map (fun y => y.2.map (·.2)), T, out, m, L) 1 b1) (hfo : sp_fit (N.map (·.2), B.map (fun y => y.2.map (·.2)), T, out, (6, 4, m.2.2.1, m.2.2.2.1, true), L) 0 bo) (hbo : sp_bok T out bo)
    (h : sl_st ev c s P (sl_cs ev x bd mach l pa N B T out m L b ++ F)) :
    ∃ P', sw_Z D m_X1_digest [.ref x] P = some (.inl (some (.long (sp_digest (N.map (·.2), B.map (fun y => y.2.map (·.2)), T, out, m, L) b bs b1 bo))), P') ∧ sl_st ev (c + sp_dgA (N.map (·.2), B.map (fun y => y.2.map (·.2)), T, out, m, L) b bs b1 bo) (s + sp_dgS (N.map (·.2), B.map (fun y => y.2.map (·.2)), T, out, m, L) b bs b1 bo) P' (sl_cs ev x bd mach l pa N B T out m L b ++ F) := by
  obtain ⟨d, hDe, hDn⟩ := sw_dep hD; subst hDe; replace hD := hDn; clear hDn
  have hB4 : B.length = 4 := by have := hB.1; rwa [List.length_map] at this
  obtain ⟨P1, r1, s1⟩ := jc_X1_digest1 (d := d) (by omega) hN hB4 hb 16 0 (by omega) c s P 58132 h
  rw [sp_digest_eq _ _ _ _ _ (6, 4, m.2.2.1, m.2.2.2.1, true)]
  unfold sp_dg1
  dsimp only
  -- what is meant
  have hx1 := (sl_cs_rd s1).1
  have hp1 := sl_rd_pt.mp (sl_rds_at (sl_cs_rd s1).2.2.1 0 rfl)
  have g1 : sl_st ev _ _ P1 (sl_prog ev pa N B T out ++ (sl_pt x (sp_xC pa mach bd) :: sl_bld ev bd mach pa b :: sl_pt mach (sp_machC m l) :: sl_pt l (64, L.map .int) :: F)) := s1.pp 10 [4, 5, 6, 7, 8, 9, 0, 1, 2, 3]
  obtain ⟨P2, r2, s2⟩ := jc_X2_meant (D := d) (by omega) hok hB hV hT hTn g1
  have hl8 : (sp_mnt (N.map (·.2)) (B.map fun y => y.2.map (·.2)) T).length = 8 := sp_mB_len _ _ _
  generalize sp_mix 58132 (sp_fm (fun w => [sp_manyT (N.map (·.2), B.map (fun y => y.2.map (·.2)), T, out, m, L) b w]) 16 0) = y1 at r1 ⊢
  have x2 := jc_X1_mix (D := d) (x := y1) (by omega) (by omega) (s2.get 0 rfl)
  have s3 : sl_st ev _ _ P2 (sl_cs ev x bd mach l pa N B T out m L b ++ F) := s2.drop.pp 10 [6, 7, 8, 9, 0, 1, 2, 3, 4, 5]
  generalize sp_mix y1 (sp_mnt (N.map (·.2)) (B.map fun y => y.2.map (·.2)) T) = y2 at x2 ⊢
  obtain ⟨P3, r3, s4⟩ := jc_X1_digest3 (d := d) (by omega) hb 8 0 (by omega) _ _ P2 y2 s3
  generalize sp_mix y2 (sp_fm (sp_ansV (N.map (·.2), B.map (fun y => y.2.map (·.2)), T, out, m, L) b) 8 0) = y3 at r3 ⊢
  obtain ⟨P', r5, s5⟩ := jc_X1_digest5 (d := d) (y3 := y3) (by omega) hb hf hf1 hfo hbo s4
  have e2 : sw_at (sw_Z d) b_X1_digest 2 [some (.ref x), some (.long y1), none, none] [] P1 = sw_at (sw_Z d) b_X1_digest 3 [some (.ref x), some (.long y2), none, some (.int 0)] [] P2 := by
    rw [at_X1_digest_2]; simp only [ex_push, ex_stl, ex_sti, ex_goto, ey_ld, sk_ld_s, ex_ic, ex_na, ex_dup_i, ex_dup_r, ex_dup_n, ey_cv1, sk_c_s, ey_ast, sk_ast_s, ey_cs2, ey_inc, sk_inc_s, ey_gf, sk_gf_s, sk_v_s, ey_cv0, ex_iz, ey_cv3, ex_sta, ex_sta_n, ex_rv, sw_gl_0, sw_gl_s, sw_fx_n, sw_fx_i, sw_fx_r, sw_fx_0, sw_fx_l, sw_fx_d, sw_sl1_0, sw_sl1_1, sw_sl1_s, sw_no_0, sw_no_s, sw_no_e, sw_mk_t, sw_mk_f, sw_mk_e, sw_en_0, sw_en_n, sw_en_i, sw_en_r, sw_en_z, sw_en_l, sw_en_d, sw_ok_0, sw_ok_1, sw_ok_2, sw_ok_3, sw_ok_4, sw_bo_s, sw_oi_s, sw_cl_s, sw_cl_x, sw_psh_s, sw_psh_n, sw_kd_s, sw_op_s, sw_oc_s, sw_oc_e, sw_oa_s, sw_el_n, sw_el_r, sl_kds_1, sl_kds_67, sw_fit_i, sw_fit_r, sw_fit_n, sw_fit_l, sw_fit_d, sw_fit_b, sw_fit_0, sw_fit_1, sw_rel_0, sw_rel_1, sw_rel_2, sw_rel_3, sw_rel_4, sw_rel_5, sw_hp_set, sw_nx_set, sw_sl_set, sw_ev_set, sw_hp_new, sw_nx_new, sw_sl_new, sw_ev_new, List.getElem?_cons_zero, List.getElem?_cons_succ, List.set_cons_zero, List.set_cons_succ, List.length_cons, List.length_nil, Nat.reduceAdd, Nat.reduceSub, Nat.reduceLT, Nat.reduceLeDiff, Nat.zero_lt_succ, Nat.zero_add, beq_self_eq_true, Bool.true_and, and_true, true_and, and_self, not_true_eq_false, not_false_eq_true, ↓reduceIte, Nat.reduceBEq, eq_self, sw_b_0, sw_b_1, decide_eq_false_iff_not, decide_eq_true_eq, sl_n10, sl_n01, Decidable.not_not, sl_ct, sl_cats_0, sl_cats_i, sl_cats_r, sl_cats_n, sl_cats_l, sl_ok_5, sl_ok9, decide_true, sp_machC, sp_nodeC, sp_opC, sl_z0, sl_z1, sl_z2, sl_z3, sl_z4, sl_z5, sl_z6, sl_z7, sl_c0, sl_c1, sl_c2, sl_c3, sl_c4, sl_c5, sl_c6, sl_c7, List.length_map, sp_lifeC, sp_inC, sp_rnC, hx1, sp_xC, hp1, r2, x2]
  rw [show (nI 0 : Int32) = 0 from rfl] at r1 r3
  refine ⟨P', ?_, s5.wk ?_ ?_⟩
  · rw [← r5, ← r3, ← e2, ← r1]
    rw [M_X1_digest _ _ _ rfl]; simp only [at_X1_digest_0, ex_push, ex_stl, ex_sti, ex_goto, ey_ld, sk_ld_s, ex_ic, ex_na, ex_dup_i, ex_dup_r, ex_dup_n, ey_cv1, sk_c_s, ey_ast, sk_ast_s, ey_cs2, ey_inc, sk_inc_s, ey_gf, sk_gf_s, sk_v_s, ey_cv0, ex_iz, ey_cv3, ex_sta, ex_sta_n, ex_rv, sw_gl_0, sw_gl_s, sw_fx_n, sw_fx_i, sw_fx_r, sw_fx_0, sw_fx_l, sw_fx_d, sw_sl1_0, sw_sl1_1, sw_sl1_s, sw_no_0, sw_no_s, sw_no_e, sw_mk_t, sw_mk_f, sw_mk_e, sw_en_0, sw_en_n, sw_en_i, sw_en_r, sw_en_z, sw_en_l, sw_en_d, sw_ok_0, sw_ok_1, sw_ok_2, sw_ok_3, sw_ok_4, sw_bo_s, sw_oi_s, sw_cl_s, sw_cl_x, sw_psh_s, sw_psh_n, sw_kd_s, sw_op_s, sw_oc_s, sw_oc_e, sw_oa_s, sw_el_n, sw_el_r, sl_kds_1, sl_kds_67, sw_fit_i, sw_fit_r, sw_fit_n, sw_fit_l, sw_fit_d, sw_fit_b, sw_fit_0, sw_fit_1, sw_rel_0, sw_rel_1, sw_rel_2, sw_rel_3, sw_rel_4, sw_rel_5, sw_hp_set, sw_nx_set, sw_sl_set, sw_ev_set, sw_hp_new, sw_nx_new, sw_sl_new, sw_ev_new, List.getElem?_cons_zero, List.getElem?_cons_succ, List.set_cons_zero, List.set_cons_succ, List.length_cons, List.length_nil, Nat.reduceAdd, Nat.reduceSub, Nat.reduceLT, Nat.reduceLeDiff, Nat.zero_lt_succ, Nat.zero_add, beq_self_eq_true, Bool.true_and, and_true, true_and, and_self, not_true_eq_false, not_false_eq_true, ↓reduceIte, Nat.reduceBEq, eq_self, sw_b_0, sw_b_1, decide_eq_false_iff_not, decide_eq_true_eq, sl_n10, sl_n01, Decidable.not_not, sl_ct, sl_cats_0, sl_cats_i, sl_cats_r, sl_cats_n, sl_cats_l, sl_ok_5, sl_ok9, decide_true, sp_machC, sp_nodeC, sp_opC, sl_z0, sl_z1, sl_z2, sl_z3, sl_z4, sl_z5, sl_z6, sl_z7, sl_c0, sl_c1, sl_c2, sl_c3, sl_c4, sl_c5, sl_c6, sl_c7, List.length_map, sp_lifeC, sp_inC, sp_rnC]
  · show _ ≤ c + (16 + 1 + _ + _ + _ + _ + _ + _ + _ + _)
    omega
  · show _ ≤ s + (16 + 8 + _ + _ + _ + _ + _ + _ + (sp_enS (N.map (·.2)).length bs 7 5) + _)
    simp only [List.length_map]
    omega
end
