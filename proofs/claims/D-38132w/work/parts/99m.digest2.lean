/-! ===== the component's main class: the digest, of values and code ===== -/
section
variable {ev : Nat → Nat} {x bd mach l D d c s : Nat} {pa : sp_PA} {N : List (Nat × sp_Node)} {B : List sp_Blk} {T L : List Int32} {out : Int32} {m : sp_Mach} {b b2 : sp_Bd} {F : List sl_A} {P : sw_P}
theorem jc_X1_mixValues3 (hd : 7 ≤ d) (hb : sp_bok T out b) {p k : Nat} (hp : p < b.2.2.2.2.1) (hk : sp_plc b.2.1 (nI p) b.2.1.length = some k) : ∀ j w, w + j = 8 → ∀ c s P y, sl_st ev c s P (sl_cs ev x bd mach l pa N B T out m L b ++ F) →
    ∃ P', sw_at (sw_Z d) b_X1_mixValues 3 [some (.ref x), none, none, some (.long y), none, some (.int (nI p)), some (.int (nI w))] [] P = sw_at (sw_Z d) b_X1_mixValues 1 [some (.ref x), none, none, some (.long (sp_mix y ((sp_toldL b.1 (sp_lifeV b.2.1 (nI p))).drop w))), none, some (.int (nI (p + 1))), none] [] P' ∧ sl_st ev (c + j) (s + j) P' (sl_cs ev x bd mach l pa N B T out m L b ++ F) := by
  intro j
  induction j with
  | zero =>
    intro w hw c s P y h
    have : w = 8 := by omega
    subst this
    have e1 : (7 : Int32) < nI 8 := by decide
    refine ⟨P, ?_, h⟩
    have hdr : (sp_toldL b.1 (sp_lifeV b.2.1 (nI p))).drop 8 = [] := rfl
    rw [hdr]
    rw [at_X1_mixValues_3]; simp only [at_X1_mixValues_4, ey_ld, sk_ld_s, ex_stl, ex_push, ex_sti, ex_goto, ey_gf, sk_gf_s, sk_v_s, ex_ic, ey_cv1, sk_c_s, ex_na, ex_dup_i, ex_dup_r, ex_dup_n, ey_ast, sk_ast_s, ey_cs2, ey_inc, sk_inc_s, ex_rv, sw_gl_0, sw_gl_s, sw_fx_n, sw_fx_i, sw_fx_r, sw_fx_0, sw_fx_l, sw_fx_d, sw_sl1_0, sw_sl1_1, sw_sl1_s, sw_no_0, sw_no_s, sw_no_e, sw_mk_t, sw_mk_f, sw_mk_e, sw_en_0, sw_en_n, sw_en_i, sw_en_r, sw_en_z, sw_en_l, sw_en_d, sw_ok_0, sw_ok_1, sw_ok_2, sw_ok_3, sw_ok_4, sw_bo_s, sw_oi_s, sw_cl_s, sw_cl_x, sw_psh_s, sw_psh_n, sw_kd_s, sw_op_s, sw_oc_s, sw_oc_e, sw_oa_s, sw_el_n, sw_el_r, sl_kds_1, sl_kds_67, sw_fit_i, sw_fit_r, sw_fit_n, sw_fit_l, sw_fit_d, sw_fit_b, sw_fit_0, sw_fit_1, sw_rel_0, sw_rel_1, sw_rel_2, sw_rel_3, sw_rel_4, sw_rel_5, sw_hp_set, sw_nx_set, sw_sl_set, sw_ev_set, sw_hp_new, sw_nx_new, sw_sl_new, sw_ev_new, List.getElem?_cons_zero, List.getElem?_cons_succ, List.set_cons_zero, List.set_cons_succ, List.length_cons, List.length_nil, Nat.reduceAdd, Nat.reduceSub, Nat.reduceLT, Nat.reduceLeDiff, Nat.zero_lt_succ, Nat.zero_add, beq_self_eq_true, Bool.true_and, and_true, true_and, and_self, not_true_eq_false, not_false_eq_true, ↓reduceIte, Nat.reduceBEq, eq_self, sw_b_0, sw_b_1, decide_eq_false_iff_not, decide_eq_true_eq, sl_n10, sl_n01, Decidable.not_not, sl_ct, sl_cats_0, sl_cats_i, sl_cats_r, sl_cats_n, sl_cats_l, sl_ok_5, sl_ok9, decide_true, sp_machC, sp_nodeC, sp_opC, sl_z0, sl_z1, sl_z2, sl_z3, sl_z4, sl_z5, sl_z6, sl_z7, sl_c0, sl_c1, sl_c2, sl_c3, sl_c4, sl_c5, sl_c6, sl_c7, List.length_map, sp_lifeC, sp_inC, sp_rnC, eq_true e1, nI_1]
    rfl
  | succ j ih =>
    intro w hw c s P y h
    have e1 : ¬ (7 : Int32) < nI w := nI_nlt (a := 7) (by omega) (by omega)
    obtain ⟨m1, m2, m3⟩ := sl_mix1 (d := d) (v := (sp_toldL b.1 (sp_lifeV b.2.1 (nI p))).getD w 0) (by omega) y h
    obtain ⟨hx, hm, hp', ol, lv, cl, rn, ca, rq, ra, rb, rs, M, Rw, K, hF⟩ := sl_cs_rd m3
    obtain ⟨hok, -⟩ := hb.1 M Rw hF.1 hF.2.1
    have hRl : Rw.length = b.2.1.length := by rw [← hF.2.1, List.length_map]
    have hk' : sp_plc (Rw.map (·.2)) (nI p) Rw.length = some k := by rw [hF.2.1, hRl]; exact hk
    have hkl : k < Rw.length := (sp_plc_lt _ _ _ hk').1
    have e3 := jc_X8_of (D := d) (by omega) hF.2.2.2.2.1 hok hk' hkl
    obtain ⟨-, g2, g3⟩ := sp_lv_row hF.2.2.2.2.1 hok (d := d) (by omega) hkl
    have hy := hok.2.2.2.2 Rw[k] (List.getElem_mem hkl)
    obtain ⟨r, f1, f2, f3⟩ := sp_lv_1st hF.2.2.2.2.1 hy.1
    rw [g3] at g2
    have e4 := jc_X1_lifeNow (D := d) (w := w) (by omega) g2 hy.2.2.2 f1 (by omega)
    have ex : sp_lifeV b.2.1 (nI p) = Rw[k].2 := by unfold sp_lifeV; rw [hk, ← hF.2.1]; exact g3
    rw [hF.1] at e4
    rw [ex] at m1 m2 ih
    rw [ex]
    have hx0 := (sl_cs_rd h).1
    have fx := sl_ne_nx hx0 h.nx0
    obtain ⟨hx9, hm9, hp9, ol9, lv9, cl9, rn9, ca9, rq9, ra9, rb9, rs9, M9, Rw9, K9, hF9⟩ := sl_cs_rd h
    obtain ⟨P', r1, r2⟩ := ih (w + 1) (by omega) _ _ _ (sp_mix y [(sp_toldL b.1 Rw[k].2).getD w 0]) m2
    refine ⟨P', ?_, r2.wk (by omega) (by omega)⟩
    rw [sp_toldL_drop _ _ (by omega), show sp_mix y ((sp_toldL b.1 Rw[k].2).getD w 0 :: (sp_toldL b.1 Rw[k].2).drop (w + 1)) = sp_mix (sp_mix y [(sp_toldL b.1 Rw[k].2).getD w 0]) ((sp_toldL b.1 Rw[k].2).drop (w + 1)) from rfl, ← r1]
    have q1 := hF.2.2.2.1
    have q2 := hF.2.2.2.2.1.1
    rw [sw_hp_new] at hx q1 q2
    unfold sp_xC at hx
    unfold sp_bdC at q1
    unfold sp_lvC at q2
    rw [at_X1_mixValues_3]; simp only [ey_ld, sk_ld_s, ex_stl, ex_push, ex_sti, ex_goto, ey_gf, sk_gf_s, sk_v_s, ex_ic, ey_cv1, sk_c_s, ex_dup_i, ex_dup_r, ex_dup_n, ey_ast, sk_ast_s, ey_cs2, ey_inc, sk_inc_s, ex_rv, sw_gl_0, sw_gl_s, sw_fx_n, sw_fx_i, sw_fx_r, sw_fx_0, sw_fx_l, sw_fx_d, sw_sl1_0, sw_sl1_1, sw_sl1_s, sw_no_0, sw_no_s, sw_no_e, sw_mk_t, sw_mk_f, sw_mk_e, sw_en_0, sw_en_n, sw_en_i, sw_en_r, sw_en_z, sw_en_l, sw_en_d, sw_ok_0, sw_ok_1, sw_ok_2, sw_ok_3, sw_ok_4, sw_bo_s, sw_oi_s, sw_cl_s, sw_cl_x, sw_psh_s, sw_psh_n, sw_kd_s, sw_op_s, sw_oc_s, sw_oc_e, sw_oa_s, sw_el_n, sw_el_r, sl_kds_1, sl_kds_67, sw_fit_i, sw_fit_r, sw_fit_n, sw_fit_l, sw_fit_d, sw_fit_b, sw_fit_0, sw_fit_1, sw_rel_0, sw_rel_1, sw_rel_2, sw_rel_3, sw_rel_4, sw_rel_5, sw_hp_set, sw_nx_set, sw_sl_set, sw_ev_set, sw_hp_new, sw_nx_new, sw_sl_new, sw_ev_new, List.getElem?_cons_zero, List.getElem?_cons_succ, List.set_cons_zero, List.set_cons_succ, List.length_cons, List.length_nil, Nat.reduceAdd, Nat.reduceSub, Nat.reduceLT, Nat.reduceLeDiff, Nat.zero_lt_succ, Nat.zero_add, beq_self_eq_true, Bool.true_and, and_true, true_and, and_self, not_true_eq_false, not_false_eq_true, ↓reduceIte, Nat.reduceBEq, eq_self, sw_b_0, sw_b_1, decide_eq_false_iff_not, decide_eq_true_eq, sl_n10, sl_n01, Decidable.not_not, sl_ct, sl_cats_0, sl_cats_i, sl_cats_r, sl_cats_n, sl_cats_l, sl_ok_5, sl_ok9, decide_true, sp_machC, sp_nodeC, sp_opC, sl_z0, sl_z1, sl_z2, sl_z3, sl_z4, sl_z5, sl_z6, sl_z7, sl_c0, sl_c1, sl_c2, sl_c3, sl_c4, sl_c5, sl_c6, sl_c7, List.length_map, sp_lifeC, sp_inC, sp_rnC, ex_na64_1, sl_vt64, eq_false e1, hx, q1, q2, e3, e4, m1, nI_1]
theorem jc_X1_mixValues {y : Int64} (hD : 8 ≤ D) (hb : sp_bok T out b) (h : sl_st ev c s P (sl_cs ev x bd mach l pa N B T out m L b ++ F)) :
    ∃ P', sw_Z D m_X1_mixValues [.ref x, .long y] P = some (.inl (some (.long (sp_mix y (sp_fm (sp_valV b) b.2.2.2.2.1 0)))), P') ∧ sl_st ev (c + (sp_fm (sp_valV b) b.2.2.2.2.1 0).length) (s + (sp_fm (sp_valV b) b.2.2.2.2.1 0).length) P' (sl_cs ev x bd mach l pa N B T out m L b ++ F) := by
  obtain ⟨d, hDe, hDn⟩ := sw_dep hD; subst hDe; replace hD := hDn; clear hDn
  have hv9 := hb.2.2.2.2.2.2
  have hloop : ∀ j p, p + j = b.2.2.2.2.1 → ∀ c s P y, sl_st ev c s P (sl_cs ev x bd mach l pa N B T out m L b ++ F) →
      ∃ P', sw_at (sw_Z d) b_X1_mixValues 1 [some (.ref x), none, none, some (.long y), none, some (.int (nI p)), none] [] P = some (.inl (some (.long (sp_mix y (sp_fm (sp_valV b) j p)))), P') ∧ sl_st ev (c + (sp_fm (sp_valV b) j p).length) (s + (sp_fm (sp_valV b) j p).length) P' (sl_cs ev x bd mach l pa N B T out m L b ++ F) := by
    intro j
    induction j with
    | zero =>
      intro p hp c s P y h
      obtain ⟨hx, hm, hp', ol, lv, cl, rn, ca, rq, ra, rb, rs, M, Rw, K, hF⟩ := sl_cs_rd h
      have e2 : nI b.2.2.2.2.1 ≤ nI p := nI_le (by omega) (by omega)
      refine ⟨P, ?_, h⟩
      rw [at_X1_mixValues_1]; simp only [at_X1_mixValues_5, ey_ld, sk_ld_s, ex_stl, ex_push, ex_sti, ex_goto, ey_gf, sk_gf_s, sk_v_s, ex_ic, ey_cv1, sk_c_s, ex_na, ex_dup_i, ex_dup_r, ex_dup_n, ey_ast, sk_ast_s, ey_cs2, ey_inc, sk_inc_s, ex_rv, sw_gl_0, sw_gl_s, sw_fx_n, sw_fx_i, sw_fx_r, sw_fx_0, sw_fx_l, sw_fx_d, sw_sl1_0, sw_sl1_1, sw_sl1_s, sw_no_0, sw_no_s, sw_no_e, sw_mk_t, sw_mk_f, sw_mk_e, sw_en_0, sw_en_n, sw_en_i, sw_en_r, sw_en_z, sw_en_l, sw_en_d, sw_ok_0, sw_ok_1, sw_ok_2, sw_ok_3, sw_ok_4, sw_bo_s, sw_oi_s, sw_cl_s, sw_cl_x, sw_psh_s, sw_psh_n, sw_kd_s, sw_op_s, sw_oc_s, sw_oc_e, sw_oa_s, sw_el_n, sw_el_r, sl_kds_1, sl_kds_67, sw_fit_i, sw_fit_r, sw_fit_n, sw_fit_l, sw_fit_d, sw_fit_b, sw_fit_0, sw_fit_1, sw_rel_0, sw_rel_1, sw_rel_2, sw_rel_3, sw_rel_4, sw_rel_5, sw_hp_set, sw_nx_set, sw_sl_set, sw_ev_set, sw_hp_new, sw_nx_new, sw_sl_new, sw_ev_new, List.getElem?_cons_zero, List.getElem?_cons_succ, List.set_cons_zero, List.set_cons_succ, List.length_cons, List.length_nil, Nat.reduceAdd, Nat.reduceSub, Nat.reduceLT, Nat.reduceLeDiff, Nat.zero_lt_succ, Nat.zero_add, beq_self_eq_true, Bool.true_and, and_true, true_and, and_self, not_true_eq_false, not_false_eq_true, ↓reduceIte, Nat.reduceBEq, eq_self, sw_b_0, sw_b_1, decide_eq_false_iff_not, decide_eq_true_eq, sl_n10, sl_n01, Decidable.not_not, sl_ct, sl_cats_0, sl_cats_i, sl_cats_r, sl_cats_n, sl_cats_l, sl_ok_5, sl_ok9, decide_true, sp_machC, sp_nodeC, sp_opC, sl_z0, sl_z1, sl_z2, sl_z3, sl_z4, sl_z5, sl_z6, sl_z7, sl_c0, sl_c1, sl_c2, sl_c3, sl_c4, sl_c5, sl_c6, sl_c7, List.length_map, sp_lifeC, sp_inC, sp_rnC, hx, sp_xC, hF.2.2.2.1, sp_bdC, eq_true e2]
      rfl
    | succ j ih =>
      intro p hp c s P y h
      obtain ⟨hx, hm, hp', ol, lv, cl, rn, ca, rq, ra, rb, rs, M, Rw, K, hF⟩ := sl_cs_rd h
      obtain ⟨hok, -⟩ := hb.1 M Rw hF.1 hF.2.1
      have hRl : Rw.length = b.2.1.length := by rw [← hF.2.1, List.length_map]
      have e2 : ¬ nI b.2.2.2.2.1 ≤ nI p := nI_ge (by omega) (by omega)
      have p1 := jc_X8_placeOf (D := d) (v := nI p) (by omega) hF.2.2.2.2.1 hok
      rw [hF.2.1, hRl] at p1
      have hst : sp_fm (sp_valV b) (j + 1) p = sp_valV b p ++ sp_fm (sp_valV b) j (p + 1) := rfl
      rw [hst, sp_mix_app, List.length_append]
      have q1 := hF.2.2.2.1
      have q2 := hF.2.2.2.2.1.1
      unfold sp_bdC at q1
      unfold sp_lvC at q2
      cases c1 : sp_plc b.2.1 (nI p) b.2.1.length with
      | none =>
        rw [c1] at p1
        have hv : sp_valV b p = [] := if_pos c1
        rw [hv]
        obtain ⟨P', r2, s2⟩ := ih (p + 1) (by omega) c s P y h
        refine ⟨P', ?_, s2.wk (by simp) (by simp)⟩
        rw [show sp_mix y [] = y from rfl, ← r2]
        have e5 : sp_oi none = -1 := rfl
        rw [e5] at p1
        rw [at_X1_mixValues_1]; simp only [at_X1_mixValues_4, ey_ld, sk_ld_s, ex_stl, ex_push, ex_sti, ex_goto, ey_gf, sk_gf_s, sk_v_s, ex_ic, ey_cv1, sk_c_s, ex_na, ex_dup_i, ex_dup_r, ex_dup_n, ey_ast, sk_ast_s, ey_cs2, ey_inc, sk_inc_s, ex_rv, sw_gl_0, sw_gl_s, sw_fx_n, sw_fx_i, sw_fx_r, sw_fx_0, sw_fx_l, sw_fx_d, sw_sl1_0, sw_sl1_1, sw_sl1_s, sw_no_0, sw_no_s, sw_no_e, sw_mk_t, sw_mk_f, sw_mk_e, sw_en_0, sw_en_n, sw_en_i, sw_en_r, sw_en_z, sw_en_l, sw_en_d, sw_ok_0, sw_ok_1, sw_ok_2, sw_ok_3, sw_ok_4, sw_bo_s, sw_oi_s, sw_cl_s, sw_cl_x, sw_psh_s, sw_psh_n, sw_kd_s, sw_op_s, sw_oc_s, sw_oc_e, sw_oa_s, sw_el_n, sw_el_r, sl_kds_1, sl_kds_67, sw_fit_i, sw_fit_r, sw_fit_n, sw_fit_l, sw_fit_d, sw_fit_b, sw_fit_0, sw_fit_1, sw_rel_0, sw_rel_1, sw_rel_2, sw_rel_3, sw_rel_4, sw_rel_5, sw_hp_set, sw_nx_set, sw_sl_set, sw_ev_set, sw_hp_new, sw_nx_new, sw_sl_new, sw_ev_new, List.getElem?_cons_zero, List.getElem?_cons_succ, List.set_cons_zero, List.set_cons_succ, List.length_cons, List.length_nil, Nat.reduceAdd, Nat.reduceSub, Nat.reduceLT, Nat.reduceLeDiff, Nat.zero_lt_succ, Nat.zero_add, beq_self_eq_true, Bool.true_and, and_true, true_and, and_self, not_true_eq_false, not_false_eq_true, ↓reduceIte, Nat.reduceBEq, eq_self, sw_b_0, sw_b_1, decide_eq_false_iff_not, decide_eq_true_eq, sl_n10, sl_n01, Decidable.not_not, sl_ct, sl_cats_0, sl_cats_i, sl_cats_r, sl_cats_n, sl_cats_l, sl_ok_5, sl_ok9, decide_true, sp_machC, sp_nodeC, sp_opC, sl_z0, sl_z1, sl_z2, sl_z3, sl_z4, sl_z5, sl_z6, sl_z7, sl_c0, sl_c1, sl_c2, sl_c3, sl_c4, sl_c5, sl_c6, sl_c7, List.length_map, sp_lifeC, sp_inC, sp_rnC, hx, sp_xC, q1, q2, p1, eq_false e2, nI_1]
      | some k =>
        rw [c1] at p1
        have hv : sp_valV b p = nI p :: sp_toldL b.1 (sp_lifeV b.2.1 (nI p)) := if_neg (by rw [c1]; intro q; cases q)
        rw [hv]
        have hkl : k < b.2.1.length := (sp_plc_lt _ _ _ c1).1
        have hlr := hok.2.1
        rw [hRl] at hlr
        have e5 : ¬ sp_oi (some k) = -1 := fun e => by
          have := nI_pos (n := k) (by omega)
          rw [show nI k = -1 from e] at this; exact this (by decide)
        obtain ⟨m1, m2, m3⟩ := sl_mix1 (d := d) (v := nI p) (by omega) y h
        obtain ⟨P1, r1, s1⟩ := jc_X1_mixValues3 (d := d) (p := p) (by omega) hb (by omega) c1 8 0 (by omega) _ _ _ (sp_mix y [nI p]) m2
        obtain ⟨P', r2, s2⟩ := ih (p + 1) (by omega) _ _ P1 _ s1
        have hl8 : (sp_toldL b.1 (sp_lifeV b.2.1 (nI p))).length = 8 := rfl
        refine ⟨P', ?_, s2.wk (by rw [List.length_cons, hl8]; omega) (by rw [List.length_cons, hl8]; omega)⟩
        rw [sp_mix_cons, ← r2]
        rw [List.drop_zero, show (nI 0 : Int32) = 0 from rfl] at r1
        rw [← r1]
        rw [at_X1_mixValues_1]; simp only [at_X1_mixValues_2, ey_ld, sk_ld_s, ex_stl, ex_push, ex_sti, ex_goto, ey_gf, sk_gf_s, sk_v_s, ex_ic, ey_cv1, sk_c_s, ex_dup_i, ex_dup_r, ex_dup_n, ey_ast, sk_ast_s, ey_cs2, ey_inc, sk_inc_s, ex_rv, sw_gl_0, sw_gl_s, sw_fx_n, sw_fx_i, sw_fx_r, sw_fx_0, sw_fx_l, sw_fx_d, sw_sl1_0, sw_sl1_1, sw_sl1_s, sw_no_0, sw_no_s, sw_no_e, sw_mk_t, sw_mk_f, sw_mk_e, sw_en_0, sw_en_n, sw_en_i, sw_en_r, sw_en_z, sw_en_l, sw_en_d, sw_ok_0, sw_ok_1, sw_ok_2, sw_ok_3, sw_ok_4, sw_bo_s, sw_oi_s, sw_cl_s, sw_cl_x, sw_psh_s, sw_psh_n, sw_kd_s, sw_op_s, sw_oc_s, sw_oc_e, sw_oa_s, sw_el_n, sw_el_r, sl_kds_1, sl_kds_67, sw_fit_i, sw_fit_r, sw_fit_n, sw_fit_l, sw_fit_d, sw_fit_b, sw_fit_0, sw_fit_1, sw_rel_0, sw_rel_1, sw_rel_2, sw_rel_3, sw_rel_4, sw_rel_5, sw_hp_set, sw_nx_set, sw_sl_set, sw_ev_set, sw_hp_new, sw_nx_new, sw_sl_new, sw_ev_new, List.getElem?_cons_zero, List.getElem?_cons_succ, List.set_cons_zero, List.set_cons_succ, List.length_cons, List.length_nil, Nat.reduceAdd, Nat.reduceSub, Nat.reduceLT, Nat.reduceLeDiff, Nat.zero_lt_succ, Nat.zero_add, beq_self_eq_true, Bool.true_and, and_true, true_and, and_self, not_true_eq_false, not_false_eq_true, ↓reduceIte, Nat.reduceBEq, eq_self, sw_b_0, sw_b_1, decide_eq_false_iff_not, decide_eq_true_eq, sl_n10, sl_n01, Decidable.not_not, sl_ct, sl_cats_0, sl_cats_i, sl_cats_r, sl_cats_n, sl_cats_l, sl_ok_5, sl_ok9, decide_true, sp_machC, sp_nodeC, sp_opC, sl_z0, sl_z1, sl_z2, sl_z3, sl_z4, sl_z5, sl_z6, sl_z7, sl_c0, sl_c1, sl_c2, sl_c3, sl_c4, sl_c5, sl_c6, sl_c7, List.length_map, sp_lifeC, sp_inC, sp_rnC, ex_na64_1, sl_vt64, hx, sp_xC, q1, q2, p1, eq_false e2, eq_false e5, m1]
  obtain ⟨P', r1, r2⟩ := hloop b.2.2.2.2.1 0 (by omega) c s P y h
  refine ⟨P', ?_, r2⟩
  rw [show (nI 0 : Int32) = 0 from rfl] at r1
  rw [M_X1_mixValues _ _ _ rfl]; simp only [at_X1_mixValues_0, ey_ld, sk_ld_s, ex_stl, ex_push, ex_sti, ex_goto, ey_gf, sk_gf_s, sk_v_s, ex_ic, ey_cv1, sk_c_s, ex_na, ex_dup_i, ex_dup_r, ex_dup_n, ey_ast, sk_ast_s, ey_cs2, ey_inc, sk_inc_s, ex_rv, sw_gl_0, sw_gl_s, sw_fx_n, sw_fx_i, sw_fx_r, sw_fx_0, sw_fx_l, sw_fx_d, sw_sl1_0, sw_sl1_1, sw_sl1_s, sw_no_0, sw_no_s, sw_no_e, sw_mk_t, sw_mk_f, sw_mk_e, sw_en_0, sw_en_n, sw_en_i, sw_en_r, sw_en_z, sw_en_l, sw_en_d, sw_ok_0, sw_ok_1, sw_ok_2, sw_ok_3, sw_ok_4, sw_bo_s, sw_oi_s, sw_cl_s, sw_cl_x, sw_psh_s, sw_psh_n, sw_kd_s, sw_op_s, sw_oc_s, sw_oc_e, sw_oa_s, sw_el_n, sw_el_r, sl_kds_1, sl_kds_67, sw_fit_i, sw_fit_r, sw_fit_n, sw_fit_l, sw_fit_d, sw_fit_b, sw_fit_0, sw_fit_1, sw_rel_0, sw_rel_1, sw_rel_2, sw_rel_3, sw_rel_4, sw_rel_5, sw_hp_set, sw_nx_set, sw_sl_set, sw_ev_set, sw_hp_new, sw_nx_new, sw_sl_new, sw_ev_new, List.getElem?_cons_zero, List.getElem?_cons_succ, List.set_cons_zero, List.set_cons_succ, List.length_cons, List.length_nil, Nat.reduceAdd, Nat.reduceSub, Nat.reduceLT, Nat.reduceLeDiff, Nat.zero_lt_succ, Nat.zero_add, beq_self_eq_true, Bool.true_and, and_true, true_and, and_self, not_true_eq_false, not_false_eq_true, ↓reduceIte, Nat.reduceBEq, eq_self, sw_b_0, sw_b_1, decide_eq_false_iff_not, decide_eq_true_eq, sl_n10, sl_n01, Decidable.not_not, sl_ct, sl_cats_0, sl_cats_i, sl_cats_r, sl_cats_n, sl_cats_l, sl_ok_5, sl_ok9, decide_true, sp_machC, sp_nodeC, sp_opC, sl_z0, sl_z1, sl_z2, sl_z3, sl_z4, sl_z5, sl_z6, sl_z7, sl_c0, sl_c1, sl_c2, sl_c3, sl_c4, sl_c5, sl_c6, sl_c7, List.length_map, sp_lifeC, sp_inC, sp_rnC]
  exact r1
theorem jc_X1_mixCode2 (hd : 6 ≤ d) (hb : sp_bok T out b) {p : Nat} (hp : p < b.1.length) (hc : (b.1.getD p sp_oz).1 = 9) : ∀ j w, w + j = 4 → ∀ c s P y, sl_st ev c s P (sl_cs ev x bd mach l pa N B T out m L b ++ F) →
    ∃ P', sw_at (sw_Z d) b_X1_mixCode 2 [some (.ref x), none, none, some (.long y), none, some (.int (nI p)), some (.int (nI w))] [] P = sw_at (sw_Z d) b_X1_mixCode 1 [some (.ref x), none, none, some (.long (sp_mix y ([sp_mapT b.1 b.2.1 p 0, sp_mapT b.1 b.2.1 p 1, sp_mapT b.1 b.2.1 p 2, sp_mapT b.1 b.2.1 p 3].drop w))), none, some (.int (nI (p + 1))), none] [] P' ∧ sl_st ev (c + j) (s + j) P' (sl_cs ev x bd mach l pa N B T out m L b ++ F) := by
  intro j
  induction j with
  | zero =>
    intro w hw c s P y h
    have : w = 4 := by omega
    subst this
    have e1 : (3 : Int32) < nI 4 := by decide
    refine ⟨P, ?_, h⟩
    have hdr : [sp_mapT b.1 b.2.1 p 0, sp_mapT b.1 b.2.1 p 1, sp_mapT b.1 b.2.1 p 2, sp_mapT b.1 b.2.1 p 3].drop 4 = [] := rfl
    rw [hdr]
    rw [at_X1_mixCode_2]; simp only [at_X1_mixCode_3, ey_ld, sk_ld_s, ex_stl, ex_push, ex_sti, ex_goto, ey_gf, sk_gf_s, sk_v_s, ey_cv0, sk_c_s, ex_ic, ey_cv1, ex_ct, ex_iz, ex_na, ex_dup_i, ex_dup_r, ex_dup_n, ey_cv2, ey_ast, sk_ast_s, ey_cs2, ey_inc, sk_inc_s, ex_rv, sw_gl_0, sw_gl_s, sw_fx_n, sw_fx_i, sw_fx_r, sw_fx_0, sw_fx_l, sw_fx_d, sw_sl1_0, sw_sl1_1, sw_sl1_s, sw_no_0, sw_no_s, sw_no_e, sw_mk_t, sw_mk_f, sw_mk_e, sw_en_0, sw_en_n, sw_en_i, sw_en_r, sw_en_z, sw_en_l, sw_en_d, sw_ok_0, sw_ok_1, sw_ok_2, sw_ok_3, sw_ok_4, sw_bo_s, sw_oi_s, sw_cl_s, sw_cl_x, sw_psh_s, sw_psh_n, sw_kd_s, sw_op_s, sw_oc_s, sw_oc_e, sw_oa_s, sw_el_n, sw_el_r, sl_kds_1, sl_kds_67, sw_fit_i, sw_fit_r, sw_fit_n, sw_fit_l, sw_fit_d, sw_fit_b, sw_fit_0, sw_fit_1, sw_rel_0, sw_rel_1, sw_rel_2, sw_rel_3, sw_rel_4, sw_rel_5, sw_hp_set, sw_nx_set, sw_sl_set, sw_ev_set, sw_hp_new, sw_nx_new, sw_sl_new, sw_ev_new, List.getElem?_cons_zero, List.getElem?_cons_succ, List.set_cons_zero, List.set_cons_succ, List.length_cons, List.length_nil, Nat.reduceAdd, Nat.reduceSub, Nat.reduceLT, Nat.reduceLeDiff, Nat.zero_lt_succ, Nat.zero_add, beq_self_eq_true, Bool.true_and, and_true, true_and, and_self, not_true_eq_false, not_false_eq_true, ↓reduceIte, Nat.reduceBEq, eq_self, sw_b_0, sw_b_1, decide_eq_false_iff_not, decide_eq_true_eq, sl_n10, sl_n01, Decidable.not_not, sl_ct, sl_cats_0, sl_cats_i, sl_cats_r, sl_cats_n, sl_cats_l, sl_ok_5, sl_ok9, decide_true, sp_machC, sp_nodeC, sp_opC, sl_z0, sl_z1, sl_z2, sl_z3, sl_z4, sl_z5, sl_z6, sl_z7, sl_c0, sl_c1, sl_c2, sl_c3, sl_c4, sl_c5, sl_c6, sl_c7, List.length_map, sp_lifeC, sp_inC, sp_rnC, eq_true e1, nI_1]
    rfl
  | succ j ih =>
    intro w hw c s P y h
    have e1 : ¬ (3 : Int32) < nI w := nI_nlt (a := 3) (by omega) (by omega)
    obtain ⟨m1, m2, m3⟩ := sl_mix1 (d := d) (v := sp_mapT b.1 b.2.1 p w) (by omega) y h
    obtain ⟨hx, hm, hp', ol, lv, cl, rn, ca, rq, ra, rb, rs, M, Rw, K, hF⟩ := sl_cs_rd m3
    obtain ⟨hok, -⟩ := hb.1 M Rw hF.1 hF.2.1
    have e3 := jc_X1_mapNow (D := d) (p := p) (w := w) (by omega) hx hF hok (by omega)
    obtain ⟨hx0, hm0, hp0, ol0, lv0, cl0, rn0, ca0, rq0, ra0, rb0, rs0, M0, Rw0, K0, hF0⟩ := sl_cs_rd h
    obtain ⟨hok0, -⟩ := hb.1 M0 Rw0 hF0.1 hF0.2.1
    have hMl : M0.length = b.1.length := by rw [← hF0.1, List.length_map]
    have hML := hok0.1
    have ex : M0[p]? = some M0[p] := List.getElem?_eq_getElem (by omega)
    have e4 := jc_J2_get (D := d) (by omega) hF0.2.2.2.2.1.2.1 (sl_refs_at ex) (by rw [List.length_map]; omega)
    obtain ⟨k1, -⟩ := sp_lv_olkd hF0.2.2.2.2.1 (d := d) (by omega)
    obtain ⟨r, f1, f2⟩ := sl_rd_ops hF0.2.2.2.2.1.2.2.1 ex
    have e5 := jc_X7_is (D := d) (k := 9) (by omega) f1
    have e6 : b.1.getD p sp_oz = M0[p].2 := by rw [← hF0.1]; exact sp_getD (by rw [List.getElem?_map, ex]; rfl)
    rw [e6] at hc
    rw [decide_eq_true hc, sw_b_t] at e5
    have fx := sl_ne_nx hx0 h.nx0
    obtain ⟨P', r1, r2⟩ := ih (w + 1) (by omega) _ _ _ (sp_mix y [sp_mapT b.1 b.2.1 p w]) m2
    refine ⟨P', ?_, r2.wk (by omega) (by omega)⟩
    have hdr : [sp_mapT b.1 b.2.1 p 0, sp_mapT b.1 b.2.1 p 1, sp_mapT b.1 b.2.1 p 2, sp_mapT b.1 b.2.1 p 3].drop w = sp_mapT b.1 b.2.1 p w :: [sp_mapT b.1 b.2.1 p 0, sp_mapT b.1 b.2.1 p 1, sp_mapT b.1 b.2.1 p 2, sp_mapT b.1 b.2.1 p 3].drop (w + 1) := by
      have : w = 0 ∨ w = 1 ∨ w = 2 ∨ w = 3 := by omega
      rcases this with rfl | rfl | rfl | rfl <;> rfl
    rw [hdr, show sp_mix y (sp_mapT b.1 b.2.1 p w :: [sp_mapT b.1 b.2.1 p 0, sp_mapT b.1 b.2.1 p 1, sp_mapT b.1 b.2.1 p 2, sp_mapT b.1 b.2.1 p 3].drop (w + 1)) = sp_mix (sp_mix y [sp_mapT b.1 b.2.1 p w]) ([sp_mapT b.1 b.2.1 p 0, sp_mapT b.1 b.2.1 p 1, sp_mapT b.1 b.2.1 p 2, sp_mapT b.1 b.2.1 p 3].drop (w + 1)) from rfl, ← r1]
    rw [at_X1_mixCode_2]; simp only [ey_ld, sk_ld_s, ex_stl, ex_push, ex_sti, ex_goto, ey_gf, sk_gf_s, sk_v_s, ey_cv0, sk_c_s, ex_ic, ey_cv1, ex_ct, ex_iz, ex_dup_i, ex_dup_r, ex_dup_n, ey_cv2, ey_ast, sk_ast_s, ey_cs2, ey_inc, sk_inc_s, ex_rv, sw_gl_0, sw_gl_s, sw_fx_n, sw_fx_i, sw_fx_r, sw_fx_0, sw_fx_l, sw_fx_d, sw_sl1_0, sw_sl1_1, sw_sl1_s, sw_no_0, sw_no_s, sw_no_e, sw_mk_t, sw_mk_f, sw_mk_e, sw_en_0, sw_en_n, sw_en_i, sw_en_r, sw_en_z, sw_en_l, sw_en_d, sw_ok_0, sw_ok_1, sw_ok_2, sw_ok_3, sw_ok_4, sw_bo_s, sw_oi_s, sw_cl_s, sw_cl_x, sw_psh_s, sw_psh_n, sw_kd_s, sw_op_s, sw_oc_s, sw_oc_e, sw_oa_s, sw_el_n, sw_el_r, sl_kds_1, sl_kds_67, sw_fit_i, sw_fit_r, sw_fit_n, sw_fit_l, sw_fit_d, sw_fit_b, sw_fit_0, sw_fit_1, sw_rel_0, sw_rel_1, sw_rel_2, sw_rel_3, sw_rel_4, sw_rel_5, sw_hp_set, sw_nx_set, sw_sl_set, sw_ev_set, sw_hp_new, sw_nx_new, sw_sl_new, sw_ev_new, List.getElem?_cons_zero, List.getElem?_cons_succ, List.set_cons_zero, List.set_cons_succ, List.length_cons, List.length_nil, Nat.reduceAdd, Nat.reduceSub, Nat.reduceLT, Nat.reduceLeDiff, Nat.zero_lt_succ, Nat.zero_add, beq_self_eq_true, Bool.true_and, and_true, true_and, and_self, not_true_eq_false, not_false_eq_true, ↓reduceIte, Nat.reduceBEq, eq_self, sw_b_0, sw_b_1, decide_eq_false_iff_not, decide_eq_true_eq, sl_n10, sl_n01, Decidable.not_not, sl_ct, sl_cats_0, sl_cats_i, sl_cats_r, sl_cats_n, sl_cats_l, sl_ok_5, sl_ok9, decide_true, sp_machC, sp_nodeC, sp_opC, sl_z0, sl_z1, sl_z2, sl_z3, sl_z4, sl_z5, sl_z6, sl_z7, sl_c0, sl_c1, sl_c2, sl_c3, sl_c4, sl_c5, sl_c6, sl_c7, List.length_map, sp_lifeC, sp_inC, sp_rnC, ex_na64_1, sl_vt64, eq_false e1, hx0, fx, sp_xC, hF0.2.2.2.1, sp_bdC, k1, e4, f1, sp_opC, e5, e3, m1, sl_kds_1, nI_1]
theorem jc_X1_mixCode6 (hd : 6 ≤ d) (hb : b.2.2.1.length < 1000) {p : Nat} (hp : p < b.2.2.1.length) : ∀ j w, w + j = 6 → ∀ c s P y, sl_st ev c s P (sl_cs ev x bd mach l pa N B T out m L b ++ F) →
    ∃ P', sw_at (sw_Z d) b_X1_mixCode 6 [some (.ref x), none, none, some (.long y), none, some (.int (nI p)), some (.int (nI w))] [] P = sw_at (sw_Z d) b_X1_mixCode 7 [some (.ref x), none, none, some (.long (sp_mix y ((sp_toldI (b.2.2.1.getD p (0, 0, 0, 0, 0, 0, 0))).drop w))), none, some (.int (nI p)), none] [] P' ∧ sl_st ev (c + j) (s + j) P' (sl_cs ev x bd mach l pa N B T out m L b ++ F) := by
  intro j
  induction j with
  | zero =>
    intro w hw c s P y h
    have : w = 6 := by omega
    subst this
    have e1 : (5 : Int32) < nI 6 := by decide
    refine ⟨P, ?_, h⟩
    have hdr : (sp_toldI (b.2.2.1.getD p (0, 0, 0, 0, 0, 0, 0))).drop 6 = [] := rfl
    rw [hdr]
    rw [at_X1_mixCode_6]; simp only [ey_ld, sk_ld_s, ex_stl, ex_push, ex_sti, ex_goto, ey_gf, sk_gf_s, sk_v_s, ey_cv0, sk_c_s, ex_ic, ey_cv1, ex_ct, ex_iz, ex_na, ex_dup_i, ex_dup_r, ex_dup_n, ey_cv2, ey_ast, sk_ast_s, ey_cs2, ey_inc, sk_inc_s, ex_rv, sw_gl_0, sw_gl_s, sw_fx_n, sw_fx_i, sw_fx_r, sw_fx_0, sw_fx_l, sw_fx_d, sw_sl1_0, sw_sl1_1, sw_sl1_s, sw_no_0, sw_no_s, sw_no_e, sw_mk_t, sw_mk_f, sw_mk_e, sw_en_0, sw_en_n, sw_en_i, sw_en_r, sw_en_z, sw_en_l, sw_en_d, sw_ok_0, sw_ok_1, sw_ok_2, sw_ok_3, sw_ok_4, sw_bo_s, sw_oi_s, sw_cl_s, sw_cl_x, sw_psh_s, sw_psh_n, sw_kd_s, sw_op_s, sw_oc_s, sw_oc_e, sw_oa_s, sw_el_n, sw_el_r, sl_kds_1, sl_kds_67, sw_fit_i, sw_fit_r, sw_fit_n, sw_fit_l, sw_fit_d, sw_fit_b, sw_fit_0, sw_fit_1, sw_rel_0, sw_rel_1, sw_rel_2, sw_rel_3, sw_rel_4, sw_rel_5, sw_hp_set, sw_nx_set, sw_sl_set, sw_ev_set, sw_hp_new, sw_nx_new, sw_sl_new, sw_ev_new, List.getElem?_cons_zero, List.getElem?_cons_succ, List.set_cons_zero, List.set_cons_succ, List.length_cons, List.length_nil, Nat.reduceAdd, Nat.reduceSub, Nat.reduceLT, Nat.reduceLeDiff, Nat.zero_lt_succ, Nat.zero_add, beq_self_eq_true, Bool.true_and, and_true, true_and, and_self, not_true_eq_false, not_false_eq_true, ↓reduceIte, Nat.reduceBEq, eq_self, sw_b_0, sw_b_1, decide_eq_false_iff_not, decide_eq_true_eq, sl_n10, sl_n01, Decidable.not_not, sl_ct, sl_cats_0, sl_cats_i, sl_cats_r, sl_cats_n, sl_cats_l, sl_ok_5, sl_ok9, decide_true, sp_machC, sp_nodeC, sp_opC, sl_z0, sl_z1, sl_z2, sl_z3, sl_z4, sl_z5, sl_z6, sl_z7, sl_c0, sl_c1, sl_c2, sl_c3, sl_c4, sl_c5, sl_c6, sl_c7, List.length_map, sp_lifeC, sp_inC, sp_rnC, eq_true e1]
    rfl
  | succ j ih =>
    intro w hw c s P y h
    have e1 : ¬ (5 : Int32) < nI w := nI_nlt (a := 5) (by omega) (by omega)
    obtain ⟨m1, m2, m3⟩ := sl_mix1 (d := d) (v := (sp_toldI (b.2.2.1.getD p (0, 0, 0, 0, 0, 0, 0))).getD w 0) (by omega) y h
    obtain ⟨hx, hm, hp', ol, lv, cl, rn, ca, rq, ra, rb, rs, M, Rw, K, hF⟩ := sl_cs_rd m3
    have e3 := jc_X1_codeNow (D := d) (k := p) (w := w) (by omega) hx hF hb hp (by omega)
    have hx0 := (sl_cs_rd h).1
    have fx := sl_ne_nx hx0 h.nx0
    obtain ⟨P', r1, r2⟩ := ih (w + 1) (by omega) _ _ _ (sp_mix y [(sp_toldI (b.2.2.1.getD p (0, 0, 0, 0, 0, 0, 0))).getD w 0]) m2
    refine ⟨P', ?_, r2.wk (by omega) (by omega)⟩
    rw [sp_toldI_drop _ (by omega), show sp_mix y ((sp_toldI (b.2.2.1.getD p (0, 0, 0, 0, 0, 0, 0))).getD w 0 :: (sp_toldI (b.2.2.1.getD p (0, 0, 0, 0, 0, 0, 0))).drop (w + 1)) = sp_mix (sp_mix y [(sp_toldI (b.2.2.1.getD p (0, 0, 0, 0, 0, 0, 0))).getD w 0]) ((sp_toldI (b.2.2.1.getD p (0, 0, 0, 0, 0, 0, 0))).drop (w + 1)) from rfl, ← r1]
    rw [at_X1_mixCode_6]; simp only [ey_ld, sk_ld_s, ex_stl, ex_push, ex_sti, ex_goto, ey_gf, sk_gf_s, sk_v_s, ey_cv0, sk_c_s, ex_ic, ey_cv1, ex_ct, ex_iz, ex_dup_i, ex_dup_r, ex_dup_n, ey_cv2, ey_ast, sk_ast_s, ey_cs2, ey_inc, sk_inc_s, ex_rv, sw_gl_0, sw_gl_s, sw_fx_n, sw_fx_i, sw_fx_r, sw_fx_0, sw_fx_l, sw_fx_d, sw_sl1_0, sw_sl1_1, sw_sl1_s, sw_no_0, sw_no_s, sw_no_e, sw_mk_t, sw_mk_f, sw_mk_e, sw_en_0, sw_en_n, sw_en_i, sw_en_r, sw_en_z, sw_en_l, sw_en_d, sw_ok_0, sw_ok_1, sw_ok_2, sw_ok_3, sw_ok_4, sw_bo_s, sw_oi_s, sw_cl_s, sw_cl_x, sw_psh_s, sw_psh_n, sw_kd_s, sw_op_s, sw_oc_s, sw_oc_e, sw_oa_s, sw_el_n, sw_el_r, sl_kds_1, sl_kds_67, sw_fit_i, sw_fit_r, sw_fit_n, sw_fit_l, sw_fit_d, sw_fit_b, sw_fit_0, sw_fit_1, sw_rel_0, sw_rel_1, sw_rel_2, sw_rel_3, sw_rel_4, sw_rel_5, sw_hp_set, sw_nx_set, sw_sl_set, sw_ev_set, sw_hp_new, sw_nx_new, sw_sl_new, sw_ev_new, List.getElem?_cons_zero, List.getElem?_cons_succ, List.set_cons_zero, List.set_cons_succ, List.length_cons, List.length_nil, Nat.reduceAdd, Nat.reduceSub, Nat.reduceLT, Nat.reduceLeDiff, Nat.zero_lt_succ, Nat.zero_add, beq_self_eq_true, Bool.true_and, and_true, true_and, and_self, not_true_eq_false, not_false_eq_true, ↓reduceIte, Nat.reduceBEq, eq_self, sw_b_0, sw_b_1, decide_eq_false_iff_not, decide_eq_true_eq, sl_n10, sl_n01, Decidable.not_not, sl_ct, sl_cats_0, sl_cats_i, sl_cats_r, sl_cats_n, sl_cats_l, sl_ok_5, sl_ok9, decide_true, sp_machC, sp_nodeC, sp_opC, sl_z0, sl_z1, sl_z2, sl_z3, sl_z4, sl_z5, sl_z6, sl_z7, sl_c0, sl_c1, sl_c2, sl_c3, sl_c4, sl_c5, sl_c6, sl_c7, List.length_map, sp_lifeC, sp_inC, sp_rnC, ex_na64_1, sl_vt64, eq_false e1, hx0, fx, sp_xC, e3, m1, nI_1]
theorem jc_X1_mixCode {y : Int64} (hD : 8 ≤ D) (hb : sp_bok T out b) (h : sl_st ev c s P (sl_cs ev x bd mach l pa N B T out m L b ++ F)) :
    ∃ P', sw_Z D m_X1_mixCode [.ref x, .long y] P = some (.inl (some (.long (sp_mix y (sp_fm (sp_callV b) b.1.length 0 ++ sp_fm (sp_codeV b) b.2.2.1.length 0)))), P') ∧ sl_st ev (c + ((sp_fm (sp_callV b) b.1.length 0).length + 7 * b.2.2.1.length)) (s + ((sp_fm (sp_callV b) b.1.length 0).length + 7 * b.2.2.1.length)) P' (sl_cs ev x bd mach l pa N B T out m L b ++ F) := by
  obtain ⟨d, hDe, hDn⟩ := sw_dep hD; subst hDe; replace hD := hDn; clear hDn
  have hKb := hb.2.2.1
  have hloop2 : ∀ j p, p + j = b.2.2.1.length → ∀ c s P y, sl_st ev c s P (sl_cs ev x bd mach l pa N B T out m L b ++ F) →
      ∃ P', sw_at (sw_Z d) b_X1_mixCode 5 [some (.ref x), none, none, some (.long y), none, some (.int (nI p)), none] [] P = some (.inl (some (.long (sp_mix y (sp_fm (sp_codeV b) j p)))), P') ∧ sl_st ev (c + 7 * j) (s + 7 * j) P' (sl_cs ev x bd mach l pa N B T out m L b ++ F) := by
    intro j
    induction j with
    | zero =>
      intro p hp c s P y h
      obtain ⟨hx, hm, hp', ol, lv, cl, rn, ca, rq, ra, rb, rs, M, Rw, K, hF⟩ := sl_cs_rd h
      have s1 := jc_J2_sizeR (D := d) (by omega) hF.2.2.2.2.2.2.2.2.1
      obtain ⟨_, _, _, _, s3, _⟩ := sl_rd_lx hF.2.2.2.2.2.2.2.2.1
      have hKl : K.length = b.2.2.1.length := by rw [← hF.2.2.1, List.length_map]
      rw [List.length_map, hKl] at s1
      have e2 : nI b.2.2.1.length ≤ nI p := nI_le (by omega) (by omega)
      refine ⟨P, ?_, h⟩
      rw [at_X1_mixCode_5]; simp only [at_X1_mixCode_8, ey_ld, sk_ld_s, ex_stl, ex_push, ex_sti, ex_goto, ey_gf, sk_gf_s, sk_v_s, ey_cv0, sk_c_s, ex_ic, ey_cv1, ex_ct, ex_iz, ex_na, ex_dup_i, ex_dup_r, ex_dup_n, ey_cv2, ey_ast, sk_ast_s, ey_cs2, ey_inc, sk_inc_s, ex_rv, sw_gl_0, sw_gl_s, sw_fx_n, sw_fx_i, sw_fx_r, sw_fx_0, sw_fx_l, sw_fx_d, sw_sl1_0, sw_sl1_1, sw_sl1_s, sw_no_0, sw_no_s, sw_no_e, sw_mk_t, sw_mk_f, sw_mk_e, sw_en_0, sw_en_n, sw_en_i, sw_en_r, sw_en_z, sw_en_l, sw_en_d, sw_ok_0, sw_ok_1, sw_ok_2, sw_ok_3, sw_ok_4, sw_bo_s, sw_oi_s, sw_cl_s, sw_cl_x, sw_psh_s, sw_psh_n, sw_kd_s, sw_op_s, sw_oc_s, sw_oc_e, sw_oa_s, sw_el_n, sw_el_r, sl_kds_1, sl_kds_67, sw_fit_i, sw_fit_r, sw_fit_n, sw_fit_l, sw_fit_d, sw_fit_b, sw_fit_0, sw_fit_1, sw_rel_0, sw_rel_1, sw_rel_2, sw_rel_3, sw_rel_4, sw_rel_5, sw_hp_set, sw_nx_set, sw_sl_set, sw_ev_set, sw_hp_new, sw_nx_new, sw_sl_new, sw_ev_new, List.getElem?_cons_zero, List.getElem?_cons_succ, List.set_cons_zero, List.set_cons_succ, List.length_cons, List.length_nil, Nat.reduceAdd, Nat.reduceSub, Nat.reduceLT, Nat.reduceLeDiff, Nat.zero_lt_succ, Nat.zero_add, beq_self_eq_true, Bool.true_and, and_true, true_and, and_self, not_true_eq_false, not_false_eq_true, ↓reduceIte, Nat.reduceBEq, eq_self, sw_b_0, sw_b_1, decide_eq_false_iff_not, decide_eq_true_eq, sl_n10, sl_n01, Decidable.not_not, sl_ct, sl_cats_0, sl_cats_i, sl_cats_r, sl_cats_n, sl_cats_l, sl_ok_5, sl_ok9, decide_true, sp_machC, sp_nodeC, sp_opC, sl_z0, sl_z1, sl_z2, sl_z3, sl_z4, sl_z5, sl_z6, sl_z7, sl_c0, sl_c1, sl_c2, sl_c3, sl_c4, sl_c5, sl_c6, sl_c7, List.length_map, sp_lifeC, sp_inC, sp_rnC, hx, sp_xC, hF.2.2.2.1, sp_bdC, s1, s3, eq_true e2]
      rfl
    | succ j ih =>
      intro p hp c s P y h
      obtain ⟨hx, hm, hp', ol, lv, cl, rn, ca, rq, ra, rb, rs, M, Rw, K, hF⟩ := sl_cs_rd h
      have s1 := jc_J2_sizeR (D := d) (by omega) hF.2.2.2.2.2.2.2.2.1
      obtain ⟨_, _, _, _, s3, _⟩ := sl_rd_lx hF.2.2.2.2.2.2.2.2.1
      have hKl : K.length = b.2.2.1.length := by rw [← hF.2.2.1, List.length_map]
      rw [List.length_map, hKl] at s1
      have e2 : ¬ nI b.2.2.1.length ≤ nI p := nI_ge (by omega) (by omega)
      obtain ⟨P1, r1, g1⟩ := jc_X1_mixCode6 (d := d) (p := p) (by omega) hKb (by omega) 6 0 (by omega) c s P y h
      obtain ⟨m1, m2, m3⟩ := sl_mix1 (d := d) (v := (b.2.2.1.getD p (0, 0, 0, 0, 0, 0, 0)).2.2.2.2.2.2) (by omega) (sp_mix y (sp_toldI (b.2.2.1.getD p (0, 0, 0, 0, 0, 0, 0)))) g1
      obtain ⟨hx2, hm2, hp2, ol2, lv2, cl2, rn2, ca2, rq2, ra2, rb2, rs2, M2, Rw2, K2, hF2⟩ := sl_cs_rd m3
      have hKl2 : K2.length = b.2.2.1.length := by rw [← hF2.2.2.1, List.length_map]
      have ex : K2[p]? = some K2[p] := List.getElem?_eq_getElem (by omega)
      have e4 := jc_J2_get (D := d) (by omega) hF2.2.2.2.2.2.2.2.2.1 (sl_refs_at ex) (by rw [List.length_map]; omega)
      obtain ⟨_, _, _, _, e3, _⟩ := sl_rd_lx hF2.2.2.2.2.2.2.2.2.1
      have e5 : sw_hp _ K2[p].1 = some (sp_inC K2[p].2) := sl_rd_pt.mp (sl_rd_map (f := sl_inA) hF2.2.2.2.2.2.2.2.2.2.1 ex)
      have e6 : b.2.2.1.getD p (0, 0, 0, 0, 0, 0, 0) = K2[p].2 := by rw [← hF2.2.2.1]; exact sp_getD (by rw [List.getElem?_map, ex]; rfl)
      obtain ⟨P', r2, g2⟩ := ih (p + 1) (by omega) _ _ _ (sp_mix (sp_mix y (sp_toldI (b.2.2.1.getD p (0, 0, 0, 0, 0, 0, 0)))) [(b.2.2.1.getD p (0, 0, 0, 0, 0, 0, 0)).2.2.2.2.2.2]) m2
      refine ⟨P', ?_, g2.wk (by omega) (by omega)⟩
      have hst : sp_fm (sp_codeV b) (j + 1) p = (sp_toldI (b.2.2.1.getD p (0, 0, 0, 0, 0, 0, 0)) ++ [(b.2.2.1.getD p (0, 0, 0, 0, 0, 0, 0)).2.2.2.2.2.2]) ++ sp_fm (sp_codeV b) j (p + 1) := rfl
      rw [hst, sp_mix_app, sp_mix_app, ← r2]
      rw [List.drop_zero, show (nI 0 : Int32) = 0 from rfl] at r1
      rw [e6] at m1 r1 ⊢
      have q1 := hF2.2.2.2.1
      rw [sw_hp_new] at hx2 q1 e3 e5
      unfold sp_xC at hx2
      unfold sp_bdC at q1
      have t1 : sw_at (sw_Z d) b_X1_mixCode 5 [some (.ref x), none, none, some (.long y), none, some (.int (nI p)), none] [] P = sw_at (sw_Z d) b_X1_mixCode 6 [some (.ref x), none, none, some (.long y), none, some (.int (nI p)), some (.int 0)] [] P := by
        rw [at_X1_mixCode_5]; simp only [ey_ld, sk_ld_s, ex_stl, ex_push, ex_sti, ex_goto, ey_gf, sk_gf_s, sk_v_s, ey_cv0, sk_c_s, ex_ic, ey_cv1, ex_ct, ex_iz, ex_na, ex_dup_i, ex_dup_r, ex_dup_n, ey_cv2, ey_ast, sk_ast_s, ey_cs2, ey_inc, sk_inc_s, ex_rv, sw_gl_0, sw_gl_s, sw_fx_n, sw_fx_i, sw_fx_r, sw_fx_0, sw_fx_l, sw_fx_d, sw_sl1_0, sw_sl1_1, sw_sl1_s, sw_no_0, sw_no_s, sw_no_e, sw_mk_t, sw_mk_f, sw_mk_e, sw_en_0, sw_en_n, sw_en_i, sw_en_r, sw_en_z, sw_en_l, sw_en_d, sw_ok_0, sw_ok_1, sw_ok_2, sw_ok_3, sw_ok_4, sw_bo_s, sw_oi_s, sw_cl_s, sw_cl_x, sw_psh_s, sw_psh_n, sw_kd_s, sw_op_s, sw_oc_s, sw_oc_e, sw_oa_s, sw_el_n, sw_el_r, sl_kds_1, sl_kds_67, sw_fit_i, sw_fit_r, sw_fit_n, sw_fit_l, sw_fit_d, sw_fit_b, sw_fit_0, sw_fit_1, sw_rel_0, sw_rel_1, sw_rel_2, sw_rel_3, sw_rel_4, sw_rel_5, sw_hp_set, sw_nx_set, sw_sl_set, sw_ev_set, sw_hp_new, sw_nx_new, sw_sl_new, sw_ev_new, List.getElem?_cons_zero, List.getElem?_cons_succ, List.set_cons_zero, List.set_cons_succ, List.length_cons, List.length_nil, Nat.reduceAdd, Nat.reduceSub, Nat.reduceLT, Nat.reduceLeDiff, Nat.zero_lt_succ, Nat.zero_add, beq_self_eq_true, Bool.true_and, and_true, true_and, and_self, not_true_eq_false, not_false_eq_true, ↓reduceIte, Nat.reduceBEq, eq_self, sw_b_0, sw_b_1, decide_eq_false_iff_not, decide_eq_true_eq, sl_n10, sl_n01, Decidable.not_not, sl_ct, sl_cats_0, sl_cats_i, sl_cats_r, sl_cats_n, sl_cats_l, sl_ok_5, sl_ok9, decide_true, sp_machC, sp_nodeC, sp_opC, sl_z0, sl_z1, sl_z2, sl_z3, sl_z4, sl_z5, sl_z6, sl_z7, sl_c0, sl_c1, sl_c2, sl_c3, sl_c4, sl_c5, sl_c6, sl_c7, List.length_map, sp_lifeC, sp_inC, sp_rnC, hx, sp_xC, hF.2.2.2.1, sp_bdC, s1, s3, eq_false e2]
      rw [t1, r1]
      rw [at_X1_mixCode_7]; simp only [ey_ld, sk_ld_s, ex_stl, ex_push, ex_sti, ex_goto, ey_gf, sk_gf_s, sk_v_s, ey_cv0, sk_c_s, ex_ic, ey_cv1, ex_ct, ex_iz, ex_dup_i, ex_dup_r, ex_dup_n, ey_cv2, ey_ast, sk_ast_s, ey_cs2, ey_inc, sk_inc_s, ex_rv, sw_gl_0, sw_gl_s, sw_fx_n, sw_fx_i, sw_fx_r, sw_fx_0, sw_fx_l, sw_fx_d, sw_sl1_0, sw_sl1_1, sw_sl1_s, sw_no_0, sw_no_s, sw_no_e, sw_mk_t, sw_mk_f, sw_mk_e, sw_en_0, sw_en_n, sw_en_i, sw_en_r, sw_en_z, sw_en_l, sw_en_d, sw_ok_0, sw_ok_1, sw_ok_2, sw_ok_3, sw_ok_4, sw_bo_s, sw_oi_s, sw_cl_s, sw_cl_x, sw_psh_s, sw_psh_n, sw_kd_s, sw_op_s, sw_oc_s, sw_oc_e, sw_oa_s, sw_el_n, sw_el_r, sl_kds_1, sl_kds_67, sw_fit_i, sw_fit_r, sw_fit_n, sw_fit_l, sw_fit_d, sw_fit_b, sw_fit_0, sw_fit_1, sw_rel_0, sw_rel_1, sw_rel_2, sw_rel_3, sw_rel_4, sw_rel_5, sw_hp_set, sw_nx_set, sw_sl_set, sw_ev_set, sw_hp_new, sw_nx_new, sw_sl_new, sw_ev_new, List.getElem?_cons_zero, List.getElem?_cons_succ, List.set_cons_zero, List.set_cons_succ, List.length_cons, List.length_nil, Nat.reduceAdd, Nat.reduceSub, Nat.reduceLT, Nat.reduceLeDiff, Nat.zero_lt_succ, Nat.zero_add, beq_self_eq_true, Bool.true_and, and_true, true_and, and_self, not_true_eq_false, not_false_eq_true, ↓reduceIte, Nat.reduceBEq, eq_self, sw_b_0, sw_b_1, decide_eq_false_iff_not, decide_eq_true_eq, sl_n10, sl_n01, Decidable.not_not, sl_ct, sl_cats_0, sl_cats_i, sl_cats_r, sl_cats_n, sl_cats_l, sl_ok_5, sl_ok9, decide_true, sp_machC, sp_nodeC, sp_opC, sl_z0, sl_z1, sl_z2, sl_z3, sl_z4, sl_z5, sl_z6, sl_z7, sl_c0, sl_c1, sl_c2, sl_c3, sl_c4, sl_c5, sl_c6, sl_c7, List.length_map, sp_lifeC, sp_inC, sp_rnC, ex_na64_1, sl_vt64, hx2, q1, e3, e4, e5, sp_inC, sl_kds_1, m1, nI_1]
  have hloop : ∀ j p, p + j = b.1.length → ∀ c s P y, sl_st ev c s P (sl_cs ev x bd mach l pa N B T out m L b ++ F) →
      ∃ P', sw_at (sw_Z d) b_X1_mixCode 1 [some (.ref x), none, none, some (.long y), none, some (.int (nI p)), none] [] P = some (.inl (some (.long (sp_mix y (sp_fm (sp_callV b) j p ++ sp_fm (sp_codeV b) b.2.2.1.length 0)))), P') ∧ sl_st ev (c + ((sp_fm (sp_callV b) j p).length + 7 * b.2.2.1.length)) (s + ((sp_fm (sp_callV b) j p).length + 7 * b.2.2.1.length)) P' (sl_cs ev x bd mach l pa N B T out m L b ++ F) := by
    intro j
    induction j with
    | zero =>
      intro p hp c s P y h
      obtain ⟨hx, hm, hp', ol, lv, cl, rn, ca, rq, ra, rb, rs, M, Rw, K, hF⟩ := sl_cs_rd h
      obtain ⟨k1, k2⟩ := sp_lv_olkd hF.2.2.2.2.1 (d := d) (by omega)
      have hMl : M.length = b.1.length := by rw [← hF.1, List.length_map]
      obtain ⟨hok, -⟩ := hb.1 M Rw hF.1 hF.2.1
      have hM := hok.1
      rw [hMl] at k2
      have e2 : nI b.1.length ≤ nI p := nI_le (by omega) (by omega)
      obtain ⟨P', r1, g1⟩ := hloop2 b.2.2.1.length 0 (by omega) c s P y h
      refine ⟨P', ?_, g1.wk (by show c + _ ≤ c + (0 + _); omega) (by show s + _ ≤ s + (0 + _); omega)⟩
      rw [show sp_fm (sp_callV b) 0 p ++ sp_fm (sp_codeV b) b.2.2.1.length 0 = sp_fm (sp_codeV b) b.2.2.1.length 0 from rfl, ← r1, show (nI 0 : Int32) = 0 from rfl]
      rw [at_X1_mixCode_1]; simp only [at_X1_mixCode_4, ey_ld, sk_ld_s, ex_stl, ex_push, ex_sti, ex_goto, ey_gf, sk_gf_s, sk_v_s, ey_cv0, sk_c_s, ex_ic, ey_cv1, ex_ct, ex_iz, ex_na, ex_dup_i, ex_dup_r, ex_dup_n, ey_cv2, ey_ast, sk_ast_s, ey_cs2, ey_inc, sk_inc_s, ex_rv, sw_gl_0, sw_gl_s, sw_fx_n, sw_fx_i, sw_fx_r, sw_fx_0, sw_fx_l, sw_fx_d, sw_sl1_0, sw_sl1_1, sw_sl1_s, sw_no_0, sw_no_s, sw_no_e, sw_mk_t, sw_mk_f, sw_mk_e, sw_en_0, sw_en_n, sw_en_i, sw_en_r, sw_en_z, sw_en_l, sw_en_d, sw_ok_0, sw_ok_1, sw_ok_2, sw_ok_3, sw_ok_4, sw_bo_s, sw_oi_s, sw_cl_s, sw_cl_x, sw_psh_s, sw_psh_n, sw_kd_s, sw_op_s, sw_oc_s, sw_oc_e, sw_oa_s, sw_el_n, sw_el_r, sl_kds_1, sl_kds_67, sw_fit_i, sw_fit_r, sw_fit_n, sw_fit_l, sw_fit_d, sw_fit_b, sw_fit_0, sw_fit_1, sw_rel_0, sw_rel_1, sw_rel_2, sw_rel_3, sw_rel_4, sw_rel_5, sw_hp_set, sw_nx_set, sw_sl_set, sw_ev_set, sw_hp_new, sw_nx_new, sw_sl_new, sw_ev_new, List.getElem?_cons_zero, List.getElem?_cons_succ, List.set_cons_zero, List.set_cons_succ, List.length_cons, List.length_nil, Nat.reduceAdd, Nat.reduceSub, Nat.reduceLT, Nat.reduceLeDiff, Nat.zero_lt_succ, Nat.zero_add, beq_self_eq_true, Bool.true_and, and_true, true_and, and_self, not_true_eq_false, not_false_eq_true, ↓reduceIte, Nat.reduceBEq, eq_self, sw_b_0, sw_b_1, decide_eq_false_iff_not, decide_eq_true_eq, sl_n10, sl_n01, Decidable.not_not, sl_ct, sl_cats_0, sl_cats_i, sl_cats_r, sl_cats_n, sl_cats_l, sl_ok_5, sl_ok9, decide_true, sp_machC, sp_nodeC, sp_opC, sl_z0, sl_z1, sl_z2, sl_z3, sl_z4, sl_z5, sl_z6, sl_z7, sl_c0, sl_c1, sl_c2, sl_c3, sl_c4, sl_c5, sl_c6, sl_c7, List.length_map, sp_lifeC, sp_inC, sp_rnC, hx, sp_xC, hF.2.2.2.1, sp_bdC, k1, k2, eq_true e2]
    | succ j ih =>
      intro p hp c s P y h
      obtain ⟨hx, hm, hp', ol, lv, cl, rn, ca, rq, ra, rb, rs, M, Rw, K, hF⟩ := sl_cs_rd h
      obtain ⟨hok, -⟩ := hb.1 M Rw hF.1 hF.2.1
      obtain ⟨k1, k2⟩ := sp_lv_olkd hF.2.2.2.2.1 (d := d) (by omega)
      have hMl : M.length = b.1.length := by rw [← hF.1, List.length_map]
      have hM := hok.1
      rw [hMl] at k2
      have e2 : ¬ nI b.1.length ≤ nI p := nI_ge (by omega) (by omega)
      have hst : sp_fm (sp_callV b) (j + 1) p = sp_callV b p ++ sp_fm (sp_callV b) j (p + 1) := rfl
      rw [hst, List.append_assoc, sp_mix_app, List.length_append]
      have t1 : sw_at (sw_Z d) b_X1_mixCode 1 [some (.ref x), none, none, some (.long y), none, some (.int (nI p)), none] [] P = sw_at (sw_Z d) b_X1_mixCode 2 [some (.ref x), none, none, some (.long y), none, some (.int (nI p)), some (.int 0)] [] P := by
        rw [at_X1_mixCode_1]; simp only [ey_ld, sk_ld_s, ex_stl, ex_push, ex_sti, ex_goto, ey_gf, sk_gf_s, sk_v_s, ey_cv0, sk_c_s, ex_ic, ey_cv1, ex_ct, ex_iz, ex_na, ex_dup_i, ex_dup_r, ex_dup_n, ey_cv2, ey_ast, sk_ast_s, ey_cs2, ey_inc, sk_inc_s, ex_rv, sw_gl_0, sw_gl_s, sw_fx_n, sw_fx_i, sw_fx_r, sw_fx_0, sw_fx_l, sw_fx_d, sw_sl1_0, sw_sl1_1, sw_sl1_s, sw_no_0, sw_no_s, sw_no_e, sw_mk_t, sw_mk_f, sw_mk_e, sw_en_0, sw_en_n, sw_en_i, sw_en_r, sw_en_z, sw_en_l, sw_en_d, sw_ok_0, sw_ok_1, sw_ok_2, sw_ok_3, sw_ok_4, sw_bo_s, sw_oi_s, sw_cl_s, sw_cl_x, sw_psh_s, sw_psh_n, sw_kd_s, sw_op_s, sw_oc_s, sw_oc_e, sw_oa_s, sw_el_n, sw_el_r, sl_kds_1, sl_kds_67, sw_fit_i, sw_fit_r, sw_fit_n, sw_fit_l, sw_fit_d, sw_fit_b, sw_fit_0, sw_fit_1, sw_rel_0, sw_rel_1, sw_rel_2, sw_rel_3, sw_rel_4, sw_rel_5, sw_hp_set, sw_nx_set, sw_sl_set, sw_ev_set, sw_hp_new, sw_nx_new, sw_sl_new, sw_ev_new, List.getElem?_cons_zero, List.getElem?_cons_succ, List.set_cons_zero, List.set_cons_succ, List.length_cons, List.length_nil, Nat.reduceAdd, Nat.reduceSub, Nat.reduceLT, Nat.reduceLeDiff, Nat.zero_lt_succ, Nat.zero_add, beq_self_eq_true, Bool.true_and, and_true, true_and, and_self, not_true_eq_false, not_false_eq_true, ↓reduceIte, Nat.reduceBEq, eq_self, sw_b_0, sw_b_1, decide_eq_false_iff_not, decide_eq_true_eq, sl_n10, sl_n01, Decidable.not_not, sl_ct, sl_cats_0, sl_cats_i, sl_cats_r, sl_cats_n, sl_cats_l, sl_ok_5, sl_ok9, decide_true, sp_machC, sp_nodeC, sp_opC, sl_z0, sl_z1, sl_z2, sl_z3, sl_z4, sl_z5, sl_z6, sl_z7, sl_c0, sl_c1, sl_c2, sl_c3, sl_c4, sl_c5, sl_c6, sl_c7, List.length_map, sp_lifeC, sp_inC, sp_rnC, hx, sp_xC, hF.2.2.2.1, sp_bdC, k1, k2, eq_false e2]
      rw [t1]
      by_cases c1 : (b.1.getD p sp_oz).1 = 9
      · have hv : sp_callV b p = [sp_mapT b.1 b.2.1 p 0, sp_mapT b.1 b.2.1 p 1, sp_mapT b.1 b.2.1 p 2, sp_mapT b.1 b.2.1 p 3] := if_pos c1
        obtain ⟨P1, r1, g1⟩ := jc_X1_mixCode2 (d := d) (p := p) (by omega) hb (by omega) c1 4 0 (by omega) c s P y h
        obtain ⟨P', r2, g2⟩ := ih (p + 1) (by omega) _ _ P1 _ g1
        rw [hv]
        refine ⟨P', ?_, g2.wk (by show _ ≤ c + (4 + _ + _); omega) (by show _ ≤ s + (4 + _ + _); omega)⟩
        rw [← r2]
        rw [List.drop_zero, show (nI 0 : Int32) = 0 from rfl] at r1
        rw [← r1]
      · have hv : sp_callV b p = [] := if_neg c1
        obtain ⟨P', r2, g2⟩ := ih (p + 1) (by omega) c s P y h
        rw [hv]
        refine ⟨P', ?_, g2.wk (by show _ ≤ c + (0 + _ + _); omega) (by show _ ≤ s + (0 + _ + _); omega)⟩
        rw [show sp_mix y [] = y from rfl, ← r2]
        have ex : M[p]? = some M[p] := List.getElem?_eq_getElem (by omega)
        have e4 := jc_J2_get (D := d) (by omega) hF.2.2.2.2.1.2.1 (sl_refs_at ex) (by rw [List.length_map]; omega)
        obtain ⟨r, f1, f2⟩ := sl_rd_ops hF.2.2.2.2.1.2.2.1 ex
        have e5 := jc_X7_is (D := d) (k := 9) (by omega) f1
        have e6 : b.1.getD p sp_oz = M[p].2 := by rw [← hF.1]; exact sp_getD (by rw [List.getElem?_map, ex]; rfl)
        rw [e6] at c1
        rw [decide_eq_false c1, sw_b_f] at e5
        rw [at_X1_mixCode_2]; simp only [at_X1_mixCode_3, ey_ld, sk_ld_s, ex_stl, ex_push, ex_sti, ex_goto, ey_gf, sk_gf_s, sk_v_s, ey_cv0, sk_c_s, ex_ic, ey_cv1, ex_ct, ex_iz, ex_na, ex_dup_i, ex_dup_r, ex_dup_n, ey_cv2, ey_ast, sk_ast_s, ey_cs2, ey_inc, sk_inc_s, ex_rv, sw_gl_0, sw_gl_s, sw_fx_n, sw_fx_i, sw_fx_r, sw_fx_0, sw_fx_l, sw_fx_d, sw_sl1_0, sw_sl1_1, sw_sl1_s, sw_no_0, sw_no_s, sw_no_e, sw_mk_t, sw_mk_f, sw_mk_e, sw_en_0, sw_en_n, sw_en_i, sw_en_r, sw_en_z, sw_en_l, sw_en_d, sw_ok_0, sw_ok_1, sw_ok_2, sw_ok_3, sw_ok_4, sw_bo_s, sw_oi_s, sw_cl_s, sw_cl_x, sw_psh_s, sw_psh_n, sw_kd_s, sw_op_s, sw_oc_s, sw_oc_e, sw_oa_s, sw_el_n, sw_el_r, sl_kds_1, sl_kds_67, sw_fit_i, sw_fit_r, sw_fit_n, sw_fit_l, sw_fit_d, sw_fit_b, sw_fit_0, sw_fit_1, sw_rel_0, sw_rel_1, sw_rel_2, sw_rel_3, sw_rel_4, sw_rel_5, sw_hp_set, sw_nx_set, sw_sl_set, sw_ev_set, sw_hp_new, sw_nx_new, sw_sl_new, sw_ev_new, List.getElem?_cons_zero, List.getElem?_cons_succ, List.set_cons_zero, List.set_cons_succ, List.length_cons, List.length_nil, Nat.reduceAdd, Nat.reduceSub, Nat.reduceLT, Nat.reduceLeDiff, Nat.zero_lt_succ, Nat.zero_add, beq_self_eq_true, Bool.true_and, and_true, true_and, and_self, not_true_eq_false, not_false_eq_true, ↓reduceIte, Nat.reduceBEq, eq_self, sw_b_0, sw_b_1, decide_eq_false_iff_not, decide_eq_true_eq, sl_n10, sl_n01, Decidable.not_not, sl_ct, sl_cats_0, sl_cats_i, sl_cats_r, sl_cats_n, sl_cats_l, sl_ok_5, sl_ok9, decide_true, sp_machC, sp_nodeC, sp_opC, sl_z0, sl_z1, sl_z2, sl_z3, sl_z4, sl_z5, sl_z6, sl_z7, sl_c0, sl_c1, sl_c2, sl_c3, sl_c4, sl_c5, sl_c6, sl_c7, List.length_map, sp_lifeC, sp_inC, sp_rnC, hx, sp_xC, hF.2.2.2.1, sp_bdC, k1, e4, f1, sp_opC, e5, sl_kds_1, nI_1, show ((3 : Int32) < 0) = False by decide]
  obtain ⟨P', r1, r2⟩ := hloop b.1.length 0 (by omega) c s P y h
  refine ⟨P', ?_, r2⟩
  rw [show (nI 0 : Int32) = 0 from rfl] at r1
  rw [M_X1_mixCode _ _ _ rfl]; simp only [at_X1_mixCode_0, ey_ld, sk_ld_s, ex_stl, ex_push, ex_sti, ex_goto, ey_gf, sk_gf_s, sk_v_s, ey_cv0, sk_c_s, ex_ic, ey_cv1, ex_ct, ex_iz, ex_na, ex_dup_i, ex_dup_r, ex_dup_n, ey_cv2, ey_ast, sk_ast_s, ey_cs2, ey_inc, sk_inc_s, ex_rv, sw_gl_0, sw_gl_s, sw_fx_n, sw_fx_i, sw_fx_r, sw_fx_0, sw_fx_l, sw_fx_d, sw_sl1_0, sw_sl1_1, sw_sl1_s, sw_no_0, sw_no_s, sw_no_e, sw_mk_t, sw_mk_f, sw_mk_e, sw_en_0, sw_en_n, sw_en_i, sw_en_r, sw_en_z, sw_en_l, sw_en_d, sw_ok_0, sw_ok_1, sw_ok_2, sw_ok_3, sw_ok_4, sw_bo_s, sw_oi_s, sw_cl_s, sw_cl_x, sw_psh_s, sw_psh_n, sw_kd_s, sw_op_s, sw_oc_s, sw_oc_e, sw_oa_s, sw_el_n, sw_el_r, sl_kds_1, sl_kds_67, sw_fit_i, sw_fit_r, sw_fit_n, sw_fit_l, sw_fit_d, sw_fit_b, sw_fit_0, sw_fit_1, sw_rel_0, sw_rel_1, sw_rel_2, sw_rel_3, sw_rel_4, sw_rel_5, sw_hp_set, sw_nx_set, sw_sl_set, sw_ev_set, sw_hp_new, sw_nx_new, sw_sl_new, sw_ev_new, List.getElem?_cons_zero, List.getElem?_cons_succ, List.set_cons_zero, List.set_cons_succ, List.length_cons, List.length_nil, Nat.reduceAdd, Nat.reduceSub, Nat.reduceLT, Nat.reduceLeDiff, Nat.zero_lt_succ, Nat.zero_add, beq_self_eq_true, Bool.true_and, and_true, true_and, and_self, not_true_eq_false, not_false_eq_true, ↓reduceIte, Nat.reduceBEq, eq_self, sw_b_0, sw_b_1, decide_eq_false_iff_not, decide_eq_true_eq, sl_n10, sl_n01, Decidable.not_not, sl_ct, sl_cats_0, sl_cats_i, sl_cats_r, sl_cats_n, sl_cats_l, sl_ok_5, sl_ok9, decide_true, sp_machC, sp_nodeC, sp_opC, sl_z0, sl_z1, sl_z2, sl_z3, sl_z4, sl_z5, sl_z6, sl_z7, sl_c0, sl_c1, sl_c2, sl_c3, sl_c4, sl_c5, sl_c6, sl_c7, List.length_map, sp_lifeC, sp_inC, sp_rnC]
  exact r1
end
