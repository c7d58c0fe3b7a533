/-! ===== the component's choosing: the recursion's step ===== -/
section
variable {ev : Nat → Nat} {ch mach ca ol l : Nat} {pa : sp_PA} {N : List (Nat × sp_Node)} {B : List sp_Blk} {T L cs : List Int32} {out b : Int32} {m : sp_Mach}
def sp_emI (ev : Nat → Nat) (ch mach ca ol l : Nat) (pa : sp_PA) (N : List (Nat × sp_Node)) (B : List sp_Blk) (T L cs : List Int32) (out b : Int32) (m : sp_Mach) (f : Nat) : Prop := ∀ i t D c s v O P F, (∃ q, q < f ∧ q < (N.map (·.2)).length ∧ i = nI q) → 3 * f + 14 ≤ D → O.length + (sp_em (N.map (·.2)) m L cs b f i t v).1.length < 999 → sp_EmS ev ch ol (fun v => sp_chC pa mach ca ol v b) (sl_ctx ev ca cs mach m l L pa N B T out ++ F) c s P v O → sp_EmR ev ch ol (fun v => sp_chC pa mach ca ol v b) (sl_ctx ev ca cs mach m l L pa N B T out ++ F) c s O (sp_em (N.map (·.2)) m L cs b f i t v) (sw_Z D m_X5_emit [.ref ch, .int i, .int t] P)
theorem sp_len {A : List (Nat × sp_Op)} {x : List sp_Op} (h : A.map (·.2) = x) : A.length = x.length := by rw [← h, List.length_map]
theorem jc_X5_emitFused {f D c s j : Nat} {P : sw_P} {t v : Int32} {O : List (Nat × sp_Op)} {F : List sl_A} (hg : sp_good (N.map (·.2)) m L cs) (hj : j < f + 1) (hjN : j < N.length)
    (ih : sp_emI ev ch mach ca ol l pa N B T L cs out b m f)
    (hD : 3 * f + 16 ≤ D) (h2 : 2 ≤ (sp_nd (N.map (·.2)) (nI j)).1) (c1 : ¬ sp_cg cs (nI j) = sp_plainC L cs (sp_nd (N.map (·.2)) (nI j))) (c2 : ¬ sp_cg cs (nI j) = sp_smallC (N.map (·.2)) m L cs (sp_nd (N.map (·.2)) (nI j)))
    (hl : O.length + (sp_em (N.map (·.2)) m L cs b (f + 1) (nI j) t v).1.length < 999) (h : sp_EmS ev ch ol (fun v => sp_chC pa mach ca ol v b) (sl_ctx ev ca cs mach m l L pa N B T out ++ F) c s P v O) :
    sp_EmR ev ch ol (fun v => sp_chC pa mach ca ol v b) (sl_ctx ev ca cs mach m l L pa N B T out ++ F) c s O (sp_em (N.map (·.2)) m L cs b (f + 1) (nI j) t v) (sw_Z D m_X5_emitFused [.ref ch, .ref N[j].1, .int t] P) := by
  obtain ⟨d, hDe, hDn⟩ := sw_dep hD; subst hDe; replace hD := hDn; clear hDn
  have hjn : j < (N.map (·.2)).length := by rw [List.length_map]; exact hjN
  obtain ⟨ka, kb⟩ := sp_ok_kids hg.1 hj hjn h2
  have hx := sp_ok_at hg.1 ⟨j, hjn, rfl⟩
  have n0 : ∀ {P v}, sp_cx ev (sw_hp P) ch mach ca ol pa N B T out m L cs v b → sw_hp P N[j].1 = some (sp_nodeC ev (sp_nd (N.map (·.2)) (nI j))) := fun h => (jc_X5_atN (D := 5) (Nat.le_refl _) h hg.1 hjN).2
  have c3 := sp_cost_fused h2 (hg.2.2.2 _ ⟨j, hjn, rfl⟩) c1 c2
  unfold sp_em at hl ⊢
  rw [if_neg (show ¬ (sp_nd (N.map (·.2)) (nI j)).1 = 1 by omega), if_neg (show ¬ (sp_nd (N.map (·.2)) (nI j)).1 = 0 by omega), if_neg c1, if_neg c2] at hl ⊢
  generalize sp_nd (N.map (·.2)) (nI j) = x at *
  obtain ⟨kpa, kpb⟩ := sp_fused_kid hg.1 ka kb c3
  have hpi := (sp_fused_ix hx c3).1
  have hb := sl_st.bs h
  have ef := jc_X5_fused (D := d) (by omega) hb h.cx hg.1 (n0 h.cx) hx
  have hP := n0 h.cx
  have hcP := h.cx.1
  dsimp only at hl ⊢
  generalize hp : sp_fused (N.map (·.2)) m x = p at *
  by_cases c4 : p = x.2.2.1
  · rw [if_pos c4] at hl ⊢
    dsimp only at hl ⊢
    simp only [List.length_append] at hl
    obtain ⟨P0, A0, r0, a0, s0⟩ := jc_X5_value (D := d) hg ka ih (by omega) (by omega) h
    have l0 := sp_len a0
    obtain ⟨pa1, p1, p2⟩ := jc_X5_at (D := d) (by omega) s0.cx hg.1 hpi
    obtain ⟨P1, A1, r1, a1, s1⟩ := jc_X5_value (D := d) hg kpa ih (by omega) (by rw [List.length_append]; omega) s0
    have l1 := sp_len a1
    obtain ⟨pa2, p3, p4⟩ := jc_X5_at (D := d) (by omega) s1.cx hg.1 hpi
    obtain ⟨P2, A2, r2, a2, s2⟩ := jc_X5_value (D := d) hg kpb ih (by omega) (by rw [List.length_append, List.length_append]; omega) s1
    have l2 := sp_len a2
    have hb2 := sl_st.bs s2
    have q := sl_st.new s2 (64, [.int (sp_valW (N.map (·.2)) (sp_em (N.map (·.2)) m L cs b f) (sp_nd (N.map (·.2)) p).2.1 (sp_valW (N.map (·.2)) (sp_em (N.map (·.2)) m L cs b f) x.2.1 v).2.1).2.2, .int (sp_valW (N.map (·.2)) (sp_em (N.map (·.2)) m L cs b f) (sp_nd (N.map (·.2)) p).2.2.1 (sp_valW (N.map (·.2)) (sp_em (N.map (·.2)) m L cs b f) (sp_nd (N.map (·.2)) p).2.1 (sp_valW (N.map (·.2)) (sp_em (N.map (·.2)) m L cs b f) x.2.1 v).2.1).2.1).2.2, .int (sp_valW (N.map (·.2)) (sp_em (N.map (·.2)) m L cs b f) x.2.1 v).2.2])
    obtain ⟨P3, A3, r3, a3, s3⟩ := jc_X5_emit_2 (D := d) (k := 6) (t := t) (n := 0) (rs := [_, _, _]) (by omega) q (by simp only [List.length_append]; simp only [sp_add, List.length_cons, List.length_nil] at hl; omega) (by simp)
    have hcn := sl_ne_nx s2.cx.1 s2.2.2.2.1
    have hc0 := s0.cx.1
    have hc1 := s1.cx.1
    have hc2 := s2.cx.1
    refine ⟨P3, A0 ++ A1 ++ A2 ++ A3, ?_, ?_, ?_⟩
    · rw [M_X5_emitFused _ _ _ rfl]; simp only [at_X5_emitFused_0, at_X5_emitFused_1, at_X5_emitFused_2, at_X5_emitFused_3, at_X5_emitFused_4, at_X5_emitFused_5, at_X5_emitFused_6, ey_ld, sk_ld_s, ey_cv1, sk_c_s, ex_sti, ey_gf, sk_gf_s, sk_v_s, ex_ic, ex_push, ex_goto, ex_iz, ex_dup_i, ex_dup_r, ex_dup_n, ey_ast, sk_ast_s, ey_cv4, ex_rv, sw_gl_0, sw_gl_s, sw_fx_n, sw_fx_i, sw_fx_r, sw_fx_0, sw_fx_l, sw_fx_d, sw_sl1_0, sw_sl1_1, sw_sl1_s, sw_no_0, sw_no_s, sw_no_e, sw_mk_t, sw_mk_f, sw_mk_e, sw_en_0, sw_en_n, sw_en_i, sw_en_r, sw_en_z, sw_en_l, sw_en_d, sw_ok_0, sw_ok_1, sw_ok_2, sw_ok_3, sw_ok_4, sw_bo_s, sw_oi_s, sw_cl_s, sw_cl_x, sw_psh_s, sw_psh_n, sw_kd_s, sw_op_s, sw_oc_s, sw_oc_e, sw_oa_s, sw_el_n, sw_el_r, sl_kds_1, sl_kds_67, sw_fit_i, sw_fit_r, sw_fit_n, sw_fit_l, sw_fit_d, sw_fit_b, sw_fit_0, sw_fit_1, sw_rel_0, sw_rel_1, sw_rel_2, sw_rel_3, sw_rel_4, sw_rel_5, sw_hp_set, sw_nx_set, sw_sl_set, sw_ev_set, sw_hp_new, sw_nx_new, sw_sl_new, sw_ev_new, List.getElem?_cons_zero, List.getElem?_cons_succ, List.set_cons_zero, List.set_cons_succ, List.length_cons, List.length_nil, Nat.reduceAdd, Nat.reduceSub, Nat.reduceLT, Nat.reduceLeDiff, Nat.zero_lt_succ, Nat.zero_add, beq_self_eq_true, Bool.true_and, and_true, true_and, and_self, not_true_eq_false, not_false_eq_true, ↓reduceIte, Nat.reduceBEq, eq_self, sw_b_0, sw_b_1, decide_eq_false_iff_not, decide_eq_true_eq, sl_n10, sl_n01, Decidable.not_not, sl_ct, sl_cats_0, sl_cats_i, sl_cats_r, sl_cats_n, sl_cats_l, sl_ok_5, sl_ok9, decide_true, sp_machC, sp_nodeC, sp_opC, sl_z0, sl_z1, sl_z2, sl_z3, sl_z4, sl_z5, sl_z6, sl_z7, sl_c0, sl_c1, sl_c2, sl_c3, sl_c4, sl_c5, sl_c6, sl_c7, hcP, hc0, hc1, hc2, sp_chC, hP, ef, eq_true c4, r0, r1, r2, p1, p2, p3, p4, ex_na64_3, sl_vt64, sw_set_new, hcn, r3]
    · simp only [List.map_append, a0, a1, a2, a3]
    · simp only [List.append_assoc] at s3 ⊢
      exact s3
  · rw [if_neg c4] at hl ⊢
    dsimp only at hl ⊢
    simp only [List.length_append] at hl
    obtain ⟨pa1, p1, p2⟩ := jc_X5_at (D := d) (by omega) h.cx hg.1 hpi
    obtain ⟨P1, A1, r1, a1, s1⟩ := jc_X5_value (D := d) hg kpa ih (by omega) (by omega) h
    have l1 := sp_len a1
    obtain ⟨pa2, p3, p4⟩ := jc_X5_at (D := d) (by omega) s1.cx hg.1 hpi
    obtain ⟨P2, A2, r2, a2, s2⟩ := jc_X5_value (D := d) hg kpb ih (by omega) (by rw [List.length_append]; omega) s1
    have l2 := sp_len a2
    obtain ⟨P0, A0, r0, a0, s0⟩ := jc_X5_value (D := d) hg kb ih (by omega) (by rw [List.length_append, List.length_append]; omega) s2
    have l0 := sp_len a0
    have hP2 := n0 s2.cx
    have q := sl_st.new s0 (64, [.int (sp_valW (N.map (·.2)) (sp_em (N.map (·.2)) m L cs b f) (sp_nd (N.map (·.2)) p).2.1 v).2.2, .int (sp_valW (N.map (·.2)) (sp_em (N.map (·.2)) m L cs b f) (sp_nd (N.map (·.2)) p).2.2.1 (sp_valW (N.map (·.2)) (sp_em (N.map (·.2)) m L cs b f) (sp_nd (N.map (·.2)) p).2.1 v).2.1).2.2, .int (sp_valW (N.map (·.2)) (sp_em (N.map (·.2)) m L cs b f) x.2.2.1 (sp_valW (N.map (·.2)) (sp_em (N.map (·.2)) m L cs b f) (sp_nd (N.map (·.2)) p).2.2.1 (sp_valW (N.map (·.2)) (sp_em (N.map (·.2)) m L cs b f) (sp_nd (N.map (·.2)) p).2.1 v).2.1).2.1).2.2])
    obtain ⟨P3, A3, r3, a3, s3⟩ := jc_X5_emit_2 (D := d) (k := 6) (t := t) (n := 0) (rs := [_, _, _]) (by omega) q (by simp only [List.length_append]; simp only [sp_add, List.length_cons, List.length_nil] at hl; omega) (by simp)
    have hcn := sl_ne_nx s0.cx.1 s0.2.2.2.1
    have hc0 := s0.cx.1
    have hc1 := s1.cx.1
    have hc2 := s2.cx.1
    refine ⟨P3, A1 ++ A2 ++ A0 ++ A3, ?_, ?_, ?_⟩
    · rw [M_X5_emitFused _ _ _ rfl]; simp only [at_X5_emitFused_0, at_X5_emitFused_1, at_X5_emitFused_2, at_X5_emitFused_3, at_X5_emitFused_4, at_X5_emitFused_5, at_X5_emitFused_6, ey_ld, sk_ld_s, ey_cv1, sk_c_s, ex_sti, ey_gf, sk_gf_s, sk_v_s, ex_ic, ex_push, ex_goto, ex_iz, ex_dup_i, ex_dup_r, ex_dup_n, ey_ast, sk_ast_s, ey_cv4, ex_rv, sw_gl_0, sw_gl_s, sw_fx_n, sw_fx_i, sw_fx_r, sw_fx_0, sw_fx_l, sw_fx_d, sw_sl1_0, sw_sl1_1, sw_sl1_s, sw_no_0, sw_no_s, sw_no_e, sw_mk_t, sw_mk_f, sw_mk_e, sw_en_0, sw_en_n, sw_en_i, sw_en_r, sw_en_z, sw_en_l, sw_en_d, sw_ok_0, sw_ok_1, sw_ok_2, sw_ok_3, sw_ok_4, sw_bo_s, sw_oi_s, sw_cl_s, sw_cl_x, sw_psh_s, sw_psh_n, sw_kd_s, sw_op_s, sw_oc_s, sw_oc_e, sw_oa_s, sw_el_n, sw_el_r, sl_kds_1, sl_kds_67, sw_fit_i, sw_fit_r, sw_fit_n, sw_fit_l, sw_fit_d, sw_fit_b, sw_fit_0, sw_fit_1, sw_rel_0, sw_rel_1, sw_rel_2, sw_rel_3, sw_rel_4, sw_rel_5, sw_hp_set, sw_nx_set, sw_sl_set, sw_ev_set, sw_hp_new, sw_nx_new, sw_sl_new, sw_ev_new, List.getElem?_cons_zero, List.getElem?_cons_succ, List.set_cons_zero, List.set_cons_succ, List.length_cons, List.length_nil, Nat.reduceAdd, Nat.reduceSub, Nat.reduceLT, Nat.reduceLeDiff, Nat.zero_lt_succ, Nat.zero_add, beq_self_eq_true, Bool.true_and, and_true, true_and, and_self, not_true_eq_false, not_false_eq_true, ↓reduceIte, Nat.reduceBEq, eq_self, sw_b_0, sw_b_1, decide_eq_false_iff_not, decide_eq_true_eq, sl_n10, sl_n01, Decidable.not_not, sl_ct, sl_cats_0, sl_cats_i, sl_cats_r, sl_cats_n, sl_cats_l, sl_ok_5, sl_ok9, decide_true, sp_machC, sp_nodeC, sp_opC, sl_z0, sl_z1, sl_z2, sl_z3, sl_z4, sl_z5, sl_z6, sl_z7, sl_c0, sl_c1, sl_c2, sl_c3, sl_c4, sl_c5, sl_c6, sl_c7, hcP, hc0, hc1, hc2, sp_chC, hP, hP2, ef, eq_false c4, r0, r1, r2, p1, p2, p3, p4, ex_na64_3, sl_vt64, sw_set_new, hcn, r3]
    · simp only [List.map_append, a0, a1, a2, a3]
    · simp only [List.append_assoc] at s3 ⊢
      exact s3
theorem jc_X5_emit (hg : sp_good (N.map (·.2)) m L cs) : ∀ f, sp_emI ev ch mach ca ol l pa N B T L cs out b m f := by
  intro f
  induction f with
  | zero =>
    intro i t D c s v O P F hi
    obtain ⟨q, hq, -⟩ := hi
    omega
  | succ f ih =>
    intro i t D c s v O P F hi hD hl h
    obtain ⟨j, hj, hjn, rfl⟩ := hi
    have hjN : j < N.length := by rwa [List.length_map] at hjn
    obtain ⟨d, hDe, hDn⟩ := sw_dep hD; subst hDe; replace hD := hDn; clear hDn
    have hx := sp_ok_at hg.1 ⟨j, hjn, rfl⟩
    have hb := sl_st.bs h
    have n0 : ∀ {P v}, sp_cx ev (sw_hp P) ch mach ca ol pa N B T out m L cs v b → sw_hp P N[j].1 = some (sp_nodeC ev (sp_nd (N.map (·.2)) (nI j))) := fun h => (jc_X5_atN (D := 5) (Nat.le_refl _) h hg.1 hjN).2
    have eat := (jc_X5_atN (D := d) (by omega) h.cx hg.1 hjN).1
    have i1 := jc_X16_is (D := d) (j := 1) (by omega) hb (n0 h.cx) hx.1 (by decide)
    have i0 := jc_X16_is (D := d) (j := 0) (by omega) hb (n0 h.cx) hx.1 (by decide)
    have i3 := jc_X16_is (D := d) (j := 3) (by omega) hb (n0 h.cx) hx.1 (by decide)
    have hP := n0 h.cx
    have hcP := h.cx.1
    have hcn := sl_ne_nx h.cx.1 h.2.2.2.1
    have hpn := sl_ne_nx hP h.2.2.2.1
    by_cases k1 : (sp_nd (N.map (·.2)) (nI j)).1 = 1
    · unfold sp_em at hl ⊢
      rw [if_pos k1] at hl ⊢
      generalize sp_nd (N.map (·.2)) (nI j) = x at *
      have q := sl_st.new h (64, [.int x.2.1])
      obtain ⟨P3, A3, r3, a3, s3⟩ := jc_X5_emit_2 (D := d) (k := 1) (t := t) (n := 0) (rs := [_]) (by omega) q (by simp only [sp_add, List.length_cons, List.length_nil] at hl; omega) (by simp)
      refine ⟨P3, A3, ?_, a3, s3⟩
      rw [M_X5_emit _ _ _ rfl]; simp only [at_X5_emit_0, ey_ld, sk_ld_s, ey_cv1, sk_c_s, ex_sta, ex_sta_n, ex_gs, ex_iz, ex_push, ex_dup_i, ex_dup_r, ex_dup_n, ey_gf, sk_gf_s, sk_v_s, ey_ast, sk_ast_s, ey_cv4, ex_rv, ey_ald, sk_ald_s, ex_ic, ex_sti, ey_cs1, ex_in, ex_goto, ey_cv9, ey_cs2, ey_cv2, sw_gl_0, sw_gl_s, sw_fx_n, sw_fx_i, sw_fx_r, sw_fx_0, sw_fx_l, sw_fx_d, sw_sl1_0, sw_sl1_1, sw_sl1_s, sw_no_0, sw_no_s, sw_no_e, sw_mk_t, sw_mk_f, sw_mk_e, sw_en_0, sw_en_n, sw_en_i, sw_en_r, sw_en_z, sw_en_l, sw_en_d, sw_ok_0, sw_ok_1, sw_ok_2, sw_ok_3, sw_ok_4, sw_bo_s, sw_oi_s, sw_cl_s, sw_cl_x, sw_psh_s, sw_psh_n, sw_kd_s, sw_op_s, sw_oc_s, sw_oc_e, sw_oa_s, sw_el_n, sw_el_r, sl_kds_1, sl_kds_67, sw_fit_i, sw_fit_r, sw_fit_n, sw_fit_l, sw_fit_d, sw_fit_b, sw_fit_0, sw_fit_1, sw_rel_0, sw_rel_1, sw_rel_2, sw_rel_3, sw_rel_4, sw_rel_5, sw_hp_set, sw_nx_set, sw_sl_set, sw_ev_set, sw_hp_new, sw_nx_new, sw_sl_new, sw_ev_new, List.getElem?_cons_zero, List.getElem?_cons_succ, List.set_cons_zero, List.set_cons_succ, List.length_cons, List.length_nil, Nat.reduceAdd, Nat.reduceSub, Nat.reduceLT, Nat.reduceLeDiff, Nat.zero_lt_succ, Nat.zero_add, beq_self_eq_true, Bool.true_and, and_true, true_and, and_self, not_true_eq_false, not_false_eq_true, ↓reduceIte, Nat.reduceBEq, eq_self, sw_b_0, sw_b_1, decide_eq_false_iff_not, decide_eq_true_eq, sl_n10, sl_n01, Decidable.not_not, sl_ct, sl_cats_0, sl_cats_i, sl_cats_r, sl_cats_n, sl_cats_l, sl_ok_5, sl_ok9, decide_true, sp_machC, sp_nodeC, sp_opC, sl_z0, sl_z1, sl_z2, sl_z3, sl_z4, sl_z5, sl_z6, sl_z7, sl_c0, sl_c1, sl_c2, sl_c3, sl_c4, sl_c5, sl_c6, sl_c7, hcP, sp_chC, hP, hb.1, eat, i1, eq_true k1, decide_true, sw_b_t, ex_na64_1, sl_vt64, sw_set_new, hcn, hpn, r3]
    by_cases k0 : (sp_nd (N.map (·.2)) (nI j)).1 = 0
    · unfold sp_em at hl ⊢
      rw [if_neg k1, if_pos k0] at hl ⊢
      generalize sp_nd (N.map (·.2)) (nI j) = x at *
      have q := sl_st.new h (64, [])
      obtain ⟨P3, A3, r3, a3, s3⟩ := jc_X5_emit_2 (D := d) (k := 0) (t := t) (n := x.2.1) (rs := []) (by omega) q (by simp only [sp_add, List.length_cons, List.length_nil] at hl; omega) (by simp)
      refine ⟨P3, A3, ?_, a3, s3⟩
      rw [M_X5_emit _ _ _ rfl]; simp only [at_X5_emit_0, at_X5_emit_1, ey_ld, sk_ld_s, ey_cv1, sk_c_s, ex_sta, ex_sta_n, ex_gs, ex_iz, ex_push, ex_dup_i, ex_dup_r, ex_dup_n, ey_gf, sk_gf_s, sk_v_s, ey_ast, sk_ast_s, ey_cv4, ex_rv, ey_ald, sk_ald_s, ex_ic, ex_sti, ey_cs1, ex_in, ex_goto, ey_cv9, ey_cs2, ey_cv2, sw_gl_0, sw_gl_s, sw_fx_n, sw_fx_i, sw_fx_r, sw_fx_0, sw_fx_l, sw_fx_d, sw_sl1_0, sw_sl1_1, sw_sl1_s, sw_no_0, sw_no_s, sw_no_e, sw_mk_t, sw_mk_f, sw_mk_e, sw_en_0, sw_en_n, sw_en_i, sw_en_r, sw_en_z, sw_en_l, sw_en_d, sw_ok_0, sw_ok_1, sw_ok_2, sw_ok_3, sw_ok_4, sw_bo_s, sw_oi_s, sw_cl_s, sw_cl_x, sw_psh_s, sw_psh_n, sw_kd_s, sw_op_s, sw_oc_s, sw_oc_e, sw_oa_s, sw_el_n, sw_el_r, sl_kds_1, sl_kds_67, sw_fit_i, sw_fit_r, sw_fit_n, sw_fit_l, sw_fit_d, sw_fit_b, sw_fit_0, sw_fit_1, sw_rel_0, sw_rel_1, sw_rel_2, sw_rel_3, sw_rel_4, sw_rel_5, sw_hp_set, sw_nx_set, sw_sl_set, sw_ev_set, sw_hp_new, sw_nx_new, sw_sl_new, sw_ev_new, List.getElem?_cons_zero, List.getElem?_cons_succ, List.set_cons_zero, List.set_cons_succ, List.length_cons, List.length_nil, Nat.reduceAdd, Nat.reduceSub, Nat.reduceLT, Nat.reduceLeDiff, Nat.zero_lt_succ, Nat.zero_add, beq_self_eq_true, Bool.true_and, and_true, true_and, and_self, not_true_eq_false, not_false_eq_true, ↓reduceIte, Nat.reduceBEq, eq_self, sw_b_0, sw_b_1, decide_eq_false_iff_not, decide_eq_true_eq, sl_n10, sl_n01, Decidable.not_not, sl_ct, sl_cats_0, sl_cats_i, sl_cats_r, sl_cats_n, sl_cats_l, sl_ok_5, sl_ok9, decide_true, sp_machC, sp_nodeC, sp_opC, sl_z0, sl_z1, sl_z2, sl_z3, sl_z4, sl_z5, sl_z6, sl_z7, sl_c0, sl_c1, sl_c2, sl_c3, sl_c4, sl_c5, sl_c6, sl_c7, hcP, sp_chC, hP, hb.1, eat, i1, i0, eq_false k1, eq_true k0, decide_true, decide_false, sw_b_t, sw_b_f, ex_na64_0, hcn, hpn, r3]
    have h2 : 2 ≤ (sp_nd (N.map (·.2)) (nI j)).1 := by omega
    obtain ⟨ka, kb⟩ := sp_ok_kids hg.1 hj hjn h2
    have ep := jc_X5_plainCost (D := d) (by omega) hb h.cx hg.1 hg.2.1 hg.2.2.1 hP hx h2
    obtain ⟨g1, g2⟩ := sp_cg_at (cs := cs) hg.1.1 hg.2.1 ⟨j, hjn, rfl⟩
    have hca := h.cx.2.2.2
    by_cases c1 : sp_cg cs (nI j) = sp_plainC L cs (sp_nd (N.map (·.2)) (nI j))
    · unfold sp_em at hl ⊢
      rw [if_neg k1, if_neg k0, if_pos c1] at hl ⊢
      generalize sp_nd (N.map (·.2)) (nI j) = x at *
      dsimp only at hl ⊢
      simp only [List.length_append] at hl
      obtain ⟨P1, A1, r1, a1, s1⟩ := jc_X5_value (D := d) hg ka ih (by omega) (by omega) h
      have l1 := sp_len a1
      obtain ⟨P2, A2, r2, a2, s2⟩ := jc_X5_value (D := d) hg kb ih (by omega) (by rw [List.length_append]; omega) s1
      have l2 := sp_len a2
      have hP1 := n0 s1.cx
      have hP2 := n0 s2.cx
      have eo := jc_X5_opOf (D := d) (by omega) (sl_st.bs s2) hP2 hx.1
      have q := sl_st.new s2 (64, [.int (sp_valW (N.map (·.2)) (sp_em (N.map (·.2)) m L cs b f) x.2.1 v).2.2, .int (sp_valW (N.map (·.2)) (sp_em (N.map (·.2)) m L cs b f) x.2.2.1 (sp_valW (N.map (·.2)) (sp_em (N.map (·.2)) m L cs b f) x.2.1 v).2.1).2.2])
      obtain ⟨P3, A3, r3, a3, s3⟩ := jc_X5_emit_2 (D := d) (k := sp_opOf x) (t := t) (n := 0) (rs := [_, _]) (by omega) q (by simp only [List.length_append]; simp only [sp_add, List.length_cons, List.length_nil] at hl; omega) (by simp)
      have hcn2 := sl_ne_nx s2.cx.1 s2.2.2.2.1
      have hc1 := s1.cx.1
      have hc2 := s2.cx.1
      refine ⟨P3, A1 ++ A2 ++ A3, ?_, ?_, ?_⟩
      · rw [M_X5_emit _ _ _ rfl]; simp only [at_X5_emit_0, at_X5_emit_1, at_X5_emit_2, ey_ld, sk_ld_s, ey_cv1, sk_c_s, ex_sta, ex_sta_n, ex_gs, ex_iz, ex_push, ex_dup_i, ex_dup_r, ex_dup_n, ey_gf, sk_gf_s, sk_v_s, ey_ast, sk_ast_s, ey_cv4, ex_rv, ey_ald, sk_ald_s, ex_ic, ex_sti, ey_cs1, ex_in, ex_goto, ey_cv9, ey_cs2, ey_cv2, sw_gl_0, sw_gl_s, sw_fx_n, sw_fx_i, sw_fx_r, sw_fx_0, sw_fx_l, sw_fx_d, sw_sl1_0, sw_sl1_1, sw_sl1_s, sw_no_0, sw_no_s, sw_no_e, sw_mk_t, sw_mk_f, sw_mk_e, sw_en_0, sw_en_n, sw_en_i, sw_en_r, sw_en_z, sw_en_l, sw_en_d, sw_ok_0, sw_ok_1, sw_ok_2, sw_ok_3, sw_ok_4, sw_bo_s, sw_oi_s, sw_cl_s, sw_cl_x, sw_psh_s, sw_psh_n, sw_kd_s, sw_op_s, sw_oc_s, sw_oc_e, sw_oa_s, sw_el_n, sw_el_r, sl_kds_1, sl_kds_67, sw_fit_i, sw_fit_r, sw_fit_n, sw_fit_l, sw_fit_d, sw_fit_b, sw_fit_0, sw_fit_1, sw_rel_0, sw_rel_1, sw_rel_2, sw_rel_3, sw_rel_4, sw_rel_5, sw_hp_set, sw_nx_set, sw_sl_set, sw_ev_set, sw_hp_new, sw_nx_new, sw_sl_new, sw_ev_new, List.getElem?_cons_zero, List.getElem?_cons_succ, List.set_cons_zero, List.set_cons_succ, List.length_cons, List.length_nil, Nat.reduceAdd, Nat.reduceSub, Nat.reduceLT, Nat.reduceLeDiff, Nat.zero_lt_succ, Nat.zero_add, beq_self_eq_true, Bool.true_and, and_true, true_and, and_self, not_true_eq_false, not_false_eq_true, ↓reduceIte, Nat.reduceBEq, eq_self, sw_b_0, sw_b_1, decide_eq_false_iff_not, decide_eq_true_eq, sl_n10, sl_n01, Decidable.not_not, sl_ct, sl_cats_0, sl_cats_i, sl_cats_r, sl_cats_n, sl_cats_l, sl_ok_5, sl_ok9, decide_true, sp_machC, sp_nodeC, sp_opC, sl_z0, sl_z1, sl_z2, sl_z3, sl_z4, sl_z5, sl_z6, sl_z7, sl_c0, sl_c1, sl_c2, sl_c3, sl_c4, sl_c5, sl_c6, sl_c7, hcP, hc1, hc2, sp_chC, hP, hP1, hP2, hb.1, hca, eat, i1, i0, eq_false k1, eq_false k0, decide_false, sw_b_f, g1, g2, ep, eq_true c1, r1, r2, eo, ex_na64_2, sl_vt64, sw_set_new, hcn2, r3]
      · simp only [List.map_append, a1, a2, a3]
      · simp only [List.append_assoc] at s3 ⊢
        exact s3
    have es := jc_X5_smallCost (D := d) (by omega) hb h.cx hg.1 hg.2.1 hg.2.2.1 hP hx
    by_cases c2 : sp_cg cs (nI j) = sp_smallC (N.map (·.2)) m L cs (sp_nd (N.map (·.2)) (nI j))
    · have c3 := sp_cost_small h2 (hg.2.2.2 _ ⟨j, hjn, rfl⟩) c1 c2
      unfold sp_em at hl ⊢
      rw [if_neg k1, if_neg k0, if_neg c1, if_pos c2] at hl ⊢
      generalize sp_nd (N.map (·.2)) (nI j) = x at *
      dsimp only at hl ⊢
      simp only [List.length_append] at hl
      have ko := sp_small_kid (m := m) ka kb (sp_small (N.map (·.2)) m x)
      have esm := jc_X5_small (D := d) (by omega) hb h.cx hg.1 hP hx
      obtain ⟨p1, p2, p3⟩ := jc_X5_at (D := d) (by omega) h.cx hg.1 (sp_small_ix hx c3).1
      have q := sl_st.new h (64, [.int 0])
      have s0 := sp_EmS.hold (c := c + 1) (s := s + 1) (q.wk (by omega) (by simp only [List.length_cons, List.length_nil]; omega))
      have hP0 := n0 s0.cx
      have hc0 := s0.cx.1
      have esm0 := jc_X5_small (D := d) (by omega) (sl_st.bs s0) s0.cx hg.1 hP0 hx
      have eot := jc_X5_other (D := d) (i := sp_small (N.map (·.2)) m x) (by omega) hP0
      obtain ⟨P1, A1, r1, a1, s1⟩ := jc_X5_value (D := d) hg ko ih (by omega) (by omega) s0
      have l1 := sp_len a1
      have hc1 := s1.cx.1
      have s1' := s1.free
      have har := sl_st.get s1' 0 rfl
      have q2 := sl_st.set s1' 0 (64, [.int (sp_valW (N.map (·.2)) (sp_em (N.map (·.2)) m L cs b f) (sp_other x (sp_small (N.map (·.2)) m x)) v).2.2]) rfl
      have hna : ¬ ch = sw_nx P := hcn
      obtain ⟨P3, A3, r3, a3, s3⟩ := jc_X5_emit_2 (c := c) (s := s) (D := d) (k := 5) (t := t) (n := if x.1 = 3 then -(sp_nd (N.map (·.2)) (sp_small (N.map (·.2)) m x)).2.1 else (sp_nd (N.map (·.2)) (sp_small (N.map (·.2)) m x)).2.1) (rs := [_]) (by omega) (q2.wk (by omega) (by simp only [List.length_cons, List.length_nil]; omega)) (by simp only [List.length_append]; simp only [sp_add, List.length_cons, List.length_nil] at hl; omega) (by simp)
      refine ⟨P3, A1 ++ A3, ?_, ?_, ?_⟩
      · by_cases c4 : x.1 = 3
        · simp only [eq_true c4, if_true] at r3
          rw [M_X5_emit _ _ _ rfl]; simp only [at_X5_emit_0, at_X5_emit_1, at_X5_emit_2, at_X5_emit_3, at_X5_emit_4, at_X5_emit_5, ey_ld, sk_ld_s, ey_cv1, sk_c_s, ex_sta, ex_sta_n, ex_gs, ex_iz, ex_push, ex_dup_i, ex_dup_r, ex_dup_n, ey_gf, sk_gf_s, sk_v_s, ey_ast, sk_ast_s, ey_cv4, ex_rv, ey_ald, sk_ald_s, ex_ic, ex_sti, ey_cs1, ex_in, ex_goto, ey_cv9, ey_cs2, ey_cv2, sw_gl_0, sw_gl_s, sw_fx_n, sw_fx_i, sw_fx_r, sw_fx_0, sw_fx_l, sw_fx_d, sw_sl1_0, sw_sl1_1, sw_sl1_s, sw_no_0, sw_no_s, sw_no_e, sw_mk_t, sw_mk_f, sw_mk_e, sw_en_0, sw_en_n, sw_en_i, sw_en_r, sw_en_z, sw_en_l, sw_en_d, sw_ok_0, sw_ok_1, sw_ok_2, sw_ok_3, sw_ok_4, sw_bo_s, sw_oi_s, sw_cl_s, sw_cl_x, sw_psh_s, sw_psh_n, sw_kd_s, sw_op_s, sw_oc_s, sw_oc_e, sw_oa_s, sw_el_n, sw_el_r, sl_kds_1, sl_kds_67, sw_fit_i, sw_fit_r, sw_fit_n, sw_fit_l, sw_fit_d, sw_fit_b, sw_fit_0, sw_fit_1, sw_rel_0, sw_rel_1, sw_rel_2, sw_rel_3, sw_rel_4, sw_rel_5, sw_hp_set, sw_nx_set, sw_sl_set, sw_ev_set, sw_hp_new, sw_nx_new, sw_sl_new, sw_ev_new, List.getElem?_cons_zero, List.getElem?_cons_succ, List.set_cons_zero, List.set_cons_succ, List.length_cons, List.length_nil, Nat.reduceAdd, Nat.reduceSub, Nat.reduceLT, Nat.reduceLeDiff, Nat.zero_lt_succ, Nat.zero_add, beq_self_eq_true, Bool.true_and, and_true, true_and, and_self, not_true_eq_false, not_false_eq_true, ↓reduceIte, Nat.reduceBEq, eq_self, sw_b_0, sw_b_1, decide_eq_false_iff_not, decide_eq_true_eq, sl_n10, sl_n01, Decidable.not_not, sl_ct, sl_cats_0, sl_cats_i, sl_cats_r, sl_cats_n, sl_cats_l, sl_ok_5, sl_ok9, decide_true, sp_machC, sp_nodeC, sp_opC, sl_z0, sl_z1, sl_z2, sl_z3, sl_z4, sl_z5, sl_z6, sl_z7, sl_c0, sl_c1, sl_c2, sl_c3, sl_c4, sl_c5, sl_c6, sl_c7, hcP, hc0, hc1, sp_chC, hP, hP0, hb.1, hca, eat, i1, i0, i3, eq_false k1, eq_false k0, eq_true c4, decide_true, decide_false, sw_b_t, sw_b_f, g1, g2, ep, es, eq_false c1, eq_true c2, esm, p2, p3, ex_na64_1, esm0, eot, r1, har, sl_vt64, hcn, r3]
        · simp only [eq_false c4, if_false] at r3
          rw [M_X5_emit _ _ _ rfl]; simp only [at_X5_emit_0, at_X5_emit_1, at_X5_emit_2, at_X5_emit_3, at_X5_emit_4, at_X5_emit_5, ey_ld, sk_ld_s, ey_cv1, sk_c_s, ex_sta, ex_sta_n, ex_gs, ex_iz, ex_push, ex_dup_i, ex_dup_r, ex_dup_n, ey_gf, sk_gf_s, sk_v_s, ey_ast, sk_ast_s, ey_cv4, ex_rv, ey_ald, sk_ald_s, ex_ic, ex_sti, ey_cs1, ex_in, ex_goto, ey_cv9, ey_cs2, ey_cv2, sw_gl_0, sw_gl_s, sw_fx_n, sw_fx_i, sw_fx_r, sw_fx_0, sw_fx_l, sw_fx_d, sw_sl1_0, sw_sl1_1, sw_sl1_s, sw_no_0, sw_no_s, sw_no_e, sw_mk_t, sw_mk_f, sw_mk_e, sw_en_0, sw_en_n, sw_en_i, sw_en_r, sw_en_z, sw_en_l, sw_en_d, sw_ok_0, sw_ok_1, sw_ok_2, sw_ok_3, sw_ok_4, sw_bo_s, sw_oi_s, sw_cl_s, sw_cl_x, sw_psh_s, sw_psh_n, sw_kd_s, sw_op_s, sw_oc_s, sw_oc_e, sw_oa_s, sw_el_n, sw_el_r, sl_kds_1, sl_kds_67, sw_fit_i, sw_fit_r, sw_fit_n, sw_fit_l, sw_fit_d, sw_fit_b, sw_fit_0, sw_fit_1, sw_rel_0, sw_rel_1, sw_rel_2, sw_rel_3, sw_rel_4, sw_rel_5, sw_hp_set, sw_nx_set, sw_sl_set, sw_ev_set, sw_hp_new, sw_nx_new, sw_sl_new, sw_ev_new, List.getElem?_cons_zero, List.getElem?_cons_succ, List.set_cons_zero, List.set_cons_succ, List.length_cons, List.length_nil, Nat.reduceAdd, Nat.reduceSub, Nat.reduceLT, Nat.reduceLeDiff, Nat.zero_lt_succ, Nat.zero_add, beq_self_eq_true, Bool.true_and, and_true, true_and, and_self, not_true_eq_false, not_false_eq_true, ↓reduceIte, Nat.reduceBEq, eq_self, sw_b_0, sw_b_1, decide_eq_false_iff_not, decide_eq_true_eq, sl_n10, sl_n01, Decidable.not_not, sl_ct, sl_cats_0, sl_cats_i, sl_cats_r, sl_cats_n, sl_cats_l, sl_ok_5, sl_ok9, decide_true, sp_machC, sp_nodeC, sp_opC, sl_z0, sl_z1, sl_z2, sl_z3, sl_z4, sl_z5, sl_z6, sl_z7, sl_c0, sl_c1, sl_c2, sl_c3, sl_c4, sl_c5, sl_c6, sl_c7, hcP, hc0, hc1, sp_chC, hP, hP0, hb.1, hca, eat, i1, i0, i3, eq_false k1, eq_false k0, eq_false c4, decide_false, sw_b_f, g1, g2, ep, es, eq_false c1, eq_true c2, esm, p2, p3, ex_na64_1, esm0, eot, r1, har, sl_vt64, hcn, r3]
      · simp only [List.map_append, a1, a3]
      · simp only [List.append_assoc] at s3 ⊢
        exact s3
    · obtain ⟨P3, A3, r3, a3, s3⟩ := jc_X5_emitFused (D := d) hg hj hjN ih (by omega) h2 c1 c2 hl h
      refine ⟨P3, A3, ?_, a3, s3⟩
      rw [M_X5_emit _ _ _ rfl]; simp only [at_X5_emit_0, at_X5_emit_1, at_X5_emit_2, at_X5_emit_3, at_X5_emit_6, ey_ld, sk_ld_s, ey_cv1, sk_c_s, ex_sta, ex_sta_n, ex_gs, ex_iz, ex_push, ex_na, ex_dup_i, ex_dup_r, ex_dup_n, ey_gf, sk_gf_s, sk_v_s, ey_ast, sk_ast_s, ey_cv4, ex_rv, ey_ald, sk_ald_s, ex_ic, ex_sti, ey_cs1, ex_in, ex_goto, ey_cv9, ey_cs2, ey_cv2, sw_gl_0, sw_gl_s, sw_fx_n, sw_fx_i, sw_fx_r, sw_fx_0, sw_fx_l, sw_fx_d, sw_sl1_0, sw_sl1_1, sw_sl1_s, sw_no_0, sw_no_s, sw_no_e, sw_mk_t, sw_mk_f, sw_mk_e, sw_en_0, sw_en_n, sw_en_i, sw_en_r, sw_en_z, sw_en_l, sw_en_d, sw_ok_0, sw_ok_1, sw_ok_2, sw_ok_3, sw_ok_4, sw_bo_s, sw_oi_s, sw_cl_s, sw_cl_x, sw_psh_s, sw_psh_n, sw_kd_s, sw_op_s, sw_oc_s, sw_oc_e, sw_oa_s, sw_el_n, sw_el_r, sl_kds_1, sl_kds_67, sw_fit_i, sw_fit_r, sw_fit_n, sw_fit_l, sw_fit_d, sw_fit_b, sw_fit_0, sw_fit_1, sw_rel_0, sw_rel_1, sw_rel_2, sw_rel_3, sw_rel_4, sw_rel_5, sw_hp_set, sw_nx_set, sw_sl_set, sw_ev_set, sw_hp_new, sw_nx_new, sw_sl_new, sw_ev_new, List.getElem?_cons_zero, List.getElem?_cons_succ, List.set_cons_zero, List.set_cons_succ, List.length_cons, List.length_nil, Nat.reduceAdd, Nat.reduceSub, Nat.reduceLT, Nat.reduceLeDiff, Nat.zero_lt_succ, Nat.zero_add, beq_self_eq_true, Bool.true_and, and_true, true_and, and_self, not_true_eq_false, not_false_eq_true, ↓reduceIte, Nat.reduceBEq, eq_self, sw_b_0, sw_b_1, decide_eq_false_iff_not, decide_eq_true_eq, sl_n10, sl_n01, Decidable.not_not, sl_ct, sl_cats_0, sl_cats_i, sl_cats_r, sl_cats_n, sl_cats_l, sl_ok_5, sl_ok9, decide_true, sp_machC, sp_nodeC, sp_opC, sl_z0, sl_z1, sl_z2, sl_z3, sl_z4, sl_z5, sl_z6, sl_z7, sl_c0, sl_c1, sl_c2, sl_c3, sl_c4, sl_c5, sl_c6, sl_c7, hcP, sp_chC, hP, hb.1, hca, eat, i1, i0, eq_false k1, eq_false k0, decide_false, sw_b_f, g1, g2, ep, es, eq_false c1, eq_false c2, r3]
end
