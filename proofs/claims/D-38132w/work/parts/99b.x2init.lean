/-! ===== the program, made ===== -/
def sp_T1 : Nat → List Int32 := sw_it (fun k T => T.set k 1) (List.replicate 4 0)
theorem sp_T1_len (k : Nat) : (sp_T1 k).length = 4 := by
  induction k with
  | zero => rfl
  | succ k ih => exact (List.length_set).trans ih
section
variable {ev : Nat → Nat} {a n b t c s : Nat} {F : List sl_A}
theorem jc_X2_init1 {d : Nat} (hd : 9 ≤ d) : ∀ j k, k + j = 4 → ∀ c s P (B : List sp_Blk), B.length = k → (∀ y ∈ B, y.2 = []) → sl_st ev c s P (sl_pt a (1, [.ref n, .ref b, .ref t, .int 1]) :: sl_pt t (64, (sp_T1 k).map .int) :: sl_ls ev b (B.map fun y => .ref y.1) :: sl_all (B.map fun y => sl_all (sl_blk ev y)) :: F) →
    ∃ (P' : sw_P) (B' : List sp_Blk), sw_at (sw_Z d) b_X2_init 1 [some (.ref a), some (.int (nI k))] [] P = some (.inl none, P') ∧ B'.length = 4 ∧ (∀ y ∈ B', y.2 = []) ∧ sl_st ev (c + 2 * j) (s + 13 * j) P' (sl_pt a (1, [.ref n, .ref b, .ref t, .int 1]) :: sl_pt t (64, (sp_T1 4).map .int) :: sl_ls ev b (B'.map fun y => .ref y.1) :: sl_all (B'.map fun y => sl_all (sl_blk ev y)) :: F) := by
  intro j
  induction j with
  | zero =>
    intro k hk c s P B hB hB2 h
    have : k = 4 := by omega
    subst this
    have e2 : (4 : Int32) ≤ nI 4 := by decide
    refine ⟨P, B, ?_, hB, hB2, h⟩
    rw [at_X2_init_1]; simp only [at_X2_init_2, ey_ld, sk_ld_s, ex_oin, ex_nw, ex_dup_i, ex_dup_r, ex_dup_n, ey_ci0, sk_c_s, ey_pf, sk_pf_s, sw_set_set, ex_push, ex_na, ex_sti, ex_goto, ex_ic, ey_gf, sk_gf_s, sk_v_s, ey_cv1, ex_pop_i, ex_pop_r, ex_pop_n, ey_ast, sk_ast_s, ey_inc, sk_inc_s, ex_ret, sw_gl_0, sw_gl_s, sw_fx_n, sw_fx_i, sw_fx_r, sw_fx_0, sw_fx_l, sw_fx_d, sw_sl1_0, sw_sl1_1, sw_sl1_s, sw_no_0, sw_no_s, sw_no_e, sw_mk_t, sw_mk_f, sw_mk_e, sw_en_0, sw_en_n, sw_en_i, sw_en_r, sw_en_z, sw_en_l, sw_en_d, sw_ok_0, sw_ok_1, sw_ok_2, sw_ok_3, sw_ok_4, sw_bo_s, sw_oi_s, sw_cl_s, sw_cl_x, sw_psh_s, sw_psh_n, sw_kd_s, sw_op_s, sw_oc_s, sw_oc_e, sw_oa_s, sw_el_n, sw_el_r, sl_kds_1, sl_kds_67, sw_fit_i, sw_fit_r, sw_fit_n, sw_fit_l, sw_fit_d, sw_fit_b, sw_fit_0, sw_fit_1, sw_rel_0, sw_rel_1, sw_rel_2, sw_rel_3, sw_rel_4, sw_rel_5, sw_hp_set, sw_nx_set, sw_sl_set, sw_ev_set, sw_hp_new, sw_nx_new, sw_sl_new, sw_ev_new, List.getElem?_cons_zero, List.getElem?_cons_succ, List.set_cons_zero, List.set_cons_succ, List.length_cons, List.length_nil, Nat.reduceAdd, Nat.reduceSub, Nat.reduceLT, Nat.reduceLeDiff, Nat.zero_lt_succ, Nat.zero_add, beq_self_eq_true, Bool.true_and, and_true, true_and, and_self, not_true_eq_false, not_false_eq_true, ↓reduceIte, Nat.reduceBEq, eq_self, sw_b_0, sw_b_1, decide_eq_false_iff_not, decide_eq_true_eq, sl_n10, sl_n01, Decidable.not_not, sl_ct, sl_cats_0, sl_cats_i, sl_cats_r, sl_cats_n, sl_cats_l, sl_ok_5, sl_ok9, decide_true, sp_machC, sp_nodeC, sp_opC, sl_z0, sl_z1, sl_z2, sl_z3, sl_z4, sl_z5, sl_z6, sl_z7, sl_c0, sl_c1, sl_c2, sl_c3, sl_c4, sl_c5, sl_c6, sl_c7, List.length_map, sp_lifeC, sp_inC, sp_rnC, e2]
  | succ j ih =>
    intro k hk c s P B hB hB2 h
    have e0 : ¬ nI 4 ≤ nI k := nI_ge (by omega) (by omega)
    have e2 : ¬ (4 : Int32) ≤ nI k := e0
    have h0 := h.get 0 rfl
    have hev := h.ev
    have g1 : sl_st ev _ _ _ (sl_ls ev (sw_nx P) [] :: _) := h.newls
    have g2 : sl_st ev _ _ _ (sl_ls ev b (B.map fun y => .ref y.1) :: sl_ls ev (sw_nx P) [] :: sl_pt a (1, [.ref n, .ref b, .ref t, .int 1]) :: sl_pt t (64, (sp_T1 k).map .int) :: sl_all (B.map fun y => sl_all (sl_blk ev y)) :: F) := g1.pk [3]
    have hel : ∀ v ∈ (B.map fun y => Value.ref y.1), sw_el (sw_new P (24, [.int 0, .ref (ev 10), .int 0])) sw_k67 v = true := by
      intro v hv
      obtain ⟨y, hy, rfl⟩ := List.mem_map.mp hv
      have hr := sl_rds_mem (sl_rd_all (g2.at 4 rfl)) _ (List.mem_map.mpr ⟨y, hy, rfl⟩)
      obtain ⟨_, _, _, _, e3, _⟩ := sl_rd_lx (sl_rds_at (sl_rd_all hr) 0 rfl)
      rw [sw_el_r, e3]
      exact sl_k67 _ (by decide)
    obtain ⟨_, _, _, _, e3, _⟩ := sl_rd_lx (g2.at 1 rfl)
    obtain ⟨P1, r1, s1⟩ := jc_J2_add (D := d) (b := sw_nx P) (by omega) g2 (by rw [List.length_map]; omega) hel (by rw [e3]; exact sl_k67 _ (by decide))
    obtain ⟨_, _, _, _, e5, _⟩ := sl_rd_lx (g2.at 0 rfl)
    have s2 : sl_st ev _ _ P1 ([sl_ls ev (sw_nx P) []] ++ (sl_all (B.map fun y => sl_all (sl_blk ev y)) :: sl_ls ev b ((B.map fun y => .ref y.1) ++ [.ref (sw_nx P)]) :: sl_pt a (1, [.ref n, .ref b, .ref t, .int 1]) :: sl_pt t (64, (sp_T1 k).map .int) :: F)) := s1.pp 5 [1, 4, 0, 2, 3]
    have s3 : sl_st ev _ _ P1 (sl_all (sl_blk ev (sw_nx P, [])) :: sl_all (B.map fun y => sl_all (sl_blk ev y)) :: sl_ls ev b ((B.map fun y => .ref y.1) ++ [.ref (sw_nx P)]) :: sl_pt a (1, [.ref n, .ref b, .ref t, .int 1]) :: sl_pt t (64, (sp_T1 k).map .int) :: F) := sl_st.flat.mpr s2
    have s4 : sl_st ev _ _ P1 (sl_all ((B ++ [(sw_nx P, [])]).map fun y => sl_all (sl_blk ev y)) :: _) := sl_st.push (A := fun y => sl_all (sl_blk ev y)) s3
    have s5 : sl_st ev _ _ P1 (sl_pt a (1, [.ref n, .ref b, .ref t, .int 1]) :: sl_pt t (64, (sp_T1 k).map .int) :: sl_ls ev b ((B.map fun y => .ref y.1) ++ [.ref (sw_nx P)]) :: sl_all ((B ++ [(sw_nx P, [])]).map fun y => sl_all (sl_blk ev y)) :: F) := s4.pp 4 [2, 3, 1, 0]
    rw [show ((B.map fun y => Value.ref y.1) ++ [.ref (sw_nx P)]) = (B ++ [(sw_nx P, [])]).map fun (y : sp_Blk) => Value.ref y.1 by rw [List.map_append]; rfl] at s5
    have q0 := s5.get 0 rfl
    have q1 := s5.get 1 rfl
    have s6 := s5.set 1 (64, (sp_T1 (k + 1)).map .int) rfl
    have hgA : sl_gA (B.map fun y => Value.ref y.1).length ≤ 1 := by unfold sl_gA; split <;> omega
    have hgS : sl_gS (B.map fun y => Value.ref y.1).length ≤ 10 := by
      rw [List.length_map, hB]
      have : k = 0 ∨ k = 1 ∨ k = 2 ∨ k = 3 := by omega
      rcases this with e | e | e | e <;> (rw [e]; decide)
    obtain ⟨P', B', r2, l2, m2, s7⟩ := ih (k + 1) (by omega) (c + 2) (s + 13) _ (B ++ [(sw_nx P, [])]) (by rw [List.length_append, hB]; rfl) (by
      intro y hy
      rcases List.mem_append.mp hy with hy | hy
      · exact hB2 y hy
      · rw [List.mem_singleton.mp hy]) (s6.wk (c' := c + 2) (s' := s + 13) (by omega) (by omega))
    refine ⟨P', B', ?_, l2, m2, s7.wk (by omega) (by omega)⟩
    rw [← r2]
    have t1 : (nI k).toNatClampNeg = k := nI_clamp (by omega)
    have t2 : ¬ nI k < 0 := nI_pos (by omega)
    have t3 : k < (sp_T1 k).length := by rw [sp_T1_len]; omega
    have t4 : ((sp_T1 k).map Value.int).set k (.int 1) = (sp_T1 (k + 1)).map .int := by rw [show sp_T1 (k + 1) = (sp_T1 k).set k 1 from rfl, List.map_set]
    have f1 := sl_ne_nx h0 h.2.2.2.1
    have jn := jc_J2_new (D := d) (P := P) (by omega) hev
    rw [at_X2_init_1]; simp only [ey_ld, sk_ld_s, ex_oin, ex_nw, ex_dup_i, ex_dup_r, ex_dup_n, ey_ci0, sk_c_s, ey_pf, sk_pf_s, sw_set_set, ex_push, ex_na, ex_sti, ex_goto, ex_ic, ey_gf, sk_gf_s, sk_v_s, ey_cv1, ex_pop_i, ex_pop_r, ex_pop_n, ey_ast, sk_ast_s, ey_inc, sk_inc_s, ex_ret, sw_gl_0, sw_gl_s, sw_fx_n, sw_fx_i, sw_fx_r, sw_fx_0, sw_fx_l, sw_fx_d, sw_sl1_0, sw_sl1_1, sw_sl1_s, sw_no_0, sw_no_s, sw_no_e, sw_mk_t, sw_mk_f, sw_mk_e, sw_en_0, sw_en_n, sw_en_i, sw_en_r, sw_en_z, sw_en_l, sw_en_d, sw_ok_0, sw_ok_1, sw_ok_2, sw_ok_3, sw_ok_4, sw_bo_s, sw_oi_s, sw_cl_s, sw_cl_x, sw_psh_s, sw_psh_n, sw_kd_s, sw_op_s, sw_oc_s, sw_oc_e, sw_oa_s, sw_el_n, sw_el_r, sl_kds_1, sl_kds_67, sw_fit_i, sw_fit_r, sw_fit_n, sw_fit_l, sw_fit_d, sw_fit_b, sw_fit_0, sw_fit_1, sw_rel_0, sw_rel_1, sw_rel_2, sw_rel_3, sw_rel_4, sw_rel_5, sw_hp_set, sw_nx_set, sw_sl_set, sw_ev_set, sw_hp_new, sw_nx_new, sw_sl_new, sw_ev_new, List.getElem?_cons_zero, List.getElem?_cons_succ, List.set_cons_zero, List.set_cons_succ, List.length_cons, List.length_nil, Nat.reduceAdd, Nat.reduceSub, Nat.reduceLT, Nat.reduceLeDiff, Nat.zero_lt_succ, Nat.zero_add, beq_self_eq_true, Bool.true_and, and_true, true_and, and_self, not_true_eq_false, not_false_eq_true, ↓reduceIte, Nat.reduceBEq, eq_self, sw_b_0, sw_b_1, decide_eq_false_iff_not, decide_eq_true_eq, sl_n10, sl_n01, Decidable.not_not, sl_ct, sl_cats_0, sl_cats_i, sl_cats_r, sl_cats_n, sl_cats_l, sl_ok_5, sl_ok9, decide_true, sp_machC, sp_nodeC, sp_opC, sl_z0, sl_z1, sl_z2, sl_z3, sl_z4, sl_z5, sl_z6, sl_z7, sl_c0, sl_c1, sl_c2, sl_c3, sl_c4, sl_c5, sl_c6, sl_c7, List.length_map, sp_lifeC, sp_inC, sp_rnC, e2, h0, f1, jn, r1, e5, q0, q1, t1, t2, t3, t4, sl_vt64, nI_1, sl_kds_1]
theorem jc_X2_init {D : Nat} {P : sw_P} (hD : 10 ≤ D) (h : sl_st ev c s P (sl_pt a (1, [.null, .null, .null, .int 0]) :: F)) :
    ∃ P' n b t B, sw_Z D m_X2_init [.ref a] P = some (.inl none, P') ∧ (B : List sp_Blk).map (fun y => y.2.map (·.2)) = [[], [], [], []] ∧ sl_st ev (c + 11) (s + 62) P' (sl_prog ev (a, n, b, t) [] B [1, 1, 1, 1] 1 ++ F) := by
  obtain ⟨d, hDe, hDn⟩ := sw_dep hD; subst hDe; replace hD := hDn; clear hDn
  have hev := h.ev
  have h0 := h.get 0 rfl
  have f1 := sl_ne_nx h0 h.2.2.2.1
  have f2 : ¬ a = sw_nx P + 1 := fun e => by rw [h.2.2.2.1 a (by omega)] at h0; cases h0
  have f3 : ¬ a = sw_nx P + 2 := fun e => by rw [h.2.2.2.1 a (by omega)] at h0; cases h0
  have g1 : sl_st ev _ _ _ (sl_ls ev (sw_nx P) [] :: _) := h.newls
  have g2 : sl_st ev _ _ (sw_set (sw_new P (24, [.int 0, .ref (ev 10), .int 0])) a (1, [.ref (sw_nx P), .null, .null, .int 0])) (sl_ls ev (sw_nx P) [] :: sl_pt a (1, [.ref (sw_nx P), .null, .null, .int 0]) :: F) := g1.set 1 _ rfl
  have g3 : sl_st ev _ _ _ (sl_ls ev (sw_nx P + 1) [] :: _) := g2.newls
  have jn1 := jc_J2_new (D := d) (P := P) (by omega) hev
  have jn2 := jc_J2_new (D := d) (P := sw_set (sw_new P (24, [.int 0, .ref (ev 10), .int 0])) a (1, [.ref (sw_nx P), .null, .null, .int 0])) (by omega) g2.ev
  rw [show sw_nx (sw_set (sw_new P (24, [.int 0, .ref (ev 10), .int 0])) a (1, [.ref (sw_nx P), .null, .null, .int 0])) = sw_nx P + 1 from rfl] at jn2
  have g4 := g3.set 2 (1, [.ref (sw_nx P), .ref (sw_nx P + 1), .null, .int 0]) rfl
  have g5 := g4.new (64, (sp_T1 0).map .int)
  have g6 := g5.set 3 (1, [.ref (sw_nx P), .ref (sw_nx P + 1), .ref (sw_nx P + 2), .int 1]) rfl
  have g7 : sl_st ev (c + 3) (s + 10) _ ([] ++ (sl_pt a (1, [.ref (sw_nx P), .ref (sw_nx P + 1), .ref (sw_nx P + 2), .int 1]) :: sl_pt (sw_nx P + 2) (64, (sp_T1 0).map .int) :: sl_ls ev (sw_nx P + 1) [] :: sl_ls ev (sw_nx P) [] :: F)) := g6.pk [3, 0, 0, 0]
  have g8 : sl_st ev (c + 3) (s + 10) _ (sl_all [] :: sl_pt a (1, [.ref (sw_nx P), .ref (sw_nx P + 1), .ref (sw_nx P + 2), .int 1]) :: sl_pt (sw_nx P + 2) (64, (sp_T1 0).map .int) :: sl_ls ev (sw_nx P + 1) [] :: sl_ls ev (sw_nx P) [] :: F) := sl_st.flat.mpr g7
  have g9 : sl_st ev (c + 3) (s + 10) _ (sl_pt a (1, [.ref (sw_nx P), .ref (sw_nx P + 1), .ref (sw_nx P + 2), .int 1]) :: sl_pt (sw_nx P + 2) (64, (sp_T1 0).map .int) :: sl_ls ev (sw_nx P + 1) [] :: sl_all [] :: (sl_ls ev (sw_nx P) [] :: F)) := g8.pp 4 [1, 2, 3, 0]
  obtain ⟨P', B, r1, l1, m1, s1⟩ := jc_X2_init1 (d := d) (by omega) 4 0 (by omega) _ _ _ [] rfl (by intro y hy; cases hy) g9
  have s2 : sl_st ev _ _ P' ([] ++ (sl_pt a (1, [.ref (sw_nx P), .ref (sw_nx P + 1), .ref (sw_nx P + 2), .int 1]) :: sl_pt (sw_nx P + 2) (64, (sp_T1 4).map .int) :: sl_ls ev (sw_nx P + 1) (B.map fun y => .ref y.1) :: sl_all (B.map fun y => sl_all (sl_blk ev y)) :: sl_ls ev (sw_nx P) [] :: F)) := s1
  have s3 : sl_st ev _ _ P' (sl_all [] :: sl_pt a (1, [.ref (sw_nx P), .ref (sw_nx P + 1), .ref (sw_nx P + 2), .int 1]) :: sl_pt (sw_nx P + 2) (64, (sp_T1 4).map .int) :: sl_ls ev (sw_nx P + 1) (B.map fun y => .ref y.1) :: sl_all (B.map fun y => sl_all (sl_blk ev y)) :: sl_ls ev (sw_nx P) [] :: F) := sl_st.flat.mpr s2
  have s4 := s3.pp 6 [1, 5, 0, 3, 4, 2]
  refine ⟨P', sw_nx P, sw_nx P + 1, sw_nx P + 2, B, ?_, ?_, s4.wk (by omega) (by omega)⟩
  · rw [show (nI 0 : Int32) = 0 from rfl] at r1
    rw [← r1]
    have q8 : (List.replicate (Int32.toNatClampNeg 4) (sw_dv 64)) = (sp_T1 0).map .int := rfl
    rw [M_X2_init _ _ _ rfl]; simp only [at_X2_init_0, ey_ld, sk_ld_s, ex_oin, ex_nw, ex_dup_i, ex_dup_r, ex_dup_n, ey_ci0, sk_c_s, ey_pf, sk_pf_s, sw_set_set, ex_push, ex_na, ex_sti, ex_goto, ex_ic, ey_gf, sk_gf_s, sk_v_s, ey_cv1, ex_pop_i, ex_pop_r, ex_pop_n, ey_ast, sk_ast_s, ey_inc, sk_inc_s, ex_ret, sw_gl_0, sw_gl_s, sw_fx_n, sw_fx_i, sw_fx_r, sw_fx_0, sw_fx_l, sw_fx_d, sw_sl1_0, sw_sl1_1, sw_sl1_s, sw_no_0, sw_no_s, sw_no_e, sw_mk_t, sw_mk_f, sw_mk_e, sw_en_0, sw_en_n, sw_en_i, sw_en_r, sw_en_z, sw_en_l, sw_en_d, sw_ok_0, sw_ok_1, sw_ok_2, sw_ok_3, sw_ok_4, sw_bo_s, sw_oi_s, sw_cl_s, sw_cl_x, sw_psh_s, sw_psh_n, sw_kd_s, sw_op_s, sw_oc_s, sw_oc_e, sw_oa_s, sw_el_n, sw_el_r, sl_kds_1, sl_kds_67, sw_fit_i, sw_fit_r, sw_fit_n, sw_fit_l, sw_fit_d, sw_fit_b, sw_fit_0, sw_fit_1, sw_rel_0, sw_rel_1, sw_rel_2, sw_rel_3, sw_rel_4, sw_rel_5, sw_hp_set, sw_nx_set, sw_sl_set, sw_ev_set, sw_hp_new, sw_nx_new, sw_sl_new, sw_ev_new, List.getElem?_cons_zero, List.getElem?_cons_succ, List.set_cons_zero, List.set_cons_succ, List.length_cons, List.length_nil, Nat.reduceAdd, Nat.reduceSub, Nat.reduceLT, Nat.reduceLeDiff, Nat.zero_lt_succ, Nat.zero_add, beq_self_eq_true, Bool.true_and, and_true, true_and, and_self, not_true_eq_false, not_false_eq_true, ↓reduceIte, Nat.reduceBEq, eq_self, sw_b_0, sw_b_1, decide_eq_false_iff_not, decide_eq_true_eq, sl_n10, sl_n01, Decidable.not_not, sl_ct, sl_cats_0, sl_cats_i, sl_cats_r, sl_cats_n, sl_cats_l, sl_ok_5, sl_ok9, decide_true, sp_machC, sp_nodeC, sp_opC, sl_z0, sl_z1, sl_z2, sl_z3, sl_z4, sl_z5, sl_z6, sl_z7, sl_c0, sl_c1, sl_c2, sl_c3, sl_c4, sl_c5, sl_c6, sl_c7, List.length_map, sp_lifeC, sp_inC, sp_rnC, h0, f1, f2, f3, jn1, jn2, q8, show ((0 : Int32) ≤ 4) = True by decide, show (Int32.toNatClampNeg 4 ≤ 1048576) = True by decide]
    rfl
  · match B, l1, m1 with
    | [x, y, z, w], _, m1 =>
      have a1 := m1 x (by simp)
      have a2 := m1 y (by simp)
      have a3 := m1 z (by simp)
      have a4 := m1 w (by simp)
      simp only [List.map_cons, List.map_nil, a1, a2, a3, a4]
end
