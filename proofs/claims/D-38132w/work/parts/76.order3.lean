/-! ===== the component's order: placing, the constructor, all ===== -/
theorem sl_st.pickall {α : Type} {ev : Nat → Nat} {c s : Nat} {P : sw_P} {A : α → sl_A} {l : List α} {i : Nat} {x : α} {F : List sl_A} (h : sl_st ev c s P (sl_all (l.map A) :: F)) (hi : l[i]? = some x) : sl_st ev c s P (A x :: sl_all ((l.eraseIdx i).map A) :: F) := by
  have h2 := sl_st.flat.mp h
  have p : (l.map A ++ F).Perm (A x :: ((l.eraseIdx i).map A ++ F)) := ((sl_pick l i x hi).map A).append_right F
  have h3 := h2.perm p
  exact (((sl_st.flat (As := (l.eraseIdx i).map A) (Bs := A x :: F)).mpr (h3.perm List.perm_middle.symm)).pk [1])
theorem sl_st.putall {α : Type} {ev : Nat → Nat} {c s : Nat} {P : sw_P} {A : α → sl_A} {l : List α} {i : Nat} {x y : α} {F : List sl_A} (hi : l[i]? = some x) (h : sl_st ev c s P (A y :: sl_all ((l.eraseIdx i).map A) :: F)) : sl_st ev c s P (sl_all ((l.set i y).map A) :: F) := by
  refine sl_st.flat.mpr ?_
  have h2 := sl_st.flat.mp (h.pk [1])
  have p : ((l.eraseIdx i).map A ++ A y :: F).Perm ((l.set i y).map A ++ F) := List.perm_middle.trans (((sl_pickS l i x y hi).map A).append_right F)
  exact h2.perm p
theorem sl_refs_set {α : Type} (l : List (Nat × α)) (i : Nat) (x : Nat × α) (y : α) (h : l[i]? = some x) : ((l.set i (x.1, y)).map fun z => Value.ref z.1) = l.map fun z => Value.ref z.1 := by
  apply List.ext_getElem?
  intro j
  rw [List.getElem?_map, List.getElem?_map, List.getElem?_set]
  split
  · rename_i e
    subst e
    obtain ⟨h1, h2⟩ := List.getElem?_eq_some_iff.mp h
    rw [if_pos h1, h]; rfl
  · rfl
section
variable {ev : Nat → Nat} {od fr md na wt mach l a ra : Nat} {m : sp_Mach} {L ws : List Int32} {M : List (Nat × sp_Op)} {NR : List (Nat × List Bool)} {F R : List sl_A} {c s d D : Nat} {P : sw_P} {nd : Nat → Nat → Bool}
/-- the cells of an order -/
def sl_ord (ev : Nat → Nat) (od fr mach md na wt : Nat) (ws : List Int32) (NR : List (Nat × List Bool)) (M : List (Nat × sp_Op)) : List sl_A := [sl_pt od (sp_odC fr mach md na wt), sl_pt wt (64, ws.map .int), sl_pt na (69, NR.map fun x => .ref x.1), sl_all (NR.map sl_rowA), sl_ls ev fr (M.map fun x => .ref x.1), sl_all (M.map sl_opA)]
theorem sl_ord_rd {H : sl_H} (h : sl_rds H (sl_ord ev od fr mach md na wt ws NR M ++ F)) (h7 : ws.length = M.length) (h8 : NR.map (·.2) = (List.range M.length).map (sp_row nd)) (h9 : M.length < 1000) : sp_ord H ev od fr mach md na wt nd ws NR M := by
  obtain ⟨⟨g1, g2, g3, g4, g5, g6, -⟩, -⟩ := sl_rds_append.mp h
  exact ⟨sl_rd_pt.mp g1, sl_rd_pt.mp g2, sl_rd_pt.mp g3, g4, g5, g6, h7, h8, h9⟩
theorem sp_pl_len (n k : Nat) (ws : List Int32) : (sp_pl nd n k ws).length = ws.length := by
  unfold sp_pl
  generalize n - (k + 1) = q
  induction q with
  | zero => exact List.length_set
  | succ q ih => exact (List.length_set).trans ih
theorem jc_X6_place {k : Nat} {mi : List Nat} (hD : 10 ≤ D) (hk : k < M.length) (h7 : ws.length = M.length) (h8 : NR.map (·.2) = (List.range M.length).map (sp_row nd)) (h9 : M.length < 1000) (hmi : ∀ i ∈ mi, i < M.length) (hml : mi.length < 1000)
    (h : sl_st ev c s P (sl_ls ev md (mi.map fun i => .ref (M.getD i (0, sp_oz)).1) :: (sl_ord ev od fr mach md na wt ws NR M ++ F))) :
    ∃ P', sw_Z D m_X6_place [.ref od, .int (nI k)] P = some (.inl none, P') ∧ sl_st ev (c + sl_gA mi.length) (s + sl_gS mi.length) P' (sl_ls ev md ((mi ++ [k]).map fun i => .ref (M.getD i (0, sp_oz)).1) :: (sl_ord ev od fr mach md na wt (sp_pl nd M.length k ws) NR M ++ F)) := by
  obtain ⟨d, hDe, hDn⟩ := sw_dep hD; subst hDe; replace hD := hDn; clear hDn
  have ho := sl_ord_rd (nd := nd) h.rd.2 h7 h8 h9
  obtain ⟨rk, f1, f2, f3, f4⟩ := sp_opsR (d := d) (by omega) ho.2.2.2.2.1 ho.2.2.2.2.2.1 h9 hk
  have hkd : ∀ i, i < M.length → sw_kds (sw_hp P (M.getD i (0, sp_oz)).1) sw_k67 = true := by
    intro i hi
    obtain ⟨_, _, q, -⟩ := sp_opsR (d := d) (by omega) ho.2.2.2.2.1 ho.2.2.2.2.2.1 h9 hi
    rw [sp_getD (List.getElem?_eq_getElem hi), q]
    exact sl_k67 _ (by decide)
  have ek : (M.getD k (0, sp_oz)).1 = M[k].1 := by rw [sp_getD (List.getElem?_eq_getElem hk)]
  obtain ⟨P1, r1, s1⟩ := jc_J2_add (D := d) (b := M[k].1) (by omega) h (by rw [List.length_map]; exact hml) (by
    intro v hv
    obtain ⟨i, hi, rfl⟩ := List.mem_map.mp hv
    exact hkd i (hmi i hi)) (by rw [← ek]; exact hkd k hk)
  rw [List.length_map] at s1
  have ho1 := sl_ord_rd (nd := nd) s1.rd.2 h7 h8 h9
  have s2 := sl_st.set s1 2 (64, (ws.set k (-1)).map .int) rfl
  have hloop : ∀ j q, k + 1 + q + j = M.length → ∀ P2, sl_st ev (c + sl_gA mi.length) (s + sl_gS mi.length) P2 (sl_ls ev md ((mi ++ [k]).map fun i => .ref (M.getD i (0, sp_oz)).1) :: (sl_ord ev od fr mach md na wt (sw_it (sp_plF nd k) (ws.set k (-1)) q) NR M ++ F)) →
      ∃ P', sw_at (sw_Z d) b_X6_place 1 [some (.ref od), some (.int (nI k)), some (.int (nI (k + 1 + q)))] [] P2 = some (.inl none, P') ∧ sl_st ev (c + sl_gA mi.length) (s + sl_gS mi.length) P' (sl_ls ev md ((mi ++ [k]).map fun i => .ref (M.getD i (0, sp_oz)).1) :: (sl_ord ev od fr mach md na wt (sp_pl nd M.length k ws) NR M ++ F)) := by
    intro j
    induction j with
    | zero =>
      intro q hq P2 g
      have e0 : q = M.length - (k + 1) := by omega
      subst e0
      have hw := sp_pl_len (nd := nd) M.length k ws
      unfold sp_pl at hw
      have o2 := sl_ord_rd (nd := nd) g.rd.2 (hw.trans h7) h8 h9
      have e1 : Int32.ofNat (sw_it (sp_plF nd k) (ws.set k (-1)) (M.length - (k + 1))).length ≤ nI (k + 1 + (M.length - (k + 1))) := by rw [hw, h7]; exact nI_le (by omega) (by omega)
      refine ⟨P2, ?_, g⟩
      rw [at_X6_place_1]; simp only [at_X6_place_4, ey_ld, sk_ld_s, ey_gf, sk_gf_s, sk_v_s, ey_cv1, sk_c_s, ex_ct, ex_pop_i, ex_pop_r, ex_pop_n, ex_push, ey_ast, sk_ast_s, ex_ii, ex_sti, ex_goto, ey_al, sk_al_s, ex_ic, ex_du2, ey_ald, sk_ald_s, ex_iz, ey_inc, sk_inc_s, ex_ret, sw_gl_0, sw_gl_s, sw_fx_n, sw_fx_i, sw_fx_r, sw_fx_0, sw_fx_l, sw_fx_d, sw_sl1_0, sw_sl1_1, sw_sl1_s, sw_no_0, sw_no_s, sw_no_e, sw_mk_t, sw_mk_f, sw_mk_e, sw_en_0, sw_en_n, sw_en_i, sw_en_r, sw_en_z, sw_en_l, sw_en_d, sw_ok_0, sw_ok_1, sw_ok_2, sw_ok_3, sw_ok_4, sw_bo_s, sw_oi_s, sw_cl_s, sw_cl_x, sw_psh_s, sw_psh_n, sw_kd_s, sw_op_s, sw_oc_s, sw_oc_e, sw_oa_s, sw_el_n, sw_el_r, sl_kds_1, sl_kds_67, sw_fit_i, sw_fit_r, sw_fit_n, sw_fit_l, sw_fit_d, sw_fit_b, sw_fit_0, sw_fit_1, sw_rel_0, sw_rel_1, sw_rel_2, sw_rel_3, sw_rel_4, sw_rel_5, sw_hp_set, sw_nx_set, sw_sl_set, sw_ev_set, sw_hp_new, sw_nx_new, sw_sl_new, sw_ev_new, List.getElem?_cons_zero, List.getElem?_cons_succ, List.set_cons_zero, List.set_cons_succ, List.length_cons, List.length_nil, Nat.reduceAdd, Nat.reduceSub, Nat.reduceLT, Nat.reduceLeDiff, Nat.zero_lt_succ, Nat.zero_add, beq_self_eq_true, Bool.true_and, and_true, true_and, and_self, not_true_eq_false, not_false_eq_true, ↓reduceIte, Nat.reduceBEq, eq_self, sw_b_0, sw_b_1, decide_eq_false_iff_not, decide_eq_true_eq, sl_n10, sl_n01, Decidable.not_not, sl_ct, sl_cats_0, sl_cats_i, sl_cats_r, sl_cats_n, sl_cats_l, sl_ok_5, sl_ok9, decide_true, sp_machC, sp_nodeC, sp_opC, sl_z0, sl_z1, sl_z2, sl_z3, sl_z4, sl_z5, sl_z6, sl_z7, sl_c0, sl_c1, sl_c2, sl_c3, sl_c4, sl_c5, sl_c6, sl_c7, List.length_map, o2.1, sp_odC, o2.2.1, e1]
    | succ j ih =>
      intro q hq P2 g
      have hw : (sw_it (sp_plF nd k) (ws.set k (-1)) q).length = ws.length := by
        clear g hq
        induction q with
        | zero => exact List.length_set
        | succ q ih => exact (List.length_set).trans ih
      have o2 := sl_ord_rd (nd := nd) g.rd.2 (hw.trans h7) h8 h9
      have e1 : ¬ Int32.ofNat (sw_it (sp_plF nd k) (ws.set k (-1)) q).length ≤ nI (k + 1 + q) := by rw [hw, h7]; exact nI_ge (by omega) (by omega)
      obtain ⟨r, g1, g2⟩ := sp_ord_row o2 (k := k + 1 + q) (by omega)
      have g3 := sp_bv_row (nd := nd) (k + 1 + q) k (by omega)
      have e2 : ¬ nI (k + 1 + q) < 0 := nI_pos (by omega)
      have e3 : (nI (k + 1 + q)).toNatClampNeg = k + 1 + q := nI_clamp (by omega)
      have e4 : ¬ nI k < 0 := nI_pos (by omega)
      have e5 : (nI k).toNatClampNeg = k := nI_clamp (by omega)
      have e6 := sl_mapget (sw_it (sp_plF nd k) (ws.set k (-1)) q) (k + 1 + q) (by omega)
      have e7 : k + 1 + q < (sw_it (sp_plF nd k) (ws.set k (-1)) q).length := by omega
      have g4 := sl_st.set g 2 (64, (sw_it (sp_plF nd k) (ws.set k (-1)) (q + 1)).map .int) rfl
      obtain ⟨P', t1, t2⟩ := ih (q + 1) (by omega) _ g4
      refine ⟨P', ?_, t2⟩
      rw [← Nat.add_assoc] at t1
      rw [← t1]
      have hst : sw_it (sp_plF nd k) (ws.set k (-1)) (q + 1) = (sw_it (sp_plF nd k) (ws.set k (-1)) q).set (k + 1 + q) ((sw_it (sp_plF nd k) (ws.set k (-1)) q).getD (k + 1 + q) 0 - (if nd (k + 1 + q) k = true then 1 else 0)) := rfl
      have e8 := sl_map_set (sw_it (sp_plF nd k) (ws.set k (-1)) q) (k + 1 + q) ((sw_it (sp_plF nd k) (ws.set k (-1)) q).getD (k + 1 + q) 0 - (if nd (k + 1 + q) k = true then 1 else 0))
      rw [← hst] at e8
      cases c1 : nd (k + 1 + q) k <;> rw [c1] at g3 e8
      · rw [if_neg (by decide)] at e8
        rw [at_X6_place_1]; simp only [at_X6_place_2, at_X6_place_3, ey_ld, sk_ld_s, ey_gf, sk_gf_s, sk_v_s, ey_cv1, sk_c_s, ex_ct, ex_pop_i, ex_pop_r, ex_pop_n, ex_push, ey_ast, sk_ast_s, ex_ii, ex_sti, ex_goto, ey_al, sk_al_s, ex_ic, ex_du2, ey_ald, sk_ald_s, ex_iz, ey_inc, sk_inc_s, ex_ret, sw_gl_0, sw_gl_s, sw_fx_n, sw_fx_i, sw_fx_r, sw_fx_0, sw_fx_l, sw_fx_d, sw_sl1_0, sw_sl1_1, sw_sl1_s, sw_no_0, sw_no_s, sw_no_e, sw_mk_t, sw_mk_f, sw_mk_e, sw_en_0, sw_en_n, sw_en_i, sw_en_r, sw_en_z, sw_en_l, sw_en_d, sw_ok_0, sw_ok_1, sw_ok_2, sw_ok_3, sw_ok_4, sw_bo_s, sw_oi_s, sw_cl_s, sw_cl_x, sw_psh_s, sw_psh_n, sw_kd_s, sw_op_s, sw_oc_s, sw_oc_e, sw_oa_s, sw_el_n, sw_el_r, sl_kds_1, sl_kds_67, sw_fit_i, sw_fit_r, sw_fit_n, sw_fit_l, sw_fit_d, sw_fit_b, sw_fit_0, sw_fit_1, sw_rel_0, sw_rel_1, sw_rel_2, sw_rel_3, sw_rel_4, sw_rel_5, sw_hp_set, sw_nx_set, sw_sl_set, sw_ev_set, sw_hp_new, sw_nx_new, sw_sl_new, sw_ev_new, List.getElem?_cons_zero, List.getElem?_cons_succ, List.set_cons_zero, List.set_cons_succ, List.length_cons, List.length_nil, Nat.reduceAdd, Nat.reduceSub, Nat.reduceLT, Nat.reduceLeDiff, Nat.zero_lt_succ, Nat.zero_add, beq_self_eq_true, Bool.true_and, and_true, true_and, and_self, not_true_eq_false, not_false_eq_true, ↓reduceIte, Nat.reduceBEq, eq_self, sw_b_0, sw_b_1, decide_eq_false_iff_not, decide_eq_true_eq, sl_n10, sl_n01, Decidable.not_not, sl_ct, sl_cats_0, sl_cats_i, sl_cats_r, sl_cats_n, sl_cats_l, sl_ok_5, sl_ok9, decide_true, sp_machC, sp_nodeC, sp_opC, sl_z0, sl_z1, sl_z2, sl_z3, sl_z4, sl_z5, sl_z6, sl_z7, sl_c0, sl_c1, sl_c2, sl_c3, sl_c4, sl_c5, sl_c6, sl_c7, List.length_map, o2.1, sp_odC, o2.2.1, o2.2.2.1, e1, e2, e3, e4, e5, e6, e7, e8, g1, g2, g3, sw_b_f, nI_1, sl_vt64]
      · rw [if_pos rfl] at e8
        rw [at_X6_place_1]; simp only [at_X6_place_2, at_X6_place_3, ey_ld, sk_ld_s, ey_gf, sk_gf_s, sk_v_s, ey_cv1, sk_c_s, ex_ct, ex_pop_i, ex_pop_r, ex_pop_n, ex_push, ey_ast, sk_ast_s, ex_ii, ex_sti, ex_goto, ey_al, sk_al_s, ex_ic, ex_du2, ey_ald, sk_ald_s, ex_iz, ey_inc, sk_inc_s, ex_ret, sw_gl_0, sw_gl_s, sw_fx_n, sw_fx_i, sw_fx_r, sw_fx_0, sw_fx_l, sw_fx_d, sw_sl1_0, sw_sl1_1, sw_sl1_s, sw_no_0, sw_no_s, sw_no_e, sw_mk_t, sw_mk_f, sw_mk_e, sw_en_0, sw_en_n, sw_en_i, sw_en_r, sw_en_z, sw_en_l, sw_en_d, sw_ok_0, sw_ok_1, sw_ok_2, sw_ok_3, sw_ok_4, sw_bo_s, sw_oi_s, sw_cl_s, sw_cl_x, sw_psh_s, sw_psh_n, sw_kd_s, sw_op_s, sw_oc_s, sw_oc_e, sw_oa_s, sw_el_n, sw_el_r, sl_kds_1, sl_kds_67, sw_fit_i, sw_fit_r, sw_fit_n, sw_fit_l, sw_fit_d, sw_fit_b, sw_fit_0, sw_fit_1, sw_rel_0, sw_rel_1, sw_rel_2, sw_rel_3, sw_rel_4, sw_rel_5, sw_hp_set, sw_nx_set, sw_sl_set, sw_ev_set, sw_hp_new, sw_nx_new, sw_sl_new, sw_ev_new, List.getElem?_cons_zero, List.getElem?_cons_succ, List.set_cons_zero, List.set_cons_succ, List.length_cons, List.length_nil, Nat.reduceAdd, Nat.reduceSub, Nat.reduceLT, Nat.reduceLeDiff, Nat.zero_lt_succ, Nat.zero_add, beq_self_eq_true, Bool.true_and, and_true, true_and, and_self, not_true_eq_false, not_false_eq_true, ↓reduceIte, Nat.reduceBEq, eq_self, sw_b_0, sw_b_1, decide_eq_false_iff_not, decide_eq_true_eq, sl_n10, sl_n01, Decidable.not_not, sl_ct, sl_cats_0, sl_cats_i, sl_cats_r, sl_cats_n, sl_cats_l, sl_ok_5, sl_ok9, decide_true, sp_machC, sp_nodeC, sp_opC, sl_z0, sl_z1, sl_z2, sl_z3, sl_z4, sl_z5, sl_z6, sl_z7, sl_c0, sl_c1, sl_c2, sl_c3, sl_c4, sl_c5, sl_c6, sl_c7, List.length_map, o2.1, sp_odC, o2.2.1, o2.2.2.1, e1, e2, e3, e4, e5, e6, e7, e8, g1, g2, g3, sw_b_t, nI_1, sl_vt64]
  rw [← ek] at s2 r1
  have hmap : (mi ++ [k]).map (fun i => Value.ref (M.getD i (0, sp_oz)).1) = mi.map (fun i => Value.ref (M.getD i (0, sp_oz)).1) ++ [Value.ref (M.getD k (0, sp_oz)).1] := by rw [List.map_append]; rfl
  obtain ⟨P', t1, t2⟩ := hloop (M.length - (k + 1)) 0 (by omega) _ (by rw [hmap]; exact s2)
  refine ⟨P', ?_, t2⟩
  rw [← t1]
  have e4 : ¬ nI k < 0 := nI_pos (by omega)
  have e5 : (nI k).toNatClampNeg = k := nI_clamp (by omega)
  have e6 : k < ws.length := by omega
  obtain ⟨_, _, _, _, e7, _⟩ := sl_rd_lx (h.at 0 rfl)
  rw [ek] at r1
  rw [M_X6_place _ _ _ rfl]; simp only [at_X6_place_0, ey_ld, sk_ld_s, ey_gf, sk_gf_s, sk_v_s, ey_cv1, sk_c_s, ex_ct, ex_pop_i, ex_pop_r, ex_pop_n, ex_push, ey_ast, sk_ast_s, ex_ii, ex_sti, ex_goto, ey_al, sk_al_s, ex_ic, ex_du2, ey_ald, sk_ald_s, ex_iz, ey_inc, sk_inc_s, ex_ret, sw_gl_0, sw_gl_s, sw_fx_n, sw_fx_i, sw_fx_r, sw_fx_0, sw_fx_l, sw_fx_d, sw_sl1_0, sw_sl1_1, sw_sl1_s, sw_no_0, sw_no_s, sw_no_e, sw_mk_t, sw_mk_f, sw_mk_e, sw_en_0, sw_en_n, sw_en_i, sw_en_r, sw_en_z, sw_en_l, sw_en_d, sw_ok_0, sw_ok_1, sw_ok_2, sw_ok_3, sw_ok_4, sw_bo_s, sw_oi_s, sw_cl_s, sw_cl_x, sw_psh_s, sw_psh_n, sw_kd_s, sw_op_s, sw_oc_s, sw_oc_e, sw_oa_s, sw_el_n, sw_el_r, sl_kds_1, sl_kds_67, sw_fit_i, sw_fit_r, sw_fit_n, sw_fit_l, sw_fit_d, sw_fit_b, sw_fit_0, sw_fit_1, sw_rel_0, sw_rel_1, sw_rel_2, sw_rel_3, sw_rel_4, sw_rel_5, sw_hp_set, sw_nx_set, sw_sl_set, sw_ev_set, sw_hp_new, sw_nx_new, sw_sl_new, sw_ev_new, List.getElem?_cons_zero, List.getElem?_cons_succ, List.set_cons_zero, List.set_cons_succ, List.length_cons, List.length_nil, Nat.reduceAdd, Nat.reduceSub, Nat.reduceLT, Nat.reduceLeDiff, Nat.zero_lt_succ, Nat.zero_add, beq_self_eq_true, Bool.true_and, and_true, true_and, and_self, not_true_eq_false, not_false_eq_true, ↓reduceIte, Nat.reduceBEq, eq_self, sw_b_0, sw_b_1, decide_eq_false_iff_not, decide_eq_true_eq, sl_n10, sl_n01, Decidable.not_not, sl_ct, sl_cats_0, sl_cats_i, sl_cats_r, sl_cats_n, sl_cats_l, sl_ok_5, sl_ok9, decide_true, sp_machC, sp_nodeC, sp_opC, sl_z0, sl_z1, sl_z2, sl_z3, sl_z4, sl_z5, sl_z6, sl_z7, sl_c0, sl_c1, sl_c2, sl_c3, sl_c4, sl_c5, sl_c6, sl_c7, List.length_map, ho.1, ho1.1, sp_odC, f1, f2, f4, r1, ho1.2.1, e4, e5, e6, e7, sl_map_set, sl_vt64, nI_1, sl_kds_1]
end
