/-! ===== the component's lives: into the row ===== -/
section
variable {ev : Nat → Nat} {lv ol mach rw l a b D d c s : Nat} {pa : sp_PA} {N : List (Nat × sp_Node)} {B : List sp_Blk} {M : List (Nat × sp_Op)} {Rw : sp_LR} {m : sp_Mach} {L T : List Int32} {out v g f : Int32} {P : sw_P} {x y : sp_Life} {F : List sl_A}
theorem sl_lvs_el (h : sl_rd (sw_hp P) (sl_all (Rw.map (sl_lifeA (M.map (·.1)))))) : ∀ v ∈ Rw.map (fun x => Value.ref x.1), sw_el P sw_k67 v = true := by
  intro v hv
  obtain ⟨x, hx, rfl⟩ := List.mem_map.mp hv
  have h1 := sl_rd_pt.mp (sl_rds_mem (sl_rd_all h) _ (List.mem_map.mpr ⟨x, hx, rfl⟩))
  show sw_kds _ _ = true
  rw [h1]
  exact sl_k67 _ (by decide)
theorem jc_X8_put (hD : 10 ≤ D) (hok : sp_lvok M Rw T)
    (h : sl_st ev c s P (sl_pt a (sp_lifeC (M.map (·.1)) x) :: (sl_lvs ev lv ol pa.1 mach rw M Rw ++ (sl_pt mach (sp_machC m l) :: sl_pt l (64, L.map .int) :: (sl_prog ev pa N B T out ++ F))))) :
    ∃ (P' : sw_P), sw_Z D m_X8_put [.ref lv, .ref a] P = some (.inl none, P') ∧ sl_st ev (c + sl_gA Rw.length) (s + sl_gS Rw.length) P' (sl_lvs ev lv ol pa.1 mach rw M (Rw.take (sp_pp (Rw.map (·.2)) x.2.1 Rw.length) ++ (a, x) :: Rw.drop (sp_pp (Rw.map (·.2)) x.2.1 Rw.length)) ++ (sl_pt mach (sp_machC m l) :: sl_pt l (64, L.map .int) :: (sl_prog ev pa N B T out ++ F))) := by
  obtain ⟨d, hDe, hDn⟩ := sw_dep hD; subst hDe; replace hD := hDn; clear hDn
  have hf := sl_lvs_rd h.rd.2
  have h0 := h.get 0 rfl
  have hR := hok.2.1
  obtain ⟨k1, k2⟩ := sp_lv_rwkd hf (d := d) (by omega)
  have hloop : ∀ k, k ≤ Rw.length → sw_at (sw_Z d) b_X8_put 1 [some (.ref lv), some (.ref a), some (.int (nI k))] [] P = sw_at (sw_Z d) b_X8_put 2 [some (.ref lv), some (.ref a), some (.int (nI (sp_pp (Rw.map (·.2)) x.2.1 k)))] [] P := by
    intro k
    induction k with
    | zero =>
      intro hk
      have e1 : (nI 0 : Int32) ≤ 0 := by decide
      rw [at_X8_put_1]; simp only [ey_ld, sk_ld_s, ey_gf, sk_gf_s, sk_v_s, ey_cv0, sk_c_s, ex_sti, ex_goto, ex_iz, ex_push, ex_ii, ey_cv1, ex_ct, ex_ic, ey_inc, sk_inc_s, ey_cv2, ex_ret, sw_gl_0, sw_gl_s, sw_fx_n, sw_fx_i, sw_fx_r, sw_fx_0, sw_fx_l, sw_fx_d, sw_sl1_0, sw_sl1_1, sw_sl1_s, sw_no_0, sw_no_s, sw_no_e, sw_mk_t, sw_mk_f, sw_mk_e, sw_en_0, sw_en_n, sw_en_i, sw_en_r, sw_en_z, sw_en_l, sw_en_d, sw_ok_0, sw_ok_1, sw_ok_2, sw_ok_3, sw_ok_4, sw_bo_s, sw_oi_s, sw_cl_s, sw_cl_x, sw_psh_s, sw_psh_n, sw_kd_s, sw_op_s, sw_oc_s, sw_oc_e, sw_oa_s, sw_el_n, sw_el_r, sl_kds_1, sl_kds_67, sw_fit_i, sw_fit_r, sw_fit_n, sw_fit_l, sw_fit_d, sw_fit_b, sw_fit_0, sw_fit_1, sw_rel_0, sw_rel_1, sw_rel_2, sw_rel_3, sw_rel_4, sw_rel_5, sw_hp_set, sw_nx_set, sw_sl_set, sw_ev_set, sw_hp_new, sw_nx_new, sw_sl_new, sw_ev_new, List.getElem?_cons_zero, List.getElem?_cons_succ, List.set_cons_zero, List.set_cons_succ, List.length_cons, List.length_nil, Nat.reduceAdd, Nat.reduceSub, Nat.reduceLT, Nat.reduceLeDiff, Nat.zero_lt_succ, Nat.zero_add, beq_self_eq_true, Bool.true_and, and_true, true_and, and_self, not_true_eq_false, not_false_eq_true, ↓reduceIte, Nat.reduceBEq, eq_self, sw_b_0, sw_b_1, decide_eq_false_iff_not, decide_eq_true_eq, sl_n10, sl_n01, Decidable.not_not, sl_ct, sl_cats_0, sl_cats_i, sl_cats_r, sl_cats_n, sl_cats_l, sl_ok_5, sl_ok9, decide_true, sp_machC, sp_nodeC, sp_opC, sl_z0, sl_z1, sl_z2, sl_z3, sl_z4, sl_z5, sl_z6, sl_z7, sl_c0, sl_c1, sl_c2, sl_c3, sl_c4, sl_c5, sl_c6, sl_c7, List.length_map, sp_lifeC, e1, sp_pp]
    | succ k ih =>
      intro hk
      have e1 : ¬ nI (k + 1) ≤ 0 := nI_nle (by omega) (by omega)
      obtain ⟨g1, g2, g3⟩ := sp_lv_row hf hok (d := d) (by omega) (k := k) (by omega)
      have e2 : nI (k + 1) - 1 = nI k := nI_pred k
      have e3 : nI (k + 1) + -1 = nI k := by rw [← Int32.sub_eq_add_neg]; exact nI_pred k
      have hs := ih (by omega)
      unfold sp_pp
      by_cases c1 : x.2.1 < ((Rw.map (·.2)).getD k sp_lz).2.1
      · have c1' : ¬ ((Rw.map (·.2)).getD k sp_lz).2.1 ≤ x.2.1 := Int32.not_le.mpr c1
        rw [at_X8_put_1]; simp only [ey_ld, sk_ld_s, ey_gf, sk_gf_s, sk_v_s, ey_cv0, sk_c_s, ex_sti, ex_goto, ex_iz, ex_push, ex_ii, ey_cv1, ex_ct, ex_ic, ey_inc, sk_inc_s, ey_cv2, ex_ret, sw_gl_0, sw_gl_s, sw_fx_n, sw_fx_i, sw_fx_r, sw_fx_0, sw_fx_l, sw_fx_d, sw_sl1_0, sw_sl1_1, sw_sl1_s, sw_no_0, sw_no_s, sw_no_e, sw_mk_t, sw_mk_f, sw_mk_e, sw_en_0, sw_en_n, sw_en_i, sw_en_r, sw_en_z, sw_en_l, sw_en_d, sw_ok_0, sw_ok_1, sw_ok_2, sw_ok_3, sw_ok_4, sw_bo_s, sw_oi_s, sw_cl_s, sw_cl_x, sw_psh_s, sw_psh_n, sw_kd_s, sw_op_s, sw_oc_s, sw_oc_e, sw_oa_s, sw_el_n, sw_el_r, sl_kds_1, sl_kds_67, sw_fit_i, sw_fit_r, sw_fit_n, sw_fit_l, sw_fit_d, sw_fit_b, sw_fit_0, sw_fit_1, sw_rel_0, sw_rel_1, sw_rel_2, sw_rel_3, sw_rel_4, sw_rel_5, sw_hp_set, sw_nx_set, sw_sl_set, sw_ev_set, sw_hp_new, sw_nx_new, sw_sl_new, sw_ev_new, List.getElem?_cons_zero, List.getElem?_cons_succ, List.set_cons_zero, List.set_cons_succ, List.length_cons, List.length_nil, Nat.reduceAdd, Nat.reduceSub, Nat.reduceLT, Nat.reduceLeDiff, Nat.zero_lt_succ, Nat.zero_add, beq_self_eq_true, Bool.true_and, and_true, true_and, and_self, not_true_eq_false, not_false_eq_true, ↓reduceIte, Nat.reduceBEq, eq_self, sw_b_0, sw_b_1, decide_eq_false_iff_not, decide_eq_true_eq, sl_n10, sl_n01, Decidable.not_not, sl_ct, sl_cats_0, sl_cats_i, sl_cats_r, sl_cats_n, sl_cats_l, sl_ok_5, sl_ok9, decide_true, sp_machC, sp_nodeC, sp_opC, sl_z0, sl_z1, sl_z2, sl_z3, sl_z4, sl_z5, sl_z6, sl_z7, sl_c0, sl_c1, sl_c2, sl_c3, sl_c4, sl_c5, sl_c6, sl_c7, List.length_map, sp_lifeC, hf.1, sp_lvC, k1, e1, e2, e3, g1, g2, h0, c1', eq_true c1, sl_kds_1]
        exact hs
      · have c1' : ((Rw.map (·.2)).getD k sp_lz).2.1 ≤ x.2.1 := Int32.not_lt.mp c1
        rw [at_X8_put_1]; simp only [ey_ld, sk_ld_s, ey_gf, sk_gf_s, sk_v_s, ey_cv0, sk_c_s, ex_sti, ex_goto, ex_iz, ex_push, ex_ii, ey_cv1, ex_ct, ex_ic, ey_inc, sk_inc_s, ey_cv2, ex_ret, sw_gl_0, sw_gl_s, sw_fx_n, sw_fx_i, sw_fx_r, sw_fx_0, sw_fx_l, sw_fx_d, sw_sl1_0, sw_sl1_1, sw_sl1_s, sw_no_0, sw_no_s, sw_no_e, sw_mk_t, sw_mk_f, sw_mk_e, sw_en_0, sw_en_n, sw_en_i, sw_en_r, sw_en_z, sw_en_l, sw_en_d, sw_ok_0, sw_ok_1, sw_ok_2, sw_ok_3, sw_ok_4, sw_bo_s, sw_oi_s, sw_cl_s, sw_cl_x, sw_psh_s, sw_psh_n, sw_kd_s, sw_op_s, sw_oc_s, sw_oc_e, sw_oa_s, sw_el_n, sw_el_r, sl_kds_1, sl_kds_67, sw_fit_i, sw_fit_r, sw_fit_n, sw_fit_l, sw_fit_d, sw_fit_b, sw_fit_0, sw_fit_1, sw_rel_0, sw_rel_1, sw_rel_2, sw_rel_3, sw_rel_4, sw_rel_5, sw_hp_set, sw_nx_set, sw_sl_set, sw_ev_set, sw_hp_new, sw_nx_new, sw_sl_new, sw_ev_new, List.getElem?_cons_zero, List.getElem?_cons_succ, List.set_cons_zero, List.set_cons_succ, List.length_cons, List.length_nil, Nat.reduceAdd, Nat.reduceSub, Nat.reduceLT, Nat.reduceLeDiff, Nat.zero_lt_succ, Nat.zero_add, beq_self_eq_true, Bool.true_and, and_true, true_and, and_self, not_true_eq_false, not_false_eq_true, ↓reduceIte, Nat.reduceBEq, eq_self, sw_b_0, sw_b_1, decide_eq_false_iff_not, decide_eq_true_eq, sl_n10, sl_n01, Decidable.not_not, sl_ct, sl_cats_0, sl_cats_i, sl_cats_r, sl_cats_n, sl_cats_l, sl_ok_5, sl_ok9, decide_true, sp_machC, sp_nodeC, sp_opC, sl_z0, sl_z1, sl_z2, sl_z3, sl_z4, sl_z5, sl_z6, sl_z7, sl_c0, sl_c1, sl_c2, sl_c3, sl_c4, sl_c5, sl_c6, sl_c7, List.length_map, sp_lifeC, hf.1, sp_lvC, k1, e1, e2, g1, g2, h0, eq_true c1', eq_false c1, sl_kds_1]
  have hs := hloop Rw.length (Nat.le_refl _)
  have hpl := sp_pp_le (Rw.map (·.2)) x.2.1 Rw.length
  obtain ⟨P', r1, r2⟩ := jc_J2_add_3 (D := d) (i := sp_pp (Rw.map (·.2)) x.2.1 Rw.length) (b := a) (by omega) (h.pk [4]) (by rw [List.length_map]; exact hpl) (by rw [List.length_map]; omega) (sl_lvs_el hf.2.2.2.2.1) (by rw [h0]; exact sl_k67 _ (by decide))
  rw [List.length_map] at r2
  have e4 : (Rw.map fun x => Value.ref x.1).take (sp_pp (Rw.map (·.2)) x.2.1 Rw.length) ++ Value.ref a :: (Rw.map fun x => Value.ref x.1).drop (sp_pp (Rw.map (·.2)) x.2.1 Rw.length) = (Rw.take (sp_pp (Rw.map (·.2)) x.2.1 Rw.length) ++ (a, x) :: Rw.drop (sp_pp (Rw.map (·.2)) x.2.1 Rw.length)).map fun x => Value.ref x.1 := by
    rw [List.map_append, List.map_cons, List.map_take, List.map_drop]
  rw [e4] at r2
  have q := sl_st.insall (A := sl_lifeA (M.map (·.1))) (i := sp_pp (Rw.map (·.2)) x.2.1 Rw.length) (x := (a, x)) (l := Rw) (r2.pk [1, 5])
  refine ⟨P', ?_, q.pk [2, 3, 4, 1, 0]⟩
  rw [M_X8_put _ _ _ rfl]; simp only [at_X8_put_0, ey_ld, sk_ld_s, ey_gf, sk_gf_s, sk_v_s, ey_cv0, sk_c_s, ex_sti, ex_goto, ex_iz, ex_push, ex_ii, ey_cv1, ex_ct, ex_ic, ey_inc, sk_inc_s, ey_cv2, ex_ret, sw_gl_0, sw_gl_s, sw_fx_n, sw_fx_i, sw_fx_r, sw_fx_0, sw_fx_l, sw_fx_d, sw_sl1_0, sw_sl1_1, sw_sl1_s, sw_no_0, sw_no_s, sw_no_e, sw_mk_t, sw_mk_f, sw_mk_e, sw_en_0, sw_en_n, sw_en_i, sw_en_r, sw_en_z, sw_en_l, sw_en_d, sw_ok_0, sw_ok_1, sw_ok_2, sw_ok_3, sw_ok_4, sw_bo_s, sw_oi_s, sw_cl_s, sw_cl_x, sw_psh_s, sw_psh_n, sw_kd_s, sw_op_s, sw_oc_s, sw_oc_e, sw_oa_s, sw_el_n, sw_el_r, sl_kds_1, sl_kds_67, sw_fit_i, sw_fit_r, sw_fit_n, sw_fit_l, sw_fit_d, sw_fit_b, sw_fit_0, sw_fit_1, sw_rel_0, sw_rel_1, sw_rel_2, sw_rel_3, sw_rel_4, sw_rel_5, sw_hp_set, sw_nx_set, sw_sl_set, sw_ev_set, sw_hp_new, sw_nx_new, sw_sl_new, sw_ev_new, List.getElem?_cons_zero, List.getElem?_cons_succ, List.set_cons_zero, List.set_cons_succ, List.length_cons, List.length_nil, Nat.reduceAdd, Nat.reduceSub, Nat.reduceLT, Nat.reduceLeDiff, Nat.zero_lt_succ, Nat.zero_add, beq_self_eq_true, Bool.true_and, and_true, true_and, and_self, not_true_eq_false, not_false_eq_true, ↓reduceIte, Nat.reduceBEq, eq_self, sw_b_0, sw_b_1, decide_eq_false_iff_not, decide_eq_true_eq, sl_n10, sl_n01, Decidable.not_not, sl_ct, sl_cats_0, sl_cats_i, sl_cats_r, sl_cats_n, sl_cats_l, sl_ok_5, sl_ok9, decide_true, sp_machC, sp_nodeC, sp_opC, sl_z0, sl_z1, sl_z2, sl_z3, sl_z4, sl_z5, sl_z6, sl_z7, sl_c0, sl_c1, sl_c2, sl_c3, sl_c4, sl_c5, sl_c6, sl_c7, List.length_map, sp_lifeC, hf.1, sp_lvC, k1, k2]
  rw [hs]
  rw [at_X8_put_2]; simp only [ey_ld, sk_ld_s, ey_gf, sk_gf_s, sk_v_s, ey_cv0, sk_c_s, ex_sti, ex_goto, ex_iz, ex_push, ex_ii, ey_cv1, ex_ct, ex_ic, ey_inc, sk_inc_s, ey_cv2, ex_ret, sw_gl_0, sw_gl_s, sw_fx_n, sw_fx_i, sw_fx_r, sw_fx_0, sw_fx_l, sw_fx_d, sw_sl1_0, sw_sl1_1, sw_sl1_s, sw_no_0, sw_no_s, sw_no_e, sw_mk_t, sw_mk_f, sw_mk_e, sw_en_0, sw_en_n, sw_en_i, sw_en_r, sw_en_z, sw_en_l, sw_en_d, sw_ok_0, sw_ok_1, sw_ok_2, sw_ok_3, sw_ok_4, sw_bo_s, sw_oi_s, sw_cl_s, sw_cl_x, sw_psh_s, sw_psh_n, sw_kd_s, sw_op_s, sw_oc_s, sw_oc_e, sw_oa_s, sw_el_n, sw_el_r, sl_kds_1, sl_kds_67, sw_fit_i, sw_fit_r, sw_fit_n, sw_fit_l, sw_fit_d, sw_fit_b, sw_fit_0, sw_fit_1, sw_rel_0, sw_rel_1, sw_rel_2, sw_rel_3, sw_rel_4, sw_rel_5, sw_hp_set, sw_nx_set, sw_sl_set, sw_ev_set, sw_hp_new, sw_nx_new, sw_sl_new, sw_ev_new, List.getElem?_cons_zero, List.getElem?_cons_succ, List.set_cons_zero, List.set_cons_succ, List.length_cons, List.length_nil, Nat.reduceAdd, Nat.reduceSub, Nat.reduceLT, Nat.reduceLeDiff, Nat.zero_lt_succ, Nat.zero_add, beq_self_eq_true, Bool.true_and, and_true, true_and, and_self, not_true_eq_false, not_false_eq_true, ↓reduceIte, Nat.reduceBEq, eq_self, sw_b_0, sw_b_1, decide_eq_false_iff_not, decide_eq_true_eq, sl_n10, sl_n01, Decidable.not_not, sl_ct, sl_cats_0, sl_cats_i, sl_cats_r, sl_cats_n, sl_cats_l, sl_ok_5, sl_ok9, decide_true, sp_machC, sp_nodeC, sp_opC, sl_z0, sl_z1, sl_z2, sl_z3, sl_z4, sl_z5, sl_z6, sl_z7, sl_c0, sl_c1, sl_c2, sl_c3, sl_c4, sl_c5, sl_c6, sl_c7, List.length_map, sp_lifeC, hf.1, sp_lvC, k1, r1]
/-! registers -/
def sp_lsF (m : sp_Mach) (Rs : List sp_Life) (k0 : Nat) (j : Nat) (best : Nat) : Nat := if sp_isHeld (Rs.getD j sp_lz) (Rs.getD k0 sp_lz).2.1 = true ∧ sp_canHave m (Rs.getD k0 sp_lz) (Rs.getD j sp_lz).2.2.2.2.2.2.2.1 = true ∧ sp_less (Rs.getD j sp_lz) (Rs.getD best sp_lz) = true then j else best
def sp_lst (m : sp_Mach) (Rs : List sp_Life) (k0 : Nat) : Nat → Nat := sw_it (sp_lsF m Rs k0) k0
/-- the first register that can be taken, from g on -/
def sp_1st (m : sp_Mach) (Rs : List sp_Life) (x : sp_Life) (n : Nat) : Nat → Option Nat
  | 0 => none
  | j + 1 => if sp_canTake m Rs x (nI (n - (j + 1))) = true then some (n - (j + 1)) else sp_1st m Rs x n j
def sp_setG (x : sp_Life) (g : Int32) : sp_Life := (x.1, x.2.1, x.2.2.1, x.2.2.2.1, x.2.2.2.2.1, x.2.2.2.2.2.1, x.2.2.2.2.2.2.1, g, x.2.2.2.2.2.2.2.2.1, x.2.2.2.2.2.2.2.2.2.1, x.2.2.2.2.2.2.2.2.2.2)
def sp_setS (x : sp_Life) : sp_Life := (x.1, x.2.1, x.2.2.1, x.2.2.2.1, x.2.2.2.2.1, x.2.2.2.2.2.1, x.2.2.2.2.2.2.1, -1, true, x.2.2.2.2.2.2.2.2.2.1, x.2.2.2.2.2.2.2.2.2.2)
def sp_give (m : sp_Mach) (os : List sp_Op) (k : Nat) (Rs : List sp_Life) : List sp_Life :=
  if sp_canTake m Rs (Rs.getD k sp_lz) (sp_hint m os Rs (Rs.getD k sp_lz)) = true then Rs.set k (sp_setG (Rs.getD k sp_lz) (sp_hint m os Rs (Rs.getD k sp_lz)))
  else match sp_1st m Rs (Rs.getD k sp_lz) (m.1 - 3).toNatClampNeg (m.1 - 3).toNatClampNeg with
    | some g => Rs.set k (sp_setG (Rs.getD k sp_lz) (nI g))
    | none => if sp_lst m Rs k Rs.length = k then Rs.set k (sp_setS (Rs.getD k sp_lz)) else (Rs.set (sp_lst m Rs k Rs.length) (sp_setS (Rs.getD (sp_lst m Rs k Rs.length) sp_lz))).set k (sp_setG (Rs.getD k sp_lz) (Rs.getD (sp_lst m Rs k Rs.length) sp_lz).2.2.2.2.2.2.2.1)
theorem sp_lst_lt (m : sp_Mach) (Rs : List sp_Life) (k0 n j : Nat) (h0 : k0 < n) (hj : j ≤ n) : sp_lst m Rs k0 j < n := by
  induction j with
  | zero => exact h0
  | succ j ih =>
    show sp_lsF m Rs k0 j (sp_lst m Rs k0 j) < n
    unfold sp_lsF
    split
    · omega
    · exact ih (by omega)
/-- two of a row are apart -/
theorem sl_st.apart {α : Type} {A : α → sl_A} {ev : Nat → Nat} {c s : Nat} {P : sw_P} {l : List α} {F : List sl_A} {i j : Nat} {x y : α} {ax ay : Nat} {ox oy : sw_O} (h : sl_st ev c s P (sl_all (l.map A) :: F)) (hi : l[i]? = some x) (hj : l[j]? = some y) (hne : i ≠ j) (hx : A x = sl_pt ax ox) (hy : A y = sl_pt ay oy) : ax ≠ ay := by
  have h1 := h.pickall hi
  have h2 : (l.eraseIdx i)[if j < i then j else j - 1]? = some y := by
    rw [List.getElem?_eraseIdx]
    split
    · exact hj
    · rename_i q
      rw [if_neg (by omega), show j - 1 + 1 = j by omega]; exact hj
  have h3 := (h1.pk [1]).pickall h2
  have h4 := h3.pk [2, 0]
  rw [hx, hy] at h4
  intro e
  subst e
  have h5 := sl_st.set0 h4 (99, [])
  have h6 := h5.get 1 rfl
  have h7 := h4.get 1 rfl
  rw [sw_hp_set, if_pos rfl] at h6
  have h8 := sl_st.set0 (h4.pk [1]) (98, [])
  have h9 := h8.get 1 rfl
  rw [sw_hp_set, if_pos rfl] at h9
  have e1 := h4.get 0 rfl
  have q := congrArg Prod.fst (Option.some.inj (h6.trans (h7.symm.trans (e1.trans h9.symm))))
  exact absurd q (by decide)
end
