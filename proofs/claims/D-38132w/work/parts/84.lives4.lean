/-! ===== the component's lives: a register is given ===== -/
section
variable {ev : Nat → Nat} {lv ol mach rw l a b D d c s : Nat} {pa : sp_PA} {N : List (Nat × sp_Node)} {B : List sp_Blk} {M : List (Nat × sp_Op)} {Rw : sp_LR} {m : sp_Mach} {L T : List Int32} {out v g f : Int32} {P : sw_P} {x y : sp_Life} {F : List sl_A}
/-- the life at a place gets other cells -/
theorem sl_lvs_set {k : Nat} {z : Nat × sp_Life} {R : List sl_A} (hk : Rw[k]? = some z) (y : sp_Life) (h : sl_st ev c s P (sl_lvs ev lv ol pa.1 mach rw M Rw ++ R)) : sl_st ev c s (sw_set P z.1 (sp_lifeC (M.map (·.1)) y)) (sl_lvs ev lv ol pa.1 mach rw M (Rw.set k (z.1, y)) ++ R) := by
  have h1 := (h.pk [4]).pickall (A := sl_lifeA (M.map (·.1))) hk
  have h2 := sl_st.set0 h1 (sp_lifeC (M.map (·.1)) y)
  have h3 := sl_st.putall (A := sl_lifeA (M.map (·.1))) (y := (z.1, y)) hk h2
  unfold sl_lvs
  rw [sl_refs_set Rw k z y hk]
  exact h3.pk [1, 2, 3, 4, 0]
theorem sp_snd_set (Rw : sp_LR) (k : Nat) (z : Nat) (y : sp_Life) : (Rw.set k (z, y)).map (·.2) = (Rw.map (·.2)).set k y := by rw [List.map_set]
/-- give, with what is wished for sound -/
theorem jc_X8_give {k : Nat} (hD : 8 ≤ D) (hok : sp_lvok M Rw T) (hk : k < Rw.length) (hm : 5 ≤ m.1.toNatClampNeg ∧ m.1.toNatClampNeg ≤ 11 ∧ m.1 = nI m.1.toNatClampNeg)
    (hw : sp_wish m ((M.map (·.2)).getD Rw[k].2.2.2.2.2.2.2.2.2.2.2 sp_oz) = true → 0 < ((M.map (·.2)).getD Rw[k].2.2.2.2.2.2.2.2.2.2.2 sp_oz).2.2.1.length ∧ ∃ q, sp_plc (Rw.map (·.2)) (((M.map (·.2)).getD Rw[k].2.2.2.2.2.2.2.2.2.2.2 sp_oz).2.2.1.getD 0 0) Rw.length = some q)
    (h : sl_st ev c s P (sl_lvs ev lv ol pa.1 mach rw M Rw ++ (sl_pt mach (sp_machC m l) :: sl_pt l (64, L.map .int) :: (sl_prog ev pa N B T out ++ F)))) :
    ∃ (P' : sw_P) (Rw' : sp_LR), sw_Z D m_X8_give [.ref lv, .ref Rw[k].1] P = some (.inl none, P') ∧ Rw'.map (·.2) = sp_give m (M.map (·.2)) k (Rw.map (·.2)) ∧ Rw'.map (·.1) = Rw.map (·.1) ∧ sl_st ev c s P' (sl_lvs ev lv ol pa.1 mach rw M Rw' ++ (sl_pt mach (sp_machC m l) :: sl_pt l (64, L.map .int) :: (sl_prog ev pa N B T out ++ F))) := by
  obtain ⟨d, hDe, hDn⟩ := sw_dep hD; subst hDe; replace hD := hDn; clear hDn
  have hf := sl_lvs_rd h.rd
  have hR := hok.2.1
  obtain ⟨k1, k2⟩ := sp_lv_rwkd hf (d := d) (by omega)
  obtain ⟨g1, g2, g3⟩ := sp_lv_row hf hok (d := d) (by omega) hk
  have ex : Rw[k]? = some Rw[k] := List.getElem?_eq_getElem hk
  have hkM := (hok.2.2.2.2 _ (List.getElem_mem hk)).1
  have hx0 := (hok.2.2.2.2 _ (List.getElem_mem hk)).2.2.2
  rw [g3] at g2
  have e1 := jc_X8_hint (D := d) (by omega) hf hok g2 hkM hw
  have e2 := jc_X8_canTake (D := d) (g := sp_hint m (M.map (·.2)) (Rw.map (·.2)) Rw[k].2) (by omega) hf hok g2
  have esc := jc_X3_scratch (D := d) (by omega) hf.2.2.2.2.2.1
  obtain ⟨lm, em, -⟩ := hf.2.2.2.2.2.1
  have fst_set : ∀ (q : Nat) (z : sp_Life) (R : sp_LR) (hq : q < R.length), (R.set q (R[q].1, z)).map (·.1) = R.map (·.1) := by
    intro q z R hq
    rw [List.map_set]
    exact List.ext_getElem? fun j => by
      rw [List.getElem?_set]
      split
      · rename_i e; subst e
        rw [if_pos (by rw [List.length_map]; exact hq), List.getElem?_map, List.getElem?_eq_getElem hq]; rfl
      · rfl
  cases c1 : sp_canTake m (Rw.map (·.2)) Rw[k].2 (sp_hint m (M.map (·.2)) (Rw.map (·.2)) Rw[k].2) <;> rw [c1] at e2
  case true =>
    have s1 := sl_lvs_set ex (sp_setG Rw[k].2 (sp_hint m (M.map (·.2)) (Rw.map (·.2)) Rw[k].2)) h
    refine ⟨_, _, ?_, ?_, fst_set k _ Rw hk, s1⟩
    · rw [M_X8_give _ _ _ rfl]; simp only [at_X8_give_0, ey_ld, sk_ld_s, ey_cv1, sk_c_s, ey_cv2, ex_iz, ey_pf, sk_pf_s, sw_set_set, ex_ret, ex_push, ex_sti, ex_goto, ey_gf, sk_gf_s, sk_v_s, ey_cv0, ex_ic, ey_inc, sk_inc_s, ex_sta, ex_sta_n, ex_ct, ey_cs2, ex_iac_t, ex_iac_f, sw_gl_0, sw_gl_s, sw_fx_n, sw_fx_i, sw_fx_r, sw_fx_0, sw_fx_l, sw_fx_d, sw_sl1_0, sw_sl1_1, sw_sl1_s, sw_no_0, sw_no_s, sw_no_e, sw_mk_t, sw_mk_f, sw_mk_e, sw_en_0, sw_en_n, sw_en_i, sw_en_r, sw_en_z, sw_en_l, sw_en_d, sw_ok_0, sw_ok_1, sw_ok_2, sw_ok_3, sw_ok_4, sw_bo_s, sw_oi_s, sw_cl_s, sw_cl_x, sw_psh_s, sw_psh_n, sw_kd_s, sw_op_s, sw_oc_s, sw_oc_e, sw_oa_s, sw_el_n, sw_el_r, sl_kds_1, sl_kds_67, sw_fit_i, sw_fit_r, sw_fit_n, sw_fit_l, sw_fit_d, sw_fit_b, sw_fit_0, sw_fit_1, sw_rel_0, sw_rel_1, sw_rel_2, sw_rel_3, sw_rel_4, sw_rel_5, sw_hp_set, sw_nx_set, sw_sl_set, sw_ev_set, sw_hp_new, sw_nx_new, sw_sl_new, sw_ev_new, List.getElem?_cons_zero, List.getElem?_cons_succ, List.set_cons_zero, List.set_cons_succ, List.length_cons, List.length_nil, Nat.reduceAdd, Nat.reduceSub, Nat.reduceLT, Nat.reduceLeDiff, Nat.zero_lt_succ, Nat.zero_add, beq_self_eq_true, Bool.true_and, and_true, true_and, and_self, not_true_eq_false, not_false_eq_true, ↓reduceIte, Nat.reduceBEq, eq_self, sw_b_0, sw_b_1, decide_eq_false_iff_not, decide_eq_true_eq, sl_n10, sl_n01, Decidable.not_not, sl_ct, sl_cats_0, sl_cats_i, sl_cats_r, sl_cats_n, sl_cats_l, sl_ok_5, sl_ok9, decide_true, sp_machC, sp_nodeC, sp_opC, sl_z0, sl_z1, sl_z2, sl_z3, sl_z4, sl_z5, sl_z6, sl_z7, sl_c0, sl_c1, sl_c2, sl_c3, sl_c4, sl_c5, sl_c6, sl_c7, List.length_map, sp_lifeC, hf.1, sp_lvC, e1, e2, g2, sw_b_t, sp_setG, reduceCtorEq]
    · unfold sp_give
      rw [g3, if_pos c1, sp_snd_set]
  case false =>
    have hs0 : sw_Z (d + 1) m_X8_give [.ref lv, .ref Rw[k].1] P = sw_at (sw_Z d) b_X8_give 2 [some (.ref lv), some (.ref Rw[k].1), some (.int (nI 0)), none, none, none] [] P := by
      rw [M_X8_give _ _ _ rfl]; simp only [at_X8_give_0, at_X8_give_1, ey_ld, sk_ld_s, ey_cv1, sk_c_s, ey_cv2, ex_iz, ey_pf, sk_pf_s, sw_set_set, ex_ret, ex_push, ex_sti, ex_goto, ey_gf, sk_gf_s, sk_v_s, ey_cv0, ex_ic, ey_inc, sk_inc_s, ex_sta, ex_sta_n, ex_ct, ey_cs2, ex_iac_t, ex_iac_f, sw_gl_0, sw_gl_s, sw_fx_n, sw_fx_i, sw_fx_r, sw_fx_0, sw_fx_l, sw_fx_d, sw_sl1_0, sw_sl1_1, sw_sl1_s, sw_no_0, sw_no_s, sw_no_e, sw_mk_t, sw_mk_f, sw_mk_e, sw_en_0, sw_en_n, sw_en_i, sw_en_r, sw_en_z, sw_en_l, sw_en_d, sw_ok_0, sw_ok_1, sw_ok_2, sw_ok_3, sw_ok_4, sw_bo_s, sw_oi_s, sw_cl_s, sw_cl_x, sw_psh_s, sw_psh_n, sw_kd_s, sw_op_s, sw_oc_s, sw_oc_e, sw_oa_s, sw_el_n, sw_el_r, sl_kds_1, sl_kds_67, sw_fit_i, sw_fit_r, sw_fit_n, sw_fit_l, sw_fit_d, sw_fit_b, sw_fit_0, sw_fit_1, sw_rel_0, sw_rel_1, sw_rel_2, sw_rel_3, sw_rel_4, sw_rel_5, sw_hp_set, sw_nx_set, sw_sl_set, sw_ev_set, sw_hp_new, sw_nx_new, sw_sl_new, sw_ev_new, List.getElem?_cons_zero, List.getElem?_cons_succ, List.set_cons_zero, List.set_cons_succ, List.length_cons, List.length_nil, Nat.reduceAdd, Nat.reduceSub, Nat.reduceLT, Nat.reduceLeDiff, Nat.zero_lt_succ, Nat.zero_add, beq_self_eq_true, Bool.true_and, and_true, true_and, and_self, not_true_eq_false, not_false_eq_true, ↓reduceIte, Nat.reduceBEq, eq_self, sw_b_0, sw_b_1, decide_eq_false_iff_not, decide_eq_true_eq, sl_n10, sl_n01, Decidable.not_not, sl_ct, sl_cats_0, sl_cats_i, sl_cats_r, sl_cats_n, sl_cats_l, sl_ok_5, sl_ok9, decide_true, sp_machC, sp_nodeC, sp_opC, sl_z0, sl_z1, sl_z2, sl_z3, sl_z4, sl_z5, sl_z6, sl_z7, sl_c0, sl_c1, sl_c2, sl_c3, sl_c4, sl_c5, sl_c6, sl_c7, List.length_map, sp_lifeC, hf.1, sp_lvC, e1, e2, g2, sw_b_f, reduceCtorEq]
      rfl
    rw [hs0]
    have hsc : m.1 - 3 = nI (m.1.toNatClampNeg - 3) := by
      rw [hm.2.2, nI_clamp (by omega)]
      exact pk_sub (b := 3) (by omega)
    have hscn : (m.1 - 3).toNatClampNeg = m.1.toNatClampNeg - 3 := by rw [hsc]; exact nI_clamp (by omega)
    have hgv : ∀ (r : Option Nat), sp_1st m (Rw.map (·.2)) Rw[k].2 (m.1.toNatClampNeg - 3) (m.1.toNatClampNeg - 3) = r → sp_give m (M.map (·.2)) k (Rw.map (·.2)) = match r with
        | some g => (Rw.map (·.2)).set k (sp_setG Rw[k].2 (nI g))
        | none => if sp_lst m (Rw.map (·.2)) k Rw.length = k then (Rw.map (·.2)).set k (sp_setS Rw[k].2) else ((Rw.map (·.2)).set (sp_lst m (Rw.map (·.2)) k Rw.length) (sp_setS ((Rw.map (·.2)).getD (sp_lst m (Rw.map (·.2)) k Rw.length) sp_lz))).set k (sp_setG Rw[k].2 ((Rw.map (·.2)).getD (sp_lst m (Rw.map (·.2)) k Rw.length) sp_lz).2.2.2.2.2.2.2.1) := by
      intro r hr
      unfold sp_give
      rw [g3, if_neg (by rw [c1]; decide), hscn, hr, List.length_map]
      cases r <;> rfl
    have hregs : ∀ j n, n + j = m.1.toNatClampNeg - 3 → (∃ gg, sp_1st m (Rw.map (·.2)) Rw[k].2 (m.1.toNatClampNeg - 3) j = some gg ∧ sw_at (sw_Z d) b_X8_give 2 [some (.ref lv), some (.ref Rw[k].1), some (.int (nI n)), none, none, none] [] P = some (.inl none, sw_set P Rw[k].1 (sp_lifeC (M.map (·.1)) (sp_setG Rw[k].2 (nI gg))))) ∨ (sp_1st m (Rw.map (·.2)) Rw[k].2 (m.1.toNatClampNeg - 3) j = none ∧ sw_at (sw_Z d) b_X8_give 2 [some (.ref lv), some (.ref Rw[k].1), some (.int (nI n)), none, none, none] [] P = sw_at (sw_Z d) b_X8_give 4 [some (.ref lv), some (.ref Rw[k].1), none, none, none, none] [] P) := by
      intro j
      induction j with
      | zero =>
        intro n hn
        have q1 : m.1 - 3 ≤ nI n := by rw [hsc]; exact nI_le (by omega) (by omega)
        refine Or.inr ⟨rfl, ?_⟩
        rw [at_X8_give_2]; simp only [ey_ld, sk_ld_s, ey_cv1, sk_c_s, ey_cv2, ex_iz, ey_pf, sk_pf_s, sw_set_set, ex_ret, ex_push, ex_sti, ex_goto, ey_gf, sk_gf_s, sk_v_s, ey_cv0, ex_ic, ey_inc, sk_inc_s, ex_sta, ex_sta_n, ex_ct, ey_cs2, ex_iac_t, ex_iac_f, sw_gl_0, sw_gl_s, sw_fx_n, sw_fx_i, sw_fx_r, sw_fx_0, sw_fx_l, sw_fx_d, sw_sl1_0, sw_sl1_1, sw_sl1_s, sw_no_0, sw_no_s, sw_no_e, sw_mk_t, sw_mk_f, sw_mk_e, sw_en_0, sw_en_n, sw_en_i, sw_en_r, sw_en_z, sw_en_l, sw_en_d, sw_ok_0, sw_ok_1, sw_ok_2, sw_ok_3, sw_ok_4, sw_bo_s, sw_oi_s, sw_cl_s, sw_cl_x, sw_psh_s, sw_psh_n, sw_kd_s, sw_op_s, sw_oc_s, sw_oc_e, sw_oa_s, sw_el_n, sw_el_r, sl_kds_1, sl_kds_67, sw_fit_i, sw_fit_r, sw_fit_n, sw_fit_l, sw_fit_d, sw_fit_b, sw_fit_0, sw_fit_1, sw_rel_0, sw_rel_1, sw_rel_2, sw_rel_3, sw_rel_4, sw_rel_5, sw_hp_set, sw_nx_set, sw_sl_set, sw_ev_set, sw_hp_new, sw_nx_new, sw_sl_new, sw_ev_new, List.getElem?_cons_zero, List.getElem?_cons_succ, List.set_cons_zero, List.set_cons_succ, List.length_cons, List.length_nil, Nat.reduceAdd, Nat.reduceSub, Nat.reduceLT, Nat.reduceLeDiff, Nat.zero_lt_succ, Nat.zero_add, beq_self_eq_true, Bool.true_and, and_true, true_and, and_self, not_true_eq_false, not_false_eq_true, ↓reduceIte, Nat.reduceBEq, eq_self, sw_b_0, sw_b_1, decide_eq_false_iff_not, decide_eq_true_eq, sl_n10, sl_n01, Decidable.not_not, sl_ct, sl_cats_0, sl_cats_i, sl_cats_r, sl_cats_n, sl_cats_l, sl_ok_5, sl_ok9, decide_true, sp_machC, sp_nodeC, sp_opC, sl_z0, sl_z1, sl_z2, sl_z3, sl_z4, sl_z5, sl_z6, sl_z7, sl_c0, sl_c1, sl_c2, sl_c3, sl_c4, sl_c5, sl_c6, sl_c7, List.length_map, sp_lifeC, hf.1, sp_lvC, esc, em, q1]
      | succ j ih =>
        intro n hn
        have q1 : ¬ m.1 - 3 ≤ nI n := by rw [hsc]; exact nI_ge (by omega) (by omega)
        have q2 := jc_X8_canTake (D := d) (g := nI n) (by omega) hf hok g2
        have q3 : m.1.toNatClampNeg - 3 - (j + 1) = n := by omega
        unfold sp_1st
        rw [q3]
        cases q4 : sp_canTake m (Rw.map (·.2)) Rw[k].2 (nI n) <;> rw [q4] at q2
        · have hstep : sw_at (sw_Z d) b_X8_give 2 [some (.ref lv), some (.ref Rw[k].1), some (.int (nI n)), none, none, none] [] P = sw_at (sw_Z d) b_X8_give 2 [some (.ref lv), some (.ref Rw[k].1), some (.int (nI (n + 1))), none, none, none] [] P := by
            rw [at_X8_give_2]; simp only [at_X8_give_3, ey_ld, sk_ld_s, ey_cv1, sk_c_s, ey_cv2, ex_iz, ey_pf, sk_pf_s, sw_set_set, ex_ret, ex_push, ex_sti, ex_goto, ey_gf, sk_gf_s, sk_v_s, ey_cv0, ex_ic, ey_inc, sk_inc_s, ex_sta, ex_sta_n, ex_ct, ey_cs2, ex_iac_t, ex_iac_f, sw_gl_0, sw_gl_s, sw_fx_n, sw_fx_i, sw_fx_r, sw_fx_0, sw_fx_l, sw_fx_d, sw_sl1_0, sw_sl1_1, sw_sl1_s, sw_no_0, sw_no_s, sw_no_e, sw_mk_t, sw_mk_f, sw_mk_e, sw_en_0, sw_en_n, sw_en_i, sw_en_r, sw_en_z, sw_en_l, sw_en_d, sw_ok_0, sw_ok_1, sw_ok_2, sw_ok_3, sw_ok_4, sw_bo_s, sw_oi_s, sw_cl_s, sw_cl_x, sw_psh_s, sw_psh_n, sw_kd_s, sw_op_s, sw_oc_s, sw_oc_e, sw_oa_s, sw_el_n, sw_el_r, sl_kds_1, sl_kds_67, sw_fit_i, sw_fit_r, sw_fit_n, sw_fit_l, sw_fit_d, sw_fit_b, sw_fit_0, sw_fit_1, sw_rel_0, sw_rel_1, sw_rel_2, sw_rel_3, sw_rel_4, sw_rel_5, sw_hp_set, sw_nx_set, sw_sl_set, sw_ev_set, sw_hp_new, sw_nx_new, sw_sl_new, sw_ev_new, List.getElem?_cons_zero, List.getElem?_cons_succ, List.set_cons_zero, List.set_cons_succ, List.length_cons, List.length_nil, Nat.reduceAdd, Nat.reduceSub, Nat.reduceLT, Nat.reduceLeDiff, Nat.zero_lt_succ, Nat.zero_add, beq_self_eq_true, Bool.true_and, and_true, true_and, and_self, not_true_eq_false, not_false_eq_true, ↓reduceIte, Nat.reduceBEq, eq_self, sw_b_0, sw_b_1, decide_eq_false_iff_not, decide_eq_true_eq, sl_n10, sl_n01, Decidable.not_not, sl_ct, sl_cats_0, sl_cats_i, sl_cats_r, sl_cats_n, sl_cats_l, sl_ok_5, sl_ok9, decide_true, sp_machC, sp_nodeC, sp_opC, sl_z0, sl_z1, sl_z2, sl_z3, sl_z4, sl_z5, sl_z6, sl_z7, sl_c0, sl_c1, sl_c2, sl_c3, sl_c4, sl_c5, sl_c6, sl_c7, List.length_map, sp_lifeC, hf.1, sp_lvC, esc, em, q1, q2, sw_b_f, nI_1, reduceCtorEq]
          rw [hstep, if_neg (by decide)]
          exact ih (n + 1) (by omega)
        · rw [if_pos rfl]
          refine Or.inl ⟨n, rfl, ?_⟩
          rw [at_X8_give_2]; simp only [ey_ld, sk_ld_s, ey_cv1, sk_c_s, ey_cv2, ex_iz, ey_pf, sk_pf_s, sw_set_set, ex_ret, ex_push, ex_sti, ex_goto, ey_gf, sk_gf_s, sk_v_s, ey_cv0, ex_ic, ey_inc, sk_inc_s, ex_sta, ex_sta_n, ex_ct, ey_cs2, ex_iac_t, ex_iac_f, sw_gl_0, sw_gl_s, sw_fx_n, sw_fx_i, sw_fx_r, sw_fx_0, sw_fx_l, sw_fx_d, sw_sl1_0, sw_sl1_1, sw_sl1_s, sw_no_0, sw_no_s, sw_no_e, sw_mk_t, sw_mk_f, sw_mk_e, sw_en_0, sw_en_n, sw_en_i, sw_en_r, sw_en_z, sw_en_l, sw_en_d, sw_ok_0, sw_ok_1, sw_ok_2, sw_ok_3, sw_ok_4, sw_bo_s, sw_oi_s, sw_cl_s, sw_cl_x, sw_psh_s, sw_psh_n, sw_kd_s, sw_op_s, sw_oc_s, sw_oc_e, sw_oa_s, sw_el_n, sw_el_r, sl_kds_1, sl_kds_67, sw_fit_i, sw_fit_r, sw_fit_n, sw_fit_l, sw_fit_d, sw_fit_b, sw_fit_0, sw_fit_1, sw_rel_0, sw_rel_1, sw_rel_2, sw_rel_3, sw_rel_4, sw_rel_5, sw_hp_set, sw_nx_set, sw_sl_set, sw_ev_set, sw_hp_new, sw_nx_new, sw_sl_new, sw_ev_new, List.getElem?_cons_zero, List.getElem?_cons_succ, List.set_cons_zero, List.set_cons_succ, List.length_cons, List.length_nil, Nat.reduceAdd, Nat.reduceSub, Nat.reduceLT, Nat.reduceLeDiff, Nat.zero_lt_succ, Nat.zero_add, beq_self_eq_true, Bool.true_and, and_true, true_and, and_self, not_true_eq_false, not_false_eq_true, ↓reduceIte, Nat.reduceBEq, eq_self, sw_b_0, sw_b_1, decide_eq_false_iff_not, decide_eq_true_eq, sl_n10, sl_n01, Decidable.not_not, sl_ct, sl_cats_0, sl_cats_i, sl_cats_r, sl_cats_n, sl_cats_l, sl_ok_5, sl_ok9, decide_true, sp_machC, sp_nodeC, sp_opC, sl_z0, sl_z1, sl_z2, sl_z3, sl_z4, sl_z5, sl_z6, sl_z7, sl_c0, sl_c1, sl_c2, sl_c3, sl_c4, sl_c5, sl_c6, sl_c7, List.length_map, sp_lifeC, hf.1, sp_lvC, esc, em, q1, q2, g2, sw_b_t, sp_setG, reduceCtorEq]
    rcases hregs (m.1.toNatClampNeg - 3) 0 (by omega) with ⟨gg, q1, q2⟩ | ⟨q1, q2⟩
    · rw [q2]
      have s1 := sl_lvs_set ex (sp_setG Rw[k].2 (nI gg)) h
      refine ⟨_, _, rfl, ?_, fst_set k _ Rw hk, s1⟩
      rw [hgv _ q1, sp_snd_set]
    · rw [q2]
      -- the least
      have hlst : ∀ j i, i + j = Rw.length → ∀ hb : sp_lst m (Rw.map (·.2)) k i < Rw.length, sw_at (sw_Z d) b_X8_give 5 [some (.ref lv), some (.ref Rw[k].1), some (.ref (Rw[sp_lst m (Rw.map (·.2)) k i]).1), some (.int (nI i)), none, none] [] P = sw_at (sw_Z d) b_X8_give 10 [none, some (.ref Rw[k].1), some (.ref (Rw[sp_lst m (Rw.map (·.2)) k Rw.length]'(sp_lst_lt m _ k Rw.length Rw.length hk (Nat.le_refl _))).1), none, none, none] [] P := by
        intro j
        induction j with
        | zero =>
          intro i hi hb
          have : i = Rw.length := by omega
          subst this
          have r1 : nI Rw.length ≤ nI Rw.length := Int32.le_refl _
          rw [at_X8_give_5]; simp only [ey_ld, sk_ld_s, ey_cv1, sk_c_s, ey_cv2, ex_iz, ey_pf, sk_pf_s, sw_set_set, ex_ret, ex_push, ex_sti, ex_goto, ey_gf, sk_gf_s, sk_v_s, ey_cv0, ex_ic, ey_inc, sk_inc_s, ex_sta, ex_sta_n, ex_ct, ey_cs2, ex_iac_t, ex_iac_f, sw_gl_0, sw_gl_s, sw_fx_n, sw_fx_i, sw_fx_r, sw_fx_0, sw_fx_l, sw_fx_d, sw_sl1_0, sw_sl1_1, sw_sl1_s, sw_no_0, sw_no_s, sw_no_e, sw_mk_t, sw_mk_f, sw_mk_e, sw_en_0, sw_en_n, sw_en_i, sw_en_r, sw_en_z, sw_en_l, sw_en_d, sw_ok_0, sw_ok_1, sw_ok_2, sw_ok_3, sw_ok_4, sw_bo_s, sw_oi_s, sw_cl_s, sw_cl_x, sw_psh_s, sw_psh_n, sw_kd_s, sw_op_s, sw_oc_s, sw_oc_e, sw_oa_s, sw_el_n, sw_el_r, sl_kds_1, sl_kds_67, sw_fit_i, sw_fit_r, sw_fit_n, sw_fit_l, sw_fit_d, sw_fit_b, sw_fit_0, sw_fit_1, sw_rel_0, sw_rel_1, sw_rel_2, sw_rel_3, sw_rel_4, sw_rel_5, sw_hp_set, sw_nx_set, sw_sl_set, sw_ev_set, sw_hp_new, sw_nx_new, sw_sl_new, sw_ev_new, List.getElem?_cons_zero, List.getElem?_cons_succ, List.set_cons_zero, List.set_cons_succ, List.length_cons, List.length_nil, Nat.reduceAdd, Nat.reduceSub, Nat.reduceLT, Nat.reduceLeDiff, Nat.zero_lt_succ, Nat.zero_add, beq_self_eq_true, Bool.true_and, and_true, true_and, and_self, not_true_eq_false, not_false_eq_true, ↓reduceIte, Nat.reduceBEq, eq_self, sw_b_0, sw_b_1, decide_eq_false_iff_not, decide_eq_true_eq, sl_n10, sl_n01, Decidable.not_not, sl_ct, sl_cats_0, sl_cats_i, sl_cats_r, sl_cats_n, sl_cats_l, sl_ok_5, sl_ok9, decide_true, sp_machC, sp_nodeC, sp_opC, sl_z0, sl_z1, sl_z2, sl_z3, sl_z4, sl_z5, sl_z6, sl_z7, sl_c0, sl_c1, sl_c2, sl_c3, sl_c4, sl_c5, sl_c6, sl_c7, List.length_map, sp_lifeC, hf.1, sp_lvC, k1, k2, r1]
        | succ j ih =>
          intro i hi hb
          have r1 : ¬ nI Rw.length ≤ nI i := nI_ge (by omega) (by omega)
          obtain ⟨o1, o2, o3⟩ := sp_lv_row hf hok (d := d) (by omega) (k := i) (by omega)
          obtain ⟨b1, b2, b3⟩ := sp_lv_row hf hok (d := d) (by omega) hb
          have r2 := jc_X8_isHeld (D := d) (lv := lv) (f := Rw[k].2.2.1) (by omega) o2
          have r3 := jc_X8_canHave (D := d) (g := ((Rw.map (·.2)).getD i sp_lz).2.2.2.2.2.2.2.1) (by omega) hf g2
          have hi0 := (hok.2.2.2.2 _ (List.getElem_mem (show i < Rw.length by omega))).2.2.2
          have hb0 := (hok.2.2.2.2 _ (List.getElem_mem hb)).2.2.2
          rw [← o3] at hi0
          rw [← b3] at hb0
          have r4 := jc_X8_isLess (D := d) (by omega) o2 b2 hi0 hb0
          have hst : sp_lst m (Rw.map (·.2)) k (i + 1) = if sp_isHeld ((Rw.map (·.2)).getD i sp_lz) Rw[k].2.2.1 = true ∧ sp_canHave m Rw[k].2 ((Rw.map (·.2)).getD i sp_lz).2.2.2.2.2.2.2.1 = true ∧ sp_less ((Rw.map (·.2)).getD i sp_lz) ((Rw.map (·.2)).getD (sp_lst m (Rw.map (·.2)) k i) sp_lz) = true then i else sp_lst m (Rw.map (·.2)) k i := by
            rw [← g3]; rfl
          have keep : sp_lst m (Rw.map (·.2)) k (i + 1) = sp_lst m (Rw.map (·.2)) k i → sw_at (sw_Z d) b_X8_give 5 [some (.ref lv), some (.ref Rw[k].1), some (.ref (Rw[sp_lst m (Rw.map (·.2)) k i]).1), some (.int (nI (i + 1))), none, none] [] P = sw_at (sw_Z d) b_X8_give 10 [none, some (.ref Rw[k].1), some (.ref (Rw[sp_lst m (Rw.map (·.2)) k Rw.length]'(sp_lst_lt m _ k Rw.length Rw.length hk (Nat.le_refl _))).1), none, none, none] [] P := by
            intro e
            have := ih (i + 1) (by omega) (by rw [e]; exact hb)
            simpa only [e] using this
          cases t1 : sp_isHeld ((Rw.map (·.2)).getD i sp_lz) Rw[k].2.2.1
          · have kk := keep (by rw [hst, t1]; simp)
            rw [t1] at r2
            rw [at_X8_give_5]; simp only [at_X8_give_6, at_X8_give_7, at_X8_give_8, at_X8_give_9, ey_ld, sk_ld_s, ey_cv1, sk_c_s, ey_cv2, ex_iz, ey_pf, sk_pf_s, sw_set_set, ex_ret, ex_push, ex_sti, ex_goto, ey_gf, sk_gf_s, sk_v_s, ey_cv0, ex_ic, ey_inc, sk_inc_s, ex_sta, ex_sta_n, ex_ct, ey_cs2, ex_iac_t, ex_iac_f, sw_gl_0, sw_gl_s, sw_fx_n, sw_fx_i, sw_fx_r, sw_fx_0, sw_fx_l, sw_fx_d, sw_sl1_0, sw_sl1_1, sw_sl1_s, sw_no_0, sw_no_s, sw_no_e, sw_mk_t, sw_mk_f, sw_mk_e, sw_en_0, sw_en_n, sw_en_i, sw_en_r, sw_en_z, sw_en_l, sw_en_d, sw_ok_0, sw_ok_1, sw_ok_2, sw_ok_3, sw_ok_4, sw_bo_s, sw_oi_s, sw_cl_s, sw_cl_x, sw_psh_s, sw_psh_n, sw_kd_s, sw_op_s, sw_oc_s, sw_oc_e, sw_oa_s, sw_el_n, sw_el_r, sl_kds_1, sl_kds_67, sw_fit_i, sw_fit_r, sw_fit_n, sw_fit_l, sw_fit_d, sw_fit_b, sw_fit_0, sw_fit_1, sw_rel_0, sw_rel_1, sw_rel_2, sw_rel_3, sw_rel_4, sw_rel_5, sw_hp_set, sw_nx_set, sw_sl_set, sw_ev_set, sw_hp_new, sw_nx_new, sw_sl_new, sw_ev_new, List.getElem?_cons_zero, List.getElem?_cons_succ, List.set_cons_zero, List.set_cons_succ, List.length_cons, List.length_nil, Nat.reduceAdd, Nat.reduceSub, Nat.reduceLT, Nat.reduceLeDiff, Nat.zero_lt_succ, Nat.zero_add, beq_self_eq_true, Bool.true_and, and_true, true_and, and_self, not_true_eq_false, not_false_eq_true, ↓reduceIte, Nat.reduceBEq, eq_self, sw_b_0, sw_b_1, decide_eq_false_iff_not, decide_eq_true_eq, sl_n10, sl_n01, Decidable.not_not, sl_ct, sl_cats_0, sl_cats_i, sl_cats_r, sl_cats_n, sl_cats_l, sl_ok_5, sl_ok9, decide_true, sp_machC, sp_nodeC, sp_opC, sl_z0, sl_z1, sl_z2, sl_z3, sl_z4, sl_z5, sl_z6, sl_z7, sl_c0, sl_c1, sl_c2, sl_c3, sl_c4, sl_c5, sl_c6, sl_c7, List.length_map, sp_lifeC, hf.1, sp_lvC, k1, k2, r1, o1, o2, g2, r2, sw_b_f, sl_kds_1, nI_1, reduceCtorEq]
            exact kk
          · rw [t1] at r2
            cases t2 : sp_canHave m Rw[k].2 ((Rw.map (·.2)).getD i sp_lz).2.2.2.2.2.2.2.1
            · have kk := keep (by rw [hst, t2]; simp)
              rw [t2] at r3
              rw [at_X8_give_5]; simp only [at_X8_give_6, at_X8_give_7, at_X8_give_8, at_X8_give_9, ey_ld, sk_ld_s, ey_cv1, sk_c_s, ey_cv2, ex_iz, ey_pf, sk_pf_s, sw_set_set, ex_ret, ex_push, ex_sti, ex_goto, ey_gf, sk_gf_s, sk_v_s, ey_cv0, ex_ic, ey_inc, sk_inc_s, ex_sta, ex_sta_n, ex_ct, ey_cs2, ex_iac_t, ex_iac_f, sw_gl_0, sw_gl_s, sw_fx_n, sw_fx_i, sw_fx_r, sw_fx_0, sw_fx_l, sw_fx_d, sw_sl1_0, sw_sl1_1, sw_sl1_s, sw_no_0, sw_no_s, sw_no_e, sw_mk_t, sw_mk_f, sw_mk_e, sw_en_0, sw_en_n, sw_en_i, sw_en_r, sw_en_z, sw_en_l, sw_en_d, sw_ok_0, sw_ok_1, sw_ok_2, sw_ok_3, sw_ok_4, sw_bo_s, sw_oi_s, sw_cl_s, sw_cl_x, sw_psh_s, sw_psh_n, sw_kd_s, sw_op_s, sw_oc_s, sw_oc_e, sw_oa_s, sw_el_n, sw_el_r, sl_kds_1, sl_kds_67, sw_fit_i, sw_fit_r, sw_fit_n, sw_fit_l, sw_fit_d, sw_fit_b, sw_fit_0, sw_fit_1, sw_rel_0, sw_rel_1, sw_rel_2, sw_rel_3, sw_rel_4, sw_rel_5, sw_hp_set, sw_nx_set, sw_sl_set, sw_ev_set, sw_hp_new, sw_nx_new, sw_sl_new, sw_ev_new, List.getElem?_cons_zero, List.getElem?_cons_succ, List.set_cons_zero, List.set_cons_succ, List.length_cons, List.length_nil, Nat.reduceAdd, Nat.reduceSub, Nat.reduceLT, Nat.reduceLeDiff, Nat.zero_lt_succ, Nat.zero_add, beq_self_eq_true, Bool.true_and, and_true, true_and, and_self, not_true_eq_false, not_false_eq_true, ↓reduceIte, Nat.reduceBEq, eq_self, sw_b_0, sw_b_1, decide_eq_false_iff_not, decide_eq_true_eq, sl_n10, sl_n01, Decidable.not_not, sl_ct, sl_cats_0, sl_cats_i, sl_cats_r, sl_cats_n, sl_cats_l, sl_ok_5, sl_ok9, decide_true, sp_machC, sp_nodeC, sp_opC, sl_z0, sl_z1, sl_z2, sl_z3, sl_z4, sl_z5, sl_z6, sl_z7, sl_c0, sl_c1, sl_c2, sl_c3, sl_c4, sl_c5, sl_c6, sl_c7, List.length_map, sp_lifeC, hf.1, sp_lvC, k1, k2, r1, o1, o2, g2, r2, r3, sw_b_t, sw_b_f, sl_kds_1, nI_1, reduceCtorEq]
              exact kk
            · rw [t2] at r3
              cases t3 : sp_less ((Rw.map (·.2)).getD i sp_lz) ((Rw.map (·.2)).getD (sp_lst m (Rw.map (·.2)) k i) sp_lz)
              · have kk := keep (by rw [hst, t3]; simp)
                rw [t3] at r4
                rw [at_X8_give_5]; simp only [at_X8_give_7, at_X8_give_8, at_X8_give_9, ey_ld, sk_ld_s, ey_cv1, sk_c_s, ey_cv2, ex_iz, ey_pf, sk_pf_s, sw_set_set, ex_ret, ex_push, ex_sti, ex_goto, ey_gf, sk_gf_s, sk_v_s, ey_cv0, ex_ic, ey_inc, sk_inc_s, ex_sta, ex_sta_n, ex_ct, ey_cs2, ex_iac_t, ex_iac_f, sw_gl_0, sw_gl_s, sw_fx_n, sw_fx_i, sw_fx_r, sw_fx_0, sw_fx_l, sw_fx_d, sw_sl1_0, sw_sl1_1, sw_sl1_s, sw_no_0, sw_no_s, sw_no_e, sw_mk_t, sw_mk_f, sw_mk_e, sw_en_0, sw_en_n, sw_en_i, sw_en_r, sw_en_z, sw_en_l, sw_en_d, sw_ok_0, sw_ok_1, sw_ok_2, sw_ok_3, sw_ok_4, sw_bo_s, sw_oi_s, sw_cl_s, sw_cl_x, sw_psh_s, sw_psh_n, sw_kd_s, sw_op_s, sw_oc_s, sw_oc_e, sw_oa_s, sw_el_n, sw_el_r, sl_kds_1, sl_kds_67, sw_fit_i, sw_fit_r, sw_fit_n, sw_fit_l, sw_fit_d, sw_fit_b, sw_fit_0, sw_fit_1, sw_rel_0, sw_rel_1, sw_rel_2, sw_rel_3, sw_rel_4, sw_rel_5, sw_hp_set, sw_nx_set, sw_sl_set, sw_ev_set, sw_hp_new, sw_nx_new, sw_sl_new, sw_ev_new, List.getElem?_cons_zero, List.getElem?_cons_succ, List.set_cons_zero, List.set_cons_succ, List.length_cons, List.length_nil, Nat.reduceAdd, Nat.reduceSub, Nat.reduceLT, Nat.reduceLeDiff, Nat.zero_lt_succ, Nat.zero_add, beq_self_eq_true, Bool.true_and, and_true, true_and, and_self, not_true_eq_false, not_false_eq_true, ↓reduceIte, Nat.reduceBEq, eq_self, sw_b_0, sw_b_1, decide_eq_false_iff_not, decide_eq_true_eq, sl_n10, sl_n01, Decidable.not_not, sl_ct, sl_cats_0, sl_cats_i, sl_cats_r, sl_cats_n, sl_cats_l, sl_ok_5, sl_ok9, decide_true, sp_machC, sp_nodeC, sp_opC, sl_z0, sl_z1, sl_z2, sl_z3, sl_z4, sl_z5, sl_z6, sl_z7, sl_c0, sl_c1, sl_c2, sl_c3, sl_c4, sl_c5, sl_c6, sl_c7, List.length_map, sp_lifeC, hf.1, sp_lvC, k1, k2, r1, o1, o2, g2, r2, r3, r4, sw_b_t, sw_b_f, sl_kds_1, nI_1, reduceCtorEq]
                exact kk
              · rw [t3] at r4
                have e : sp_lst m (Rw.map (·.2)) k (i + 1) = i := by rw [hst, t1, t2, t3]; simp
                have kk := ih (i + 1) (by omega) (by rw [e]; omega)
                simp only [e] at kk
                rw [at_X8_give_5]; simp only [at_X8_give_7, at_X8_give_9, ey_ld, sk_ld_s, ey_cv1, sk_c_s, ey_cv2, ex_iz, ey_pf, sk_pf_s, sw_set_set, ex_ret, ex_push, ex_sti, ex_goto, ey_gf, sk_gf_s, sk_v_s, ey_cv0, ex_ic, ey_inc, sk_inc_s, ex_sta, ex_sta_n, ex_ct, ey_cs2, ex_iac_t, ex_iac_f, sw_gl_0, sw_gl_s, sw_fx_n, sw_fx_i, sw_fx_r, sw_fx_0, sw_fx_l, sw_fx_d, sw_sl1_0, sw_sl1_1, sw_sl1_s, sw_no_0, sw_no_s, sw_no_e, sw_mk_t, sw_mk_f, sw_mk_e, sw_en_0, sw_en_n, sw_en_i, sw_en_r, sw_en_z, sw_en_l, sw_en_d, sw_ok_0, sw_ok_1, sw_ok_2, sw_ok_3, sw_ok_4, sw_bo_s, sw_oi_s, sw_cl_s, sw_cl_x, sw_psh_s, sw_psh_n, sw_kd_s, sw_op_s, sw_oc_s, sw_oc_e, sw_oa_s, sw_el_n, sw_el_r, sl_kds_1, sl_kds_67, sw_fit_i, sw_fit_r, sw_fit_n, sw_fit_l, sw_fit_d, sw_fit_b, sw_fit_0, sw_fit_1, sw_rel_0, sw_rel_1, sw_rel_2, sw_rel_3, sw_rel_4, sw_rel_5, sw_hp_set, sw_nx_set, sw_sl_set, sw_ev_set, sw_hp_new, sw_nx_new, sw_sl_new, sw_ev_new, List.getElem?_cons_zero, List.getElem?_cons_succ, List.set_cons_zero, List.set_cons_succ, List.length_cons, List.length_nil, Nat.reduceAdd, Nat.reduceSub, Nat.reduceLT, Nat.reduceLeDiff, Nat.zero_lt_succ, Nat.zero_add, beq_self_eq_true, Bool.true_and, and_true, true_and, and_self, not_true_eq_false, not_false_eq_true, ↓reduceIte, Nat.reduceBEq, eq_self, sw_b_0, sw_b_1, decide_eq_false_iff_not, decide_eq_true_eq, sl_n10, sl_n01, Decidable.not_not, sl_ct, sl_cats_0, sl_cats_i, sl_cats_r, sl_cats_n, sl_cats_l, sl_ok_5, sl_ok9, decide_true, sp_machC, sp_nodeC, sp_opC, sl_z0, sl_z1, sl_z2, sl_z3, sl_z4, sl_z5, sl_z6, sl_z7, sl_c0, sl_c1, sl_c2, sl_c3, sl_c4, sl_c5, sl_c6, sl_c7, List.length_map, sp_lifeC, hf.1, sp_lvC, k1, k2, r1, o1, o2, g2, r2, r3, r4, sw_b_t, sl_kds_1, nI_1, reduceCtorEq]
                exact kk
      have hb := sp_lst_lt m (Rw.map (·.2)) k Rw.length Rw.length hk (Nat.le_refl _)
      have r0 := hlst Rw.length 0 (by omega) hk
      have r1 : sw_at (sw_Z d) b_X8_give 4 [some (.ref lv), some (.ref Rw[k].1), none, none, none, none] [] P = sw_at (sw_Z d) b_X8_give 5 [some (.ref lv), some (.ref Rw[k].1), some (.ref Rw[k].1), some (.int (nI 0)), none, none] [] P := by
        rw [at_X8_give_4]; simp only [ey_ld, sk_ld_s, ey_cv1, sk_c_s, ey_cv2, ex_iz, ey_pf, sk_pf_s, sw_set_set, ex_ret, ex_push, ex_sti, ex_goto, ey_gf, sk_gf_s, sk_v_s, ey_cv0, ex_ic, ey_inc, sk_inc_s, ex_sta, ex_sta_n, ex_ct, ey_cs2, ex_iac_t, ex_iac_f, sw_gl_0, sw_gl_s, sw_fx_n, sw_fx_i, sw_fx_r, sw_fx_0, sw_fx_l, sw_fx_d, sw_sl1_0, sw_sl1_1, sw_sl1_s, sw_no_0, sw_no_s, sw_no_e, sw_mk_t, sw_mk_f, sw_mk_e, sw_en_0, sw_en_n, sw_en_i, sw_en_r, sw_en_z, sw_en_l, sw_en_d, sw_ok_0, sw_ok_1, sw_ok_2, sw_ok_3, sw_ok_4, sw_bo_s, sw_oi_s, sw_cl_s, sw_cl_x, sw_psh_s, sw_psh_n, sw_kd_s, sw_op_s, sw_oc_s, sw_oc_e, sw_oa_s, sw_el_n, sw_el_r, sl_kds_1, sl_kds_67, sw_fit_i, sw_fit_r, sw_fit_n, sw_fit_l, sw_fit_d, sw_fit_b, sw_fit_0, sw_fit_1, sw_rel_0, sw_rel_1, sw_rel_2, sw_rel_3, sw_rel_4, sw_rel_5, sw_hp_set, sw_nx_set, sw_sl_set, sw_ev_set, sw_hp_new, sw_nx_new, sw_sl_new, sw_ev_new, List.getElem?_cons_zero, List.getElem?_cons_succ, List.set_cons_zero, List.set_cons_succ, List.length_cons, List.length_nil, Nat.reduceAdd, Nat.reduceSub, Nat.reduceLT, Nat.reduceLeDiff, Nat.zero_lt_succ, Nat.zero_add, beq_self_eq_true, Bool.true_and, and_true, true_and, and_self, not_true_eq_false, not_false_eq_true, ↓reduceIte, Nat.reduceBEq, eq_self, sw_b_0, sw_b_1, decide_eq_false_iff_not, decide_eq_true_eq, sl_n10, sl_n01, Decidable.not_not, sl_ct, sl_cats_0, sl_cats_i, sl_cats_r, sl_cats_n, sl_cats_l, sl_ok_5, sl_ok9, decide_true, sp_machC, sp_nodeC, sp_opC, sl_z0, sl_z1, sl_z2, sl_z3, sl_z4, sl_z5, sl_z6, sl_z7, sl_c0, sl_c1, sl_c2, sl_c3, sl_c4, sl_c5, sl_c6, sl_c7, List.length_map, sp_lifeC]
        rfl
      rw [r1]
      have r2 : sp_lst m (Rw.map (·.2)) k 0 = k := rfl
      simp only [r2] at r0
      rw [r0]
      clear hlst r0
      obtain ⟨best, hbest⟩ : ∃ q, q = sp_lst m (Rw.map (·.2)) k Rw.length := ⟨_, rfl⟩
      simp only [← hbest] at hb hgv ⊢
      have eb : Rw[best]? = some Rw[best] := List.getElem?_eq_getElem hb
      obtain ⟨b1, b2, b3⟩ := sp_lv_row hf hok (d := d) (by omega) hb
      rw [b3] at b2
      by_cases cb : best = k
      · subst cb
        have s1 := sl_lvs_set eb (sp_setS Rw[best].2) h
        refine ⟨_, _, ?_, ?_, fst_set best _ Rw hb, s1⟩
        · rw [at_X8_give_10]; simp only [at_X8_give_12, ey_ld, sk_ld_s, ey_cv1, sk_c_s, ey_cv2, ex_iz, ey_pf, sk_pf_s, sw_set_set, ex_ret, ex_push, ex_sti, ex_goto, ey_gf, sk_gf_s, sk_v_s, ey_cv0, ex_ic, ey_inc, sk_inc_s, ex_sta, ex_sta_n, ex_ct, ey_cs2, ex_iac_t, ex_iac_f, sw_gl_0, sw_gl_s, sw_fx_n, sw_fx_i, sw_fx_r, sw_fx_0, sw_fx_l, sw_fx_d, sw_sl1_0, sw_sl1_1, sw_sl1_s, sw_no_0, sw_no_s, sw_no_e, sw_mk_t, sw_mk_f, sw_mk_e, sw_en_0, sw_en_n, sw_en_i, sw_en_r, sw_en_z, sw_en_l, sw_en_d, sw_ok_0, sw_ok_1, sw_ok_2, sw_ok_3, sw_ok_4, sw_bo_s, sw_oi_s, sw_cl_s, sw_cl_x, sw_psh_s, sw_psh_n, sw_kd_s, sw_op_s, sw_oc_s, sw_oc_e, sw_oa_s, sw_el_n, sw_el_r, sl_kds_1, sl_kds_67, sw_fit_i, sw_fit_r, sw_fit_n, sw_fit_l, sw_fit_d, sw_fit_b, sw_fit_0, sw_fit_1, sw_rel_0, sw_rel_1, sw_rel_2, sw_rel_3, sw_rel_4, sw_rel_5, sw_hp_set, sw_nx_set, sw_sl_set, sw_ev_set, sw_hp_new, sw_nx_new, sw_sl_new, sw_ev_new, List.getElem?_cons_zero, List.getElem?_cons_succ, List.set_cons_zero, List.set_cons_succ, List.length_cons, List.length_nil, Nat.reduceAdd, Nat.reduceSub, Nat.reduceLT, Nat.reduceLeDiff, Nat.zero_lt_succ, Nat.zero_add, beq_self_eq_true, Bool.true_and, and_true, true_and, and_self, not_true_eq_false, not_false_eq_true, ↓reduceIte, Nat.reduceBEq, eq_self, sw_b_0, sw_b_1, decide_eq_false_iff_not, decide_eq_true_eq, sl_n10, sl_n01, Decidable.not_not, sl_ct, sl_cats_0, sl_cats_i, sl_cats_r, sl_cats_n, sl_cats_l, sl_ok_5, sl_ok9, decide_true, sp_machC, sp_nodeC, sp_opC, sl_z0, sl_z1, sl_z2, sl_z3, sl_z4, sl_z5, sl_z6, sl_z7, sl_c0, sl_c1, sl_c2, sl_c3, sl_c4, sl_c5, sl_c6, sl_c7, List.length_map, sp_lifeC, b2, sp_setS, show sw_fit 1 (.int 1) = true from sw_fit_1]
          rfl
        · rw [hgv _ q1]
          simp only [if_true]
          rw [sp_snd_set]
      · have hne : Rw[k].1 ≠ Rw[best].1 := sl_st.apart (A := sl_lifeA (M.map (·.1))) (h.pk [4]) ex eb (fun e => cb e.symm) rfl rfl
        have s1 := sl_lvs_set eb (sp_setS Rw[best].2) h
        have ex2 : (Rw.set best (Rw[best].1, sp_setS Rw[best].2))[k]? = some Rw[k] := by rw [List.getElem?_set_ne cb]; exact ex
        have s2 := sl_lvs_set ex2 (sp_setG Rw[k].2 Rw[best].2.2.2.2.2.2.2.2.1) s1
        refine ⟨_, _, ?_, ?_, ?_, s2⟩
        · have hne' : ¬ Rw[best].1 = Rw[k].1 := fun e => hne e.symm
          rw [at_X8_give_10]; simp only [at_X8_give_11, at_X8_give_12, ey_ld, sk_ld_s, ey_cv1, sk_c_s, ey_cv2, ex_iz, ey_pf, sk_pf_s, sw_set_set, ex_ret, ex_push, ex_sti, ex_goto, ey_gf, sk_gf_s, sk_v_s, ey_cv0, ex_ic, ey_inc, sk_inc_s, ex_sta, ex_sta_n, ex_ct, ey_cs2, ex_iac_t, ex_iac_f, sw_gl_0, sw_gl_s, sw_fx_n, sw_fx_i, sw_fx_r, sw_fx_0, sw_fx_l, sw_fx_d, sw_sl1_0, sw_sl1_1, sw_sl1_s, sw_no_0, sw_no_s, sw_no_e, sw_mk_t, sw_mk_f, sw_mk_e, sw_en_0, sw_en_n, sw_en_i, sw_en_r, sw_en_z, sw_en_l, sw_en_d, sw_ok_0, sw_ok_1, sw_ok_2, sw_ok_3, sw_ok_4, sw_bo_s, sw_oi_s, sw_cl_s, sw_cl_x, sw_psh_s, sw_psh_n, sw_kd_s, sw_op_s, sw_oc_s, sw_oc_e, sw_oa_s, sw_el_n, sw_el_r, sl_kds_1, sl_kds_67, sw_fit_i, sw_fit_r, sw_fit_n, sw_fit_l, sw_fit_d, sw_fit_b, sw_fit_0, sw_fit_1, sw_rel_0, sw_rel_1, sw_rel_2, sw_rel_3, sw_rel_4, sw_rel_5, sw_hp_set, sw_nx_set, sw_sl_set, sw_ev_set, sw_hp_new, sw_nx_new, sw_sl_new, sw_ev_new, List.getElem?_cons_zero, List.getElem?_cons_succ, List.set_cons_zero, List.set_cons_succ, List.length_cons, List.length_nil, Nat.reduceAdd, Nat.reduceSub, Nat.reduceLT, Nat.reduceLeDiff, Nat.zero_lt_succ, Nat.zero_add, beq_self_eq_true, Bool.true_and, and_true, true_and, and_self, not_true_eq_false, not_false_eq_true, ↓reduceIte, Nat.reduceBEq, eq_self, sw_b_0, sw_b_1, decide_eq_false_iff_not, decide_eq_true_eq, sl_n10, sl_n01, Decidable.not_not, sl_ct, sl_cats_0, sl_cats_i, sl_cats_r, sl_cats_n, sl_cats_l, sl_ok_5, sl_ok9, decide_true, sp_machC, sp_nodeC, sp_opC, sl_z0, sl_z1, sl_z2, sl_z3, sl_z4, sl_z5, sl_z6, sl_z7, sl_c0, sl_c1, sl_c2, sl_c3, sl_c4, sl_c5, sl_c6, sl_c7, List.length_map, sp_lifeC, b2, g2, hne, hne', sp_setS, sp_setG, show sw_fit 1 (.int 1) = true from sw_fit_1]
          rfl
        · rw [hgv _ q1]
          simp only [if_neg cb]
          rw [sp_snd_set, sp_snd_set, b3]
        · have e9 : (Rw.set best (Rw[best].1, sp_setS Rw[best].2))[k]'(by rw [List.length_set]; exact hk) = Rw[k] := by rw [List.getElem_set_ne cb]
          have := fst_set k (sp_setG Rw[k].2 Rw[best].2.2.2.2.2.2.2.2.1) (Rw.set best (Rw[best].1, sp_setS Rw[best].2)) (by rw [List.length_set]; exact hk)
          rw [e9] at this
          rw [this]
          exact fst_set best _ Rw hb
end
