/-! ===== the component's writer: calls, all ===== -/
def sp_cal (m : sp_Mach) (os : List sp_Op) (Rs : List sp_Life) (p : Int32) (o : sp_Op) (x : sp_Life) : List sp_In :=
  (if (sp_lifeV Rs (o.2.2.1.getD 0 0)).2.2.2.2.2.2.2.1 = 1 ∧ (sp_lifeV Rs (o.2.2.1.getD 1 0)).2.2.2.2.2.2.2.1 = 0 then sp_mv p (m.1 - 3) 0 ++ sp_mv p 0 1 ++ sp_mv p 1 (m.1 - 3)
   else if (sp_lifeV Rs (o.2.2.1.getD 1 0)).2.2.2.2.2.2.2.1 = 0 then sp_brg os Rs p (o.2.2.1.getD 1 0) 1 ++ sp_brg os Rs p (o.2.2.1.getD 0 0) 0
   else sp_brg os Rs p (o.2.2.1.getD 0 0) 0 ++ sp_brg os Rs p (o.2.2.1.getD 1 0) 1) ++ [(9, 0, 0, 0, 0, p, -1)] ++ (if x.2.2.2.2.2.2.2.2.1 = true then [(8, 0, x.2.2.2.2.2.2.2.2.2.1, 0, 0, p, -1)] else sp_mv p x.2.2.2.2.2.2.2.1 0)
def sp_wrO (m : sp_Mach) (os : List sp_Op) (Rs : List sp_Life) (p : Nat) (o : sp_Op) : List sp_In := if o.1 = 9 then sp_cal m os Rs (nI p) o (sp_lifeV Rs o.2.1) else if sp_rem os (sp_lifeV Rs o.2.1) = true then [] else sp_pln m os Rs (nI p) o (sp_lifeV Rs o.2.1)
def sp_code (m : sp_Mach) (os : List sp_Op) (Rs : List sp_Life) : Nat → List sp_In := sw_it (fun p l => l ++ sp_wrO m os Rs p (os.getD p sp_oz)) []
theorem sp_cal_len (m : sp_Mach) (os : List sp_Op) (Rs : List sp_Life) (p : Int32) (o : sp_Op) (x : sp_Life) : (sp_cal m os Rs p o x).length ≤ 5 := by
  unfold sp_cal
  rw [List.length_append, List.length_append]
  have h1 := sp_mv_len p (m.1 - 3) 0
  have h2 := sp_mv_len p 0 1
  have h3 := sp_mv_len p 1 (m.1 - 3)
  have h4 := sp_brg_len os Rs p (o.2.2.1.getD 0 0) 0
  have h5 := sp_brg_len os Rs p (o.2.2.1.getD 0 0) 1
  have h6 := sp_brg_len os Rs p (o.2.2.1.getD 1 0) 0
  have h7 := sp_brg_len os Rs p (o.2.2.1.getD 1 0) 1
  have h8 := sp_mv_len p x.2.2.2.2.2.2.2.1 0
  have e : ([(9, 0, 0, 0, 0, p, -1)] : List sp_In).length = 1 := rfl
  rw [e]
  have e2 : (if x.2.2.2.2.2.2.2.2.1 = true then [(8, 0, x.2.2.2.2.2.2.2.2.2.1, 0, 0, p, -1)] else sp_mv p x.2.2.2.2.2.2.2.1 0 : List sp_In).length ≤ 1 := by
    split
    · simp
    · exact h8
  split
  · rw [List.length_append, List.length_append]; omega
  · split <;> rw [List.length_append] <;> omega
theorem sp_sto_len (p : Int32) (x : sp_Life) (g : Int32) : (sp_sto p x g).length ≤ 1 := by unfold sp_sto; split <;> simp
theorem sp_pln_len (m : sp_Mach) (os : List sp_Op) (Rs : List sp_Life) (p : Int32) (o : sp_Op) (x : sp_Life) (hr : o.2.2.1.length ≤ 3) : (sp_pln m os Rs p o x).length ≤ 7 := by
  unfold sp_pln
  rw [List.length_append, List.length_append]
  have h1 := sp_rdc_len m os Rs p o.2.2.1 o.2.2.1.length
  have h2 := sp_mid_len m p o (sp_dst m x) (sp_rds m Rs o.2.2.1 o.2.2.1.length)
  have h3 := sp_sto_len p x (sp_dst m x)
  omega
theorem sp_rlen3 {o : sp_Op} (h : sp_rlen o) : o.2.2.1.length ≤ 3 := by
  rcases h with q | q | q | q <;> omega
theorem sp_wrO_len (m : sp_Mach) (os : List sp_Op) (Rs : List sp_Life) (p : Nat) (o : sp_Op) (h : sp_rlen o) : (sp_wrO m os Rs p o).length ≤ 7 := by
  unfold sp_wrO
  split
  · have := sp_cal_len m os Rs (nI p) o (sp_lifeV Rs o.2.1); omega
  · split
    · simp
    · exact sp_pln_len _ _ _ _ _ _ (sp_rlen3 h)
section
variable {ev : Nat → Nat} {wr cl lv ol mach rw l a b r ra D d c s : Nat} {pa : sp_PA} {N : List (Nat × sp_Node)} {B : List sp_Blk} {M : List (Nat × sp_Op)} {Rw : sp_LR} {m : sp_Mach} {L T rs : List Int32} {out v g f p d0 : Int32} {P : sw_P} {x y : sp_Life} {F R : List sl_A} {K : List (Nat × sp_In)} {o : sp_Op}
theorem sp_wrR.bind {c s : Nat} {i1 : List sp_In} {run : Option sw_R} (h : sp_wrR ev wr cl (sp_wrC lv mach cl p) R c s K i1 run) : ∃ (P1 : sw_P) (A1 : List (Nat × sp_In)), run = some (.inl none, P1) ∧ A1.map (·.2) = i1 ∧ A1.length = i1.length ∧ sp_wrS ev wr cl (sp_wrC lv mach cl p) R c s P1 (K ++ A1) := by
  obtain ⟨P1, A1, h1, h2, h3⟩ := h
  exact ⟨P1, A1, h1, h2, sp_insLen h2, h3⟩
theorem jc_X10_writeCall (hD : 14 ≤ D) (hok : sp_lvok M Rw T) (hl : K.length < 970) (hb : sp_opK ev lv ol mach rw pa M Rw m L T out b o) (hrl : o.2.2.1.length = 2) (hv : ∀ k, k < o.2.2.1.length → ∃ q, sp_plc (Rw.map (·.2)) (o.2.2.1.getD k 0) Rw.length = some q) (ha : ∀ P, sp_lvF ev (sw_hp P) lv ol pa.1 mach rw pa.2.1 pa.2.2.1 pa.2.2.2 M Rw m L T out → sw_hp P a = some (sp_lifeC (M.map (·.1)) x)) (h : sp_wrS ev wr cl (sp_wrC lv mach cl p) (sl_cx ev lv ol mach rw M Rw m l L pa N B T out F) c s P K) :
    sp_wrR ev wr cl (sp_wrC lv mach cl p) (sl_cx ev lv ol mach rw M Rw m l L pa N B T out F) c s K (sp_cal m (M.map (·.2)) (Rw.map (·.2)) p o x) (sw_Z D m_X10_writeCall [.ref wr, .ref b, .ref a] P) := by
  obtain ⟨d, hDe, hDn⟩ := sw_dep hD; subst hDe; replace hD := hDn; clear hDn
  have h0 := sl_st.get h 0 rfl
  have hf := h.lives
  obtain ⟨r, f1, f2⟩ := hb P hf
  obtain ⟨q0, hq0⟩ := hv 0 (by omega)
  obtain ⟨q1, hq1⟩ := hv 1 (by omega)
  have hk0 := (sp_plc_lt _ _ _ hq0).1
  have hk1 := (sp_plc_lt _ _ _ hq1).1
  have e0 := jc_X8_of (D := d) (by omega) hf hok hq0 hk0
  have e1 := jc_X8_of (D := d) (by omega) hf hok hq1 hk1
  obtain ⟨g1, g2, g3⟩ := sp_lv_row hf hok (d := d) (by omega) hk0
  obtain ⟨k1, k2, k3⟩ := sp_lv_row hf hok (d := d) (by omega) hk1
  have ex0 : sp_lifeV (Rw.map (·.2)) (o.2.2.1.getD 0 0) = Rw[q0].2 := by
    unfold sp_lifeV; rw [List.length_map, hq0]; exact g3
  have ex1 : sp_lifeV (Rw.map (·.2)) (o.2.2.1.getD 1 0) = Rw[q1].2 := by
    unfold sp_lifeV; rw [List.length_map, hq1]; exact k3
  rw [g3] at g2
  rw [k3] at k2
  have t0 := sl_mapget o.2.2.1 0 (by omega)
  have t1 := sl_mapget o.2.2.1 1 (by omega)
  have hlk := hf.1
  have esc := jc_X3_scratch (D := d) (by omega) hf.2.2.2.2.2.1
  obtain ⟨lm, em, -⟩ := hf.2.2.2.2.2.1
  -- what is ahead of the call
  obtain ⟨P1, A1, r1, a1, l1, s1⟩ : ∃ (P1 : sw_P) (A1 : List (Nat × sp_In)), sw_Z (d + 1) m_X10_writeCall [.ref wr, .ref b, .ref a] P = sw_at (sw_Z d) b_X10_writeCall 3 [some (.ref wr), none, some (.ref a), none, none] [] P1 ∧ A1.map (·.2) = (if (sp_lifeV (Rw.map (·.2)) (o.2.2.1.getD 0 0)).2.2.2.2.2.2.2.1 = 1 ∧ (sp_lifeV (Rw.map (·.2)) (o.2.2.1.getD 1 0)).2.2.2.2.2.2.2.1 = 0 then sp_mv p (m.1 - 3) 0 ++ sp_mv p 0 1 ++ sp_mv p 1 (m.1 - 3) else if (sp_lifeV (Rw.map (·.2)) (o.2.2.1.getD 1 0)).2.2.2.2.2.2.2.1 = 0 then sp_brg (M.map (·.2)) (Rw.map (·.2)) p (o.2.2.1.getD 1 0) 1 ++ sp_brg (M.map (·.2)) (Rw.map (·.2)) p (o.2.2.1.getD 0 0) 0 else sp_brg (M.map (·.2)) (Rw.map (·.2)) p (o.2.2.1.getD 0 0) 0 ++ sp_brg (M.map (·.2)) (Rw.map (·.2)) p (o.2.2.1.getD 1 0) 1) ∧ A1.length ≤ 3 ∧ sp_wrS ev wr cl (sp_wrC lv mach cl p) (sl_cx ev lv ol mach rw M Rw m l L pa N B T out F) c s P1 (K ++ A1) := by
    rw [ex0, ex1]
    by_cases c1 : Rw[q1].2.2.2.2.2.2.2.2.1 = 0
    · by_cases c0 : Rw[q0].2.2.2.2.2.2.2.2.1 = 1
      · rw [if_pos ⟨c0, c1⟩]
        obtain ⟨P1, A1, r1, a1, l1, s1⟩ := (jc_X10_move (D := d) (to := m.1 - 3) (fr := 0) (by omega) (by omega) h).bind
        have b1 := sp_mv_len p (m.1 - 3) 0
        obtain ⟨P2, A2, r2, a2, l2, s2⟩ := (jc_X10_move (D := d) (to := 0) (fr := 1) (by omega) (by rw [List.length_append]; omega) s1).bind
        have b2 := sp_mv_len p 0 1
        obtain ⟨P3, A3, r3, a3, l3, s3⟩ := (jc_X10_move (D := d) (to := 1) (fr := m.1 - 3) (by omega) (by rw [List.length_append, List.length_append]; omega) s2).bind
        have b3 := sp_mv_len p 1 (m.1 - 3)
        refine ⟨P3, A1 ++ A2 ++ A3, ?_, by rw [List.map_append, List.map_append, a1, a2, a3], by rw [List.length_append, List.length_append]; omega, by rw [← List.append_assoc, ← List.append_assoc]; exact s3⟩
        have h01 := sl_st.get s1 0 rfl
        have h02 := sl_st.get s2 0 rfl
        have esc2 := jc_X3_scratch (D := d) (by omega) s2.lives.2.2.2.2.2.1
        obtain ⟨lm2, em2, -⟩ := s2.lives.2.2.2.2.2.1
        rw [M_X10_writeCall _ _ _ rfl]; simp only [at_X10_writeCall_0, ey_ld, sk_ld_s, ey_gf, sk_gf_s, sk_v_s, ex_push, ey_ald, sk_ald_s, ey_cv1, sk_c_s, ex_sti, ex_ic, ex_iz, ey_cv0, ey_cv2, ex_goto, ey_cv3, ex_ret, sw_gl_0, sw_gl_s, sw_fx_n, sw_fx_i, sw_fx_r, sw_fx_0, sw_fx_l, sw_fx_d, sw_sl1_0, sw_sl1_1, sw_sl1_s, sw_no_0, sw_no_s, sw_no_e, sw_mk_t, sw_mk_f, sw_mk_e, sw_en_0, sw_en_n, sw_en_i, sw_en_r, sw_en_z, sw_en_l, sw_en_d, sw_ok_0, sw_ok_1, sw_ok_2, sw_ok_3, sw_ok_4, sw_bo_s, sw_oi_s, sw_cl_s, sw_cl_x, sw_psh_s, sw_psh_n, sw_kd_s, sw_op_s, sw_oc_s, sw_oc_e, sw_oa_s, sw_el_n, sw_el_r, sl_kds_1, sl_kds_67, sw_fit_i, sw_fit_r, sw_fit_n, sw_fit_l, sw_fit_d, sw_fit_b, sw_fit_0, sw_fit_1, sw_rel_0, sw_rel_1, sw_rel_2, sw_rel_3, sw_rel_4, sw_rel_5, sw_hp_set, sw_nx_set, sw_sl_set, sw_ev_set, sw_hp_new, sw_nx_new, sw_sl_new, sw_ev_new, List.getElem?_cons_zero, List.getElem?_cons_succ, List.set_cons_zero, List.set_cons_succ, List.length_cons, List.length_nil, Nat.reduceAdd, Nat.reduceSub, Nat.reduceLT, Nat.reduceLeDiff, Nat.zero_lt_succ, Nat.zero_add, beq_self_eq_true, Bool.true_and, and_true, true_and, and_self, not_true_eq_false, not_false_eq_true, ↓reduceIte, Nat.reduceBEq, eq_self, sw_b_0, sw_b_1, decide_eq_false_iff_not, decide_eq_true_eq, sl_n10, sl_n01, Decidable.not_not, sl_ct, sl_cats_0, sl_cats_i, sl_cats_r, sl_cats_n, sl_cats_l, sl_ok_5, sl_ok9, decide_true, sp_machC, sp_nodeC, sp_opC, sl_z0, sl_z1, sl_z2, sl_z3, sl_z4, sl_z5, sl_z6, sl_z7, sl_c0, sl_c1, sl_c2, sl_c3, sl_c4, sl_c5, sl_c6, sl_c7, List.length_map, sp_lifeC, sp_inC, h0, h01, h02, sp_wrC, f1, f2, t0, t1, hlk, sp_lvC, e0, e1, g2, k2, eq_true c0, eq_true c1, esc, em, esc2, em2, r1, r2, r3]
      · rw [if_neg (fun q => c0 q.1), if_pos c1]
        obtain ⟨P1, A1, r1, a1, l1, s1⟩ := (jc_X10_bring (D := d) (to := 1) (by omega) hok hq1 (by omega) h).bind
        have b1 := sp_brg_len (M.map (·.2)) (Rw.map (·.2)) p (o.2.2.1.getD 1 0) 1
        obtain ⟨P2, A2, r2, a2, l2, s2⟩ := (jc_X10_bring (D := d) (to := 0) (by omega) hok hq0 (by rw [List.length_append]; omega) s1).bind
        have b2 := sp_brg_len (M.map (·.2)) (Rw.map (·.2)) p (o.2.2.1.getD 0 0) 0
        refine ⟨P2, A1 ++ A2, ?_, by rw [List.map_append, a1, a2], by rw [List.length_append]; omega, by rw [← List.append_assoc]; exact s2⟩
        have h01 := sl_st.get s1 0 rfl
        obtain ⟨r', f1', f2'⟩ := hb P1 s1.lives
        rw [M_X10_writeCall _ _ _ rfl]; simp only [at_X10_writeCall_0, at_X10_writeCall_1, ey_ld, sk_ld_s, ey_gf, sk_gf_s, sk_v_s, ex_push, ey_ald, sk_ald_s, ey_cv1, sk_c_s, ex_sti, ex_ic, ex_iz, ey_cv0, ey_cv2, ex_goto, ey_cv3, ex_ret, sw_gl_0, sw_gl_s, sw_fx_n, sw_fx_i, sw_fx_r, sw_fx_0, sw_fx_l, sw_fx_d, sw_sl1_0, sw_sl1_1, sw_sl1_s, sw_no_0, sw_no_s, sw_no_e, sw_mk_t, sw_mk_f, sw_mk_e, sw_en_0, sw_en_n, sw_en_i, sw_en_r, sw_en_z, sw_en_l, sw_en_d, sw_ok_0, sw_ok_1, sw_ok_2, sw_ok_3, sw_ok_4, sw_bo_s, sw_oi_s, sw_cl_s, sw_cl_x, sw_psh_s, sw_psh_n, sw_kd_s, sw_op_s, sw_oc_s, sw_oc_e, sw_oa_s, sw_el_n, sw_el_r, sl_kds_1, sl_kds_67, sw_fit_i, sw_fit_r, sw_fit_n, sw_fit_l, sw_fit_d, sw_fit_b, sw_fit_0, sw_fit_1, sw_rel_0, sw_rel_1, sw_rel_2, sw_rel_3, sw_rel_4, sw_rel_5, sw_hp_set, sw_nx_set, sw_sl_set, sw_ev_set, sw_hp_new, sw_nx_new, sw_sl_new, sw_ev_new, List.getElem?_cons_zero, List.getElem?_cons_succ, List.set_cons_zero, List.set_cons_succ, List.length_cons, List.length_nil, Nat.reduceAdd, Nat.reduceSub, Nat.reduceLT, Nat.reduceLeDiff, Nat.zero_lt_succ, Nat.zero_add, beq_self_eq_true, Bool.true_and, and_true, true_and, and_self, not_true_eq_false, not_false_eq_true, ↓reduceIte, Nat.reduceBEq, eq_self, sw_b_0, sw_b_1, decide_eq_false_iff_not, decide_eq_true_eq, sl_n10, sl_n01, Decidable.not_not, sl_ct, sl_cats_0, sl_cats_i, sl_cats_r, sl_cats_n, sl_cats_l, sl_ok_5, sl_ok9, decide_true, sp_machC, sp_nodeC, sp_opC, sl_z0, sl_z1, sl_z2, sl_z3, sl_z4, sl_z5, sl_z6, sl_z7, sl_c0, sl_c1, sl_c2, sl_c3, sl_c4, sl_c5, sl_c6, sl_c7, List.length_map, sp_lifeC, sp_inC, h0, h01, sp_wrC, f1, f2, f1', f2', t0, t1, hlk, sp_lvC, e0, e1, g2, k2, eq_false c0, eq_true c1, r1, r2]
    · rw [if_neg (fun q => c1 q.2), if_neg c1]
      obtain ⟨P1, A1, r1, a1, l1, s1⟩ := (jc_X10_bring (D := d) (to := 0) (by omega) hok hq0 (by omega) h).bind
      have b1 := sp_brg_len (M.map (·.2)) (Rw.map (·.2)) p (o.2.2.1.getD 0 0) 0
      obtain ⟨P2, A2, r2, a2, l2, s2⟩ := (jc_X10_bring (D := d) (to := 1) (by omega) hok hq1 (by rw [List.length_append]; omega) s1).bind
      have b2 := sp_brg_len (M.map (·.2)) (Rw.map (·.2)) p (o.2.2.1.getD 1 0) 1
      refine ⟨P2, A1 ++ A2, ?_, by rw [List.map_append, a1, a2], by rw [List.length_append]; omega, by rw [← List.append_assoc]; exact s2⟩
      have h01 := sl_st.get s1 0 rfl
      obtain ⟨r', f1', f2'⟩ := hb P1 s1.lives
      by_cases c0 : Rw[q0].2.2.2.2.2.2.2.2.1 = 1
      · rw [M_X10_writeCall _ _ _ rfl]; simp only [at_X10_writeCall_0, at_X10_writeCall_1, at_X10_writeCall_2, ey_ld, sk_ld_s, ey_gf, sk_gf_s, sk_v_s, ex_push, ey_ald, sk_ald_s, ey_cv1, sk_c_s, ex_sti, ex_ic, ex_iz, ey_cv0, ey_cv2, ex_goto, ey_cv3, ex_ret, sw_gl_0, sw_gl_s, sw_fx_n, sw_fx_i, sw_fx_r, sw_fx_0, sw_fx_l, sw_fx_d, sw_sl1_0, sw_sl1_1, sw_sl1_s, sw_no_0, sw_no_s, sw_no_e, sw_mk_t, sw_mk_f, sw_mk_e, sw_en_0, sw_en_n, sw_en_i, sw_en_r, sw_en_z, sw_en_l, sw_en_d, sw_ok_0, sw_ok_1, sw_ok_2, sw_ok_3, sw_ok_4, sw_bo_s, sw_oi_s, sw_cl_s, sw_cl_x, sw_psh_s, sw_psh_n, sw_kd_s, sw_op_s, sw_oc_s, sw_oc_e, sw_oa_s, sw_el_n, sw_el_r, sl_kds_1, sl_kds_67, sw_fit_i, sw_fit_r, sw_fit_n, sw_fit_l, sw_fit_d, sw_fit_b, sw_fit_0, sw_fit_1, sw_rel_0, sw_rel_1, sw_rel_2, sw_rel_3, sw_rel_4, sw_rel_5, sw_hp_set, sw_nx_set, sw_sl_set, sw_ev_set, sw_hp_new, sw_nx_new, sw_sl_new, sw_ev_new, List.getElem?_cons_zero, List.getElem?_cons_succ, List.set_cons_zero, List.set_cons_succ, List.length_cons, List.length_nil, Nat.reduceAdd, Nat.reduceSub, Nat.reduceLT, Nat.reduceLeDiff, Nat.zero_lt_succ, Nat.zero_add, beq_self_eq_true, Bool.true_and, and_true, true_and, and_self, not_true_eq_false, not_false_eq_true, ↓reduceIte, Nat.reduceBEq, eq_self, sw_b_0, sw_b_1, decide_eq_false_iff_not, decide_eq_true_eq, sl_n10, sl_n01, Decidable.not_not, sl_ct, sl_cats_0, sl_cats_i, sl_cats_r, sl_cats_n, sl_cats_l, sl_ok_5, sl_ok9, decide_true, sp_machC, sp_nodeC, sp_opC, sl_z0, sl_z1, sl_z2, sl_z3, sl_z4, sl_z5, sl_z6, sl_z7, sl_c0, sl_c1, sl_c2, sl_c3, sl_c4, sl_c5, sl_c6, sl_c7, List.length_map, sp_lifeC, sp_inC, h0, h01, sp_wrC, f1, f2, f1', f2', t0, t1, hlk, sp_lvC, e0, e1, g2, k2, eq_true c0, eq_false c1, r1, r2]
      · rw [M_X10_writeCall _ _ _ rfl]; simp only [at_X10_writeCall_0, at_X10_writeCall_1, at_X10_writeCall_2, ey_ld, sk_ld_s, ey_gf, sk_gf_s, sk_v_s, ex_push, ey_ald, sk_ald_s, ey_cv1, sk_c_s, ex_sti, ex_ic, ex_iz, ey_cv0, ey_cv2, ex_goto, ey_cv3, ex_ret, sw_gl_0, sw_gl_s, sw_fx_n, sw_fx_i, sw_fx_r, sw_fx_0, sw_fx_l, sw_fx_d, sw_sl1_0, sw_sl1_1, sw_sl1_s, sw_no_0, sw_no_s, sw_no_e, sw_mk_t, sw_mk_f, sw_mk_e, sw_en_0, sw_en_n, sw_en_i, sw_en_r, sw_en_z, sw_en_l, sw_en_d, sw_ok_0, sw_ok_1, sw_ok_2, sw_ok_3, sw_ok_4, sw_bo_s, sw_oi_s, sw_cl_s, sw_cl_x, sw_psh_s, sw_psh_n, sw_kd_s, sw_op_s, sw_oc_s, sw_oc_e, sw_oa_s, sw_el_n, sw_el_r, sl_kds_1, sl_kds_67, sw_fit_i, sw_fit_r, sw_fit_n, sw_fit_l, sw_fit_d, sw_fit_b, sw_fit_0, sw_fit_1, sw_rel_0, sw_rel_1, sw_rel_2, sw_rel_3, sw_rel_4, sw_rel_5, sw_hp_set, sw_nx_set, sw_sl_set, sw_ev_set, sw_hp_new, sw_nx_new, sw_sl_new, sw_ev_new, List.getElem?_cons_zero, List.getElem?_cons_succ, List.set_cons_zero, List.set_cons_succ, List.length_cons, List.length_nil, Nat.reduceAdd, Nat.reduceSub, Nat.reduceLT, Nat.reduceLeDiff, Nat.zero_lt_succ, Nat.zero_add, beq_self_eq_true, Bool.true_and, and_true, true_and, and_self, not_true_eq_false, not_false_eq_true, ↓reduceIte, Nat.reduceBEq, eq_self, sw_b_0, sw_b_1, decide_eq_false_iff_not, decide_eq_true_eq, sl_n10, sl_n01, Decidable.not_not, sl_ct, sl_cats_0, sl_cats_i, sl_cats_r, sl_cats_n, sl_cats_l, sl_ok_5, sl_ok9, decide_true, sp_machC, sp_nodeC, sp_opC, sl_z0, sl_z1, sl_z2, sl_z3, sl_z4, sl_z5, sl_z6, sl_z7, sl_c0, sl_c1, sl_c2, sl_c3, sl_c4, sl_c5, sl_c6, sl_c7, List.length_map, sp_lifeC, sp_inC, h0, h01, sp_wrC, f1, f2, f1', f2', t0, t1, hlk, sp_lvC, e0, e1, g2, k2, eq_false c0, eq_false c1, r1, r2]
  have h01 := sl_st.get s1 0 rfl
  obtain ⟨P2, A2, r2, a2, l2, s2⟩ := (jc_X10_put (D := d) (o := 9) (x1 := 0) (x2 := 0) (by omega) (by rw [List.length_append]; omega) s1).bind
  have h02 := sl_st.get s2 0 rfl
  have ha2 := ha P2 s2.lives
  have l2' : A2.length = 1 := l2
  unfold sp_cal
  rw [r1]
  cases c2 : x.2.2.2.2.2.2.2.2.1
  · rw [if_neg (show ¬ false = true by decide)]
    obtain ⟨P3, A3, r3, a3, l3, s3⟩ := (jc_X10_move (D := d) (to := x.2.2.2.2.2.2.2.1) (fr := 0) (by omega) (by rw [List.length_append, List.length_append]; omega) s2).bind
    refine ⟨P3, A1 ++ A2 ++ A3, ?_, by rw [List.map_append, List.map_append, a1, a2, a3], by rw [← List.append_assoc, ← List.append_assoc]; exact s3⟩
    rw [at_X10_writeCall_3]; simp only [at_X10_writeCall_4, at_X10_writeCall_5, ey_ld, sk_ld_s, ey_gf, sk_gf_s, sk_v_s, ex_push, ey_ald, sk_ald_s, ey_cv1, sk_c_s, ex_sti, ex_ic, ex_iz, ey_cv0, ey_cv2, ex_goto, ey_cv3, ex_ret, sw_gl_0, sw_gl_s, sw_fx_n, sw_fx_i, sw_fx_r, sw_fx_0, sw_fx_l, sw_fx_d, sw_sl1_0, sw_sl1_1, sw_sl1_s, sw_no_0, sw_no_s, sw_no_e, sw_mk_t, sw_mk_f, sw_mk_e, sw_en_0, sw_en_n, sw_en_i, sw_en_r, sw_en_z, sw_en_l, sw_en_d, sw_ok_0, sw_ok_1, sw_ok_2, sw_ok_3, sw_ok_4, sw_bo_s, sw_oi_s, sw_cl_s, sw_cl_x, sw_psh_s, sw_psh_n, sw_kd_s, sw_op_s, sw_oc_s, sw_oc_e, sw_oa_s, sw_el_n, sw_el_r, sl_kds_1, sl_kds_67, sw_fit_i, sw_fit_r, sw_fit_n, sw_fit_l, sw_fit_d, sw_fit_b, sw_fit_0, sw_fit_1, sw_rel_0, sw_rel_1, sw_rel_2, sw_rel_3, sw_rel_4, sw_rel_5, sw_hp_set, sw_nx_set, sw_sl_set, sw_ev_set, sw_hp_new, sw_nx_new, sw_sl_new, sw_ev_new, List.getElem?_cons_zero, List.getElem?_cons_succ, List.set_cons_zero, List.set_cons_succ, List.length_cons, List.length_nil, Nat.reduceAdd, Nat.reduceSub, Nat.reduceLT, Nat.reduceLeDiff, Nat.zero_lt_succ, Nat.zero_add, beq_self_eq_true, Bool.true_and, and_true, true_and, and_self, not_true_eq_false, not_false_eq_true, ↓reduceIte, Nat.reduceBEq, eq_self, sw_b_0, sw_b_1, decide_eq_false_iff_not, decide_eq_true_eq, sl_n10, sl_n01, Decidable.not_not, sl_ct, sl_cats_0, sl_cats_i, sl_cats_r, sl_cats_n, sl_cats_l, sl_ok_5, sl_ok9, decide_true, sp_machC, sp_nodeC, sp_opC, sl_z0, sl_z1, sl_z2, sl_z3, sl_z4, sl_z5, sl_z6, sl_z7, sl_c0, sl_c1, sl_c2, sl_c3, sl_c4, sl_c5, sl_c6, sl_c7, List.length_map, sp_lifeC, sp_inC, h01, h02, sp_wrC, r2, ha2, c2, sw_b_f, r3, reduceCtorEq]
  · rw [if_pos rfl]
    obtain ⟨P3, A3, r3, a3, l3, s3⟩ := (jc_X10_put (D := d) (o := 8) (x1 := 0) (x2 := x.2.2.2.2.2.2.2.2.2.1) (by omega) (by rw [List.length_append, List.length_append]; omega) s2).bind
    refine ⟨P3, A1 ++ A2 ++ A3, ?_, by rw [List.map_append, List.map_append, a1, a2, a3], by rw [← List.append_assoc, ← List.append_assoc]; exact s3⟩
    rw [at_X10_writeCall_3]; simp only [at_X10_writeCall_5, ey_ld, sk_ld_s, ey_gf, sk_gf_s, sk_v_s, ex_push, ey_ald, sk_ald_s, ey_cv1, sk_c_s, ex_sti, ex_ic, ex_iz, ey_cv0, ey_cv2, ex_goto, ey_cv3, ex_ret, sw_gl_0, sw_gl_s, sw_fx_n, sw_fx_i, sw_fx_r, sw_fx_0, sw_fx_l, sw_fx_d, sw_sl1_0, sw_sl1_1, sw_sl1_s, sw_no_0, sw_no_s, sw_no_e, sw_mk_t, sw_mk_f, sw_mk_e, sw_en_0, sw_en_n, sw_en_i, sw_en_r, sw_en_z, sw_en_l, sw_en_d, sw_ok_0, sw_ok_1, sw_ok_2, sw_ok_3, sw_ok_4, sw_bo_s, sw_oi_s, sw_cl_s, sw_cl_x, sw_psh_s, sw_psh_n, sw_kd_s, sw_op_s, sw_oc_s, sw_oc_e, sw_oa_s, sw_el_n, sw_el_r, sl_kds_1, sl_kds_67, sw_fit_i, sw_fit_r, sw_fit_n, sw_fit_l, sw_fit_d, sw_fit_b, sw_fit_0, sw_fit_1, sw_rel_0, sw_rel_1, sw_rel_2, sw_rel_3, sw_rel_4, sw_rel_5, sw_hp_set, sw_nx_set, sw_sl_set, sw_ev_set, sw_hp_new, sw_nx_new, sw_sl_new, sw_ev_new, List.getElem?_cons_zero, List.getElem?_cons_succ, List.set_cons_zero, List.set_cons_succ, List.length_cons, List.length_nil, Nat.reduceAdd, Nat.reduceSub, Nat.reduceLT, Nat.reduceLeDiff, Nat.zero_lt_succ, Nat.zero_add, beq_self_eq_true, Bool.true_and, and_true, true_and, and_self, not_true_eq_false, not_false_eq_true, ↓reduceIte, Nat.reduceBEq, eq_self, sw_b_0, sw_b_1, decide_eq_false_iff_not, decide_eq_true_eq, sl_n10, sl_n01, Decidable.not_not, sl_ct, sl_cats_0, sl_cats_i, sl_cats_r, sl_cats_n, sl_cats_l, sl_ok_5, sl_ok9, decide_true, sp_machC, sp_nodeC, sp_opC, sl_z0, sl_z1, sl_z2, sl_z3, sl_z4, sl_z5, sl_z6, sl_z7, sl_c0, sl_c1, sl_c2, sl_c3, sl_c4, sl_c5, sl_c6, sl_c7, List.length_map, sp_lifeC, sp_inC, h01, h02, sp_wrC, r2, ha2, c2, sw_b_t, r3, reduceCtorEq]
/-- of what is written the lives are there -/
def sp_vok (M : List (Nat × sp_Op)) (Rw : sp_LR) : Prop := ∀ z ∈ M, sp_rlen z.2 ∧ (∀ k, k < z.2.2.2.1.length → ∃ q, sp_plc (Rw.map (·.2)) (z.2.2.2.1.getD k 0) Rw.length = some q) ∧ ∃ q, sp_plc (Rw.map (·.2)) z.2.2.1 Rw.length = some q
theorem jc_X10_all (hD : 18 ≤ D) (hok : sp_lvok M Rw T) (hn : M.length < 130) (hvk : sp_vok M Rw) (h : sp_wrS ev wr cl (sp_wrC lv mach cl 0) (sl_cx ev lv ol mach rw M Rw m l L pa N B T out F) c s P []) :
    ∃ (P' : sw_P) (K : List (Nat × sp_In)), sw_Z D m_X10_all [.ref wr, .ref ol] P = some (.inl (some (.ref cl)), P') ∧ K.map (·.2) = sp_code m (M.map (·.2)) (Rw.map (·.2)) M.length ∧ sp_wrS ev wr cl (sp_wrC lv mach cl (nI M.length)) (sl_cx ev lv ol mach rw M Rw m l L pa N B T out F) (c + M.length) (s + 3 * M.length) P' K := by
  obtain ⟨d, hDe, hDn⟩ := sw_dep hD; subst hDe; replace hD := hDn; clear hDn
  have hloop : ∀ j p, p + j = M.length → ∀ P (K : List (Nat × sp_In)), K.map (·.2) = sp_code m (M.map (·.2)) (Rw.map (·.2)) p → K.length ≤ 7 * p → sp_wrS ev wr cl (sp_wrC lv mach cl (nI p)) (sl_cx ev lv ol mach rw M Rw m l L pa N B T out F) (c + p) (s + 3 * p) P K →
      ∃ (P' : sw_P) (K : List (Nat × sp_In)), sw_at (sw_Z d) b_X10_all 1 [some (.ref wr), some (.ref ol), none, none] [] P = some (.inl (some (.ref cl)), P') ∧ K.map (·.2) = sp_code m (M.map (·.2)) (Rw.map (·.2)) M.length ∧ sp_wrS ev wr cl (sp_wrC lv mach cl (nI M.length)) (sl_cx ev lv ol mach rw M Rw m l L pa N B T out F) (c + M.length) (s + 3 * M.length) P' K := by
    intro j
    induction j with
    | zero =>
      intro p hp P K hK hKl h
      have : p = M.length := by omega
      subst this
      have h0 := sl_st.get h 0 rfl
      obtain ⟨o1, o2⟩ := sp_lv_olkd h.lives (d := d) (by omega)
      have e1 : nI M.length ≤ nI M.length := Int32.le_refl _
      refine ⟨P, K, ?_, hK, h⟩
      rw [at_X10_all_1]; simp only [at_X10_all_4, ey_ld, sk_ld_s, ex_push, ey_pf, sk_pf_s, sw_set_set, ex_goto, ey_gf, sk_gf_s, sk_v_s, ey_cv0, sk_c_s, ex_ic, ey_cv1, ex_ct, ex_sta, ex_sta_n, ex_iz, ey_cv2, ex_dup_i, ex_dup_r, ex_dup_n, ex_ii, ex_rv, sw_gl_0, sw_gl_s, sw_fx_n, sw_fx_i, sw_fx_r, sw_fx_0, sw_fx_l, sw_fx_d, sw_sl1_0, sw_sl1_1, sw_sl1_s, sw_no_0, sw_no_s, sw_no_e, sw_mk_t, sw_mk_f, sw_mk_e, sw_en_0, sw_en_n, sw_en_i, sw_en_r, sw_en_z, sw_en_l, sw_en_d, sw_ok_0, sw_ok_1, sw_ok_2, sw_ok_3, sw_ok_4, sw_bo_s, sw_oi_s, sw_cl_s, sw_cl_x, sw_psh_s, sw_psh_n, sw_kd_s, sw_op_s, sw_oc_s, sw_oc_e, sw_oa_s, sw_el_n, sw_el_r, sl_kds_1, sl_kds_67, sw_fit_i, sw_fit_r, sw_fit_n, sw_fit_l, sw_fit_d, sw_fit_b, sw_fit_0, sw_fit_1, sw_rel_0, sw_rel_1, sw_rel_2, sw_rel_3, sw_rel_4, sw_rel_5, sw_hp_set, sw_nx_set, sw_sl_set, sw_ev_set, sw_hp_new, sw_nx_new, sw_sl_new, sw_ev_new, List.getElem?_cons_zero, List.getElem?_cons_succ, List.set_cons_zero, List.set_cons_succ, List.length_cons, List.length_nil, Nat.reduceAdd, Nat.reduceSub, Nat.reduceLT, Nat.reduceLeDiff, Nat.zero_lt_succ, Nat.zero_add, beq_self_eq_true, Bool.true_and, and_true, true_and, and_self, not_true_eq_false, not_false_eq_true, ↓reduceIte, Nat.reduceBEq, eq_self, sw_b_0, sw_b_1, decide_eq_false_iff_not, decide_eq_true_eq, sl_n10, sl_n01, Decidable.not_not, sl_ct, sl_cats_0, sl_cats_i, sl_cats_r, sl_cats_n, sl_cats_l, sl_ok_5, sl_ok9, decide_true, sp_machC, sp_nodeC, sp_opC, sl_z0, sl_z1, sl_z2, sl_z3, sl_z4, sl_z5, sl_z6, sl_z7, sl_c0, sl_c1, sl_c2, sl_c3, sl_c4, sl_c5, sl_c6, sl_c7, List.length_map, sp_lifeC, sp_inC, h0, sp_wrC, o1, o2, e1]
    | succ j ih =>
      intro p hp P K hK hKl h
      have h0 := sl_st.get h 0 rfl
      have hf := h.lives
      have hlk := hf.1
      obtain ⟨o1, o2⟩ := sp_lv_olkd hf (d := d) (by omega)
      have e1 : ¬ nI M.length ≤ nI p := nI_ge (by omega) (by omega)
      have hpM : p < M.length := by omega
      obtain ⟨r, f1, f2, f3, f4⟩ := sp_opsR (d := d) (by omega) hf.2.1 hf.2.2.1 (by omega) (k := p) hpM
      have ex : M[p]? = some M[p] := List.getElem?_eq_getElem hpM
      have eo : (M.map (·.2)).getD p sp_oz = M[p].2 := sp_getD (by rw [List.getElem?_map, ex]; rfl)
      rw [eo] at f2 f3
      obtain ⟨v1, v2, q, v3⟩ := hvk _ (List.getElem_mem hpM)
      have hkl := (sp_plc_lt _ _ _ v3).1
      have e2 := jc_X8_of (D := d) (by omega) hf hok v3 hkl
      obtain ⟨g1, g2, g3⟩ := sp_lv_row hf hok (d := d) (by omega) hkl
      have exv : sp_lifeV (Rw.map (·.2)) M[p].2.2.1 = Rw[q].2 := by
        unfold sp_lifeV; rw [List.length_map, v3]; exact g3
      rw [g3] at g2
      have hkM := (hok.2.2.2.2 _ (List.getElem_mem hkl)).1
      obtain ⟨r1, z1, z2, z3⟩ := sp_lv_1st hf hkM
      have e3 := jc_X9_isRemade (D := d) (os := M.map (·.2)) (by omega) g2 z1
      have e4 := jc_X7_is (D := d) (k := 9) (by omega) f2
      have hb : sp_opK ev lv ol mach rw pa M Rw m L T out M[p].1 M[p].2 := fun P' hf' => by
        obtain ⟨r', _, y2, y3, _⟩ := sp_opsR (d := 3) (Nat.le_refl _) hf'.2.1 hf'.2.2.1 (by omega) (k := p) hpM
        rw [eo] at y2 y3
        exact ⟨r', y2, y3⟩
      have ha : ∀ P, sp_lvF ev (sw_hp P) lv ol pa.1 mach rw pa.2.1 pa.2.2.1 pa.2.2.2 M Rw m L T out → sw_hp P Rw[q].1 = some (sp_lifeC (M.map (·.1)) Rw[q].2) := fun P' hf' => by
        obtain ⟨_, y2, y3⟩ := sp_lv_row hf' hok (d := 3) (Nat.le_refl _) hkl
        rw [y3] at y2
        exact y2
      have hst : sp_code m (M.map (·.2)) (Rw.map (·.2)) (p + 1) = sp_code m (M.map (·.2)) (Rw.map (·.2)) p ++ sp_wrO m (M.map (·.2)) (Rw.map (·.2)) p M[p].2 := by rw [← eo]; rfl
      have hlw := sp_wrO_len m (M.map (·.2)) (Rw.map (·.2)) p M[p].2 v1
      have next : ∀ (P1 : sw_P) (A1 : List (Nat × sp_In)), A1.map (·.2) = sp_wrO m (M.map (·.2)) (Rw.map (·.2)) p M[p].2 → sp_wrS ev wr cl (sp_wrC lv mach cl (nI p)) (sl_cx ev lv ol mach rw M Rw m l L pa N B T out F) (c + (p + 1)) (s + 3 * (p + 1)) P1 (K ++ A1) → ∃ (P' : sw_P) (K : List (Nat × sp_In)), sw_at (sw_Z d) b_X10_all 3 [some (.ref wr), some (.ref ol), none, none] [] P1 = some (.inl (some (.ref cl)), P') ∧ K.map (·.2) = sp_code m (M.map (·.2)) (Rw.map (·.2)) M.length ∧ sp_wrS ev wr cl (sp_wrC lv mach cl (nI M.length)) (sl_cx ev lv ol mach rw M Rw m l L pa N B T out F) (c + M.length) (s + 3 * M.length) P' K := by
        intro P1 A1 a1 s1
        have l1 := sp_insLen a1
        have h01 := sl_st.get s1 0 rfl
        have s2 := sl_st.set s1 0 (sp_wrC lv mach cl (nI (p + 1))) rfl
        obtain ⟨P', K', r1, a2, t1⟩ := ih (p + 1) (by omega) _ (K ++ A1) (by rw [List.map_append, hK, a1, hst]) (by rw [List.length_append]; omega) s2
        refine ⟨P', K', ?_, a2, t1⟩
        rw [← r1]
        rw [at_X10_all_3]; simp only [ey_ld, sk_ld_s, ex_push, ey_pf, sk_pf_s, sw_set_set, ex_goto, ey_gf, sk_gf_s, sk_v_s, ey_cv0, sk_c_s, ex_ic, ey_cv1, ex_ct, ex_sta, ex_sta_n, ex_iz, ey_cv2, ex_dup_i, ex_dup_r, ex_dup_n, ex_ii, ex_rv, sw_gl_0, sw_gl_s, sw_fx_n, sw_fx_i, sw_fx_r, sw_fx_0, sw_fx_l, sw_fx_d, sw_sl1_0, sw_sl1_1, sw_sl1_s, sw_no_0, sw_no_s, sw_no_e, sw_mk_t, sw_mk_f, sw_mk_e, sw_en_0, sw_en_n, sw_en_i, sw_en_r, sw_en_z, sw_en_l, sw_en_d, sw_ok_0, sw_ok_1, sw_ok_2, sw_ok_3, sw_ok_4, sw_bo_s, sw_oi_s, sw_cl_s, sw_cl_x, sw_psh_s, sw_psh_n, sw_kd_s, sw_op_s, sw_oc_s, sw_oc_e, sw_oa_s, sw_el_n, sw_el_r, sl_kds_1, sl_kds_67, sw_fit_i, sw_fit_r, sw_fit_n, sw_fit_l, sw_fit_d, sw_fit_b, sw_fit_0, sw_fit_1, sw_rel_0, sw_rel_1, sw_rel_2, sw_rel_3, sw_rel_4, sw_rel_5, sw_hp_set, sw_nx_set, sw_sl_set, sw_ev_set, sw_hp_new, sw_nx_new, sw_sl_new, sw_ev_new, List.getElem?_cons_zero, List.getElem?_cons_succ, List.set_cons_zero, List.set_cons_succ, List.length_cons, List.length_nil, Nat.reduceAdd, Nat.reduceSub, Nat.reduceLT, Nat.reduceLeDiff, Nat.zero_lt_succ, Nat.zero_add, beq_self_eq_true, Bool.true_and, and_true, true_and, and_self, not_true_eq_false, not_false_eq_true, ↓reduceIte, Nat.reduceBEq, eq_self, sw_b_0, sw_b_1, decide_eq_false_iff_not, decide_eq_true_eq, sl_n10, sl_n01, Decidable.not_not, sl_ct, sl_cats_0, sl_cats_i, sl_cats_r, sl_cats_n, sl_cats_l, sl_ok_5, sl_ok9, decide_true, sp_machC, sp_nodeC, sp_opC, sl_z0, sl_z1, sl_z2, sl_z3, sl_z4, sl_z5, sl_z6, sl_z7, sl_c0, sl_c1, sl_c2, sl_c3, sl_c4, sl_c5, sl_c6, sl_c7, List.length_map, sp_lifeC, sp_inC, h01, sp_wrC, nI_1]
      unfold sp_wrO at next
      rw [exv] at next
      by_cases c1 : M[p].2.1 = 9
      · rw [if_pos c1] at next
        have hr2 : M[p].2.2.2.1.length = 2 := by
          rcases v1 with w | w | w | w
          · rw [w.1] at c1; exact absurd c1 (by decide)
          · rcases w.1 with w | w <;> rw [w] at c1 <;> exact absurd c1 (by decide)
          · rw [w.1] at c1; exact absurd c1 (by decide)
          · exact w.2
        obtain ⟨P1, A1, r1, a1, l1, s1⟩ := (jc_X10_writeCall (D := d) (by omega) hok (by omega) hb hr2 v2 ha h).bind
        obtain ⟨P', K', t1, t2, t3⟩ := next P1 A1 a1 (sl_st.wk s1 (by omega) (by omega))
        refine ⟨P', K', ?_, t2, t3⟩
        rw [← t1]
        rw [at_X10_all_1]; simp only [ey_ld, sk_ld_s, ex_push, ey_pf, sk_pf_s, sw_set_set, ex_goto, ey_gf, sk_gf_s, sk_v_s, ey_cv0, sk_c_s, ex_ic, ey_cv1, ex_ct, ex_sta, ex_sta_n, ex_iz, ey_cv2, ex_dup_i, ex_dup_r, ex_dup_n, ex_ii, ex_rv, sw_gl_0, sw_gl_s, sw_fx_n, sw_fx_i, sw_fx_r, sw_fx_0, sw_fx_l, sw_fx_d, sw_sl1_0, sw_sl1_1, sw_sl1_s, sw_no_0, sw_no_s, sw_no_e, sw_mk_t, sw_mk_f, sw_mk_e, sw_en_0, sw_en_n, sw_en_i, sw_en_r, sw_en_z, sw_en_l, sw_en_d, sw_ok_0, sw_ok_1, sw_ok_2, sw_ok_3, sw_ok_4, sw_bo_s, sw_oi_s, sw_cl_s, sw_cl_x, sw_psh_s, sw_psh_n, sw_kd_s, sw_op_s, sw_oc_s, sw_oc_e, sw_oa_s, sw_el_n, sw_el_r, sl_kds_1, sl_kds_67, sw_fit_i, sw_fit_r, sw_fit_n, sw_fit_l, sw_fit_d, sw_fit_b, sw_fit_0, sw_fit_1, sw_rel_0, sw_rel_1, sw_rel_2, sw_rel_3, sw_rel_4, sw_rel_5, sw_hp_set, sw_nx_set, sw_sl_set, sw_ev_set, sw_hp_new, sw_nx_new, sw_sl_new, sw_ev_new, List.getElem?_cons_zero, List.getElem?_cons_succ, List.set_cons_zero, List.set_cons_succ, List.length_cons, List.length_nil, Nat.reduceAdd, Nat.reduceSub, Nat.reduceLT, Nat.reduceLeDiff, Nat.zero_lt_succ, Nat.zero_add, beq_self_eq_true, Bool.true_and, and_true, true_and, and_self, not_true_eq_false, not_false_eq_true, ↓reduceIte, Nat.reduceBEq, eq_self, sw_b_0, sw_b_1, decide_eq_false_iff_not, decide_eq_true_eq, sl_n10, sl_n01, Decidable.not_not, sl_ct, sl_cats_0, sl_cats_i, sl_cats_r, sl_cats_n, sl_cats_l, sl_ok_5, sl_ok9, decide_true, sp_machC, sp_nodeC, sp_opC, sl_z0, sl_z1, sl_z2, sl_z3, sl_z4, sl_z5, sl_z6, sl_z7, sl_c0, sl_c1, sl_c2, sl_c3, sl_c4, sl_c5, sl_c6, sl_c7, List.length_map, sp_lifeC, sp_inC, h0, sp_wrC, o1, o2, e1, f1, f2, hlk, sp_lvC, e2, e4, eq_true c1, sw_b_t, r1, sl_kds_1, reduceCtorEq]
      · rw [if_neg c1] at next
        cases c2 : sp_rem (M.map (·.2)) Rw[q].2 <;> rw [c2] at e3 next
        · rw [if_neg (show ¬ false = true by decide)] at next
          obtain ⟨P1, A1, r1, a1, l1, s1⟩ := (jc_X10_writePlain (D := d) (by omega) hok (by omega) hb v1 v2 ha h).bind
          obtain ⟨P', K', t1, t2, t3⟩ := next P1 A1 a1 (sl_st.wk s1 (by omega) (by omega))
          refine ⟨P', K', ?_, t2, t3⟩
          rw [← t1]
          rw [at_X10_all_1]; simp only [at_X10_all_2, ey_ld, sk_ld_s, ex_push, ey_pf, sk_pf_s, sw_set_set, ex_goto, ey_gf, sk_gf_s, sk_v_s, ey_cv0, sk_c_s, ex_ic, ey_cv1, ex_ct, ex_sta, ex_sta_n, ex_iz, ey_cv2, ex_dup_i, ex_dup_r, ex_dup_n, ex_ii, ex_rv, sw_gl_0, sw_gl_s, sw_fx_n, sw_fx_i, sw_fx_r, sw_fx_0, sw_fx_l, sw_fx_d, sw_sl1_0, sw_sl1_1, sw_sl1_s, sw_no_0, sw_no_s, sw_no_e, sw_mk_t, sw_mk_f, sw_mk_e, sw_en_0, sw_en_n, sw_en_i, sw_en_r, sw_en_z, sw_en_l, sw_en_d, sw_ok_0, sw_ok_1, sw_ok_2, sw_ok_3, sw_ok_4, sw_bo_s, sw_oi_s, sw_cl_s, sw_cl_x, sw_psh_s, sw_psh_n, sw_kd_s, sw_op_s, sw_oc_s, sw_oc_e, sw_oa_s, sw_el_n, sw_el_r, sl_kds_1, sl_kds_67, sw_fit_i, sw_fit_r, sw_fit_n, sw_fit_l, sw_fit_d, sw_fit_b, sw_fit_0, sw_fit_1, sw_rel_0, sw_rel_1, sw_rel_2, sw_rel_3, sw_rel_4, sw_rel_5, sw_hp_set, sw_nx_set, sw_sl_set, sw_ev_set, sw_hp_new, sw_nx_new, sw_sl_new, sw_ev_new, List.getElem?_cons_zero, List.getElem?_cons_succ, List.set_cons_zero, List.set_cons_succ, List.length_cons, List.length_nil, Nat.reduceAdd, Nat.reduceSub, Nat.reduceLT, Nat.reduceLeDiff, Nat.zero_lt_succ, Nat.zero_add, beq_self_eq_true, Bool.true_and, and_true, true_and, and_self, not_true_eq_false, not_false_eq_true, ↓reduceIte, Nat.reduceBEq, eq_self, sw_b_0, sw_b_1, decide_eq_false_iff_not, decide_eq_true_eq, sl_n10, sl_n01, Decidable.not_not, sl_ct, sl_cats_0, sl_cats_i, sl_cats_r, sl_cats_n, sl_cats_l, sl_ok_5, sl_ok9, decide_true, sp_machC, sp_nodeC, sp_opC, sl_z0, sl_z1, sl_z2, sl_z3, sl_z4, sl_z5, sl_z6, sl_z7, sl_c0, sl_c1, sl_c2, sl_c3, sl_c4, sl_c5, sl_c6, sl_c7, List.length_map, sp_lifeC, sp_inC, h0, sp_wrC, o1, o2, e1, f1, f2, g2, hlk, sp_lvC, e2, e3, e4, eq_false c1, decide_false, sw_b_f, r1, sl_kds_1, reduceCtorEq]
        · rw [if_pos rfl] at next
          obtain ⟨P', K', t1, t2, t3⟩ := next P [] rfl (by rw [List.append_nil]; exact sl_st.wk h (by omega) (by omega))
          refine ⟨P', K', ?_, t2, t3⟩
          rw [← t1]
          rw [at_X10_all_1]; simp only [at_X10_all_2, ey_ld, sk_ld_s, ex_push, ey_pf, sk_pf_s, sw_set_set, ex_goto, ey_gf, sk_gf_s, sk_v_s, ey_cv0, sk_c_s, ex_ic, ey_cv1, ex_ct, ex_sta, ex_sta_n, ex_iz, ey_cv2, ex_dup_i, ex_dup_r, ex_dup_n, ex_ii, ex_rv, sw_gl_0, sw_gl_s, sw_fx_n, sw_fx_i, sw_fx_r, sw_fx_0, sw_fx_l, sw_fx_d, sw_sl1_0, sw_sl1_1, sw_sl1_s, sw_no_0, sw_no_s, sw_no_e, sw_mk_t, sw_mk_f, sw_mk_e, sw_en_0, sw_en_n, sw_en_i, sw_en_r, sw_en_z, sw_en_l, sw_en_d, sw_ok_0, sw_ok_1, sw_ok_2, sw_ok_3, sw_ok_4, sw_bo_s, sw_oi_s, sw_cl_s, sw_cl_x, sw_psh_s, sw_psh_n, sw_kd_s, sw_op_s, sw_oc_s, sw_oc_e, sw_oa_s, sw_el_n, sw_el_r, sl_kds_1, sl_kds_67, sw_fit_i, sw_fit_r, sw_fit_n, sw_fit_l, sw_fit_d, sw_fit_b, sw_fit_0, sw_fit_1, sw_rel_0, sw_rel_1, sw_rel_2, sw_rel_3, sw_rel_4, sw_rel_5, sw_hp_set, sw_nx_set, sw_sl_set, sw_ev_set, sw_hp_new, sw_nx_new, sw_sl_new, sw_ev_new, List.getElem?_cons_zero, List.getElem?_cons_succ, List.set_cons_zero, List.set_cons_succ, List.length_cons, List.length_nil, Nat.reduceAdd, Nat.reduceSub, Nat.reduceLT, Nat.reduceLeDiff, Nat.zero_lt_succ, Nat.zero_add, beq_self_eq_true, Bool.true_and, and_true, true_and, and_self, not_true_eq_false, not_false_eq_true, ↓reduceIte, Nat.reduceBEq, eq_self, sw_b_0, sw_b_1, decide_eq_false_iff_not, decide_eq_true_eq, sl_n10, sl_n01, Decidable.not_not, sl_ct, sl_cats_0, sl_cats_i, sl_cats_r, sl_cats_n, sl_cats_l, sl_ok_5, sl_ok9, decide_true, sp_machC, sp_nodeC, sp_opC, sl_z0, sl_z1, sl_z2, sl_z3, sl_z4, sl_z5, sl_z6, sl_z7, sl_c0, sl_c1, sl_c2, sl_c3, sl_c4, sl_c5, sl_c6, sl_c7, List.length_map, sp_lifeC, sp_inC, h0, sp_wrC, o1, o2, e1, f1, f2, g2, hlk, sp_lvC, e2, e3, e4, eq_false c1, decide_false, sw_b_f, sw_b_t, sl_kds_1, reduceCtorEq]
  have h0 := sl_st.get h 0 rfl
  have s1 := sl_st.set h 0 (sp_wrC lv mach cl (nI 0)) rfl
  obtain ⟨P', K', r1, a1, t1⟩ := hloop M.length 0 (by omega) _ [] rfl (Nat.le_refl _) s1
  refine ⟨P', K', ?_, a1, t1⟩
  rw [← r1]
  rw [M_X10_all _ _ _ rfl]; simp only [at_X10_all_0, ey_ld, sk_ld_s, ex_push, ey_pf, sk_pf_s, sw_set_set, ex_goto, ey_gf, sk_gf_s, sk_v_s, ey_cv0, sk_c_s, ex_ic, ey_cv1, ex_ct, ex_sta, ex_sta_n, ex_iz, ey_cv2, ex_dup_i, ex_dup_r, ex_dup_n, ex_ii, ex_rv, sw_gl_0, sw_gl_s, sw_fx_n, sw_fx_i, sw_fx_r, sw_fx_0, sw_fx_l, sw_fx_d, sw_sl1_0, sw_sl1_1, sw_sl1_s, sw_no_0, sw_no_s, sw_no_e, sw_mk_t, sw_mk_f, sw_mk_e, sw_en_0, sw_en_n, sw_en_i, sw_en_r, sw_en_z, sw_en_l, sw_en_d, sw_ok_0, sw_ok_1, sw_ok_2, sw_ok_3, sw_ok_4, sw_bo_s, sw_oi_s, sw_cl_s, sw_cl_x, sw_psh_s, sw_psh_n, sw_kd_s, sw_op_s, sw_oc_s, sw_oc_e, sw_oa_s, sw_el_n, sw_el_r, sl_kds_1, sl_kds_67, sw_fit_i, sw_fit_r, sw_fit_n, sw_fit_l, sw_fit_d, sw_fit_b, sw_fit_0, sw_fit_1, sw_rel_0, sw_rel_1, sw_rel_2, sw_rel_3, sw_rel_4, sw_rel_5, sw_hp_set, sw_nx_set, sw_sl_set, sw_ev_set, sw_hp_new, sw_nx_new, sw_sl_new, sw_ev_new, List.getElem?_cons_zero, List.getElem?_cons_succ, List.set_cons_zero, List.set_cons_succ, List.length_cons, List.length_nil, Nat.reduceAdd, Nat.reduceSub, Nat.reduceLT, Nat.reduceLeDiff, Nat.zero_lt_succ, Nat.zero_add, beq_self_eq_true, Bool.true_and, and_true, true_and, and_self, not_true_eq_false, not_false_eq_true, ↓reduceIte, Nat.reduceBEq, eq_self, sw_b_0, sw_b_1, decide_eq_false_iff_not, decide_eq_true_eq, sl_n10, sl_n01, Decidable.not_not, sl_ct, sl_cats_0, sl_cats_i, sl_cats_r, sl_cats_n, sl_cats_l, sl_ok_5, sl_ok9, decide_true, sp_machC, sp_nodeC, sp_opC, sl_z0, sl_z1, sl_z2, sl_z3, sl_z4, sl_z5, sl_z6, sl_z7, sl_c0, sl_c1, sl_c2, sl_c3, sl_c4, sl_c5, sl_c6, sl_c7, List.length_map, sp_lifeC, sp_inC, h0, sp_wrC]
  rfl
theorem jc_X10_init {R : List sl_A} (hD : 5 ≤ D) (h : sl_st ev c s P (sl_pt wr (9, [.null, .null, .null, .int 0]) :: R)) :
    ∃ (P' : sw_P) (cl : Nat), sw_Z D m_X10_init [.ref wr, .ref lv, .ref mach] P = some (.inl none, P') ∧ sp_wrS ev wr cl (sp_wrC lv mach cl 0) R (c + 1) (s + 3) P' [] := by
  obtain ⟨d, hDe, hDn⟩ := sw_dep hD; subst hDe; replace hD := hDn; clear hDn
  have hev := h.ev
  have h0 := h.get 0 rfl
  have hn0 := h.2.2.2.1
  have f1 := sl_ne_nx h0 hn0
  have f2 : sw_nx P ≠ wr := fun e => f1 e.symm
  have g1 := (h.new (24, [.int 0, .ref (ev 10), .int 0])).set 1 (sp_wrC lv mach (sw_nx P) 0) rfl
  have g2 := sl_st.oflx (Q := fun c => c ∈ sl_caps) (vs := []) (by decide) ((g1.ofbk0).pk [1])
  have g3 := ((sl_st.flat (As := [])).mpr g2).pk [2, 1, 0]
  refine ⟨_, sw_nx P, ?_, g3.wk (by exact Nat.le_add_right _ _) (by exact Nat.le_add_right _ _)⟩
  have e5 := jc_J2_init (D := d) (a := sw_nx P) (P := sw_new P (24, [.int 0, .null, .int 0])) (by omega) (if_pos rfl)
  rw [show sw_ev (sw_new P (24, [.int 0, .null, .int 0])) = sw_ev P from rfl, hev, sw_set_new P 24 24 [.int 0, .null, .int 0] [.int 0, .ref (ev 10), .int 0] rfl] at e5
  rw [M_X10_init _ _ _ rfl]; simp only [at_X10_init_0, ey_ld, sk_ld_s, ex_oin, ex_nw, ex_dup_i, ex_dup_r, ex_dup_n, ey_ci0, sk_c_s, ey_pf, sk_pf_s, sw_set_set, ex_ret, sw_gl_0, sw_gl_s, sw_fx_n, sw_fx_i, sw_fx_r, sw_fx_0, sw_fx_l, sw_fx_d, sw_sl1_0, sw_sl1_1, sw_sl1_s, sw_no_0, sw_no_s, sw_no_e, sw_mk_t, sw_mk_f, sw_mk_e, sw_en_0, sw_en_n, sw_en_i, sw_en_r, sw_en_z, sw_en_l, sw_en_d, sw_ok_0, sw_ok_1, sw_ok_2, sw_ok_3, sw_ok_4, sw_bo_s, sw_oi_s, sw_cl_s, sw_cl_x, sw_psh_s, sw_psh_n, sw_kd_s, sw_op_s, sw_oc_s, sw_oc_e, sw_oa_s, sw_el_n, sw_el_r, sl_kds_1, sl_kds_67, sw_fit_i, sw_fit_r, sw_fit_n, sw_fit_l, sw_fit_d, sw_fit_b, sw_fit_0, sw_fit_1, sw_rel_0, sw_rel_1, sw_rel_2, sw_rel_3, sw_rel_4, sw_rel_5, sw_hp_set, sw_nx_set, sw_sl_set, sw_ev_set, sw_hp_new, sw_nx_new, sw_sl_new, sw_ev_new, List.getElem?_cons_zero, List.getElem?_cons_succ, List.set_cons_zero, List.set_cons_succ, List.length_cons, List.length_nil, Nat.reduceAdd, Nat.reduceSub, Nat.reduceLT, Nat.reduceLeDiff, Nat.zero_lt_succ, Nat.zero_add, beq_self_eq_true, Bool.true_and, and_true, true_and, and_self, not_true_eq_false, not_false_eq_true, ↓reduceIte, Nat.reduceBEq, eq_self, sw_b_0, sw_b_1, decide_eq_false_iff_not, decide_eq_true_eq, sl_n10, sl_n01, Decidable.not_not, sl_ct, sl_cats_0, sl_cats_i, sl_cats_r, sl_cats_n, sl_cats_l, sl_ok_5, sl_ok9, decide_true, sp_machC, sp_nodeC, sp_opC, sl_z0, sl_z1, sl_z2, sl_z3, sl_z4, sl_z5, sl_z6, sl_z7, sl_c0, sl_c1, sl_c2, sl_c3, sl_c4, sl_c5, sl_c6, sl_c7, List.length_map, sp_lifeC, sp_inC, h0, f1, f2, e5, sp_wrC]
end
