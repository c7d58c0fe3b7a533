/-! ===== the component's run: a row of code; the constructor ===== -/
def sp_runF (m : sp_Mach) (L : List Int32) (os : List sp_Op) (b : Int32) (k : Nat) (q : sp_Rn × List sp_In) : sp_Rn × List sp_In := if (os.getD (q.2.getD k (0, 0, 0, 0, 0, 0, 0)).2.2.2.2.2.1.toNatClampNeg sp_oz).2.2.2.2.1 = b then (sp_step m L q.1 (q.2.getD k (0, 0, 0, 0, 0, 0, 0)), q.2.set k (sp_beg q.1 (q.2.getD k (0, 0, 0, 0, 0, 0, 0)))) else q
def sp_run (m : sp_Mach) (L : List Int32) (os : List sp_Op) (b : Int32) (q : sp_Rn × List sp_In) : Nat → sp_Rn × List sp_In := sw_it (sp_runF m L os b) q
def sp_cok (n ns : Nat) (Ks : List sp_In) : Prop := ∀ x ∈ Ks, sp_iok ns x ∧ sp_lt n x.2.2.2.2.2.1
section
variable {ev : Nat → Nat} {mach l ia rn ra rb rs cl ol D d c s ns : Nat} {m : sp_Mach} {L : List Int32} {P : sw_P} {F : List sl_A} {x : sp_In} {z : sp_Rn} {M : List (Nat × sp_Op)} {b : Int32}
def sl_rnA (ev : Nat → Nat) (rn mach ra rb rs : Nat) (z : sp_Rn) (cl : Nat) (K : List (Nat × sp_In)) (ol : Nat) (M : List (Nat × sp_Op)) : List sl_A := [sl_pt rn (sp_rnC mach ra rb rs z), sl_pt ra (64, z.1.map .int), sl_pt rb (64, z.2.1.map .int), sl_pt rs (64, z.2.2.1.map .int), sl_ls ev cl (K.map fun x => .ref x.1), sl_all (K.map sl_inA), sl_ls ev ol (M.map fun x => .ref x.1), sl_all (M.map sl_opA)]
theorem sp_run_ok {n : Nat} {q : sp_Rn × List sp_In} {os : List sp_Op} (h1 : sp_rok ns q.1) (h2 : sp_cok n ns q.2) (k : Nat) : sp_rok ns (sp_run m L os b q k).1 ∧ sp_cok n ns (sp_run m L os b q k).2 ∧ (sp_run m L os b q k).2.length = q.2.length := by
  induction k with
  | zero => exact ⟨h1, h2, rfl⟩
  | succ k ih =>
    have hst : sp_run m L os b q (k + 1) = sp_runF m L os b k (sp_run m L os b q k) := rfl
    rw [hst]
    unfold sp_runF
    split
    · refine ⟨sp_step_ok ih.1, fun x hx => ?_, (List.length_set).trans ih.2.2⟩
      by_cases hk : k < (sp_run m L os b q k).2.length
      · rcases List.mem_or_eq_of_mem_set hx with e | e
        · exact ih.2.1 x e
        · rw [e]
          have := ih.2.1 _ (List.getElem_mem hk)
          rw [← sp_getD (z := (0, 0, 0, 0, 0, 0, 0)) (List.getElem?_eq_getElem hk)] at this
          exact this
      · rw [List.set_eq_of_length_le (by omega)] at hx
        exact ih.2.1 x hx
    · exact ih
theorem sp_rnPick {K : List (Nat × sp_In)} {k : Nat} {w : Nat × sp_In} {A1 A2 : sl_A} (ex : K[k]? = some w) (h : sl_st ev c s P (sl_rnA ev rn mach ra rb rs z cl K ol M ++ (A1 :: A2 :: F))) : sl_st ev c s P (sl_run rn mach ra rb rs z w.1 w.2 ++ (A1 :: A2 :: sl_all ((K.eraseIdx k).map sl_inA) :: sl_ls ev cl (K.map fun x => .ref x.1) :: sl_ls ev ol (M.map fun x => .ref x.1) :: sl_all (M.map sl_opA) :: F)) := by
  have g1 := (h.pk [5]).pickall (A := sl_inA) ex
  have g2 : sl_st ev c s P (sl_pt rn (sp_rnC mach ra rb rs z) :: sl_pt ra (64, z.1.map .int) :: sl_pt rb (64, z.2.1.map .int) :: sl_pt rs (64, z.2.2.1.map .int) :: sl_inA w :: A1 :: A2 :: sl_all ((K.eraseIdx k).map sl_inA) :: sl_ls ev cl (K.map fun x => .ref x.1) :: sl_ls ev ol (M.map fun x => .ref x.1) :: sl_all (M.map sl_opA) :: _) := g1.pp 11 [2, 3, 4, 5, 0, 9, 10, 1, 6, 7, 8]
  exact g2
theorem sp_rnPut {K : List (Nat × sp_In)} {k : Nat} {w : Nat × sp_In} {A1 A2 : sl_A} (ex : K[k]? = some w) (h : sl_st ev c s P (sl_run rn mach ra rb rs z w.1 x ++ (A1 :: A2 :: sl_all ((K.eraseIdx k).map sl_inA) :: sl_ls ev cl (K.map fun x => .ref x.1) :: sl_ls ev ol (M.map fun x => .ref x.1) :: sl_all (M.map sl_opA) :: F))) : sl_st ev c s P (sl_rnA ev rn mach ra rb rs z cl (K.set k (w.1, x)) ol M ++ (A1 :: A2 :: F)) := by
  have s2 : sl_st ev c s P (sl_inA (w.1, x) :: sl_all ((K.eraseIdx k).map sl_inA) :: sl_pt rn (sp_rnC mach ra rb rs z) :: sl_pt ra (64, z.1.map .int) :: sl_pt rb (64, z.2.1.map .int) :: sl_pt rs (64, z.2.2.1.map .int) :: sl_ls ev cl (K.map fun x => .ref x.1) :: sl_ls ev ol (M.map fun x => .ref x.1) :: sl_all (M.map sl_opA) :: A1 :: A2 :: _) := h.pp 11 [4, 7, 0, 1, 2, 3, 8, 9, 10, 5, 6]
  have s3 := sl_st.putall (A := sl_inA) (l := K) (i := k) (x := w) (y := (w.1, x)) ex s2
  have hr : ((K.set k (w.1, x)).map fun x => Value.ref x.1) = K.map fun x => Value.ref x.1 := sl_refs_set K k w _ ex
  have s4 : sl_st ev c s P (sl_pt rn (sp_rnC mach ra rb rs z) :: sl_pt ra (64, z.1.map .int) :: sl_pt rb (64, z.2.1.map .int) :: sl_pt rs (64, z.2.2.1.map .int) :: sl_ls ev cl (K.map fun x => .ref x.1) :: sl_all ((K.set k (w.1, x)).map sl_inA) :: sl_ls ev ol (M.map fun x => .ref x.1) :: sl_all (M.map sl_opA) :: _) := s3.pp 8 [1, 2, 3, 4, 5, 0, 6, 7]
  unfold sl_rnA
  rw [hr]
  exact s4
theorem jc_X12_run {K : List (Nat × sp_In)} (hD : 8 ≤ D) (hn : M.length < 200) (hK : K.length < 1000) (hok : sp_rok ns z) (hns : ns < 1000) (hc : sp_cok M.length ns (K.map (·.2))) (hL : L.length = 8) (hm : 5 ≤ m.1.toNatClampNeg ∧ m.1.toNatClampNeg ≤ 11 ∧ m.1 = nI m.1.toNatClampNeg) (h : sl_st ev c s P (sl_rnA ev rn mach ra rb rs z cl K ol M ++ (sl_pt mach (sp_machC m l) :: sl_pt l (64, L.map .int) :: F))) :
    ∃ (P' : sw_P) (K' : List (Nat × sp_In)), sw_Z D m_X12_run [.ref rn, .ref cl, .ref ol, .int b] P = some (.inl none, P') ∧ K'.map (·.2) = (sp_run m L (M.map (·.2)) b (z, K.map (·.2)) K.length).2 ∧ K'.length = K.length ∧ sl_st ev c s P' (sl_rnA ev rn mach ra rb rs (sp_run m L (M.map (·.2)) b (z, K.map (·.2)) K.length).1 cl K' ol M ++ (sl_pt mach (sp_machC m l) :: sl_pt l (64, L.map .int) :: F)) := by
  obtain ⟨d, hDe, hDn⟩ := sw_dep hD; subst hDe; replace hD := hDn; clear hDn
  have hloop : ∀ j k, k + j = K.length → ∀ P (K1 : List (Nat × sp_In)), K1.map (·.2) = (sp_run m L (M.map (·.2)) b (z, K.map (·.2)) k).2 → K1.length = K.length → sl_st ev c s P (sl_rnA ev rn mach ra rb rs (sp_run m L (M.map (·.2)) b (z, K.map (·.2)) k).1 cl K1 ol M ++ (sl_pt mach (sp_machC m l) :: sl_pt l (64, L.map .int) :: F)) →
      ∃ (P' : sw_P) (K' : List (Nat × sp_In)), sw_at (sw_Z d) b_X12_run 1 [some (.ref rn), some (.ref cl), some (.ref ol), some (.int b), some (.int (nI k))] [] P = some (.inl none, P') ∧ K'.map (·.2) = (sp_run m L (M.map (·.2)) b (z, K.map (·.2)) K.length).2 ∧ K'.length = K.length ∧ sl_st ev c s P' (sl_rnA ev rn mach ra rb rs (sp_run m L (M.map (·.2)) b (z, K.map (·.2)) K.length).1 cl K' ol M ++ (sl_pt mach (sp_machC m l) :: sl_pt l (64, L.map .int) :: F)) := by
    intro j
    induction j with
    | zero =>
      intro k hk P K1 h1 h2 h
      have : k = K.length := by omega
      subst this
      have e1 := jc_J2_sizeR (D := d) (by omega) (h.at 4 rfl)
      obtain ⟨_, _, _, _, e3, _⟩ := sl_rd_lx (h.at 4 rfl)
      rw [List.length_map, h2] at e1
      have e2 : nI K.length ≤ nI K.length := Int32.le_refl _
      refine ⟨P, K1, ?_, h1, h2, h⟩
      rw [at_X12_run_1]; simp only [at_X12_run_3, ex_push, ex_sti, ex_goto, ey_ld, sk_ld_s, ey_cv0, sk_c_s, ex_ic, ey_cv1, ex_ct, ey_gf, sk_gf_s, sk_v_s, ey_inc, sk_inc_s, ex_ret, sw_gl_0, sw_gl_s, sw_fx_n, sw_fx_i, sw_fx_r, sw_fx_0, sw_fx_l, sw_fx_d, sw_sl1_0, sw_sl1_1, sw_sl1_s, sw_no_0, sw_no_s, sw_no_e, sw_mk_t, sw_mk_f, sw_mk_e, sw_en_0, sw_en_n, sw_en_i, sw_en_r, sw_en_z, sw_en_l, sw_en_d, sw_ok_0, sw_ok_1, sw_ok_2, sw_ok_3, sw_ok_4, sw_bo_s, sw_oi_s, sw_cl_s, sw_cl_x, sw_psh_s, sw_psh_n, sw_kd_s, sw_op_s, sw_oc_s, sw_oc_e, sw_oa_s, sw_el_n, sw_el_r, sl_kds_1, sl_kds_67, sw_fit_i, sw_fit_r, sw_fit_n, sw_fit_l, sw_fit_d, sw_fit_b, sw_fit_0, sw_fit_1, sw_rel_0, sw_rel_1, sw_rel_2, sw_rel_3, sw_rel_4, sw_rel_5, sw_hp_set, sw_nx_set, sw_sl_set, sw_ev_set, sw_hp_new, sw_nx_new, sw_sl_new, sw_ev_new, List.getElem?_cons_zero, List.getElem?_cons_succ, List.set_cons_zero, List.set_cons_succ, List.length_cons, List.length_nil, Nat.reduceAdd, Nat.reduceSub, Nat.reduceLT, Nat.reduceLeDiff, Nat.zero_lt_succ, Nat.zero_add, beq_self_eq_true, Bool.true_and, and_true, true_and, and_self, not_true_eq_false, not_false_eq_true, ↓reduceIte, Nat.reduceBEq, eq_self, sw_b_0, sw_b_1, decide_eq_false_iff_not, decide_eq_true_eq, sl_n10, sl_n01, Decidable.not_not, sl_ct, sl_cats_0, sl_cats_i, sl_cats_r, sl_cats_n, sl_cats_l, sl_ok_5, sl_ok9, decide_true, sp_machC, sp_nodeC, sp_opC, sl_z0, sl_z1, sl_z2, sl_z3, sl_z4, sl_z5, sl_z6, sl_z7, sl_c0, sl_c1, sl_c2, sl_c3, sl_c4, sl_c5, sl_c6, sl_c7, List.length_map, sp_lifeC, sp_inC, sp_rnC, e1, e2, e3]
    | succ j ih =>
      intro k hk P K1 h1 h2 h
      have hcl := h.at 4 rfl
      have e1 := jc_J2_sizeR (D := d) (by omega) hcl
      obtain ⟨_, _, _, _, e3, _⟩ := sl_rd_lx hcl
      obtain ⟨_, _, _, _, e3', _⟩ := sl_rd_lx (h.at 6 rfl)
      rw [List.length_map, h2] at e1
      have e2 : ¬ nI K.length ≤ nI k := nI_ge (by omega) (by omega)
      have hkK : k < K1.length := by omega
      have ex : K1[k]? = some K1[k] := List.getElem?_eq_getElem hkK
      have e4 := jc_J2_get (D := d) (by omega) hcl (sl_refs_at ex) (by rw [List.length_map]; omega)
      have e5 := sl_rd_pt.mp (sl_rd_map (f := sl_inA) (h.at 5 rfl) ex)
      obtain ⟨o1, o2, o3⟩ := sp_run_ok (m := m) (L := L) (b := b) (os := M.map (·.2)) (q := (z, K.map (·.2))) (n := M.length) hok hc k
      rw [← h1] at o2 o3
      obtain ⟨i1, qq, i2, i3⟩ := o2 _ (List.mem_map.mpr ⟨K1[k], List.getElem_mem hkK, rfl⟩)
      obtain ⟨r, f1, f2, f3, f4⟩ := sp_opsR (d := d) (by omega) (h.at 6 rfl) (h.at 7 rfl) (by omega) (k := qq) i2
      rw [← i3] at f1
      have hst : sp_run m L (M.map (·.2)) b (z, K.map (·.2)) (k + 1) = sp_runF m L (M.map (·.2)) b k (sp_run m L (M.map (·.2)) b (z, K.map (·.2)) k) := rfl
      unfold sp_runF at hst
      have hgd : (sp_run m L (M.map (·.2)) b (z, K.map (·.2)) k).2.getD k (0, 0, 0, 0, 0, 0, 0) = K1[k].2 := by
        rw [← h1]; exact sp_getD (by rw [List.getElem?_map, ex]; rfl)
      have hqn : K1[k].2.2.2.2.2.2.1.toNatClampNeg = qq := by rw [i3]; exact nI_clamp (by omega)
      rw [hgd, hqn] at hst
      by_cases c1 : ((M.map (·.2)).getD qq sp_oz).2.2.2.2.1 = b
      · rw [if_pos c1] at hst
        have g2 := sp_rnPick ex h
        obtain ⟨P1, r1, s1⟩ := jc_X12_step (D := d) (by omega) o1 hns i1 hL hm g2
        have s3 := sp_rnPut (K := K1) (cl := cl) (ol := ol) (M := M) ex s1
        have s4 : sl_st ev c s P1 (sl_rnA ev rn mach ra rb rs (sp_run m L (M.map (·.2)) b (z, K.map (·.2)) (k + 1)).1 cl (K1.set k (K1[k].1, sp_beg (sp_run m L (M.map (·.2)) b (z, K.map (·.2)) k).1 K1[k].2)) ol M ++ (sl_pt mach (sp_machC m l) :: sl_pt l (64, L.map .int) :: F)) := by
          rw [hst]; exact s3
        obtain ⟨P', K', t1, t2, t3, t4⟩ := ih (k + 1) (by omega) P1 _ (by rw [hst, List.map_set, h1]) (by rw [List.length_set]; exact h2) s4
        refine ⟨P', K', ?_, t2, t3, t4⟩
        rw [← t1]
        rw [at_X12_run_1]; simp only [at_X12_run_2, ex_push, ex_sti, ex_goto, ey_ld, sk_ld_s, ey_cv0, sk_c_s, ex_ic, ey_cv1, ex_ct, ey_gf, sk_gf_s, sk_v_s, ey_inc, sk_inc_s, ex_ret, sw_gl_0, sw_gl_s, sw_fx_n, sw_fx_i, sw_fx_r, sw_fx_0, sw_fx_l, sw_fx_d, sw_sl1_0, sw_sl1_1, sw_sl1_s, sw_no_0, sw_no_s, sw_no_e, sw_mk_t, sw_mk_f, sw_mk_e, sw_en_0, sw_en_n, sw_en_i, sw_en_r, sw_en_z, sw_en_l, sw_en_d, sw_ok_0, sw_ok_1, sw_ok_2, sw_ok_3, sw_ok_4, sw_bo_s, sw_oi_s, sw_cl_s, sw_cl_x, sw_psh_s, sw_psh_n, sw_kd_s, sw_op_s, sw_oc_s, sw_oc_e, sw_oa_s, sw_el_n, sw_el_r, sl_kds_1, sl_kds_67, sw_fit_i, sw_fit_r, sw_fit_n, sw_fit_l, sw_fit_d, sw_fit_b, sw_fit_0, sw_fit_1, sw_rel_0, sw_rel_1, sw_rel_2, sw_rel_3, sw_rel_4, sw_rel_5, sw_hp_set, sw_nx_set, sw_sl_set, sw_ev_set, sw_hp_new, sw_nx_new, sw_sl_new, sw_ev_new, List.getElem?_cons_zero, List.getElem?_cons_succ, List.set_cons_zero, List.set_cons_succ, List.length_cons, List.length_nil, Nat.reduceAdd, Nat.reduceSub, Nat.reduceLT, Nat.reduceLeDiff, Nat.zero_lt_succ, Nat.zero_add, beq_self_eq_true, Bool.true_and, and_true, true_and, and_self, not_true_eq_false, not_false_eq_true, ↓reduceIte, Nat.reduceBEq, eq_self, sw_b_0, sw_b_1, decide_eq_false_iff_not, decide_eq_true_eq, sl_n10, sl_n01, Decidable.not_not, sl_ct, sl_cats_0, sl_cats_i, sl_cats_r, sl_cats_n, sl_cats_l, sl_ok_5, sl_ok9, decide_true, sp_machC, sp_nodeC, sp_opC, sl_z0, sl_z1, sl_z2, sl_z3, sl_z4, sl_z5, sl_z6, sl_z7, sl_c0, sl_c1, sl_c2, sl_c3, sl_c4, sl_c5, sl_c6, sl_c7, List.length_map, sp_lifeC, sp_inC, sp_rnC, e1, e2, e3, e3', e4, e5, f1, f2, eq_true c1, h.get 0 rfl, r1, sl_kds_1, nI_1]
      · rw [if_neg c1] at hst
        obtain ⟨P', K', t1, t2, t3, t4⟩ := ih (k + 1) (by omega) P K1 (by rw [hst]; exact h1) h2 (by rw [hst]; exact h)
        refine ⟨P', K', ?_, t2, t3, t4⟩
        rw [← t1]
        rw [at_X12_run_1]; simp only [at_X12_run_2, ex_push, ex_sti, ex_goto, ey_ld, sk_ld_s, ey_cv0, sk_c_s, ex_ic, ey_cv1, ex_ct, ey_gf, sk_gf_s, sk_v_s, ey_inc, sk_inc_s, ex_ret, sw_gl_0, sw_gl_s, sw_fx_n, sw_fx_i, sw_fx_r, sw_fx_0, sw_fx_l, sw_fx_d, sw_sl1_0, sw_sl1_1, sw_sl1_s, sw_no_0, sw_no_s, sw_no_e, sw_mk_t, sw_mk_f, sw_mk_e, sw_en_0, sw_en_n, sw_en_i, sw_en_r, sw_en_z, sw_en_l, sw_en_d, sw_ok_0, sw_ok_1, sw_ok_2, sw_ok_3, sw_ok_4, sw_bo_s, sw_oi_s, sw_cl_s, sw_cl_x, sw_psh_s, sw_psh_n, sw_kd_s, sw_op_s, sw_oc_s, sw_oc_e, sw_oa_s, sw_el_n, sw_el_r, sl_kds_1, sl_kds_67, sw_fit_i, sw_fit_r, sw_fit_n, sw_fit_l, sw_fit_d, sw_fit_b, sw_fit_0, sw_fit_1, sw_rel_0, sw_rel_1, sw_rel_2, sw_rel_3, sw_rel_4, sw_rel_5, sw_hp_set, sw_nx_set, sw_sl_set, sw_ev_set, sw_hp_new, sw_nx_new, sw_sl_new, sw_ev_new, List.getElem?_cons_zero, List.getElem?_cons_succ, List.set_cons_zero, List.set_cons_succ, List.length_cons, List.length_nil, Nat.reduceAdd, Nat.reduceSub, Nat.reduceLT, Nat.reduceLeDiff, Nat.zero_lt_succ, Nat.zero_add, beq_self_eq_true, Bool.true_and, and_true, true_and, and_self, not_true_eq_false, not_false_eq_true, ↓reduceIte, Nat.reduceBEq, eq_self, sw_b_0, sw_b_1, decide_eq_false_iff_not, decide_eq_true_eq, sl_n10, sl_n01, Decidable.not_not, sl_ct, sl_cats_0, sl_cats_i, sl_cats_r, sl_cats_n, sl_cats_l, sl_ok_5, sl_ok9, decide_true, sp_machC, sp_nodeC, sp_opC, sl_z0, sl_z1, sl_z2, sl_z3, sl_z4, sl_z5, sl_z6, sl_z7, sl_c0, sl_c1, sl_c2, sl_c3, sl_c4, sl_c5, sl_c6, sl_c7, List.length_map, sp_lifeC, sp_inC, sp_rnC, e1, e2, e3, e3', e4, e5, f1, f2, eq_false c1, sl_kds_1, nI_1]
  obtain ⟨P', K', t1, t2, t3, t4⟩ := hloop K.length 0 (by omega) P K rfl rfl h
  refine ⟨P', K', ?_, t2, t3, t4⟩
  rw [M_X12_run _ _ _ rfl]; simp only [at_X12_run_0, ex_push, ex_sti, ex_goto, ey_ld, sk_ld_s, ey_cv0, sk_c_s, ex_ic, ey_cv1, ex_ct, ey_gf, sk_gf_s, sk_v_s, ey_inc, sk_inc_s, ex_ret, sw_gl_0, sw_gl_s, sw_fx_n, sw_fx_i, sw_fx_r, sw_fx_0, sw_fx_l, sw_fx_d, sw_sl1_0, sw_sl1_1, sw_sl1_s, sw_no_0, sw_no_s, sw_no_e, sw_mk_t, sw_mk_f, sw_mk_e, sw_en_0, sw_en_n, sw_en_i, sw_en_r, sw_en_z, sw_en_l, sw_en_d, sw_ok_0, sw_ok_1, sw_ok_2, sw_ok_3, sw_ok_4, sw_bo_s, sw_oi_s, sw_cl_s, sw_cl_x, sw_psh_s, sw_psh_n, sw_kd_s, sw_op_s, sw_oc_s, sw_oc_e, sw_oa_s, sw_el_n, sw_el_r, sl_kds_1, sl_kds_67, sw_fit_i, sw_fit_r, sw_fit_n, sw_fit_l, sw_fit_d, sw_fit_b, sw_fit_0, sw_fit_1, sw_rel_0, sw_rel_1, sw_rel_2, sw_rel_3, sw_rel_4, sw_rel_5, sw_hp_set, sw_nx_set, sw_sl_set, sw_ev_set, sw_hp_new, sw_nx_new, sw_sl_new, sw_ev_new, List.getElem?_cons_zero, List.getElem?_cons_succ, List.set_cons_zero, List.set_cons_succ, List.length_cons, List.length_nil, Nat.reduceAdd, Nat.reduceSub, Nat.reduceLT, Nat.reduceLeDiff, Nat.zero_lt_succ, Nat.zero_add, beq_self_eq_true, Bool.true_and, and_true, true_and, and_self, not_true_eq_false, not_false_eq_true, ↓reduceIte, Nat.reduceBEq, eq_self, sw_b_0, sw_b_1, decide_eq_false_iff_not, decide_eq_true_eq, sl_n10, sl_n01, Decidable.not_not, sl_ct, sl_cats_0, sl_cats_i, sl_cats_r, sl_cats_n, sl_cats_l, sl_ok_5, sl_ok9, decide_true, sp_machC, sp_nodeC, sp_opC, sl_z0, sl_z1, sl_z2, sl_z3, sl_z4, sl_z5, sl_z6, sl_z7, sl_c0, sl_c1, sl_c2, sl_c3, sl_c4, sl_c5, sl_c6, sl_c7, List.length_map, sp_lifeC, sp_inC, sp_rnC]
  exact t1
def sp_rn0 (ns : Nat) : sp_Rn := (List.replicate 11 0, List.replicate 11 0, List.replicate ns 0, 0, -1, 0, 0)
theorem jc_X12_init (hD : 2 ≤ D) (hns : ns < 1000) (h : sl_st ev c s P (sl_pt rn (11, [.null, .null, .null, .null, .int 0, .int 0, .int 0, .int 0]) :: F)) :
    ∃ (P' : sw_P) (ra rb rs : Nat), sw_Z D m_X12_init [.ref rn, .ref mach, .int (nI ns)] P = some (.inl none, P') ∧ sl_st ev (c + 3) (s + 22 + ns) P' (sl_pt rn (sp_rnC mach ra rb rs (sp_rn0 ns)) :: sl_pt ra (64, (List.replicate 11 (0 : Int32)).map .int) :: sl_pt rb (64, (List.replicate 11 (0 : Int32)).map .int) :: sl_pt rs (64, (List.replicate ns (0 : Int32)).map .int) :: F) := by
  obtain ⟨d, hDe, hDn⟩ := sw_dep hD; subst hDe; replace hD := hDn; clear hDn
  have h0 := h.get 0 rfl
  have hn0 := h.2.2.2.1
  have f1 := sl_ne_nx h0 hn0
  have f3 : ¬ rn = sw_nx P + 1 := fun e => by rw [hn0 rn (by omega)] at h0; cases h0
  have f4 : ¬ rn = sw_nx P + 1 + 1 := fun e => by rw [hn0 rn (by omega)] at h0; cases h0
  have g1 := (h.new (64, (List.replicate 11 (0 : Int32)).map .int)).set 1 (11, [.null, .ref (sw_nx P), .null, .null, .int 0, .int 0, .int 0, .int 0]) rfl
  have g2 := (g1.new (64, (List.replicate 11 (0 : Int32)).map .int)).set 2 (11, [.ref mach, .ref (sw_nx P), .ref (sw_nx P + 1), .null, .int 0, .int (-1), .int 0, .int 0]) rfl
  have g3 := (g2.new (64, (List.replicate ns (0 : Int32)).map .int)).set 3 (sp_rnC mach (sw_nx P) (sw_nx P + 1) (sw_nx P + 1 + 1) (sp_rn0 ns)) rfl
  have hr : ∀ n : Nat, (List.replicate n (0 : Int32)).map Value.int = List.replicate n (.int 0) := fun n => by rw [List.map_replicate]
  refine ⟨_, sw_nx P, sw_nx P + 1, sw_nx P + 1 + 1, ?_, (g3.pk [3, 2, 1, 0]).wk (Nat.le_refl _) (by
    rw [hr, hr]
    show s + (List.replicate 11 (Value.int 0)).length + (List.replicate 11 (Value.int 0)).length + (List.replicate ns (Value.int 0)).length ≤ _
    rw [List.length_replicate, List.length_replicate]; omega)⟩
  have e1 : (0 : Int32) ≤ nI ns := nI_pos' (by omega)
  have e2 : (nI ns).toNatClampNeg = ns := nI_clamp (by omega)
  have e3 : ns ≤ 1048576 := by omega
  have e4 : Int32.toNatClampNeg 11 = 11 := by decide
  rw [hr, hr]
  rw [M_X12_init _ _ _ rfl]; simp only [at_X12_init_0, ey_ld, sk_ld_s, ex_oin, ex_push, ex_na, ey_pf, sk_pf_s, sw_set_set, ex_ret, sw_gl_0, sw_gl_s, sw_fx_n, sw_fx_i, sw_fx_r, sw_fx_0, sw_fx_l, sw_fx_d, sw_sl1_0, sw_sl1_1, sw_sl1_s, sw_no_0, sw_no_s, sw_no_e, sw_mk_t, sw_mk_f, sw_mk_e, sw_en_0, sw_en_n, sw_en_i, sw_en_r, sw_en_z, sw_en_l, sw_en_d, sw_ok_0, sw_ok_1, sw_ok_2, sw_ok_3, sw_ok_4, sw_bo_s, sw_oi_s, sw_cl_s, sw_cl_x, sw_psh_s, sw_psh_n, sw_kd_s, sw_op_s, sw_oc_s, sw_oc_e, sw_oa_s, sw_el_n, sw_el_r, sl_kds_1, sl_kds_67, sw_fit_i, sw_fit_r, sw_fit_n, sw_fit_l, sw_fit_d, sw_fit_b, sw_fit_0, sw_fit_1, sw_rel_0, sw_rel_1, sw_rel_2, sw_rel_3, sw_rel_4, sw_rel_5, sw_hp_set, sw_nx_set, sw_sl_set, sw_ev_set, sw_hp_new, sw_nx_new, sw_sl_new, sw_ev_new, List.getElem?_cons_zero, List.getElem?_cons_succ, List.set_cons_zero, List.set_cons_succ, List.length_cons, List.length_nil, Nat.reduceAdd, Nat.reduceSub, Nat.reduceLT, Nat.reduceLeDiff, Nat.zero_lt_succ, Nat.zero_add, beq_self_eq_true, Bool.true_and, and_true, true_and, and_self, not_true_eq_false, not_false_eq_true, ↓reduceIte, Nat.reduceBEq, eq_self, sw_b_0, sw_b_1, decide_eq_false_iff_not, decide_eq_true_eq, sl_n10, sl_n01, Decidable.not_not, sl_ct, sl_cats_0, sl_cats_i, sl_cats_r, sl_cats_n, sl_cats_l, sl_ok_5, sl_ok9, decide_true, sp_machC, sp_nodeC, sp_opC, sl_z0, sl_z1, sl_z2, sl_z3, sl_z4, sl_z5, sl_z6, sl_z7, sl_c0, sl_c1, sl_c2, sl_c3, sl_c4, sl_c5, sl_c6, sl_c7, List.length_map, sp_lifeC, sp_inC, sp_rnC, h0, f1, f3, f4, e1, e2, e3, e4, show sw_dv 64 = .int 0 from rfl, show ((0 : Int32) ≤ 11) = True by decide, show ((11 : Nat) ≤ 1048576) = True by decide, sp_rn0]
end
