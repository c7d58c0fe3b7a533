/-! ===== the component's choosing: the row of all instructions ===== -/
theorem sl_st.merge {α : Type} {ev : Nat → Nat} {c s : Nat} {P : sw_P} {A : α → sl_A} {l l' : List α} {F : List sl_A} (h : sl_st ev c s P (sl_all (l.map A) :: sl_all (l'.map A) :: F)) : sl_st ev c s P (sl_all ((l ++ l').map A) :: F) := by
  refine sl_st.flat.mpr ?_
  have h2 := sl_st.flat.mp h
  have h3 := h2.perm (List.perm_middle (a := sl_all (l'.map A)) (l₁ := l.map A) (l₂ := F))
  have h4 := sl_st.flat.mp h3
  rw [List.map_append, List.append_assoc]
  refine h4.perm ?_
  rw [← List.append_assoc, ← List.append_assoc]
  exact List.Perm.append_right _ List.perm_append_comm
theorem sl_elapp {P : sw_P} {us vs : List Value} (hu : ∀ v ∈ us, sw_el P sw_k67 v = true) (hv : ∀ v ∈ vs, sw_el P sw_k67 v = true) : ∀ v ∈ us ++ vs, sw_el P sw_k67 v = true := fun v h => (List.mem_append.mp h).elim (hu v) (hv v)
theorem sl_GA_mono {a b : Nat} (h : a ≤ b) : sl_GA a ≤ sl_GA b := by
  induction h with
  | refl => exact Nat.le_refl _
  | step _ ih => exact Nat.le_trans ih (Nat.le_add_right _ _)
theorem sl_GS_mono {a b : Nat} (h : a ≤ b) : sl_GS a ≤ sl_GS b := by
  induction h with
  | refl => exact Nat.le_refl _
  | step _ ih => exact Nat.le_trans ih (Nat.le_add_right _ _)
def sp_emC (n : Nat) : Nat := 2 * n + sl_GA n
def sp_emSl (n : Nat) : Nat := 9 * n + sl_GS n
section
variable {ev : Nat → Nat} {ch mach ca ol ml l : Nat} {pa : sp_PA} {N : List (Nat × sp_Node)} {B : List sp_Blk} {T L cs : List Int32} {out b : Int32} {m : sp_Mach} {F R : List sl_A} {c s : Nat} {O : List (Nat × sp_Op)} {v : Int32} {C : sw_O}
theorem jc_X5_all5 {d : Nat} {e : Int32} (hd : 12 ≤ d) : ∀ j k, k + j = 8 → ∀ P (E : List (Nat × sp_Op)), E.map (·.2) = sp_entOps e k → sl_st ev (c + (2 * E.length + sl_GA E.length)) (s + (9 * E.length + sl_GS E.length)) P (sl_ls ev ml (E.map fun x => .ref x.1) :: sl_all (E.map sl_opA) :: sl_pt ch C :: R) →
    ∃ (P' : sw_P) (E' : List (Nat × sp_Op)), sw_at (sw_Z d) b_X5_all 5 [some (.ref ch), some (.ref ml), some (.int e), some (.int (nI k))] [] P = sw_at (sw_Z d) b_X5_all 7 [some (.ref ch), some (.ref ml), none, none] [] P' ∧ E'.map (·.2) = sp_entOps e 8 ∧ sl_st ev (c + (2 * E'.length + sl_GA E'.length)) (s + (9 * E'.length + sl_GS E'.length)) P' (sl_ls ev ml (E'.map fun x => .ref x.1) :: sl_all (E'.map sl_opA) :: sl_pt ch C :: R) := by
  intro j
  induction j with
  | zero =>
    intro k hk P E hE h
    have : k = 8 := by omega
    subst this
    have e1 : (8 : Int32) ≤ nI 8 := by decide
    refine ⟨P, E, ?_, hE, h⟩
    rw [at_X5_all_5]; simp only [ey_ld, sk_ld_s, ex_push, ey_pf, sk_pf_s, sw_set_set, ex_goto, ey_gf, sk_gf_s, sk_v_s, ex_ic, ey_cv1, sk_c_s, ex_ct, ex_sta, ex_sta_n, ex_sti, ey_cv0, ey_cv2, ex_pop_i, ex_pop_r, ex_pop_n, ey_inc, sk_inc_s, ex_dup_i, ex_dup_r, ex_dup_n, ex_ii, ex_nw, ey_ci0, ey_cs2, ex_iz, ex_na, ey_ci5, ex_rv, sw_gl_0, sw_gl_s, sw_fx_n, sw_fx_i, sw_fx_r, sw_fx_0, sw_fx_l, sw_fx_d, sw_sl1_0, sw_sl1_1, sw_sl1_s, sw_no_0, sw_no_s, sw_no_e, sw_mk_t, sw_mk_f, sw_mk_e, sw_en_0, sw_en_n, sw_en_i, sw_en_r, sw_en_z, sw_en_l, sw_en_d, sw_ok_0, sw_ok_1, sw_ok_2, sw_ok_3, sw_ok_4, sw_bo_s, sw_oi_s, sw_cl_s, sw_cl_x, sw_psh_s, sw_psh_n, sw_kd_s, sw_op_s, sw_oc_s, sw_oc_e, sw_oa_s, sw_el_n, sw_el_r, sl_kds_1, sl_kds_67, sw_fit_i, sw_fit_r, sw_fit_n, sw_fit_l, sw_fit_d, sw_fit_b, sw_fit_0, sw_fit_1, sw_rel_0, sw_rel_1, sw_rel_2, sw_rel_3, sw_rel_4, sw_rel_5, sw_hp_set, sw_nx_set, sw_sl_set, sw_ev_set, sw_hp_new, sw_nx_new, sw_sl_new, sw_ev_new, List.getElem?_cons_zero, List.getElem?_cons_succ, List.set_cons_zero, List.set_cons_succ, List.length_cons, List.length_nil, Nat.reduceAdd, Nat.reduceSub, Nat.reduceLT, Nat.reduceLeDiff, Nat.zero_lt_succ, Nat.zero_add, beq_self_eq_true, Bool.true_and, and_true, true_and, and_self, not_true_eq_false, not_false_eq_true, ↓reduceIte, Nat.reduceBEq, eq_self, sw_b_0, sw_b_1, decide_eq_false_iff_not, decide_eq_true_eq, sl_n10, sl_n01, Decidable.not_not, sl_ct, sl_cats_0, sl_cats_i, sl_cats_r, sl_cats_n, sl_cats_l, sl_ok_5, sl_ok9, decide_true, sp_machC, sp_nodeC, sp_opC, sl_z0, sl_z1, sl_z2, sl_z3, sl_z4, sl_z5, sl_z6, sl_z7, sl_c0, sl_c1, sl_c2, sl_c3, sl_c4, sl_c5, sl_c6, sl_c7, e1]
  | succ j ih =>
    intro k hk P E hE h
    have e1 : ¬ (8 : Int32) ≤ nI k := nI_ge (b := 8) (by omega) (by omega)
    have e2 := jc_X1_has (D := d) (P := P) (x := e) (k := nI k) (by omega)
    cases c1 : sp_has e (nI k)
    · obtain ⟨P', E', r1, r2, r3⟩ := ih (k + 1) (by omega) P E (by
        show _ = if sp_has e (nI k) = true then _ else _
        rw [c1, if_neg (by decide)]; exact hE) h
      refine ⟨P', E', ?_, r2, r3⟩
      rw [c1] at e2
      rw [← r1]
      rw [at_X5_all_5]; simp only [at_X5_all_6, ey_ld, sk_ld_s, ex_push, ey_pf, sk_pf_s, sw_set_set, ex_goto, ey_gf, sk_gf_s, sk_v_s, ex_ic, ey_cv1, sk_c_s, ex_ct, ex_sta, ex_sta_n, ex_sti, ey_cv0, ey_cv2, ex_pop_i, ex_pop_r, ex_pop_n, ey_inc, sk_inc_s, ex_dup_i, ex_dup_r, ex_dup_n, ex_ii, ex_nw, ey_ci0, ey_cs2, ex_iz, ex_na, ey_ci5, ex_rv, sw_gl_0, sw_gl_s, sw_fx_n, sw_fx_i, sw_fx_r, sw_fx_0, sw_fx_l, sw_fx_d, sw_sl1_0, sw_sl1_1, sw_sl1_s, sw_no_0, sw_no_s, sw_no_e, sw_mk_t, sw_mk_f, sw_mk_e, sw_en_0, sw_en_n, sw_en_i, sw_en_r, sw_en_z, sw_en_l, sw_en_d, sw_ok_0, sw_ok_1, sw_ok_2, sw_ok_3, sw_ok_4, sw_bo_s, sw_oi_s, sw_cl_s, sw_cl_x, sw_psh_s, sw_psh_n, sw_kd_s, sw_op_s, sw_oc_s, sw_oc_e, sw_oa_s, sw_el_n, sw_el_r, sl_kds_1, sl_kds_67, sw_fit_i, sw_fit_r, sw_fit_n, sw_fit_l, sw_fit_d, sw_fit_b, sw_fit_0, sw_fit_1, sw_rel_0, sw_rel_1, sw_rel_2, sw_rel_3, sw_rel_4, sw_rel_5, sw_hp_set, sw_nx_set, sw_sl_set, sw_ev_set, sw_hp_new, sw_nx_new, sw_sl_new, sw_ev_new, List.getElem?_cons_zero, List.getElem?_cons_succ, List.set_cons_zero, List.set_cons_succ, List.length_cons, List.length_nil, Nat.reduceAdd, Nat.reduceSub, Nat.reduceLT, Nat.reduceLeDiff, Nat.zero_lt_succ, Nat.zero_add, beq_self_eq_true, Bool.true_and, and_true, true_and, and_self, not_true_eq_false, not_false_eq_true, ↓reduceIte, Nat.reduceBEq, eq_self, sw_b_0, sw_b_1, decide_eq_false_iff_not, decide_eq_true_eq, sl_n10, sl_n01, Decidable.not_not, sl_ct, sl_cats_0, sl_cats_i, sl_cats_r, sl_cats_n, sl_cats_l, sl_ok_5, sl_ok9, decide_true, sp_machC, sp_nodeC, sp_opC, sl_z0, sl_z1, sl_z2, sl_z3, sl_z4, sl_z5, sl_z6, sl_z7, sl_c0, sl_c1, sl_c2, sl_c3, sl_c4, sl_c5, sl_c6, sl_c7, e1, e2, sw_b_f, nI_1]
    · have hEl : E.length ≤ 8 := by
        have hh : ∀ k, (sp_entOps e k).length ≤ k := by
          intro k
          induction k with
          | zero => exact Nat.le_refl _
          | succ k ih =>
            show (if sp_has e (nI k) = true then _ else _ : List sp_Op).length ≤ _
            split
            · rw [List.length_append]; exact Nat.succ_le_succ ih
            · exact Nat.le_succ_of_le ih
        have := hh k
        rw [← hE, List.length_map] at this
        omega
      have hn := h.2.2.2.1
      have h1 := ((h.new (6, [.int 0, .int 0, .null, .int 0, .int 0, .int 0])).new (64, [])).set 1 (sp_opC (0, nI k, [], 0, -1, 0) (sw_nx P + 1)) rfl
      have hkd : sw_kds (sw_hp (sw_set (sw_new (sw_new P (6, [.int 0, .int 0, .null, .int 0, .int 0, .int 0])) (64, [])) (sw_nx P) (sp_opC (0, nI k, [], 0, -1, 0) (sw_nx P + 1))) (sw_nx P)) sw_k67 = true := by
        rw [sw_hp_set, if_pos rfl]; exact sl_k67 _ (by decide)
      obtain ⟨P1, r1, s1⟩ := jc_J2_add (D := d) (b := sw_nx P) (by omega) (h1.pk [2]) (by rw [List.length_map]; omega) (sl_ops_el (h1.at 3 rfl)) hkd
      have q := (s1.pk [2, 1]).ofopA (o := (0, nI k, [], 0, -1, 0))
      have q2 := (sl_st.push (A := sl_opA) (l := E) (q.pk [0, 2])).pk [1, 0]
      have hE1 : (E ++ [(sw_nx P, ((0, nI k, [], 0, -1, 0) : sp_Op))]).map (·.2) = sp_entOps e (k + 1) := by
        show _ = if sp_has e (nI k) = true then _ else _
        rw [c1, if_pos rfl, List.map_append, hE]; rfl
      obtain ⟨P', E', r2, a2, s2⟩ := ih (k + 1) (by omega) P1 (E ++ [(sw_nx P, (0, nI k, [], 0, -1, 0))]) hE1 (by
        rw [List.map_append (f := fun x : Nat × sp_Op => Value.ref x.1)]
        refine q2.wk ?_ ?_
        · rw [List.length_append, List.length_map]
          show _ ≤ c + (2 * (E.length + 1) + (sl_GA E.length + sl_gA E.length))
          omega
        · rw [List.length_append, List.length_map]
          show _ + 6 + 0 + _ ≤ s + (9 * (E.length + 1) + (sl_GS E.length + sl_gS E.length))
          omega)
      refine ⟨P', E', ?_, a2, s2⟩
      rw [← r2]
      have hi := jc_X7_init (D := d) (a := sw_nx P) (P := sw_new (sw_new P (6, [.int 0, .int 0, .null, .int 0, .int 0, .int 0])) (64, [])) (k := 0) (w := nI k) (n := 0) (b := -1) (r := sw_nx P + 1) (by omega) (by
        rw [sw_hp_new, if_neg (by rw [sw_nx_new]; omega), sw_hp_new, if_pos rfl])
      obtain ⟨_, _, _, _, f1, _⟩ := sl_rd_lx (h.at 0 rfl)
      have f2 := sl_ne_nx f1 hn
      have f3 : ¬ ml = sw_nx P + 1 := fun e => by rw [hn ml (by omega)] at f1; cases f1
      rw [c1] at e2
      simp only [sp_opC] at r1
      rw [at_X5_all_5]; simp only [at_X5_all_6, ey_ld, sk_ld_s, ex_push, ey_pf, sk_pf_s, sw_set_set, ex_goto, ey_gf, sk_gf_s, sk_v_s, ex_ic, ey_cv1, sk_c_s, ex_ct, ex_sta, ex_sta_n, ex_sti, ey_cv0, ey_cv2, ex_pop_i, ex_pop_r, ex_pop_n, ey_inc, sk_inc_s, ex_dup_i, ex_dup_r, ex_dup_n, ex_ii, ex_nw, ey_ci0, ey_cs2, ex_iz, ey_ci5, ex_rv, sw_gl_0, sw_gl_s, sw_fx_n, sw_fx_i, sw_fx_r, sw_fx_0, sw_fx_l, sw_fx_d, sw_sl1_0, sw_sl1_1, sw_sl1_s, sw_no_0, sw_no_s, sw_no_e, sw_mk_t, sw_mk_f, sw_mk_e, sw_en_0, sw_en_n, sw_en_i, sw_en_r, sw_en_z, sw_en_l, sw_en_d, sw_ok_0, sw_ok_1, sw_ok_2, sw_ok_3, sw_ok_4, sw_bo_s, sw_oi_s, sw_cl_s, sw_cl_x, sw_psh_s, sw_psh_n, sw_kd_s, sw_op_s, sw_oc_s, sw_oc_e, sw_oa_s, sw_el_n, sw_el_r, sl_kds_1, sl_kds_67, sw_fit_i, sw_fit_r, sw_fit_n, sw_fit_l, sw_fit_d, sw_fit_b, sw_fit_0, sw_fit_1, sw_rel_0, sw_rel_1, sw_rel_2, sw_rel_3, sw_rel_4, sw_rel_5, sw_hp_set, sw_nx_set, sw_sl_set, sw_ev_set, sw_hp_new, sw_nx_new, sw_sl_new, sw_ev_new, List.getElem?_cons_zero, List.getElem?_cons_succ, List.set_cons_zero, List.set_cons_succ, List.length_cons, List.length_nil, Nat.reduceAdd, Nat.reduceSub, Nat.reduceLT, Nat.reduceLeDiff, Nat.zero_lt_succ, Nat.zero_add, beq_self_eq_true, Bool.true_and, and_true, true_and, and_self, not_true_eq_false, not_false_eq_true, ↓reduceIte, Nat.reduceBEq, eq_self, sw_b_0, sw_b_1, decide_eq_false_iff_not, decide_eq_true_eq, sl_n10, sl_n01, Decidable.not_not, sl_ct, sl_cats_0, sl_cats_i, sl_cats_r, sl_cats_n, sl_cats_l, sl_ok_5, sl_ok9, decide_true, sp_machC, sp_nodeC, sp_opC, sl_z0, sl_z1, sl_z2, sl_z3, sl_z4, sl_z5, sl_z6, sl_z7, sl_c0, sl_c1, sl_c2, sl_c3, sl_c4, sl_c5, sl_c6, sl_c7, e1, e2, sw_b_t, ex_na64_0, hi, f1, f2, f3, r1, nI_1]
/-- the operations behind those of the entry -/
theorem jc_X5_all8 {d : Nat} {E : List (Nat × sp_Op)} (hd : 12 ≤ d) (hl : E.length + O.length < 1000) : ∀ j k, k + j = O.length → ∀ P, sl_st ev (c + sl_GA (E.length + k)) (s + sl_GS (E.length + k)) P (sl_ls ev ml ((E ++ O.take k).map fun x => .ref x.1) :: sl_all (E.map sl_opA) :: sl_pt ch (sp_chC pa mach ca ol v b) :: sl_ls ev ol (O.map fun x => .ref x.1) :: sl_all (O.map sl_opA) :: R) →
    ∃ P', sw_at (sw_Z d) b_X5_all 8 [some (.ref ch), some (.ref ml), none, some (.int (nI k))] [] P = some (.inl (some (.ref ml)), P') ∧ sl_st ev (c + sl_GA (E.length + O.length)) (s + sl_GS (E.length + O.length)) P' (sl_ls ev ml ((E ++ O).map fun x => .ref x.1) :: sl_all ((E ++ O).map sl_opA) :: sl_pt ch (sp_chC pa mach ca ol v b) :: R) := by
  intro j
  induction j with
  | zero =>
    intro k hk P h
    have : k = O.length := by omega
    subst this
    have h0 := h.get 2 rfl
    have e1 := jc_J2_sizeR (D := d) (by omega) (h.at 3 rfl)
    obtain ⟨_, _, _, _, e3, _⟩ := sl_rd_lx (h.at 3 rfl)
    have e2 : nI O.length ≤ nI O.length := Int32.le_refl _
    rw [List.length_map] at e1
    rw [List.take_length] at h
    refine ⟨P, ?_, ?_⟩
    · rw [at_X5_all_8]; simp only [at_X5_all_9, ey_ld, sk_ld_s, ex_push, ey_pf, sk_pf_s, sw_set_set, ex_goto, ey_gf, sk_gf_s, sk_v_s, ex_ic, ey_cv1, sk_c_s, ex_ct, ex_sta, ex_sta_n, ex_sti, ey_cv0, ey_cv2, ex_pop_i, ex_pop_r, ex_pop_n, ey_inc, sk_inc_s, ex_dup_i, ex_dup_r, ex_dup_n, ex_ii, ex_nw, ey_ci0, ey_cs2, ex_iz, ex_na, ey_ci5, ex_rv, sw_gl_0, sw_gl_s, sw_fx_n, sw_fx_i, sw_fx_r, sw_fx_0, sw_fx_l, sw_fx_d, sw_sl1_0, sw_sl1_1, sw_sl1_s, sw_no_0, sw_no_s, sw_no_e, sw_mk_t, sw_mk_f, sw_mk_e, sw_en_0, sw_en_n, sw_en_i, sw_en_r, sw_en_z, sw_en_l, sw_en_d, sw_ok_0, sw_ok_1, sw_ok_2, sw_ok_3, sw_ok_4, sw_bo_s, sw_oi_s, sw_cl_s, sw_cl_x, sw_psh_s, sw_psh_n, sw_kd_s, sw_op_s, sw_oc_s, sw_oc_e, sw_oa_s, sw_el_n, sw_el_r, sl_kds_1, sl_kds_67, sw_fit_i, sw_fit_r, sw_fit_n, sw_fit_l, sw_fit_d, sw_fit_b, sw_fit_0, sw_fit_1, sw_rel_0, sw_rel_1, sw_rel_2, sw_rel_3, sw_rel_4, sw_rel_5, sw_hp_set, sw_nx_set, sw_sl_set, sw_ev_set, sw_hp_new, sw_nx_new, sw_sl_new, sw_ev_new, List.getElem?_cons_zero, List.getElem?_cons_succ, List.set_cons_zero, List.set_cons_succ, List.length_cons, List.length_nil, Nat.reduceAdd, Nat.reduceSub, Nat.reduceLT, Nat.reduceLeDiff, Nat.zero_lt_succ, Nat.zero_add, beq_self_eq_true, Bool.true_and, and_true, true_and, and_self, not_true_eq_false, not_false_eq_true, ↓reduceIte, Nat.reduceBEq, eq_self, sw_b_0, sw_b_1, decide_eq_false_iff_not, decide_eq_true_eq, sl_n10, sl_n01, Decidable.not_not, sl_ct, sl_cats_0, sl_cats_i, sl_cats_r, sl_cats_n, sl_cats_l, sl_ok_5, sl_ok9, decide_true, sp_machC, sp_nodeC, sp_opC, sl_z0, sl_z1, sl_z2, sl_z3, sl_z4, sl_z5, sl_z6, sl_z7, sl_c0, sl_c1, sl_c2, sl_c3, sl_c4, sl_c5, sl_c6, sl_c7, e1, e2, e3, h0, sp_chC]
    · have q := (h.pk [1, 4]).merge
      have q2 := ((q.pk [3]).drop).pk [1, 0]
      exact q2
  | succ j ih =>
    intro k hk P h
    have hlt : k < O.length := by omega
    have h0 := h.get 2 rfl
    have hol := h.at 3 rfl
    have e1 := jc_J2_sizeR (D := d) (by omega) hol
    obtain ⟨_, _, _, _, e3, _⟩ := sl_rd_lx hol
    obtain ⟨_, _, _, _, e7, _⟩ := sl_rd_lx (h.at 0 rfl)
    have e2 : ¬ nI O.length ≤ nI k := nI_ge hlt (by omega)
    rw [List.length_map] at e1
    have ex : O[k]? = some O[k] := List.getElem?_eq_getElem hlt
    have e4 := jc_J2_get (D := d) (by omega) hol (sl_refs_at ex) (by rw [List.length_map]; omega)
    obtain ⟨ra, f1, f2⟩ := sl_rd_ops (h.at 4 rfl) ex
    have hlen : ((E ++ O.take k).map fun x => Value.ref x.1).length = E.length + k := by
      rw [List.length_map, List.length_append, List.length_take]; omega
    obtain ⟨P1, r1, s1⟩ := jc_J2_add (D := d) (b := O[k].1) (by omega) h (by rw [hlen]; omega) (by
      rw [List.map_append]
      refine sl_elapp (sl_ops_el (h.at 1 rfl)) fun v hv => ?_
      rw [List.map_take] at hv
      exact sl_ops_el (h.at 4 rfl) v (List.mem_of_mem_take hv)) (by rw [f1]; exact sl_k67 _ (by decide))
    rw [hlen] at s1
    obtain ⟨P', r2, s2⟩ := ih (k + 1) (by omega) P1 (by
      rw [List.take_succ_eq_append_getElem hlt, ← List.append_assoc, List.map_append (l₁ := E ++ O.take k)]
      have g1 : sl_GA (E.length + (k + 1)) = sl_GA (E.length + k) + sl_gA (E.length + k) := rfl
      have g2 : sl_GS (E.length + (k + 1)) = sl_GS (E.length + k) + sl_gS (E.length + k) := rfl
      rw [g1, g2, ← Nat.add_assoc, ← Nat.add_assoc]
      exact s1)
    refine ⟨P', ?_, s2⟩
    rw [← r2]
    rw [at_X5_all_8]; simp only [ey_ld, sk_ld_s, ex_push, ey_pf, sk_pf_s, sw_set_set, ex_goto, ey_gf, sk_gf_s, sk_v_s, ex_ic, ey_cv1, sk_c_s, ex_ct, ex_sta, ex_sta_n, ex_sti, ey_cv0, ey_cv2, ex_pop_i, ex_pop_r, ex_pop_n, ey_inc, sk_inc_s, ex_dup_i, ex_dup_r, ex_dup_n, ex_ii, ex_nw, ey_ci0, ey_cs2, ex_iz, ex_na, ey_ci5, ex_rv, sw_gl_0, sw_gl_s, sw_fx_n, sw_fx_i, sw_fx_r, sw_fx_0, sw_fx_l, sw_fx_d, sw_sl1_0, sw_sl1_1, sw_sl1_s, sw_no_0, sw_no_s, sw_no_e, sw_mk_t, sw_mk_f, sw_mk_e, sw_en_0, sw_en_n, sw_en_i, sw_en_r, sw_en_z, sw_en_l, sw_en_d, sw_ok_0, sw_ok_1, sw_ok_2, sw_ok_3, sw_ok_4, sw_bo_s, sw_oi_s, sw_cl_s, sw_cl_x, sw_psh_s, sw_psh_n, sw_kd_s, sw_op_s, sw_oc_s, sw_oc_e, sw_oa_s, sw_el_n, sw_el_r, sl_kds_1, sl_kds_67, sw_fit_i, sw_fit_r, sw_fit_n, sw_fit_l, sw_fit_d, sw_fit_b, sw_fit_0, sw_fit_1, sw_rel_0, sw_rel_1, sw_rel_2, sw_rel_3, sw_rel_4, sw_rel_5, sw_hp_set, sw_nx_set, sw_sl_set, sw_ev_set, sw_hp_new, sw_nx_new, sw_sl_new, sw_ev_new, List.getElem?_cons_zero, List.getElem?_cons_succ, List.set_cons_zero, List.set_cons_succ, List.length_cons, List.length_nil, Nat.reduceAdd, Nat.reduceSub, Nat.reduceLT, Nat.reduceLeDiff, Nat.zero_lt_succ, Nat.zero_add, beq_self_eq_true, Bool.true_and, and_true, true_and, and_self, not_true_eq_false, not_false_eq_true, ↓reduceIte, Nat.reduceBEq, eq_self, sw_b_0, sw_b_1, decide_eq_false_iff_not, decide_eq_true_eq, sl_n10, sl_n01, Decidable.not_not, sl_ct, sl_cats_0, sl_cats_i, sl_cats_r, sl_cats_n, sl_cats_l, sl_ok_5, sl_ok9, decide_true, sp_machC, sp_nodeC, sp_opC, sl_z0, sl_z1, sl_z2, sl_z3, sl_z4, sl_z5, sl_z6, sl_z7, sl_c0, sl_c1, sl_c2, sl_c3, sl_c4, sl_c5, sl_c6, sl_c7, h0, sp_chC, e1, e2, e3, e4, e7, f1, r1, nI_1, sl_kds_1]
def sp_allOps (ns : List sp_Node) (m : sp_Mach) (L cs : List Int32) (Bs : List (List sp_Stm)) (out : Int32) : List sp_Op := sp_entOps (sp_entry (sp_chosen ns m L cs Bs).1 out) 8 ++ (sp_chosen ns m L cs Bs).1
theorem sp_entOps_len (e : Int32) (k : Nat) : (sp_entOps e k).length ≤ k := by
  induction k with
  | zero => exact Nat.le_refl _
  | succ k ih =>
    show (if sp_has e (nI k) = true then _ else _ : List sp_Op).length ≤ _
    split
    · rw [List.length_append]; exact Nat.succ_le_succ ih
    · exact Nat.le_succ_of_le ih
theorem jc_X5_all {D : Nat} {P : sw_P} (hD : 262 ≤ D) (hg : sp_good (N.map (·.2)) m L cs) (hB : sp_okB N.length (B.map fun y => y.2.map (·.2))) (hl : (sp_chosen (N.map (·.2)) m L cs (B.map fun y => y.2.map (·.2))).1.length < 900) (hr : ∀ o ∈ (sp_chosen (N.map (·.2)) m L cs (B.map fun y => y.2.map (·.2))).1, o.2.2.1.length < 100) (h : sp_EmS ev ch ol (fun v => sp_chC pa mach ca ol v 0) (sl_ctx ev ca cs mach m l L pa N B T out ++ F) c s P 8 []) :
    ∃ (P' : sw_P) (ml : Nat) (M : List (Nat × sp_Op)), sw_Z D m_X5_all [.ref ch] P = some (.inl (some (.ref ml)), P') ∧ M.map (·.2) = sp_allOps (N.map (·.2)) m L cs (B.map fun y => y.2.map (·.2)) out ∧
      sl_st ev (c + 1 + (2 * M.length + 2 * sl_GA M.length)) (s + 3 + (9 * M.length + 2 * sl_GS M.length)) P' (sl_ls ev ml (M.map fun x => .ref x.1) :: sl_all (M.map sl_opA) :: sl_pt ch (sp_chC pa mach ca ol (sp_chosen (N.map (·.2)) m L cs (B.map fun y => y.2.map (·.2))).2 4) :: (sl_ctx ev ca cs mach m l L pa N B T out ++ F)) := by
  obtain ⟨d, hDe, hDn⟩ := sw_dep hD; subst hDe; replace hD := hDn; clear hDn
  have h0 := h.cx.1
  have e0 : sw_set P ch (sp_chC pa mach ca ol 8 0) = P ∨ True := Or.inr trivial
  have s0 := sl_st.set h 0 (sp_chC pa mach ca ol 8 0) rfl
  obtain ⟨P1, O1, r1, a1, s1⟩ := jc_X5_all1 (d := d) (by omega) hg hB hl 4 0 (by omega) _ [] rfl s0
  have hO1 : O1.length < 900 := by rw [sp_len a1]; exact hl
  have hcx1 := s1.cx
  have hn1 := s1.2.2.2.1
  -- the new list
  have g1 := s1.new (24, [.int 0, .ref (ev 10), .int 0])
  have g2 := sl_st.oflx (Q := fun c => c ∈ sl_caps) (vs := []) (by decide) ((g1.ofbk0).pk [1])
  have hev1 := s1.ev
  have hc2 := g2.get 1 rfl
  have hp2 := sl_rd_pt.mp (sl_rds_at (sl_rds_append.mp g2.rd.2.2.2.2).1.2.2.2 0 rfl)
  have e3 := jc_X5_entry (D := d) (v := (sp_chosen (N.map (·.2)) m L cs (B.map fun y => y.2.map (·.2))).2) (b := nI 4) (O := O1) (by omega) hc2 hp2 (g2.at 2 rfl) (g2.at 3 rfl) (by omega) (fun x hx => hr _ (by rw [← a1]; exact List.mem_map.mpr ⟨x, hx, rfl⟩))
  rw [a1] at e3
  have g3 := (sl_st.flat (As := []).mpr g2).pk [1, 0]
  obtain ⟨P2, E, r2, a2, s2⟩ := jc_X5_all5 (d := d) (e := sp_entry (sp_chosen (N.map (·.2)) m L cs (B.map fun y => y.2.map (·.2))).1 out) (E := []) (c := c + (2 * O1.length + sl_GA O1.length) + 1) (s := s + (9 * O1.length + sl_GS O1.length) + 3) (by omega) 8 0 (by omega) _ rfl (g3.wk (by simp [sl_GA]) (by simp [sl_GS]))
  have hE : E.length ≤ 8 := by
    have := sp_entOps_len (sp_entry (sp_chosen (N.map (·.2)) m L cs (B.map fun y => y.2.map (·.2))).1 out) 8
    rw [← a2, List.length_map] at this
    exact this
  obtain ⟨P3, r3, s3⟩ := jc_X5_all8 (d := d) (E := E) (O := O1) (c := c + (2 * O1.length + sl_GA O1.length) + 1 + 2 * E.length) (s := s + (9 * O1.length + sl_GS O1.length) + 3 + 9 * E.length) (by omega) (by omega) O1.length 0 (by omega) P2 (by
    rw [List.take_zero, List.append_nil]
    exact s2.wk (by simp only [Nat.add_zero]; omega) (by simp only [Nat.add_zero]; omega))
  refine ⟨P3, _, E ++ O1, ?_, by rw [List.map_append, a1, a2]; rfl, s3.wk ?_ ?_⟩
  · have hne : ¬ ch = sw_nx P1 := sl_ne_nx hcx1.1 hn1
    have hi := jc_J2_init (D := d) (a := sw_nx P1) (P := sw_new P1 (24, [.int 0, .null, .int 0])) (by omega) (if_pos rfl)
    rw [show sw_ev (sw_new P1 (24, [.int 0, .null, .int 0])) = sw_ev P1 from rfl, hev1, sw_set_new P1 24 24 [.int 0, .null, .int 0] [.int 0, .ref (ev 10), .int 0] rfl] at hi
    rw [show (nI 0 : Int32) = 0 from rfl] at r2 r3
    simp only [sp_chC] at r1 h0 hc2
    rw [M_X5_all _ _ _ rfl]; simp only [at_X5_all_0, ey_ld, sk_ld_s, ex_push, ey_pf, sk_pf_s, sw_set_set, ex_goto, ey_gf, sk_gf_s, sk_v_s, ex_ic, ey_cv1, sk_c_s, ex_ct, ex_sta, ex_sta_n, ex_sti, ey_cv0, ey_cv2, ex_pop_i, ex_pop_r, ex_pop_n, ey_inc, sk_inc_s, ex_dup_i, ex_dup_r, ex_dup_n, ex_ii, ex_nw, ey_ci0, ey_cs2, ex_iz, ex_na, ey_ci5, ex_rv, sw_gl_0, sw_gl_s, sw_fx_n, sw_fx_i, sw_fx_r, sw_fx_0, sw_fx_l, sw_fx_d, sw_sl1_0, sw_sl1_1, sw_sl1_s, sw_no_0, sw_no_s, sw_no_e, sw_mk_t, sw_mk_f, sw_mk_e, sw_en_0, sw_en_n, sw_en_i, sw_en_r, sw_en_z, sw_en_l, sw_en_d, sw_ok_0, sw_ok_1, sw_ok_2, sw_ok_3, sw_ok_4, sw_bo_s, sw_oi_s, sw_cl_s, sw_cl_x, sw_psh_s, sw_psh_n, sw_kd_s, sw_op_s, sw_oc_s, sw_oc_e, sw_oa_s, sw_el_n, sw_el_r, sl_kds_1, sl_kds_67, sw_fit_i, sw_fit_r, sw_fit_n, sw_fit_l, sw_fit_d, sw_fit_b, sw_fit_0, sw_fit_1, sw_rel_0, sw_rel_1, sw_rel_2, sw_rel_3, sw_rel_4, sw_rel_5, sw_hp_set, sw_nx_set, sw_sl_set, sw_ev_set, sw_hp_new, sw_nx_new, sw_sl_new, sw_ev_new, List.getElem?_cons_zero, List.getElem?_cons_succ, List.set_cons_zero, List.set_cons_succ, List.length_cons, List.length_nil, Nat.reduceAdd, Nat.reduceSub, Nat.reduceLT, Nat.reduceLeDiff, Nat.zero_lt_succ, Nat.zero_add, beq_self_eq_true, Bool.true_and, and_true, true_and, and_self, not_true_eq_false, not_false_eq_true, ↓reduceIte, Nat.reduceBEq, eq_self, sw_b_0, sw_b_1, decide_eq_false_iff_not, decide_eq_true_eq, sl_n10, sl_n01, Decidable.not_not, sl_ct, sl_cats_0, sl_cats_i, sl_cats_r, sl_cats_n, sl_cats_l, sl_ok_5, sl_ok9, decide_true, sp_machC, sp_nodeC, sp_opC, sl_z0, sl_z1, sl_z2, sl_z3, sl_z4, sl_z5, sl_z6, sl_z7, sl_c0, sl_c1, sl_c2, sl_c3, sl_c4, sl_c5, sl_c6, sl_c7, h0]
    rw [r1]
    rw [at_X5_all_4]; simp only [ey_ld, sk_ld_s, ex_push, ey_pf, sk_pf_s, sw_set_set, ex_goto, ey_gf, sk_gf_s, sk_v_s, ex_ic, ey_cv1, sk_c_s, ex_ct, ex_sta, ex_sta_n, ex_sti, ey_cv0, ey_cv2, ex_pop_i, ex_pop_r, ex_pop_n, ey_inc, sk_inc_s, ex_dup_i, ex_dup_r, ex_dup_n, ex_ii, ex_nw, ey_ci0, ey_cs2, ex_iz, ex_na, ey_ci5, ex_rv, sw_gl_0, sw_gl_s, sw_fx_n, sw_fx_i, sw_fx_r, sw_fx_0, sw_fx_l, sw_fx_d, sw_sl1_0, sw_sl1_1, sw_sl1_s, sw_no_0, sw_no_s, sw_no_e, sw_mk_t, sw_mk_f, sw_mk_e, sw_en_0, sw_en_n, sw_en_i, sw_en_r, sw_en_z, sw_en_l, sw_en_d, sw_ok_0, sw_ok_1, sw_ok_2, sw_ok_3, sw_ok_4, sw_bo_s, sw_oi_s, sw_cl_s, sw_cl_x, sw_psh_s, sw_psh_n, sw_kd_s, sw_op_s, sw_oc_s, sw_oc_e, sw_oa_s, sw_el_n, sw_el_r, sl_kds_1, sl_kds_67, sw_fit_i, sw_fit_r, sw_fit_n, sw_fit_l, sw_fit_d, sw_fit_b, sw_fit_0, sw_fit_1, sw_rel_0, sw_rel_1, sw_rel_2, sw_rel_3, sw_rel_4, sw_rel_5, sw_hp_set, sw_nx_set, sw_sl_set, sw_ev_set, sw_hp_new, sw_nx_new, sw_sl_new, sw_ev_new, List.getElem?_cons_zero, List.getElem?_cons_succ, List.set_cons_zero, List.set_cons_succ, List.length_cons, List.length_nil, Nat.reduceAdd, Nat.reduceSub, Nat.reduceLT, Nat.reduceLeDiff, Nat.zero_lt_succ, Nat.zero_add, beq_self_eq_true, Bool.true_and, and_true, true_and, and_self, not_true_eq_false, not_false_eq_true, ↓reduceIte, Nat.reduceBEq, eq_self, sw_b_0, sw_b_1, decide_eq_false_iff_not, decide_eq_true_eq, sl_n10, sl_n01, Decidable.not_not, sl_ct, sl_cats_0, sl_cats_i, sl_cats_r, sl_cats_n, sl_cats_l, sl_ok_5, sl_ok9, decide_true, sp_machC, sp_nodeC, sp_opC, sl_z0, sl_z1, sl_z2, sl_z3, sl_z4, sl_z5, sl_z6, sl_z7, sl_c0, sl_c1, sl_c2, sl_c3, sl_c4, sl_c5, sl_c6, sl_c7, hi, e3, hc2]
    rw [r2]
    rw [at_X5_all_7]; simp only [ey_ld, sk_ld_s, ex_push, ey_pf, sk_pf_s, sw_set_set, ex_goto, ey_gf, sk_gf_s, sk_v_s, ex_ic, ey_cv1, sk_c_s, ex_ct, ex_sta, ex_sta_n, ex_sti, ey_cv0, ey_cv2, ex_pop_i, ex_pop_r, ex_pop_n, ey_inc, sk_inc_s, ex_dup_i, ex_dup_r, ex_dup_n, ex_ii, ex_nw, ey_ci0, ey_cs2, ex_iz, ex_na, ey_ci5, ex_rv, sw_gl_0, sw_gl_s, sw_fx_n, sw_fx_i, sw_fx_r, sw_fx_0, sw_fx_l, sw_fx_d, sw_sl1_0, sw_sl1_1, sw_sl1_s, sw_no_0, sw_no_s, sw_no_e, sw_mk_t, sw_mk_f, sw_mk_e, sw_en_0, sw_en_n, sw_en_i, sw_en_r, sw_en_z, sw_en_l, sw_en_d, sw_ok_0, sw_ok_1, sw_ok_2, sw_ok_3, sw_ok_4, sw_bo_s, sw_oi_s, sw_cl_s, sw_cl_x, sw_psh_s, sw_psh_n, sw_kd_s, sw_op_s, sw_oc_s, sw_oc_e, sw_oa_s, sw_el_n, sw_el_r, sl_kds_1, sl_kds_67, sw_fit_i, sw_fit_r, sw_fit_n, sw_fit_l, sw_fit_d, sw_fit_b, sw_fit_0, sw_fit_1, sw_rel_0, sw_rel_1, sw_rel_2, sw_rel_3, sw_rel_4, sw_rel_5, sw_hp_set, sw_nx_set, sw_sl_set, sw_ev_set, sw_hp_new, sw_nx_new, sw_sl_new, sw_ev_new, List.getElem?_cons_zero, List.getElem?_cons_succ, List.set_cons_zero, List.set_cons_succ, List.length_cons, List.length_nil, Nat.reduceAdd, Nat.reduceSub, Nat.reduceLT, Nat.reduceLeDiff, Nat.zero_lt_succ, Nat.zero_add, beq_self_eq_true, Bool.true_and, and_true, true_and, and_self, not_true_eq_false, not_false_eq_true, ↓reduceIte, Nat.reduceBEq, eq_self, sw_b_0, sw_b_1, decide_eq_false_iff_not, decide_eq_true_eq, sl_n10, sl_n01, Decidable.not_not, sl_ct, sl_cats_0, sl_cats_i, sl_cats_r, sl_cats_n, sl_cats_l, sl_ok_5, sl_ok9, decide_true, sp_machC, sp_nodeC, sp_opC, sl_z0, sl_z1, sl_z2, sl_z3, sl_z4, sl_z5, sl_z6, sl_z7, sl_c0, sl_c1, sl_c2, sl_c3, sl_c4, sl_c5, sl_c6, sl_c7]
    exact r3
  · rw [List.length_append]
    have := sl_GA_mono (Nat.le_add_left O1.length E.length)
    omega
  · rw [List.length_append]
    have := sl_GS_mono (Nat.le_add_left O1.length E.length)
    omega
end
