/-! ===== the component's order: all ===== -/
section
variable {ev : Nat → Nat} {od fr md na wt mach l a ra : Nat} {m : sp_Mach} {L ws : List Int32} {M : List (Nat × sp_Op)} {NR : List (Nat × List Bool)} {F R : List sl_A} {c s d D : Nat} {P : sw_P} {nd : Nat → Nat → Bool}
theorem sp_nxt_lt (os : List sp_Op) (ws : List Int32) (b : Int32) (k i : Nat) (h : sp_nxt os ws b k = some i) : i < k := by
  induction k with
  | zero => cases h
  | succ k ih =>
    have h : sp_nxF os ws b k (sp_nxt os ws b k) = some i := h
    unfold sp_nxF at h
    split at h
    · cases h; omega
    · have := ih h; omega
def sp_mdR (M : List (Nat × sp_Op)) (mi : List Nat) : List Value := mi.map fun i => .ref (M.getD i (0, sp_oz)).1
/-- while things are placed -/
def sp_plS (ev : Nat → Nat) (od fr mach md na wt : Nat) (NR : List (Nat × List Bool)) (M : List (Nat × sp_Op)) (F : List sl_A) (c s : Nat) (P : sw_P) (x : List Nat × List Int32) : Prop := x.2.length = M.length ∧ (∀ i ∈ x.1, i < M.length) ∧ sl_st ev (c + sl_GA x.1.length) (s + sl_GS x.1.length) P (sl_ls ev md (sp_mdR M x.1) :: (sl_ord ev od fr mach md na wt x.2 NR M ++ F))
theorem jc_X6_placeS {k : Nat} {x : List Nat × List Int32} (hD : 10 ≤ D) (hk : k < M.length) (h8 : NR.map (·.2) = (List.range M.length).map (sp_row nd)) (h9 : M.length < 1000) (hml : x.1.length < 1000) (h : sp_plS ev od fr mach md na wt NR M F c s P x) :
    ∃ P', sw_Z D m_X6_place [.ref od, .int (nI k)] P = some (.inl none, P') ∧ sp_plS ev od fr mach md na wt NR M F c s P' (sp_place nd M.length x k) := by
  obtain ⟨h1, h2, h3⟩ := h
  obtain ⟨P', r1, r2⟩ := jc_X6_place (nd := nd) hD hk h1 h8 h9 h2 hml h3
  refine ⟨P', r1, ?_, ?_, r2.wk ?_ ?_⟩
  · exact (sp_pl_len M.length k x.2).trans h1
  · intro i hi
    rcases List.mem_append.mp hi with q | q
    · exact h2 i q
    · rw [List.mem_singleton.mp q]; exact hk
  · show _ ≤ c + sl_GA (x.1 ++ [k]).length
    rw [List.length_append]
    show _ ≤ c + (sl_GA x.1.length + sl_gA x.1.length)
    omega
  · show _ ≤ s + sl_GS (x.1 ++ [k]).length
    rw [List.length_append]
    show _ ≤ s + (sl_GS x.1.length + sl_gS x.1.length)
    omega
theorem sp_plS.ord {x : List Nat × List Int32} (h : sp_plS ev od fr mach md na wt NR M F c s P x) (h8 : NR.map (·.2) = (List.range M.length).map (sp_row nd)) (h9 : M.length < 1000) : sp_ord (sw_hp P) ev od fr mach md na wt nd x.2 NR M := sl_ord_rd h.2.2.rd.2 h.1 h8 h9
theorem jc_X6_all2 (hd : 12 ≤ d) (h8 : NR.map (·.2) = (List.range M.length).map (sp_row nd)) (h9 : M.length < 150) : ∀ f k x P, k + f = M.length → x.1.length ≤ k → sp_plS ev od fr mach md na wt NR M F c s P x →
    ∃ P', sw_at (sw_Z d) b_X6_all 2 [some (.ref od), none, some (.int (nI k)), none] [] P = sw_at (sw_Z d) b_X6_all 3 [some (.ref od), none, none, none] [] P' ∧ sp_plS ev od fr mach md na wt NR M F c s P' (sp_pre nd (M.map (·.2)) f k x) ∧ (sp_pre nd (M.map (·.2)) f k x).1.length ≤ M.length := by
  intro f
  induction f with
  | zero =>
    intro k x P hk hx h
    have ho := h.ord h8 (by omega)
    have e1 : Int32.ofNat x.2.length ≤ nI k := by rw [h.1]; exact nI_le (by omega) (by omega)
    refine ⟨P, ?_, h, by show x.1.length ≤ _; omega⟩
    rw [at_X6_all_2]; simp only [ey_ld, sk_ld_s, ex_iz, ey_gf, sk_gf_s, sk_v_s, ex_rv, ex_push, ex_sti, ex_goto, ey_al, sk_al_s, ex_ic, ey_cv1, sk_c_s, ex_ct, ey_inc, sk_inc_s, sw_gl_0, sw_gl_s, sw_fx_n, sw_fx_i, sw_fx_r, sw_fx_0, sw_fx_l, sw_fx_d, sw_sl1_0, sw_sl1_1, sw_sl1_s, sw_no_0, sw_no_s, sw_no_e, sw_mk_t, sw_mk_f, sw_mk_e, sw_en_0, sw_en_n, sw_en_i, sw_en_r, sw_en_z, sw_en_l, sw_en_d, sw_ok_0, sw_ok_1, sw_ok_2, sw_ok_3, sw_ok_4, sw_bo_s, sw_oi_s, sw_cl_s, sw_cl_x, sw_psh_s, sw_psh_n, sw_kd_s, sw_op_s, sw_oc_s, sw_oc_e, sw_oa_s, sw_el_n, sw_el_r, sl_kds_1, sl_kds_67, sw_fit_i, sw_fit_r, sw_fit_n, sw_fit_l, sw_fit_d, sw_fit_b, sw_fit_0, sw_fit_1, sw_rel_0, sw_rel_1, sw_rel_2, sw_rel_3, sw_rel_4, sw_rel_5, sw_hp_set, sw_nx_set, sw_sl_set, sw_ev_set, sw_hp_new, sw_nx_new, sw_sl_new, sw_ev_new, List.getElem?_cons_zero, List.getElem?_cons_succ, List.set_cons_zero, List.set_cons_succ, List.length_cons, List.length_nil, Nat.reduceAdd, Nat.reduceSub, Nat.reduceLT, Nat.reduceLeDiff, Nat.zero_lt_succ, Nat.zero_add, beq_self_eq_true, Bool.true_and, and_true, true_and, and_self, not_true_eq_false, not_false_eq_true, ↓reduceIte, Nat.reduceBEq, eq_self, sw_b_0, sw_b_1, decide_eq_false_iff_not, decide_eq_true_eq, sl_n10, sl_n01, Decidable.not_not, sl_ct, sl_cats_0, sl_cats_i, sl_cats_r, sl_cats_n, sl_cats_l, sl_ok_5, sl_ok9, decide_true, sp_machC, sp_nodeC, sp_opC, sl_z0, sl_z1, sl_z2, sl_z3, sl_z4, sl_z5, sl_z6, sl_z7, sl_c0, sl_c1, sl_c2, sl_c3, sl_c4, sl_c5, sl_c6, sl_c7, List.length_map, ho.1, sp_odC, ho.2.1, e1]
  | succ f ih =>
    intro k x P hk hx h
    have ho := h.ord h8 (by omega)
    have e1 : ¬ Int32.ofNat x.2.length ≤ nI k := by rw [h.1]; exact nI_ge (by omega) (by omega)
    obtain ⟨rk, f1, f2, f3, f4⟩ := sp_opsR (d := d) (by omega) ho.2.2.2.2.1 ho.2.2.2.2.2.1 (by omega) (k := k) (by omega)
    unfold sp_pre
    by_cases c1 : ((M.map (·.2)).getD k sp_oz).2.2.2.2.1 = -1
    · rw [if_pos ⟨by rw [List.length_map]; omega, c1⟩]
      obtain ⟨P1, r1, s1⟩ := jc_X6_placeS (D := d) (nd := nd) (k := k) (by omega) (by omega) h8 (by omega) (by omega) h
      rw [List.length_map]
      obtain ⟨P2, r2, s2⟩ := ih (k + 1) _ P1 (by omega) (by show (x.1 ++ [k]).length ≤ _; rw [List.length_append]; exact Nat.succ_le_succ hx) s1
      refine ⟨P2, ?_, s2⟩
      rw [← r2]
      rw [at_X6_all_2]; simp only [ey_ld, sk_ld_s, ex_iz, ey_gf, sk_gf_s, sk_v_s, ex_rv, ex_push, ex_sti, ex_goto, ey_al, sk_al_s, ex_ic, ey_cv1, sk_c_s, ex_ct, ey_inc, sk_inc_s, sw_gl_0, sw_gl_s, sw_fx_n, sw_fx_i, sw_fx_r, sw_fx_0, sw_fx_l, sw_fx_d, sw_sl1_0, sw_sl1_1, sw_sl1_s, sw_no_0, sw_no_s, sw_no_e, sw_mk_t, sw_mk_f, sw_mk_e, sw_en_0, sw_en_n, sw_en_i, sw_en_r, sw_en_z, sw_en_l, sw_en_d, sw_ok_0, sw_ok_1, sw_ok_2, sw_ok_3, sw_ok_4, sw_bo_s, sw_oi_s, sw_cl_s, sw_cl_x, sw_psh_s, sw_psh_n, sw_kd_s, sw_op_s, sw_oc_s, sw_oc_e, sw_oa_s, sw_el_n, sw_el_r, sl_kds_1, sl_kds_67, sw_fit_i, sw_fit_r, sw_fit_n, sw_fit_l, sw_fit_d, sw_fit_b, sw_fit_0, sw_fit_1, sw_rel_0, sw_rel_1, sw_rel_2, sw_rel_3, sw_rel_4, sw_rel_5, sw_hp_set, sw_nx_set, sw_sl_set, sw_ev_set, sw_hp_new, sw_nx_new, sw_sl_new, sw_ev_new, List.getElem?_cons_zero, List.getElem?_cons_succ, List.set_cons_zero, List.set_cons_succ, List.length_cons, List.length_nil, Nat.reduceAdd, Nat.reduceSub, Nat.reduceLT, Nat.reduceLeDiff, Nat.zero_lt_succ, Nat.zero_add, beq_self_eq_true, Bool.true_and, and_true, true_and, and_self, not_true_eq_false, not_false_eq_true, ↓reduceIte, Nat.reduceBEq, eq_self, sw_b_0, sw_b_1, decide_eq_false_iff_not, decide_eq_true_eq, sl_n10, sl_n01, Decidable.not_not, sl_ct, sl_cats_0, sl_cats_i, sl_cats_r, sl_cats_n, sl_cats_l, sl_ok_5, sl_ok9, decide_true, sp_machC, sp_nodeC, sp_opC, sl_z0, sl_z1, sl_z2, sl_z3, sl_z4, sl_z5, sl_z6, sl_z7, sl_c0, sl_c1, sl_c2, sl_c3, sl_c4, sl_c5, sl_c6, sl_c7, List.length_map, ho.1, sp_odC, ho.2.1, e1, f1, f2, f4, eq_true c1, sl_kds_1, r1, nI_1]
    · rw [if_neg (fun q => c1 q.2)]
      refine ⟨P, ?_, h, by omega⟩
      rw [at_X6_all_2]; simp only [ey_ld, sk_ld_s, ex_iz, ey_gf, sk_gf_s, sk_v_s, ex_rv, ex_push, ex_sti, ex_goto, ey_al, sk_al_s, ex_ic, ey_cv1, sk_c_s, ex_ct, ey_inc, sk_inc_s, sw_gl_0, sw_gl_s, sw_fx_n, sw_fx_i, sw_fx_r, sw_fx_0, sw_fx_l, sw_fx_d, sw_sl1_0, sw_sl1_1, sw_sl1_s, sw_no_0, sw_no_s, sw_no_e, sw_mk_t, sw_mk_f, sw_mk_e, sw_en_0, sw_en_n, sw_en_i, sw_en_r, sw_en_z, sw_en_l, sw_en_d, sw_ok_0, sw_ok_1, sw_ok_2, sw_ok_3, sw_ok_4, sw_bo_s, sw_oi_s, sw_cl_s, sw_cl_x, sw_psh_s, sw_psh_n, sw_kd_s, sw_op_s, sw_oc_s, sw_oc_e, sw_oa_s, sw_el_n, sw_el_r, sl_kds_1, sl_kds_67, sw_fit_i, sw_fit_r, sw_fit_n, sw_fit_l, sw_fit_d, sw_fit_b, sw_fit_0, sw_fit_1, sw_rel_0, sw_rel_1, sw_rel_2, sw_rel_3, sw_rel_4, sw_rel_5, sw_hp_set, sw_nx_set, sw_sl_set, sw_ev_set, sw_hp_new, sw_nx_new, sw_sl_new, sw_ev_new, List.getElem?_cons_zero, List.getElem?_cons_succ, List.set_cons_zero, List.set_cons_succ, List.length_cons, List.length_nil, Nat.reduceAdd, Nat.reduceSub, Nat.reduceLT, Nat.reduceLeDiff, Nat.zero_lt_succ, Nat.zero_add, beq_self_eq_true, Bool.true_and, and_true, true_and, and_self, not_true_eq_false, not_false_eq_true, ↓reduceIte, Nat.reduceBEq, eq_self, sw_b_0, sw_b_1, decide_eq_false_iff_not, decide_eq_true_eq, sl_n10, sl_n01, Decidable.not_not, sl_ct, sl_cats_0, sl_cats_i, sl_cats_r, sl_cats_n, sl_cats_l, sl_ok_5, sl_ok9, decide_true, sp_machC, sp_nodeC, sp_opC, sl_z0, sl_z1, sl_z2, sl_z3, sl_z4, sl_z5, sl_z6, sl_z7, sl_c0, sl_c1, sl_c2, sl_c3, sl_c4, sl_c5, sl_c6, sl_c7, List.length_map, ho.1, sp_odC, ho.2.1, e1, f1, f2, f4, eq_false c1, sl_kds_1]
theorem jc_X6_all5 {b : Int32} (hd : 12 ≤ d) (h8 : NR.map (·.2) = (List.range M.length).map (sp_row nd)) (h9 : M.length < 150) : ∀ f x x' P, sp_lp nd (M.map (·.2)) b f x = some x' → x.1.length + f < 1000 → sp_plS ev od fr mach md na wt NR M F c s P x →
    ∃ P', sw_at (sw_Z d) b_X6_all 5 [some (.ref od), none, some (.int b), some (.int (sp_oi (sp_nxt (M.map (·.2)) x.2 b M.length)))] [] P = sw_at (sw_Z d) b_X6_all 6 [some (.ref od), none, some (.int b), none] [] P' ∧ sp_plS ev od fr mach md na wt NR M F c s P' x' ∧ x'.1.length ≤ x.1.length + f := by
  intro f
  induction f with
  | zero => intro x x' P h; cases h
  | succ f ih =>
    intro x x' P hx hl h
    unfold sp_lp at hx
    rw [List.length_map] at hx
    cases hn : sp_nxt (M.map (·.2)) x.2 b M.length with
    | none =>
      rw [hn] at hx
      cases hx
      refine ⟨P, ?_, h, by omega⟩
      rw [at_X6_all_5]; simp only [ey_ld, sk_ld_s, ex_iz, ey_gf, sk_gf_s, sk_v_s, ex_rv, ex_push, ex_sti, ex_goto, ey_al, sk_al_s, ex_ic, ey_cv1, sk_c_s, ex_ct, ey_inc, sk_inc_s, sw_gl_0, sw_gl_s, sw_fx_n, sw_fx_i, sw_fx_r, sw_fx_0, sw_fx_l, sw_fx_d, sw_sl1_0, sw_sl1_1, sw_sl1_s, sw_no_0, sw_no_s, sw_no_e, sw_mk_t, sw_mk_f, sw_mk_e, sw_en_0, sw_en_n, sw_en_i, sw_en_r, sw_en_z, sw_en_l, sw_en_d, sw_ok_0, sw_ok_1, sw_ok_2, sw_ok_3, sw_ok_4, sw_bo_s, sw_oi_s, sw_cl_s, sw_cl_x, sw_psh_s, sw_psh_n, sw_kd_s, sw_op_s, sw_oc_s, sw_oc_e, sw_oa_s, sw_el_n, sw_el_r, sl_kds_1, sl_kds_67, sw_fit_i, sw_fit_r, sw_fit_n, sw_fit_l, sw_fit_d, sw_fit_b, sw_fit_0, sw_fit_1, sw_rel_0, sw_rel_1, sw_rel_2, sw_rel_3, sw_rel_4, sw_rel_5, sw_hp_set, sw_nx_set, sw_sl_set, sw_ev_set, sw_hp_new, sw_nx_new, sw_sl_new, sw_ev_new, List.getElem?_cons_zero, List.getElem?_cons_succ, List.set_cons_zero, List.set_cons_succ, List.length_cons, List.length_nil, Nat.reduceAdd, Nat.reduceSub, Nat.reduceLT, Nat.reduceLeDiff, Nat.zero_lt_succ, Nat.zero_add, beq_self_eq_true, Bool.true_and, and_true, true_and, and_self, not_true_eq_false, not_false_eq_true, ↓reduceIte, Nat.reduceBEq, eq_self, sw_b_0, sw_b_1, decide_eq_false_iff_not, decide_eq_true_eq, sl_n10, sl_n01, Decidable.not_not, sl_ct, sl_cats_0, sl_cats_i, sl_cats_r, sl_cats_n, sl_cats_l, sl_ok_5, sl_ok9, decide_true, sp_machC, sp_nodeC, sp_opC, sl_z0, sl_z1, sl_z2, sl_z3, sl_z4, sl_z5, sl_z6, sl_z7, sl_c0, sl_c1, sl_c2, sl_c3, sl_c4, sl_c5, sl_c6, sl_c7, List.length_map, sp_oi]
    | some k =>
      rw [hn] at hx
      have hk := sp_nxt_lt _ _ _ _ _ hn
      have ho := h.ord h8 (by omega)
      obtain ⟨P1, r1, s1⟩ := jc_X6_placeS (D := d) (nd := nd) (k := k) (by omega) hk h8 (by omega) (by omega) h
      have ho1 := s1.ord h8 (by omega)
      have e1 := jc_X6_next (D := d) (b := b) (by omega) ho1
      obtain ⟨P2, r2, s2, l2⟩ := ih _ x' P1 hx (by show (x.1 ++ [k]).length + f < 1000; rw [List.length_append]; simp; omega) s1
      refine ⟨P2, ?_, s2, by
        have l3 : x'.1.length ≤ (x.1 ++ [k]).length + f := l2
        rw [List.length_append] at l3
        simp at l3; omega⟩
      rw [← r2]
      have e5 : ¬ nI k = -1 := by
        intro e
        have h3 : ¬ nI k < 0 := nI_pos (by omega)
        rw [e] at h3
        exact h3 (by decide)
      rw [at_X6_all_5]; simp only [ey_ld, sk_ld_s, ex_iz, ey_gf, sk_gf_s, sk_v_s, ex_rv, ex_push, ex_sti, ex_goto, ey_al, sk_al_s, ex_ic, ey_cv1, sk_c_s, ex_ct, ey_inc, sk_inc_s, sw_gl_0, sw_gl_s, sw_fx_n, sw_fx_i, sw_fx_r, sw_fx_0, sw_fx_l, sw_fx_d, sw_sl1_0, sw_sl1_1, sw_sl1_s, sw_no_0, sw_no_s, sw_no_e, sw_mk_t, sw_mk_f, sw_mk_e, sw_en_0, sw_en_n, sw_en_i, sw_en_r, sw_en_z, sw_en_l, sw_en_d, sw_ok_0, sw_ok_1, sw_ok_2, sw_ok_3, sw_ok_4, sw_bo_s, sw_oi_s, sw_cl_s, sw_cl_x, sw_psh_s, sw_psh_n, sw_kd_s, sw_op_s, sw_oc_s, sw_oc_e, sw_oa_s, sw_el_n, sw_el_r, sl_kds_1, sl_kds_67, sw_fit_i, sw_fit_r, sw_fit_n, sw_fit_l, sw_fit_d, sw_fit_b, sw_fit_0, sw_fit_1, sw_rel_0, sw_rel_1, sw_rel_2, sw_rel_3, sw_rel_4, sw_rel_5, sw_hp_set, sw_nx_set, sw_sl_set, sw_ev_set, sw_hp_new, sw_nx_new, sw_sl_new, sw_ev_new, List.getElem?_cons_zero, List.getElem?_cons_succ, List.set_cons_zero, List.set_cons_succ, List.length_cons, List.length_nil, Nat.reduceAdd, Nat.reduceSub, Nat.reduceLT, Nat.reduceLeDiff, Nat.zero_lt_succ, Nat.zero_add, beq_self_eq_true, Bool.true_and, and_true, true_and, and_self, not_true_eq_false, not_false_eq_true, ↓reduceIte, Nat.reduceBEq, eq_self, sw_b_0, sw_b_1, decide_eq_false_iff_not, decide_eq_true_eq, sl_n10, sl_n01, Decidable.not_not, sl_ct, sl_cats_0, sl_cats_i, sl_cats_r, sl_cats_n, sl_cats_l, sl_ok_5, sl_ok9, decide_true, sp_machC, sp_nodeC, sp_opC, sl_z0, sl_z1, sl_z2, sl_z3, sl_z4, sl_z5, sl_z6, sl_z7, sl_c0, sl_c1, sl_c2, sl_c3, sl_c4, sl_c5, sl_c6, sl_c7, List.length_map, sp_oi, e5, ho.1, ho1.1, sp_odC, r1, e1]
theorem jc_X6_all4 {f : Nat} (hd : 12 ≤ d) (h8 : NR.map (·.2) = (List.range M.length).map (sp_row nd)) (h9 : M.length < 150) (hf : f ≤ 160) : ∀ j k x x' P, k + j = 4 → sw_it (fun b st => st.bind (sp_lp nd (M.map (·.2)) (nI b) f)) (some x) k = some x' → x'.1.length ≤ M.length + k * f → ∀ y, sp_lps nd (M.map (·.2)) f 4 x = some y → sp_plS ev od fr mach md na wt NR M F c s P x' →
    ∃ P', sw_at (sw_Z d) b_X6_all 4 [some (.ref od), none, some (.int (nI k)), none] [] P = some (.inl (some (.ref md)), P') ∧ sp_plS ev od fr mach md na wt NR M F c s P' y := by
  intro j
  induction j with
  | zero =>
    intro k x x' P hk hx hl y hy h
    have : k = 4 := by omega
    subst this
    have e1 : (4 : Int32) ≤ nI 4 := by decide
    have ho := h.ord h8 (by omega)
    have hxy : x' = y := by
      unfold sp_lps at hy
      rw [hx] at hy
      exact Option.some.inj hy
    subst hxy
    refine ⟨P, ?_, h⟩
    rw [at_X6_all_4]; simp only [at_X6_all_7, ey_ld, sk_ld_s, ex_iz, ey_gf, sk_gf_s, sk_v_s, ex_rv, ex_push, ex_sti, ex_goto, ey_al, sk_al_s, ex_ic, ey_cv1, sk_c_s, ex_ct, ey_inc, sk_inc_s, sw_gl_0, sw_gl_s, sw_fx_n, sw_fx_i, sw_fx_r, sw_fx_0, sw_fx_l, sw_fx_d, sw_sl1_0, sw_sl1_1, sw_sl1_s, sw_no_0, sw_no_s, sw_no_e, sw_mk_t, sw_mk_f, sw_mk_e, sw_en_0, sw_en_n, sw_en_i, sw_en_r, sw_en_z, sw_en_l, sw_en_d, sw_ok_0, sw_ok_1, sw_ok_2, sw_ok_3, sw_ok_4, sw_bo_s, sw_oi_s, sw_cl_s, sw_cl_x, sw_psh_s, sw_psh_n, sw_kd_s, sw_op_s, sw_oc_s, sw_oc_e, sw_oa_s, sw_el_n, sw_el_r, sl_kds_1, sl_kds_67, sw_fit_i, sw_fit_r, sw_fit_n, sw_fit_l, sw_fit_d, sw_fit_b, sw_fit_0, sw_fit_1, sw_rel_0, sw_rel_1, sw_rel_2, sw_rel_3, sw_rel_4, sw_rel_5, sw_hp_set, sw_nx_set, sw_sl_set, sw_ev_set, sw_hp_new, sw_nx_new, sw_sl_new, sw_ev_new, List.getElem?_cons_zero, List.getElem?_cons_succ, List.set_cons_zero, List.set_cons_succ, List.length_cons, List.length_nil, Nat.reduceAdd, Nat.reduceSub, Nat.reduceLT, Nat.reduceLeDiff, Nat.zero_lt_succ, Nat.zero_add, beq_self_eq_true, Bool.true_and, and_true, true_and, and_self, not_true_eq_false, not_false_eq_true, ↓reduceIte, Nat.reduceBEq, eq_self, sw_b_0, sw_b_1, decide_eq_false_iff_not, decide_eq_true_eq, sl_n10, sl_n01, Decidable.not_not, sl_ct, sl_cats_0, sl_cats_i, sl_cats_r, sl_cats_n, sl_cats_l, sl_ok_5, sl_ok9, decide_true, sp_machC, sp_nodeC, sp_opC, sl_z0, sl_z1, sl_z2, sl_z3, sl_z4, sl_z5, sl_z6, sl_z7, sl_c0, sl_c1, sl_c2, sl_c3, sl_c4, sl_c5, sl_c6, sl_c7, List.length_map, e1, ho.1, sp_odC]
  | succ j ih =>
    intro k x x' P hk hx hl y hy h
    have e1 : ¬ (4 : Int32) ≤ nI k := nI_ge (b := 4) (by omega) (by omega)
    have ho := h.ord h8 (by omega)
    have e2 := jc_X6_next (D := d) (b := nI k) (by omega) ho
    have hk4 : k * f ≤ 3 * 160 := Nat.mul_le_mul (by omega) hf
    have hst : sw_it (fun b st => st.bind (sp_lp nd (M.map (·.2)) (nI b) f)) (some x) (k + 1) = sp_lp nd (M.map (·.2)) (nI k) f x' := by
      show Option.bind _ _ = _
      rw [hx]; rfl
    cases hlp : sp_lp nd (M.map (·.2)) (nI k) f x' with
    | none =>
      exfalso
      have hnone : ∀ q, sw_it (fun b st => st.bind (sp_lp nd (M.map (·.2)) (nI b) f)) (some x) (k + 1 + q) = none := by
        intro q
        induction q with
        | zero => exact hst.trans hlp
        | succ q ihq =>
          show Option.bind (sw_it (fun b st => st.bind (sp_lp nd (M.map (·.2)) (nI b) f)) (some x) (k + 1 + q)) _ = none
          rw [ihq]; rfl
      have := hnone (3 - k)
      rw [show k + 1 + (3 - k) = 4 by omega] at this
      unfold sp_lps at hy
      rw [this] at hy
      cases hy
    | some x2 =>
      obtain ⟨P1, r1, s1, l1⟩ := jc_X6_all5 (b := nI k) hd h8 h9 f x' x2 P hlp (by omega) h
      obtain ⟨P2, r2, s2⟩ := ih (k + 1) x x2 P1 (by omega) (hst.trans hlp) (by rw [Nat.add_mul]; omega) y hy s1
      refine ⟨P2, ?_, s2⟩
      rw [← r2]
      rw [at_X6_all_4]; simp only [ey_ld, sk_ld_s, ex_iz, ey_gf, sk_gf_s, sk_v_s, ex_rv, ex_push, ex_sti, ex_goto, ey_al, sk_al_s, ex_ic, ey_cv1, sk_c_s, ex_ct, ey_inc, sk_inc_s, sw_gl_0, sw_gl_s, sw_fx_n, sw_fx_i, sw_fx_r, sw_fx_0, sw_fx_l, sw_fx_d, sw_sl1_0, sw_sl1_1, sw_sl1_s, sw_no_0, sw_no_s, sw_no_e, sw_mk_t, sw_mk_f, sw_mk_e, sw_en_0, sw_en_n, sw_en_i, sw_en_r, sw_en_z, sw_en_l, sw_en_d, sw_ok_0, sw_ok_1, sw_ok_2, sw_ok_3, sw_ok_4, sw_bo_s, sw_oi_s, sw_cl_s, sw_cl_x, sw_psh_s, sw_psh_n, sw_kd_s, sw_op_s, sw_oc_s, sw_oc_e, sw_oa_s, sw_el_n, sw_el_r, sl_kds_1, sl_kds_67, sw_fit_i, sw_fit_r, sw_fit_n, sw_fit_l, sw_fit_d, sw_fit_b, sw_fit_0, sw_fit_1, sw_rel_0, sw_rel_1, sw_rel_2, sw_rel_3, sw_rel_4, sw_rel_5, sw_hp_set, sw_nx_set, sw_sl_set, sw_ev_set, sw_hp_new, sw_nx_new, sw_sl_new, sw_ev_new, List.getElem?_cons_zero, List.getElem?_cons_succ, List.set_cons_zero, List.set_cons_succ, List.length_cons, List.length_nil, Nat.reduceAdd, Nat.reduceSub, Nat.reduceLT, Nat.reduceLeDiff, Nat.zero_lt_succ, Nat.zero_add, beq_self_eq_true, Bool.true_and, and_true, true_and, and_self, not_true_eq_false, not_false_eq_true, ↓reduceIte, Nat.reduceBEq, eq_self, sw_b_0, sw_b_1, decide_eq_false_iff_not, decide_eq_true_eq, sl_n10, sl_n01, Decidable.not_not, sl_ct, sl_cats_0, sl_cats_i, sl_cats_r, sl_cats_n, sl_cats_l, sl_ok_5, sl_ok9, decide_true, sp_machC, sp_nodeC, sp_opC, sl_z0, sl_z1, sl_z2, sl_z3, sl_z4, sl_z5, sl_z6, sl_z7, sl_c0, sl_c1, sl_c2, sl_c3, sl_c4, sl_c5, sl_c6, sl_c7, List.length_map, e1, ho.1, sp_odC, e2]
      rw [r1]
      rw [at_X6_all_6]; simp only [ey_ld, sk_ld_s, ex_iz, ey_gf, sk_gf_s, sk_v_s, ex_rv, ex_push, ex_sti, ex_goto, ey_al, sk_al_s, ex_ic, ey_cv1, sk_c_s, ex_ct, ey_inc, sk_inc_s, sw_gl_0, sw_gl_s, sw_fx_n, sw_fx_i, sw_fx_r, sw_fx_0, sw_fx_l, sw_fx_d, sw_sl1_0, sw_sl1_1, sw_sl1_s, sw_no_0, sw_no_s, sw_no_e, sw_mk_t, sw_mk_f, sw_mk_e, sw_en_0, sw_en_n, sw_en_i, sw_en_r, sw_en_z, sw_en_l, sw_en_d, sw_ok_0, sw_ok_1, sw_ok_2, sw_ok_3, sw_ok_4, sw_bo_s, sw_oi_s, sw_cl_s, sw_cl_x, sw_psh_s, sw_psh_n, sw_kd_s, sw_op_s, sw_oc_s, sw_oc_e, sw_oa_s, sw_el_n, sw_el_r, sl_kds_1, sl_kds_67, sw_fit_i, sw_fit_r, sw_fit_n, sw_fit_l, sw_fit_d, sw_fit_b, sw_fit_0, sw_fit_1, sw_rel_0, sw_rel_1, sw_rel_2, sw_rel_3, sw_rel_4, sw_rel_5, sw_hp_set, sw_nx_set, sw_sl_set, sw_ev_set, sw_hp_new, sw_nx_new, sw_sl_new, sw_ev_new, List.getElem?_cons_zero, List.getElem?_cons_succ, List.set_cons_zero, List.set_cons_succ, List.length_cons, List.length_nil, Nat.reduceAdd, Nat.reduceSub, Nat.reduceLT, Nat.reduceLeDiff, Nat.zero_lt_succ, Nat.zero_add, beq_self_eq_true, Bool.true_and, and_true, true_and, and_self, not_true_eq_false, not_false_eq_true, ↓reduceIte, Nat.reduceBEq, eq_self, sw_b_0, sw_b_1, decide_eq_false_iff_not, decide_eq_true_eq, sl_n10, sl_n01, Decidable.not_not, sl_ct, sl_cats_0, sl_cats_i, sl_cats_r, sl_cats_n, sl_cats_l, sl_ok_5, sl_ok9, decide_true, sp_machC, sp_nodeC, sp_opC, sl_z0, sl_z1, sl_z2, sl_z3, sl_z4, sl_z5, sl_z6, sl_z7, sl_c0, sl_c1, sl_c2, sl_c3, sl_c4, sl_c5, sl_c6, sl_c7, List.length_map, nI_1]
theorem jc_X6_all {x y : List Nat × List Int32} (hD : 13 ≤ D) (h8 : NR.map (·.2) = (List.range M.length).map (sp_row nd)) (h9 : M.length < 150) (hx : x = sp_pre nd (M.map (·.2)) M.length 0 ([], ws)) (hy : sp_lps nd (M.map (·.2)) (M.length + 1) 4 x = some y) (h : sp_plS ev od fr mach md na wt NR M F c s P ([], ws)) :
    ∃ P', sw_Z D m_X6_all [.ref od, .int 0] P = some (.inl (some (.ref md)), P') ∧ sp_plS ev od fr mach md na wt NR M F c s P' y := by
  obtain ⟨d, hDe, hDn⟩ := sw_dep hD; subst hDe; replace hD := hDn; clear hDn
  obtain ⟨P1, r1, s1, l1⟩ := jc_X6_all2 (nd := nd) hD h8 h9 M.length 0 ([], ws) P (by omega) (Nat.le_refl _) h
  rw [← hx] at s1 l1
  obtain ⟨P2, r2, s2⟩ := jc_X6_all4 (nd := nd) hD h8 h9 (f := M.length + 1) (by omega) 4 0 x x P1 (by omega) rfl (by omega) y hy s1
  refine ⟨P2, ?_, s2⟩
  rw [show (nI 0 : Int32) = 0 from rfl] at r1 r2
  rw [M_X6_all _ _ _ rfl]; simp only [at_X6_all_0, at_X6_all_1, ey_ld, sk_ld_s, ex_iz, ey_gf, sk_gf_s, sk_v_s, ex_rv, ex_push, ex_sti, ex_goto, ey_al, sk_al_s, ex_ic, ey_cv1, sk_c_s, ex_ct, ey_inc, sk_inc_s, sw_gl_0, sw_gl_s, sw_fx_n, sw_fx_i, sw_fx_r, sw_fx_0, sw_fx_l, sw_fx_d, sw_sl1_0, sw_sl1_1, sw_sl1_s, sw_no_0, sw_no_s, sw_no_e, sw_mk_t, sw_mk_f, sw_mk_e, sw_en_0, sw_en_n, sw_en_i, sw_en_r, sw_en_z, sw_en_l, sw_en_d, sw_ok_0, sw_ok_1, sw_ok_2, sw_ok_3, sw_ok_4, sw_bo_s, sw_oi_s, sw_cl_s, sw_cl_x, sw_psh_s, sw_psh_n, sw_kd_s, sw_op_s, sw_oc_s, sw_oc_e, sw_oa_s, sw_el_n, sw_el_r, sl_kds_1, sl_kds_67, sw_fit_i, sw_fit_r, sw_fit_n, sw_fit_l, sw_fit_d, sw_fit_b, sw_fit_0, sw_fit_1, sw_rel_0, sw_rel_1, sw_rel_2, sw_rel_3, sw_rel_4, sw_rel_5, sw_hp_set, sw_nx_set, sw_sl_set, sw_ev_set, sw_hp_new, sw_nx_new, sw_sl_new, sw_ev_new, List.getElem?_cons_zero, List.getElem?_cons_succ, List.set_cons_zero, List.set_cons_succ, List.length_cons, List.length_nil, Nat.reduceAdd, Nat.reduceSub, Nat.reduceLT, Nat.reduceLeDiff, Nat.zero_lt_succ, Nat.zero_add, beq_self_eq_true, Bool.true_and, and_true, true_and, and_self, not_true_eq_false, not_false_eq_true, ↓reduceIte, Nat.reduceBEq, eq_self, sw_b_0, sw_b_1, decide_eq_false_iff_not, decide_eq_true_eq, sl_n10, sl_n01, Decidable.not_not, sl_ct, sl_cats_0, sl_cats_i, sl_cats_r, sl_cats_n, sl_cats_l, sl_ok_5, sl_ok9, decide_true, sp_machC, sp_nodeC, sp_opC, sl_z0, sl_z1, sl_z2, sl_z3, sl_z4, sl_z5, sl_z6, sl_z7, sl_c0, sl_c1, sl_c2, sl_c3, sl_c4, sl_c5, sl_c6, sl_c7, List.length_map]
  rw [r1]
  rw [at_X6_all_3]; simp only [ey_ld, sk_ld_s, ex_iz, ey_gf, sk_gf_s, sk_v_s, ex_rv, ex_push, ex_sti, ex_goto, ey_al, sk_al_s, ex_ic, ey_cv1, sk_c_s, ex_ct, ey_inc, sk_inc_s, sw_gl_0, sw_gl_s, sw_fx_n, sw_fx_i, sw_fx_r, sw_fx_0, sw_fx_l, sw_fx_d, sw_sl1_0, sw_sl1_1, sw_sl1_s, sw_no_0, sw_no_s, sw_no_e, sw_mk_t, sw_mk_f, sw_mk_e, sw_en_0, sw_en_n, sw_en_i, sw_en_r, sw_en_z, sw_en_l, sw_en_d, sw_ok_0, sw_ok_1, sw_ok_2, sw_ok_3, sw_ok_4, sw_bo_s, sw_oi_s, sw_cl_s, sw_cl_x, sw_psh_s, sw_psh_n, sw_kd_s, sw_op_s, sw_oc_s, sw_oc_e, sw_oa_s, sw_el_n, sw_el_r, sl_kds_1, sl_kds_67, sw_fit_i, sw_fit_r, sw_fit_n, sw_fit_l, sw_fit_d, sw_fit_b, sw_fit_0, sw_fit_1, sw_rel_0, sw_rel_1, sw_rel_2, sw_rel_3, sw_rel_4, sw_rel_5, sw_hp_set, sw_nx_set, sw_sl_set, sw_ev_set, sw_hp_new, sw_nx_new, sw_sl_new, sw_ev_new, List.getElem?_cons_zero, List.getElem?_cons_succ, List.set_cons_zero, List.set_cons_succ, List.length_cons, List.length_nil, Nat.reduceAdd, Nat.reduceSub, Nat.reduceLT, Nat.reduceLeDiff, Nat.zero_lt_succ, Nat.zero_add, beq_self_eq_true, Bool.true_and, and_true, true_and, and_self, not_true_eq_false, not_false_eq_true, ↓reduceIte, Nat.reduceBEq, eq_self, sw_b_0, sw_b_1, decide_eq_false_iff_not, decide_eq_true_eq, sl_n10, sl_n01, Decidable.not_not, sl_ct, sl_cats_0, sl_cats_i, sl_cats_r, sl_cats_n, sl_cats_l, sl_ok_5, sl_ok9, decide_true, sp_machC, sp_nodeC, sp_opC, sl_z0, sl_z1, sl_z2, sl_z3, sl_z4, sl_z5, sl_z6, sl_z7, sl_c0, sl_c1, sl_c2, sl_c3, sl_c4, sl_c5, sl_c6, sl_c7, List.length_map]
  exact r2
theorem jc_X6_allT {x : List Nat × List Int32} (hD : 1 ≤ D) (h : sw_hp P od = some (sp_odC fr mach md na wt)) : sw_Z D m_X6_all [.ref od, .int 1] P = some (.inl (some (.ref fr)), P) := by
  obtain ⟨d, hDe, hDn⟩ := sw_dep hD; subst hDe; replace hD := hDn; clear hDn
  rw [M_X6_all _ _ _ rfl]; simp only [at_X6_all_0, ey_ld, sk_ld_s, ex_iz, ey_gf, sk_gf_s, sk_v_s, ex_rv, ex_push, ex_sti, ex_goto, ey_al, sk_al_s, ex_ic, ey_cv1, sk_c_s, ex_ct, ey_inc, sk_inc_s, sw_gl_0, sw_gl_s, sw_fx_n, sw_fx_i, sw_fx_r, sw_fx_0, sw_fx_l, sw_fx_d, sw_sl1_0, sw_sl1_1, sw_sl1_s, sw_no_0, sw_no_s, sw_no_e, sw_mk_t, sw_mk_f, sw_mk_e, sw_en_0, sw_en_n, sw_en_i, sw_en_r, sw_en_z, sw_en_l, sw_en_d, sw_ok_0, sw_ok_1, sw_ok_2, sw_ok_3, sw_ok_4, sw_bo_s, sw_oi_s, sw_cl_s, sw_cl_x, sw_psh_s, sw_psh_n, sw_kd_s, sw_op_s, sw_oc_s, sw_oc_e, sw_oa_s, sw_el_n, sw_el_r, sl_kds_1, sl_kds_67, sw_fit_i, sw_fit_r, sw_fit_n, sw_fit_l, sw_fit_d, sw_fit_b, sw_fit_0, sw_fit_1, sw_rel_0, sw_rel_1, sw_rel_2, sw_rel_3, sw_rel_4, sw_rel_5, sw_hp_set, sw_nx_set, sw_sl_set, sw_ev_set, sw_hp_new, sw_nx_new, sw_sl_new, sw_ev_new, List.getElem?_cons_zero, List.getElem?_cons_succ, List.set_cons_zero, List.set_cons_succ, List.length_cons, List.length_nil, Nat.reduceAdd, Nat.reduceSub, Nat.reduceLT, Nat.reduceLeDiff, Nat.zero_lt_succ, Nat.zero_add, beq_self_eq_true, Bool.true_and, and_true, true_and, and_self, not_true_eq_false, not_false_eq_true, ↓reduceIte, Nat.reduceBEq, eq_self, sw_b_0, sw_b_1, decide_eq_false_iff_not, decide_eq_true_eq, sl_n10, sl_n01, Decidable.not_not, sl_ct, sl_cats_0, sl_cats_i, sl_cats_r, sl_cats_n, sl_cats_l, sl_ok_5, sl_ok9, decide_true, sp_machC, sp_nodeC, sp_opC, sl_z0, sl_z1, sl_z2, sl_z3, sl_z4, sl_z5, sl_z6, sl_z7, sl_c0, sl_c1, sl_c2, sl_c3, sl_c4, sl_c5, sl_c6, sl_c7, List.length_map, h, sp_odC, show ¬ (1 : Int32) = 0 by decide]
end
