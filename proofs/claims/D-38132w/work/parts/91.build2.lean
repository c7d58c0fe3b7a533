/-! ===== the component's plan of one program: the runs ===== -/
def sp_runN (m : sp_Mach) (L : List Int32) (os : List sp_Op) (b : Int32) (q : sp_Rn × List sp_In) : Nat → sp_Rn × List sp_In := sw_it (fun _ q => sp_run m L os b q q.2.length) q
def sp_runT (m : sp_Mach) (L : List Int32) (os : List sp_Op) (T : List Int32) (q : sp_Rn × List sp_In) : Nat → sp_Rn × List sp_In := sw_it (fun k q => sp_runN m L os (nI k) q (T.getD k 0).toNatClampNeg) q
def sp_qok (n ns : Nat) (q : sp_Rn × List sp_In) : Prop := sp_rok ns q.1 ∧ sp_cok n ns q.2 ∧ q.2.length < 1000
theorem sp_run_qok {m : sp_Mach} {L : List Int32} {os : List sp_Op} {b : Int32} {n ns : Nat} {q : sp_Rn × List sp_In} (h : sp_qok n ns q) (k : Nat) : sp_qok n ns (sp_run m L os b q k) := by
  obtain ⟨h1, h2, h3⟩ := h
  obtain ⟨g1, g2, g3⟩ := sp_run_ok (m := m) (L := L) (os := os) (b := b) h1 h2 k
  exact ⟨g1, g2, by omega⟩
theorem sp_runN_qok {m : sp_Mach} {L : List Int32} {os : List sp_Op} {b : Int32} {n ns : Nat} {q : sp_Rn × List sp_In} (h : sp_qok n ns q) (k : Nat) : sp_qok n ns (sp_runN m L os b q k) := by
  induction k with
  | zero => exact h
  | succ k ih => exact sp_run_qok ih _
theorem sp_runT_qok {m : sp_Mach} {L T : List Int32} {os : List sp_Op} {n ns : Nat} {q : sp_Rn × List sp_In} (h : sp_qok n ns q) (k : Nat) : sp_qok n ns (sp_runT m L os T q k) := by
  induction k with
  | zero => exact h
  | succ k ih => exact sp_runN_qok ih _
section
variable {ev : Nat → Nat} {bd ol lv cl rn ca mach l ra rb rs D d c s ns : Nat} {pa : sp_PA} {N : List (Nat × sp_Node)} {B : List sp_Blk} {M : List (Nat × sp_Op)} {m : sp_Mach} {L T : List Int32} {out nv b : Int32} {P : sw_P} {G : List sl_A} {q : sp_Rn × List sp_In}
def sp_bdS (ev : Nat → Nat) (bd ol lv cl rn ca : Nat) (nv : Int32) (mach ra rb rs l : Nat) (m : sp_Mach) (L : List Int32) (M : List (Nat × sp_Op)) (pa : sp_PA) (N : List (Nat × sp_Node)) (B : List sp_Blk) (T : List Int32) (out : Int32) (G : List sl_A) (c s : Nat) (P : sw_P) (q : sp_Rn × List sp_In) : Prop := ∃ K : List (Nat × sp_In), K.map (·.2) = q.2 ∧ sl_st ev c s P (sl_rnA ev rn mach ra rb rs q.1 cl K ol M ++ (sl_pt mach (sp_machC m l) :: sl_pt l (64, L.map .int) :: (sl_pt bd (sp_bdC ol lv cl rn ca nv) :: (sl_prog ev pa N B T out ++ G))))
theorem jc_X12_runS (hD : 8 ≤ D) (hn : M.length < 200) (hq : sp_qok M.length ns q) (hns : ns < 1000) (hL : L.length = 8) (hm : 5 ≤ m.1.toNatClampNeg ∧ m.1.toNatClampNeg ≤ 11 ∧ m.1 = nI m.1.toNatClampNeg) (h : sp_bdS ev bd ol lv cl rn ca nv mach ra rb rs l m L M pa N B T out G c s P q) :
    ∃ P', sw_Z D m_X12_run [.ref rn, .ref cl, .ref ol, .int b] P = some (.inl none, P') ∧ sp_bdS ev bd ol lv cl rn ca nv mach ra rb rs l m L M pa N B T out G c s P' (sp_run m L (M.map (·.2)) b q q.2.length) := by
  obtain ⟨K, hK, h⟩ := h
  obtain ⟨h1, h2, h3⟩ := hq
  obtain ⟨z, Ks⟩ := q
  have hK' : K.map (·.2) = Ks := hK
  subst hK'
  have hl : (K.map (·.2)).length = K.length := List.length_map ..
  obtain ⟨P', K', r1, r2, r3, r4⟩ := jc_X12_run (b := b) hD hn (by rw [← hl]; exact h3) h1 hns h2 hL hm h
  refine ⟨P', r1, K', ?_, ?_⟩
  · rw [r2, hl]
  · rw [hl]; exact r4
theorem sp_bdS.gets (h : sp_bdS ev bd ol lv cl rn ca nv mach ra rb rs l m L M pa N B T out G c s P q) : sw_hp P bd = some (sp_bdC ol lv cl rn ca nv) ∧ sw_hp P pa.1 = some (1, [.ref pa.2.1, .ref pa.2.2.1, .ref pa.2.2.2, .int out]) ∧ sw_hp P pa.2.2.2 = some (64, T.map .int) := by
  obtain ⟨K, -, h⟩ := h
  exact ⟨h.get 10 rfl, h.get 11 rfl, h.get 16 rfl⟩
theorem sp_bdS.kds (h : sp_bdS ev bd ol lv cl rn ca nv mach ra rb rs l m L M pa N B T out G c s P q) : sw_kd (sw_hp P rn) 11 = true ∧ sw_kd (sw_hp P cl) 24 = true ∧ sw_kd (sw_hp P ol) 24 = true := by
  obtain ⟨K, -, h⟩ := h
  obtain ⟨_, _, _, _, e1, _⟩ := sl_rd_lx (h.at 4 rfl)
  obtain ⟨_, _, _, _, e2, _⟩ := sl_rd_lx (h.at 6 rfl)
  refine ⟨?_, ?_, ?_⟩
  · rw [h.get 0 rfl]; rfl
  · rw [e1]; rfl
  · rw [e2]; rfl
theorem jc_X4_init2 {k n : Nat} (hd : 8 ≤ d) (hk : k < 4) (hT : T.length = 4) (hTn : T.getD k 0 = nI n) (hnn : n < 100000) (hn : M.length < 200) (hns : ns < 1000) (hL : L.length = 8) (hm : 5 ≤ m.1.toNatClampNeg ∧ m.1.toNatClampNeg ≤ 11 ∧ m.1 = nI m.1.toNatClampNeg) : ∀ j i, i + j = n → ∀ P, sp_qok M.length ns (sp_runN m L (M.map (·.2)) (nI k) q i) → sp_bdS ev bd ol lv cl rn ca nv mach ra rb rs l m L M pa N B T out G c s P (sp_runN m L (M.map (·.2)) (nI k) q i) →
    ∃ P', sw_at (sw_Z d) b_X4_init 2 [some (.ref bd), some (.ref pa.1), none, none, none, some (.int (nI k)), some (.int (nI i))] [] P = sw_at (sw_Z d) b_X4_init 3 [some (.ref bd), some (.ref pa.1), none, none, none, some (.int (nI k)), none] [] P' ∧ sp_bdS ev bd ol lv cl rn ca nv mach ra rb rs l m L M pa N B T out G c s P' (sp_runN m L (M.map (·.2)) (nI k) q n) := by
  have t0 : ¬ nI k < 0 := nI_pos (by omega)
  have t1 : (nI k).toNatClampNeg = k := nI_clamp (by omega)
  have t2 : (T.map Value.int)[k]? = some (.int (nI n)) := by rw [← hTn]; exact sl_mapget T k (by omega)
  intro j
  induction j with
  | zero =>
    intro i hi P hq h
    have : i = n := by omega
    subst this
    obtain ⟨g1, g2, g3⟩ := h.gets
    have e2 : nI i ≤ nI i := Int32.le_refl _
    refine ⟨P, ?_, h⟩
    rw [at_X4_init_2]; simp only [ey_ld, sk_ld_s, ex_oin, ex_nw, ex_dup_i, ex_dup_r, ex_dup_n, ey_ci2, sk_c_s, ex_sta, ex_sta_n, ey_gf, sk_gf_s, sk_v_s, ey_pf, sk_pf_s, sw_set_set, ey_cv0, ey_cv1, ey_ci4, ex_push, ey_cv3, ex_sti, ex_goto, ex_ic, ey_ald, sk_ald_s, ey_inc, sk_inc_s, ex_ret, sw_gl_0, sw_gl_s, sw_fx_n, sw_fx_i, sw_fx_r, sw_fx_0, sw_fx_l, sw_fx_d, sw_sl1_0, sw_sl1_1, sw_sl1_s, sw_no_0, sw_no_s, sw_no_e, sw_mk_t, sw_mk_f, sw_mk_e, sw_en_0, sw_en_n, sw_en_i, sw_en_r, sw_en_z, sw_en_l, sw_en_d, sw_ok_0, sw_ok_1, sw_ok_2, sw_ok_3, sw_ok_4, sw_bo_s, sw_oi_s, sw_cl_s, sw_cl_x, sw_psh_s, sw_psh_n, sw_kd_s, sw_op_s, sw_oc_s, sw_oc_e, sw_oa_s, sw_el_n, sw_el_r, sl_kds_1, sl_kds_67, sw_fit_i, sw_fit_r, sw_fit_n, sw_fit_l, sw_fit_d, sw_fit_b, sw_fit_0, sw_fit_1, sw_rel_0, sw_rel_1, sw_rel_2, sw_rel_3, sw_rel_4, sw_rel_5, sw_hp_set, sw_nx_set, sw_sl_set, sw_ev_set, sw_hp_new, sw_nx_new, sw_sl_new, sw_ev_new, List.getElem?_cons_zero, List.getElem?_cons_succ, List.set_cons_zero, List.set_cons_succ, List.length_cons, List.length_nil, Nat.reduceAdd, Nat.reduceSub, Nat.reduceLT, Nat.reduceLeDiff, Nat.zero_lt_succ, Nat.zero_add, beq_self_eq_true, Bool.true_and, and_true, true_and, and_self, not_true_eq_false, not_false_eq_true, ↓reduceIte, Nat.reduceBEq, eq_self, sw_b_0, sw_b_1, decide_eq_false_iff_not, decide_eq_true_eq, sl_n10, sl_n01, Decidable.not_not, sl_ct, sl_cats_0, sl_cats_i, sl_cats_r, sl_cats_n, sl_cats_l, sl_ok_5, sl_ok9, decide_true, sp_machC, sp_nodeC, sp_opC, sl_z0, sl_z1, sl_z2, sl_z3, sl_z4, sl_z5, sl_z6, sl_z7, sl_c0, sl_c1, sl_c2, sl_c3, sl_c4, sl_c5, sl_c6, sl_c7, List.length_map, sp_lifeC, sp_inC, sp_rnC, g1, g2, g3, t0, t1, t2, e2, sl_kds_1]
  | succ j ih =>
    intro i hi P hq h
    obtain ⟨g1, g2, g3⟩ := h.gets
    obtain ⟨k1, k2, k3⟩ := h.kds
    have e2 : ¬ nI n ≤ nI i := nI_ge (by omega) (by omega)
    obtain ⟨P1, r1, s1⟩ := jc_X12_runS (b := nI k) hd hn hq hns hL hm h
    obtain ⟨P', r2, s2⟩ := ih (i + 1) (by omega) P1 (sp_runN_qok (k := 1) hq) s1
    refine ⟨P', ?_, s2⟩
    rw [← r2]
    rw [at_X4_init_2]; simp only [ey_ld, sk_ld_s, ex_oin, ex_nw, ex_dup_i, ex_dup_r, ex_dup_n, ey_ci2, sk_c_s, ex_sta, ex_sta_n, ey_gf, sk_gf_s, sk_v_s, ey_pf, sk_pf_s, sw_set_set, ey_cv0, ey_cv1, ey_ci4, ex_push, ey_cv3, ex_sti, ex_goto, ex_ic, ey_ald, sk_ald_s, ey_inc, sk_inc_s, ex_ret, sw_gl_0, sw_gl_s, sw_fx_n, sw_fx_i, sw_fx_r, sw_fx_0, sw_fx_l, sw_fx_d, sw_sl1_0, sw_sl1_1, sw_sl1_s, sw_no_0, sw_no_s, sw_no_e, sw_mk_t, sw_mk_f, sw_mk_e, sw_en_0, sw_en_n, sw_en_i, sw_en_r, sw_en_z, sw_en_l, sw_en_d, sw_ok_0, sw_ok_1, sw_ok_2, sw_ok_3, sw_ok_4, sw_bo_s, sw_oi_s, sw_cl_s, sw_cl_x, sw_psh_s, sw_psh_n, sw_kd_s, sw_op_s, sw_oc_s, sw_oc_e, sw_oa_s, sw_el_n, sw_el_r, sl_kds_1, sl_kds_67, sw_fit_i, sw_fit_r, sw_fit_n, sw_fit_l, sw_fit_d, sw_fit_b, sw_fit_0, sw_fit_1, sw_rel_0, sw_rel_1, sw_rel_2, sw_rel_3, sw_rel_4, sw_rel_5, sw_hp_set, sw_nx_set, sw_sl_set, sw_ev_set, sw_hp_new, sw_nx_new, sw_sl_new, sw_ev_new, List.getElem?_cons_zero, List.getElem?_cons_succ, List.set_cons_zero, List.set_cons_succ, List.length_cons, List.length_nil, Nat.reduceAdd, Nat.reduceSub, Nat.reduceLT, Nat.reduceLeDiff, Nat.zero_lt_succ, Nat.zero_add, beq_self_eq_true, Bool.true_and, and_true, true_and, and_self, not_true_eq_false, not_false_eq_true, ↓reduceIte, Nat.reduceBEq, eq_self, sw_b_0, sw_b_1, decide_eq_false_iff_not, decide_eq_true_eq, sl_n10, sl_n01, Decidable.not_not, sl_ct, sl_cats_0, sl_cats_i, sl_cats_r, sl_cats_n, sl_cats_l, sl_ok_5, sl_ok9, decide_true, sp_machC, sp_nodeC, sp_opC, sl_z0, sl_z1, sl_z2, sl_z3, sl_z4, sl_z5, sl_z6, sl_z7, sl_c0, sl_c1, sl_c2, sl_c3, sl_c4, sl_c5, sl_c6, sl_c7, List.length_map, sp_lifeC, sp_inC, sp_rnC, g1, sp_bdC, g2, g3, t0, t1, t2, e2, k1, k2, k3, r1, sl_kds_1, nI_1]
theorem jc_X4_init1 {q : sp_Rn × List sp_In} (hd : 8 ≤ d) (hT : T.length = 4) (hTn : ∀ k, k < 4 → ∃ n, n < 100000 ∧ T.getD k 0 = nI n) (hn : M.length < 200) (hns : ns < 1000) (hL : L.length = 8) (hm : 5 ≤ m.1.toNatClampNeg ∧ m.1.toNatClampNeg ≤ 11 ∧ m.1 = nI m.1.toNatClampNeg) (hq : sp_qok M.length ns q) : ∀ j k, k + j = 4 → ∀ P, sp_bdS ev bd ol lv cl rn ca nv mach ra rb rs l m L M pa N B T out G c s P (sp_runT m L (M.map (·.2)) T q k) →
    ∃ P', sw_at (sw_Z d) b_X4_init 1 [some (.ref bd), some (.ref pa.1), none, none, none, some (.int (nI k)), none] [] P = some (.inl none, P') ∧ sp_bdS ev bd ol lv cl rn ca nv mach ra rb rs l m L M pa N B T out G c s P' (sp_runT m L (M.map (·.2)) T q 4) := by
  intro j
  induction j with
  | zero =>
    intro k hk P h
    have : k = 4 := by omega
    subst this
    have e2 : (4 : Int32) ≤ nI 4 := by decide
    refine ⟨P, ?_, h⟩
    rw [at_X4_init_1]; simp only [at_X4_init_4, ey_ld, sk_ld_s, ex_oin, ex_nw, ex_dup_i, ex_dup_r, ex_dup_n, ey_ci2, sk_c_s, ex_sta, ex_sta_n, ey_gf, sk_gf_s, sk_v_s, ey_pf, sk_pf_s, sw_set_set, ey_cv0, ey_cv1, ey_ci4, ex_push, ey_cv3, ex_sti, ex_goto, ex_ic, ey_ald, sk_ald_s, ey_inc, sk_inc_s, ex_ret, sw_gl_0, sw_gl_s, sw_fx_n, sw_fx_i, sw_fx_r, sw_fx_0, sw_fx_l, sw_fx_d, sw_sl1_0, sw_sl1_1, sw_sl1_s, sw_no_0, sw_no_s, sw_no_e, sw_mk_t, sw_mk_f, sw_mk_e, sw_en_0, sw_en_n, sw_en_i, sw_en_r, sw_en_z, sw_en_l, sw_en_d, sw_ok_0, sw_ok_1, sw_ok_2, sw_ok_3, sw_ok_4, sw_bo_s, sw_oi_s, sw_cl_s, sw_cl_x, sw_psh_s, sw_psh_n, sw_kd_s, sw_op_s, sw_oc_s, sw_oc_e, sw_oa_s, sw_el_n, sw_el_r, sl_kds_1, sl_kds_67, sw_fit_i, sw_fit_r, sw_fit_n, sw_fit_l, sw_fit_d, sw_fit_b, sw_fit_0, sw_fit_1, sw_rel_0, sw_rel_1, sw_rel_2, sw_rel_3, sw_rel_4, sw_rel_5, sw_hp_set, sw_nx_set, sw_sl_set, sw_ev_set, sw_hp_new, sw_nx_new, sw_sl_new, sw_ev_new, List.getElem?_cons_zero, List.getElem?_cons_succ, List.set_cons_zero, List.set_cons_succ, List.length_cons, List.length_nil, Nat.reduceAdd, Nat.reduceSub, Nat.reduceLT, Nat.reduceLeDiff, Nat.zero_lt_succ, Nat.zero_add, beq_self_eq_true, Bool.true_and, and_true, true_and, and_self, not_true_eq_false, not_false_eq_true, ↓reduceIte, Nat.reduceBEq, eq_self, sw_b_0, sw_b_1, decide_eq_false_iff_not, decide_eq_true_eq, sl_n10, sl_n01, Decidable.not_not, sl_ct, sl_cats_0, sl_cats_i, sl_cats_r, sl_cats_n, sl_cats_l, sl_ok_5, sl_ok9, decide_true, sp_machC, sp_nodeC, sp_opC, sl_z0, sl_z1, sl_z2, sl_z3, sl_z4, sl_z5, sl_z6, sl_z7, sl_c0, sl_c1, sl_c2, sl_c3, sl_c4, sl_c5, sl_c6, sl_c7, List.length_map, sp_lifeC, sp_inC, sp_rnC, e2]
  | succ j ih =>
    intro k hk P h
    obtain ⟨n, n1, n2⟩ := hTn k (by omega)
    have e0 : ¬ nI 4 ≤ nI k := nI_ge (by omega) (by omega)
    have e2 : ¬ (4 : Int32) ≤ nI k := e0
    obtain ⟨P1, r1, s1⟩ := jc_X4_init2 (k := k) (n := n) (q := sp_runT m L (M.map (·.2)) T q k) hd (by omega) hT n2 n1 hn hns hL hm n 0 (by omega) P (sp_runT_qok hq k) h
    have n3 : (T.getD k 0).toNatClampNeg = n := by rw [n2]; exact nI_clamp (by omega)
    have hst : sp_runT m L (M.map (·.2)) T q (k + 1) = sp_runN m L (M.map (·.2)) (nI k) (sp_runT m L (M.map (·.2)) T q k) n := by rw [← n3]; rfl
    obtain ⟨P', r2, s2⟩ := ih (k + 1) (by omega) P1 (by rw [hst]; exact s1)
    refine ⟨P', ?_, s2⟩
    rw [← r2]
    rw [at_X4_init_1]; simp only [ey_ld, sk_ld_s, ex_oin, ex_nw, ex_dup_i, ex_dup_r, ex_dup_n, ey_ci2, sk_c_s, ex_sta, ex_sta_n, ey_gf, sk_gf_s, sk_v_s, ey_pf, sk_pf_s, sw_set_set, ey_cv0, ey_cv1, ey_ci4, ex_push, ey_cv3, ex_sti, ex_goto, ex_ic, ey_ald, sk_ald_s, ey_inc, sk_inc_s, ex_ret, sw_gl_0, sw_gl_s, sw_fx_n, sw_fx_i, sw_fx_r, sw_fx_0, sw_fx_l, sw_fx_d, sw_sl1_0, sw_sl1_1, sw_sl1_s, sw_no_0, sw_no_s, sw_no_e, sw_mk_t, sw_mk_f, sw_mk_e, sw_en_0, sw_en_n, sw_en_i, sw_en_r, sw_en_z, sw_en_l, sw_en_d, sw_ok_0, sw_ok_1, sw_ok_2, sw_ok_3, sw_ok_4, sw_bo_s, sw_oi_s, sw_cl_s, sw_cl_x, sw_psh_s, sw_psh_n, sw_kd_s, sw_op_s, sw_oc_s, sw_oc_e, sw_oa_s, sw_el_n, sw_el_r, sl_kds_1, sl_kds_67, sw_fit_i, sw_fit_r, sw_fit_n, sw_fit_l, sw_fit_d, sw_fit_b, sw_fit_0, sw_fit_1, sw_rel_0, sw_rel_1, sw_rel_2, sw_rel_3, sw_rel_4, sw_rel_5, sw_hp_set, sw_nx_set, sw_sl_set, sw_ev_set, sw_hp_new, sw_nx_new, sw_sl_new, sw_ev_new, List.getElem?_cons_zero, List.getElem?_cons_succ, List.set_cons_zero, List.set_cons_succ, List.length_cons, List.length_nil, Nat.reduceAdd, Nat.reduceSub, Nat.reduceLT, Nat.reduceLeDiff, Nat.zero_lt_succ, Nat.zero_add, beq_self_eq_true, Bool.true_and, and_true, true_and, and_self, not_true_eq_false, not_false_eq_true, ↓reduceIte, Nat.reduceBEq, eq_self, sw_b_0, sw_b_1, decide_eq_false_iff_not, decide_eq_true_eq, sl_n10, sl_n01, Decidable.not_not, sl_ct, sl_cats_0, sl_cats_i, sl_cats_r, sl_cats_n, sl_cats_l, sl_ok_5, sl_ok9, decide_true, sp_machC, sp_nodeC, sp_opC, sl_z0, sl_z1, sl_z2, sl_z3, sl_z4, sl_z5, sl_z6, sl_z7, sl_c0, sl_c1, sl_c2, sl_c3, sl_c4, sl_c5, sl_c6, sl_c7, List.length_map, sp_lifeC, sp_inC, sp_rnC, e2]
    refine r1.trans ?_
    rw [at_X4_init_3]; simp only [ey_ld, sk_ld_s, ex_oin, ex_nw, ex_dup_i, ex_dup_r, ex_dup_n, ey_ci2, sk_c_s, ex_sta, ex_sta_n, ey_gf, sk_gf_s, sk_v_s, ey_pf, sk_pf_s, sw_set_set, ey_cv0, ey_cv1, ey_ci4, ex_push, ey_cv3, ex_sti, ex_goto, ex_ic, ey_ald, sk_ald_s, ey_inc, sk_inc_s, ex_ret, sw_gl_0, sw_gl_s, sw_fx_n, sw_fx_i, sw_fx_r, sw_fx_0, sw_fx_l, sw_fx_d, sw_sl1_0, sw_sl1_1, sw_sl1_s, sw_no_0, sw_no_s, sw_no_e, sw_mk_t, sw_mk_f, sw_mk_e, sw_en_0, sw_en_n, sw_en_i, sw_en_r, sw_en_z, sw_en_l, sw_en_d, sw_ok_0, sw_ok_1, sw_ok_2, sw_ok_3, sw_ok_4, sw_bo_s, sw_oi_s, sw_cl_s, sw_cl_x, sw_psh_s, sw_psh_n, sw_kd_s, sw_op_s, sw_oc_s, sw_oc_e, sw_oa_s, sw_el_n, sw_el_r, sl_kds_1, sl_kds_67, sw_fit_i, sw_fit_r, sw_fit_n, sw_fit_l, sw_fit_d, sw_fit_b, sw_fit_0, sw_fit_1, sw_rel_0, sw_rel_1, sw_rel_2, sw_rel_3, sw_rel_4, sw_rel_5, sw_hp_set, sw_nx_set, sw_sl_set, sw_ev_set, sw_hp_new, sw_nx_new, sw_sl_new, sw_ev_new, List.getElem?_cons_zero, List.getElem?_cons_succ, List.set_cons_zero, List.set_cons_succ, List.length_cons, List.length_nil, Nat.reduceAdd, Nat.reduceSub, Nat.reduceLT, Nat.reduceLeDiff, Nat.zero_lt_succ, Nat.zero_add, beq_self_eq_true, Bool.true_and, and_true, true_and, and_self, not_true_eq_false, not_false_eq_true, ↓reduceIte, Nat.reduceBEq, eq_self, sw_b_0, sw_b_1, decide_eq_false_iff_not, decide_eq_true_eq, sl_n10, sl_n01, Decidable.not_not, sl_ct, sl_cats_0, sl_cats_i, sl_cats_r, sl_cats_n, sl_cats_l, sl_ok_5, sl_ok9, decide_true, sp_machC, sp_nodeC, sp_opC, sl_z0, sl_z1, sl_z2, sl_z3, sl_z4, sl_z5, sl_z6, sl_z7, sl_c0, sl_c1, sl_c2, sl_c3, sl_c4, sl_c5, sl_c6, sl_c7, List.length_map, sp_lifeC, sp_inC, sp_rnC, nI_1]
end
