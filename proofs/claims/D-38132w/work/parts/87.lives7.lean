/-! ===== the component's lives: the constructor ===== -/
section
variable {ev : Nat → Nat} {lv ol mach rw l a b D d c s : Nat} {pa : sp_PA} {N : List (Nat × sp_Node)} {B : List sp_Blk} {M : List (Nat × sp_Op)} {Rw : sp_LR} {m : sp_Mach} {L T : List Int32} {out v g f : Int32} {P : sw_P} {x y : sp_Life} {F : List sl_A}
theorem sp_lvok_of (hn : M.length < 200) (hT : T.length = 4) (hM : ∀ x ∈ M, x.2.2.2.1.length < 100 ∧ (x.2.2.2.2.2.1 = -1 ∨ ∃ k, k < 4 ∧ x.2.2.2.2.2.1 = nI k)) (hl : Rw.length < 200) (hR : ∀ y ∈ Rw.map (·.2), sp_lok M.length y) : sp_lvok M Rw T :=
  ⟨hn, hl, hT, hM, fun y hy => hR y.2 (List.mem_map.mpr ⟨y, hy, rfl⟩)⟩
theorem jc_X8_init1 {nv : Nat} (hd : 12 ≤ d) (hn : M.length < 190) (hnv : nv < 190) (hT : T.length = 4) (hM : ∀ x ∈ M, x.2.2.2.1.length < 100 ∧ (x.2.2.2.2.2.1 = -1 ∨ ∃ k, k < 4 ∧ x.2.2.2.2.2.1 = nI k)) : ∀ j k, k + j = nv → ∀ P (Rw : sp_LR), Rw.map (·.2) = sp_row0 (M.map (·.2)) T out k →
    sl_st ev (c + (k + sl_GA Rw.length)) (s + (11 * k + sl_GS Rw.length)) P (sl_lvs ev lv ol pa.1 mach rw M Rw ++ (sl_pt mach (sp_machC m l) :: sl_pt l (64, L.map .int) :: (sl_prog ev pa N B T out ++ F))) →
    ∃ (P' : sw_P) (Rw' : sp_LR), sw_at (sw_Z d) b_X8_init 1 [some (.ref lv), none, none, none, some (.int (nI nv)), some (.int (nI k)), none] [] P = sw_at (sw_Z d) b_X8_init 3 [some (.ref lv), none, none, none, none, none, none] [] P' ∧ Rw'.map (·.2) = sp_row0 (M.map (·.2)) T out nv ∧
      sl_st ev (c + (nv + sl_GA Rw'.length)) (s + (11 * nv + sl_GS Rw'.length)) P' (sl_lvs ev lv ol pa.1 mach rw M Rw' ++ (sl_pt mach (sp_machC m l) :: sl_pt l (64, L.map .int) :: (sl_prog ev pa N B T out ++ F))) := by
  intro j
  induction j with
  | zero =>
    intro k hk P Rw h1 h
    have : k = nv := by omega
    subst this
    have e1 : nI k ≤ nI k := Int32.le_refl _
    refine ⟨P, Rw, ?_, h1, h⟩
    rw [at_X8_init_1]; simp only [ey_ld, sk_ld_s, ex_oin, ex_nw, ex_dup_i, ex_dup_r, ex_dup_n, ey_ci0, sk_c_s, ey_pf, sk_pf_s, sw_set_set, ex_push, ex_sti, ex_goto, ex_ic, ey_cv1, ex_sta, ex_sta_n, ey_gf, sk_gf_s, sk_v_s, ey_inc, sk_inc_s, ey_cv0, ex_ct, ex_ret, sw_gl_0, sw_gl_s, sw_fx_n, sw_fx_i, sw_fx_r, sw_fx_0, sw_fx_l, sw_fx_d, sw_sl1_0, sw_sl1_1, sw_sl1_s, sw_no_0, sw_no_s, sw_no_e, sw_mk_t, sw_mk_f, sw_mk_e, sw_en_0, sw_en_n, sw_en_i, sw_en_r, sw_en_z, sw_en_l, sw_en_d, sw_ok_0, sw_ok_1, sw_ok_2, sw_ok_3, sw_ok_4, sw_bo_s, sw_oi_s, sw_cl_s, sw_cl_x, sw_psh_s, sw_psh_n, sw_kd_s, sw_op_s, sw_oc_s, sw_oc_e, sw_oa_s, sw_el_n, sw_el_r, sl_kds_1, sl_kds_67, sw_fit_i, sw_fit_r, sw_fit_n, sw_fit_l, sw_fit_d, sw_fit_b, sw_fit_0, sw_fit_1, sw_rel_0, sw_rel_1, sw_rel_2, sw_rel_3, sw_rel_4, sw_rel_5, sw_hp_set, sw_nx_set, sw_sl_set, sw_ev_set, sw_hp_new, sw_nx_new, sw_sl_new, sw_ev_new, List.getElem?_cons_zero, List.getElem?_cons_succ, List.set_cons_zero, List.set_cons_succ, List.length_cons, List.length_nil, Nat.reduceAdd, Nat.reduceSub, Nat.reduceLT, Nat.reduceLeDiff, Nat.zero_lt_succ, Nat.zero_add, beq_self_eq_true, Bool.true_and, and_true, true_and, and_self, not_true_eq_false, not_false_eq_true, ↓reduceIte, Nat.reduceBEq, eq_self, sw_b_0, sw_b_1, decide_eq_false_iff_not, decide_eq_true_eq, sl_n10, sl_n01, Decidable.not_not, sl_ct, sl_cats_0, sl_cats_i, sl_cats_r, sl_cats_n, sl_cats_l, sl_ok_5, sl_ok9, decide_true, sp_machC, sp_nodeC, sp_opC, sl_z0, sl_z1, sl_z2, sl_z3, sl_z4, sl_z5, sl_z6, sl_z7, sl_c0, sl_c1, sl_c2, sl_c3, sl_c4, sl_c5, sl_c6, sl_c7, List.length_map, sp_lifeC, e1]
  | succ j ih =>
    intro k hk P Rw h1 h
    have e1 : ¬ nI nv ≤ nI k := nI_ge (by omega) (by omega)
    have hos : (M.map (·.2)).length < 200 := by rw [List.length_map]; omega
    obtain ⟨P1, a, r1, s1⟩ := jc_X8_lifeOf (D := d) (v := nI k) (by omega) (by omega) hT hM h
    have hf := sl_lvs_rd h.rd
    have hf1 := sl_lvs_rd s1.rd.2
    have h0 := s1.get 0 rfl
    have hst : sp_row0 (M.map (·.2)) T out (k + 1) = sp_rowF (M.map (·.2)) T out k (Rw.map (·.2)) := by rw [h1]; rfl
    unfold sp_rowF at hst
    rw [List.length_map] at hst
    have hlen : Rw.length ≤ k := by
      have := (sp_row0_ok (T := T) (out := out) hos k).1
      rw [← h1, List.length_map] at this
      exact this
    cases hz : sp_lf (M.map (·.2)) T (nI k) M.length with
    | none =>
      rw [hz] at hst s1 h0
      have h0 : sw_hp P1 a = some (sp_life0 (nI k)) := h0
      have s2 := s1.drop
      obtain ⟨P', Rw', r2, a2, t2⟩ := ih (k + 1) (by omega) P1 Rw (by rw [hst]) (s2.wk (by omega) (by omega))
      refine ⟨P', Rw', ?_, a2, t2⟩
      rw [← r2]
      rw [at_X8_init_1]; simp only [at_X8_init_2, ey_ld, sk_ld_s, ex_oin, ex_nw, ex_dup_i, ex_dup_r, ex_dup_n, ey_ci0, sk_c_s, ey_pf, sk_pf_s, sw_set_set, ex_push, ex_sti, ex_goto, ex_ic, ey_cv1, ex_sta, ex_sta_n, ey_gf, sk_gf_s, sk_v_s, ey_inc, sk_inc_s, ey_cv0, ex_ct, ex_ret, sw_gl_0, sw_gl_s, sw_fx_n, sw_fx_i, sw_fx_r, sw_fx_0, sw_fx_l, sw_fx_d, sw_sl1_0, sw_sl1_1, sw_sl1_s, sw_no_0, sw_no_s, sw_no_e, sw_mk_t, sw_mk_f, sw_mk_e, sw_en_0, sw_en_n, sw_en_i, sw_en_r, sw_en_z, sw_en_l, sw_en_d, sw_ok_0, sw_ok_1, sw_ok_2, sw_ok_3, sw_ok_4, sw_bo_s, sw_oi_s, sw_cl_s, sw_cl_x, sw_psh_s, sw_psh_n, sw_kd_s, sw_op_s, sw_oc_s, sw_oc_e, sw_oa_s, sw_el_n, sw_el_r, sl_kds_1, sl_kds_67, sw_fit_i, sw_fit_r, sw_fit_n, sw_fit_l, sw_fit_d, sw_fit_b, sw_fit_0, sw_fit_1, sw_rel_0, sw_rel_1, sw_rel_2, sw_rel_3, sw_rel_4, sw_rel_5, sw_hp_set, sw_nx_set, sw_sl_set, sw_ev_set, sw_hp_new, sw_nx_new, sw_sl_new, sw_ev_new, List.getElem?_cons_zero, List.getElem?_cons_succ, List.set_cons_zero, List.set_cons_succ, List.length_cons, List.length_nil, Nat.reduceAdd, Nat.reduceSub, Nat.reduceLT, Nat.reduceLeDiff, Nat.zero_lt_succ, Nat.zero_add, beq_self_eq_true, Bool.true_and, and_true, true_and, and_self, not_true_eq_false, not_false_eq_true, ↓reduceIte, Nat.reduceBEq, eq_self, sw_b_0, sw_b_1, decide_eq_false_iff_not, decide_eq_true_eq, sl_n10, sl_n01, Decidable.not_not, sl_ct, sl_cats_0, sl_cats_i, sl_cats_r, sl_cats_n, sl_cats_l, sl_ok_5, sl_ok9, decide_true, sp_machC, sp_nodeC, sp_opC, sl_z0, sl_z1, sl_z2, sl_z3, sl_z4, sl_z5, sl_z6, sl_z7, sl_c0, sl_c1, sl_c2, sl_c3, sl_c4, sl_c5, sl_c6, sl_c7, List.length_map, sp_lifeC, e1, hf.1, sp_lvC, r1, h0, sp_life0, nI_1]
    | some z =>
      rw [hz] at hst s1 h0
      have h0 : sw_hp P1 a = some (sp_lifeC (M.map (·.1)) z) := h0
      have hlo := sp_lf_ok _ _ hz
      have hlo2 := hlo
      obtain ⟨g1, ⟨p, q, g2, g3, g4, g5, g6⟩, -⟩ := hlo
      obtain ⟨P2, r2, s2⟩ := jc_X8_stretch (D := d) (q0 := q) (by omega) (by omega) hT hM g3 g6 s1
      have hf2 := sl_lvs_rd s2.rd.2
      have hok : sp_lvok M Rw T := sp_lvok_of (by omega) hT hM (by omega) (by
        rw [h1]
        have := (sp_row0_ok (T := T) (out := out) hos k).2
        rw [List.length_map] at this
        exact this)
      obtain ⟨P3, r3, s3⟩ := jc_X8_put (D := d) (by omega) hok s2
      have hne : ¬ nI p = -1 := sp_nI_ne p (by omega)
      have hlen2 : (Rw.take (sp_pp (Rw.map (·.2)) (sp_str (M.map (·.2)) T out z).2.1 Rw.length) ++ (a, sp_str (M.map (·.2)) T out z) :: Rw.drop (sp_pp (Rw.map (·.2)) (sp_str (M.map (·.2)) T out z).2.1 Rw.length)).length = Rw.length + 1 := by
        have := sp_pp_le (Rw.map (·.2)) (sp_str (M.map (·.2)) T out z).2.1 Rw.length
        simp; omega
      have e4 : (Rw.take (sp_pp (Rw.map (·.2)) (sp_str (M.map (·.2)) T out z).2.1 Rw.length) ++ (a, sp_str (M.map (·.2)) T out z) :: Rw.drop (sp_pp (Rw.map (·.2)) (sp_str (M.map (·.2)) T out z).2.1 Rw.length)).map (·.2) = sp_row0 (M.map (·.2)) T out (k + 1) := by
        rw [hst]
        show _ = sp_ins _ _
        unfold sp_ins
        rw [List.map_append, List.map_cons, List.map_take, List.map_drop, List.length_map]
      have s4 : sl_st ev (c + (k + 1 + sl_GA (Rw.length + 1))) (s + (11 * (k + 1) + sl_GS (Rw.length + 1))) P3 _ := s3.wk (by show _ ≤ c + (k + 1 + (sl_GA Rw.length + sl_gA Rw.length)); omega) (by show _ ≤ s + (11 * (k + 1) + (sl_GS Rw.length + sl_gS Rw.length)); omega)
      rw [← hlen2] at s4
      obtain ⟨P', Rw', r4, a4, t4⟩ := ih (k + 1) (by omega) P3 _ e4 s4
      refine ⟨P', Rw', ?_, a4, t4⟩
      rw [← r4]
      rw [at_X8_init_1]; simp only [at_X8_init_2, ey_ld, sk_ld_s, ex_oin, ex_nw, ex_dup_i, ex_dup_r, ex_dup_n, ey_ci0, sk_c_s, ey_pf, sk_pf_s, sw_set_set, ex_push, ex_sti, ex_goto, ex_ic, ey_cv1, ex_sta, ex_sta_n, ey_gf, sk_gf_s, sk_v_s, ey_inc, sk_inc_s, ey_cv0, ex_ct, ex_ret, sw_gl_0, sw_gl_s, sw_fx_n, sw_fx_i, sw_fx_r, sw_fx_0, sw_fx_l, sw_fx_d, sw_sl1_0, sw_sl1_1, sw_sl1_s, sw_no_0, sw_no_s, sw_no_e, sw_mk_t, sw_mk_f, sw_mk_e, sw_en_0, sw_en_n, sw_en_i, sw_en_r, sw_en_z, sw_en_l, sw_en_d, sw_ok_0, sw_ok_1, sw_ok_2, sw_ok_3, sw_ok_4, sw_bo_s, sw_oi_s, sw_cl_s, sw_cl_x, sw_psh_s, sw_psh_n, sw_kd_s, sw_op_s, sw_oc_s, sw_oc_e, sw_oa_s, sw_el_n, sw_el_r, sl_kds_1, sl_kds_67, sw_fit_i, sw_fit_r, sw_fit_n, sw_fit_l, sw_fit_d, sw_fit_b, sw_fit_0, sw_fit_1, sw_rel_0, sw_rel_1, sw_rel_2, sw_rel_3, sw_rel_4, sw_rel_5, sw_hp_set, sw_nx_set, sw_sl_set, sw_ev_set, sw_hp_new, sw_nx_new, sw_sl_new, sw_ev_new, List.getElem?_cons_zero, List.getElem?_cons_succ, List.set_cons_zero, List.set_cons_succ, List.length_cons, List.length_nil, Nat.reduceAdd, Nat.reduceSub, Nat.reduceLT, Nat.reduceLeDiff, Nat.zero_lt_succ, Nat.zero_add, beq_self_eq_true, Bool.true_and, and_true, true_and, and_self, not_true_eq_false, not_false_eq_true, ↓reduceIte, Nat.reduceBEq, eq_self, sw_b_0, sw_b_1, decide_eq_false_iff_not, decide_eq_true_eq, sl_n10, sl_n01, Decidable.not_not, sl_ct, sl_cats_0, sl_cats_i, sl_cats_r, sl_cats_n, sl_cats_l, sl_ok_5, sl_ok9, decide_true, sp_machC, sp_nodeC, sp_opC, sl_z0, sl_z1, sl_z2, sl_z3, sl_z4, sl_z5, sl_z6, sl_z7, sl_c0, sl_c1, sl_c2, sl_c3, sl_c4, sl_c5, sl_c6, sl_c7, List.length_map, sp_lifeC, e1, hf.1, hf1.1, hf2.1, sp_lvC, r1, h0, g4, hne, r2, r3, nI_1]
/-- what is wished for has a life -/
def sp_wok (m : sp_Mach) (os : List sp_Op) (nv : Nat) : Prop := ∀ p, p < os.length → sp_wish m (os.getD p sp_oz) = true → 0 < (os.getD p sp_oz).2.2.1.length ∧ ∃ u, u < nv ∧ (os.getD p sp_oz).2.2.1.getD 0 0 = nI u
theorem sp_row0_plc {os : List sp_Op} {nv : Nat} (hn : os.length < 200) (hr : ∀ o ∈ os, o.2.2.1.length < 100) {p : Nat} (hp : p < os.length) {u : Nat} (hu : u < nv) (hur : nI u ∈ (os.getD p sp_oz).2.2.1 ∨ (os.getD p sp_oz).2.1 = nI u) {R : List sp_Life} (hk : R.map sp_key = (sp_row0 os T out nv).map sp_key) : ∃ q, sp_plc R (nI u) R.length = some q := by
  have hrp : (os.getD p sp_oz).2.2.1.length < 100 := by
    rw [sp_getD (List.getElem?_eq_getElem hp)]
    exact hr _ (List.getElem_mem hp)
  have h1 := sp_lf_some (T := T) (os := os) (v := nI u) (p := p) (by
    rcases hur with q | q
    · exact Or.inr ((sp_cnt_pos (by omega)).mpr q)
    · exact Or.inl q) os.length hp
  obtain ⟨y, h2, h3⟩ := sp_row0_has (out := out) hn h1 nv hu
  obtain ⟨i, hi, rfl⟩ := List.mem_iff_getElem.mp h2
  have hl := sp_key_len hk
  have hiR : i < R.length := by omega
  refine sp_plc_some R.length i hiR ?_
  have e := sp_key_at hk hiR
  rw [sp_getD (l := sp_row0 os T out nv) (List.getElem?_eq_getElem hi)] at e
  exact (congrArg Prod.fst e).trans h3
theorem jc_X8_init4 {nv : Nat} (hd : 10 ≤ d) (hn : M.length < 190) (hnv : nv < 190) (hT : T.length = 4) (hM : ∀ x ∈ M, x.2.2.2.1.length < 100 ∧ (x.2.2.2.2.2.1 = -1 ∨ ∃ k, k < 4 ∧ x.2.2.2.2.2.1 = nI k)) (hm : 5 ≤ m.1.toNatClampNeg ∧ m.1.toNatClampNeg ≤ 11 ∧ m.1 = nI m.1.toNatClampNeg) (hw : sp_wok m (M.map (·.2)) nv) : ∀ j k, k + j = (sp_row0 (M.map (·.2)) T out nv).length → ∀ P (Rw : sp_LR), Rw.map (·.2) = sp_gvs m (M.map (·.2)) (sp_row0 (M.map (·.2)) T out nv) k →
    sl_st ev c s P (sl_lvs ev lv ol pa.1 mach rw M Rw ++ (sl_pt mach (sp_machC m l) :: sl_pt l (64, L.map .int) :: (sl_prog ev pa N B T out ++ F))) →
    ∃ (P' : sw_P) (Rw' : sp_LR), sw_at (sw_Z d) b_X8_init 4 [some (.ref lv), none, none, none, none, some (.int (nI k)), none] [] P = sw_at (sw_Z d) b_X8_init 5 [some (.ref lv), none, none, none, none, none, none] [] P' ∧ Rw'.map (·.2) = sp_gvs m (M.map (·.2)) (sp_row0 (M.map (·.2)) T out nv) (sp_row0 (M.map (·.2)) T out nv).length ∧
      sl_st ev c s P' (sl_lvs ev lv ol pa.1 mach rw M Rw' ++ (sl_pt mach (sp_machC m l) :: sl_pt l (64, L.map .int) :: (sl_prog ev pa N B T out ++ F))) := by
  have hos : (M.map (·.2)).length < 200 := by rw [List.length_map]; omega
  obtain ⟨hr1, hr2⟩ := sp_row0_ok (T := T) (out := out) hos nv
  intro j
  induction j with
  | zero =>
    intro k hk P Rw h1 h
    have hf := sl_lvs_rd h.rd
    obtain ⟨k1, k2⟩ := sp_lv_rwkd hf (d := d) (by omega)
    have hkey := sp_gvs_key m (M.map (·.2)) (sp_row0 (M.map (·.2)) T out nv) k
    have hlen : Rw.length = (sp_row0 (M.map (·.2)) T out nv).length := by
      rw [← h1] at hkey
      have := sp_key_len hkey
      rwa [List.length_map] at this
    have e0 : k = (sp_row0 (M.map (·.2)) T out nv).length := by omega
    have e1 : nI Rw.length ≤ nI k := by rw [hlen, e0]; exact Int32.le_refl _
    refine ⟨P, Rw, ?_, by rw [h1, e0], h⟩
    rw [at_X8_init_4]; simp only [ey_ld, sk_ld_s, ex_oin, ex_nw, ex_dup_i, ex_dup_r, ex_dup_n, ey_ci0, sk_c_s, ey_pf, sk_pf_s, sw_set_set, ex_push, ex_sti, ex_goto, ex_ic, ey_cv1, ex_sta, ex_sta_n, ey_gf, sk_gf_s, sk_v_s, ey_inc, sk_inc_s, ey_cv0, ex_ct, ex_ret, sw_gl_0, sw_gl_s, sw_fx_n, sw_fx_i, sw_fx_r, sw_fx_0, sw_fx_l, sw_fx_d, sw_sl1_0, sw_sl1_1, sw_sl1_s, sw_no_0, sw_no_s, sw_no_e, sw_mk_t, sw_mk_f, sw_mk_e, sw_en_0, sw_en_n, sw_en_i, sw_en_r, sw_en_z, sw_en_l, sw_en_d, sw_ok_0, sw_ok_1, sw_ok_2, sw_ok_3, sw_ok_4, sw_bo_s, sw_oi_s, sw_cl_s, sw_cl_x, sw_psh_s, sw_psh_n, sw_kd_s, sw_op_s, sw_oc_s, sw_oc_e, sw_oa_s, sw_el_n, sw_el_r, sl_kds_1, sl_kds_67, sw_fit_i, sw_fit_r, sw_fit_n, sw_fit_l, sw_fit_d, sw_fit_b, sw_fit_0, sw_fit_1, sw_rel_0, sw_rel_1, sw_rel_2, sw_rel_3, sw_rel_4, sw_rel_5, sw_hp_set, sw_nx_set, sw_sl_set, sw_ev_set, sw_hp_new, sw_nx_new, sw_sl_new, sw_ev_new, List.getElem?_cons_zero, List.getElem?_cons_succ, List.set_cons_zero, List.set_cons_succ, List.length_cons, List.length_nil, Nat.reduceAdd, Nat.reduceSub, Nat.reduceLT, Nat.reduceLeDiff, Nat.zero_lt_succ, Nat.zero_add, beq_self_eq_true, Bool.true_and, and_true, true_and, and_self, not_true_eq_false, not_false_eq_true, ↓reduceIte, Nat.reduceBEq, eq_self, sw_b_0, sw_b_1, decide_eq_false_iff_not, decide_eq_true_eq, sl_n10, sl_n01, Decidable.not_not, sl_ct, sl_cats_0, sl_cats_i, sl_cats_r, sl_cats_n, sl_cats_l, sl_ok_5, sl_ok9, decide_true, sp_machC, sp_nodeC, sp_opC, sl_z0, sl_z1, sl_z2, sl_z3, sl_z4, sl_z5, sl_z6, sl_z7, sl_c0, sl_c1, sl_c2, sl_c3, sl_c4, sl_c5, sl_c6, sl_c7, List.length_map, sp_lifeC, hf.1, sp_lvC, k1, k2, e1]
  | succ j ih =>
    intro k hk P Rw h1 h
    have hf := sl_lvs_rd h.rd
    obtain ⟨k1, k2⟩ := sp_lv_rwkd hf (d := d) (by omega)
    have hkey := sp_gvs_key m (M.map (·.2)) (sp_row0 (M.map (·.2)) T out nv) k
    rw [← h1] at hkey
    have hlen : Rw.length = (sp_row0 (M.map (·.2)) T out nv).length := by
      have := sp_key_len hkey
      rwa [List.length_map] at this
    have hkR : k < Rw.length := by omega
    have e1 : ¬ nI Rw.length ≤ nI k := nI_ge hkR (by omega)
    have hlok := sp_key_lok hkey hr2
    rw [List.length_map] at hlok
    have hok : sp_lvok M Rw T := sp_lvok_of (by omega) hT hM (by omega) hlok
    obtain ⟨g1, g2, g3⟩ := sp_lv_row hf hok (d := d) (by omega) hkR
    have hkM := (hok.2.2.2.2 _ (List.getElem_mem hkR)).1
    obtain ⟨P1, Rw1, r1, a1, f1, s1⟩ := jc_X8_give (D := d) (by omega) hok hkR hm (fun hwi => by
      obtain ⟨q1, u, q2, q3⟩ := hw _ (by rw [List.length_map]; exact hkM) hwi
      refine ⟨q1, ?_⟩
      rw [q3]
      have hmem : nI u ∈ ((M.map (·.2)).getD Rw[k].2.2.2.2.2.2.2.2.2.2.2 sp_oz).2.2.1 := by
        rw [← q3, sp_getD (List.getElem?_eq_getElem q1)]
        exact List.getElem_mem q1
      have := sp_row0_plc (T := T) (out := out) hos (fun o ho => by
        obtain ⟨z, hz, rfl⟩ := List.mem_map.mp ho
        exact (hM z hz).1) (by rw [List.length_map]; exact hkM) q2 (Or.inl hmem) hkey
      rwa [List.length_map] at this) h
    obtain ⟨P', Rw', r2, a2, t2⟩ := ih (k + 1) (by omega) P1 Rw1 (by rw [a1, h1]; rfl) s1
    refine ⟨P', Rw', ?_, a2, t2⟩
    rw [← r2]
    rw [at_X8_init_4]; simp only [ey_ld, sk_ld_s, ex_oin, ex_nw, ex_dup_i, ex_dup_r, ex_dup_n, ey_ci0, sk_c_s, ey_pf, sk_pf_s, sw_set_set, ex_push, ex_sti, ex_goto, ex_ic, ey_cv1, ex_sta, ex_sta_n, ey_gf, sk_gf_s, sk_v_s, ey_inc, sk_inc_s, ey_cv0, ex_ct, ex_ret, sw_gl_0, sw_gl_s, sw_fx_n, sw_fx_i, sw_fx_r, sw_fx_0, sw_fx_l, sw_fx_d, sw_sl1_0, sw_sl1_1, sw_sl1_s, sw_no_0, sw_no_s, sw_no_e, sw_mk_t, sw_mk_f, sw_mk_e, sw_en_0, sw_en_n, sw_en_i, sw_en_r, sw_en_z, sw_en_l, sw_en_d, sw_ok_0, sw_ok_1, sw_ok_2, sw_ok_3, sw_ok_4, sw_bo_s, sw_oi_s, sw_cl_s, sw_cl_x, sw_psh_s, sw_psh_n, sw_kd_s, sw_op_s, sw_oc_s, sw_oc_e, sw_oa_s, sw_el_n, sw_el_r, sl_kds_1, sl_kds_67, sw_fit_i, sw_fit_r, sw_fit_n, sw_fit_l, sw_fit_d, sw_fit_b, sw_fit_0, sw_fit_1, sw_rel_0, sw_rel_1, sw_rel_2, sw_rel_3, sw_rel_4, sw_rel_5, sw_hp_set, sw_nx_set, sw_sl_set, sw_ev_set, sw_hp_new, sw_nx_new, sw_sl_new, sw_ev_new, List.getElem?_cons_zero, List.getElem?_cons_succ, List.set_cons_zero, List.set_cons_succ, List.length_cons, List.length_nil, Nat.reduceAdd, Nat.reduceSub, Nat.reduceLT, Nat.reduceLeDiff, Nat.zero_lt_succ, Nat.zero_add, beq_self_eq_true, Bool.true_and, and_true, true_and, and_self, not_true_eq_false, not_false_eq_true, ↓reduceIte, Nat.reduceBEq, eq_self, sw_b_0, sw_b_1, decide_eq_false_iff_not, decide_eq_true_eq, sl_n10, sl_n01, Decidable.not_not, sl_ct, sl_cats_0, sl_cats_i, sl_cats_r, sl_cats_n, sl_cats_l, sl_ok_5, sl_ok9, decide_true, sp_machC, sp_nodeC, sp_opC, sl_z0, sl_z1, sl_z2, sl_z3, sl_z4, sl_z5, sl_z6, sl_z7, sl_c0, sl_c1, sl_c2, sl_c3, sl_c4, sl_c5, sl_c6, sl_c7, List.length_map, sp_lifeC, hf.1, sp_lvC, k1, k2, e1, g1, g2, r1, sl_kds_1, nI_1]
theorem jc_X8_init {nv : Nat} (hD : 14 ≤ D) (hn : M.length < 190) (hnv : nv < 190) (hT : T.length = 4) (hM : ∀ x ∈ M, x.2.2.2.1.length < 100 ∧ (x.2.2.2.2.2.1 = -1 ∨ ∃ k, k < 4 ∧ x.2.2.2.2.2.1 = nI k)) (hm : 5 ≤ m.1.toNatClampNeg ∧ m.1.toNatClampNeg ≤ 11 ∧ m.1 = nI m.1.toNatClampNeg) (hw : sp_wok m (M.map (·.2)) nv)
    (h : sl_st ev c s P (sl_pt lv (7, [.null, .null, .null, .null]) :: sl_ls ev ol (M.map fun x => .ref x.1) :: sl_all (M.map sl_opA) :: (sl_pt mach (sp_machC m l) :: sl_pt l (64, L.map .int) :: (sl_prog ev pa N B T out ++ F)))) :
    ∃ (P' : sw_P) (rw : Nat) (Rw : sp_LR), sw_Z D m_X8_init [.ref lv, .ref ol, .ref pa.1, .ref mach, .int (nI nv)] P = some (.inl none, P') ∧ Rw.map (·.2) = sp_lives m (M.map (·.2)) T out nv ∧
      sl_st ev (c + 1 + (nv + sl_GA Rw.length)) (s + 3 + (11 * nv + sl_GS Rw.length)) P' (sl_lvs ev lv ol pa.1 mach rw M Rw ++ (sl_pt mach (sp_machC m l) :: sl_pt l (64, L.map .int) :: (sl_prog ev pa N B T out ++ F))) := by
  obtain ⟨d, hDe, hDn⟩ := sw_dep hD; subst hDe; replace hD := hDn; clear hDn
  have hos : (M.map (·.2)).length < 200 := by rw [List.length_map]; omega
  obtain ⟨hr1, hr2⟩ := sp_row0_ok (T := T) (out := out) hos nv
  have hev := h.ev
  have h0 := h.get 0 rfl
  have hn0 := h.2.2.2.1
  have f1 := sl_ne_nx h0 hn0
  have f2 : sw_nx P ≠ lv := fun e => f1 e.symm
  have g1 := (h.new (24, [.int 0, .ref (ev 10), .int 0])).set 1 (sp_lvC ol pa.1 mach (sw_nx P)) rfl
  have g2 := sl_st.oflx (Q := fun c => c ∈ sl_caps) (vs := []) (by decide) ((g1.ofbk0).pk [1])
  have g3 := (sl_st.flat (As := [])).mpr g2
  have g4 : sl_st ev (c + 1) _ _ (sl_pt lv (sp_lvC ol pa.1 mach (sw_nx P)) :: sl_ls ev ol (M.map fun x => .ref x.1) :: sl_all (M.map sl_opA) :: sl_ls ev (sw_nx P) [] :: sl_all (([] : sp_LR).map (sl_lifeA (M.map (·.1)))) :: _) := g3.pp 5 [2, 3, 4, 1, 0]
  obtain ⟨P1, R1, r1, a1, s1⟩ := jc_X8_init1 (c := c + 1) (s := s + 3) (lv := lv) (ol := ol) (rw := sw_nx P) (l := l) (L := L) (m := m) (mach := mach) (pa := pa) (N := N) (B := B) (T := T) (out := out) (F := F) (d := d) (by omega) hn hnv hT hM nv 0 (by omega) _ [] rfl (g4.wk (Nat.le_refl _) (by show s + 3 ≤ _; exact Nat.le_add_right _ _))
  have hk1 : R1.length = (sp_row0 (M.map (·.2)) T out nv).length := by rw [← a1, List.length_map]
  obtain ⟨P2, R2, r2, a2, s2⟩ := jc_X8_init4 (d := d) (by omega) hn hnv hT hM hm hw (sp_row0 (M.map (·.2)) T out nv).length 0 (by omega) P1 R1 a1 s1
  have hkey := sp_gvs_key m (M.map (·.2)) (sp_row0 (M.map (·.2)) T out nv) (sp_row0 (M.map (·.2)) T out nv).length
  rw [← a2] at hkey
  have hlen : R2.length = (sp_row0 (M.map (·.2)) T out nv).length := by
    have := sp_key_len hkey
    rwa [List.length_map] at this
  have hlok := sp_key_lok hkey hr2
  rw [List.length_map] at hlok
  have hok : sp_lvok M R2 T := sp_lvok_of (by omega) hT hM (by omega) hlok
  obtain ⟨P3, R3, r3, a3, s3⟩ := jc_X8_giveSlots (D := d) (by omega) (by omega) (by omega) hok s2
  have hgl : ∀ k (os : List sp_Op) (Rs : List sp_Life), (sp_gs os Rs k).length = Rs.length := by
    intro k os Rs
    induction k with
    | zero => rfl
    | succ k ih =>
      show (sp_gsF os k (sp_gs os Rs k)).length = _
      unfold sp_gsF
      split
      · rw [List.length_set]; exact ih
      · exact ih
  have h3l : R3.length = R1.length := by
    have := congrArg List.length a3
    rw [hgl, List.length_map, List.length_map] at this
    omega
  refine ⟨P3, sw_nx P, R3, ?_, ?_, ?_⟩
  · have hf1 := sl_lvs_rd s1.rd
    have hf2 := sl_lvs_rd s2.rd
    have e5 := jc_J2_init (D := d) (a := sw_nx P) (P := sw_new P (24, [.int 0, .null, .int 0])) (by omega) (if_pos rfl)
    rw [show sw_ev (sw_new P (24, [.int 0, .null, .int 0])) = sw_ev P from rfl, hev, sw_set_new P 24 24 [.int 0, .null, .int 0] [.int 0, .ref (ev 10), .int 0] rfl] at e5
    rw [show (nI 0 : Int32) = 0 from rfl] at r1 r2
    simp only [sp_lvC] at r1
    rw [M_X8_init _ _ _ rfl]; simp only [at_X8_init_0, ey_ld, sk_ld_s, ex_oin, ex_nw, ex_dup_i, ex_dup_r, ex_dup_n, ey_ci0, sk_c_s, ey_pf, sk_pf_s, sw_set_set, ex_push, ex_sti, ex_goto, ex_ic, ey_cv1, ex_sta, ex_sta_n, ey_gf, sk_gf_s, sk_v_s, ey_inc, sk_inc_s, ey_cv0, ex_ct, ex_ret, sw_gl_0, sw_gl_s, sw_fx_n, sw_fx_i, sw_fx_r, sw_fx_0, sw_fx_l, sw_fx_d, sw_sl1_0, sw_sl1_1, sw_sl1_s, sw_no_0, sw_no_s, sw_no_e, sw_mk_t, sw_mk_f, sw_mk_e, sw_en_0, sw_en_n, sw_en_i, sw_en_r, sw_en_z, sw_en_l, sw_en_d, sw_ok_0, sw_ok_1, sw_ok_2, sw_ok_3, sw_ok_4, sw_bo_s, sw_oi_s, sw_cl_s, sw_cl_x, sw_psh_s, sw_psh_n, sw_kd_s, sw_op_s, sw_oc_s, sw_oc_e, sw_oa_s, sw_el_n, sw_el_r, sl_kds_1, sl_kds_67, sw_fit_i, sw_fit_r, sw_fit_n, sw_fit_l, sw_fit_d, sw_fit_b, sw_fit_0, sw_fit_1, sw_rel_0, sw_rel_1, sw_rel_2, sw_rel_3, sw_rel_4, sw_rel_5, sw_hp_set, sw_nx_set, sw_sl_set, sw_ev_set, sw_hp_new, sw_nx_new, sw_sl_new, sw_ev_new, List.getElem?_cons_zero, List.getElem?_cons_succ, List.set_cons_zero, List.set_cons_succ, List.length_cons, List.length_nil, Nat.reduceAdd, Nat.reduceSub, Nat.reduceLT, Nat.reduceLeDiff, Nat.zero_lt_succ, Nat.zero_add, beq_self_eq_true, Bool.true_and, and_true, true_and, and_self, not_true_eq_false, not_false_eq_true, ↓reduceIte, Nat.reduceBEq, eq_self, sw_b_0, sw_b_1, decide_eq_false_iff_not, decide_eq_true_eq, sl_n10, sl_n01, Decidable.not_not, sl_ct, sl_cats_0, sl_cats_i, sl_cats_r, sl_cats_n, sl_cats_l, sl_ok_5, sl_ok9, decide_true, sp_machC, sp_nodeC, sp_opC, sl_z0, sl_z1, sl_z2, sl_z3, sl_z4, sl_z5, sl_z6, sl_z7, sl_c0, sl_c1, sl_c2, sl_c3, sl_c4, sl_c5, sl_c6, sl_c7, List.length_map, sp_lifeC, h0, f1, f2, e5]
    rw [r1]
    rw [at_X8_init_3]; simp only [ey_ld, sk_ld_s, ex_oin, ex_nw, ex_dup_i, ex_dup_r, ex_dup_n, ey_ci0, sk_c_s, ey_pf, sk_pf_s, sw_set_set, ex_push, ex_sti, ex_goto, ex_ic, ey_cv1, ex_sta, ex_sta_n, ey_gf, sk_gf_s, sk_v_s, ey_inc, sk_inc_s, ey_cv0, ex_ct, ex_ret, sw_gl_0, sw_gl_s, sw_fx_n, sw_fx_i, sw_fx_r, sw_fx_0, sw_fx_l, sw_fx_d, sw_sl1_0, sw_sl1_1, sw_sl1_s, sw_no_0, sw_no_s, sw_no_e, sw_mk_t, sw_mk_f, sw_mk_e, sw_en_0, sw_en_n, sw_en_i, sw_en_r, sw_en_z, sw_en_l, sw_en_d, sw_ok_0, sw_ok_1, sw_ok_2, sw_ok_3, sw_ok_4, sw_bo_s, sw_oi_s, sw_cl_s, sw_cl_x, sw_psh_s, sw_psh_n, sw_kd_s, sw_op_s, sw_oc_s, sw_oc_e, sw_oa_s, sw_el_n, sw_el_r, sl_kds_1, sl_kds_67, sw_fit_i, sw_fit_r, sw_fit_n, sw_fit_l, sw_fit_d, sw_fit_b, sw_fit_0, sw_fit_1, sw_rel_0, sw_rel_1, sw_rel_2, sw_rel_3, sw_rel_4, sw_rel_5, sw_hp_set, sw_nx_set, sw_sl_set, sw_ev_set, sw_hp_new, sw_nx_new, sw_sl_new, sw_ev_new, List.getElem?_cons_zero, List.getElem?_cons_succ, List.set_cons_zero, List.set_cons_succ, List.length_cons, List.length_nil, Nat.reduceAdd, Nat.reduceSub, Nat.reduceLT, Nat.reduceLeDiff, Nat.zero_lt_succ, Nat.zero_add, beq_self_eq_true, Bool.true_and, and_true, true_and, and_self, not_true_eq_false, not_false_eq_true, ↓reduceIte, Nat.reduceBEq, eq_self, sw_b_0, sw_b_1, decide_eq_false_iff_not, decide_eq_true_eq, sl_n10, sl_n01, Decidable.not_not, sl_ct, sl_cats_0, sl_cats_i, sl_cats_r, sl_cats_n, sl_cats_l, sl_ok_5, sl_ok9, decide_true, sp_machC, sp_nodeC, sp_opC, sl_z0, sl_z1, sl_z2, sl_z3, sl_z4, sl_z5, sl_z6, sl_z7, sl_c0, sl_c1, sl_c2, sl_c3, sl_c4, sl_c5, sl_c6, sl_c7, List.length_map, sp_lifeC]
    rw [r2]
    rw [at_X8_init_5]; simp only [ey_ld, sk_ld_s, ex_oin, ex_nw, ex_dup_i, ex_dup_r, ex_dup_n, ey_ci0, sk_c_s, ey_pf, sk_pf_s, sw_set_set, ex_push, ex_sti, ex_goto, ex_ic, ey_cv1, ex_sta, ex_sta_n, ey_gf, sk_gf_s, sk_v_s, ey_inc, sk_inc_s, ey_cv0, ex_ct, ex_ret, sw_gl_0, sw_gl_s, sw_fx_n, sw_fx_i, sw_fx_r, sw_fx_0, sw_fx_l, sw_fx_d, sw_sl1_0, sw_sl1_1, sw_sl1_s, sw_no_0, sw_no_s, sw_no_e, sw_mk_t, sw_mk_f, sw_mk_e, sw_en_0, sw_en_n, sw_en_i, sw_en_r, sw_en_z, sw_en_l, sw_en_d, sw_ok_0, sw_ok_1, sw_ok_2, sw_ok_3, sw_ok_4, sw_bo_s, sw_oi_s, sw_cl_s, sw_cl_x, sw_psh_s, sw_psh_n, sw_kd_s, sw_op_s, sw_oc_s, sw_oc_e, sw_oa_s, sw_el_n, sw_el_r, sl_kds_1, sl_kds_67, sw_fit_i, sw_fit_r, sw_fit_n, sw_fit_l, sw_fit_d, sw_fit_b, sw_fit_0, sw_fit_1, sw_rel_0, sw_rel_1, sw_rel_2, sw_rel_3, sw_rel_4, sw_rel_5, sw_hp_set, sw_nx_set, sw_sl_set, sw_ev_set, sw_hp_new, sw_nx_new, sw_sl_new, sw_ev_new, List.getElem?_cons_zero, List.getElem?_cons_succ, List.set_cons_zero, List.set_cons_succ, List.length_cons, List.length_nil, Nat.reduceAdd, Nat.reduceSub, Nat.reduceLT, Nat.reduceLeDiff, Nat.zero_lt_succ, Nat.zero_add, beq_self_eq_true, Bool.true_and, and_true, true_and, and_self, not_true_eq_false, not_false_eq_true, ↓reduceIte, Nat.reduceBEq, eq_self, sw_b_0, sw_b_1, decide_eq_false_iff_not, decide_eq_true_eq, sl_n10, sl_n01, Decidable.not_not, sl_ct, sl_cats_0, sl_cats_i, sl_cats_r, sl_cats_n, sl_cats_l, sl_ok_5, sl_ok9, decide_true, sp_machC, sp_nodeC, sp_opC, sl_z0, sl_z1, sl_z2, sl_z3, sl_z4, sl_z5, sl_z6, sl_z7, sl_c0, sl_c1, sl_c2, sl_c3, sl_c4, sl_c5, sl_c6, sl_c7, List.length_map, sp_lifeC, hf2.1, sp_lvC, r3]
  · rw [a3, hlen, a2]; rfl
  · rw [h3l]; exact s3
end
