/-! ===== the component's main class: questions that change nothing ===== -/
def sp_o : Int32 ⊕ Nat → Option Value ⊕ Nat
  | .inl v => .inl (some (.int v))
  | .inr e => .inr e
def sl_cs (ev : Nat → Nat) (x bd mach l : Nat) (pa : sp_PA) (N : List (Nat × sp_Node)) (B : List sp_Blk) (T : List Int32) (out : Int32) (m : sp_Mach) (L : List Int32) (b : sp_Bd) : List sl_A := sl_pt x (sp_xC pa mach bd) :: sl_bld ev bd mach pa b :: sl_pt mach (sp_machC m l) :: sl_pt l (64, L.map .int) :: sl_prog ev pa N B T out
theorem sp_at_of {v : Int32} {n : Nat} (hn : n < 2 ^ 31) (h : sp_at v (nI n) = true) : ∃ k, k < n ∧ v = nI k := by
  unfold sp_at at h
  rw [Bool.and_eq_true, decide_eq_true_eq, decide_eq_true_eq] at h
  rcases pk_ix v hn with g | g | g
  · exact absurd g (Int32.not_lt.mpr h.1)
  · exact absurd h.2 (Int32.not_lt.mpr g)
  · exact g
theorem sp_in_of {v lo : Int32} {n : Nat} (hn : n + 1 < 2 ^ 31) (hlo : 0 ≤ lo) (h : sp_in v lo (nI n) = true) : ∃ k, k < n + 1 ∧ v = nI k := by
  unfold sp_in at h
  rw [Bool.and_eq_true, decide_eq_true_eq, decide_eq_true_eq] at h
  have h0 : ¬ v < 0 := Int32.not_lt.mpr (Int32.le_trans hlo h.1)
  obtain ⟨j, hj, rfl⟩ := nI_of h0
  exact ⟨j, by have := (nI_leI hj (by omega)).mp h.2; omega, rfl⟩
theorem sp_pof_of (call : Int32) : ∀ (l : List sp_Op) (p : Nat) (n : Int32), sp_pof call l p n = -1 ∨ ∃ k, k < p + l.length ∧ sp_pof call l p n = nI k := by
  intro l
  induction l with
  | nil => intro p n; exact Or.inl rfl
  | cons o l ih =>
    intro p n
    unfold sp_pof
    have h1 : p + (o :: l).length = (p + 1) + l.length := by rw [List.length_cons]; omega
    rw [h1]
    split
    · split
      · exact Or.inr ⟨p, by omega, rfl⟩
      · exact ih _ _
    · exact ih _ _
def cA_chosen (b : sp_Bd) (p w : Int32) : Int32 ⊕ Nat := if sp_at p (nI b.1.length) = false then .inr 2 else if sp_in w 0 7 = false then .inr 0 else .inl ((sp_told (b.1.getD p.toNatClampNeg sp_oz)).getD w.toNatClampNeg 0)
def cA_ofValue (b : sp_Bd) (v w : Int32) : Int32 ⊕ Nat := if sp_plc b.2.1 v b.2.1.length = none then .inr 2 else if sp_in w 0 7 = false then .inr 0 else .inl ((sp_toldL b.1 (sp_lifeV b.2.1 v)).getD w.toNatClampNeg 0)
def cA_mapAt (b : sp_Bd) (call w : Int32) : Int32 ⊕ Nat := if call < 0 ∨ sp_pof call b.1 0 0 = -1 then .inr 2 else if sp_in w 0 3 = false then .inr 0 else .inl (sp_mapT b.1 b.2.1 (sp_pof call b.1 0 0).toNatClampNeg w.toNatClampNeg)
def cA_cost (q : sp_Q) (b : sp_Bd) (v : Int32) : Int32 ⊕ Nat := if sp_at v (nI q.1.length) = false then .inr 2 else .inl (sp_cg b.2.2.2.2.2 v)
def cA_code (b : sp_Bd) (k w : Int32) : Int32 ⊕ Nat := if sp_at k (nI b.2.2.1.length) = false then .inr 2 else if sp_in w 0 5 = false then .inr 0 else .inl ((sp_toldI (b.2.2.1.getD k.toNatClampNeg (0, 0, 0, 0, 0, 0, 0))).getD w.toNatClampNeg 0)
def cA_begins (b : sp_Bd) (k : Int32) : Int32 ⊕ Nat := if sp_at k (nI b.2.2.1.length) = false then .inr 2 else .inl (b.2.2.1.getD k.toNatClampNeg (0, 0, 0, 0, 0, 0, 0)).2.2.2.2.2.2
def cA_answer (q : sp_Q) (b : sp_Bd) (v : Int32) : Int32 ⊕ Nat := if sp_at v 8 = false then .inr 2 else if sp_has q.2.2.2.1 v = false then .inr 2 else .inl (sp_ans b.1 b.2.1 b.2.2.2.1 v)
def sp_manyT (q : sp_Q) (b : sp_Bd) (w : Nat) : Int32 := if w = 0 then nI q.1.length else if w = 1 then sp_free q.1 else if w = 2 then sp_stms q.2.1 4 else sp_manyB q.2.2.2.2.1 b w
def cA_many (q : sp_Q) (b : sp_Bd) (w : Int32) : Int32 ⊕ Nat := if sp_in w 0 15 = false then .inr 0 else .inl (sp_manyT q b w.toNatClampNeg)
def cA_meant (q : sp_Q) (v : Int32) : Int32 ⊕ Nat := if sp_at v 8 = false then .inr 2 else .inl ((sp_mnt q.1 q.2.1 q.2.2.1).getD v.toNatClampNeg 0)
section
variable {ev : Nat → Nat} {x bd mach l D d c s : Nat} {pa : sp_PA} {N : List (Nat × sp_Node)} {B : List sp_Blk} {T L : List Int32} {out : Int32} {m : sp_Mach} {b : sp_Bd} {F : List sl_A} {P : sw_P}
/-- what holds in a settled state -/
theorem sl_cs_rd (h : sl_st ev c s P (sl_cs ev x bd mach l pa N B T out m L b ++ F)) : sw_hp P x = some (sp_xC pa mach bd) ∧ sp_mach (sw_hp P) mach m L ∧ sl_rds (sw_hp P) (sl_prog ev pa N B T out) ∧ ∃ ol lv cl rn ca rq ra rb rs M Rw K, sp_bdF ev (sw_hp P) bd mach pa m L T out b ol lv cl rn ca rq ra rb rs M Rw K := by
  have h1 : sp_mach (sw_hp P) mach m L := ⟨l, h.get 2 rfl, h.get 3 rfl⟩
  have h2 : sl_rds (sw_hp P) (sl_prog ev pa N B T out) := (sl_rds_append.mp (show sl_rds (sw_hp P) (sl_prog ev pa N B T out ++ F) from h.rd.2.2.2.2)).1
  exact ⟨h.get 0 rfl, h1, h2, sp_bd_rd h1 h2 (h.at 1 rfl)⟩
theorem jc_X1_chosen {p w : Int32} (hD : 6 ≤ D) (hb : sp_bok T out b) (h : sl_st ev c s P (sl_cs ev x bd mach l pa N B T out m L b ++ F)) : ∃ P', sw_Z D m_X1_chosen [.ref x, .int p, .int w] P = some (sp_o (cA_chosen b p w), P') ∧ sl_st ev (c + 1) (s + 6) P' (sl_cs ev x bd mach l pa N B T out m L b ++ F) := by
  obtain ⟨d, hDe, hDn⟩ := sw_dep hD; subst hDe; replace hD := hDn; clear hDn
  obtain ⟨hx, hm, hp, ol, lv, cl, rn, ca, rq, ra, rb, rs, M, Rw, K, hF⟩ := sl_cs_rd h
  obtain ⟨hok, -⟩ := hb.1 M Rw hF.1 hF.2.1
  obtain ⟨k1, k2⟩ := sp_lv_olkd hF.2.2.2.2.1 (d := d) (by omega)
  have hMl : M.length = b.1.length := by rw [← hF.1, List.length_map]
  rw [hMl] at k2
  have hlt := hok.1
  have e1 := jc_X1_checkPlace (D := d) (P := P) (v := p) (n := nI b.1.length) (by omega)
  have e2 := jc_X1_mustBeIn (D := d) (P := P) (v := w) (lo := 0) (hi := 7) (by omega)
  unfold cA_chosen
  cases c1 : sp_at p (nI b.1.length)
  · rw [c1, sp_ck_f] at e1
    refine ⟨_, ?_, h.bump⟩
    rw [M_X1_chosen _ _ _ rfl]; simp only [at_X1_chosen_0, ey_ld, sk_ld_s, ey_gf, sk_gf_s, sk_v_s, ey_cv0, sk_c_s, ey_cs2, ex_push, ey_cs3, ey_cv2, ex_rv, sw_gl_0, sw_gl_s, sw_fx_n, sw_fx_i, sw_fx_r, sw_fx_0, sw_fx_l, sw_fx_d, sw_sl1_0, sw_sl1_1, sw_sl1_s, sw_no_0, sw_no_s, sw_no_e, sw_mk_t, sw_mk_f, sw_mk_e, sw_en_0, sw_en_n, sw_en_i, sw_en_r, sw_en_z, sw_en_l, sw_en_d, sw_ok_0, sw_ok_1, sw_ok_2, sw_ok_3, sw_ok_4, sw_bo_s, sw_oi_s, sw_cl_s, sw_cl_x, sw_psh_s, sw_psh_n, sw_kd_s, sw_op_s, sw_oc_s, sw_oc_e, sw_oa_s, sw_el_n, sw_el_r, sl_kds_1, sl_kds_67, sw_fit_i, sw_fit_r, sw_fit_n, sw_fit_l, sw_fit_d, sw_fit_b, sw_fit_0, sw_fit_1, sw_rel_0, sw_rel_1, sw_rel_2, sw_rel_3, sw_rel_4, sw_rel_5, sw_hp_set, sw_nx_set, sw_sl_set, sw_ev_set, sw_hp_new, sw_nx_new, sw_sl_new, sw_ev_new, List.getElem?_cons_zero, List.getElem?_cons_succ, List.set_cons_zero, List.set_cons_succ, List.length_cons, List.length_nil, Nat.reduceAdd, Nat.reduceSub, Nat.reduceLT, Nat.reduceLeDiff, Nat.zero_lt_succ, Nat.zero_add, beq_self_eq_true, Bool.true_and, and_true, true_and, and_self, not_true_eq_false, not_false_eq_true, ↓reduceIte, Nat.reduceBEq, eq_self, sw_b_0, sw_b_1, decide_eq_false_iff_not, decide_eq_true_eq, sl_n10, sl_n01, Decidable.not_not, sl_ct, sl_cats_0, sl_cats_i, sl_cats_r, sl_cats_n, sl_cats_l, sl_ok_5, sl_ok9, decide_true, sp_machC, sp_nodeC, sp_opC, sl_z0, sl_z1, sl_z2, sl_z3, sl_z4, sl_z5, sl_z6, sl_z7, sl_c0, sl_c1, sl_c2, sl_c3, sl_c4, sl_c5, sl_c6, sl_c7, List.length_map, sp_lifeC, sp_inC, sp_rnC, hx, sp_xC, hF.2.2.2.1, sp_bdC, k1, k2, e1, sw_cl_x, sp_o]
  · rw [c1, sp_ck_t] at e1
    rw [if_neg (by decide)]
    cases c2 : sp_in w 0 7
    · rw [c2, sp_ck_f] at e2
      refine ⟨_, ?_, h.bump⟩
      rw [M_X1_chosen _ _ _ rfl]; simp only [at_X1_chosen_0, ey_ld, sk_ld_s, ey_gf, sk_gf_s, sk_v_s, ey_cv0, sk_c_s, ey_cs2, ex_push, ey_cs3, ey_cv2, ex_rv, sw_gl_0, sw_gl_s, sw_fx_n, sw_fx_i, sw_fx_r, sw_fx_0, sw_fx_l, sw_fx_d, sw_sl1_0, sw_sl1_1, sw_sl1_s, sw_no_0, sw_no_s, sw_no_e, sw_mk_t, sw_mk_f, sw_mk_e, sw_en_0, sw_en_n, sw_en_i, sw_en_r, sw_en_z, sw_en_l, sw_en_d, sw_ok_0, sw_ok_1, sw_ok_2, sw_ok_3, sw_ok_4, sw_bo_s, sw_oi_s, sw_cl_s, sw_cl_x, sw_psh_s, sw_psh_n, sw_kd_s, sw_op_s, sw_oc_s, sw_oc_e, sw_oa_s, sw_el_n, sw_el_r, sl_kds_1, sl_kds_67, sw_fit_i, sw_fit_r, sw_fit_n, sw_fit_l, sw_fit_d, sw_fit_b, sw_fit_0, sw_fit_1, sw_rel_0, sw_rel_1, sw_rel_2, sw_rel_3, sw_rel_4, sw_rel_5, sw_hp_set, sw_nx_set, sw_sl_set, sw_ev_set, sw_hp_new, sw_nx_new, sw_sl_new, sw_ev_new, List.getElem?_cons_zero, List.getElem?_cons_succ, List.set_cons_zero, List.set_cons_succ, List.length_cons, List.length_nil, Nat.reduceAdd, Nat.reduceSub, Nat.reduceLT, Nat.reduceLeDiff, Nat.zero_lt_succ, Nat.zero_add, beq_self_eq_true, Bool.true_and, and_true, true_and, and_self, not_true_eq_false, not_false_eq_true, ↓reduceIte, Nat.reduceBEq, eq_self, sw_b_0, sw_b_1, decide_eq_false_iff_not, decide_eq_true_eq, sl_n10, sl_n01, Decidable.not_not, sl_ct, sl_cats_0, sl_cats_i, sl_cats_r, sl_cats_n, sl_cats_l, sl_ok_5, sl_ok9, decide_true, sp_machC, sp_nodeC, sp_opC, sl_z0, sl_z1, sl_z2, sl_z3, sl_z4, sl_z5, sl_z6, sl_z7, sl_c0, sl_c1, sl_c2, sl_c3, sl_c4, sl_c5, sl_c6, sl_c7, List.length_map, sp_lifeC, sp_inC, sp_rnC, hx, sp_xC, hF.2.2.2.1, sp_bdC, k1, k2, e1, e2, sw_cl_x, sp_o]
    · rw [c2, sp_ck_t] at e2
      rw [if_neg (by decide)]
      obtain ⟨pn, hpn, rfl⟩ := sp_at_of (by omega) c1
      obtain ⟨wn, hwn, rfl⟩ := sp_in_of (n := 7) (by omega) (by decide) c2
      have e3 := jc_X1_chosenNow (D := d) (p := pn) (w := wn) (by omega) hx hF hok hpn hwn
      rw [nI_clamp (by omega), nI_clamp (by omega)]
      refine ⟨_, ?_, h.wk (by omega) (by omega)⟩
      rw [M_X1_chosen _ _ _ rfl]; simp only [at_X1_chosen_0, ey_ld, sk_ld_s, ey_gf, sk_gf_s, sk_v_s, ey_cv0, sk_c_s, ey_cs2, ex_push, ey_cs3, ey_cv2, ex_rv, sw_gl_0, sw_gl_s, sw_fx_n, sw_fx_i, sw_fx_r, sw_fx_0, sw_fx_l, sw_fx_d, sw_sl1_0, sw_sl1_1, sw_sl1_s, sw_no_0, sw_no_s, sw_no_e, sw_mk_t, sw_mk_f, sw_mk_e, sw_en_0, sw_en_n, sw_en_i, sw_en_r, sw_en_z, sw_en_l, sw_en_d, sw_ok_0, sw_ok_1, sw_ok_2, sw_ok_3, sw_ok_4, sw_bo_s, sw_oi_s, sw_cl_s, sw_cl_x, sw_psh_s, sw_psh_n, sw_kd_s, sw_op_s, sw_oc_s, sw_oc_e, sw_oa_s, sw_el_n, sw_el_r, sl_kds_1, sl_kds_67, sw_fit_i, sw_fit_r, sw_fit_n, sw_fit_l, sw_fit_d, sw_fit_b, sw_fit_0, sw_fit_1, sw_rel_0, sw_rel_1, sw_rel_2, sw_rel_3, sw_rel_4, sw_rel_5, sw_hp_set, sw_nx_set, sw_sl_set, sw_ev_set, sw_hp_new, sw_nx_new, sw_sl_new, sw_ev_new, List.getElem?_cons_zero, List.getElem?_cons_succ, List.set_cons_zero, List.set_cons_succ, List.length_cons, List.length_nil, Nat.reduceAdd, Nat.reduceSub, Nat.reduceLT, Nat.reduceLeDiff, Nat.zero_lt_succ, Nat.zero_add, beq_self_eq_true, Bool.true_and, and_true, true_and, and_self, not_true_eq_false, not_false_eq_true, ↓reduceIte, Nat.reduceBEq, eq_self, sw_b_0, sw_b_1, decide_eq_false_iff_not, decide_eq_true_eq, sl_n10, sl_n01, Decidable.not_not, sl_ct, sl_cats_0, sl_cats_i, sl_cats_r, sl_cats_n, sl_cats_l, sl_ok_5, sl_ok9, decide_true, sp_machC, sp_nodeC, sp_opC, sl_z0, sl_z1, sl_z2, sl_z3, sl_z4, sl_z5, sl_z6, sl_z7, sl_c0, sl_c1, sl_c2, sl_c3, sl_c4, sl_c5, sl_c6, sl_c7, List.length_map, sp_lifeC, sp_inC, sp_rnC, hx, sp_xC, hF.2.2.2.1, sp_bdC, k1, k2, e1, e2, e3, sp_o]
theorem jc_X1_ofValue {v w : Int32} (hD : 7 ≤ D) (hb : sp_bok T out b) (h : sl_st ev c s P (sl_cs ev x bd mach l pa N B T out m L b ++ F)) : ∃ P', sw_Z D m_X1_ofValue [.ref x, .int v, .int w] P = some (sp_o (cA_ofValue b v w), P') ∧ sl_st ev (c + 1) (s + 6) P' (sl_cs ev x bd mach l pa N B T out m L b ++ F) := by
  obtain ⟨d, hDe, hDn⟩ := sw_dep hD; subst hDe; replace hD := hDn; clear hDn
  obtain ⟨hx, hm, hp, ol, lv, cl, rn, ca, rq, ra, rb, rs, M, Rw, K, hF⟩ := sl_cs_rd h
  obtain ⟨hok, -⟩ := hb.1 M Rw hF.1 hF.2.1
  obtain ⟨k1, k2⟩ := sp_lv_rwkd hF.2.2.2.2.1 (d := d) (by omega)
  have hRl : Rw.length = b.2.1.length := by rw [← hF.2.1, List.length_map]
  have hlt := hok.2.1
  have p1 := jc_X8_placeOf (D := d) (v := v) (by omega) hF.2.2.2.2.1 hok
  have e2 := jc_X1_mustBeIn (D := d) (P := P) (v := w) (lo := 0) (hi := 7) (by omega)
  unfold cA_ofValue
  rw [← hF.2.1, List.length_map]
  have hlv := hF.2.2.2.2.1.1
  cases c1 : sp_plc (Rw.map (·.2)) v Rw.length with
  | none =>
    rw [c1] at p1
    have e1 := jc_X1_checkPlace (D := d) (P := P) (v := sp_oi none) (n := nI Rw.length) (by omega)
    rw [show sp_at (sp_oi none) (nI Rw.length) = false from rfl, sp_ck_f] at e1
    rw [if_pos rfl]
    refine ⟨_, ?_, h.bump⟩
    rw [M_X1_ofValue _ _ _ rfl]; simp only [at_X1_ofValue_0, ey_ld, sk_ld_s, ey_gf, sk_gf_s, sk_v_s, ey_cv1, sk_c_s, ey_cv0, ey_cs2, ex_push, ey_cs3, ex_rv, sw_gl_0, sw_gl_s, sw_fx_n, sw_fx_i, sw_fx_r, sw_fx_0, sw_fx_l, sw_fx_d, sw_sl1_0, sw_sl1_1, sw_sl1_s, sw_no_0, sw_no_s, sw_no_e, sw_mk_t, sw_mk_f, sw_mk_e, sw_en_0, sw_en_n, sw_en_i, sw_en_r, sw_en_z, sw_en_l, sw_en_d, sw_ok_0, sw_ok_1, sw_ok_2, sw_ok_3, sw_ok_4, sw_bo_s, sw_oi_s, sw_cl_s, sw_cl_x, sw_psh_s, sw_psh_n, sw_kd_s, sw_op_s, sw_oc_s, sw_oc_e, sw_oa_s, sw_el_n, sw_el_r, sl_kds_1, sl_kds_67, sw_fit_i, sw_fit_r, sw_fit_n, sw_fit_l, sw_fit_d, sw_fit_b, sw_fit_0, sw_fit_1, sw_rel_0, sw_rel_1, sw_rel_2, sw_rel_3, sw_rel_4, sw_rel_5, sw_hp_set, sw_nx_set, sw_sl_set, sw_ev_set, sw_hp_new, sw_nx_new, sw_sl_new, sw_ev_new, List.getElem?_cons_zero, List.getElem?_cons_succ, List.set_cons_zero, List.set_cons_succ, List.length_cons, List.length_nil, Nat.reduceAdd, Nat.reduceSub, Nat.reduceLT, Nat.reduceLeDiff, Nat.zero_lt_succ, Nat.zero_add, beq_self_eq_true, Bool.true_and, and_true, true_and, and_self, not_true_eq_false, not_false_eq_true, ↓reduceIte, Nat.reduceBEq, eq_self, sw_b_0, sw_b_1, decide_eq_false_iff_not, decide_eq_true_eq, sl_n10, sl_n01, Decidable.not_not, sl_ct, sl_cats_0, sl_cats_i, sl_cats_r, sl_cats_n, sl_cats_l, sl_ok_5, sl_ok9, decide_true, sp_machC, sp_nodeC, sp_opC, sl_z0, sl_z1, sl_z2, sl_z3, sl_z4, sl_z5, sl_z6, sl_z7, sl_c0, sl_c1, sl_c2, sl_c3, sl_c4, sl_c5, sl_c6, sl_c7, List.length_map, sp_lifeC, sp_inC, sp_rnC, hx, sp_xC, hF.2.2.2.1, sp_bdC, hlv, sp_lvC, k1, k2, p1, e1, sw_cl_x, sp_o]
  | some k =>
    rw [c1] at p1
    have hkl : k < Rw.length := (sp_plc_lt _ _ _ c1).1
    have e1 := jc_X1_checkPlace (D := d) (P := P) (v := sp_oi (some k)) (n := nI Rw.length) (by omega)
    have q1 : sp_at (sp_oi (some k)) (nI Rw.length) = true := by
      show (decide (0 ≤ nI k) && decide (nI k < nI Rw.length)) = true
      rw [decide_eq_true (nI_pos' (by omega)), decide_eq_true (nI_lt hkl (by omega))]; rfl
    rw [q1, sp_ck_t] at e1
    rw [if_neg (by intro q; cases q)]
    cases c2 : sp_in w 0 7
    · rw [c2, sp_ck_f] at e2
      rw [if_pos rfl]
      refine ⟨_, ?_, h.bump⟩
      rw [M_X1_ofValue _ _ _ rfl]; simp only [at_X1_ofValue_0, ey_ld, sk_ld_s, ey_gf, sk_gf_s, sk_v_s, ey_cv1, sk_c_s, ey_cv0, ey_cs2, ex_push, ey_cs3, ex_rv, sw_gl_0, sw_gl_s, sw_fx_n, sw_fx_i, sw_fx_r, sw_fx_0, sw_fx_l, sw_fx_d, sw_sl1_0, sw_sl1_1, sw_sl1_s, sw_no_0, sw_no_s, sw_no_e, sw_mk_t, sw_mk_f, sw_mk_e, sw_en_0, sw_en_n, sw_en_i, sw_en_r, sw_en_z, sw_en_l, sw_en_d, sw_ok_0, sw_ok_1, sw_ok_2, sw_ok_3, sw_ok_4, sw_bo_s, sw_oi_s, sw_cl_s, sw_cl_x, sw_psh_s, sw_psh_n, sw_kd_s, sw_op_s, sw_oc_s, sw_oc_e, sw_oa_s, sw_el_n, sw_el_r, sl_kds_1, sl_kds_67, sw_fit_i, sw_fit_r, sw_fit_n, sw_fit_l, sw_fit_d, sw_fit_b, sw_fit_0, sw_fit_1, sw_rel_0, sw_rel_1, sw_rel_2, sw_rel_3, sw_rel_4, sw_rel_5, sw_hp_set, sw_nx_set, sw_sl_set, sw_ev_set, sw_hp_new, sw_nx_new, sw_sl_new, sw_ev_new, List.getElem?_cons_zero, List.getElem?_cons_succ, List.set_cons_zero, List.set_cons_succ, List.length_cons, List.length_nil, Nat.reduceAdd, Nat.reduceSub, Nat.reduceLT, Nat.reduceLeDiff, Nat.zero_lt_succ, Nat.zero_add, beq_self_eq_true, Bool.true_and, and_true, true_and, and_self, not_true_eq_false, not_false_eq_true, ↓reduceIte, Nat.reduceBEq, eq_self, sw_b_0, sw_b_1, decide_eq_false_iff_not, decide_eq_true_eq, sl_n10, sl_n01, Decidable.not_not, sl_ct, sl_cats_0, sl_cats_i, sl_cats_r, sl_cats_n, sl_cats_l, sl_ok_5, sl_ok9, decide_true, sp_machC, sp_nodeC, sp_opC, sl_z0, sl_z1, sl_z2, sl_z3, sl_z4, sl_z5, sl_z6, sl_z7, sl_c0, sl_c1, sl_c2, sl_c3, sl_c4, sl_c5, sl_c6, sl_c7, List.length_map, sp_lifeC, sp_inC, sp_rnC, hx, sp_xC, hF.2.2.2.1, sp_bdC, hlv, sp_lvC, k1, k2, p1, e1, e2, sw_cl_x, sp_o]
    · rw [c2, sp_ck_t] at e2
      rw [if_neg (by decide)]
      obtain ⟨wn, hwn, rfl⟩ := sp_in_of (n := 7) (by omega) (by decide) c2
      have e3 := jc_X8_of (D := d) (by omega) hF.2.2.2.2.1 hok c1 hkl
      obtain ⟨-, g2, g3⟩ := sp_lv_row hF.2.2.2.2.1 hok (d := d) (by omega) hkl
      have hy := hok.2.2.2.2 Rw[k] (List.getElem_mem hkl)
      obtain ⟨r, f1, f2, f3⟩ := sp_lv_1st hF.2.2.2.2.1 hy.1
      rw [g3] at g2
      have e4 := jc_X1_lifeNow (D := d) (w := wn) (by omega) g2 hy.2.2.2 f1 hwn
      have ex : sp_lifeV (Rw.map (·.2)) v = Rw[k].2 := by unfold sp_lifeV; rw [List.length_map, c1]; exact g3
      rw [nI_clamp (by omega), ex, ← hF.1]
      refine ⟨_, ?_, h.wk (by omega) (by omega)⟩
      rw [M_X1_ofValue _ _ _ rfl]; simp only [at_X1_ofValue_0, ey_ld, sk_ld_s, ey_gf, sk_gf_s, sk_v_s, ey_cv1, sk_c_s, ey_cv0, ey_cs2, ex_push, ey_cs3, ex_rv, sw_gl_0, sw_gl_s, sw_fx_n, sw_fx_i, sw_fx_r, sw_fx_0, sw_fx_l, sw_fx_d, sw_sl1_0, sw_sl1_1, sw_sl1_s, sw_no_0, sw_no_s, sw_no_e, sw_mk_t, sw_mk_f, sw_mk_e, sw_en_0, sw_en_n, sw_en_i, sw_en_r, sw_en_z, sw_en_l, sw_en_d, sw_ok_0, sw_ok_1, sw_ok_2, sw_ok_3, sw_ok_4, sw_bo_s, sw_oi_s, sw_cl_s, sw_cl_x, sw_psh_s, sw_psh_n, sw_kd_s, sw_op_s, sw_oc_s, sw_oc_e, sw_oa_s, sw_el_n, sw_el_r, sl_kds_1, sl_kds_67, sw_fit_i, sw_fit_r, sw_fit_n, sw_fit_l, sw_fit_d, sw_fit_b, sw_fit_0, sw_fit_1, sw_rel_0, sw_rel_1, sw_rel_2, sw_rel_3, sw_rel_4, sw_rel_5, sw_hp_set, sw_nx_set, sw_sl_set, sw_ev_set, sw_hp_new, sw_nx_new, sw_sl_new, sw_ev_new, List.getElem?_cons_zero, List.getElem?_cons_succ, List.set_cons_zero, List.set_cons_succ, List.length_cons, List.length_nil, Nat.reduceAdd, Nat.reduceSub, Nat.reduceLT, Nat.reduceLeDiff, Nat.zero_lt_succ, Nat.zero_add, beq_self_eq_true, Bool.true_and, and_true, true_and, and_self, not_true_eq_false, not_false_eq_true, ↓reduceIte, Nat.reduceBEq, eq_self, sw_b_0, sw_b_1, decide_eq_false_iff_not, decide_eq_true_eq, sl_n10, sl_n01, Decidable.not_not, sl_ct, sl_cats_0, sl_cats_i, sl_cats_r, sl_cats_n, sl_cats_l, sl_ok_5, sl_ok9, decide_true, sp_machC, sp_nodeC, sp_opC, sl_z0, sl_z1, sl_z2, sl_z3, sl_z4, sl_z5, sl_z6, sl_z7, sl_c0, sl_c1, sl_c2, sl_c3, sl_c4, sl_c5, sl_c6, sl_c7, List.length_map, sp_lifeC, sp_inC, sp_rnC, hx, sp_xC, hF.2.2.2.1, sp_bdC, hlv, sp_lvC, k1, k2, p1, e1, e2, e3, e4, sp_o]
theorem jc_X1_mapAt {call w : Int32} (hD : 6 ≤ D) (hb : sp_bok T out b) (h : sl_st ev c s P (sl_cs ev x bd mach l pa N B T out m L b ++ F)) : ∃ P', sw_Z D m_X1_mapAt [.ref x, .int call, .int w] P = some (sp_o (cA_mapAt b call w), P') ∧ sl_st ev (c + 1) (s + 6) P' (sl_cs ev x bd mach l pa N B T out m L b ++ F) := by
  obtain ⟨d, hDe, hDn⟩ := sw_dep hD; subst hDe; replace hD := hDn; clear hDn
  obtain ⟨hx, hm, hp, ol, lv, cl, rn, ca, rq, ra, rb, rs, M, Rw, K, hF⟩ := sl_cs_rd h
  obtain ⟨hok, -⟩ := hb.1 M Rw hF.1 hF.2.1
  have p1 := jc_X1_pointOf (D := d) (call := call) (by omega) hx hF hok
  have e2 := jc_X1_mustBeIn (D := d) (P := P) (v := w) (lo := 0) (hi := 3) (by omega)
  have hoM : b.1.length < 200 := by rw [← hF.1, List.length_map]; exact hok.1
  unfold cA_mapAt
  by_cases c0 : call < 0
  · rw [if_pos (Or.inl c0)]
    refine ⟨_, ?_, h.bump⟩
    have c0' : ¬ 0 ≤ call := Int32.not_le.mpr c0
    rw [M_X1_mapAt _ _ _ rfl]; simp only [at_X1_mapAt_0, at_X1_mapAt_1, at_X1_mapAt_2, at_X1_mapAt_3, ey_ld, sk_ld_s, ex_iz, ex_push, ex_goto, ey_cv1, sk_c_s, ex_sti, ex_ic, ex_thx, ey_cs3, ey_cv2, ex_rv, sw_gl_0, sw_gl_s, sw_fx_n, sw_fx_i, sw_fx_r, sw_fx_0, sw_fx_l, sw_fx_d, sw_sl1_0, sw_sl1_1, sw_sl1_s, sw_no_0, sw_no_s, sw_no_e, sw_mk_t, sw_mk_f, sw_mk_e, sw_en_0, sw_en_n, sw_en_i, sw_en_r, sw_en_z, sw_en_l, sw_en_d, sw_ok_0, sw_ok_1, sw_ok_2, sw_ok_3, sw_ok_4, sw_bo_s, sw_oi_s, sw_cl_s, sw_cl_x, sw_psh_s, sw_psh_n, sw_kd_s, sw_op_s, sw_oc_s, sw_oc_e, sw_oa_s, sw_el_n, sw_el_r, sl_kds_1, sl_kds_67, sw_fit_i, sw_fit_r, sw_fit_n, sw_fit_l, sw_fit_d, sw_fit_b, sw_fit_0, sw_fit_1, sw_rel_0, sw_rel_1, sw_rel_2, sw_rel_3, sw_rel_4, sw_rel_5, sw_hp_set, sw_nx_set, sw_sl_set, sw_ev_set, sw_hp_new, sw_nx_new, sw_sl_new, sw_ev_new, List.getElem?_cons_zero, List.getElem?_cons_succ, List.set_cons_zero, List.set_cons_succ, List.length_cons, List.length_nil, Nat.reduceAdd, Nat.reduceSub, Nat.reduceLT, Nat.reduceLeDiff, Nat.zero_lt_succ, Nat.zero_add, beq_self_eq_true, Bool.true_and, and_true, true_and, and_self, not_true_eq_false, not_false_eq_true, ↓reduceIte, Nat.reduceBEq, eq_self, sw_b_0, sw_b_1, decide_eq_false_iff_not, decide_eq_true_eq, sl_n10, sl_n01, Decidable.not_not, sl_ct, sl_cats_0, sl_cats_i, sl_cats_r, sl_cats_n, sl_cats_l, sl_ok_5, sl_ok9, decide_true, sp_machC, sp_nodeC, sp_opC, sl_z0, sl_z1, sl_z2, sl_z3, sl_z4, sl_z5, sl_z6, sl_z7, sl_c0, sl_c1, sl_c2, sl_c3, sl_c4, sl_c5, sl_c6, sl_c7, List.length_map, sp_lifeC, sp_inC, sp_rnC, eq_false c0', sp_o]
  · have c0' : 0 ≤ call := Int32.not_lt.mp c0
    rcases sp_pof_of call b.1 0 0 with q | ⟨k, hk, q⟩
    · rw [if_pos (Or.inr q)]
      rw [q] at p1
      refine ⟨_, ?_, h.bump⟩
      rw [M_X1_mapAt _ _ _ rfl]; simp only [at_X1_mapAt_0, at_X1_mapAt_1, at_X1_mapAt_2, at_X1_mapAt_3, ey_ld, sk_ld_s, ex_iz, ex_push, ex_goto, ey_cv1, sk_c_s, ex_sti, ex_ic, ex_thx, ey_cs3, ey_cv2, ex_rv, sw_gl_0, sw_gl_s, sw_fx_n, sw_fx_i, sw_fx_r, sw_fx_0, sw_fx_l, sw_fx_d, sw_sl1_0, sw_sl1_1, sw_sl1_s, sw_no_0, sw_no_s, sw_no_e, sw_mk_t, sw_mk_f, sw_mk_e, sw_en_0, sw_en_n, sw_en_i, sw_en_r, sw_en_z, sw_en_l, sw_en_d, sw_ok_0, sw_ok_1, sw_ok_2, sw_ok_3, sw_ok_4, sw_bo_s, sw_oi_s, sw_cl_s, sw_cl_x, sw_psh_s, sw_psh_n, sw_kd_s, sw_op_s, sw_oc_s, sw_oc_e, sw_oa_s, sw_el_n, sw_el_r, sl_kds_1, sl_kds_67, sw_fit_i, sw_fit_r, sw_fit_n, sw_fit_l, sw_fit_d, sw_fit_b, sw_fit_0, sw_fit_1, sw_rel_0, sw_rel_1, sw_rel_2, sw_rel_3, sw_rel_4, sw_rel_5, sw_hp_set, sw_nx_set, sw_sl_set, sw_ev_set, sw_hp_new, sw_nx_new, sw_sl_new, sw_ev_new, List.getElem?_cons_zero, List.getElem?_cons_succ, List.set_cons_zero, List.set_cons_succ, List.length_cons, List.length_nil, Nat.reduceAdd, Nat.reduceSub, Nat.reduceLT, Nat.reduceLeDiff, Nat.zero_lt_succ, Nat.zero_add, beq_self_eq_true, Bool.true_and, and_true, true_and, and_self, not_true_eq_false, not_false_eq_true, ↓reduceIte, Nat.reduceBEq, eq_self, sw_b_0, sw_b_1, decide_eq_false_iff_not, decide_eq_true_eq, sl_n10, sl_n01, Decidable.not_not, sl_ct, sl_cats_0, sl_cats_i, sl_cats_r, sl_cats_n, sl_cats_l, sl_ok_5, sl_ok9, decide_true, sp_machC, sp_nodeC, sp_opC, sl_z0, sl_z1, sl_z2, sl_z3, sl_z4, sl_z5, sl_z6, sl_z7, sl_c0, sl_c1, sl_c2, sl_c3, sl_c4, sl_c5, sl_c6, sl_c7, List.length_map, sp_lifeC, sp_inC, sp_rnC, eq_true c0', hx, sp_xC, p1, sp_o]
    · rw [q] at p1 ⊢
      have qn : ¬ nI k = -1 := fun e => by
        have := nI_pos (n := k) (by omega)
        rw [e] at this; exact this (by decide)
      rw [if_neg (fun z => z.elim c0 qn)]
      cases c2 : sp_in w 0 3
      · rw [c2, sp_ck_f] at e2
        rw [if_pos rfl]
        refine ⟨_, ?_, h.bump⟩
        rw [M_X1_mapAt _ _ _ rfl]; simp only [at_X1_mapAt_0, at_X1_mapAt_1, at_X1_mapAt_2, at_X1_mapAt_3, ey_ld, sk_ld_s, ex_iz, ex_push, ex_goto, ey_cv1, sk_c_s, ex_sti, ex_ic, ex_thx, ey_cs3, ey_cv2, ex_rv, sw_gl_0, sw_gl_s, sw_fx_n, sw_fx_i, sw_fx_r, sw_fx_0, sw_fx_l, sw_fx_d, sw_sl1_0, sw_sl1_1, sw_sl1_s, sw_no_0, sw_no_s, sw_no_e, sw_mk_t, sw_mk_f, sw_mk_e, sw_en_0, sw_en_n, sw_en_i, sw_en_r, sw_en_z, sw_en_l, sw_en_d, sw_ok_0, sw_ok_1, sw_ok_2, sw_ok_3, sw_ok_4, sw_bo_s, sw_oi_s, sw_cl_s, sw_cl_x, sw_psh_s, sw_psh_n, sw_kd_s, sw_op_s, sw_oc_s, sw_oc_e, sw_oa_s, sw_el_n, sw_el_r, sl_kds_1, sl_kds_67, sw_fit_i, sw_fit_r, sw_fit_n, sw_fit_l, sw_fit_d, sw_fit_b, sw_fit_0, sw_fit_1, sw_rel_0, sw_rel_1, sw_rel_2, sw_rel_3, sw_rel_4, sw_rel_5, sw_hp_set, sw_nx_set, sw_sl_set, sw_ev_set, sw_hp_new, sw_nx_new, sw_sl_new, sw_ev_new, List.getElem?_cons_zero, List.getElem?_cons_succ, List.set_cons_zero, List.set_cons_succ, List.length_cons, List.length_nil, Nat.reduceAdd, Nat.reduceSub, Nat.reduceLT, Nat.reduceLeDiff, Nat.zero_lt_succ, Nat.zero_add, beq_self_eq_true, Bool.true_and, and_true, true_and, and_self, not_true_eq_false, not_false_eq_true, ↓reduceIte, Nat.reduceBEq, eq_self, sw_b_0, sw_b_1, decide_eq_false_iff_not, decide_eq_true_eq, sl_n10, sl_n01, Decidable.not_not, sl_ct, sl_cats_0, sl_cats_i, sl_cats_r, sl_cats_n, sl_cats_l, sl_ok_5, sl_ok9, decide_true, sp_machC, sp_nodeC, sp_opC, sl_z0, sl_z1, sl_z2, sl_z3, sl_z4, sl_z5, sl_z6, sl_z7, sl_c0, sl_c1, sl_c2, sl_c3, sl_c4, sl_c5, sl_c6, sl_c7, List.length_map, sp_lifeC, sp_inC, sp_rnC, eq_true c0', hx, sp_xC, p1, eq_false qn, e2, sw_cl_x, sp_o]
      · rw [c2, sp_ck_t] at e2
        rw [if_neg (by decide)]
        obtain ⟨wn, hwn, rfl⟩ := sp_in_of (n := 3) (by omega) (by decide) c2
        have e3 := jc_X1_mapNow (D := d) (p := k) (w := wn) (by omega) hx hF hok hwn
        rw [nI_clamp (by omega), nI_clamp (by omega)]
        refine ⟨_, ?_, h.wk (by omega) (by omega)⟩
        rw [M_X1_mapAt _ _ _ rfl]; simp only [at_X1_mapAt_0, at_X1_mapAt_1, at_X1_mapAt_2, at_X1_mapAt_3, ey_ld, sk_ld_s, ex_iz, ex_push, ex_goto, ey_cv1, sk_c_s, ex_sti, ex_ic, ex_thx, ey_cs3, ey_cv2, ex_rv, sw_gl_0, sw_gl_s, sw_fx_n, sw_fx_i, sw_fx_r, sw_fx_0, sw_fx_l, sw_fx_d, sw_sl1_0, sw_sl1_1, sw_sl1_s, sw_no_0, sw_no_s, sw_no_e, sw_mk_t, sw_mk_f, sw_mk_e, sw_en_0, sw_en_n, sw_en_i, sw_en_r, sw_en_z, sw_en_l, sw_en_d, sw_ok_0, sw_ok_1, sw_ok_2, sw_ok_3, sw_ok_4, sw_bo_s, sw_oi_s, sw_cl_s, sw_cl_x, sw_psh_s, sw_psh_n, sw_kd_s, sw_op_s, sw_oc_s, sw_oc_e, sw_oa_s, sw_el_n, sw_el_r, sl_kds_1, sl_kds_67, sw_fit_i, sw_fit_r, sw_fit_n, sw_fit_l, sw_fit_d, sw_fit_b, sw_fit_0, sw_fit_1, sw_rel_0, sw_rel_1, sw_rel_2, sw_rel_3, sw_rel_4, sw_rel_5, sw_hp_set, sw_nx_set, sw_sl_set, sw_ev_set, sw_hp_new, sw_nx_new, sw_sl_new, sw_ev_new, List.getElem?_cons_zero, List.getElem?_cons_succ, List.set_cons_zero, List.set_cons_succ, List.length_cons, List.length_nil, Nat.reduceAdd, Nat.reduceSub, Nat.reduceLT, Nat.reduceLeDiff, Nat.zero_lt_succ, Nat.zero_add, beq_self_eq_true, Bool.true_and, and_true, true_and, and_self, not_true_eq_false, not_false_eq_true, ↓reduceIte, Nat.reduceBEq, eq_self, sw_b_0, sw_b_1, decide_eq_false_iff_not, decide_eq_true_eq, sl_n10, sl_n01, Decidable.not_not, sl_ct, sl_cats_0, sl_cats_i, sl_cats_r, sl_cats_n, sl_cats_l, sl_ok_5, sl_ok9, decide_true, sp_machC, sp_nodeC, sp_opC, sl_z0, sl_z1, sl_z2, sl_z3, sl_z4, sl_z5, sl_z6, sl_z7, sl_c0, sl_c1, sl_c2, sl_c3, sl_c4, sl_c5, sl_c6, sl_c7, List.length_map, sp_lifeC, sp_inC, sp_rnC, eq_true c0', hx, sp_xC, p1, eq_false qn, e2, e3, sp_o]
theorem jc_X1_cost {v : Int32} (hD : 6 ≤ D) (hN : N.length ≤ 80) (hc : b.2.2.2.2.2.length = N.length) (h : sl_st ev c s P (sl_cs ev x bd mach l pa N B T out m L b ++ F)) : ∃ P', sw_Z D m_X1_cost [.ref x, .int v] P = some (sp_o (cA_cost (N.map (·.2), B.map (fun y => y.2.map (·.2)), T, out, m, L) b v), P') ∧ sl_st ev (c + 1) (s + 6) P' (sl_cs ev x bd mach l pa N B T out m L b ++ F) := by
  obtain ⟨d, hDe, hDn⟩ := sw_dep hD; subst hDe; replace hD := hDn; clear hDn
  obtain ⟨hx, hm, hp, ol, lv, cl, rn, ca, rq, ra, rb, rs, M, Rw, K, hF⟩ := sl_cs_rd h
  have h0 := sl_rd_pt.mp (sl_rds_at hp 0 rfl)
  have s1 := jc_J2_sizeR (D := d) (by omega) (sl_rds_at hp 1 rfl)
  obtain ⟨_, _, _, _, s3, _⟩ := sl_rd_lx (sl_rds_at hp 1 rfl)
  rw [List.length_map] at s1
  have e1 := jc_X1_checkPlace (D := d) (P := P) (v := v) (n := nI N.length) (by omega)
  unfold cA_cost
  dsimp only
  rw [List.length_map]
  cases c1 : sp_at v (nI N.length)
  · rw [c1, sp_ck_f] at e1
    rw [if_pos rfl]
    refine ⟨_, ?_, h.bump⟩
    rw [M_X1_cost _ _ _ rfl]; simp only [at_X1_cost_0, ey_ld, sk_ld_s, ey_gf, sk_gf_s, sk_v_s, ey_cv0, sk_c_s, ey_cs2, ey_ald, sk_ald_s, ex_rv, sw_gl_0, sw_gl_s, sw_fx_n, sw_fx_i, sw_fx_r, sw_fx_0, sw_fx_l, sw_fx_d, sw_sl1_0, sw_sl1_1, sw_sl1_s, sw_no_0, sw_no_s, sw_no_e, sw_mk_t, sw_mk_f, sw_mk_e, sw_en_0, sw_en_n, sw_en_i, sw_en_r, sw_en_z, sw_en_l, sw_en_d, sw_ok_0, sw_ok_1, sw_ok_2, sw_ok_3, sw_ok_4, sw_bo_s, sw_oi_s, sw_cl_s, sw_cl_x, sw_psh_s, sw_psh_n, sw_kd_s, sw_op_s, sw_oc_s, sw_oc_e, sw_oa_s, sw_el_n, sw_el_r, sl_kds_1, sl_kds_67, sw_fit_i, sw_fit_r, sw_fit_n, sw_fit_l, sw_fit_d, sw_fit_b, sw_fit_0, sw_fit_1, sw_rel_0, sw_rel_1, sw_rel_2, sw_rel_3, sw_rel_4, sw_rel_5, sw_hp_set, sw_nx_set, sw_sl_set, sw_ev_set, sw_hp_new, sw_nx_new, sw_sl_new, sw_ev_new, List.getElem?_cons_zero, List.getElem?_cons_succ, List.set_cons_zero, List.set_cons_succ, List.length_cons, List.length_nil, Nat.reduceAdd, Nat.reduceSub, Nat.reduceLT, Nat.reduceLeDiff, Nat.zero_lt_succ, Nat.zero_add, beq_self_eq_true, Bool.true_and, and_true, true_and, and_self, not_true_eq_false, not_false_eq_true, ↓reduceIte, Nat.reduceBEq, eq_self, sw_b_0, sw_b_1, decide_eq_false_iff_not, decide_eq_true_eq, sl_n10, sl_n01, Decidable.not_not, sl_ct, sl_cats_0, sl_cats_i, sl_cats_r, sl_cats_n, sl_cats_l, sl_ok_5, sl_ok9, decide_true, sp_machC, sp_nodeC, sp_opC, sl_z0, sl_z1, sl_z2, sl_z3, sl_z4, sl_z5, sl_z6, sl_z7, sl_c0, sl_c1, sl_c2, sl_c3, sl_c4, sl_c5, sl_c6, sl_c7, List.length_map, sp_lifeC, sp_inC, sp_rnC, hx, sp_xC, h0, s1, s3, e1, sw_cl_x, sp_o]
  · rw [c1, sp_ck_t] at e1
    rw [if_neg (by decide)]
    obtain ⟨k, hk, rfl⟩ := sp_at_of (by omega) c1
    have t1 : (nI k).toNatClampNeg = k := nI_clamp (by omega)
    have t2 : ¬ nI k < 0 := nI_pos (by omega)
    have t3 : (b.2.2.2.2.2.map Value.int)[k]? = some (.int (sp_cg b.2.2.2.2.2 (nI k))) := by
      rw [List.getElem?_map, List.getElem?_eq_getElem (by omega : k < b.2.2.2.2.2.length), sp_cg, t1, sp_getD (List.getElem?_eq_getElem (by omega : k < b.2.2.2.2.2.length))]; rfl
    refine ⟨_, ?_, h.wk (by omega) (by omega)⟩
    rw [M_X1_cost _ _ _ rfl]; simp only [at_X1_cost_0, ey_ld, sk_ld_s, ey_gf, sk_gf_s, sk_v_s, ey_cv0, sk_c_s, ey_cs2, ey_ald, sk_ald_s, ex_rv, sw_gl_0, sw_gl_s, sw_fx_n, sw_fx_i, sw_fx_r, sw_fx_0, sw_fx_l, sw_fx_d, sw_sl1_0, sw_sl1_1, sw_sl1_s, sw_no_0, sw_no_s, sw_no_e, sw_mk_t, sw_mk_f, sw_mk_e, sw_en_0, sw_en_n, sw_en_i, sw_en_r, sw_en_z, sw_en_l, sw_en_d, sw_ok_0, sw_ok_1, sw_ok_2, sw_ok_3, sw_ok_4, sw_bo_s, sw_oi_s, sw_cl_s, sw_cl_x, sw_psh_s, sw_psh_n, sw_kd_s, sw_op_s, sw_oc_s, sw_oc_e, sw_oa_s, sw_el_n, sw_el_r, sl_kds_1, sl_kds_67, sw_fit_i, sw_fit_r, sw_fit_n, sw_fit_l, sw_fit_d, sw_fit_b, sw_fit_0, sw_fit_1, sw_rel_0, sw_rel_1, sw_rel_2, sw_rel_3, sw_rel_4, sw_rel_5, sw_hp_set, sw_nx_set, sw_sl_set, sw_ev_set, sw_hp_new, sw_nx_new, sw_sl_new, sw_ev_new, List.getElem?_cons_zero, List.getElem?_cons_succ, List.set_cons_zero, List.set_cons_succ, List.length_cons, List.length_nil, Nat.reduceAdd, Nat.reduceSub, Nat.reduceLT, Nat.reduceLeDiff, Nat.zero_lt_succ, Nat.zero_add, beq_self_eq_true, Bool.true_and, and_true, true_and, and_self, not_true_eq_false, not_false_eq_true, ↓reduceIte, Nat.reduceBEq, eq_self, sw_b_0, sw_b_1, decide_eq_false_iff_not, decide_eq_true_eq, sl_n10, sl_n01, Decidable.not_not, sl_ct, sl_cats_0, sl_cats_i, sl_cats_r, sl_cats_n, sl_cats_l, sl_ok_5, sl_ok9, decide_true, sp_machC, sp_nodeC, sp_opC, sl_z0, sl_z1, sl_z2, sl_z3, sl_z4, sl_z5, sl_z6, sl_z7, sl_c0, sl_c1, sl_c2, sl_c3, sl_c4, sl_c5, sl_c6, sl_c7, List.length_map, sp_lifeC, sp_inC, sp_rnC, hx, sp_xC, h0, s1, s3, e1, hF.2.2.2.1, sp_bdC, hF.2.2.2.2.2.2.2.2.2.2, t1, t2, t3, sp_o]
theorem jc_X1_code {k w : Int32} (hD : 6 ≤ D) (hb : b.2.2.1.length < 1000) (h : sl_st ev c s P (sl_cs ev x bd mach l pa N B T out m L b ++ F)) : ∃ P', sw_Z D m_X1_code [.ref x, .int k, .int w] P = some (sp_o (cA_code b k w), P') ∧ sl_st ev (c + 1) (s + 6) P' (sl_cs ev x bd mach l pa N B T out m L b ++ F) := by
  obtain ⟨d, hDe, hDn⟩ := sw_dep hD; subst hDe; replace hD := hDn; clear hDn
  obtain ⟨hx, hm, hp, ol, lv, cl, rn, ca, rq, ra, rb, rs, M, Rw, K, hF⟩ := sl_cs_rd h
  have s1 := jc_J2_sizeR (D := d) (by omega) hF.2.2.2.2.2.2.2.2.1
  obtain ⟨_, _, _, _, s3, _⟩ := sl_rd_lx hF.2.2.2.2.2.2.2.2.1
  have hKl : K.length = b.2.2.1.length := by rw [← hF.2.2.1, List.length_map]
  rw [List.length_map, hKl] at s1
  have e1 := jc_X1_checkPlace (D := d) (P := P) (v := k) (n := nI b.2.2.1.length) (by omega)
  have e2 := jc_X1_mustBeIn (D := d) (P := P) (v := w) (lo := 0) (hi := 5) (by omega)
  unfold cA_code
  cases c1 : sp_at k (nI b.2.2.1.length)
  · rw [c1, sp_ck_f] at e1
    rw [if_pos rfl]
    refine ⟨_, ?_, h.bump⟩
    rw [M_X1_code _ _ _ rfl]; simp only [at_X1_code_0, ey_ld, sk_ld_s, ey_gf, sk_gf_s, sk_v_s, ey_cv0, sk_c_s, ey_cs2, ex_push, ey_cs3, ey_cv2, ex_rv, sw_gl_0, sw_gl_s, sw_fx_n, sw_fx_i, sw_fx_r, sw_fx_0, sw_fx_l, sw_fx_d, sw_sl1_0, sw_sl1_1, sw_sl1_s, sw_no_0, sw_no_s, sw_no_e, sw_mk_t, sw_mk_f, sw_mk_e, sw_en_0, sw_en_n, sw_en_i, sw_en_r, sw_en_z, sw_en_l, sw_en_d, sw_ok_0, sw_ok_1, sw_ok_2, sw_ok_3, sw_ok_4, sw_bo_s, sw_oi_s, sw_cl_s, sw_cl_x, sw_psh_s, sw_psh_n, sw_kd_s, sw_op_s, sw_oc_s, sw_oc_e, sw_oa_s, sw_el_n, sw_el_r, sl_kds_1, sl_kds_67, sw_fit_i, sw_fit_r, sw_fit_n, sw_fit_l, sw_fit_d, sw_fit_b, sw_fit_0, sw_fit_1, sw_rel_0, sw_rel_1, sw_rel_2, sw_rel_3, sw_rel_4, sw_rel_5, sw_hp_set, sw_nx_set, sw_sl_set, sw_ev_set, sw_hp_new, sw_nx_new, sw_sl_new, sw_ev_new, List.getElem?_cons_zero, List.getElem?_cons_succ, List.set_cons_zero, List.set_cons_succ, List.length_cons, List.length_nil, Nat.reduceAdd, Nat.reduceSub, Nat.reduceLT, Nat.reduceLeDiff, Nat.zero_lt_succ, Nat.zero_add, beq_self_eq_true, Bool.true_and, and_true, true_and, and_self, not_true_eq_false, not_false_eq_true, ↓reduceIte, Nat.reduceBEq, eq_self, sw_b_0, sw_b_1, decide_eq_false_iff_not, decide_eq_true_eq, sl_n10, sl_n01, Decidable.not_not, sl_ct, sl_cats_0, sl_cats_i, sl_cats_r, sl_cats_n, sl_cats_l, sl_ok_5, sl_ok9, decide_true, sp_machC, sp_nodeC, sp_opC, sl_z0, sl_z1, sl_z2, sl_z3, sl_z4, sl_z5, sl_z6, sl_z7, sl_c0, sl_c1, sl_c2, sl_c3, sl_c4, sl_c5, sl_c6, sl_c7, List.length_map, sp_lifeC, sp_inC, sp_rnC, hx, sp_xC, hF.2.2.2.1, sp_bdC, s1, s3, e1, sw_cl_x, sp_o]
  · rw [c1, sp_ck_t] at e1
    rw [if_neg (by decide)]
    cases c2 : sp_in w 0 5
    · rw [c2, sp_ck_f] at e2
      rw [if_pos rfl]
      refine ⟨_, ?_, h.bump⟩
      rw [M_X1_code _ _ _ rfl]; simp only [at_X1_code_0, ey_ld, sk_ld_s, ey_gf, sk_gf_s, sk_v_s, ey_cv0, sk_c_s, ey_cs2, ex_push, ey_cs3, ey_cv2, ex_rv, sw_gl_0, sw_gl_s, sw_fx_n, sw_fx_i, sw_fx_r, sw_fx_0, sw_fx_l, sw_fx_d, sw_sl1_0, sw_sl1_1, sw_sl1_s, sw_no_0, sw_no_s, sw_no_e, sw_mk_t, sw_mk_f, sw_mk_e, sw_en_0, sw_en_n, sw_en_i, sw_en_r, sw_en_z, sw_en_l, sw_en_d, sw_ok_0, sw_ok_1, sw_ok_2, sw_ok_3, sw_ok_4, sw_bo_s, sw_oi_s, sw_cl_s, sw_cl_x, sw_psh_s, sw_psh_n, sw_kd_s, sw_op_s, sw_oc_s, sw_oc_e, sw_oa_s, sw_el_n, sw_el_r, sl_kds_1, sl_kds_67, sw_fit_i, sw_fit_r, sw_fit_n, sw_fit_l, sw_fit_d, sw_fit_b, sw_fit_0, sw_fit_1, sw_rel_0, sw_rel_1, sw_rel_2, sw_rel_3, sw_rel_4, sw_rel_5, sw_hp_set, sw_nx_set, sw_sl_set, sw_ev_set, sw_hp_new, sw_nx_new, sw_sl_new, sw_ev_new, List.getElem?_cons_zero, List.getElem?_cons_succ, List.set_cons_zero, List.set_cons_succ, List.length_cons, List.length_nil, Nat.reduceAdd, Nat.reduceSub, Nat.reduceLT, Nat.reduceLeDiff, Nat.zero_lt_succ, Nat.zero_add, beq_self_eq_true, Bool.true_and, and_true, true_and, and_self, not_true_eq_false, not_false_eq_true, ↓reduceIte, Nat.reduceBEq, eq_self, sw_b_0, sw_b_1, decide_eq_false_iff_not, decide_eq_true_eq, sl_n10, sl_n01, Decidable.not_not, sl_ct, sl_cats_0, sl_cats_i, sl_cats_r, sl_cats_n, sl_cats_l, sl_ok_5, sl_ok9, decide_true, sp_machC, sp_nodeC, sp_opC, sl_z0, sl_z1, sl_z2, sl_z3, sl_z4, sl_z5, sl_z6, sl_z7, sl_c0, sl_c1, sl_c2, sl_c3, sl_c4, sl_c5, sl_c6, sl_c7, List.length_map, sp_lifeC, sp_inC, sp_rnC, hx, sp_xC, hF.2.2.2.1, sp_bdC, s1, s3, e1, e2, sw_cl_x, sp_o]
    · rw [c2, sp_ck_t] at e2
      rw [if_neg (by decide)]
      obtain ⟨kn, hkn, rfl⟩ := sp_at_of (by omega) c1
      obtain ⟨wn, hwn, rfl⟩ := sp_in_of (n := 5) (by omega) (by decide) c2
      have e3 := jc_X1_codeNow (D := d) (k := kn) (w := wn) (by omega) hx hF hb hkn hwn
      rw [nI_clamp (by omega), nI_clamp (by omega)]
      refine ⟨_, ?_, h.wk (by omega) (by omega)⟩
      rw [M_X1_code _ _ _ rfl]; simp only [at_X1_code_0, ey_ld, sk_ld_s, ey_gf, sk_gf_s, sk_v_s, ey_cv0, sk_c_s, ey_cs2, ex_push, ey_cs3, ey_cv2, ex_rv, sw_gl_0, sw_gl_s, sw_fx_n, sw_fx_i, sw_fx_r, sw_fx_0, sw_fx_l, sw_fx_d, sw_sl1_0, sw_sl1_1, sw_sl1_s, sw_no_0, sw_no_s, sw_no_e, sw_mk_t, sw_mk_f, sw_mk_e, sw_en_0, sw_en_n, sw_en_i, sw_en_r, sw_en_z, sw_en_l, sw_en_d, sw_ok_0, sw_ok_1, sw_ok_2, sw_ok_3, sw_ok_4, sw_bo_s, sw_oi_s, sw_cl_s, sw_cl_x, sw_psh_s, sw_psh_n, sw_kd_s, sw_op_s, sw_oc_s, sw_oc_e, sw_oa_s, sw_el_n, sw_el_r, sl_kds_1, sl_kds_67, sw_fit_i, sw_fit_r, sw_fit_n, sw_fit_l, sw_fit_d, sw_fit_b, sw_fit_0, sw_fit_1, sw_rel_0, sw_rel_1, sw_rel_2, sw_rel_3, sw_rel_4, sw_rel_5, sw_hp_set, sw_nx_set, sw_sl_set, sw_ev_set, sw_hp_new, sw_nx_new, sw_sl_new, sw_ev_new, List.getElem?_cons_zero, List.getElem?_cons_succ, List.set_cons_zero, List.set_cons_succ, List.length_cons, List.length_nil, Nat.reduceAdd, Nat.reduceSub, Nat.reduceLT, Nat.reduceLeDiff, Nat.zero_lt_succ, Nat.zero_add, beq_self_eq_true, Bool.true_and, and_true, true_and, and_self, not_true_eq_false, not_false_eq_true, ↓reduceIte, Nat.reduceBEq, eq_self, sw_b_0, sw_b_1, decide_eq_false_iff_not, decide_eq_true_eq, sl_n10, sl_n01, Decidable.not_not, sl_ct, sl_cats_0, sl_cats_i, sl_cats_r, sl_cats_n, sl_cats_l, sl_ok_5, sl_ok9, decide_true, sp_machC, sp_nodeC, sp_opC, sl_z0, sl_z1, sl_z2, sl_z3, sl_z4, sl_z5, sl_z6, sl_z7, sl_c0, sl_c1, sl_c2, sl_c3, sl_c4, sl_c5, sl_c6, sl_c7, List.length_map, sp_lifeC, sp_inC, sp_rnC, hx, sp_xC, hF.2.2.2.1, sp_bdC, s1, s3, e1, e2, e3, sp_o]
theorem jc_X1_begins {k : Int32} (hD : 6 ≤ D) (hb : b.2.2.1.length < 1000) (h : sl_st ev c s P (sl_cs ev x bd mach l pa N B T out m L b ++ F)) : ∃ P', sw_Z D m_X1_begins [.ref x, .int k] P = some (sp_o (cA_begins b k), P') ∧ sl_st ev (c + 1) (s + 6) P' (sl_cs ev x bd mach l pa N B T out m L b ++ F) := by
  obtain ⟨d, hDe, hDn⟩ := sw_dep hD; subst hDe; replace hD := hDn; clear hDn
  obtain ⟨hx, hm, hp, ol, lv, cl, rn, ca, rq, ra, rb, rs, M, Rw, K, hF⟩ := sl_cs_rd h
  have s1 := jc_J2_sizeR (D := d) (by omega) hF.2.2.2.2.2.2.2.2.1
  obtain ⟨_, _, _, _, s3, _⟩ := sl_rd_lx hF.2.2.2.2.2.2.2.2.1
  have hKl : K.length = b.2.2.1.length := by rw [← hF.2.2.1, List.length_map]
  rw [List.length_map, hKl] at s1
  have e1 := jc_X1_checkPlace (D := d) (P := P) (v := k) (n := nI b.2.2.1.length) (by omega)
  unfold cA_begins
  cases c1 : sp_at k (nI b.2.2.1.length)
  · rw [c1, sp_ck_f] at e1
    rw [if_pos rfl]
    refine ⟨_, ?_, h.bump⟩
    rw [M_X1_begins _ _ _ rfl]; simp only [at_X1_begins_0, ey_ld, sk_ld_s, ey_gf, sk_gf_s, sk_v_s, ey_cv0, sk_c_s, ey_cs2, ey_cv1, ex_ct, ex_rv, sw_gl_0, sw_gl_s, sw_fx_n, sw_fx_i, sw_fx_r, sw_fx_0, sw_fx_l, sw_fx_d, sw_sl1_0, sw_sl1_1, sw_sl1_s, sw_no_0, sw_no_s, sw_no_e, sw_mk_t, sw_mk_f, sw_mk_e, sw_en_0, sw_en_n, sw_en_i, sw_en_r, sw_en_z, sw_en_l, sw_en_d, sw_ok_0, sw_ok_1, sw_ok_2, sw_ok_3, sw_ok_4, sw_bo_s, sw_oi_s, sw_cl_s, sw_cl_x, sw_psh_s, sw_psh_n, sw_kd_s, sw_op_s, sw_oc_s, sw_oc_e, sw_oa_s, sw_el_n, sw_el_r, sl_kds_1, sl_kds_67, sw_fit_i, sw_fit_r, sw_fit_n, sw_fit_l, sw_fit_d, sw_fit_b, sw_fit_0, sw_fit_1, sw_rel_0, sw_rel_1, sw_rel_2, sw_rel_3, sw_rel_4, sw_rel_5, sw_hp_set, sw_nx_set, sw_sl_set, sw_ev_set, sw_hp_new, sw_nx_new, sw_sl_new, sw_ev_new, List.getElem?_cons_zero, List.getElem?_cons_succ, List.set_cons_zero, List.set_cons_succ, List.length_cons, List.length_nil, Nat.reduceAdd, Nat.reduceSub, Nat.reduceLT, Nat.reduceLeDiff, Nat.zero_lt_succ, Nat.zero_add, beq_self_eq_true, Bool.true_and, and_true, true_and, and_self, not_true_eq_false, not_false_eq_true, ↓reduceIte, Nat.reduceBEq, eq_self, sw_b_0, sw_b_1, decide_eq_false_iff_not, decide_eq_true_eq, sl_n10, sl_n01, Decidable.not_not, sl_ct, sl_cats_0, sl_cats_i, sl_cats_r, sl_cats_n, sl_cats_l, sl_ok_5, sl_ok9, decide_true, sp_machC, sp_nodeC, sp_opC, sl_z0, sl_z1, sl_z2, sl_z3, sl_z4, sl_z5, sl_z6, sl_z7, sl_c0, sl_c1, sl_c2, sl_c3, sl_c4, sl_c5, sl_c6, sl_c7, List.length_map, sp_lifeC, sp_inC, sp_rnC, hx, sp_xC, hF.2.2.2.1, sp_bdC, s1, s3, e1, sw_cl_x, sp_o]
  · rw [c1, sp_ck_t] at e1
    rw [if_neg (by decide)]
    obtain ⟨kn, hkn, rfl⟩ := sp_at_of (by omega) c1
    have hkn' : kn < K.length := by omega
    have ex : K[kn]? = some K[kn] := List.getElem?_eq_getElem hkn'
    have e4 := jc_J2_get (D := d) (by omega) hF.2.2.2.2.2.2.2.2.1 (sl_refs_at ex) (by rw [List.length_map]; omega)
    have e5 : sw_hp P K[kn].1 = some (sp_inC K[kn].2) := sl_rd_pt.mp (sl_rd_map (f := sl_inA) hF.2.2.2.2.2.2.2.2.2.1 ex)
    have e6 : b.2.2.1.getD kn (0, 0, 0, 0, 0, 0, 0) = K[kn].2 := by rw [← hF.2.2.1]; exact sp_getD (by rw [List.getElem?_map, ex]; rfl)
    rw [nI_clamp (by omega), e6]
    refine ⟨_, ?_, h.wk (by omega) (by omega)⟩
    rw [M_X1_begins _ _ _ rfl]; simp only [at_X1_begins_0, ey_ld, sk_ld_s, ey_gf, sk_gf_s, sk_v_s, ey_cv0, sk_c_s, ey_cs2, ey_cv1, ex_ct, ex_rv, sw_gl_0, sw_gl_s, sw_fx_n, sw_fx_i, sw_fx_r, sw_fx_0, sw_fx_l, sw_fx_d, sw_sl1_0, sw_sl1_1, sw_sl1_s, sw_no_0, sw_no_s, sw_no_e, sw_mk_t, sw_mk_f, sw_mk_e, sw_en_0, sw_en_n, sw_en_i, sw_en_r, sw_en_z, sw_en_l, sw_en_d, sw_ok_0, sw_ok_1, sw_ok_2, sw_ok_3, sw_ok_4, sw_bo_s, sw_oi_s, sw_cl_s, sw_cl_x, sw_psh_s, sw_psh_n, sw_kd_s, sw_op_s, sw_oc_s, sw_oc_e, sw_oa_s, sw_el_n, sw_el_r, sl_kds_1, sl_kds_67, sw_fit_i, sw_fit_r, sw_fit_n, sw_fit_l, sw_fit_d, sw_fit_b, sw_fit_0, sw_fit_1, sw_rel_0, sw_rel_1, sw_rel_2, sw_rel_3, sw_rel_4, sw_rel_5, sw_hp_set, sw_nx_set, sw_sl_set, sw_ev_set, sw_hp_new, sw_nx_new, sw_sl_new, sw_ev_new, List.getElem?_cons_zero, List.getElem?_cons_succ, List.set_cons_zero, List.set_cons_succ, List.length_cons, List.length_nil, Nat.reduceAdd, Nat.reduceSub, Nat.reduceLT, Nat.reduceLeDiff, Nat.zero_lt_succ, Nat.zero_add, beq_self_eq_true, Bool.true_and, and_true, true_and, and_self, not_true_eq_false, not_false_eq_true, ↓reduceIte, Nat.reduceBEq, eq_self, sw_b_0, sw_b_1, decide_eq_false_iff_not, decide_eq_true_eq, sl_n10, sl_n01, Decidable.not_not, sl_ct, sl_cats_0, sl_cats_i, sl_cats_r, sl_cats_n, sl_cats_l, sl_ok_5, sl_ok9, decide_true, sp_machC, sp_nodeC, sp_opC, sl_z0, sl_z1, sl_z2, sl_z3, sl_z4, sl_z5, sl_z6, sl_z7, sl_c0, sl_c1, sl_c2, sl_c3, sl_c4, sl_c5, sl_c6, sl_c7, List.length_map, sp_lifeC, sp_inC, sp_rnC, hx, sp_xC, hF.2.2.2.1, sp_bdC, s1, s3, e1, e4, e5, sp_inC, sl_kds_1, sp_o]
theorem jc_X1_answer {v : Int32} (hD : 8 ≤ D) (hb : sp_bok T out b) (h : sl_st ev c s P (sl_cs ev x bd mach l pa N B T out m L b ++ F)) : ∃ P', sw_Z D m_X1_answer [.ref x, .int v] P = some (sp_o (cA_answer (N.map (·.2), B.map (fun y => y.2.map (·.2)), T, out, m, L) b v), P') ∧ sl_st ev (c + 1) (s + 6) P' (sl_cs ev x bd mach l pa N B T out m L b ++ F) := by
  obtain ⟨d, hDe, hDn⟩ := sw_dep hD; subst hDe; replace hD := hDn; clear hDn
  obtain ⟨hx, hm, hp, ol, lv, cl, rn, ca, rq, ra, rb, rs, M, Rw, K, hF⟩ := sl_cs_rd h
  obtain ⟨hok, -⟩ := hb.1 M Rw hF.1 hF.2.1
  have h0 := sl_rd_pt.mp (sl_rds_at hp 0 rfl)
  have e1 := jc_X1_checkPlace (D := d) (P := P) (v := v) (n := 8) (by omega)
  have e2 := jc_X1_has (D := d) (P := P) (x := out) (k := v) (by omega)
  have et := jc_X1_checkPlace (D := d) (P := P) (v := 0) (n := 1) (by omega)
  have ef := jc_X1_checkPlace (D := d) (P := P) (v := -1) (n := 1) (by omega)
  rw [show sp_at 0 1 = true from rfl, sp_ck_t] at et
  rw [show sp_at (-1) 1 = false from rfl, sp_ck_f] at ef
  unfold cA_answer
  cases c1 : sp_at v 8
  · rw [c1, sp_ck_f] at e1
    rw [if_pos rfl]
    refine ⟨_, ?_, h.bump⟩
    rw [M_X1_answer _ _ _ rfl]; simp only [at_X1_answer_0, at_X1_answer_1, at_X1_answer_2, ey_ld, sk_ld_s, ex_push, ey_cs2, sk_c_s, ey_gf, sk_gf_s, sk_v_s, ex_iz, ex_goto, ey_cv1, ex_rv, sw_gl_0, sw_gl_s, sw_fx_n, sw_fx_i, sw_fx_r, sw_fx_0, sw_fx_l, sw_fx_d, sw_sl1_0, sw_sl1_1, sw_sl1_s, sw_no_0, sw_no_s, sw_no_e, sw_mk_t, sw_mk_f, sw_mk_e, sw_en_0, sw_en_n, sw_en_i, sw_en_r, sw_en_z, sw_en_l, sw_en_d, sw_ok_0, sw_ok_1, sw_ok_2, sw_ok_3, sw_ok_4, sw_bo_s, sw_oi_s, sw_cl_s, sw_cl_x, sw_psh_s, sw_psh_n, sw_kd_s, sw_op_s, sw_oc_s, sw_oc_e, sw_oa_s, sw_el_n, sw_el_r, sl_kds_1, sl_kds_67, sw_fit_i, sw_fit_r, sw_fit_n, sw_fit_l, sw_fit_d, sw_fit_b, sw_fit_0, sw_fit_1, sw_rel_0, sw_rel_1, sw_rel_2, sw_rel_3, sw_rel_4, sw_rel_5, sw_hp_set, sw_nx_set, sw_sl_set, sw_ev_set, sw_hp_new, sw_nx_new, sw_sl_new, sw_ev_new, List.getElem?_cons_zero, List.getElem?_cons_succ, List.set_cons_zero, List.set_cons_succ, List.length_cons, List.length_nil, Nat.reduceAdd, Nat.reduceSub, Nat.reduceLT, Nat.reduceLeDiff, Nat.zero_lt_succ, Nat.zero_add, beq_self_eq_true, Bool.true_and, and_true, true_and, and_self, not_true_eq_false, not_false_eq_true, ↓reduceIte, Nat.reduceBEq, eq_self, sw_b_0, sw_b_1, decide_eq_false_iff_not, decide_eq_true_eq, sl_n10, sl_n01, Decidable.not_not, sl_ct, sl_cats_0, sl_cats_i, sl_cats_r, sl_cats_n, sl_cats_l, sl_ok_5, sl_ok9, decide_true, sp_machC, sp_nodeC, sp_opC, sl_z0, sl_z1, sl_z2, sl_z3, sl_z4, sl_z5, sl_z6, sl_z7, sl_c0, sl_c1, sl_c2, sl_c3, sl_c4, sl_c5, sl_c6, sl_c7, List.length_map, sp_lifeC, sp_inC, sp_rnC, e1, sw_cl_x, sp_o]
  · rw [c1, sp_ck_t] at e1
    rw [if_neg (by decide)]
    cases c2 : sp_has out v
    · rw [c2, sw_b_f] at e2
      rw [if_pos rfl]
      refine ⟨_, ?_, h.bump⟩
      rw [M_X1_answer _ _ _ rfl]; simp only [at_X1_answer_0, at_X1_answer_1, at_X1_answer_2, ey_ld, sk_ld_s, ex_push, ey_cs2, sk_c_s, ey_gf, sk_gf_s, sk_v_s, ex_iz, ex_goto, ey_cv1, ex_rv, sw_gl_0, sw_gl_s, sw_fx_n, sw_fx_i, sw_fx_r, sw_fx_0, sw_fx_l, sw_fx_d, sw_sl1_0, sw_sl1_1, sw_sl1_s, sw_no_0, sw_no_s, sw_no_e, sw_mk_t, sw_mk_f, sw_mk_e, sw_en_0, sw_en_n, sw_en_i, sw_en_r, sw_en_z, sw_en_l, sw_en_d, sw_ok_0, sw_ok_1, sw_ok_2, sw_ok_3, sw_ok_4, sw_bo_s, sw_oi_s, sw_cl_s, sw_cl_x, sw_psh_s, sw_psh_n, sw_kd_s, sw_op_s, sw_oc_s, sw_oc_e, sw_oa_s, sw_el_n, sw_el_r, sl_kds_1, sl_kds_67, sw_fit_i, sw_fit_r, sw_fit_n, sw_fit_l, sw_fit_d, sw_fit_b, sw_fit_0, sw_fit_1, sw_rel_0, sw_rel_1, sw_rel_2, sw_rel_3, sw_rel_4, sw_rel_5, sw_hp_set, sw_nx_set, sw_sl_set, sw_ev_set, sw_hp_new, sw_nx_new, sw_sl_new, sw_ev_new, List.getElem?_cons_zero, List.getElem?_cons_succ, List.set_cons_zero, List.set_cons_succ, List.length_cons, List.length_nil, Nat.reduceAdd, Nat.reduceSub, Nat.reduceLT, Nat.reduceLeDiff, Nat.zero_lt_succ, Nat.zero_add, beq_self_eq_true, Bool.true_and, and_true, true_and, and_self, not_true_eq_false, not_false_eq_true, ↓reduceIte, Nat.reduceBEq, eq_self, sw_b_0, sw_b_1, decide_eq_false_iff_not, decide_eq_true_eq, sl_n10, sl_n01, Decidable.not_not, sl_ct, sl_cats_0, sl_cats_i, sl_cats_r, sl_cats_n, sl_cats_l, sl_ok_5, sl_ok9, decide_true, sp_machC, sp_nodeC, sp_opC, sl_z0, sl_z1, sl_z2, sl_z3, sl_z4, sl_z5, sl_z6, sl_z7, sl_c0, sl_c1, sl_c2, sl_c3, sl_c4, sl_c5, sl_c6, sl_c7, List.length_map, sp_lifeC, sp_inC, sp_rnC, hx, sp_xC, h0, e1, e2, ef, sw_cl_x, sp_o]
    · rw [c2, sw_b_t] at e2
      rw [if_neg (by decide)]
      obtain ⟨vn, hvn, rfl⟩ := sp_at_of (n := 8) (by omega) c1
      obtain ⟨⟨k, a1⟩, a2, a3⟩ := hb.2.2.2.2.2.1 vn hvn c2
      have e3 := jc_X4_answer (D := d) (k := k) (v := nI vn) (ns := b.2.2.2.1.2.2.1.length) (z := b.2.2.2.1) (by omega) hF.2.2.2.1 hF.2.2.2.2.1 hok (by rw [hF.2.1, ← a1, ← hF.2.1, List.length_map]) hb.2.2.2.1 hb.2.2.2.2.1 hF.2.2.2.2.2.1 hF.2.2.2.2.2.2.1 hF.2.2.2.2.2.2.2.1 (by rw [hF.2.1]; exact a2) (by rw [hF.1, hF.2.1]; exact a3)
      rw [hF.1, hF.2.1] at e3
      refine ⟨_, ?_, h.wk (by omega) (by omega)⟩
      rw [M_X1_answer _ _ _ rfl]; simp only [at_X1_answer_0, at_X1_answer_1, at_X1_answer_2, ey_ld, sk_ld_s, ex_push, ey_cs2, sk_c_s, ey_gf, sk_gf_s, sk_v_s, ex_iz, ex_goto, ey_cv1, ex_rv, sw_gl_0, sw_gl_s, sw_fx_n, sw_fx_i, sw_fx_r, sw_fx_0, sw_fx_l, sw_fx_d, sw_sl1_0, sw_sl1_1, sw_sl1_s, sw_no_0, sw_no_s, sw_no_e, sw_mk_t, sw_mk_f, sw_mk_e, sw_en_0, sw_en_n, sw_en_i, sw_en_r, sw_en_z, sw_en_l, sw_en_d, sw_ok_0, sw_ok_1, sw_ok_2, sw_ok_3, sw_ok_4, sw_bo_s, sw_oi_s, sw_cl_s, sw_cl_x, sw_psh_s, sw_psh_n, sw_kd_s, sw_op_s, sw_oc_s, sw_oc_e, sw_oa_s, sw_el_n, sw_el_r, sl_kds_1, sl_kds_67, sw_fit_i, sw_fit_r, sw_fit_n, sw_fit_l, sw_fit_d, sw_fit_b, sw_fit_0, sw_fit_1, sw_rel_0, sw_rel_1, sw_rel_2, sw_rel_3, sw_rel_4, sw_rel_5, sw_hp_set, sw_nx_set, sw_sl_set, sw_ev_set, sw_hp_new, sw_nx_new, sw_sl_new, sw_ev_new, List.getElem?_cons_zero, List.getElem?_cons_succ, List.set_cons_zero, List.set_cons_succ, List.length_cons, List.length_nil, Nat.reduceAdd, Nat.reduceSub, Nat.reduceLT, Nat.reduceLeDiff, Nat.zero_lt_succ, Nat.zero_add, beq_self_eq_true, Bool.true_and, and_true, true_and, and_self, not_true_eq_false, not_false_eq_true, ↓reduceIte, Nat.reduceBEq, eq_self, sw_b_0, sw_b_1, decide_eq_false_iff_not, decide_eq_true_eq, sl_n10, sl_n01, Decidable.not_not, sl_ct, sl_cats_0, sl_cats_i, sl_cats_r, sl_cats_n, sl_cats_l, sl_ok_5, sl_ok9, decide_true, sp_machC, sp_nodeC, sp_opC, sl_z0, sl_z1, sl_z2, sl_z3, sl_z4, sl_z5, sl_z6, sl_z7, sl_c0, sl_c1, sl_c2, sl_c3, sl_c4, sl_c5, sl_c6, sl_c7, List.length_map, sp_lifeC, sp_inC, sp_rnC, hx, sp_xC, h0, hF.2.2.2.1, sp_bdC, e1, e2, e3, et, sp_o]
theorem jc_X1_manyNow {w : Nat} (hD : 8 ≤ D) (hN : N.length ≤ 80) (hB : B.length = 4) (hb : sp_bok T out b) (h : sl_st ev c s P (sl_cs ev x bd mach l pa N B T out m L b ++ F)) (hw : w < 16) : sw_Z D m_X1_manyNow [.ref x, .int (nI w)] P = some (.inl (some (.int (sp_manyT (N.map (·.2), B.map (fun y => y.2.map (·.2)), T, out, m, L) b w))), P) := by
  obtain ⟨d, hDe, hDn⟩ := sw_dep hD; subst hDe; replace hD := hDn; clear hDn
  obtain ⟨hx, hm, hp, ol, lv, cl, rn, ca, rq, ra, rb, rs, M, Rw, K, hF⟩ := sl_cs_rd h
  have h0 := sl_rd_pt.mp (sl_rds_at hp 0 rfl)
  have s1 := jc_J2_sizeR (D := d) (by omega) (sl_rds_at hp 1 rfl)
  obtain ⟨_, _, _, _, s3, _⟩ := sl_rd_lx (sl_rds_at hp 1 rfl)
  rw [List.length_map] at s1
  have e1 := jc_X1_freeNodes (D := d) (by omega) hx hp hN
  have e2 := jc_X2_statements (D := d) (by omega) hB hp
  unfold sp_manyT
  dsimp only
  rw [List.length_map]
  by_cases c0 : w = 0
  · subst c0
    rw [M_X1_manyNow _ _ _ rfl]; simp only [at_X1_manyNow_0, at_X1_manyNow_1, at_X1_manyNow_2, at_X1_manyNow_3, at_X1_manyNow_4, ey_ld, sk_ld_s, ex_sw, sw_lk_e, sw_lk_c, ey_gf, sk_gf_s, sk_v_s, ey_cv0, sk_c_s, ex_rv, ey_cv1, sw_gl_0, sw_gl_s, sw_fx_n, sw_fx_i, sw_fx_r, sw_fx_0, sw_fx_l, sw_fx_d, sw_sl1_0, sw_sl1_1, sw_sl1_s, sw_no_0, sw_no_s, sw_no_e, sw_mk_t, sw_mk_f, sw_mk_e, sw_en_0, sw_en_n, sw_en_i, sw_en_r, sw_en_z, sw_en_l, sw_en_d, sw_ok_0, sw_ok_1, sw_ok_2, sw_ok_3, sw_ok_4, sw_bo_s, sw_oi_s, sw_cl_s, sw_cl_x, sw_psh_s, sw_psh_n, sw_kd_s, sw_op_s, sw_oc_s, sw_oc_e, sw_oa_s, sw_el_n, sw_el_r, sl_kds_1, sl_kds_67, sw_fit_i, sw_fit_r, sw_fit_n, sw_fit_l, sw_fit_d, sw_fit_b, sw_fit_0, sw_fit_1, sw_rel_0, sw_rel_1, sw_rel_2, sw_rel_3, sw_rel_4, sw_rel_5, sw_hp_set, sw_nx_set, sw_sl_set, sw_ev_set, sw_hp_new, sw_nx_new, sw_sl_new, sw_ev_new, List.getElem?_cons_zero, List.getElem?_cons_succ, List.set_cons_zero, List.set_cons_succ, List.length_cons, List.length_nil, Nat.reduceAdd, Nat.reduceSub, Nat.reduceLT, Nat.reduceLeDiff, Nat.zero_lt_succ, Nat.zero_add, beq_self_eq_true, Bool.true_and, and_true, true_and, and_self, not_true_eq_false, not_false_eq_true, ↓reduceIte, Nat.reduceBEq, eq_self, sw_b_0, sw_b_1, decide_eq_false_iff_not, decide_eq_true_eq, sl_n10, sl_n01, Decidable.not_not, sl_ct, sl_cats_0, sl_cats_i, sl_cats_r, sl_cats_n, sl_cats_l, sl_ok_5, sl_ok9, decide_true, sp_machC, sp_nodeC, sp_opC, sl_z0, sl_z1, sl_z2, sl_z3, sl_z4, sl_z5, sl_z6, sl_z7, sl_c0, sl_c1, sl_c2, sl_c3, sl_c4, sl_c5, sl_c6, sl_c7, List.length_map, sp_lifeC, sp_inC, sp_rnC, hx, sp_xC, h0, s1, s3, show nI 0 = (0 : Int32) from rfl]
  · rw [if_neg c0]
    by_cases c1 : w = 1
    · subst c1
      rw [M_X1_manyNow _ _ _ rfl]; simp only [at_X1_manyNow_0, at_X1_manyNow_1, at_X1_manyNow_2, at_X1_manyNow_3, at_X1_manyNow_4, ey_ld, sk_ld_s, ex_sw, sw_lk_e, sw_lk_c, ey_gf, sk_gf_s, sk_v_s, ey_cv0, sk_c_s, ex_rv, ey_cv1, sw_gl_0, sw_gl_s, sw_fx_n, sw_fx_i, sw_fx_r, sw_fx_0, sw_fx_l, sw_fx_d, sw_sl1_0, sw_sl1_1, sw_sl1_s, sw_no_0, sw_no_s, sw_no_e, sw_mk_t, sw_mk_f, sw_mk_e, sw_en_0, sw_en_n, sw_en_i, sw_en_r, sw_en_z, sw_en_l, sw_en_d, sw_ok_0, sw_ok_1, sw_ok_2, sw_ok_3, sw_ok_4, sw_bo_s, sw_oi_s, sw_cl_s, sw_cl_x, sw_psh_s, sw_psh_n, sw_kd_s, sw_op_s, sw_oc_s, sw_oc_e, sw_oa_s, sw_el_n, sw_el_r, sl_kds_1, sl_kds_67, sw_fit_i, sw_fit_r, sw_fit_n, sw_fit_l, sw_fit_d, sw_fit_b, sw_fit_0, sw_fit_1, sw_rel_0, sw_rel_1, sw_rel_2, sw_rel_3, sw_rel_4, sw_rel_5, sw_hp_set, sw_nx_set, sw_sl_set, sw_ev_set, sw_hp_new, sw_nx_new, sw_sl_new, sw_ev_new, List.getElem?_cons_zero, List.getElem?_cons_succ, List.set_cons_zero, List.set_cons_succ, List.length_cons, List.length_nil, Nat.reduceAdd, Nat.reduceSub, Nat.reduceLT, Nat.reduceLeDiff, Nat.zero_lt_succ, Nat.zero_add, beq_self_eq_true, Bool.true_and, and_true, true_and, and_self, not_true_eq_false, not_false_eq_true, ↓reduceIte, Nat.reduceBEq, eq_self, sw_b_0, sw_b_1, decide_eq_false_iff_not, decide_eq_true_eq, sl_n10, sl_n01, Decidable.not_not, sl_ct, sl_cats_0, sl_cats_i, sl_cats_r, sl_cats_n, sl_cats_l, sl_ok_5, sl_ok9, decide_true, sp_machC, sp_nodeC, sp_opC, sl_z0, sl_z1, sl_z2, sl_z3, sl_z4, sl_z5, sl_z6, sl_z7, sl_c0, sl_c1, sl_c2, sl_c3, sl_c4, sl_c5, sl_c6, sl_c7, List.length_map, sp_lifeC, sp_inC, sp_rnC, hx, sp_xC, e1, show nI 0 = (0 : Int32) from rfl, show nI 1 = (1 : Int32) from rfl, show ((1 : Int32) = 0) = False by decide]
    · rw [if_neg c1]
      by_cases c2 : w = 2
      · subst c2
        rw [M_X1_manyNow _ _ _ rfl]; simp only [at_X1_manyNow_0, at_X1_manyNow_1, at_X1_manyNow_2, at_X1_manyNow_3, at_X1_manyNow_4, ey_ld, sk_ld_s, ex_sw, sw_lk_e, sw_lk_c, ey_gf, sk_gf_s, sk_v_s, ey_cv0, sk_c_s, ex_rv, ey_cv1, sw_gl_0, sw_gl_s, sw_fx_n, sw_fx_i, sw_fx_r, sw_fx_0, sw_fx_l, sw_fx_d, sw_sl1_0, sw_sl1_1, sw_sl1_s, sw_no_0, sw_no_s, sw_no_e, sw_mk_t, sw_mk_f, sw_mk_e, sw_en_0, sw_en_n, sw_en_i, sw_en_r, sw_en_z, sw_en_l, sw_en_d, sw_ok_0, sw_ok_1, sw_ok_2, sw_ok_3, sw_ok_4, sw_bo_s, sw_oi_s, sw_cl_s, sw_cl_x, sw_psh_s, sw_psh_n, sw_kd_s, sw_op_s, sw_oc_s, sw_oc_e, sw_oa_s, sw_el_n, sw_el_r, sl_kds_1, sl_kds_67, sw_fit_i, sw_fit_r, sw_fit_n, sw_fit_l, sw_fit_d, sw_fit_b, sw_fit_0, sw_fit_1, sw_rel_0, sw_rel_1, sw_rel_2, sw_rel_3, sw_rel_4, sw_rel_5, sw_hp_set, sw_nx_set, sw_sl_set, sw_ev_set, sw_hp_new, sw_nx_new, sw_sl_new, sw_ev_new, List.getElem?_cons_zero, List.getElem?_cons_succ, List.set_cons_zero, List.set_cons_succ, List.length_cons, List.length_nil, Nat.reduceAdd, Nat.reduceSub, Nat.reduceLT, Nat.reduceLeDiff, Nat.zero_lt_succ, Nat.zero_add, beq_self_eq_true, Bool.true_and, and_true, true_and, and_self, not_true_eq_false, not_false_eq_true, ↓reduceIte, Nat.reduceBEq, eq_self, sw_b_0, sw_b_1, decide_eq_false_iff_not, decide_eq_true_eq, sl_n10, sl_n01, Decidable.not_not, sl_ct, sl_cats_0, sl_cats_i, sl_cats_r, sl_cats_n, sl_cats_l, sl_ok_5, sl_ok9, decide_true, sp_machC, sp_nodeC, sp_opC, sl_z0, sl_z1, sl_z2, sl_z3, sl_z4, sl_z5, sl_z6, sl_z7, sl_c0, sl_c1, sl_c2, sl_c3, sl_c4, sl_c5, sl_c6, sl_c7, List.length_map, sp_lifeC, sp_inC, sp_rnC, hx, sp_xC, h0, e2, show nI 0 = (0 : Int32) from rfl, show nI 1 = (1 : Int32) from rfl, show nI 2 = (2 : Int32) from rfl, show ((1 : Int32) = 0) = False by decide, show ((2 : Int32) = 0) = False by decide, show ((2 : Int32) = 1) = False by decide]
      · rw [if_neg c2]
        have e3 := jc_X4_manyB (D := d) (w := w) (by omega) hF hb ⟨by omega, hw⟩
        have n0 : ¬ nI w = 0 := fun q => c0 ((nI_eq (b := 0) (by omega) (by omega)).mp q)
        have n1 : ¬ nI w = 1 := fun q => c1 ((nI_eq (b := 1) (by omega) (by omega)).mp q)
        have n2 : ¬ nI w = 2 := fun q => c2 ((nI_eq (b := 2) (by omega) (by omega)).mp q)
        rw [M_X1_manyNow _ _ _ rfl]; simp only [at_X1_manyNow_0, at_X1_manyNow_1, at_X1_manyNow_2, at_X1_manyNow_3, at_X1_manyNow_4, ey_ld, sk_ld_s, ex_sw, sw_lk_e, sw_lk_c, ey_gf, sk_gf_s, sk_v_s, ey_cv0, sk_c_s, ex_rv, ey_cv1, sw_gl_0, sw_gl_s, sw_fx_n, sw_fx_i, sw_fx_r, sw_fx_0, sw_fx_l, sw_fx_d, sw_sl1_0, sw_sl1_1, sw_sl1_s, sw_no_0, sw_no_s, sw_no_e, sw_mk_t, sw_mk_f, sw_mk_e, sw_en_0, sw_en_n, sw_en_i, sw_en_r, sw_en_z, sw_en_l, sw_en_d, sw_ok_0, sw_ok_1, sw_ok_2, sw_ok_3, sw_ok_4, sw_bo_s, sw_oi_s, sw_cl_s, sw_cl_x, sw_psh_s, sw_psh_n, sw_kd_s, sw_op_s, sw_oc_s, sw_oc_e, sw_oa_s, sw_el_n, sw_el_r, sl_kds_1, sl_kds_67, sw_fit_i, sw_fit_r, sw_fit_n, sw_fit_l, sw_fit_d, sw_fit_b, sw_fit_0, sw_fit_1, sw_rel_0, sw_rel_1, sw_rel_2, sw_rel_3, sw_rel_4, sw_rel_5, sw_hp_set, sw_nx_set, sw_sl_set, sw_ev_set, sw_hp_new, sw_nx_new, sw_sl_new, sw_ev_new, List.getElem?_cons_zero, List.getElem?_cons_succ, List.set_cons_zero, List.set_cons_succ, List.length_cons, List.length_nil, Nat.reduceAdd, Nat.reduceSub, Nat.reduceLT, Nat.reduceLeDiff, Nat.zero_lt_succ, Nat.zero_add, beq_self_eq_true, Bool.true_and, and_true, true_and, and_self, not_true_eq_false, not_false_eq_true, ↓reduceIte, Nat.reduceBEq, eq_self, sw_b_0, sw_b_1, decide_eq_false_iff_not, decide_eq_true_eq, sl_n10, sl_n01, Decidable.not_not, sl_ct, sl_cats_0, sl_cats_i, sl_cats_r, sl_cats_n, sl_cats_l, sl_ok_5, sl_ok9, decide_true, sp_machC, sp_nodeC, sp_opC, sl_z0, sl_z1, sl_z2, sl_z3, sl_z4, sl_z5, sl_z6, sl_z7, sl_c0, sl_c1, sl_c2, sl_c3, sl_c4, sl_c5, sl_c6, sl_c7, List.length_map, sp_lifeC, sp_inC, sp_rnC, hx, sp_xC, hF.2.2.2.1, sp_bdC, e3, eq_false n0, eq_false n1, eq_false n2]
theorem jc_X1_many {w : Int32} (hD : 9 ≤ D) (hN : N.length ≤ 80) (hB : B.length = 4) (hb : sp_bok T out b) (h : sl_st ev c s P (sl_cs ev x bd mach l pa N B T out m L b ++ F)) : ∃ P', sw_Z D m_X1_many [.ref x, .int w] P = some (sp_o (cA_many (N.map (·.2), B.map (fun y => y.2.map (·.2)), T, out, m, L) b w), P') ∧ sl_st ev (c + 1) (s + 6) P' (sl_cs ev x bd mach l pa N B T out m L b ++ F) := by
  obtain ⟨d, hDe, hDn⟩ := sw_dep hD; subst hDe; replace hD := hDn; clear hDn
  obtain ⟨hx, hm, hp, ol, lv, cl, rn, ca, rq, ra, rb, rs, M, Rw, K, hF⟩ := sl_cs_rd h
  have e2 := jc_X1_mustBeIn (D := d) (P := P) (v := w) (lo := 0) (hi := 15) (by omega)
  unfold cA_many
  cases c2 : sp_in w 0 15
  · rw [c2, sp_ck_f] at e2
    rw [if_pos rfl]
    refine ⟨_, ?_, h.bump⟩
    rw [M_X1_many _ _ _ rfl]; simp only [at_X1_many_0, ey_ld, sk_ld_s, ex_push, ey_cs3, sk_c_s, ey_cv1, ex_rv, sw_gl_0, sw_gl_s, sw_fx_n, sw_fx_i, sw_fx_r, sw_fx_0, sw_fx_l, sw_fx_d, sw_sl1_0, sw_sl1_1, sw_sl1_s, sw_no_0, sw_no_s, sw_no_e, sw_mk_t, sw_mk_f, sw_mk_e, sw_en_0, sw_en_n, sw_en_i, sw_en_r, sw_en_z, sw_en_l, sw_en_d, sw_ok_0, sw_ok_1, sw_ok_2, sw_ok_3, sw_ok_4, sw_bo_s, sw_oi_s, sw_cl_s, sw_cl_x, sw_psh_s, sw_psh_n, sw_kd_s, sw_op_s, sw_oc_s, sw_oc_e, sw_oa_s, sw_el_n, sw_el_r, sl_kds_1, sl_kds_67, sw_fit_i, sw_fit_r, sw_fit_n, sw_fit_l, sw_fit_d, sw_fit_b, sw_fit_0, sw_fit_1, sw_rel_0, sw_rel_1, sw_rel_2, sw_rel_3, sw_rel_4, sw_rel_5, sw_hp_set, sw_nx_set, sw_sl_set, sw_ev_set, sw_hp_new, sw_nx_new, sw_sl_new, sw_ev_new, List.getElem?_cons_zero, List.getElem?_cons_succ, List.set_cons_zero, List.set_cons_succ, List.length_cons, List.length_nil, Nat.reduceAdd, Nat.reduceSub, Nat.reduceLT, Nat.reduceLeDiff, Nat.zero_lt_succ, Nat.zero_add, beq_self_eq_true, Bool.true_and, and_true, true_and, and_self, not_true_eq_false, not_false_eq_true, ↓reduceIte, Nat.reduceBEq, eq_self, sw_b_0, sw_b_1, decide_eq_false_iff_not, decide_eq_true_eq, sl_n10, sl_n01, Decidable.not_not, sl_ct, sl_cats_0, sl_cats_i, sl_cats_r, sl_cats_n, sl_cats_l, sl_ok_5, sl_ok9, decide_true, sp_machC, sp_nodeC, sp_opC, sl_z0, sl_z1, sl_z2, sl_z3, sl_z4, sl_z5, sl_z6, sl_z7, sl_c0, sl_c1, sl_c2, sl_c3, sl_c4, sl_c5, sl_c6, sl_c7, List.length_map, sp_lifeC, sp_inC, sp_rnC, e2, sw_cl_x, sp_o]
  · rw [c2, sp_ck_t] at e2
    rw [if_neg (by decide)]
    obtain ⟨wn, hwn, rfl⟩ := sp_in_of (n := 15) (by omega) (by decide) c2
    have e3 := jc_X1_manyNow (D := d) (w := wn) (by omega) hN hB hb h hwn
    rw [nI_clamp (by omega)]
    refine ⟨_, ?_, h.wk (by omega) (by omega)⟩
    rw [M_X1_many _ _ _ rfl]; simp only [at_X1_many_0, ey_ld, sk_ld_s, ex_push, ey_cs3, sk_c_s, ey_cv1, ex_rv, sw_gl_0, sw_gl_s, sw_fx_n, sw_fx_i, sw_fx_r, sw_fx_0, sw_fx_l, sw_fx_d, sw_sl1_0, sw_sl1_1, sw_sl1_s, sw_no_0, sw_no_s, sw_no_e, sw_mk_t, sw_mk_f, sw_mk_e, sw_en_0, sw_en_n, sw_en_i, sw_en_r, sw_en_z, sw_en_l, sw_en_d, sw_ok_0, sw_ok_1, sw_ok_2, sw_ok_3, sw_ok_4, sw_bo_s, sw_oi_s, sw_cl_s, sw_cl_x, sw_psh_s, sw_psh_n, sw_kd_s, sw_op_s, sw_oc_s, sw_oc_e, sw_oa_s, sw_el_n, sw_el_r, sl_kds_1, sl_kds_67, sw_fit_i, sw_fit_r, sw_fit_n, sw_fit_l, sw_fit_d, sw_fit_b, sw_fit_0, sw_fit_1, sw_rel_0, sw_rel_1, sw_rel_2, sw_rel_3, sw_rel_4, sw_rel_5, sw_hp_set, sw_nx_set, sw_sl_set, sw_ev_set, sw_hp_new, sw_nx_new, sw_sl_new, sw_ev_new, List.getElem?_cons_zero, List.getElem?_cons_succ, List.set_cons_zero, List.set_cons_succ, List.length_cons, List.length_nil, Nat.reduceAdd, Nat.reduceSub, Nat.reduceLT, Nat.reduceLeDiff, Nat.zero_lt_succ, Nat.zero_add, beq_self_eq_true, Bool.true_and, and_true, true_and, and_self, not_true_eq_false, not_false_eq_true, ↓reduceIte, Nat.reduceBEq, eq_self, sw_b_0, sw_b_1, decide_eq_false_iff_not, decide_eq_true_eq, sl_n10, sl_n01, Decidable.not_not, sl_ct, sl_cats_0, sl_cats_i, sl_cats_r, sl_cats_n, sl_cats_l, sl_ok_5, sl_ok9, decide_true, sp_machC, sp_nodeC, sp_opC, sl_z0, sl_z1, sl_z2, sl_z3, sl_z4, sl_z5, sl_z6, sl_z7, sl_c0, sl_c1, sl_c2, sl_c3, sl_c4, sl_c5, sl_c6, sl_c7, List.length_map, sp_lifeC, sp_inC, sp_rnC, hx, sp_xC, e2, e3, sp_o]
theorem jc_X1_meant {v : Int32} (hD : 92 ≤ D) (hok : sp_ok (N.map (·.2))) (hB : sp_okB N.length (B.map fun y => y.2.map (·.2))) (hV : sp_okV (B.map fun y => y.2.map (·.2))) (hT : T.length = 4) (hTn : ∀ k, k < 4 → ∃ n, n < 100000 ∧ T.getD k 0 = nI n) (h : sl_st ev c s P (sl_cs ev x bd mach l pa N B T out m L b ++ F)) : ∃ P', sw_Z D m_X1_meant [.ref x, .int v] P = some (sp_o (cA_meant (N.map (·.2), B.map (fun y => y.2.map (·.2)), T, out, m, L) v), P') ∧ sl_st ev (c + 1) (s + 8) P' (sl_cs ev x bd mach l pa N B T out m L b ++ F) := by
  obtain ⟨d, hDe, hDn⟩ := sw_dep hD; subst hDe; replace hD := hDn; clear hDn
  obtain ⟨hx, hm, hp, ol, lv, cl, rn, ca, rq, ra, rb, rs, M, Rw, K, hF⟩ := sl_cs_rd h
  have h0 := sl_rd_pt.mp (sl_rds_at hp 0 rfl)
  have e1 := jc_X1_checkPlace (D := d) (P := P) (v := v) (n := 8) (by omega)
  unfold cA_meant
  cases c1 : sp_at v 8
  · rw [c1, sp_ck_f] at e1
    rw [if_pos rfl]
    refine ⟨_, ?_, h.bump.wk (by omega) (by omega)⟩
    rw [M_X1_meant _ _ _ rfl]; simp only [at_X1_meant_0, ey_ld, sk_ld_s, ex_push, ey_cs2, sk_c_s, ey_gf, sk_gf_s, sk_v_s, ey_cv0, ey_ald, sk_ald_s, ex_rv, sw_gl_0, sw_gl_s, sw_fx_n, sw_fx_i, sw_fx_r, sw_fx_0, sw_fx_l, sw_fx_d, sw_sl1_0, sw_sl1_1, sw_sl1_s, sw_no_0, sw_no_s, sw_no_e, sw_mk_t, sw_mk_f, sw_mk_e, sw_en_0, sw_en_n, sw_en_i, sw_en_r, sw_en_z, sw_en_l, sw_en_d, sw_ok_0, sw_ok_1, sw_ok_2, sw_ok_3, sw_ok_4, sw_bo_s, sw_oi_s, sw_cl_s, sw_cl_x, sw_psh_s, sw_psh_n, sw_kd_s, sw_op_s, sw_oc_s, sw_oc_e, sw_oa_s, sw_el_n, sw_el_r, sl_kds_1, sl_kds_67, sw_fit_i, sw_fit_r, sw_fit_n, sw_fit_l, sw_fit_d, sw_fit_b, sw_fit_0, sw_fit_1, sw_rel_0, sw_rel_1, sw_rel_2, sw_rel_3, sw_rel_4, sw_rel_5, sw_hp_set, sw_nx_set, sw_sl_set, sw_ev_set, sw_hp_new, sw_nx_new, sw_sl_new, sw_ev_new, List.getElem?_cons_zero, List.getElem?_cons_succ, List.set_cons_zero, List.set_cons_succ, List.length_cons, List.length_nil, Nat.reduceAdd, Nat.reduceSub, Nat.reduceLT, Nat.reduceLeDiff, Nat.zero_lt_succ, Nat.zero_add, beq_self_eq_true, Bool.true_and, and_true, true_and, and_self, not_true_eq_false, not_false_eq_true, ↓reduceIte, Nat.reduceBEq, eq_self, sw_b_0, sw_b_1, decide_eq_false_iff_not, decide_eq_true_eq, sl_n10, sl_n01, Decidable.not_not, sl_ct, sl_cats_0, sl_cats_i, sl_cats_r, sl_cats_n, sl_cats_l, sl_ok_5, sl_ok9, decide_true, sp_machC, sp_nodeC, sp_opC, sl_z0, sl_z1, sl_z2, sl_z3, sl_z4, sl_z5, sl_z6, sl_z7, sl_c0, sl_c1, sl_c2, sl_c3, sl_c4, sl_c5, sl_c6, sl_c7, List.length_map, sp_lifeC, sp_inC, sp_rnC, e1, sw_cl_x, sp_o]
  · rw [c1, sp_ck_t] at e1
    rw [if_neg (by decide)]
    obtain ⟨vn, hvn, rfl⟩ := sp_at_of (n := 8) (by omega) c1
    have h2 : sl_st ev c s P (sl_prog ev pa N B T out ++ (sl_pt x (sp_xC pa mach bd) :: sl_bld ev bd mach pa b :: sl_pt mach (sp_machC m l) :: sl_pt l (64, L.map .int) :: F)) := h.pp 10 [4, 5, 6, 7, 8, 9, 0, 1, 2, 3]
    obtain ⟨P', r1, r2⟩ := jc_X2_meant (D := d) (by omega) hok hB hV hT hTn h2
    have r3 : sl_st ev (c + 1) (s + 8) P' (sl_cs ev x bd mach l pa N B T out m L b ++ F) := r2.drop.pp 10 [6, 7, 8, 9, 0, 1, 2, 3, 4, 5]
    have q1 := r2.get 0 rfl
    have t1 : (nI vn).toNatClampNeg = vn := nI_clamp (by omega)
    have t2 : ¬ nI vn < 0 := nI_pos (by omega)
    have hl : (sp_mnt (N.map (·.2)) (B.map fun y => y.2.map (·.2)) T).length = 8 := sp_mB_len _ _ _
    have t3 : ((sp_mnt (N.map (·.2)) (B.map fun y => y.2.map (·.2)) T).map Value.int)[vn]? = some (.int ((sp_mnt (N.map (·.2)) (B.map fun y => y.2.map (·.2)) T).getD vn 0)) := by
      rw [List.getElem?_map, List.getElem?_eq_getElem (by omega), sp_getD (List.getElem?_eq_getElem (by omega))]; rfl
    rw [nI_clamp (by omega)]
    refine ⟨P', ?_, r3⟩
    rw [M_X1_meant _ _ _ rfl]; simp only [at_X1_meant_0, ey_ld, sk_ld_s, ex_push, ey_cs2, sk_c_s, ey_gf, sk_gf_s, sk_v_s, ey_cv0, ey_ald, sk_ald_s, ex_rv, sw_gl_0, sw_gl_s, sw_fx_n, sw_fx_i, sw_fx_r, sw_fx_0, sw_fx_l, sw_fx_d, sw_sl1_0, sw_sl1_1, sw_sl1_s, sw_no_0, sw_no_s, sw_no_e, sw_mk_t, sw_mk_f, sw_mk_e, sw_en_0, sw_en_n, sw_en_i, sw_en_r, sw_en_z, sw_en_l, sw_en_d, sw_ok_0, sw_ok_1, sw_ok_2, sw_ok_3, sw_ok_4, sw_bo_s, sw_oi_s, sw_cl_s, sw_cl_x, sw_psh_s, sw_psh_n, sw_kd_s, sw_op_s, sw_oc_s, sw_oc_e, sw_oa_s, sw_el_n, sw_el_r, sl_kds_1, sl_kds_67, sw_fit_i, sw_fit_r, sw_fit_n, sw_fit_l, sw_fit_d, sw_fit_b, sw_fit_0, sw_fit_1, sw_rel_0, sw_rel_1, sw_rel_2, sw_rel_3, sw_rel_4, sw_rel_5, sw_hp_set, sw_nx_set, sw_sl_set, sw_ev_set, sw_hp_new, sw_nx_new, sw_sl_new, sw_ev_new, List.getElem?_cons_zero, List.getElem?_cons_succ, List.set_cons_zero, List.set_cons_succ, List.length_cons, List.length_nil, Nat.reduceAdd, Nat.reduceSub, Nat.reduceLT, Nat.reduceLeDiff, Nat.zero_lt_succ, Nat.zero_add, beq_self_eq_true, Bool.true_and, and_true, true_and, and_self, not_true_eq_false, not_false_eq_true, ↓reduceIte, Nat.reduceBEq, eq_self, sw_b_0, sw_b_1, decide_eq_false_iff_not, decide_eq_true_eq, sl_n10, sl_n01, Decidable.not_not, sl_ct, sl_cats_0, sl_cats_i, sl_cats_r, sl_cats_n, sl_cats_l, sl_ok_5, sl_ok9, decide_true, sp_machC, sp_nodeC, sp_opC, sl_z0, sl_z1, sl_z2, sl_z3, sl_z4, sl_z5, sl_z6, sl_z7, sl_c0, sl_c1, sl_c2, sl_c3, sl_c4, sl_c5, sl_c6, sl_c7, List.length_map, sp_lifeC, sp_inC, sp_rnC, hx, sp_xC, h0, e1, r1, q1, t1, t2, t3, sp_o]
end
