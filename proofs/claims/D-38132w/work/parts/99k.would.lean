/-! ===== the component's main class: what would be ===== -/
def cA_with (r k w : Int32) (m2 : sp_Mach) (b2 : sp_Bd) : Int32 ⊕ Nat := if sp_okm r k = false then .inr 0 else if sp_in w 3 15 = false then .inr 0 else .inl (sp_manyB m2 b2 w.toNatClampNeg)
def cA_cyclesWith (k cy : Int32) (b2 : sp_Bd) : Int32 ⊕ Nat := if sp_at k 8 = false then .inr 2 else if sp_in cy 1 9 = false then .inr 0 else .inl b2.2.2.2.1.2.2.2.2.2.2
/-- the least number of registers without a life in a slot -/
def sp_eno (bs : Nat → sp_Bd) : Nat → Nat → Int32
  | 0, _ => -1
  | j + 1, r => if sp_spl (bs r).1 (bs r).2.1 false (bs r).2.1.length = 0 then nI r else sp_eno bs j (r + 1)
def sp_enA (bs : Nat → sp_Bd) : Nat → Nat → Nat
  | 0, _ => 0
  | j + 1, r => 2 + sp_kA (bs r) + sp_enA bs j (r + 1)
def sp_enS (n : Nat) (bs : Nat → sp_Bd) : Nat → Nat → Nat
  | 0, _ => 0
  | j + 1, r => 12 + sp_kS n (bs r) + sp_enS n bs j (r + 1)
def sp_mr (m : sp_Mach) (r : Nat) : sp_Mach := (nI r, m.2.1 &&& ((1 <<< ((nI r - 3) &&& 31)) - 1), m.2.2.1, m.2.2.2.1, m.2.2.2.2)
section
variable {ev : Nat → Nat} {x bd mach l mach2 l2 D d c s : Nat} {pa : sp_PA} {N : List (Nat × sp_Node)} {B : List sp_Blk} {T L L2 : List Int32} {out : Int32} {m m2 : sp_Mach} {b b2 : sp_Bd} {F : List sl_A} {P : sw_P}
theorem jc_X1_buildWith (hD : 265 ≤ D) (hf : sp_fit (N.map (·.2), B.map (fun y => y.2.map (·.2)), T, out, m2, L2) 0 b2) (h : sl_st ev c s P (sl_pt x (sp_xC pa mach bd) :: sl_pt mach2 (sp_machC m2 l2) :: sl_pt l2 (64, L2.map .int) :: (sl_prog ev pa N B T out ++ F))) :
    ∃ P', sw_Z D m_X1_buildWith [.ref x, .ref mach2] P = some (.inl (some (.ref (sw_nx P))), P') ∧ sl_st ev (c + (1 + sp_kA b2)) (s + (6 + sp_kS N.length b2)) P' (sl_pt x (sp_xC pa mach bd) :: sl_bld ev (sw_nx P) mach2 pa b2 :: sl_pt mach2 (sp_machC m2 l2) :: sl_pt l2 (64, L2.map .int) :: (sl_prog ev pa N B T out ++ F)) := by
  obtain ⟨d, hDe, hDn⟩ := sw_dep hD; subst hDe; replace hD := hDn; clear hDn
  have h0 := h.get 0 rfl
  have f1 := sl_ne_nx h0 h.nx0
  have g1 := h.new sp_nf
  have g2 : sl_st ev _ _ _ (sl_pt (sw_nx P) sp_nf :: sl_pt mach2 (sp_machC m2 l2) :: sl_pt l2 (64, L2.map .int) :: (sl_prog ev pa N B T out ++ (sl_pt x (sp_xC pa mach bd) :: F))) := g1.pp 10 [0, 2, 3, 4, 5, 6, 7, 8, 9, 1]
  obtain ⟨P1, r1, s1⟩ := jc_bd (D := d) (by omega) (Or.inl rfl) hf g2
  have s3 : sl_st ev _ _ _ (sl_pt x (sp_xC pa mach bd) :: sl_bld ev (sw_nx P) mach2 pa b2 :: sl_pt mach2 (sp_machC m2 l2) :: sl_pt l2 (64, L2.map .int) :: (sl_prog ev pa N B T out ++ F)) := s1.pp 10 [9, 0, 1, 2, 3, 4, 5, 6, 7, 8]
  refine ⟨_, ?_, s3.wk (by omega) (by show s + 6 + _ ≤ _; omega)⟩
  unfold sp_nf at r1
  rw [M_X1_buildWith _ _ _ rfl]; simp only [at_X1_buildWith_0, ex_nw, ex_dup_i, ex_dup_r, ex_dup_n, ey_ld, sk_ld_s, ey_gf, sk_gf_s, sk_v_s, ex_push, ey_ci3, sk_c_s, ex_rv, sw_gl_0, sw_gl_s, sw_fx_n, sw_fx_i, sw_fx_r, sw_fx_0, sw_fx_l, sw_fx_d, sw_sl1_0, sw_sl1_1, sw_sl1_s, sw_no_0, sw_no_s, sw_no_e, sw_mk_t, sw_mk_f, sw_mk_e, sw_en_0, sw_en_n, sw_en_i, sw_en_r, sw_en_z, sw_en_l, sw_en_d, sw_ok_0, sw_ok_1, sw_ok_2, sw_ok_3, sw_ok_4, sw_bo_s, sw_oi_s, sw_cl_s, sw_cl_x, sw_psh_s, sw_psh_n, sw_kd_s, sw_op_s, sw_oc_s, sw_oc_e, sw_oa_s, sw_el_n, sw_el_r, sl_kds_1, sl_kds_67, sw_fit_i, sw_fit_r, sw_fit_n, sw_fit_l, sw_fit_d, sw_fit_b, sw_fit_0, sw_fit_1, sw_rel_0, sw_rel_1, sw_rel_2, sw_rel_3, sw_rel_4, sw_rel_5, sw_hp_set, sw_nx_set, sw_sl_set, sw_ev_set, sw_hp_new, sw_nx_new, sw_sl_new, sw_ev_new, List.getElem?_cons_zero, List.getElem?_cons_succ, List.set_cons_zero, List.set_cons_succ, List.length_cons, List.length_nil, Nat.reduceAdd, Nat.reduceSub, Nat.reduceLT, Nat.reduceLeDiff, Nat.zero_lt_succ, Nat.zero_add, beq_self_eq_true, Bool.true_and, and_true, true_and, and_self, not_true_eq_false, not_false_eq_true, ↓reduceIte, Nat.reduceBEq, eq_self, sw_b_0, sw_b_1, decide_eq_false_iff_not, decide_eq_true_eq, sl_n10, sl_n01, Decidable.not_not, sl_ct, sl_cats_0, sl_cats_i, sl_cats_r, sl_cats_n, sl_cats_l, sl_ok_5, sl_ok9, decide_true, sp_machC, sp_nodeC, sp_opC, sl_z0, sl_z1, sl_z2, sl_z3, sl_z4, sl_z5, sl_z6, sl_z7, sl_c0, sl_c1, sl_c2, sl_c3, sl_c4, sl_c5, sl_c6, sl_c7, List.length_map, sp_lifeC, sp_inC, sp_rnC, h0, sp_xC, f1, r1]
/-- a build on the side, read and let go -/
theorem jc_X1_side (hD : 268 ≤ D) {r k : Int32} {tw : Bool} (hf : sp_fit (N.map (·.2), B.map (fun y => y.2.map (·.2)), T, out, (r, k, m.2.2.1, m.2.2.2.1, tw), L) 0 b2) (h : sl_st ev c s P (sl_cs ev x bd mach l pa N B T out m L b ++ F)) :
    ∃ P1 P2, sw_Z D m_X3_with [.ref mach, .int r, .int k, .int (sw_b tw)] P = some (.inl (some (.ref (sw_nx P))), P1) ∧ sw_hp P1 x = some (sp_xC pa mach bd) ∧ sw_Z D m_X1_buildWith [.ref x, .ref (sw_nx P)] P1 = some (.inl (some (.ref (sw_nx P1))), P2) ∧
      (∃ ol lv cl rn ca rq ra rb rs M Rw K, sp_bdF ev (sw_hp P2) (sw_nx P1) (sw_nx P) pa (r, k, m.2.2.1, m.2.2.2.1, tw) L T out b2 ol lv cl rn ca rq ra rb rs M Rw K) ∧
      sl_st ev (c + (2 + sp_kA b2)) (s + (12 + sp_kS N.length b2)) P2 (sl_cs ev x bd mach l pa N B T out m L b ++ (sl_bld ev (sw_nx P1) (sw_nx P) pa b2 :: sl_pt (sw_nx P) (sp_machC (r, k, m.2.2.1, m.2.2.2.1, tw) l) :: F)) := by
  have g1 : sl_st ev c s P (sl_pt mach (sp_machC m l) :: sl_pt l (64, L.map .int) :: (sl_pt x (sp_xC pa mach bd) :: (sl_prog ev pa N B T out ++ (sl_bld ev bd mach pa b :: F)))) := h.pp 10 [2, 3, 0, 4, 5, 6, 7, 8, 9, 1]
  obtain ⟨P1, r1, s1⟩ := jc_X3_with (D := D) (x := r) (y := k) (f := tw) (by omega) g1
  have s2 : sl_st ev _ _ P1 (sl_pt x (sp_xC pa mach bd) :: sl_pt (sw_nx P) (sp_machC (r, k, m.2.2.1, m.2.2.2.1, tw) l) :: sl_pt l (64, L.map .int) :: (sl_prog ev pa N B T out ++ (sl_bld ev bd mach pa b :: sl_pt mach (sp_machC m l) :: F))) := s1.pp 11 [3, 0, 2, 4, 5, 6, 7, 8, 9, 10, 1]
  obtain ⟨P2, r2, s3⟩ := jc_X1_buildWith (D := D) (by omega) hf s2
  have hm2 : sp_mach (sw_hp P2) (sw_nx P) (r, k, m.2.2.1, m.2.2.2.1, tw) L := ⟨l, s3.get 2 rfl, s3.get 3 rfl⟩
  have hp2 : sl_rds (sw_hp P2) (sl_prog ev pa N B T out) := (sl_rds_append.mp (show sl_rds (sw_hp P2) (sl_prog ev pa N B T out ++ _) from s3.rd.2.2.2.2)).1
  refine ⟨P1, P2, r1, s2.get 0 rfl, r2, sp_bd_rd hm2 hp2 (s3.at 1 rfl), ?_⟩
  have s4 : sl_st ev _ _ P2 (sl_cs ev x bd mach l pa N B T out m L b ++ (sl_bld ev (sw_nx P1) (sw_nx P) pa b2 :: sl_pt (sw_nx P) (sp_machC (r, k, m.2.2.1, m.2.2.2.1, tw) l) :: F)) := s3.pp 12 [0, 10, 11, 3, 4, 5, 6, 7, 8, 9, 1, 2]
  exact s4.wk (by omega) (by omega)
theorem jc_X1_with {r k w : Int32} {tw : Bool} (hD : 269 ≤ D) (hf : sp_okm r k = true → sp_in w 3 15 = true → sp_fit (N.map (·.2), B.map (fun y => y.2.map (·.2)), T, out, (r, k, m.2.2.1, m.2.2.2.1, tw), L) 0 b2 ∧ sp_bok T out b2) (h : sl_st ev c s P (sl_cs ev x bd mach l pa N B T out m L b ++ F)) :
    ∃ P', sw_Z D m_X1_with [.ref x, .int r, .int k, .int (sw_b tw), .int w] P = some (sp_o (cA_with r k w (r, k, m.2.2.1, m.2.2.2.1, tw) b2), P') ∧ ((sp_okm r k = false ∨ sp_in w 3 15 = false) ∧ sl_st ev (c + 1) (s + 6) P' (sl_cs ev x bd mach l pa N B T out m L b ++ F) ∨ (sp_okm r k = true ∧ sp_in w 3 15 = true) ∧ sl_st ev (c + (2 + sp_kA b2)) (s + (12 + sp_kS N.length b2)) P' (sl_cs ev x bd mach l pa N B T out m L b ++ F)) := by
  obtain ⟨d, hDe, hDn⟩ := sw_dep hD; subst hDe; replace hD := hDn; clear hDn
  have hx := h.get 0 rfl
  have h2 := h.get 2 rfl
  have e1 := jc_X1_mustBeMachine (D := d) (P := P) (r := r) (k := k) (by omega)
  have e2 := jc_X1_mustBeIn (D := d) (P := P) (v := w) (lo := 3) (hi := 15) (by omega)
  unfold cA_with
  cases c1 : sp_okm r k
  · rw [c1, sp_ck_f] at e1
    rw [if_pos rfl]
    refine ⟨_, ?_, Or.inl ⟨Or.inl rfl, h.bump⟩⟩
    rw [M_X1_with _ _ _ rfl]; simp only [at_X1_with_0, ey_ld, sk_ld_s, ey_cs2, sk_c_s, ex_push, ey_cs3, ey_gf, sk_gf_s, sk_v_s, ey_cv3, ey_cv1, ex_rv, sw_gl_0, sw_gl_s, sw_fx_n, sw_fx_i, sw_fx_r, sw_fx_0, sw_fx_l, sw_fx_d, sw_sl1_0, sw_sl1_1, sw_sl1_s, sw_no_0, sw_no_s, sw_no_e, sw_mk_t, sw_mk_f, sw_mk_e, sw_en_0, sw_en_n, sw_en_i, sw_en_r, sw_en_z, sw_en_l, sw_en_d, sw_ok_0, sw_ok_1, sw_ok_2, sw_ok_3, sw_ok_4, sw_bo_s, sw_oi_s, sw_cl_s, sw_cl_x, sw_psh_s, sw_psh_n, sw_kd_s, sw_op_s, sw_oc_s, sw_oc_e, sw_oa_s, sw_el_n, sw_el_r, sl_kds_1, sl_kds_67, sw_fit_i, sw_fit_r, sw_fit_n, sw_fit_l, sw_fit_d, sw_fit_b, sw_fit_0, sw_fit_1, sw_rel_0, sw_rel_1, sw_rel_2, sw_rel_3, sw_rel_4, sw_rel_5, sw_hp_set, sw_nx_set, sw_sl_set, sw_ev_set, sw_hp_new, sw_nx_new, sw_sl_new, sw_ev_new, List.getElem?_cons_zero, List.getElem?_cons_succ, List.set_cons_zero, List.set_cons_succ, List.length_cons, List.length_nil, Nat.reduceAdd, Nat.reduceSub, Nat.reduceLT, Nat.reduceLeDiff, Nat.zero_lt_succ, Nat.zero_add, beq_self_eq_true, Bool.true_and, and_true, true_and, and_self, not_true_eq_false, not_false_eq_true, ↓reduceIte, Nat.reduceBEq, eq_self, sw_b_0, sw_b_1, decide_eq_false_iff_not, decide_eq_true_eq, sl_n10, sl_n01, Decidable.not_not, sl_ct, sl_cats_0, sl_cats_i, sl_cats_r, sl_cats_n, sl_cats_l, sl_ok_5, sl_ok9, decide_true, sp_machC, sp_nodeC, sp_opC, sl_z0, sl_z1, sl_z2, sl_z3, sl_z4, sl_z5, sl_z6, sl_z7, sl_c0, sl_c1, sl_c2, sl_c3, sl_c4, sl_c5, sl_c6, sl_c7, List.length_map, sp_lifeC, sp_inC, sp_rnC, e1, sw_cl_x, sp_o]
  · rw [c1, sp_ck_t] at e1
    rw [if_neg (by decide)]
    cases c2 : sp_in w 3 15
    · rw [c2, sp_ck_f] at e2
      rw [if_pos rfl]
      refine ⟨_, ?_, Or.inl ⟨Or.inr rfl, h.bump⟩⟩
      rw [M_X1_with _ _ _ rfl]; simp only [at_X1_with_0, ey_ld, sk_ld_s, ey_cs2, sk_c_s, ex_push, ey_cs3, ey_gf, sk_gf_s, sk_v_s, ey_cv3, ey_cv1, ex_rv, sw_gl_0, sw_gl_s, sw_fx_n, sw_fx_i, sw_fx_r, sw_fx_0, sw_fx_l, sw_fx_d, sw_sl1_0, sw_sl1_1, sw_sl1_s, sw_no_0, sw_no_s, sw_no_e, sw_mk_t, sw_mk_f, sw_mk_e, sw_en_0, sw_en_n, sw_en_i, sw_en_r, sw_en_z, sw_en_l, sw_en_d, sw_ok_0, sw_ok_1, sw_ok_2, sw_ok_3, sw_ok_4, sw_bo_s, sw_oi_s, sw_cl_s, sw_cl_x, sw_psh_s, sw_psh_n, sw_kd_s, sw_op_s, sw_oc_s, sw_oc_e, sw_oa_s, sw_el_n, sw_el_r, sl_kds_1, sl_kds_67, sw_fit_i, sw_fit_r, sw_fit_n, sw_fit_l, sw_fit_d, sw_fit_b, sw_fit_0, sw_fit_1, sw_rel_0, sw_rel_1, sw_rel_2, sw_rel_3, sw_rel_4, sw_rel_5, sw_hp_set, sw_nx_set, sw_sl_set, sw_ev_set, sw_hp_new, sw_nx_new, sw_sl_new, sw_ev_new, List.getElem?_cons_zero, List.getElem?_cons_succ, List.set_cons_zero, List.set_cons_succ, List.length_cons, List.length_nil, Nat.reduceAdd, Nat.reduceSub, Nat.reduceLT, Nat.reduceLeDiff, Nat.zero_lt_succ, Nat.zero_add, beq_self_eq_true, Bool.true_and, and_true, true_and, and_self, not_true_eq_false, not_false_eq_true, ↓reduceIte, Nat.reduceBEq, eq_self, sw_b_0, sw_b_1, decide_eq_false_iff_not, decide_eq_true_eq, sl_n10, sl_n01, Decidable.not_not, sl_ct, sl_cats_0, sl_cats_i, sl_cats_r, sl_cats_n, sl_cats_l, sl_ok_5, sl_ok9, decide_true, sp_machC, sp_nodeC, sp_opC, sl_z0, sl_z1, sl_z2, sl_z3, sl_z4, sl_z5, sl_z6, sl_z7, sl_c0, sl_c1, sl_c2, sl_c3, sl_c4, sl_c5, sl_c6, sl_c7, List.length_map, sp_lifeC, sp_inC, sp_rnC, e1, e2, sw_cl_x, sp_o]
    · rw [c2, sp_ck_t] at e2
      rw [if_neg (by decide)]
      obtain ⟨hf1, hf2⟩ := hf c1 c2
      obtain ⟨P1, P2, r1, r2, r3, ⟨ol, lv, cl, rn, ca, rq, ra, rb, rs, M, Rw, K, hF⟩, s4⟩ := jc_X1_side (D := d) (by omega) hf1 h
      obtain ⟨wn, hwn, rfl⟩ := sp_in_of (n := 15) (by omega) (by decide) c2
      have hw3 : 3 ≤ wn := by
        unfold sp_in at c2
        rw [Bool.and_eq_true, decide_eq_true_eq, decide_eq_true_eq] at c2
        exact (nI_leI (a := 3) (by omega) (by omega)).mp c2.1
      have e5 := jc_X4_manyB (D := d) (w := wn) (by omega) hF hf2 ⟨hw3, by omega⟩
      rw [nI_clamp (by omega)]
      refine ⟨P2, ?_, Or.inr ⟨⟨rfl, rfl⟩, sl_cs_drop s4⟩⟩
      have kd2 : sw_kd (sw_hp P mach) 2 = true := by rw [h2]; rfl
      have kd3 : sw_kd (sw_hp P2 (sw_nx P1)) 3 = true := by rw [hF.2.2.2.1]; rfl
      rw [h2] at kd2
      rw [M_X1_with _ _ _ rfl]; simp only [at_X1_with_0, ey_ld, sk_ld_s, ey_cs2, sk_c_s, ex_push, ey_cs3, ey_gf, sk_gf_s, sk_v_s, ey_cv3, ey_cv1, ex_rv, sw_gl_0, sw_gl_s, sw_fx_n, sw_fx_i, sw_fx_r, sw_fx_0, sw_fx_l, sw_fx_d, sw_sl1_0, sw_sl1_1, sw_sl1_s, sw_no_0, sw_no_s, sw_no_e, sw_mk_t, sw_mk_f, sw_mk_e, sw_en_0, sw_en_n, sw_en_i, sw_en_r, sw_en_z, sw_en_l, sw_en_d, sw_ok_0, sw_ok_1, sw_ok_2, sw_ok_3, sw_ok_4, sw_bo_s, sw_oi_s, sw_cl_s, sw_cl_x, sw_psh_s, sw_psh_n, sw_kd_s, sw_op_s, sw_oc_s, sw_oc_e, sw_oa_s, sw_el_n, sw_el_r, sl_kds_1, sl_kds_67, sw_fit_i, sw_fit_r, sw_fit_n, sw_fit_l, sw_fit_d, sw_fit_b, sw_fit_0, sw_fit_1, sw_rel_0, sw_rel_1, sw_rel_2, sw_rel_3, sw_rel_4, sw_rel_5, sw_hp_set, sw_nx_set, sw_sl_set, sw_ev_set, sw_hp_new, sw_nx_new, sw_sl_new, sw_ev_new, List.getElem?_cons_zero, List.getElem?_cons_succ, List.set_cons_zero, List.set_cons_succ, List.length_cons, List.length_nil, Nat.reduceAdd, Nat.reduceSub, Nat.reduceLT, Nat.reduceLeDiff, Nat.zero_lt_succ, Nat.zero_add, beq_self_eq_true, Bool.true_and, and_true, true_and, and_self, not_true_eq_false, not_false_eq_true, ↓reduceIte, Nat.reduceBEq, eq_self, sw_b_0, sw_b_1, decide_eq_false_iff_not, decide_eq_true_eq, sl_n10, sl_n01, Decidable.not_not, sl_ct, sl_cats_0, sl_cats_i, sl_cats_r, sl_cats_n, sl_cats_l, sl_ok_5, sl_ok9, decide_true, sp_machC, sp_nodeC, sp_opC, sl_z0, sl_z1, sl_z2, sl_z3, sl_z4, sl_z5, sl_z6, sl_z7, sl_c0, sl_c1, sl_c2, sl_c3, sl_c4, sl_c5, sl_c6, sl_c7, List.length_map, sp_lifeC, sp_inC, sp_rnC, hx, sp_xC, h2, e1, e2, r1, r2, r3, kd3, e5, sp_o]
theorem jc_X1_cyclesWith {k cy : Int32} (hD : 269 ≤ D) (hL : L.length = 8) (hf : sp_at k 8 = true → sp_in cy 1 9 = true → sp_fit (N.map (·.2), B.map (fun y => y.2.map (·.2)), T, out, m, L.set k.toNatClampNeg cy) 0 b2) (h : sl_st ev c s P (sl_cs ev x bd mach l pa N B T out m L b ++ F)) :
    ∃ P', sw_Z D m_X1_cyclesWith [.ref x, .int k, .int cy] P = some (sp_o (cA_cyclesWith k cy b2), P') ∧ ((sp_at k 8 = false ∨ sp_in cy 1 9 = false) ∧ sl_st ev (c + 1) (s + 6) P' (sl_cs ev x bd mach l pa N B T out m L b ++ F) ∨ (sp_at k 8 = true ∧ sp_in cy 1 9 = true) ∧ sl_st ev (c + (3 + sp_kA b2)) (s + (20 + sp_kS N.length b2)) P' (sl_cs ev x bd mach l pa N B T out m L b ++ F)) := by
  obtain ⟨d, hDe, hDn⟩ := sw_dep hD; subst hDe; replace hD := hDn; clear hDn
  have hx := h.get 0 rfl
  have h2 := h.get 2 rfl
  have e1 := jc_X1_checkPlace (D := d) (P := P) (v := k) (n := 8) (by omega)
  have e2 := jc_X1_mustBeIn (D := d) (P := P) (v := cy) (lo := 1) (hi := 9) (by omega)
  unfold cA_cyclesWith
  cases c1 : sp_at k 8
  · rw [c1, sp_ck_f] at e1
    rw [if_pos rfl]
    refine ⟨_, ?_, Or.inl ⟨Or.inl rfl, h.bump⟩⟩
    rw [M_X1_cyclesWith _ _ _ rfl]; simp only [at_X1_cyclesWith_0, ey_ld, sk_ld_s, ex_push, ey_cs2, sk_c_s, ey_cs3, ey_gf, sk_gf_s, sk_v_s, ey_cv2, ey_cv1, ex_rv, sw_gl_0, sw_gl_s, sw_fx_n, sw_fx_i, sw_fx_r, sw_fx_0, sw_fx_l, sw_fx_d, sw_sl1_0, sw_sl1_1, sw_sl1_s, sw_no_0, sw_no_s, sw_no_e, sw_mk_t, sw_mk_f, sw_mk_e, sw_en_0, sw_en_n, sw_en_i, sw_en_r, sw_en_z, sw_en_l, sw_en_d, sw_ok_0, sw_ok_1, sw_ok_2, sw_ok_3, sw_ok_4, sw_bo_s, sw_oi_s, sw_cl_s, sw_cl_x, sw_psh_s, sw_psh_n, sw_kd_s, sw_op_s, sw_oc_s, sw_oc_e, sw_oa_s, sw_el_n, sw_el_r, sl_kds_1, sl_kds_67, sw_fit_i, sw_fit_r, sw_fit_n, sw_fit_l, sw_fit_d, sw_fit_b, sw_fit_0, sw_fit_1, sw_rel_0, sw_rel_1, sw_rel_2, sw_rel_3, sw_rel_4, sw_rel_5, sw_hp_set, sw_nx_set, sw_sl_set, sw_ev_set, sw_hp_new, sw_nx_new, sw_sl_new, sw_ev_new, List.getElem?_cons_zero, List.getElem?_cons_succ, List.set_cons_zero, List.set_cons_succ, List.length_cons, List.length_nil, Nat.reduceAdd, Nat.reduceSub, Nat.reduceLT, Nat.reduceLeDiff, Nat.zero_lt_succ, Nat.zero_add, beq_self_eq_true, Bool.true_and, and_true, true_and, and_self, not_true_eq_false, not_false_eq_true, ↓reduceIte, Nat.reduceBEq, eq_self, sw_b_0, sw_b_1, decide_eq_false_iff_not, decide_eq_true_eq, sl_n10, sl_n01, Decidable.not_not, sl_ct, sl_cats_0, sl_cats_i, sl_cats_r, sl_cats_n, sl_cats_l, sl_ok_5, sl_ok9, decide_true, sp_machC, sp_nodeC, sp_opC, sl_z0, sl_z1, sl_z2, sl_z3, sl_z4, sl_z5, sl_z6, sl_z7, sl_c0, sl_c1, sl_c2, sl_c3, sl_c4, sl_c5, sl_c6, sl_c7, List.length_map, sp_lifeC, sp_inC, sp_rnC, e1, sw_cl_x, sp_o]
  · rw [c1, sp_ck_t] at e1
    rw [if_neg (by decide)]
    cases c2 : sp_in cy 1 9
    · rw [c2, sp_ck_f] at e2
      rw [if_pos rfl]
      refine ⟨_, ?_, Or.inl ⟨Or.inr rfl, h.bump⟩⟩
      rw [M_X1_cyclesWith _ _ _ rfl]; simp only [at_X1_cyclesWith_0, ey_ld, sk_ld_s, ex_push, ey_cs2, sk_c_s, ey_cs3, ey_gf, sk_gf_s, sk_v_s, ey_cv2, ey_cv1, ex_rv, sw_gl_0, sw_gl_s, sw_fx_n, sw_fx_i, sw_fx_r, sw_fx_0, sw_fx_l, sw_fx_d, sw_sl1_0, sw_sl1_1, sw_sl1_s, sw_no_0, sw_no_s, sw_no_e, sw_mk_t, sw_mk_f, sw_mk_e, sw_en_0, sw_en_n, sw_en_i, sw_en_r, sw_en_z, sw_en_l, sw_en_d, sw_ok_0, sw_ok_1, sw_ok_2, sw_ok_3, sw_ok_4, sw_bo_s, sw_oi_s, sw_cl_s, sw_cl_x, sw_psh_s, sw_psh_n, sw_kd_s, sw_op_s, sw_oc_s, sw_oc_e, sw_oa_s, sw_el_n, sw_el_r, sl_kds_1, sl_kds_67, sw_fit_i, sw_fit_r, sw_fit_n, sw_fit_l, sw_fit_d, sw_fit_b, sw_fit_0, sw_fit_1, sw_rel_0, sw_rel_1, sw_rel_2, sw_rel_3, sw_rel_4, sw_rel_5, sw_hp_set, sw_nx_set, sw_sl_set, sw_ev_set, sw_hp_new, sw_nx_new, sw_sl_new, sw_ev_new, List.getElem?_cons_zero, List.getElem?_cons_succ, List.set_cons_zero, List.set_cons_succ, List.length_cons, List.length_nil, Nat.reduceAdd, Nat.reduceSub, Nat.reduceLT, Nat.reduceLeDiff, Nat.zero_lt_succ, Nat.zero_add, beq_self_eq_true, Bool.true_and, and_true, true_and, and_self, not_true_eq_false, not_false_eq_true, ↓reduceIte, Nat.reduceBEq, eq_self, sw_b_0, sw_b_1, decide_eq_false_iff_not, decide_eq_true_eq, sl_n10, sl_n01, Decidable.not_not, sl_ct, sl_cats_0, sl_cats_i, sl_cats_r, sl_cats_n, sl_cats_l, sl_ok_5, sl_ok9, decide_true, sp_machC, sp_nodeC, sp_opC, sl_z0, sl_z1, sl_z2, sl_z3, sl_z4, sl_z5, sl_z6, sl_z7, sl_c0, sl_c1, sl_c2, sl_c3, sl_c4, sl_c5, sl_c6, sl_c7, List.length_map, sp_lifeC, sp_inC, sp_rnC, e1, e2, sw_cl_x, sp_o]
    · rw [c2, sp_ck_t] at e2
      rw [if_neg (by decide)]
      have hf1 := hf c1 c2
      obtain ⟨kn, hkn, rfl⟩ := sp_at_of (n := 8) (by omega) c1
      rw [nI_clamp (by omega)] at hf1
      have g1 : sl_st ev c s P (sl_pt mach (sp_machC m l) :: sl_pt l (64, L.map .int) :: (sl_pt x (sp_xC pa mach bd) :: (sl_prog ev pa N B T out ++ (sl_bld ev bd mach pa b :: F)))) := h.pp 10 [2, 3, 0, 4, 5, 6, 7, 8, 9, 1]
      obtain ⟨P1, r1, s1⟩ := jc_X3_with_2 (D := d) (k := kn) (v := cy) (by omega) hL hkn g1
      have hx1 := s1.get 4 rfl
      have s2 : sl_st ev _ _ P1 (sl_pt x (sp_xC pa mach bd) :: sl_pt (sw_nx P + 1) (sp_machC m (sw_nx P)) :: sl_pt (sw_nx P) (64, (L.set kn cy).map .int) :: (sl_prog ev pa N B T out ++ (sl_bld ev bd mach pa b :: sl_pt mach (sp_machC m l) :: sl_pt l (64, L.map .int) :: F))) := s1.pp 12 [4, 0, 1, 5, 6, 7, 8, 9, 10, 11, 2, 3]
      obtain ⟨P2, r2, s3⟩ := jc_X1_buildWith (D := d) (by omega) hf1 s2
      have hm2 : sp_mach (sw_hp P2) (sw_nx P + 1) m (L.set kn cy) := ⟨sw_nx P, s3.get 2 rfl, s3.get 3 rfl⟩
      have hp2 : sl_rds (sw_hp P2) (sl_prog ev pa N B T out) := (sl_rds_append.mp (show sl_rds (sw_hp P2) (sl_prog ev pa N B T out ++ _) from s3.rd.2.2.2.2)).1
      obtain ⟨ol, lv, cl, rn, ca, rq, ra, rb, rs, M, Rw, K, hF⟩ := sp_bd_rd hm2 hp2 (s3.at 1 rfl)
      have s4 : sl_st ev _ _ P2 (sl_bld ev (sw_nx P1) (sw_nx P + 1) pa b2 :: sl_pt (sw_nx P + 1) (sp_machC m (sw_nx P)) :: sl_pt (sw_nx P) (64, (L.set kn cy).map .int) :: (sl_cs ev x bd mach l pa N B T out m L b ++ F)) := s3.pp 13 [1, 2, 3, 0, 10, 11, 12, 4, 5, 6, 7, 8, 9]
      refine ⟨P2, ?_, Or.inr ⟨⟨rfl, rfl⟩, s4.drop.drop.drop.wk (by omega) (by omega)⟩⟩
      have q1 := hF.2.2.2.1
      have q2 := hF.2.2.2.2.2.1
      unfold sp_bdC at q1
      unfold sp_rnC at q2
      have kd2 : sw_kd (sw_hp P mach) 2 = true := by rw [h2]; rfl
      rw [h2] at kd2
      rw [M_X1_cyclesWith _ _ _ rfl]; simp only [at_X1_cyclesWith_0, ey_ld, sk_ld_s, ex_push, ey_cs2, sk_c_s, ey_cs3, ey_gf, sk_gf_s, sk_v_s, ey_cv2, ey_cv1, ex_rv, sw_gl_0, sw_gl_s, sw_fx_n, sw_fx_i, sw_fx_r, sw_fx_0, sw_fx_l, sw_fx_d, sw_sl1_0, sw_sl1_1, sw_sl1_s, sw_no_0, sw_no_s, sw_no_e, sw_mk_t, sw_mk_f, sw_mk_e, sw_en_0, sw_en_n, sw_en_i, sw_en_r, sw_en_z, sw_en_l, sw_en_d, sw_ok_0, sw_ok_1, sw_ok_2, sw_ok_3, sw_ok_4, sw_bo_s, sw_oi_s, sw_cl_s, sw_cl_x, sw_psh_s, sw_psh_n, sw_kd_s, sw_op_s, sw_oc_s, sw_oc_e, sw_oa_s, sw_el_n, sw_el_r, sl_kds_1, sl_kds_67, sw_fit_i, sw_fit_r, sw_fit_n, sw_fit_l, sw_fit_d, sw_fit_b, sw_fit_0, sw_fit_1, sw_rel_0, sw_rel_1, sw_rel_2, sw_rel_3, sw_rel_4, sw_rel_5, sw_hp_set, sw_nx_set, sw_sl_set, sw_ev_set, sw_hp_new, sw_nx_new, sw_sl_new, sw_ev_new, List.getElem?_cons_zero, List.getElem?_cons_succ, List.set_cons_zero, List.set_cons_succ, List.length_cons, List.length_nil, Nat.reduceAdd, Nat.reduceSub, Nat.reduceLT, Nat.reduceLeDiff, Nat.zero_lt_succ, Nat.zero_add, beq_self_eq_true, Bool.true_and, and_true, true_and, and_self, not_true_eq_false, not_false_eq_true, ↓reduceIte, Nat.reduceBEq, eq_self, sw_b_0, sw_b_1, decide_eq_false_iff_not, decide_eq_true_eq, sl_n10, sl_n01, Decidable.not_not, sl_ct, sl_cats_0, sl_cats_i, sl_cats_r, sl_cats_n, sl_cats_l, sl_ok_5, sl_ok9, decide_true, sp_machC, sp_nodeC, sp_opC, sl_z0, sl_z1, sl_z2, sl_z3, sl_z4, sl_z5, sl_z6, sl_z7, sl_c0, sl_c1, sl_c2, sl_c3, sl_c4, sl_c5, sl_c6, sl_c7, List.length_map, sp_lifeC, sp_inC, sp_rnC, hx, sp_xC, h2, e1, e2, r1, hx1, r2, q1, q2, sp_o]
theorem jc_X1_enoughNow {bs : Nat → sp_Bd} (hD : 269 ≤ D) (hf : ∀ r, 5 ≤ r → r < 12 → sp_fit (N.map (·.2), B.map (fun y => y.2.map (·.2)), T, out, sp_mr m r, L) 0 (bs r) ∧ sp_bok T out (bs r)) (h : sl_st ev c s P (sl_cs ev x bd mach l pa N B T out m L b ++ F)) :
    ∃ P', sw_Z D m_X1_enoughNow [.ref x] P = some (.inl (some (.int (sp_eno bs 7 5))), P') ∧ sl_st ev (c + sp_enA bs 7 5) (s + sp_enS N.length bs 7 5) P' (sl_cs ev x bd mach l pa N B T out m L b ++ F) := by
  obtain ⟨d, hDe, hDn⟩ := sw_dep hD; subst hDe; replace hD := hDn; clear hDn
  have hloop : ∀ j r, r + j = 12 → 5 ≤ r → ∀ c s P, sl_st ev c s P (sl_cs ev x bd mach l pa N B T out m L b ++ F) →
      ∃ P', sw_at (sw_Z d) b_X1_enoughNow 1 [some (.ref x), some (.int (nI r)), none] [] P = some (.inl (some (.int (sp_eno bs j r))), P') ∧ sl_st ev (c + sp_enA bs j r) (s + sp_enS N.length bs j r) P' (sl_cs ev x bd mach l pa N B T out m L b ++ F) := by
    intro j
    induction j with
    | zero =>
      intro r hr h5 c s P h
      have : r = 12 := by omega
      subst this
      have e1 : (11 : Int32) < nI 12 := by decide
      refine ⟨P, ?_, h⟩
      rw [at_X1_enoughNow_1]; simp only [at_X1_enoughNow_3, ex_push, ex_sti, ex_goto, ey_ld, sk_ld_s, ex_ic, ey_gf, sk_gf_s, sk_v_s, ex_ii, ey_cv3, sk_c_s, ey_cv1, ex_iz, ex_rv, ey_inc, sk_inc_s, sw_gl_0, sw_gl_s, sw_fx_n, sw_fx_i, sw_fx_r, sw_fx_0, sw_fx_l, sw_fx_d, sw_sl1_0, sw_sl1_1, sw_sl1_s, sw_no_0, sw_no_s, sw_no_e, sw_mk_t, sw_mk_f, sw_mk_e, sw_en_0, sw_en_n, sw_en_i, sw_en_r, sw_en_z, sw_en_l, sw_en_d, sw_ok_0, sw_ok_1, sw_ok_2, sw_ok_3, sw_ok_4, sw_bo_s, sw_oi_s, sw_cl_s, sw_cl_x, sw_psh_s, sw_psh_n, sw_kd_s, sw_op_s, sw_oc_s, sw_oc_e, sw_oa_s, sw_el_n, sw_el_r, sl_kds_1, sl_kds_67, sw_fit_i, sw_fit_r, sw_fit_n, sw_fit_l, sw_fit_d, sw_fit_b, sw_fit_0, sw_fit_1, sw_rel_0, sw_rel_1, sw_rel_2, sw_rel_3, sw_rel_4, sw_rel_5, sw_hp_set, sw_nx_set, sw_sl_set, sw_ev_set, sw_hp_new, sw_nx_new, sw_sl_new, sw_ev_new, List.getElem?_cons_zero, List.getElem?_cons_succ, List.set_cons_zero, List.set_cons_succ, List.length_cons, List.length_nil, Nat.reduceAdd, Nat.reduceSub, Nat.reduceLT, Nat.reduceLeDiff, Nat.zero_lt_succ, Nat.zero_add, beq_self_eq_true, Bool.true_and, and_true, true_and, and_self, not_true_eq_false, not_false_eq_true, ↓reduceIte, Nat.reduceBEq, eq_self, sw_b_0, sw_b_1, decide_eq_false_iff_not, decide_eq_true_eq, sl_n10, sl_n01, Decidable.not_not, sl_ct, sl_cats_0, sl_cats_i, sl_cats_r, sl_cats_n, sl_cats_l, sl_ok_5, sl_ok9, decide_true, sp_machC, sp_nodeC, sp_opC, sl_z0, sl_z1, sl_z2, sl_z3, sl_z4, sl_z5, sl_z6, sl_z7, sl_c0, sl_c1, sl_c2, sl_c3, sl_c4, sl_c5, sl_c6, sl_c7, List.length_map, sp_lifeC, sp_inC, sp_rnC, eq_true e1, sp_eno]
    | succ j ih =>
      intro r hr h5 c s P h
      have e1 : ¬ (11 : Int32) < nI r := nI_nlt (a := 11) (by omega) (by omega)
      have hx := h.get 0 rfl
      have h2 := h.get 2 rfl
      obtain ⟨hf1, hf2⟩ := hf r h5 (by omega)
      obtain ⟨P1, P2, r1, r2, r3, ⟨ol, lv, cl, rn, ca, rq, ra, rb, rs, M, Rw, K, hF⟩, s4⟩ := jc_X1_side (D := d) (b2 := bs r) (tw := m.2.2.2.2) (r := nI r) (k := m.2.1 &&& ((1 <<< ((nI r - 3) &&& 31)) - 1)) (by omega) hf1 h
      have e5 := jc_X4_manyB (D := d) (w := 5) (by omega) hF hf2 ⟨by omega, by omega⟩
      rw [show sp_manyB (nI r, m.2.1 &&& ((1 <<< ((nI r - 3) &&& 31)) - 1), m.2.2.1, m.2.2.2.1, m.2.2.2.2) (bs r) 5 = sp_spl (bs r).1 (bs r).2.1 false (bs r).2.1.length from rfl, show (nI 5 : Int32) = 5 from rfl] at e5
      have kd3 : sw_kd (sw_hp P2 (sw_nx P1)) 3 = true := by rw [hF.2.2.2.1]; rfl
      have h2' := h2
      unfold sp_machC at h2'
      have s5 := sl_cs_drop s4
      by_cases c1 : sp_spl (bs r).1 (bs r).2.1 false (bs r).2.1.length = 0
      · refine ⟨P2, ?_, s5.wk ?_ ?_⟩
        · unfold sp_eno
          rw [if_pos c1]
          rw [c1] at e5
          rw [at_X1_enoughNow_1]; simp only [ex_push, ex_sti, ex_goto, ey_ld, sk_ld_s, ex_ic, ey_gf, sk_gf_s, sk_v_s, ex_ii, ey_cv3, sk_c_s, ey_cv1, ex_iz, ex_rv, ey_inc, sk_inc_s, sw_gl_0, sw_gl_s, sw_fx_n, sw_fx_i, sw_fx_r, sw_fx_0, sw_fx_l, sw_fx_d, sw_sl1_0, sw_sl1_1, sw_sl1_s, sw_no_0, sw_no_s, sw_no_e, sw_mk_t, sw_mk_f, sw_mk_e, sw_en_0, sw_en_n, sw_en_i, sw_en_r, sw_en_z, sw_en_l, sw_en_d, sw_ok_0, sw_ok_1, sw_ok_2, sw_ok_3, sw_ok_4, sw_bo_s, sw_oi_s, sw_cl_s, sw_cl_x, sw_psh_s, sw_psh_n, sw_kd_s, sw_op_s, sw_oc_s, sw_oc_e, sw_oa_s, sw_el_n, sw_el_r, sl_kds_1, sl_kds_67, sw_fit_i, sw_fit_r, sw_fit_n, sw_fit_l, sw_fit_d, sw_fit_b, sw_fit_0, sw_fit_1, sw_rel_0, sw_rel_1, sw_rel_2, sw_rel_3, sw_rel_4, sw_rel_5, sw_hp_set, sw_nx_set, sw_sl_set, sw_ev_set, sw_hp_new, sw_nx_new, sw_sl_new, sw_ev_new, List.getElem?_cons_zero, List.getElem?_cons_succ, List.set_cons_zero, List.set_cons_succ, List.length_cons, List.length_nil, Nat.reduceAdd, Nat.reduceSub, Nat.reduceLT, Nat.reduceLeDiff, Nat.zero_lt_succ, Nat.zero_add, beq_self_eq_true, Bool.true_and, and_true, true_and, and_self, not_true_eq_false, not_false_eq_true, ↓reduceIte, Nat.reduceBEq, eq_self, sw_b_0, sw_b_1, decide_eq_false_iff_not, decide_eq_true_eq, sl_n10, sl_n01, Decidable.not_not, sl_ct, sl_cats_0, sl_cats_i, sl_cats_r, sl_cats_n, sl_cats_l, sl_ok_5, sl_ok9, decide_true, sp_machC, sp_nodeC, sp_opC, sl_z0, sl_z1, sl_z2, sl_z3, sl_z4, sl_z5, sl_z6, sl_z7, sl_c0, sl_c1, sl_c2, sl_c3, sl_c4, sl_c5, sl_c6, sl_c7, List.length_map, sp_lifeC, sp_inC, sp_rnC, eq_false e1, hx, sp_xC, h2', r1, r2, r3, kd3, e5]
        · show c + (2 + _) ≤ c + (2 + sp_kA (bs r) + sp_enA bs j (r + 1)); omega
        · show s + (12 + _) ≤ s + (12 + sp_kS N.length (bs r) + sp_enS N.length bs j (r + 1)); omega
      · obtain ⟨P', q1, q2⟩ := ih (r + 1) (by omega) (by omega) _ _ P2 s5
        refine ⟨P', ?_, q2.wk ?_ ?_⟩
        · unfold sp_eno
          rw [if_neg c1, ← q1]
          rw [at_X1_enoughNow_1]; simp only [at_X1_enoughNow_2, ex_push, ex_sti, ex_goto, ey_ld, sk_ld_s, ex_ic, ey_gf, sk_gf_s, sk_v_s, ex_ii, ey_cv3, sk_c_s, ey_cv1, ex_iz, ex_rv, ey_inc, sk_inc_s, sw_gl_0, sw_gl_s, sw_fx_n, sw_fx_i, sw_fx_r, sw_fx_0, sw_fx_l, sw_fx_d, sw_sl1_0, sw_sl1_1, sw_sl1_s, sw_no_0, sw_no_s, sw_no_e, sw_mk_t, sw_mk_f, sw_mk_e, sw_en_0, sw_en_n, sw_en_i, sw_en_r, sw_en_z, sw_en_l, sw_en_d, sw_ok_0, sw_ok_1, sw_ok_2, sw_ok_3, sw_ok_4, sw_bo_s, sw_oi_s, sw_cl_s, sw_cl_x, sw_psh_s, sw_psh_n, sw_kd_s, sw_op_s, sw_oc_s, sw_oc_e, sw_oa_s, sw_el_n, sw_el_r, sl_kds_1, sl_kds_67, sw_fit_i, sw_fit_r, sw_fit_n, sw_fit_l, sw_fit_d, sw_fit_b, sw_fit_0, sw_fit_1, sw_rel_0, sw_rel_1, sw_rel_2, sw_rel_3, sw_rel_4, sw_rel_5, sw_hp_set, sw_nx_set, sw_sl_set, sw_ev_set, sw_hp_new, sw_nx_new, sw_sl_new, sw_ev_new, List.getElem?_cons_zero, List.getElem?_cons_succ, List.set_cons_zero, List.set_cons_succ, List.length_cons, List.length_nil, Nat.reduceAdd, Nat.reduceSub, Nat.reduceLT, Nat.reduceLeDiff, Nat.zero_lt_succ, Nat.zero_add, beq_self_eq_true, Bool.true_and, and_true, true_and, and_self, not_true_eq_false, not_false_eq_true, ↓reduceIte, Nat.reduceBEq, eq_self, sw_b_0, sw_b_1, decide_eq_false_iff_not, decide_eq_true_eq, sl_n10, sl_n01, Decidable.not_not, sl_ct, sl_cats_0, sl_cats_i, sl_cats_r, sl_cats_n, sl_cats_l, sl_ok_5, sl_ok9, decide_true, sp_machC, sp_nodeC, sp_opC, sl_z0, sl_z1, sl_z2, sl_z3, sl_z4, sl_z5, sl_z6, sl_z7, sl_c0, sl_c1, sl_c2, sl_c3, sl_c4, sl_c5, sl_c6, sl_c7, List.length_map, sp_lifeC, sp_inC, sp_rnC, eq_false e1, hx, sp_xC, h2', r1, r2, r3, kd3, e5, eq_false c1, nI_1]
        · show c + (2 + _) + _ ≤ c + (2 + sp_kA (bs r) + sp_enA bs j (r + 1)); omega
        · show s + (12 + _) + _ ≤ s + (12 + sp_kS N.length (bs r) + sp_enS N.length bs j (r + 1)); omega
  obtain ⟨P', r1, r2⟩ := hloop 7 5 (by omega) (by omega) c s P h
  refine ⟨P', ?_, r2⟩
  rw [show (nI 5 : Int32) = 5 from rfl] at r1
  rw [M_X1_enoughNow _ _ _ rfl]; simp only [at_X1_enoughNow_0, ex_push, ex_sti, ex_goto, ey_ld, sk_ld_s, ex_ic, ey_gf, sk_gf_s, sk_v_s, ex_ii, ey_cv3, sk_c_s, ey_cv1, ex_iz, ex_rv, ey_inc, sk_inc_s, sw_gl_0, sw_gl_s, sw_fx_n, sw_fx_i, sw_fx_r, sw_fx_0, sw_fx_l, sw_fx_d, sw_sl1_0, sw_sl1_1, sw_sl1_s, sw_no_0, sw_no_s, sw_no_e, sw_mk_t, sw_mk_f, sw_mk_e, sw_en_0, sw_en_n, sw_en_i, sw_en_r, sw_en_z, sw_en_l, sw_en_d, sw_ok_0, sw_ok_1, sw_ok_2, sw_ok_3, sw_ok_4, sw_bo_s, sw_oi_s, sw_cl_s, sw_cl_x, sw_psh_s, sw_psh_n, sw_kd_s, sw_op_s, sw_oc_s, sw_oc_e, sw_oa_s, sw_el_n, sw_el_r, sl_kds_1, sl_kds_67, sw_fit_i, sw_fit_r, sw_fit_n, sw_fit_l, sw_fit_d, sw_fit_b, sw_fit_0, sw_fit_1, sw_rel_0, sw_rel_1, sw_rel_2, sw_rel_3, sw_rel_4, sw_rel_5, sw_hp_set, sw_nx_set, sw_sl_set, sw_ev_set, sw_hp_new, sw_nx_new, sw_sl_new, sw_ev_new, List.getElem?_cons_zero, List.getElem?_cons_succ, List.set_cons_zero, List.set_cons_succ, List.length_cons, List.length_nil, Nat.reduceAdd, Nat.reduceSub, Nat.reduceLT, Nat.reduceLeDiff, Nat.zero_lt_succ, Nat.zero_add, beq_self_eq_true, Bool.true_and, and_true, true_and, and_self, not_true_eq_false, not_false_eq_true, ↓reduceIte, Nat.reduceBEq, eq_self, sw_b_0, sw_b_1, decide_eq_false_iff_not, decide_eq_true_eq, sl_n10, sl_n01, Decidable.not_not, sl_ct, sl_cats_0, sl_cats_i, sl_cats_r, sl_cats_n, sl_cats_l, sl_ok_5, sl_ok9, decide_true, sp_machC, sp_nodeC, sp_opC, sl_z0, sl_z1, sl_z2, sl_z3, sl_z4, sl_z5, sl_z6, sl_z7, sl_c0, sl_c1, sl_c2, sl_c3, sl_c4, sl_c5, sl_c6, sl_c7, List.length_map, sp_lifeC, sp_inC, sp_rnC]
  exact r1
theorem jc_X1_unorderedNow (hD : 267 ≤ D) (hf : sp_fit (N.map (·.2), B.map (fun y => y.2.map (·.2)), T, out, m, L) 1 b2) (h : sl_st ev c s P (sl_cs ev x bd mach l pa N B T out m L b ++ F)) :
    ∃ P', sw_Z D m_X1_unorderedNow [.ref x] P = some (.inl (some (.int (b2.2.2.2.1.2.2.2.2.2.2 - b.2.2.2.1.2.2.2.2.2.2))), P') ∧ sl_st ev (c + (1 + sp_kA b2)) (s + (6 + sp_kS N.length b2)) P' (sl_cs ev x bd mach l pa N B T out m L b ++ F) := by
  obtain ⟨d, hDe, hDn⟩ := sw_dep hD; subst hDe; replace hD := hDn; clear hDn
  have h0 := h.get 0 rfl
  have f1 := sl_ne_nx h0 h.nx0
  have g1 := h.new sp_nf
  have g2 : sl_st ev _ _ _ (sl_pt (sw_nx P) sp_nf :: sl_pt mach (sp_machC m l) :: sl_pt l (64, L.map .int) :: (sl_prog ev pa N B T out ++ (sl_pt x (sp_xC pa mach bd) :: sl_bld ev bd mach pa b :: F))) := g1.pp 11 [0, 3, 4, 5, 6, 7, 8, 9, 10, 1, 2]
  obtain ⟨P1, r1, s1⟩ := jc_bd (D := d) (by omega) (Or.inr rfl) hf g2
  have s2 : sl_st ev _ _ _ (sl_bld ev (sw_nx P) mach pa b2 :: (sl_cs ev x bd mach l pa N B T out m L b ++ F)) := s1.pp 11 [0, 9, 10, 1, 2, 3, 4, 5, 6, 7, 8]
  obtain ⟨hx, hm, hp, ol, lv, cl, rn, ca, rq, ra, rb, rs, M, Rw, K, hF⟩ := sl_cs_rd s2.drop
  obtain ⟨ol2, lv2, cl2, rn2, ca2, rq2, ra2, rb2, rs2, M2, Rw2, K2, hF2⟩ := sp_bd_rd hm hp (s2.at 0 rfl)
  have q1 := hF.2.2.2.1
  have q2 := hF.2.2.2.2.2.1
  have q3 := hF2.2.2.2.1
  have q4 := hF2.2.2.2.2.2.1
  unfold sp_bdC at q1 q3
  unfold sp_rnC at q2 q4
  refine ⟨P1, ?_, s2.drop.wk (by omega) (by show s + 6 + _ ≤ _; omega)⟩
  unfold sp_nf at r1
  rw [M_X1_unorderedNow _ _ _ rfl]; simp only [at_X1_unorderedNow_0, ex_nw, ex_dup_i, ex_dup_r, ex_dup_n, ey_ld, sk_ld_s, ey_gf, sk_gf_s, sk_v_s, ex_push, ey_ci3, sk_c_s, ex_ii, ex_rv, sw_gl_0, sw_gl_s, sw_fx_n, sw_fx_i, sw_fx_r, sw_fx_0, sw_fx_l, sw_fx_d, sw_sl1_0, sw_sl1_1, sw_sl1_s, sw_no_0, sw_no_s, sw_no_e, sw_mk_t, sw_mk_f, sw_mk_e, sw_en_0, sw_en_n, sw_en_i, sw_en_r, sw_en_z, sw_en_l, sw_en_d, sw_ok_0, sw_ok_1, sw_ok_2, sw_ok_3, sw_ok_4, sw_bo_s, sw_oi_s, sw_cl_s, sw_cl_x, sw_psh_s, sw_psh_n, sw_kd_s, sw_op_s, sw_oc_s, sw_oc_e, sw_oa_s, sw_el_n, sw_el_r, sl_kds_1, sl_kds_67, sw_fit_i, sw_fit_r, sw_fit_n, sw_fit_l, sw_fit_d, sw_fit_b, sw_fit_0, sw_fit_1, sw_rel_0, sw_rel_1, sw_rel_2, sw_rel_3, sw_rel_4, sw_rel_5, sw_hp_set, sw_nx_set, sw_sl_set, sw_ev_set, sw_hp_new, sw_nx_new, sw_sl_new, sw_ev_new, List.getElem?_cons_zero, List.getElem?_cons_succ, List.set_cons_zero, List.set_cons_succ, List.length_cons, List.length_nil, Nat.reduceAdd, Nat.reduceSub, Nat.reduceLT, Nat.reduceLeDiff, Nat.zero_lt_succ, Nat.zero_add, beq_self_eq_true, Bool.true_and, and_true, true_and, and_self, not_true_eq_false, not_false_eq_true, ↓reduceIte, Nat.reduceBEq, eq_self, sw_b_0, sw_b_1, decide_eq_false_iff_not, decide_eq_true_eq, sl_n10, sl_n01, Decidable.not_not, sl_ct, sl_cats_0, sl_cats_i, sl_cats_r, sl_cats_n, sl_cats_l, sl_ok_5, sl_ok9, decide_true, sp_machC, sp_nodeC, sp_opC, sl_z0, sl_z1, sl_z2, sl_z3, sl_z4, sl_z5, sl_z6, sl_z7, sl_c0, sl_c1, sl_c2, sl_c3, sl_c4, sl_c5, sl_c6, sl_c7, List.length_map, sp_lifeC, sp_inC, sp_rnC, h0, hx, sp_xC, f1, r1, q1, q2, q3, q4]
theorem jc_X1_enough {bs : Nat → sp_Bd} (hD : 270 ≤ D) (hf : ∀ r, 5 ≤ r → r < 12 → sp_fit (N.map (·.2), B.map (fun y => y.2.map (·.2)), T, out, sp_mr m r, L) 0 (bs r) ∧ sp_bok T out (bs r)) (h : sl_st ev c s P (sl_cs ev x bd mach l pa N B T out m L b ++ F)) :
    ∃ P', sw_Z D m_X1_enough [.ref x] P = some (.inl (some (.int (sp_eno bs 7 5))), P') ∧ sl_st ev (c + sp_enA bs 7 5) (s + sp_enS N.length bs 7 5) P' (sl_cs ev x bd mach l pa N B T out m L b ++ F) := by
  obtain ⟨d, hDe, hDn⟩ := sw_dep hD; subst hDe; replace hD := hDn; clear hDn
  obtain ⟨P', r1, r2⟩ := jc_X1_enoughNow (D := d) (by omega) hf h
  refine ⟨P', ?_, r2⟩
  rw [M_X1_enough _ _ _ rfl]; simp only [at_X1_enough_0, ey_ld, sk_ld_s, ey_cv0, sk_c_s, ex_rv, sw_gl_0, sw_gl_s, sw_fx_n, sw_fx_i, sw_fx_r, sw_fx_0, sw_fx_l, sw_fx_d, sw_sl1_0, sw_sl1_1, sw_sl1_s, sw_no_0, sw_no_s, sw_no_e, sw_mk_t, sw_mk_f, sw_mk_e, sw_en_0, sw_en_n, sw_en_i, sw_en_r, sw_en_z, sw_en_l, sw_en_d, sw_ok_0, sw_ok_1, sw_ok_2, sw_ok_3, sw_ok_4, sw_bo_s, sw_oi_s, sw_cl_s, sw_cl_x, sw_psh_s, sw_psh_n, sw_kd_s, sw_op_s, sw_oc_s, sw_oc_e, sw_oa_s, sw_el_n, sw_el_r, sl_kds_1, sl_kds_67, sw_fit_i, sw_fit_r, sw_fit_n, sw_fit_l, sw_fit_d, sw_fit_b, sw_fit_0, sw_fit_1, sw_rel_0, sw_rel_1, sw_rel_2, sw_rel_3, sw_rel_4, sw_rel_5, sw_hp_set, sw_nx_set, sw_sl_set, sw_ev_set, sw_hp_new, sw_nx_new, sw_sl_new, sw_ev_new, List.getElem?_cons_zero, List.getElem?_cons_succ, List.set_cons_zero, List.set_cons_succ, List.length_cons, List.length_nil, Nat.reduceAdd, Nat.reduceSub, Nat.reduceLT, Nat.reduceLeDiff, Nat.zero_lt_succ, Nat.zero_add, beq_self_eq_true, Bool.true_and, and_true, true_and, and_self, not_true_eq_false, not_false_eq_true, ↓reduceIte, Nat.reduceBEq, eq_self, sw_b_0, sw_b_1, decide_eq_false_iff_not, decide_eq_true_eq, sl_n10, sl_n01, Decidable.not_not, sl_ct, sl_cats_0, sl_cats_i, sl_cats_r, sl_cats_n, sl_cats_l, sl_ok_5, sl_ok9, decide_true, sp_machC, sp_nodeC, sp_opC, sl_z0, sl_z1, sl_z2, sl_z3, sl_z4, sl_z5, sl_z6, sl_z7, sl_c0, sl_c1, sl_c2, sl_c3, sl_c4, sl_c5, sl_c6, sl_c7, List.length_map, sp_lifeC, sp_inC, sp_rnC, h.get 0 rfl, sp_xC, r1]
theorem jc_X1_unordered (hD : 268 ≤ D) (hf : sp_fit (N.map (·.2), B.map (fun y => y.2.map (·.2)), T, out, m, L) 1 b2) (h : sl_st ev c s P (sl_cs ev x bd mach l pa N B T out m L b ++ F)) :
    ∃ P', sw_Z D m_X1_unordered [.ref x] P = some (.inl (some (.int (b2.2.2.2.1.2.2.2.2.2.2 - b.2.2.2.1.2.2.2.2.2.2))), P') ∧ sl_st ev (c + (1 + sp_kA b2)) (s + (6 + sp_kS N.length b2)) P' (sl_cs ev x bd mach l pa N B T out m L b ++ F) := by
  obtain ⟨d, hDe, hDn⟩ := sw_dep hD; subst hDe; replace hD := hDn; clear hDn
  obtain ⟨P', r1, r2⟩ := jc_X1_unorderedNow (D := d) (by omega) hf h
  refine ⟨P', ?_, r2⟩
  rw [M_X1_unordered _ _ _ rfl]; simp only [at_X1_unordered_0, ey_ld, sk_ld_s, ey_cv0, sk_c_s, ex_rv, sw_gl_0, sw_gl_s, sw_fx_n, sw_fx_i, sw_fx_r, sw_fx_0, sw_fx_l, sw_fx_d, sw_sl1_0, sw_sl1_1, sw_sl1_s, sw_no_0, sw_no_s, sw_no_e, sw_mk_t, sw_mk_f, sw_mk_e, sw_en_0, sw_en_n, sw_en_i, sw_en_r, sw_en_z, sw_en_l, sw_en_d, sw_ok_0, sw_ok_1, sw_ok_2, sw_ok_3, sw_ok_4, sw_bo_s, sw_oi_s, sw_cl_s, sw_cl_x, sw_psh_s, sw_psh_n, sw_kd_s, sw_op_s, sw_oc_s, sw_oc_e, sw_oa_s, sw_el_n, sw_el_r, sl_kds_1, sl_kds_67, sw_fit_i, sw_fit_r, sw_fit_n, sw_fit_l, sw_fit_d, sw_fit_b, sw_fit_0, sw_fit_1, sw_rel_0, sw_rel_1, sw_rel_2, sw_rel_3, sw_rel_4, sw_rel_5, sw_hp_set, sw_nx_set, sw_sl_set, sw_ev_set, sw_hp_new, sw_nx_new, sw_sl_new, sw_ev_new, List.getElem?_cons_zero, List.getElem?_cons_succ, List.set_cons_zero, List.set_cons_succ, List.length_cons, List.length_nil, Nat.reduceAdd, Nat.reduceSub, Nat.reduceLT, Nat.reduceLeDiff, Nat.zero_lt_succ, Nat.zero_add, beq_self_eq_true, Bool.true_and, and_true, true_and, and_self, not_true_eq_false, not_false_eq_true, ↓reduceIte, Nat.reduceBEq, eq_self, sw_b_0, sw_b_1, decide_eq_false_iff_not, decide_eq_true_eq, sl_n10, sl_n01, Decidable.not_not, sl_ct, sl_cats_0, sl_cats_i, sl_cats_r, sl_cats_n, sl_cats_l, sl_ok_5, sl_ok9, decide_true, sp_machC, sp_nodeC, sp_opC, sl_z0, sl_z1, sl_z2, sl_z3, sl_z4, sl_z5, sl_z6, sl_z7, sl_c0, sl_c1, sl_c2, sl_c3, sl_c4, sl_c5, sl_c6, sl_c7, List.length_map, sp_lifeC, sp_inC, sp_rnC, h.get 0 rfl, sp_xC, r1]
end
