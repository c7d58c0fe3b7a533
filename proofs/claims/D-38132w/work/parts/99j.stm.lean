/-! ===== the component's main class: statements ===== -/
theorem sl_setB {B : List sp_Blk} {j : Nat} {y : sp_Blk} (hy : B[j]? = some y) (z : List (Nat × sp_Stm)) : (B.set j (y.1, z)).map (fun y => y.2.map (·.2)) = (B.map (fun y => y.2.map (·.2))).set j (z.map (·.2)) := by rw [List.map_set]
section
variable {ev : Nat → Nat} {x bd mach l D d c s : Nat} {pa : sp_PA} {N : List (Nat × sp_Node)} {B : List sp_Blk} {T L : List Int32} {out : Int32} {m : sp_Mach} {b0 b' : sp_Bd} {F : List sl_A} {P : sw_P}
theorem jc_X1_statement {k v n : Int32} (hD : 267 ≤ D) (hN : N.length ≤ 80) (hB : B.length = 4) (hBl : ∀ y ∈ B, y.2.length ≤ 24) (hst : ∀ y ∈ B, sp_stms (B.map (fun y => y.2.map (·.2))) 4 < 24 → y.2.length < 24) (hf : ∀ q w, cM_statement (N.map (·.2), B.map (fun y => y.2.map (·.2)), T, out, m, L) k v n = .inl (q, w) → sp_fit q 0 b') (h : sl_st ev c s P (sl_cs ev x bd mach l pa N B T out m L b0 ++ F)) :
    ∃ P', sw_Z D m_X1_statement [.ref x, .int k, .int v, .int n] P = some (sp_o (sp_rel (cM_statement (N.map (·.2), B.map (fun y => y.2.map (·.2)), T, out, m, L) k v n)), P') ∧
      ((∃ e, cM_statement (N.map (·.2), B.map (fun y => y.2.map (·.2)), T, out, m, L) k v n = .inr e ∧ sl_st ev (c + 1) (s + 6) P' (sl_cs ev x bd mach l pa N B T out m L b0 ++ F)) ∨ ∃ q w, cM_statement (N.map (·.2), B.map (fun y => y.2.map (·.2)), T, out, m, L) k v n = .inl (q, w) ∧ sp_CS ev (c + (3 + sp_kA b')) (s + (60 + sp_kS N.length b')) P' x q b' F) := by
  obtain ⟨d, hDe, hDn⟩ := sw_dep hD; subst hDe; replace hD := hDn; clear hDn
  have hx := h.get 0 rfl
  have h1 : sl_st ev c s P (sl_prog ev pa N B T out ++ (sl_pt x (sp_xC pa mach bd) :: sl_pt mach (sp_machC m l) :: sl_pt l (64, L.map .int) :: sl_bld ev bd mach pa b0 :: F)) := h.pp 10 [4, 5, 6, 7, 8, 9, 0, 2, 3, 1]
  have hp : sl_rds (sw_hp P) (sl_prog ev pa N B T out) := (sl_rds_append.mp h1.rd).1
  have hp0 := h1.get 0 rfl
  have e1 := jc_X1_checkBlock (D := d) (P := P) (v := k) (by omega)
  have e2 := jc_X1_checkPlace (D := d) (P := P) (v := v) (n := 8) (by omega)
  have e3 := jc_X1_checkPlace (D := d) (P := P) (v := n) (n := nI N.length) (by omega)
  have s1 := jc_J2_sizeR (D := d) (by omega) (h1.at 1 rfl)
  obtain ⟨_, _, _, _, s3, _⟩ := sl_rd_lx (h1.at 1 rfl)
  rw [List.length_map] at s1
  have hlen : (N.map (·.2)).length = N.length := List.length_map ..
  unfold cM_statement at hf ⊢
  dsimp only at hf ⊢
  rw [hlen] at hf ⊢
  cases c1 : sp_at k 4
  · rw [c1, sp_ck_f] at e1
    rw [if_pos rfl]
    refine ⟨_, ?_, Or.inl ⟨2, rfl, h.bump⟩⟩
    rw [M_X1_statement _ _ _ rfl]; simp only [at_X1_statement_0, ey_ld, sk_ld_s, ey_cs1, sk_c_s, ex_push, ey_cs2, ey_gf, sk_gf_s, sk_v_s, ey_cv0, ey_cv1, ex_iz, ex_goto, ex_ic, ey_pf, sk_pf_s, sw_set_set, ex_ct, ex_sta, ex_sta_n, ex_nw, ex_dup_i, ex_dup_r, ex_dup_n, ey_ci2, ex_pop_i, ex_pop_r, ex_pop_n, ex_rv, sw_gl_0, sw_gl_s, sw_fx_n, sw_fx_i, sw_fx_r, sw_fx_0, sw_fx_l, sw_fx_d, sw_sl1_0, sw_sl1_1, sw_sl1_s, sw_no_0, sw_no_s, sw_no_e, sw_mk_t, sw_mk_f, sw_mk_e, sw_en_0, sw_en_n, sw_en_i, sw_en_r, sw_en_z, sw_en_l, sw_en_d, sw_ok_0, sw_ok_1, sw_ok_2, sw_ok_3, sw_ok_4, sw_bo_s, sw_oi_s, sw_cl_s, sw_cl_x, sw_psh_s, sw_psh_n, sw_kd_s, sw_op_s, sw_oc_s, sw_oc_e, sw_oa_s, sw_el_n, sw_el_r, sl_kds_1, sl_kds_67, sw_fit_i, sw_fit_r, sw_fit_n, sw_fit_l, sw_fit_d, sw_fit_b, sw_fit_0, sw_fit_1, sw_rel_0, sw_rel_1, sw_rel_2, sw_rel_3, sw_rel_4, sw_rel_5, sw_hp_set, sw_nx_set, sw_sl_set, sw_ev_set, sw_hp_new, sw_nx_new, sw_sl_new, sw_ev_new, List.getElem?_cons_zero, List.getElem?_cons_succ, List.set_cons_zero, List.set_cons_succ, List.length_cons, List.length_nil, Nat.reduceAdd, Nat.reduceSub, Nat.reduceLT, Nat.reduceLeDiff, Nat.zero_lt_succ, Nat.zero_add, beq_self_eq_true, Bool.true_and, and_true, true_and, and_self, not_true_eq_false, not_false_eq_true, ↓reduceIte, Nat.reduceBEq, eq_self, sw_b_0, sw_b_1, decide_eq_false_iff_not, decide_eq_true_eq, sl_n10, sl_n01, Decidable.not_not, sl_ct, sl_cats_0, sl_cats_i, sl_cats_r, sl_cats_n, sl_cats_l, sl_ok_5, sl_ok9, decide_true, sp_machC, sp_nodeC, sp_opC, sl_z0, sl_z1, sl_z2, sl_z3, sl_z4, sl_z5, sl_z6, sl_z7, sl_c0, sl_c1, sl_c2, sl_c3, sl_c4, sl_c5, sl_c6, sl_c7, List.length_map, sp_lifeC, sp_inC, sp_rnC, e1, sw_cl_x, sp_o, sp_rel]
  · rw [c1, sp_ck_t] at e1
    rw [c1, if_neg (by decide)] at hf
    rw [if_neg (by decide)]
    cases c2 : sp_at v 8
    · rw [c2, sp_ck_f] at e2
      rw [if_pos rfl]
      refine ⟨_, ?_, Or.inl ⟨2, rfl, h.bump⟩⟩
      rw [M_X1_statement _ _ _ rfl]; simp only [at_X1_statement_0, ey_ld, sk_ld_s, ey_cs1, sk_c_s, ex_push, ey_cs2, ey_gf, sk_gf_s, sk_v_s, ey_cv0, ey_cv1, ex_iz, ex_goto, ex_ic, ey_pf, sk_pf_s, sw_set_set, ex_ct, ex_sta, ex_sta_n, ex_nw, ex_dup_i, ex_dup_r, ex_dup_n, ey_ci2, ex_pop_i, ex_pop_r, ex_pop_n, ex_rv, sw_gl_0, sw_gl_s, sw_fx_n, sw_fx_i, sw_fx_r, sw_fx_0, sw_fx_l, sw_fx_d, sw_sl1_0, sw_sl1_1, sw_sl1_s, sw_no_0, sw_no_s, sw_no_e, sw_mk_t, sw_mk_f, sw_mk_e, sw_en_0, sw_en_n, sw_en_i, sw_en_r, sw_en_z, sw_en_l, sw_en_d, sw_ok_0, sw_ok_1, sw_ok_2, sw_ok_3, sw_ok_4, sw_bo_s, sw_oi_s, sw_cl_s, sw_cl_x, sw_psh_s, sw_psh_n, sw_kd_s, sw_op_s, sw_oc_s, sw_oc_e, sw_oa_s, sw_el_n, sw_el_r, sl_kds_1, sl_kds_67, sw_fit_i, sw_fit_r, sw_fit_n, sw_fit_l, sw_fit_d, sw_fit_b, sw_fit_0, sw_fit_1, sw_rel_0, sw_rel_1, sw_rel_2, sw_rel_3, sw_rel_4, sw_rel_5, sw_hp_set, sw_nx_set, sw_sl_set, sw_ev_set, sw_hp_new, sw_nx_new, sw_sl_new, sw_ev_new, List.getElem?_cons_zero, List.getElem?_cons_succ, List.set_cons_zero, List.set_cons_succ, List.length_cons, List.length_nil, Nat.reduceAdd, Nat.reduceSub, Nat.reduceLT, Nat.reduceLeDiff, Nat.zero_lt_succ, Nat.zero_add, beq_self_eq_true, Bool.true_and, and_true, true_and, and_self, not_true_eq_false, not_false_eq_true, ↓reduceIte, Nat.reduceBEq, eq_self, sw_b_0, sw_b_1, decide_eq_false_iff_not, decide_eq_true_eq, sl_n10, sl_n01, Decidable.not_not, sl_ct, sl_cats_0, sl_cats_i, sl_cats_r, sl_cats_n, sl_cats_l, sl_ok_5, sl_ok9, decide_true, sp_machC, sp_nodeC, sp_opC, sl_z0, sl_z1, sl_z2, sl_z3, sl_z4, sl_z5, sl_z6, sl_z7, sl_c0, sl_c1, sl_c2, sl_c3, sl_c4, sl_c5, sl_c6, sl_c7, List.length_map, sp_lifeC, sp_inC, sp_rnC, e1, e2, sw_cl_x, sp_o, sp_rel]
    · rw [c2, sp_ck_t] at e2
      rw [c2, if_neg (by decide)] at hf
      rw [if_neg (by decide)]
      cases c3 : sp_at n (nI N.length)
      · rw [c3, sp_ck_f] at e3
        rw [if_pos rfl]
        refine ⟨_, ?_, Or.inl ⟨2, rfl, h.bump⟩⟩
        rw [M_X1_statement _ _ _ rfl]; simp only [at_X1_statement_0, ey_ld, sk_ld_s, ey_cs1, sk_c_s, ex_push, ey_cs2, ey_gf, sk_gf_s, sk_v_s, ey_cv0, ey_cv1, ex_iz, ex_goto, ex_ic, ey_pf, sk_pf_s, sw_set_set, ex_ct, ex_sta, ex_sta_n, ex_nw, ex_dup_i, ex_dup_r, ex_dup_n, ey_ci2, ex_pop_i, ex_pop_r, ex_pop_n, ex_rv, sw_gl_0, sw_gl_s, sw_fx_n, sw_fx_i, sw_fx_r, sw_fx_0, sw_fx_l, sw_fx_d, sw_sl1_0, sw_sl1_1, sw_sl1_s, sw_no_0, sw_no_s, sw_no_e, sw_mk_t, sw_mk_f, sw_mk_e, sw_en_0, sw_en_n, sw_en_i, sw_en_r, sw_en_z, sw_en_l, sw_en_d, sw_ok_0, sw_ok_1, sw_ok_2, sw_ok_3, sw_ok_4, sw_bo_s, sw_oi_s, sw_cl_s, sw_cl_x, sw_psh_s, sw_psh_n, sw_kd_s, sw_op_s, sw_oc_s, sw_oc_e, sw_oa_s, sw_el_n, sw_el_r, sl_kds_1, sl_kds_67, sw_fit_i, sw_fit_r, sw_fit_n, sw_fit_l, sw_fit_d, sw_fit_b, sw_fit_0, sw_fit_1, sw_rel_0, sw_rel_1, sw_rel_2, sw_rel_3, sw_rel_4, sw_rel_5, sw_hp_set, sw_nx_set, sw_sl_set, sw_ev_set, sw_hp_new, sw_nx_new, sw_sl_new, sw_ev_new, List.getElem?_cons_zero, List.getElem?_cons_succ, List.set_cons_zero, List.set_cons_succ, List.length_cons, List.length_nil, Nat.reduceAdd, Nat.reduceSub, Nat.reduceLT, Nat.reduceLeDiff, Nat.zero_lt_succ, Nat.zero_add, beq_self_eq_true, Bool.true_and, and_true, true_and, and_self, not_true_eq_false, not_false_eq_true, ↓reduceIte, Nat.reduceBEq, eq_self, sw_b_0, sw_b_1, decide_eq_false_iff_not, decide_eq_true_eq, sl_n10, sl_n01, Decidable.not_not, sl_ct, sl_cats_0, sl_cats_i, sl_cats_r, sl_cats_n, sl_cats_l, sl_ok_5, sl_ok9, decide_true, sp_machC, sp_nodeC, sp_opC, sl_z0, sl_z1, sl_z2, sl_z3, sl_z4, sl_z5, sl_z6, sl_z7, sl_c0, sl_c1, sl_c2, sl_c3, sl_c4, sl_c5, sl_c6, sl_c7, List.length_map, sp_lifeC, sp_inC, sp_rnC, e1, e2, hx, sp_xC, hp0, s1, s3, e3, sw_cl_x, sp_o, sp_rel]
      · rw [c3, sp_ck_t] at e3
        rw [c3, if_neg (by decide)] at hf
        rw [if_neg (by decide)]
        obtain ⟨kn, hkn, rfl⟩ := sp_at_of (n := 4) (by omega) c1
        obtain ⟨nn, hnn, rfl⟩ := sp_at_of (by omega) c3
        have ex : N[nn]? = some N[nn] := List.getElem?_eq_getElem hnn
        have a1 := jc_X2_at (D := d) (by omega) hp hN ex
        have a2 := sl_prog_node hp ex
        have hnd : sp_nd (N.map (·.2)) (nI nn) = N[nn].2 := sp_nd_nI (by rw [hlen]; exact hN) (by rw [List.getElem?_map, ex]; rfl)
        have et := jc_X1_must (D := d) (P := P) (b := true) (by omega)
        have ef := jc_X1_must (D := d) (P := P) (b := false) (by omega)
        rw [sw_b_t, sp_ck_t] at et
        rw [sw_b_f, sp_ck_f] at ef
        have st := jc_X1_checkState (D := d) (P := P) (b := true) (by omega)
        have sf := jc_X1_checkState (D := d) (P := P) (b := false) (by omega)
        rw [sw_b_t, sp_ck_t] at st
        rw [sw_b_f, sp_ck_f] at sf
        rw [hnd] at hf ⊢
        cases c4 : N[nn].2.2.2.2
        · rw [c4, if_neg (by decide)] at hf
          rw [if_neg (by decide)]
          have q1 := jc_X2_statements (D := d) (by omega) hB hp
          by_cases c5 : 24 ≤ sp_stms (B.map (fun y => y.2.map (·.2))) 4
          · rw [if_pos c5]
            refine ⟨_, ?_, Or.inl ⟨1, rfl, h.bump⟩⟩
            rw [M_X1_statement _ _ _ rfl]; simp only [at_X1_statement_0, at_X1_statement_1, at_X1_statement_2, at_X1_statement_3, at_X1_statement_4, ey_ld, sk_ld_s, ey_cs1, sk_c_s, ex_push, ey_cs2, ey_gf, sk_gf_s, sk_v_s, ey_cv0, ey_cv1, ex_iz, ex_goto, ex_ic, ey_pf, sk_pf_s, sw_set_set, ex_ct, ex_sta, ex_sta_n, ex_nw, ex_dup_i, ex_dup_r, ex_dup_n, ey_ci2, ex_pop_i, ex_pop_r, ex_pop_n, ex_rv, sw_gl_0, sw_gl_s, sw_fx_n, sw_fx_i, sw_fx_r, sw_fx_0, sw_fx_l, sw_fx_d, sw_sl1_0, sw_sl1_1, sw_sl1_s, sw_no_0, sw_no_s, sw_no_e, sw_mk_t, sw_mk_f, sw_mk_e, sw_en_0, sw_en_n, sw_en_i, sw_en_r, sw_en_z, sw_en_l, sw_en_d, sw_ok_0, sw_ok_1, sw_ok_2, sw_ok_3, sw_ok_4, sw_bo_s, sw_oi_s, sw_cl_s, sw_cl_x, sw_psh_s, sw_psh_n, sw_kd_s, sw_op_s, sw_oc_s, sw_oc_e, sw_oa_s, sw_el_n, sw_el_r, sl_kds_1, sl_kds_67, sw_fit_i, sw_fit_r, sw_fit_n, sw_fit_l, sw_fit_d, sw_fit_b, sw_fit_0, sw_fit_1, sw_rel_0, sw_rel_1, sw_rel_2, sw_rel_3, sw_rel_4, sw_rel_5, sw_hp_set, sw_nx_set, sw_sl_set, sw_ev_set, sw_hp_new, sw_nx_new, sw_sl_new, sw_ev_new, List.getElem?_cons_zero, List.getElem?_cons_succ, List.set_cons_zero, List.set_cons_succ, List.length_cons, List.length_nil, Nat.reduceAdd, Nat.reduceSub, Nat.reduceLT, Nat.reduceLeDiff, Nat.zero_lt_succ, Nat.zero_add, beq_self_eq_true, Bool.true_and, and_true, true_and, and_self, not_true_eq_false, not_false_eq_true, ↓reduceIte, Nat.reduceBEq, eq_self, sw_b_0, sw_b_1, decide_eq_false_iff_not, decide_eq_true_eq, sl_n10, sl_n01, Decidable.not_not, sl_ct, sl_cats_0, sl_cats_i, sl_cats_r, sl_cats_n, sl_cats_l, sl_ok_5, sl_ok9, decide_true, sp_machC, sp_nodeC, sp_opC, sl_z0, sl_z1, sl_z2, sl_z3, sl_z4, sl_z5, sl_z6, sl_z7, sl_c0, sl_c1, sl_c2, sl_c3, sl_c4, sl_c5, sl_c6, sl_c7, List.length_map, sp_lifeC, sp_inC, sp_rnC, e1, e2, hx, sp_xC, hp0, s1, s3, e3, a1, a2, sp_nodeC, c4, sw_b_f, et, q1, eq_true c5, sf, sw_cl_x, sp_o, sp_rel]
          · rw [if_neg c5] at hf
            rw [if_neg c5]
            have hf' := hf _ _ rfl
            have exk : B[kn]? = some B[kn] := List.getElem?_eq_getElem (by omega)
            have hgd : (B.map fun y => y.2.map (·.2)).getD kn [] = B[kn].2.map (·.2) := sp_getD (by rw [List.getElem?_map, exk]; rfl)
            have hbl := hst B[kn] (List.getElem_mem (by omega)) (Int32.not_le.mp c5)
            rw [nI_clamp (by omega), nI_clamp (by omega), hgd] at hf'
            rw [nI_clamp (by omega), nI_clamp (by omega), hgd]
            have g1 := sl_prog_fl h1 ex (sp_mk N[nn].2 true)
            rw [show sp_nodeC ev (sp_mk N[nn].2 true) = (15, [.ref (ev N[nn].2.1), .int N[nn].2.2.1, .int N[nn].2.2.2.1, .int 1]) from rfl] at g1
            have hx2 := g1.get 6 rfl
            have hp2 := g1.get 0 rfl
            have a4 := jc_J2_get (D := d) (by omega) (g1.at 3 rfl) (sl_refs_at exk) (by rw [List.length_map]; omega)
            obtain ⟨_, _, _, _, a5, _⟩ := sl_rd_lx (g1.at 3 rfl)
            have hpg : sl_rds _ (sl_prog ev pa (N.set nn (N[nn].1, sp_mk N[nn].2 true)) B T out) := (sl_rds_append.mp g1.rd).1
            obtain ⟨hb, -⟩ := sl_prog_blk hpg exk
            obtain ⟨_, _, _, _, a6, _⟩ := sl_rd_lx hb
            have g2 := g1.new (17, [.int v, .int (nI nn)])
            have i1 := jc_X18_init (D := d) (P := sw_new (sw_set P N[nn].1 (15, [.ref (ev N[nn].2.1), .int N[nn].2.2.1, .int N[nn].2.2.2.1, .int 1])) (17, [.int 0, .int 0])) (a := sw_nx P) (x := v) (y := nI nn) (by omega) (if_pos rfl)
            rw [show sw_set (sw_new (sw_set P N[nn].1 (15, [.ref (ev N[nn].2.1), .int N[nn].2.2.1, .int N[nn].2.2.2.1, .int 1])) (17, [.int 0, .int 0])) (sw_nx P) (17, [.int v, .int (nI nn)]) = sw_new (sw_set P N[nn].1 (15, [.ref (ev N[nn].2.1), .int N[nn].2.2.1, .int N[nn].2.2.2.1, .int 1])) (17, [.int v, .int (nI nn)]) from sw_set_new _ 17 17 [.int 0, .int 0] [.int v, .int (nI nn)] rfl] at i1
            obtain ⟨P2, r2, s2⟩ := sl_prog_stm (D := d) (i := kn) (z := (v, nI nn)) (by omega) exk (by omega) g2
            have s4 : sl_st ev _ _ P2 (sl_pt x (sp_xC pa mach bd) :: sl_pt mach (sp_machC m l) :: sl_pt l (64, L.map .int) :: (sl_prog ev pa (N.set nn (N[nn].1, sp_mk N[nn].2 true)) (B.set kn (B[kn].1, B[kn].2 ++ [(sw_nx (sw_set P N[nn].1 (15, [.ref (ev N[nn].2.1), .int N[nn].2.2.1, .int N[nn].2.2.2.1, .int 1])), v, nI nn)])) T out ++ (sl_bld ev bd mach pa b0 :: F))) := s2.pp 10 [6, 7, 8, 0, 1, 2, 3, 4, 5, 9]
            have hmN := sl_setF hN ex true
            have hmB := sl_setB exk (B[kn].2 ++ [(sw_nx (sw_set P N[nn].1 (15, [.ref (ev N[nn].2.1), .int N[nn].2.2.1, .int N[nn].2.2.2.1, .int 1])), v, nI nn)])
            rw [List.map_append] at hmB
            obtain ⟨P', bd', r3, s5⟩ := jc_X1_renew (D := d) (b' := b') (by omega) (by rw [hmN, hmB]; exact hf') s4
            have s6 : sl_st ev _ _ P' (sl_bld ev bd mach pa b0 :: (sl_cs ev x bd' mach l pa (N.set nn (N[nn].1, sp_mk N[nn].2 true)) (B.set kn (B[kn].1, B[kn].2 ++ [(sw_nx (sw_set P N[nn].1 (15, [.ref (ev N[nn].2.1), .int N[nn].2.2.1, .int N[nn].2.2.2.1, .int 1])), v, nI nn)])) T out m L b' ++ F)) := s5.pp 11 [10, 0, 1, 2, 3, 4, 5, 6, 7, 8, 9]
            have s7 : sl_st ev _ _ P' (sl_prog ev pa (N.set nn (N[nn].1, sp_mk N[nn].2 true)) (B.set kn (B[kn].1, B[kn].2 ++ [(sw_nx (sw_set P N[nn].1 (15, [.ref (ev N[nn].2.1), .int N[nn].2.2.1, .int N[nn].2.2.2.1, .int 1])), v, nI nn)])) T out ++ _) := s6.drop.pp 10 [4, 5, 6, 7, 8, 9, 0, 1, 2, 3]
            have exk2 : (B.set kn (B[kn].1, B[kn].2 ++ [(sw_nx (sw_set P N[nn].1 (15, [.ref (ev N[nn].2.1), .int N[nn].2.2.1, .int N[nn].2.2.2.1, .int 1])), v, nI nn)]))[kn]? = some (B[kn].1, B[kn].2 ++ [(sw_nx (sw_set P N[nn].1 (15, [.ref (ev N[nn].2.1), .int N[nn].2.2.1, .int N[nn].2.2.2.1, .int 1])), v, nI nn)]) := List.getElem?_set_self (by omega)
            obtain ⟨hb2, -⟩ := sl_prog_blk (sl_rds_append.mp s7.rd).1 exk2
            have a7 := jc_J2_sizeR (D := d) (by omega) hb2
            obtain ⟨_, _, _, _, a8, _⟩ := sl_rd_lx hb2
            rw [List.length_map, List.length_append, show [(sw_nx (sw_set P N[nn].1 (15, [.ref (ev N[nn].2.1), .int N[nn].2.2.1, .int N[nn].2.2.2.1, .int 1])), v, nI nn)].length = 1 from rfl] at a7
            have hgA : sl_gA B[kn].2.length ≤ 1 := by unfold sl_gA; split <;> omega
            have hgS : sl_gS B[kn].2.length ≤ 40 := by
              unfold sl_gS
              split
              · unfold sl_nc
                split <;> omega
              · omega
            have hl2 : (N.set nn (N[nn].1, sp_mk N[nn].2 true)).length = N.length := List.length_set
            rw [hl2] at s6
            dsimp only at a7 a8 r2
            refine ⟨P', ?_, Or.inr ⟨_, _, rfl, bd', mach, l, pa, _, _, hmN, hmB, s6.drop.wk (by omega) (by show s + 2 + _ + _ ≤ _; omega)⟩⟩
            have hfx0 := sl_ne_nx a6 g1.nx0
            rw [sw_nx_set] at r2
            have hx4 := s4.get 0 rfl
            have hfx : ¬ B[kn].1 = sw_nx P := hfx0
            rw [M_X1_statement _ _ _ rfl]; simp only [at_X1_statement_0, at_X1_statement_1, at_X1_statement_2, at_X1_statement_3, at_X1_statement_4, ey_ld, sk_ld_s, ey_cs1, sk_c_s, ex_push, ey_cs2, ey_gf, sk_gf_s, sk_v_s, ey_cv0, ey_cv1, ex_iz, ex_goto, ex_ic, ey_pf, sk_pf_s, sw_set_set, ex_ct, ex_sta, ex_sta_n, ex_nw, ex_dup_i, ex_dup_r, ex_dup_n, ey_ci2, ex_pop_i, ex_pop_r, ex_pop_n, ex_rv, sw_gl_0, sw_gl_s, sw_fx_n, sw_fx_i, sw_fx_r, sw_fx_0, sw_fx_l, sw_fx_d, sw_sl1_0, sw_sl1_1, sw_sl1_s, sw_no_0, sw_no_s, sw_no_e, sw_mk_t, sw_mk_f, sw_mk_e, sw_en_0, sw_en_n, sw_en_i, sw_en_r, sw_en_z, sw_en_l, sw_en_d, sw_ok_0, sw_ok_1, sw_ok_2, sw_ok_3, sw_ok_4, sw_bo_s, sw_oi_s, sw_cl_s, sw_cl_x, sw_psh_s, sw_psh_n, sw_kd_s, sw_op_s, sw_oc_s, sw_oc_e, sw_oa_s, sw_el_n, sw_el_r, sl_kds_1, sl_kds_67, sw_fit_i, sw_fit_r, sw_fit_n, sw_fit_l, sw_fit_d, sw_fit_b, sw_fit_0, sw_fit_1, sw_rel_0, sw_rel_1, sw_rel_2, sw_rel_3, sw_rel_4, sw_rel_5, sw_hp_set, sw_nx_set, sw_sl_set, sw_ev_set, sw_hp_new, sw_nx_new, sw_sl_new, sw_ev_new, List.getElem?_cons_zero, List.getElem?_cons_succ, List.set_cons_zero, List.set_cons_succ, List.length_cons, List.length_nil, Nat.reduceAdd, Nat.reduceSub, Nat.reduceLT, Nat.reduceLeDiff, Nat.zero_lt_succ, Nat.zero_add, beq_self_eq_true, Bool.true_and, and_true, true_and, and_self, not_true_eq_false, not_false_eq_true, ↓reduceIte, Nat.reduceBEq, eq_self, sw_b_0, sw_b_1, decide_eq_false_iff_not, decide_eq_true_eq, sl_n10, sl_n01, Decidable.not_not, sl_ct, sl_cats_0, sl_cats_i, sl_cats_r, sl_cats_n, sl_cats_l, sl_ok_5, sl_ok9, decide_true, sp_machC, sp_nodeC, sp_opC, sl_z0, sl_z1, sl_z2, sl_z3, sl_z4, sl_z5, sl_z6, sl_z7, sl_c0, sl_c1, sl_c2, sl_c3, sl_c4, sl_c5, sl_c6, sl_c7, List.length_map, sp_lifeC, sp_inC, sp_rnC, hfx, hx4, e1, e2, hx, sp_xC, hp0, s1, s3, e3, a1, a2, sp_nodeC, c4, sw_b_f, et, q1, eq_false c5, st, hx2, hp2, a4, a5, a6, i1, r2, r3, a7, a8, sl_kds_1, sp_o, sp_rel]
        · rw [if_pos rfl]
          refine ⟨_, ?_, Or.inl ⟨0, rfl, h.bump⟩⟩
          rw [M_X1_statement _ _ _ rfl]; simp only [at_X1_statement_0, at_X1_statement_1, at_X1_statement_2, ey_ld, sk_ld_s, ey_cs1, sk_c_s, ex_push, ey_cs2, ey_gf, sk_gf_s, sk_v_s, ey_cv0, ey_cv1, ex_iz, ex_goto, ex_ic, ey_pf, sk_pf_s, sw_set_set, ex_ct, ex_sta, ex_sta_n, ex_nw, ex_dup_i, ex_dup_r, ex_dup_n, ey_ci2, ex_pop_i, ex_pop_r, ex_pop_n, ex_rv, sw_gl_0, sw_gl_s, sw_fx_n, sw_fx_i, sw_fx_r, sw_fx_0, sw_fx_l, sw_fx_d, sw_sl1_0, sw_sl1_1, sw_sl1_s, sw_no_0, sw_no_s, sw_no_e, sw_mk_t, sw_mk_f, sw_mk_e, sw_en_0, sw_en_n, sw_en_i, sw_en_r, sw_en_z, sw_en_l, sw_en_d, sw_ok_0, sw_ok_1, sw_ok_2, sw_ok_3, sw_ok_4, sw_bo_s, sw_oi_s, sw_cl_s, sw_cl_x, sw_psh_s, sw_psh_n, sw_kd_s, sw_op_s, sw_oc_s, sw_oc_e, sw_oa_s, sw_el_n, sw_el_r, sl_kds_1, sl_kds_67, sw_fit_i, sw_fit_r, sw_fit_n, sw_fit_l, sw_fit_d, sw_fit_b, sw_fit_0, sw_fit_1, sw_rel_0, sw_rel_1, sw_rel_2, sw_rel_3, sw_rel_4, sw_rel_5, sw_hp_set, sw_nx_set, sw_sl_set, sw_ev_set, sw_hp_new, sw_nx_new, sw_sl_new, sw_ev_new, List.getElem?_cons_zero, List.getElem?_cons_succ, List.set_cons_zero, List.set_cons_succ, List.length_cons, List.length_nil, Nat.reduceAdd, Nat.reduceSub, Nat.reduceLT, Nat.reduceLeDiff, Nat.zero_lt_succ, Nat.zero_add, beq_self_eq_true, Bool.true_and, and_true, true_and, and_self, not_true_eq_false, not_false_eq_true, ↓reduceIte, Nat.reduceBEq, eq_self, sw_b_0, sw_b_1, decide_eq_false_iff_not, decide_eq_true_eq, sl_n10, sl_n01, Decidable.not_not, sl_ct, sl_cats_0, sl_cats_i, sl_cats_r, sl_cats_n, sl_cats_l, sl_ok_5, sl_ok9, decide_true, sp_machC, sp_nodeC, sp_opC, sl_z0, sl_z1, sl_z2, sl_z3, sl_z4, sl_z5, sl_z6, sl_z7, sl_c0, sl_c1, sl_c2, sl_c3, sl_c4, sl_c5, sl_c6, sl_c7, List.length_map, sp_lifeC, sp_inC, sp_rnC, e1, e2, hx, sp_xC, hp0, s1, s3, e3, a1, a2, sp_nodeC, c4, sw_b_t, ef, sw_cl_x, sp_o, sp_rel]
theorem jc_X1_take {k : Int32} (hD : 267 ≤ D) (hN : N.length ≤ 80) (hB : sp_okB N.length (B.map fun y => y.2.map (·.2))) (hf : ∀ q w, cM_take (N.map (·.2), B.map (fun y => y.2.map (·.2)), T, out, m, L) k = .inl (q, w) → sp_fit q 0 b') (h : sl_st ev c s P (sl_cs ev x bd mach l pa N B T out m L b0 ++ F)) :
    ∃ P', sw_Z D m_X1_take [.ref x, .int k] P = some (sp_o (sp_rel (cM_take (N.map (·.2), B.map (fun y => y.2.map (·.2)), T, out, m, L) k)), P') ∧
      ((∃ e, cM_take (N.map (·.2), B.map (fun y => y.2.map (·.2)), T, out, m, L) k = .inr e ∧ sl_st ev (c + 1) (s + 6) P' (sl_cs ev x bd mach l pa N B T out m L b0 ++ F)) ∨ ∃ q w, cM_take (N.map (·.2), B.map (fun y => y.2.map (·.2)), T, out, m, L) k = .inl (q, w) ∧ sp_CS ev (c + (3 + sp_kA b')) (s + (60 + sp_kS N.length b')) P' x q b' F) := by
  obtain ⟨d, hDe, hDn⟩ := sw_dep hD; subst hDe; replace hD := hDn; clear hDn
  have hx := h.get 0 rfl
  have h1 : sl_st ev c s P (sl_prog ev pa N B T out ++ (sl_pt x (sp_xC pa mach bd) :: sl_pt mach (sp_machC m l) :: sl_pt l (64, L.map .int) :: sl_bld ev bd mach pa b0 :: F)) := h.pp 10 [4, 5, 6, 7, 8, 9, 0, 2, 3, 1]
  have hp : sl_rds (sw_hp P) (sl_prog ev pa N B T out) := (sl_rds_append.mp h1.rd).1
  have hp0 := h1.get 0 rfl
  have hB4 : B.length = 4 := by have := hB.1; rwa [List.length_map] at this
  have e1 := jc_X1_checkBlock (D := d) (P := P) (v := k) (by omega)
  unfold cM_take at hf ⊢
  dsimp only at hf ⊢
  cases c1 : sp_at k 4
  · rw [c1, sp_ck_f] at e1
    rw [if_pos rfl]
    refine ⟨_, ?_, Or.inl ⟨2, rfl, h.bump⟩⟩
    rw [M_X1_take _ _ _ rfl]; simp only [at_X1_take_0, ey_ld, sk_ld_s, ey_cs1, sk_c_s, ey_gf, sk_gf_s, sk_v_s, ey_cv1, ex_ct, ex_sta, ex_sta_n, ey_cv0, ex_iz, ex_push, ex_goto, ex_ii, ex_sti, ex_pop_i, ex_pop_r, ex_pop_n, ey_pf, sk_pf_s, sw_set_set, ex_rv, sw_gl_0, sw_gl_s, sw_fx_n, sw_fx_i, sw_fx_r, sw_fx_0, sw_fx_l, sw_fx_d, sw_sl1_0, sw_sl1_1, sw_sl1_s, sw_no_0, sw_no_s, sw_no_e, sw_mk_t, sw_mk_f, sw_mk_e, sw_en_0, sw_en_n, sw_en_i, sw_en_r, sw_en_z, sw_en_l, sw_en_d, sw_ok_0, sw_ok_1, sw_ok_2, sw_ok_3, sw_ok_4, sw_bo_s, sw_oi_s, sw_cl_s, sw_cl_x, sw_psh_s, sw_psh_n, sw_kd_s, sw_op_s, sw_oc_s, sw_oc_e, sw_oa_s, sw_el_n, sw_el_r, sl_kds_1, sl_kds_67, sw_fit_i, sw_fit_r, sw_fit_n, sw_fit_l, sw_fit_d, sw_fit_b, sw_fit_0, sw_fit_1, sw_rel_0, sw_rel_1, sw_rel_2, sw_rel_3, sw_rel_4, sw_rel_5, sw_hp_set, sw_nx_set, sw_sl_set, sw_ev_set, sw_hp_new, sw_nx_new, sw_sl_new, sw_ev_new, List.getElem?_cons_zero, List.getElem?_cons_succ, List.set_cons_zero, List.set_cons_succ, List.length_cons, List.length_nil, Nat.reduceAdd, Nat.reduceSub, Nat.reduceLT, Nat.reduceLeDiff, Nat.zero_lt_succ, Nat.zero_add, beq_self_eq_true, Bool.true_and, and_true, true_and, and_self, not_true_eq_false, not_false_eq_true, ↓reduceIte, Nat.reduceBEq, eq_self, sw_b_0, sw_b_1, decide_eq_false_iff_not, decide_eq_true_eq, sl_n10, sl_n01, Decidable.not_not, sl_ct, sl_cats_0, sl_cats_i, sl_cats_r, sl_cats_n, sl_cats_l, sl_ok_5, sl_ok9, decide_true, sp_machC, sp_nodeC, sp_opC, sl_z0, sl_z1, sl_z2, sl_z3, sl_z4, sl_z5, sl_z6, sl_z7, sl_c0, sl_c1, sl_c2, sl_c3, sl_c4, sl_c5, sl_c6, sl_c7, List.length_map, sp_lifeC, sp_inC, sp_rnC, e1, sw_cl_x, sp_o, sp_rel]
  · rw [c1, sp_ck_t] at e1
    rw [c1, if_neg (by decide)] at hf
    rw [if_neg (by decide)]
    obtain ⟨kn, hkn, rfl⟩ := sp_at_of (n := 4) (by omega) c1
    rw [nI_clamp (by omega)] at hf ⊢
    have exk : B[kn]? = some B[kn] := List.getElem?_eq_getElem (by omega)
    have hgd : (B.map fun y => y.2.map (·.2)).getD kn [] = B[kn].2.map (·.2) := sp_getD (by rw [List.getElem?_map, exk]; rfl)
    have a4 := jc_J2_get (D := d) (by omega) (h1.at 3 rfl) (sl_refs_at exk) (by rw [List.length_map]; omega)
    obtain ⟨_, _, _, _, a5, _⟩ := sl_rd_lx (h1.at 3 rfl)
    obtain ⟨hb, hbs⟩ := sl_prog_blk hp exk
    obtain ⟨_, _, _, _, a6, _⟩ := sl_rd_lx hb
    have a7 := jc_J2_isEmpty (D := d) (P := P) (by omega) a6
    have a8 := jc_J2_sizeR (D := d) (by omega) hb
    rw [List.length_map] at a7 a8
    have st := jc_X1_checkState (D := d) (P := P) (b := true) (by omega)
    have sf := jc_X1_checkState (D := d) (P := P) (b := false) (by omega)
    rw [sw_b_t, sp_ck_t] at st
    rw [sw_b_f, sp_ck_f] at sf
    rw [hgd, List.length_map] at hf ⊢
    have hbm : B[kn].2.map (·.2) ∈ B.map fun y => y.2.map (·.2) := List.mem_map_of_mem (f := fun y : sp_Blk => y.2.map (·.2)) (List.getElem_mem (by omega))
    obtain ⟨w1, w2⟩ := hB.2 _ hbm
    rw [List.length_map] at w1
    by_cases c2 : B[kn].2.length = 0
    · rw [if_pos c2]
      rw [c2, show decide (nI 0 = 0) = true from rfl, sw_b_t] at a7
      refine ⟨_, ?_, Or.inl ⟨1, rfl, h.bump⟩⟩
      rw [M_X1_take _ _ _ rfl]; simp only [at_X1_take_0, at_X1_take_1, at_X1_take_2, ey_ld, sk_ld_s, ey_cs1, sk_c_s, ey_gf, sk_gf_s, sk_v_s, ey_cv1, ex_ct, ex_sta, ex_sta_n, ey_cv0, ex_iz, ex_push, ex_goto, ex_ii, ex_sti, ex_pop_i, ex_pop_r, ex_pop_n, ey_pf, sk_pf_s, sw_set_set, ex_rv, sw_gl_0, sw_gl_s, sw_fx_n, sw_fx_i, sw_fx_r, sw_fx_0, sw_fx_l, sw_fx_d, sw_sl1_0, sw_sl1_1, sw_sl1_s, sw_no_0, sw_no_s, sw_no_e, sw_mk_t, sw_mk_f, sw_mk_e, sw_en_0, sw_en_n, sw_en_i, sw_en_r, sw_en_z, sw_en_l, sw_en_d, sw_ok_0, sw_ok_1, sw_ok_2, sw_ok_3, sw_ok_4, sw_bo_s, sw_oi_s, sw_cl_s, sw_cl_x, sw_psh_s, sw_psh_n, sw_kd_s, sw_op_s, sw_oc_s, sw_oc_e, sw_oa_s, sw_el_n, sw_el_r, sl_kds_1, sl_kds_67, sw_fit_i, sw_fit_r, sw_fit_n, sw_fit_l, sw_fit_d, sw_fit_b, sw_fit_0, sw_fit_1, sw_rel_0, sw_rel_1, sw_rel_2, sw_rel_3, sw_rel_4, sw_rel_5, sw_hp_set, sw_nx_set, sw_sl_set, sw_ev_set, sw_hp_new, sw_nx_new, sw_sl_new, sw_ev_new, List.getElem?_cons_zero, List.getElem?_cons_succ, List.set_cons_zero, List.set_cons_succ, List.length_cons, List.length_nil, Nat.reduceAdd, Nat.reduceSub, Nat.reduceLT, Nat.reduceLeDiff, Nat.zero_lt_succ, Nat.zero_add, beq_self_eq_true, Bool.true_and, and_true, true_and, and_self, not_true_eq_false, not_false_eq_true, ↓reduceIte, Nat.reduceBEq, eq_self, sw_b_0, sw_b_1, decide_eq_false_iff_not, decide_eq_true_eq, sl_n10, sl_n01, Decidable.not_not, sl_ct, sl_cats_0, sl_cats_i, sl_cats_r, sl_cats_n, sl_cats_l, sl_ok_5, sl_ok9, decide_true, sp_machC, sp_nodeC, sp_opC, sl_z0, sl_z1, sl_z2, sl_z3, sl_z4, sl_z5, sl_z6, sl_z7, sl_c0, sl_c1, sl_c2, sl_c3, sl_c4, sl_c5, sl_c6, sl_c7, List.length_map, sp_lifeC, sp_inC, sp_rnC, e1, hx, sp_xC, hp0, a4, a5, a6, a7, sf, sl_kds_1, sw_cl_x, sp_o, sp_rel]
    · rw [if_neg c2] at hf
      rw [if_neg c2]
      rw [decide_eq_false (nI_ne0 (by omega) (by omega)), sw_b_f] at a7
      have hne : B[kn].2 ≠ [] := fun q => c2 (by rw [q]; rfl)
      obtain ⟨ys, ⟨za, zs⟩, hys⟩ : ∃ ys z, B[kn].2 = ys ++ [z] := ⟨B[kn].2.dropLast, B[kn].2.getLast hne, (List.dropLast_concat_getLast hne).symm⟩
      have hyl : B[kn].2.length = ys.length + 1 := by rw [hys, List.length_append]; rfl
      have hl1 : ((B[kn].2.map (·.2)).getLastD (0, 0)) = zs := by rw [hys, List.map_append]; simp
      have hl2 : (B[kn].2.map (·.2)).dropLast = ys.map (·.2) := by rw [hys, List.map_append]; simp
      rw [hl1, hl2] at hf ⊢
      have hf' := hf _ _ rfl
      obtain ⟨j, j1, j2⟩ := w2 zs (by rw [hys, List.map_append]; simp)
      rw [j2] at hf' ⊢
      rw [nI_clamp (by omega)] at hf' ⊢
      have ex : N[j]? = some N[j] := List.getElem?_eq_getElem j1
      have hget : B[kn].2[ys.length]? = some (za, zs) := by rw [hys]; simp
      have b1 := jc_J2_get (D := d) (by omega) hb (sl_refs_at hget) (by rw [List.length_map]; omega)
      have b2 := hbs _ _ hget
      unfold sp_stmC at b2
      dsimp only at b1 b2
      rw [j2] at b2
      have b3 : nI (ys.length + 1) - 1 = nI ys.length := nI_pred _
      obtain ⟨P1, r1, s1⟩ := sl_prog_tak (D := d) (by omega) exk hys (by omega) h1
      have hp1 := s1.get 0 rfl
      have hx1 := s1.get 6 rfl
      have hpg : sl_rds (sw_hp P1) (sl_prog ev pa N (B.set kn (B[kn].1, ys)) T out) := (sl_rds_append.mp s1.rd).1
      have a1 := jc_X2_at (D := d) (by omega) hpg hN ex
      have a2 := sl_prog_node hpg ex
      have g1 := sl_prog_fl s1 ex (sp_mk N[j].2 false)
      rw [show sp_nodeC ev (sp_mk N[j].2 false) = (15, [.ref (ev N[j].2.1), .int N[j].2.2.1, .int N[j].2.2.2.1, .int 0]) from rfl] at g1
      have s4 : sl_st ev _ _ _ (sl_pt x (sp_xC pa mach bd) :: sl_pt mach (sp_machC m l) :: sl_pt l (64, L.map .int) :: (sl_prog ev pa (N.set j (N[j].1, sp_mk N[j].2 false)) (B.set kn (B[kn].1, ys)) T out ++ (sl_bld ev bd mach pa b0 :: F))) := g1.pp 10 [6, 7, 8, 0, 1, 2, 3, 4, 5, 9]
      have hmN := sl_setF hN ex false
      have hmB := sl_setB exk ys
      obtain ⟨P', bd', r3, s5⟩ := jc_X1_renew (D := d) (b' := b') (by omega) (by rw [hmN, hmB]; exact hf') s4
      have s6 : sl_st ev _ _ P' (sl_bld ev bd mach pa b0 :: (sl_cs ev x bd' mach l pa (N.set j (N[j].1, sp_mk N[j].2 false)) (B.set kn (B[kn].1, ys)) T out m L b' ++ F)) := s5.pp 11 [10, 0, 1, 2, 3, 4, 5, 6, 7, 8, 9]
      have hl3 : (N.set j (N[j].1, sp_mk N[j].2 false)).length = N.length := List.length_set
      rw [hl3] at s6
      refine ⟨P', ?_, Or.inr ⟨_, _, rfl, bd', mach, l, pa, _, _, hmN, hmB, s6.drop.wk (by omega) (by omega)⟩⟩
      rw [hyl] at a8
      have hfx : ¬ x = N[j].1 := fun e => by rw [e, a2] at hx1; cases hx1
      rw [M_X1_take _ _ _ rfl]; simp only [at_X1_take_0, at_X1_take_1, at_X1_take_2, ey_ld, sk_ld_s, ey_cs1, sk_c_s, ey_gf, sk_gf_s, sk_v_s, ey_cv1, ex_ct, ex_sta, ex_sta_n, ey_cv0, ex_iz, ex_push, ex_goto, ex_ii, ex_sti, ex_pop_i, ex_pop_r, ex_pop_n, ey_pf, sk_pf_s, sw_set_set, ex_rv, sw_gl_0, sw_gl_s, sw_fx_n, sw_fx_i, sw_fx_r, sw_fx_0, sw_fx_l, sw_fx_d, sw_sl1_0, sw_sl1_1, sw_sl1_s, sw_no_0, sw_no_s, sw_no_e, sw_mk_t, sw_mk_f, sw_mk_e, sw_en_0, sw_en_n, sw_en_i, sw_en_r, sw_en_z, sw_en_l, sw_en_d, sw_ok_0, sw_ok_1, sw_ok_2, sw_ok_3, sw_ok_4, sw_bo_s, sw_oi_s, sw_cl_s, sw_cl_x, sw_psh_s, sw_psh_n, sw_kd_s, sw_op_s, sw_oc_s, sw_oc_e, sw_oa_s, sw_el_n, sw_el_r, sl_kds_1, sl_kds_67, sw_fit_i, sw_fit_r, sw_fit_n, sw_fit_l, sw_fit_d, sw_fit_b, sw_fit_0, sw_fit_1, sw_rel_0, sw_rel_1, sw_rel_2, sw_rel_3, sw_rel_4, sw_rel_5, sw_hp_set, sw_nx_set, sw_sl_set, sw_ev_set, sw_hp_new, sw_nx_new, sw_sl_new, sw_ev_new, List.getElem?_cons_zero, List.getElem?_cons_succ, List.set_cons_zero, List.set_cons_succ, List.length_cons, List.length_nil, Nat.reduceAdd, Nat.reduceSub, Nat.reduceLT, Nat.reduceLeDiff, Nat.zero_lt_succ, Nat.zero_add, beq_self_eq_true, Bool.true_and, and_true, true_and, and_self, not_true_eq_false, not_false_eq_true, ↓reduceIte, Nat.reduceBEq, eq_self, sw_b_0, sw_b_1, decide_eq_false_iff_not, decide_eq_true_eq, sl_n10, sl_n01, Decidable.not_not, sl_ct, sl_cats_0, sl_cats_i, sl_cats_r, sl_cats_n, sl_cats_l, sl_ok_5, sl_ok9, decide_true, sp_machC, sp_nodeC, sp_opC, sl_z0, sl_z1, sl_z2, sl_z3, sl_z4, sl_z5, sl_z6, sl_z7, sl_c0, sl_c1, sl_c2, sl_c3, sl_c4, sl_c5, sl_c6, sl_c7, List.length_map, sp_lifeC, sp_inC, sp_rnC, hfx, e1, hx, sp_xC, hp0, a4, a5, a6, a7, a8, st, b1, b2, b3, r1, hx1, hp1, a1, a2, sp_nodeC, r3, sl_kds_1, sp_o, sp_rel]
end
