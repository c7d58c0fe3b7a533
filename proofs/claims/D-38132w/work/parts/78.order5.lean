/-! ===== the component's order: made and read off ===== -/
section
variable {ev : Nat → Nat} {od fr md na wt mach l a ra : Nat} {m : sp_Mach} {L ws : List Int32} {M : List (Nat × sp_Op)} {NR : List (Nat × List Bool)} {F R : List sl_A} {c s d D : Nat} {P : sw_P} {nd : Nat → Nat → Bool}
/-- the heights of all -/
def sp_os (L : List Int32) (os : List sp_Op) : List sp_Op := sp_hts (sp_nd2 os) L os.length os
theorem jc_X6_init (hD : 9 ≤ D) (hL : L.length = 8) (hl : M.length < 1000) (hr : ∀ o ∈ M.map (·.2), o.2.2.1.length < 100)
    (h : sl_st ev c s P (sl_pt od (5, [.null, .null, .null, .null, .null]) :: sl_ls ev fr (M.map fun x => .ref x.1) :: sl_all (M.map sl_opA) :: sl_pt mach (sp_machC m l) :: sl_pt l (64, L.map .int) :: F)) :
    ∃ (P' : sw_P) (md na wt : Nat) (NR : List (Nat × List Bool)) (M' : List (Nat × sp_Op)), sw_Z D m_X6_init [.ref od, .ref fr, .ref mach] P = some (.inl none, P') ∧ M'.map (·.2) = sp_os L (M.map (·.2)) ∧ NR.map (·.2) = (List.range M'.length).map (sp_row (sp_nd2 (M.map (·.2)))) ∧ M'.length = M.length ∧
      sl_st ev (c + 3 + M.length) (s + 3 + 2 * M.length + sl_tri M.length) P' (sl_ls ev md [] :: (sl_ord ev od fr mach md na wt (sp_wsk (sp_nd2 (M.map (·.2))) M.length M.length) NR M' ++ (sl_pt mach (sp_machC m l) :: sl_pt l (64, L.map .int) :: F))) := by
  obtain ⟨d, hDe, hDn⟩ := sw_dep hD; subst hDe; replace hD := hDn; clear hDn
  have hev := h.ev
  have h0 := h.get 0 rfl
  have hn := h.2.2.2.1
  have f1 := sl_ne_nx h0 hn
  have f3 : ¬ od = sw_nx P + 1 := fun e => by rw [hn od (by omega)] at h0; cases h0
  have f4 : ¬ od = sw_nx P + 1 + 1 := fun e => by rw [hn od (by omega)] at h0; cases h0
  have f2 : sw_nx P ≠ od := fun e => f1 e.symm
  have g1 := (h.new (24, [.int 0, .ref (ev 10), .int 0])).set 1 (5, [.ref fr, .ref mach, .ref (sw_nx P), .null, .null]) rfl
  have e2 := jc_J2_sizeR (D := d) (by omega) (g1.at 2 rfl)
  obtain ⟨_, _, _, _, e3, _⟩ := sl_rd_lx (g1.at 2 rfl)
  have g2 := (g1.new (69, List.replicate M.length .null)).set 2 (5, [.ref fr, .ref mach, .ref (sw_nx P), .ref (sw_nx P + 1), .null]) rfl
  have e4 := jc_J2_sizeR (D := d) (by omega) (g2.at 3 rfl)
  obtain ⟨_, _, _, _, e5, _⟩ := sl_rd_lx (g2.at 3 rfl)
  have g3 := (g2.new (64, (sp_wsk (sp_nd2 (M.map (·.2))) M.length 0).map .int)).set 3 (sp_odC fr mach (sw_nx P) (sw_nx P + 1) (sw_nx P + 1 + 1)) rfl
  have hw0 : (sp_wsk (sp_nd2 (M.map (·.2))) M.length 0).map Value.int = List.replicate M.length (.int 0) := by
    unfold sp_wsk; simp
  simp only [sw_nx_set, sw_nx_new] at g3
  -- places: waits, needs, made, order, from, operations
  have g4 := sl_st.oflx (Q := fun c => c ∈ sl_caps) (vs := []) (by decide) (((g3.pk [2]).ofbk0).pk [1])
  have q1 := ((sl_st.flat (As := [])).mpr g4)
  have q2 : sl_st ev (c + 1 + 1 + 1) _ _ (sl_ls ev (sw_nx P) [] :: sl_pt (sw_nx P + 1) (69, List.replicate M.length .null) :: sl_all (([] : List (Nat × List Bool)).map sl_rowA) :: sl_pt od (sp_odC fr mach (sw_nx P) (sw_nx P + 1) (sw_nx P + 1 + 1)) :: sl_pt (sw_nx P + 1 + 1) (64, (sp_wsk (sp_nd2 (M.map (·.2))) M.length 0).map .int) :: sl_ls ev fr (M.map fun x => .ref x.1) :: sl_all (M.map sl_opA) :: sl_pt mach (sp_machC m l) :: sl_pt l (64, L.map .int) :: _) := q1.pp 7 [1, 3, 0, 4, 2, 5, 6]
  have g5 : sl_st ev (c + 1 + 1 + 1) _ _ (sl_pt (sw_nx P + 1) (69, List.replicate M.length .null) :: sl_all (([] : List (Nat × List Bool)).map sl_rowA) :: sl_pt od (sp_odC fr mach (sw_nx P) (sw_nx P + 1) (sw_nx P + 1 + 1)) :: sl_pt (sw_nx P + 1 + 1) (64, (sp_wsk (sp_nd2 (M.map (·.2))) M.length 0).map .int) :: sl_ls ev fr (M.map fun x => .ref x.1) :: sl_all (M.map sl_opA) :: sl_ls ev (sw_nx P) [] :: sl_pt mach (sp_machC m l) :: sl_pt l (64, L.map .int) :: F) := q2.pp 7 [1, 2, 3, 4, 5, 6, 0]
  obtain ⟨P1, NR, r1, a1, s1⟩ := jc_X6_init1 (d := d) (c := c + 3) (s := s + 3 + 2 * M.length) (od := od) (fr := fr) (mach := mach) (md := sw_nx P) (wt := sw_nx P + 1 + 1) (na := sw_nx P + 1) (by omega) hl hr M.length 0 (by omega) _ [] rfl (g5.wk (by omega) (by
    show s + 3 + (List.replicate M.length Value.null).length + ((sp_wsk (sp_nd2 (M.map (·.2))) M.length 0).map Value.int).length ≤ _
    rw [List.length_map, sp_wsk_len _ _ (Nat.zero_le _), List.length_replicate]; omega))
  have s3 : sl_st ev (c + 3 + M.length) _ _ (sl_ord ev od fr mach (sw_nx P) (sw_nx P + 1) (sw_nx P + 1 + 1) (sp_wsk (sp_nd2 (M.map (·.2))) M.length M.length) NR M ++ (sl_pt mach (sp_machC m l) :: sl_pt l (64, L.map .int) :: sl_ls ev (sw_nx P) [] :: F)) := s1.pp 9 [2, 3, 0, 1, 4, 5, 7, 8, 6]
  obtain ⟨P2, M', r2, a2, s4⟩ := jc_X6_init3 (nd := sp_nd2 (M.map (·.2))) (d := d) (by omega) hL M.length M P1 (Nat.le_refl _) (sp_wsk_len _ _ (Nat.le_refl _)) hl a1 s3
  have hM' : M'.length = M.length := by
    have := congrArg List.length a2
    rw [List.length_map, sp_hts_len, List.length_map] at this
    exact this
  have s5 : sl_st ev (c + 3 + M.length) _ _ (sl_ls ev (sw_nx P) [] :: (sl_ord ev od fr mach (sw_nx P) (sw_nx P + 1) (sw_nx P + 1 + 1) (sp_wsk (sp_nd2 (M.map (·.2))) M.length M.length) NR M' ++ (sl_pt mach (sp_machC m l) :: sl_pt l (64, L.map .int) :: F))) := s4.pp 9 [8, 0, 1, 2, 3, 4, 5, 6, 7]
  refine ⟨P2, sw_nx P, sw_nx P + 1, sw_nx P + 1 + 1, NR, M', ?_, by rw [a2]; unfold sp_os; rw [List.length_map], by rw [hM']; exact a1, hM', s5.wk (by omega) (by omega)⟩
  have e6 := jc_J2_init (D := d) (a := sw_nx P) (P := sw_new P (24, [.int 0, .null, .int 0])) (by omega) (if_pos rfl)
  rw [show sw_ev (sw_new P (24, [.int 0, .null, .int 0])) = sw_ev P from rfl, hev, sw_set_new P 24 24 [.int 0, .null, .int 0] [.int 0, .ref (ev 10), .int 0] rfl] at e6
  have e7 : (0 : Int32) ≤ nI M.length := nI_pos' (by omega)
  have e8 : (nI M.length).toNatClampNeg = M.length := nI_clamp (by omega)
  have e9 : M.length ≤ 1048576 := by omega
  have hd69 : sw_dv 69 = .null := rfl
  have hd64 : sw_dv 64 = .int 0 := rfl
  have ho1 := s1.get 2 rfl
  have hwl := sp_wsk_len (nd := sp_nd2 (M.map (·.2))) M.length M.length (Nat.le_refl _)
  have ht := s1.get 3 rfl
  have e10 : Int32.ofNat M.length - 1 = nI M.length - 1 := rfl
  rw [List.length_map] at e2 e4
  rw [show (nI 0 : Int32) = 0 from rfl] at r1
  rw [hw0] at r1
  simp only [sp_odC] at r1 ho1
  rw [M_X6_init _ _ _ rfl]; simp only [at_X6_init_0, ey_ld, sk_ld_s, ex_oin, ex_nw, ex_dup_i, ex_dup_r, ex_dup_n, ey_ci0, sk_c_s, ey_pf, sk_pf_s, sw_set_set, ey_cv0, ex_na, ex_push, ex_sti, ex_goto, ey_gf, sk_gf_s, sk_v_s, ey_al, sk_al_s, ex_ic, ey_cv1, ey_asr, sk_asr_s, ey_inc, sk_inc_s, ex_ii, ex_iz, ex_ct, ex_ret, sw_gl_0, sw_gl_s, sw_fx_n, sw_fx_i, sw_fx_r, sw_fx_0, sw_fx_l, sw_fx_d, sw_sl1_0, sw_sl1_1, sw_sl1_s, sw_no_0, sw_no_s, sw_no_e, sw_mk_t, sw_mk_f, sw_mk_e, sw_en_0, sw_en_n, sw_en_i, sw_en_r, sw_en_z, sw_en_l, sw_en_d, sw_ok_0, sw_ok_1, sw_ok_2, sw_ok_3, sw_ok_4, sw_bo_s, sw_oi_s, sw_cl_s, sw_cl_x, sw_psh_s, sw_psh_n, sw_kd_s, sw_op_s, sw_oc_s, sw_oc_e, sw_oa_s, sw_el_n, sw_el_r, sl_kds_1, sl_kds_67, sw_fit_i, sw_fit_r, sw_fit_n, sw_fit_l, sw_fit_d, sw_fit_b, sw_fit_0, sw_fit_1, sw_rel_0, sw_rel_1, sw_rel_2, sw_rel_3, sw_rel_4, sw_rel_5, sw_hp_set, sw_nx_set, sw_sl_set, sw_ev_set, sw_hp_new, sw_nx_new, sw_sl_new, sw_ev_new, List.getElem?_cons_zero, List.getElem?_cons_succ, List.set_cons_zero, List.set_cons_succ, List.length_cons, List.length_nil, Nat.reduceAdd, Nat.reduceSub, Nat.reduceLT, Nat.reduceLeDiff, Nat.zero_lt_succ, Nat.zero_add, beq_self_eq_true, Bool.true_and, and_true, true_and, and_self, not_true_eq_false, not_false_eq_true, ↓reduceIte, Nat.reduceBEq, eq_self, sw_b_0, sw_b_1, decide_eq_false_iff_not, decide_eq_true_eq, sl_n10, sl_n01, Decidable.not_not, sl_ct, sl_cats_0, sl_cats_i, sl_cats_r, sl_cats_n, sl_cats_l, sl_ok_5, sl_ok9, decide_true, sp_machC, sp_nodeC, sp_opC, sl_z0, sl_z1, sl_z2, sl_z3, sl_z4, sl_z5, sl_z6, sl_z7, sl_c0, sl_c1, sl_c2, sl_c3, sl_c4, sl_c5, sl_c6, sl_c7, List.length_map, h0, f1, f2, f3, f4, e2, e3, e4, e5, e6, e7, e8, e9, hd69, hd64, sw_nx_new, sw_nx_set]
  rw [r1]
  rw [at_X6_init_2]; simp only [ey_ld, sk_ld_s, ex_oin, ex_nw, ex_dup_i, ex_dup_r, ex_dup_n, ey_ci0, sk_c_s, ey_pf, sk_pf_s, sw_set_set, ey_cv0, ex_na, ex_push, ex_sti, ex_goto, ey_gf, sk_gf_s, sk_v_s, ey_al, sk_al_s, ex_ic, ey_cv1, ey_asr, sk_asr_s, ey_inc, sk_inc_s, ex_ii, ex_iz, ex_ct, ex_ret, sw_gl_0, sw_gl_s, sw_fx_n, sw_fx_i, sw_fx_r, sw_fx_0, sw_fx_l, sw_fx_d, sw_sl1_0, sw_sl1_1, sw_sl1_s, sw_no_0, sw_no_s, sw_no_e, sw_mk_t, sw_mk_f, sw_mk_e, sw_en_0, sw_en_n, sw_en_i, sw_en_r, sw_en_z, sw_en_l, sw_en_d, sw_ok_0, sw_ok_1, sw_ok_2, sw_ok_3, sw_ok_4, sw_bo_s, sw_oi_s, sw_cl_s, sw_cl_x, sw_psh_s, sw_psh_n, sw_kd_s, sw_op_s, sw_oc_s, sw_oc_e, sw_oa_s, sw_el_n, sw_el_r, sl_kds_1, sl_kds_67, sw_fit_i, sw_fit_r, sw_fit_n, sw_fit_l, sw_fit_d, sw_fit_b, sw_fit_0, sw_fit_1, sw_rel_0, sw_rel_1, sw_rel_2, sw_rel_3, sw_rel_4, sw_rel_5, sw_hp_set, sw_nx_set, sw_sl_set, sw_ev_set, sw_hp_new, sw_nx_new, sw_sl_new, sw_ev_new, List.getElem?_cons_zero, List.getElem?_cons_succ, List.set_cons_zero, List.set_cons_succ, List.length_cons, List.length_nil, Nat.reduceAdd, Nat.reduceSub, Nat.reduceLT, Nat.reduceLeDiff, Nat.zero_lt_succ, Nat.zero_add, beq_self_eq_true, Bool.true_and, and_true, true_and, and_self, not_true_eq_false, not_false_eq_true, ↓reduceIte, Nat.reduceBEq, eq_self, sw_b_0, sw_b_1, decide_eq_false_iff_not, decide_eq_true_eq, sl_n10, sl_n01, Decidable.not_not, sl_ct, sl_cats_0, sl_cats_i, sl_cats_r, sl_cats_n, sl_cats_l, sl_ok_5, sl_ok9, decide_true, sp_machC, sp_nodeC, sp_opC, sl_z0, sl_z1, sl_z2, sl_z3, sl_z4, sl_z5, sl_z6, sl_z7, sl_c0, sl_c1, sl_c2, sl_c3, sl_c4, sl_c5, sl_c6, sl_c7, List.length_map, ho1, ht, hwl, e10]
  exact r2
end
