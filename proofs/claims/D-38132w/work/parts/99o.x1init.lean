/-! ===== the component's main class: the constructor ===== -/
def sp_L0 : List Int32 := [1, 1, 1, 3, 3, 2, 1, 5]
def sp_m0 : sp_Mach := (8, 28, 15, true, false)
def sp_q0 : sp_Q := ([], [[], [], [], []], [1, 1, 1, 1], 1, sp_m0, sp_L0)
theorem ex_na64_8 {cf : sw_F} {B : sw_B} {r : List sw_I} {l : sw_L} {st : List Value} {P : sw_P} : sw_ex cf B (sw_na 64 :: r) l (.int 8 :: st) P = sw_ex cf B r l (.ref (sw_nx P) :: st) (sw_new P (64, [.int 0, .int 0, .int 0, .int 0, .int 0, .int 0, .int 0, .int 0])) := (ex_na 64 8).trans (if_pos (by decide))
section
variable {ev : Nat → Nat} {x D d c s : Nat} {b : sp_Bd} {F : List sl_A} {P : sw_P}
theorem jc_X1_firstLatencies (hD : 1 ≤ D) : sw_Z D m_X1_firstLatencies [] P = some (.inl (some (.ref (sw_nx P))), sw_new P (64, sp_L0.map .int)) := by
  obtain ⟨d, hDe, hDn⟩ := sw_dep hD; subst hDe; replace hD := hDn; clear hDn
  have e : ∀ v : List Value, v.length = 8 → sw_set (sw_new P (64, [.int 0, .int 0, .int 0, .int 0, .int 0, .int 0, .int 0, .int 0])) (sw_nx P) (64, v) = sw_new P (64, v) := fun v hv => sw_set_new P 64 64 _ _ hv
  have e2 : ∀ v w : List Value, w.length = v.length → sw_set (sw_new P (64, v)) (sw_nx P) (64, w) = sw_new P (64, w) := fun v w hv => sw_set_new P 64 64 _ _ hv
  rw [M_X1_firstLatencies _ _ _ rfl]; simp only [at_X1_firstLatencies_0, ex_push, ex_dup_i, ex_dup_r, ex_dup_n, ey_ast, sk_ast_s, ex_sta, ex_sta_n, ey_ld, sk_ld_s, ex_rv, sw_gl_0, sw_gl_s, sw_fx_n, sw_fx_i, sw_fx_r, sw_fx_0, sw_fx_l, sw_fx_d, sw_sl1_0, sw_sl1_1, sw_sl1_s, sw_no_0, sw_no_s, sw_no_e, sw_mk_t, sw_mk_f, sw_mk_e, sw_en_0, sw_en_n, sw_en_i, sw_en_r, sw_en_z, sw_en_l, sw_en_d, sw_ok_0, sw_ok_1, sw_ok_2, sw_ok_3, sw_ok_4, sw_bo_s, sw_oi_s, sw_cl_s, sw_cl_x, sw_psh_s, sw_psh_n, sw_kd_s, sw_op_s, sw_oc_s, sw_oc_e, sw_oa_s, sw_el_n, sw_el_r, sl_kds_1, sl_kds_67, sw_fit_i, sw_fit_r, sw_fit_n, sw_fit_l, sw_fit_d, sw_fit_b, sw_fit_0, sw_fit_1, sw_rel_0, sw_rel_1, sw_rel_2, sw_rel_3, sw_rel_4, sw_rel_5, sw_hp_set, sw_nx_set, sw_sl_set, sw_ev_set, sw_hp_new, sw_nx_new, sw_sl_new, sw_ev_new, List.getElem?_cons_zero, List.getElem?_cons_succ, List.set_cons_zero, List.set_cons_succ, List.length_cons, List.length_nil, Nat.reduceAdd, Nat.reduceSub, Nat.reduceLT, Nat.reduceLeDiff, Nat.zero_lt_succ, Nat.zero_add, beq_self_eq_true, Bool.true_and, and_true, true_and, and_self, not_true_eq_false, not_false_eq_true, ↓reduceIte, Nat.reduceBEq, eq_self, sw_b_0, sw_b_1, decide_eq_false_iff_not, decide_eq_true_eq, sl_n10, sl_n01, Decidable.not_not, sl_ct, sl_cats_0, sl_cats_i, sl_cats_r, sl_cats_n, sl_cats_l, sl_ok_5, sl_ok9, decide_true, sp_machC, sp_nodeC, sp_opC, sl_z0, sl_z1, sl_z2, sl_z3, sl_z4, sl_z5, sl_z6, sl_z7, sl_c0, sl_c1, sl_c2, sl_c3, sl_c4, sl_c5, sl_c6, sl_c7, List.length_map, sp_lifeC, sp_inC, sp_rnC, ex_na64_8, sl_vt64, e2]
  rfl
theorem jc_X1_init (hD : 265 ≤ D) (hf : sp_fit sp_q0 0 b) (h : sl_st ev c s P (sl_pt x (0, [.null, .null, .null]) :: F)) :
    ∃ P', sw_Z D m_X1_init [.ref x] P = some (.inl none, P') ∧ sp_CS ev (c + (15 + sp_kA b)) (s + (86 + sp_kS 0 b)) P' x sp_q0 b F := by
  obtain ⟨d, hDe, hDn⟩ := sw_dep hD; subst hDe; replace hD := hDn; clear hDn
  have h0 := h.get 0 rfl
  have f0 := sl_ne_nx h0 h.nx0
  have g1 := h.new (1, [.null, .null, .null, .int 0])
  obtain ⟨P1, n, bl, tm, B, r1, hB, s1⟩ := jc_X2_init (D := d) (by omega) g1
  have hx1 := s1.get 6 rfl
  have s2 := s1.set 6 (0, [.ref (sw_nx P), .null, .null]) rfl
  have s3 : sl_st ev _ _ _ (sl_prog ev (sw_nx P, n, bl, tm) [] B [1, 1, 1, 1] 1 ++ (sl_pt x (0, [.ref (sw_nx P), .null, .null]) :: F)) := s2
  have hx2 := s3.get 6 rfl
  have f1 := sl_ne_nx hx2 s3.nx0
  have g2 := s3.new (2, [.int 0, .int 0, .int 0, .int 0, .int 0, .null])
  have g3 := g2.new (64, sp_L0.map .int)
  have hm3 := g3.get 1 rfl
  have i1 := jc_X3_init (D := d) (m := sp_m0) (l := sw_nx P1 + 1) (by omega) hm3
  have g4 := (g3.set 1 (sp_machC sp_m0 (sw_nx P1 + 1)) rfl).set 8 (0, [.ref (sw_nx P), .ref (sw_nx P1), .null]) rfl
  have g5 := g4.new sp_nf
  have g6 : sl_st ev _ _ _ (sl_pt (sw_nx P1 + 2) sp_nf :: sl_pt (sw_nx P1) (sp_machC sp_m0 (sw_nx P1 + 1)) :: sl_pt (sw_nx P1 + 1) (64, sp_L0.map .int) :: (sl_prog ev (sw_nx P, n, bl, tm) [] B [1, 1, 1, 1] 1 ++ (sl_pt x (0, [.ref (sw_nx P), .ref (sw_nx P1), .null]) :: F))) := g5.pp 10 [0, 2, 1, 3, 4, 5, 6, 7, 8, 9]
  obtain ⟨P2, r2, s5⟩ := jc_bd (D := d) (by omega) (Or.inl rfl) (by rw [hB]; exact hf) g6
  have hx5 := s5.get 9 rfl
  have s6 := s5.set 9 (0, [.ref (sw_nx P), .ref (sw_nx P1), .ref (sw_nx P1 + 2)]) rfl
  have s7 : sl_st ev _ _ _ (sl_cs ev x (sw_nx P1 + 2) (sw_nx P1) (sw_nx P1 + 1) (sw_nx P, n, bl, tm) [] B [1, 1, 1, 1] 1 sp_m0 sp_L0 b ++ F) := s6.pp 10 [9, 0, 1, 2, 3, 4, 5, 6, 7, 8]
  refine ⟨_, ?_, sw_nx P1 + 2, sw_nx P1, sw_nx P1 + 1, (sw_nx P, n, bl, tm), [], B, rfl, hB, s7.wk (by omega) ?_⟩
  · have fl := jc_X1_firstLatencies (D := d) (P := sw_new (sw_set P1 x (0, [.ref (sw_nx P), .null, .null])) (2, [.int 0, .int 0, .int 0, .int 0, .int 0, .null])) (by omega)
    rw [show sw_nx (sw_new (sw_set P1 x (0, [.ref (sw_nx P), .null, .null])) (2, [.int 0, .int 0, .int 0, .int 0, .int 0, .null])) = sw_nx P1 + 1 from rfl] at fl
    have f2 : ¬ x = sw_nx P1 := f1
    have f3 : ¬ x = sw_nx P1 + 1 := fun e => by
      have := s3.nx0 x (by rw [e]; exact Nat.le_succ _)
      rw [hx2] at this; cases this
    have f4 : ¬ x = sw_nx P1 + 2 := fun e => by
      have := s3.nx0 x (by rw [e]; exact Nat.le_add_right (sw_nx P1) 2)
      rw [hx2] at this; cases this
    unfold sp_nf at r2
    unfold sp_m0 at i1 r2
    dsimp only [sp_machC, sw_b_t, sw_b_f] at i1 r2
    rw [show sw_nx (sw_set P1 x (0, [Value.ref (sw_nx P), Value.null, Value.null])) = sw_nx P1 from rfl] at i1 r2
    rw [M_X1_init _ _ _ rfl]; simp only [at_X1_init_0, ey_ld, sk_ld_s, ex_oin, ex_nw, ex_dup_i, ex_dup_r, ex_dup_n, ey_ci0, sk_c_s, ey_pf, sk_pf_s, sw_set_set, ex_push, ey_cs0, ey_ci6, ey_gf, sk_gf_s, sk_v_s, ey_ci3, ex_ret, sw_gl_0, sw_gl_s, sw_fx_n, sw_fx_i, sw_fx_r, sw_fx_0, sw_fx_l, sw_fx_d, sw_sl1_0, sw_sl1_1, sw_sl1_s, sw_no_0, sw_no_s, sw_no_e, sw_mk_t, sw_mk_f, sw_mk_e, sw_en_0, sw_en_n, sw_en_i, sw_en_r, sw_en_z, sw_en_l, sw_en_d, sw_ok_0, sw_ok_1, sw_ok_2, sw_ok_3, sw_ok_4, sw_bo_s, sw_oi_s, sw_cl_s, sw_cl_x, sw_psh_s, sw_psh_n, sw_kd_s, sw_op_s, sw_oc_s, sw_oc_e, sw_oa_s, sw_el_n, sw_el_r, sl_kds_1, sl_kds_67, sw_fit_i, sw_fit_r, sw_fit_n, sw_fit_l, sw_fit_d, sw_fit_b, sw_fit_0, sw_fit_1, sw_rel_0, sw_rel_1, sw_rel_2, sw_rel_3, sw_rel_4, sw_rel_5, sw_hp_set, sw_nx_set, sw_sl_set, sw_ev_set, sw_hp_new, sw_nx_new, sw_sl_new, sw_ev_new, List.getElem?_cons_zero, List.getElem?_cons_succ, List.set_cons_zero, List.set_cons_succ, List.length_cons, List.length_nil, Nat.reduceAdd, Nat.reduceSub, Nat.reduceLT, Nat.reduceLeDiff, Nat.zero_lt_succ, Nat.zero_add, beq_self_eq_true, Bool.true_and, and_true, true_and, and_self, not_true_eq_false, not_false_eq_true, ↓reduceIte, Nat.reduceBEq, eq_self, sw_b_0, sw_b_1, decide_eq_false_iff_not, decide_eq_true_eq, sl_n10, sl_n01, Decidable.not_not, sl_ct, sl_cats_0, sl_cats_i, sl_cats_r, sl_cats_n, sl_cats_l, sl_ok_5, sl_ok9, decide_true, sp_machC, sp_nodeC, sp_opC, sl_z0, sl_z1, sl_z2, sl_z3, sl_z4, sl_z5, sl_z6, sl_z7, sl_c0, sl_c1, sl_c2, sl_c3, sl_c4, sl_c5, sl_c6, sl_c7, List.length_map, sp_lifeC, sp_inC, sp_rnC, h0, f0, r1, hx1, f2, f3, f4, show sw_nx P1 + 1 + 1 = sw_nx P1 + 2 from rfl, fl, i1, r2, hx5]
  · show s + 4 + 62 + 6 + 8 + 6 + _ ≤ _
    rw [show ([] : List (Nat × sp_Node)).length = 0 from rfl]
    omega
end
