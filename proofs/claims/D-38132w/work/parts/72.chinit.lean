/-! ===== the component's choosing: constructor, entry, all ===== -/
theorem sl_rd_ops {H : sl_H} {O : List (Nat × sp_Op)} (h : sl_rd H (sl_all (O.map sl_opA))) {i : Nat} {x : Nat × sp_Op} (hi : O[i]? = some x) : sp_op H x.1 x.2 := sl_rd_opA (sl_rd_map h hi)
theorem sl_one {P : sw_P} {a b : Nat} {t t' : Nat} {vs vs' : List Value} (h1 : sw_hp P a = some (t, vs)) (h2 : sw_hp P b = some (t', vs')) (ht : t ≠ t') : ¬ a = b := by
  intro e
  subst e
  rw [h1] at h2
  injection h2 with h2
  injection h2 with h2 _
  exact ht h2
theorem sl_st.tail {ev : Nat → Nat} {c s : Nat} {P : sw_P} {X : sl_A} {As F : List sl_A} (h : sl_st ev c s P (X :: (As ++ F))) : sl_st ev c s P (As ++ (X :: F)) := h.perm List.perm_middle.symm
theorem sl_st.untail {ev : Nat → Nat} {c s : Nat} {P : sw_P} {X : sl_A} {As F : List sl_A} (h : sl_st ev c s P (As ++ (X :: F))) : sl_st ev c s P (X :: (As ++ F)) := h.perm List.perm_middle
theorem sl_map_set (L : List Int32) (i : Nat) (x : Int32) : (L.map Value.int).set i (.int x) = (L.set i x).map .int := by rw [List.map_set]
section
variable {ev : Nat → Nat} {ch mach ca ol l : Nat} {pa : sp_PA} {N : List (Nat × sp_Node)} {B : List sp_Blk} {T L cs : List Int32} {out b : Int32} {m : sp_Mach} {F : List sl_A} {c s : Nat}
theorem sp_costs_len (ns : List sp_Node) (k : Nat) : (sp_costs ns m L k).length = ns.length := by
  induction k with
  | zero => exact List.length_replicate
  | succ k ih => exact (List.length_set).trans ih
theorem jc_X5_init1 {d : Nat} (hd : 12 ≤ d) (hok : sp_ok (N.map (·.2))) (hL : L.length = 8) : ∀ j k, k + j = N.length → ∀ P, sl_st ev c s P (sl_pt ch (sp_chC pa mach ca ol 8 0) :: sl_pt ca (64, (sp_costs (N.map (·.2)) m L k).map .int) :: sl_pt mach (sp_machC m l) :: sl_pt l (64, L.map .int) :: (sl_prog ev pa N B T out ++ F)) →
    ∃ P', sw_at (sw_Z d) b_X5_init 1 [some (.ref ch), none, none, some (.int (nI k))] [] P = some (.inl none, P') ∧ sl_st ev c s P' (sl_pt ch (sp_chC pa mach ca ol 8 0) :: sl_pt ca (64, (sp_costs (N.map (·.2)) m L N.length).map .int) :: sl_pt mach (sp_machC m l) :: sl_pt l (64, L.map .int) :: (sl_prog ev pa N B T out ++ F)) := by
  have hN : N.length ≤ 80 := by have := hok.1; rwa [List.length_map] at this
  intro j
  induction j with
  | zero =>
    intro k hk P h
    have : k = N.length := by omega
    subst this
    have h0 := h.get 0 rfl
    have h1 := h.get 1 rfl
    have e1 : Int32.ofNat (sp_costs (N.map (·.2)) m L N.length).length ≤ nI N.length := by rw [sp_costs_len, List.length_map]; exact Int32.le_refl _
    refine ⟨P, ?_, h⟩
    rw [at_X5_init_1]; simp only [at_X5_init_2, ey_ld, sk_ld_s, ex_oin, ex_nw, ex_dup_i, ex_dup_r, ex_dup_n, ey_ci0, sk_c_s, ey_pf, sk_pf_s, sw_set_set, ex_push, ey_gf, sk_gf_s, sk_v_s, ey_cv0, ex_na, ex_sti, ex_goto, ey_al, sk_al_s, ex_ic, ey_cv1, ey_ast, sk_ast_s, ey_inc, sk_inc_s, ex_ret, sw_gl_0, sw_gl_s, sw_fx_n, sw_fx_i, sw_fx_r, sw_fx_0, sw_fx_l, sw_fx_d, sw_sl1_0, sw_sl1_1, sw_sl1_s, sw_no_0, sw_no_s, sw_no_e, sw_mk_t, sw_mk_f, sw_mk_e, sw_en_0, sw_en_n, sw_en_i, sw_en_r, sw_en_z, sw_en_l, sw_en_d, sw_ok_0, sw_ok_1, sw_ok_2, sw_ok_3, sw_ok_4, sw_bo_s, sw_oi_s, sw_cl_s, sw_cl_x, sw_psh_s, sw_psh_n, sw_kd_s, sw_op_s, sw_oc_s, sw_oc_e, sw_oa_s, sw_el_n, sw_el_r, sl_kds_1, sl_kds_67, sw_fit_i, sw_fit_r, sw_fit_n, sw_fit_l, sw_fit_d, sw_fit_b, sw_fit_0, sw_fit_1, sw_rel_0, sw_rel_1, sw_rel_2, sw_rel_3, sw_rel_4, sw_rel_5, sw_hp_set, sw_nx_set, sw_sl_set, sw_ev_set, sw_hp_new, sw_nx_new, sw_sl_new, sw_ev_new, List.getElem?_cons_zero, List.getElem?_cons_succ, List.set_cons_zero, List.set_cons_succ, List.length_cons, List.length_nil, Nat.reduceAdd, Nat.reduceSub, Nat.reduceLT, Nat.reduceLeDiff, Nat.zero_lt_succ, Nat.zero_add, beq_self_eq_true, Bool.true_and, and_true, true_and, and_self, not_true_eq_false, not_false_eq_true, ↓reduceIte, Nat.reduceBEq, eq_self, sw_b_0, sw_b_1, decide_eq_false_iff_not, decide_eq_true_eq, sl_n10, sl_n01, Decidable.not_not, sl_ct, sl_cats_0, sl_cats_i, sl_cats_r, sl_cats_n, sl_cats_l, sl_ok_5, sl_ok9, decide_true, sp_machC, sp_nodeC, sp_opC, sl_z0, sl_z1, sl_z2, sl_z3, sl_z4, sl_z5, sl_z6, sl_z7, sl_c0, sl_c1, sl_c2, sl_c3, sl_c4, sl_c5, sl_c6, sl_c7, h0, h1, sp_chC, List.length_map, e1]
  | succ j ih =>
    intro k hk P h
    have h0 := h.get 0 rfl
    have h1 := h.get 1 rfl
    have hlen : (sp_costs (N.map (·.2)) m L k).length = N.length := by rw [sp_costs_len, List.length_map]
    have e1 : ¬ Int32.ofNat (sp_costs (N.map (·.2)) m L k).length ≤ nI k := by rw [hlen]; exact nI_ge (by omega) (by omega)
    have hpr : sl_rds (sw_hp P) (sl_prog ev pa N B T out) := (sl_rds_append.mp h.rd.2.2.2.2).1
    have hcx : sp_cx ev (sw_hp P) ch mach ca ol pa N B T out m L (sp_costs (N.map (·.2)) m L k) 8 0 := ⟨h0, hpr, ⟨l, h.get 2 rfl, h.get 3 rfl⟩, h1⟩
    have e2 := jc_X5_costOf (D := d) (by omega) h.bs hcx hok (by rw [sp_costs_len]) hL (i := nI k) ⟨k, by rw [List.length_map]; omega, rfl⟩
    have e3 : ¬ nI k < 0 := nI_pos (by omega)
    have e4 : (nI k).toNatClampNeg = k := nI_clamp (by omega)
    have e5 : k < (sp_costs (N.map (·.2)) m L k).length := by omega
    have g := h.set 1 (64, (sp_costs (N.map (·.2)) m L (k + 1)).map .int) rfl
    obtain ⟨P', r1, r2⟩ := ih (k + 1) (by omega) _ g
    refine ⟨P', ?_, r2⟩
    rw [← r1]
    have e6 := sl_map_set (sp_costs (N.map (·.2)) m L k) k (sp_costOf (N.map (·.2)) m L (sp_costs (N.map (·.2)) m L k) (sp_nd (N.map (·.2)) (nI k)))
    rw [at_X5_init_1]; simp only [ey_ld, sk_ld_s, ex_oin, ex_nw, ex_dup_i, ex_dup_r, ex_dup_n, ey_ci0, sk_c_s, ey_pf, sk_pf_s, sw_set_set, ex_push, ey_gf, sk_gf_s, sk_v_s, ey_cv0, ex_na, ex_sti, ex_goto, ey_al, sk_al_s, ex_ic, ey_cv1, ey_ast, sk_ast_s, ey_inc, sk_inc_s, ex_ret, sw_gl_0, sw_gl_s, sw_fx_n, sw_fx_i, sw_fx_r, sw_fx_0, sw_fx_l, sw_fx_d, sw_sl1_0, sw_sl1_1, sw_sl1_s, sw_no_0, sw_no_s, sw_no_e, sw_mk_t, sw_mk_f, sw_mk_e, sw_en_0, sw_en_n, sw_en_i, sw_en_r, sw_en_z, sw_en_l, sw_en_d, sw_ok_0, sw_ok_1, sw_ok_2, sw_ok_3, sw_ok_4, sw_bo_s, sw_oi_s, sw_cl_s, sw_cl_x, sw_psh_s, sw_psh_n, sw_kd_s, sw_op_s, sw_oc_s, sw_oc_e, sw_oa_s, sw_el_n, sw_el_r, sl_kds_1, sl_kds_67, sw_fit_i, sw_fit_r, sw_fit_n, sw_fit_l, sw_fit_d, sw_fit_b, sw_fit_0, sw_fit_1, sw_rel_0, sw_rel_1, sw_rel_2, sw_rel_3, sw_rel_4, sw_rel_5, sw_hp_set, sw_nx_set, sw_sl_set, sw_ev_set, sw_hp_new, sw_nx_new, sw_sl_new, sw_ev_new, List.getElem?_cons_zero, List.getElem?_cons_succ, List.set_cons_zero, List.set_cons_succ, List.length_cons, List.length_nil, Nat.reduceAdd, Nat.reduceSub, Nat.reduceLT, Nat.reduceLeDiff, Nat.zero_lt_succ, Nat.zero_add, beq_self_eq_true, Bool.true_and, and_true, true_and, and_self, not_true_eq_false, not_false_eq_true, ↓reduceIte, Nat.reduceBEq, eq_self, sw_b_0, sw_b_1, decide_eq_false_iff_not, decide_eq_true_eq, sl_n10, sl_n01, Decidable.not_not, sl_ct, sl_cats_0, sl_cats_i, sl_cats_r, sl_cats_n, sl_cats_l, sl_ok_5, sl_ok9, decide_true, sp_machC, sp_nodeC, sp_opC, sl_z0, sl_z1, sl_z2, sl_z3, sl_z4, sl_z5, sl_z6, sl_z7, sl_c0, sl_c1, sl_c2, sl_c3, sl_c4, sl_c5, sl_c6, sl_c7, h0, h1, sp_chC, List.length_map, e1, e2, e3, e4, e5, sl_vt64, e6, nI_1]
    rfl
theorem jc_X5_init {D : Nat} {P : sw_P} (hD : 13 ≤ D) (hok : sp_ok (N.map (·.2))) (hL : L.length = 8) (h : sl_st ev c s P (sl_pt ch (4, [.null, .null, .null, .null, .int 0, .int 0]) :: sl_pt mach (sp_machC m l) :: sl_pt l (64, L.map .int) :: (sl_prog ev pa N B T out ++ F))) :
    ∃ P' ca ol, sw_Z D m_X5_init [.ref ch, .ref pa.1, .ref mach] P = some (.inl none, P') ∧ sp_EmS ev ch ol (fun v => sp_chC pa mach ca ol v 0) (sl_ctx ev ca (sp_costs (N.map (·.2)) m L N.length) mach m l L pa N B T out ++ F) (c + 2) (s + 3 + N.length) P' 8 [] := by
  obtain ⟨d, hDe, hDn⟩ := sw_dep hD; subst hDe; replace hD := hDn; clear hDn
  have hN : N.length ≤ 80 := by have := hok.1; rwa [List.length_map] at this
  have hev := h.ev
  have h0 := h.get 0 rfl
  have hn := h.2.2.2.1
  have g1 := (h.new (24, [.int 0, .ref (ev 10), .int 0])).set 1 (4, [.ref pa.1, .ref mach, .null, .ref (sw_nx P), .int 8, .int 0]) rfl
  have hpr : sl_rds (sw_hp _) (sl_prog ev pa N B T out) := (sl_rds_append.mp g1.rd.2.2.2.2).1
  have e2 := jc_J2_sizeR (D := d) (by omega) (sl_rds_at hpr 1 rfl)
  obtain ⟨_, _, _, _, e3, _⟩ := sl_rd_lx (sl_rds_at hpr 1 rfl)
  have e4 := sl_rd_pt.mp (sl_rds_at hpr 0 rfl)
  have hnx : sw_nx (sw_set (sw_new P (24, [.int 0, .ref (ev 10), .int 0])) ch (4, [.ref pa.1, .ref mach, .null, .ref (sw_nx P), .int 8, .int 0])) = sw_nx P + 1 := rfl
  have g2 := (g1.new (64, (sp_costs (N.map (·.2)) m L 0).map .int)).set 2 (sp_chC pa mach (sw_nx P + 1) (sw_nx P) 8 0) rfl
  have g3 := sl_st.oflx (Q := fun c => c ∈ sl_caps) (vs := []) (by decide) (((g2.pk [1]).ofbk0).pk [1])
  have g4 := sl_st.tail (As := sl_pt ch (sp_chC pa mach (sw_nx P + 1) (sw_nx P) 8 0) :: sl_pt (sw_nx P + 1) (64, (sp_costs (N.map (·.2)) m L 0).map .int) :: sl_pt mach (sp_machC m l) :: sl_pt l (64, L.map .int) :: sl_prog ev pa N B T out) (g3.pk [0, 2, 1])
  obtain ⟨P', r1, r2⟩ := jc_X5_init1 (ol := sw_nx P) (ca := sw_nx P + 1) (d := d) (by omega) hok hL N.length 0 (by omega) _ g4
  have r3 := sl_st.untail (As := sl_pt ch (sp_chC pa mach (sw_nx P + 1) (sw_nx P) 8 0) :: sl_pt (sw_nx P + 1) (64, (sp_costs (N.map (·.2)) m L N.length).map .int) :: sl_pt mach (sp_machC m l) :: sl_pt l (64, L.map .int) :: sl_prog ev pa N B T out) r2
  have r4 := (sl_st.flat (As := []).mpr r3).pk [2, 1, 0]
  refine ⟨P', sw_nx P + 1, sw_nx P, ?_, r4.wk ?_ ?_⟩
  · rw [show (nI 0 : Int32) = 0 from rfl] at r1
    rw [← r1]
    have f1 := sl_ne_nx h0 hn
    have f2 : sw_nx P ≠ ch := fun e => f1 e.symm
    have f3 : ¬ ch = sw_nx P + 1 := fun e => by rw [hn ch (by omega)] at h0; cases h0
    have e5 := jc_J2_init (D := d) (a := sw_nx P) (P := sw_new P (24, [.int 0, .null, .int 0])) (by omega) (if_pos rfl)
    rw [show sw_ev (sw_new P (24, [.int 0, .null, .int 0])) = sw_ev P from rfl, hev, sw_set_new P 24 24 [.int 0, .null, .int 0] [.int 0, .ref (ev 10), .int 0] rfl] at e5
    have e6 : (List.replicate (nI N.length).toNatClampNeg (sw_dv 64)) = (sp_costs (N.map (·.2)) m L 0).map .int := by
      rw [nI_clamp (by omega)]
      show _ = (List.replicate (N.map (·.2)).length (0 : Int32)).map Value.int
      rw [List.map_replicate, List.length_map]; rfl
    have e7 : (0 : Int32) ≤ nI N.length := nI_pos' (by omega)
    have e8 : (nI N.length).toNatClampNeg ≤ 1048576 := by rw [nI_clamp (by omega)]; omega
    rw [List.length_map] at e2
    rw [sw_hp_set, sw_hp_new] at e4
    rw [M_X5_init _ _ _ rfl]; simp only [at_X5_init_0, ey_ld, sk_ld_s, ex_oin, ex_nw, ex_dup_i, ex_dup_r, ex_dup_n, ey_ci0, sk_c_s, ey_pf, sk_pf_s, sw_set_set, ex_push, ey_gf, sk_gf_s, sk_v_s, ey_cv0, ex_na, ex_sti, ex_goto, ey_al, sk_al_s, ex_ic, ey_cv1, ey_ast, sk_ast_s, ey_inc, sk_inc_s, ex_ret, sw_gl_0, sw_gl_s, sw_fx_n, sw_fx_i, sw_fx_r, sw_fx_0, sw_fx_l, sw_fx_d, sw_sl1_0, sw_sl1_1, sw_sl1_s, sw_no_0, sw_no_s, sw_no_e, sw_mk_t, sw_mk_f, sw_mk_e, sw_en_0, sw_en_n, sw_en_i, sw_en_r, sw_en_z, sw_en_l, sw_en_d, sw_ok_0, sw_ok_1, sw_ok_2, sw_ok_3, sw_ok_4, sw_bo_s, sw_oi_s, sw_cl_s, sw_cl_x, sw_psh_s, sw_psh_n, sw_kd_s, sw_op_s, sw_oc_s, sw_oc_e, sw_oa_s, sw_el_n, sw_el_r, sl_kds_1, sl_kds_67, sw_fit_i, sw_fit_r, sw_fit_n, sw_fit_l, sw_fit_d, sw_fit_b, sw_fit_0, sw_fit_1, sw_rel_0, sw_rel_1, sw_rel_2, sw_rel_3, sw_rel_4, sw_rel_5, sw_hp_set, sw_nx_set, sw_sl_set, sw_ev_set, sw_hp_new, sw_nx_new, sw_sl_new, sw_ev_new, List.getElem?_cons_zero, List.getElem?_cons_succ, List.set_cons_zero, List.set_cons_succ, List.length_cons, List.length_nil, Nat.reduceAdd, Nat.reduceSub, Nat.reduceLT, Nat.reduceLeDiff, Nat.zero_lt_succ, Nat.zero_add, beq_self_eq_true, Bool.true_and, and_true, true_and, and_self, not_true_eq_false, not_false_eq_true, ↓reduceIte, Nat.reduceBEq, eq_self, sw_b_0, sw_b_1, decide_eq_false_iff_not, decide_eq_true_eq, sl_n10, sl_n01, Decidable.not_not, sl_ct, sl_cats_0, sl_cats_i, sl_cats_r, sl_cats_n, sl_cats_l, sl_ok_5, sl_ok9, decide_true, sp_machC, sp_nodeC, sp_opC, sl_z0, sl_z1, sl_z2, sl_z3, sl_z4, sl_z5, sl_z6, sl_z7, sl_c0, sl_c1, sl_c2, sl_c3, sl_c4, sl_c5, sl_c6, sl_c7, h0, f1, f2, f3, hnx, e2, e3, e4, e5, e6, e7, e8, sp_chC]
  · show c + 1 + 1 ≤ _; omega
  · show s + 3 + ((sp_costs (N.map (·.2)) m L 0).map Value.int).length ≤ _
    rw [List.length_map, sp_costs_len, List.length_map]; omega
/-- entry: of one operation -/
theorem jc_X5_entry2 {d : Nat} {P : sw_P} {O : List (Nat × sp_Op)} {v : Int32} (hd : 6 ≤ d) (h0 : sw_hp P ch = some (sp_chC pa mach ca ol v b)) (hol : sl_rd (sw_hp P) (sl_ls ev ol (O.map fun x => .ref x.1))) (hop : sl_rd (sw_hp P) (sl_all (O.map sl_opA))) (hO : O.length < 1000) (hr : ∀ x ∈ O, x.2.2.2.1.length < 100) {k : Nat} (hk : k < O.length) (w : Int32) : ∀ j v', v' + j = 8 → ∀ r, sw_at (sw_Z d) b_X5_entry 2 [some (.ref ch), some (.int w), some (.int (sw_it (fun v r => r ||| (if 0 < sp_cnt O[k].2.2.2.1 (nI v) ∧ sp_has w (nI v) = false then 1 <<< (nI v &&& 31) else 0)) r v')), some (.int (nI k)), some (.int (nI v'))] [] P = sw_at (sw_Z d) b_X5_entry 5 [some (.ref ch), some (.int w), some (.int (sp_entR O[k].2 w r)), some (.int (nI k)), none] [] P := by
  intro j
  induction j with
  | zero =>
    intro v' hv r
    have : v' = 8 := by omega
    subst this
    have e1 : (8 : Int32) ≤ nI 8 := by decide
    rw [at_X5_entry_2]; simp only [ex_push, ex_sti, ex_goto, ey_ld, sk_ld_s, ey_gf, sk_gf_s, sk_v_s, ey_cv0, sk_c_s, ex_ic, ey_cv1, ex_ct, ex_iz, ey_cs2, ex_ii, ey_inc, sk_inc_s, ex_rv, sw_gl_0, sw_gl_s, sw_fx_n, sw_fx_i, sw_fx_r, sw_fx_0, sw_fx_l, sw_fx_d, sw_sl1_0, sw_sl1_1, sw_sl1_s, sw_no_0, sw_no_s, sw_no_e, sw_mk_t, sw_mk_f, sw_mk_e, sw_en_0, sw_en_n, sw_en_i, sw_en_r, sw_en_z, sw_en_l, sw_en_d, sw_ok_0, sw_ok_1, sw_ok_2, sw_ok_3, sw_ok_4, sw_bo_s, sw_oi_s, sw_cl_s, sw_cl_x, sw_psh_s, sw_psh_n, sw_kd_s, sw_op_s, sw_oc_s, sw_oc_e, sw_oa_s, sw_el_n, sw_el_r, sl_kds_1, sl_kds_67, sw_fit_i, sw_fit_r, sw_fit_n, sw_fit_l, sw_fit_d, sw_fit_b, sw_fit_0, sw_fit_1, sw_rel_0, sw_rel_1, sw_rel_2, sw_rel_3, sw_rel_4, sw_rel_5, sw_hp_set, sw_nx_set, sw_sl_set, sw_ev_set, sw_hp_new, sw_nx_new, sw_sl_new, sw_ev_new, List.getElem?_cons_zero, List.getElem?_cons_succ, List.set_cons_zero, List.set_cons_succ, List.length_cons, List.length_nil, Nat.reduceAdd, Nat.reduceSub, Nat.reduceLT, Nat.reduceLeDiff, Nat.zero_lt_succ, Nat.zero_add, beq_self_eq_true, Bool.true_and, and_true, true_and, and_self, not_true_eq_false, not_false_eq_true, ↓reduceIte, Nat.reduceBEq, eq_self, sw_b_0, sw_b_1, decide_eq_false_iff_not, decide_eq_true_eq, sl_n10, sl_n01, Decidable.not_not, sl_ct, sl_cats_0, sl_cats_i, sl_cats_r, sl_cats_n, sl_cats_l, sl_ok_5, sl_ok9, decide_true, sp_machC, sp_nodeC, sp_opC, sl_z0, sl_z1, sl_z2, sl_z3, sl_z4, sl_z5, sl_z6, sl_z7, sl_c0, sl_c1, sl_c2, sl_c3, sl_c4, sl_c5, sl_c6, sl_c7, e1, sp_entR]
  | succ j ih =>
    intro v' hv r
    have e1 : ¬ (8 : Int32) ≤ nI v' := nI_ge (b := 8) (by omega) (by omega)
    have ex : O[k]? = some O[k] := List.getElem?_eq_getElem hk
    have e2 := jc_J2_get (D := d) (by omega) hol (sl_refs_at ex) (by rw [List.length_map]; omega)
    obtain ⟨_, _, _, _, e3, _⟩ := sl_rd_lx hol
    obtain ⟨ra, f1, f2⟩ := sl_rd_ops hop ex
    have e4 := jc_X7_reads (D := d) (v := nI v') (by omega) f1 f2 (hr _ (List.getElem_mem hk))
    have e5 := jc_X1_has (D := d) (P := P) (x := w) (k := nI v') (by omega)
    have hs := ih (v' + 1) (by omega) r
    simp only [sw_it] at hs
    rw [← hs]
    by_cases c1 : 0 < sp_cnt O[k].2.2.2.1 (nI v')
    · have c1' : ¬ sp_cnt O[k].2.2.2.1 (nI v') ≤ 0 := Int32.not_le.mpr c1
      cases c2 : sp_has w (nI v')
      · rw [c2] at e5
        rw [at_X5_entry_2]; simp only [at_X5_entry_3, at_X5_entry_4, ex_push, ex_sti, ex_goto, ey_ld, sk_ld_s, ey_gf, sk_gf_s, sk_v_s, ey_cv0, sk_c_s, ex_ic, ey_cv1, ex_ct, ex_iz, ey_cs2, ex_ii, ey_inc, sk_inc_s, ex_rv, sw_gl_0, sw_gl_s, sw_fx_n, sw_fx_i, sw_fx_r, sw_fx_0, sw_fx_l, sw_fx_d, sw_sl1_0, sw_sl1_1, sw_sl1_s, sw_no_0, sw_no_s, sw_no_e, sw_mk_t, sw_mk_f, sw_mk_e, sw_en_0, sw_en_n, sw_en_i, sw_en_r, sw_en_z, sw_en_l, sw_en_d, sw_ok_0, sw_ok_1, sw_ok_2, sw_ok_3, sw_ok_4, sw_bo_s, sw_oi_s, sw_cl_s, sw_cl_x, sw_psh_s, sw_psh_n, sw_kd_s, sw_op_s, sw_oc_s, sw_oc_e, sw_oa_s, sw_el_n, sw_el_r, sl_kds_1, sl_kds_67, sw_fit_i, sw_fit_r, sw_fit_n, sw_fit_l, sw_fit_d, sw_fit_b, sw_fit_0, sw_fit_1, sw_rel_0, sw_rel_1, sw_rel_2, sw_rel_3, sw_rel_4, sw_rel_5, sw_hp_set, sw_nx_set, sw_sl_set, sw_ev_set, sw_hp_new, sw_nx_new, sw_sl_new, sw_ev_new, List.getElem?_cons_zero, List.getElem?_cons_succ, List.set_cons_zero, List.set_cons_succ, List.length_cons, List.length_nil, Nat.reduceAdd, Nat.reduceSub, Nat.reduceLT, Nat.reduceLeDiff, Nat.zero_lt_succ, Nat.zero_add, beq_self_eq_true, Bool.true_and, and_true, true_and, and_self, not_true_eq_false, not_false_eq_true, ↓reduceIte, Nat.reduceBEq, eq_self, sw_b_0, sw_b_1, decide_eq_false_iff_not, decide_eq_true_eq, sl_n10, sl_n01, Decidable.not_not, sl_ct, sl_cats_0, sl_cats_i, sl_cats_r, sl_cats_n, sl_cats_l, sl_ok_5, sl_ok9, decide_true, sp_machC, sp_nodeC, sp_opC, sl_z0, sl_z1, sl_z2, sl_z3, sl_z4, sl_z5, sl_z6, sl_z7, sl_c0, sl_c1, sl_c2, sl_c3, sl_c4, sl_c5, sl_c6, sl_c7, e1, h0, sp_chC, e2, e3, e4, e5, f1, c1', eq_true c1, sw_b_f, nI_1, sl_kds_1]
      · rw [c2] at e5
        rw [at_X5_entry_2]; simp only [at_X5_entry_3, at_X5_entry_4, ex_push, ex_sti, ex_goto, ey_ld, sk_ld_s, ey_gf, sk_gf_s, sk_v_s, ey_cv0, sk_c_s, ex_ic, ey_cv1, ex_ct, ex_iz, ey_cs2, ex_ii, ey_inc, sk_inc_s, ex_rv, sw_gl_0, sw_gl_s, sw_fx_n, sw_fx_i, sw_fx_r, sw_fx_0, sw_fx_l, sw_fx_d, sw_sl1_0, sw_sl1_1, sw_sl1_s, sw_no_0, sw_no_s, sw_no_e, sw_mk_t, sw_mk_f, sw_mk_e, sw_en_0, sw_en_n, sw_en_i, sw_en_r, sw_en_z, sw_en_l, sw_en_d, sw_ok_0, sw_ok_1, sw_ok_2, sw_ok_3, sw_ok_4, sw_bo_s, sw_oi_s, sw_cl_s, sw_cl_x, sw_psh_s, sw_psh_n, sw_kd_s, sw_op_s, sw_oc_s, sw_oc_e, sw_oa_s, sw_el_n, sw_el_r, sl_kds_1, sl_kds_67, sw_fit_i, sw_fit_r, sw_fit_n, sw_fit_l, sw_fit_d, sw_fit_b, sw_fit_0, sw_fit_1, sw_rel_0, sw_rel_1, sw_rel_2, sw_rel_3, sw_rel_4, sw_rel_5, sw_hp_set, sw_nx_set, sw_sl_set, sw_ev_set, sw_hp_new, sw_nx_new, sw_sl_new, sw_ev_new, List.getElem?_cons_zero, List.getElem?_cons_succ, List.set_cons_zero, List.set_cons_succ, List.length_cons, List.length_nil, Nat.reduceAdd, Nat.reduceSub, Nat.reduceLT, Nat.reduceLeDiff, Nat.zero_lt_succ, Nat.zero_add, beq_self_eq_true, Bool.true_and, and_true, true_and, and_self, not_true_eq_false, not_false_eq_true, ↓reduceIte, Nat.reduceBEq, eq_self, sw_b_0, sw_b_1, decide_eq_false_iff_not, decide_eq_true_eq, sl_n10, sl_n01, Decidable.not_not, sl_ct, sl_cats_0, sl_cats_i, sl_cats_r, sl_cats_n, sl_cats_l, sl_ok_5, sl_ok9, decide_true, sp_machC, sp_nodeC, sp_opC, sl_z0, sl_z1, sl_z2, sl_z3, sl_z4, sl_z5, sl_z6, sl_z7, sl_c0, sl_c1, sl_c2, sl_c3, sl_c4, sl_c5, sl_c6, sl_c7, e1, h0, sp_chC, e2, e3, e4, e5, f1, c1', eq_true c1, sw_b_t, nI_1, sl_kds_1, reduceCtorEq, and_false]
    · have c1' : sp_cnt O[k].2.2.2.1 (nI v') ≤ 0 := Int32.not_lt.mp c1
      rw [at_X5_entry_2]; simp only [at_X5_entry_3, at_X5_entry_4, ex_push, ex_sti, ex_goto, ey_ld, sk_ld_s, ey_gf, sk_gf_s, sk_v_s, ey_cv0, sk_c_s, ex_ic, ey_cv1, ex_ct, ex_iz, ey_cs2, ex_ii, ey_inc, sk_inc_s, ex_rv, sw_gl_0, sw_gl_s, sw_fx_n, sw_fx_i, sw_fx_r, sw_fx_0, sw_fx_l, sw_fx_d, sw_sl1_0, sw_sl1_1, sw_sl1_s, sw_no_0, sw_no_s, sw_no_e, sw_mk_t, sw_mk_f, sw_mk_e, sw_en_0, sw_en_n, sw_en_i, sw_en_r, sw_en_z, sw_en_l, sw_en_d, sw_ok_0, sw_ok_1, sw_ok_2, sw_ok_3, sw_ok_4, sw_bo_s, sw_oi_s, sw_cl_s, sw_cl_x, sw_psh_s, sw_psh_n, sw_kd_s, sw_op_s, sw_oc_s, sw_oc_e, sw_oa_s, sw_el_n, sw_el_r, sl_kds_1, sl_kds_67, sw_fit_i, sw_fit_r, sw_fit_n, sw_fit_l, sw_fit_d, sw_fit_b, sw_fit_0, sw_fit_1, sw_rel_0, sw_rel_1, sw_rel_2, sw_rel_3, sw_rel_4, sw_rel_5, sw_hp_set, sw_nx_set, sw_sl_set, sw_ev_set, sw_hp_new, sw_nx_new, sw_sl_new, sw_ev_new, List.getElem?_cons_zero, List.getElem?_cons_succ, List.set_cons_zero, List.set_cons_succ, List.length_cons, List.length_nil, Nat.reduceAdd, Nat.reduceSub, Nat.reduceLT, Nat.reduceLeDiff, Nat.zero_lt_succ, Nat.zero_add, beq_self_eq_true, Bool.true_and, and_true, true_and, and_self, not_true_eq_false, not_false_eq_true, ↓reduceIte, Nat.reduceBEq, eq_self, sw_b_0, sw_b_1, decide_eq_false_iff_not, decide_eq_true_eq, sl_n10, sl_n01, Decidable.not_not, sl_ct, sl_cats_0, sl_cats_i, sl_cats_r, sl_cats_n, sl_cats_l, sl_ok_5, sl_ok9, decide_true, sp_machC, sp_nodeC, sp_opC, sl_z0, sl_z1, sl_z2, sl_z3, sl_z4, sl_z5, sl_z6, sl_z7, sl_c0, sl_c1, sl_c2, sl_c3, sl_c4, sl_c5, sl_c6, sl_c7, e1, h0, sp_chC, e2, e3, e4, f1, eq_true c1', eq_false c1, nI_1, sl_kds_1, false_and]
theorem jc_X5_entry {D : Nat} {P : sw_P} {O : List (Nat × sp_Op)} {v : Int32} {nl bl tm : Nat} (hD : 7 ≤ D) (h0 : sw_hp P ch = some (sp_chC pa mach ca ol v b)) (hp : sw_hp P pa.1 = some (1, [.ref nl, .ref bl, .ref tm, .int out])) (hol : sl_rd (sw_hp P) (sl_ls ev ol (O.map fun x => .ref x.1))) (hop : sl_rd (sw_hp P) (sl_all (O.map sl_opA))) (hO : O.length < 1000) (hr : ∀ x ∈ O, x.2.2.2.1.length < 100) : sw_Z D m_X5_entry [.ref ch] P = some (.inl (some (.int (sp_entry (O.map (·.2)) out))), P) := by
  obtain ⟨d, hDe, hDn⟩ := sw_dep hD; subst hDe; replace hD := hDn; clear hDn
  have hloop : ∀ j k, k + j = O.length → ∀ w r, sw_at (sw_Z d) b_X5_entry 1 [some (.ref ch), some (.int w), some (.int r), some (.int (nI k)), none] [] P = some (.inl (some (.int ((((O.map (·.2)).drop k).foldl sp_entF (w, r)).2 ||| (out &&& ((((O.map (·.2)).drop k).foldl sp_entF (w, r)).1 ^^^ -1))))), P) := by
    intro j
    induction j with
    | zero =>
      intro k hk w r
      have : k = O.length := by omega
      subst this
      have e1 := jc_J2_sizeR (D := d) (by omega) hol
      obtain ⟨_, _, _, _, e3, _⟩ := sl_rd_lx hol
      have e2 : nI O.length ≤ nI O.length := Int32.le_refl _
      rw [List.length_map] at e1
      rw [List.drop_of_length_le (by simp)]
      rw [at_X5_entry_1]; simp only [at_X5_entry_8, ex_push, ex_sti, ex_goto, ey_ld, sk_ld_s, ey_gf, sk_gf_s, sk_v_s, ey_cv0, sk_c_s, ex_ic, ey_cv1, ex_ct, ex_iz, ey_cs2, ex_ii, ey_inc, sk_inc_s, ex_rv, sw_gl_0, sw_gl_s, sw_fx_n, sw_fx_i, sw_fx_r, sw_fx_0, sw_fx_l, sw_fx_d, sw_sl1_0, sw_sl1_1, sw_sl1_s, sw_no_0, sw_no_s, sw_no_e, sw_mk_t, sw_mk_f, sw_mk_e, sw_en_0, sw_en_n, sw_en_i, sw_en_r, sw_en_z, sw_en_l, sw_en_d, sw_ok_0, sw_ok_1, sw_ok_2, sw_ok_3, sw_ok_4, sw_bo_s, sw_oi_s, sw_cl_s, sw_cl_x, sw_psh_s, sw_psh_n, sw_kd_s, sw_op_s, sw_oc_s, sw_oc_e, sw_oa_s, sw_el_n, sw_el_r, sl_kds_1, sl_kds_67, sw_fit_i, sw_fit_r, sw_fit_n, sw_fit_l, sw_fit_d, sw_fit_b, sw_fit_0, sw_fit_1, sw_rel_0, sw_rel_1, sw_rel_2, sw_rel_3, sw_rel_4, sw_rel_5, sw_hp_set, sw_nx_set, sw_sl_set, sw_ev_set, sw_hp_new, sw_nx_new, sw_sl_new, sw_ev_new, List.getElem?_cons_zero, List.getElem?_cons_succ, List.set_cons_zero, List.set_cons_succ, List.length_cons, List.length_nil, Nat.reduceAdd, Nat.reduceSub, Nat.reduceLT, Nat.reduceLeDiff, Nat.zero_lt_succ, Nat.zero_add, beq_self_eq_true, Bool.true_and, and_true, true_and, and_self, not_true_eq_false, not_false_eq_true, ↓reduceIte, Nat.reduceBEq, eq_self, sw_b_0, sw_b_1, decide_eq_false_iff_not, decide_eq_true_eq, sl_n10, sl_n01, Decidable.not_not, sl_ct, sl_cats_0, sl_cats_i, sl_cats_r, sl_cats_n, sl_cats_l, sl_ok_5, sl_ok9, decide_true, sp_machC, sp_nodeC, sp_opC, sl_z0, sl_z1, sl_z2, sl_z3, sl_z4, sl_z5, sl_z6, sl_z7, sl_c0, sl_c1, sl_c2, sl_c3, sl_c4, sl_c5, sl_c6, sl_c7, e1, e2, e3, h0, sp_chC, hp, List.foldl_nil]
    | succ j ih =>
      intro k hk w r
      have hlt : k < O.length := by omega
      have e1 := jc_J2_sizeR (D := d) (by omega) hol
      obtain ⟨_, _, _, _, e3, _⟩ := sl_rd_lx hol
      have e2 : ¬ nI O.length ≤ nI k := nI_ge hlt (by omega)
      rw [List.length_map] at e1
      have ex : O[k]? = some O[k] := List.getElem?_eq_getElem hlt
      have e4 := jc_J2_get (D := d) (by omega) hol (sl_refs_at ex) (by rw [List.length_map]; omega)
      obtain ⟨ra, f1, f2⟩ := sl_rd_ops hop ex
      have hdr : (O.map (·.2)).drop k = O[k].2 :: (O.map (·.2)).drop (k + 1) := by
        rw [List.drop_eq_getElem_cons (by simpa using hlt), List.getElem_map]
      rw [hdr, List.foldl_cons]
      have e5 := jc_X5_entry2 (d := d) (ev := ev) (b := b) (by omega) h0 hol hop hO hr hlt w 8 0 (by omega) r
      simp only [sw_it] at e5
      rw [show (nI 0 : Int32) = 0 from rfl] at e5
      have e6 := ih (k + 1) (by omega) (sp_entF (w, r) O[k].2).1 (sp_entF (w, r) O[k].2).2
      rw [at_X5_entry_1]; simp only [ex_push, ex_sti, ex_goto, ey_ld, sk_ld_s, ey_gf, sk_gf_s, sk_v_s, ey_cv0, sk_c_s, ex_ic, ey_cv1, ex_ct, ex_iz, ey_cs2, ex_ii, ey_inc, sk_inc_s, ex_rv, sw_gl_0, sw_gl_s, sw_fx_n, sw_fx_i, sw_fx_r, sw_fx_0, sw_fx_l, sw_fx_d, sw_sl1_0, sw_sl1_1, sw_sl1_s, sw_no_0, sw_no_s, sw_no_e, sw_mk_t, sw_mk_f, sw_mk_e, sw_en_0, sw_en_n, sw_en_i, sw_en_r, sw_en_z, sw_en_l, sw_en_d, sw_ok_0, sw_ok_1, sw_ok_2, sw_ok_3, sw_ok_4, sw_bo_s, sw_oi_s, sw_cl_s, sw_cl_x, sw_psh_s, sw_psh_n, sw_kd_s, sw_op_s, sw_oc_s, sw_oc_e, sw_oa_s, sw_el_n, sw_el_r, sl_kds_1, sl_kds_67, sw_fit_i, sw_fit_r, sw_fit_n, sw_fit_l, sw_fit_d, sw_fit_b, sw_fit_0, sw_fit_1, sw_rel_0, sw_rel_1, sw_rel_2, sw_rel_3, sw_rel_4, sw_rel_5, sw_hp_set, sw_nx_set, sw_sl_set, sw_ev_set, sw_hp_new, sw_nx_new, sw_sl_new, sw_ev_new, List.getElem?_cons_zero, List.getElem?_cons_succ, List.set_cons_zero, List.set_cons_succ, List.length_cons, List.length_nil, Nat.reduceAdd, Nat.reduceSub, Nat.reduceLT, Nat.reduceLeDiff, Nat.zero_lt_succ, Nat.zero_add, beq_self_eq_true, Bool.true_and, and_true, true_and, and_self, not_true_eq_false, not_false_eq_true, ↓reduceIte, Nat.reduceBEq, eq_self, sw_b_0, sw_b_1, decide_eq_false_iff_not, decide_eq_true_eq, sl_n10, sl_n01, Decidable.not_not, sl_ct, sl_cats_0, sl_cats_i, sl_cats_r, sl_cats_n, sl_cats_l, sl_ok_5, sl_ok9, decide_true, sp_machC, sp_nodeC, sp_opC, sl_z0, sl_z1, sl_z2, sl_z3, sl_z4, sl_z5, sl_z6, sl_z7, sl_c0, sl_c1, sl_c2, sl_c3, sl_c4, sl_c5, sl_c6, sl_c7, e1, e2, e3, h0, sp_chC]
      rw [e5, ← e6]
      by_cases c1 : O[k].2.2.1 < 8
      · have c2 : ¬ (8 : Int32) ≤ O[k].2.2.1 := Int32.not_le.mpr c1
        rw [at_X5_entry_5]; simp only [at_X5_entry_7, ex_push, ex_sti, ex_goto, ey_ld, sk_ld_s, ey_gf, sk_gf_s, sk_v_s, ey_cv0, sk_c_s, ex_ic, ey_cv1, ex_ct, ex_iz, ey_cs2, ex_ii, ey_inc, sk_inc_s, ex_rv, sw_gl_0, sw_gl_s, sw_fx_n, sw_fx_i, sw_fx_r, sw_fx_0, sw_fx_l, sw_fx_d, sw_sl1_0, sw_sl1_1, sw_sl1_s, sw_no_0, sw_no_s, sw_no_e, sw_mk_t, sw_mk_f, sw_mk_e, sw_en_0, sw_en_n, sw_en_i, sw_en_r, sw_en_z, sw_en_l, sw_en_d, sw_ok_0, sw_ok_1, sw_ok_2, sw_ok_3, sw_ok_4, sw_bo_s, sw_oi_s, sw_cl_s, sw_cl_x, sw_psh_s, sw_psh_n, sw_kd_s, sw_op_s, sw_oc_s, sw_oc_e, sw_oa_s, sw_el_n, sw_el_r, sl_kds_1, sl_kds_67, sw_fit_i, sw_fit_r, sw_fit_n, sw_fit_l, sw_fit_d, sw_fit_b, sw_fit_0, sw_fit_1, sw_rel_0, sw_rel_1, sw_rel_2, sw_rel_3, sw_rel_4, sw_rel_5, sw_hp_set, sw_nx_set, sw_sl_set, sw_ev_set, sw_hp_new, sw_nx_new, sw_sl_new, sw_ev_new, List.getElem?_cons_zero, List.getElem?_cons_succ, List.set_cons_zero, List.set_cons_succ, List.length_cons, List.length_nil, Nat.reduceAdd, Nat.reduceSub, Nat.reduceLT, Nat.reduceLeDiff, Nat.zero_lt_succ, Nat.zero_add, beq_self_eq_true, Bool.true_and, and_true, true_and, and_self, not_true_eq_false, not_false_eq_true, ↓reduceIte, Nat.reduceBEq, eq_self, sw_b_0, sw_b_1, decide_eq_false_iff_not, decide_eq_true_eq, sl_n10, sl_n01, Decidable.not_not, sl_ct, sl_cats_0, sl_cats_i, sl_cats_r, sl_cats_n, sl_cats_l, sl_ok_5, sl_ok9, decide_true, sp_machC, sp_nodeC, sp_opC, sl_z0, sl_z1, sl_z2, sl_z3, sl_z4, sl_z5, sl_z6, sl_z7, sl_c0, sl_c1, sl_c2, sl_c3, sl_c4, sl_c5, sl_c6, sl_c7, h0, sp_chC, e3, e4, f1, c2, eq_true c1, sp_entF, nI_1, sl_kds_1]
      · have c2 : (8 : Int32) ≤ O[k].2.2.1 := Int32.not_lt.mp c1
        rw [at_X5_entry_5]; simp only [at_X5_entry_6, at_X5_entry_7, ex_push, ex_sti, ex_goto, ey_ld, sk_ld_s, ey_gf, sk_gf_s, sk_v_s, ey_cv0, sk_c_s, ex_ic, ey_cv1, ex_ct, ex_iz, ey_cs2, ex_ii, ey_inc, sk_inc_s, ex_rv, sw_gl_0, sw_gl_s, sw_fx_n, sw_fx_i, sw_fx_r, sw_fx_0, sw_fx_l, sw_fx_d, sw_sl1_0, sw_sl1_1, sw_sl1_s, sw_no_0, sw_no_s, sw_no_e, sw_mk_t, sw_mk_f, sw_mk_e, sw_en_0, sw_en_n, sw_en_i, sw_en_r, sw_en_z, sw_en_l, sw_en_d, sw_ok_0, sw_ok_1, sw_ok_2, sw_ok_3, sw_ok_4, sw_bo_s, sw_oi_s, sw_cl_s, sw_cl_x, sw_psh_s, sw_psh_n, sw_kd_s, sw_op_s, sw_oc_s, sw_oc_e, sw_oa_s, sw_el_n, sw_el_r, sl_kds_1, sl_kds_67, sw_fit_i, sw_fit_r, sw_fit_n, sw_fit_l, sw_fit_d, sw_fit_b, sw_fit_0, sw_fit_1, sw_rel_0, sw_rel_1, sw_rel_2, sw_rel_3, sw_rel_4, sw_rel_5, sw_hp_set, sw_nx_set, sw_sl_set, sw_ev_set, sw_hp_new, sw_nx_new, sw_sl_new, sw_ev_new, List.getElem?_cons_zero, List.getElem?_cons_succ, List.set_cons_zero, List.set_cons_succ, List.length_cons, List.length_nil, Nat.reduceAdd, Nat.reduceSub, Nat.reduceLT, Nat.reduceLeDiff, Nat.zero_lt_succ, Nat.zero_add, beq_self_eq_true, Bool.true_and, and_true, true_and, and_self, not_true_eq_false, not_false_eq_true, ↓reduceIte, Nat.reduceBEq, eq_self, sw_b_0, sw_b_1, decide_eq_false_iff_not, decide_eq_true_eq, sl_n10, sl_n01, Decidable.not_not, sl_ct, sl_cats_0, sl_cats_i, sl_cats_r, sl_cats_n, sl_cats_l, sl_ok_5, sl_ok9, decide_true, sp_machC, sp_nodeC, sp_opC, sl_z0, sl_z1, sl_z2, sl_z3, sl_z4, sl_z5, sl_z6, sl_z7, sl_c0, sl_c1, sl_c2, sl_c3, sl_c4, sl_c5, sl_c6, sl_c7, h0, sp_chC, e3, e4, f1, c2, eq_false c1, sp_entF, nI_1, sl_kds_1]
  have h1 := hloop O.length 0 (by omega) 0 0
  rw [List.drop_zero, show (nI 0 : Int32) = 0 from rfl] at h1
  rw [M_X5_entry _ _ _ rfl]; simp only [at_X5_entry_0, ex_push, ex_sti, ex_goto, ey_ld, sk_ld_s, ey_gf, sk_gf_s, sk_v_s, ey_cv0, sk_c_s, ex_ic, ey_cv1, ex_ct, ex_iz, ey_cs2, ex_ii, ey_inc, sk_inc_s, ex_rv, sw_gl_0, sw_gl_s, sw_fx_n, sw_fx_i, sw_fx_r, sw_fx_0, sw_fx_l, sw_fx_d, sw_sl1_0, sw_sl1_1, sw_sl1_s, sw_no_0, sw_no_s, sw_no_e, sw_mk_t, sw_mk_f, sw_mk_e, sw_en_0, sw_en_n, sw_en_i, sw_en_r, sw_en_z, sw_en_l, sw_en_d, sw_ok_0, sw_ok_1, sw_ok_2, sw_ok_3, sw_ok_4, sw_bo_s, sw_oi_s, sw_cl_s, sw_cl_x, sw_psh_s, sw_psh_n, sw_kd_s, sw_op_s, sw_oc_s, sw_oc_e, sw_oa_s, sw_el_n, sw_el_r, sl_kds_1, sl_kds_67, sw_fit_i, sw_fit_r, sw_fit_n, sw_fit_l, sw_fit_d, sw_fit_b, sw_fit_0, sw_fit_1, sw_rel_0, sw_rel_1, sw_rel_2, sw_rel_3, sw_rel_4, sw_rel_5, sw_hp_set, sw_nx_set, sw_sl_set, sw_ev_set, sw_hp_new, sw_nx_new, sw_sl_new, sw_ev_new, List.getElem?_cons_zero, List.getElem?_cons_succ, List.set_cons_zero, List.set_cons_succ, List.length_cons, List.length_nil, Nat.reduceAdd, Nat.reduceSub, Nat.reduceLT, Nat.reduceLeDiff, Nat.zero_lt_succ, Nat.zero_add, beq_self_eq_true, Bool.true_and, and_true, true_and, and_self, not_true_eq_false, not_false_eq_true, ↓reduceIte, Nat.reduceBEq, eq_self, sw_b_0, sw_b_1, decide_eq_false_iff_not, decide_eq_true_eq, sl_n10, sl_n01, Decidable.not_not, sl_ct, sl_cats_0, sl_cats_i, sl_cats_r, sl_cats_n, sl_cats_l, sl_ok_5, sl_ok9, decide_true, sp_machC, sp_nodeC, sp_opC, sl_z0, sl_z1, sl_z2, sl_z3, sl_z4, sl_z5, sl_z6, sl_z7, sl_c0, sl_c1, sl_c2, sl_c3, sl_c4, sl_c5, sl_c6, sl_c7]
  exact h1
end
