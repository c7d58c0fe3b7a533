/-! ===== a machine with another latency ===== -/
section
variable {ev : Nat → Nat} {a l D d c s k : Nat} {m : sp_Mach} {L : List Int32} {P : sw_P} {F : List sl_A} {v : Int32}
theorem jc_X3_with_2 (hD : 3 ≤ D) (hL : L.length = 8) (hk : k < 8) (h : sl_st ev c s P (sl_pt a (sp_machC m l) :: sl_pt l (64, L.map .int) :: F)) :
    ∃ P', sw_Z D m_X3_with_2 [.ref a, .int (nI k), .int v] P = some (.inl (some (.ref (sw_nx P + 1))), P') ∧ sl_st ev (c + 2) (s + 14) P' (sl_pt (sw_nx P + 1) (sp_machC m (sw_nx P)) :: sl_pt (sw_nx P) (64, (L.set k v).map .int) :: sl_pt a (sp_machC m l) :: sl_pt l (64, L.map .int) :: F) := by
  obtain ⟨d, hDe, hDn⟩ := sw_dep hD; subst hDe; replace hD := hDn; clear hDn
  have h0 := h.get 0 rfl
  have h1 := h.get 1 rfl
  have f1 := sl_ne_nx h0 h.2.2.2.1
  have f2 := sl_ne_nx h1 h.2.2.2.1
  have f3 : ¬ a = sw_nx P + 1 := fun e => by rw [h.2.2.2.1 a (by omega)] at h0; cases h0
  have t1 : (nI k).toNatClampNeg = k := nI_clamp (by omega)
  have t2 : ¬ nI k < 0 := nI_pos (by omega)
  have g1 := h.new (64, List.replicate 8 (Value.int 0))
  have g2 := g1.set 0 (64, L.map .int) rfl
  have g3 := g2.set 0 (64, (L.set k v).map .int) rfl
  have g4 := g3.new (2, [.int 0, .int 0, .int 0, .int 0, .int 0, .null])
  have r1 := jc_X3_init (D := d) (m := m) (l := sw_nx P) (by omega) (g4.get 0 rfl)
  have en : sw_nx (sw_set (sw_set (sw_new P (64, List.replicate 8 (Value.int 0))) (sw_nx P) (64, L.map Value.int)) (sw_nx P) (64, (L.set k v).map Value.int)) = sw_nx P + 1 := rfl
  rw [en] at r1
  have g5 := g4.set 0 (sp_machC m (sw_nx P)) rfl
  have hl8 : (L.map Value.int).length = 8 := by rw [List.length_map]; exact hL
  have k1 : (L.map Value.int).take 8 = L.map Value.int := List.take_of_length_le (by omega)
  have k2 : ∀ Q : sw_P, (L.map Value.int).all (sw_ce Q 64) = true := by
    intro Q
    rw [List.all_eq_true]
    intro x hx
    obtain ⟨y, -, rfl⟩ := List.mem_map.mp hx
    rfl
  have kc : sw_cpy (L.map Value.int) (List.replicate 8 (Value.int 0)) 0 0 8 = L.map Value.int := by
    match L, hL with
    | [_, _, _, _, _, _, _, _], _ => rfl
  have k5 : k < (L.map Value.int).length := by omega
  have k6 : sw_fit (sw_vt 64) (Value.int v) = true := rfl
  have k3 : k < L.length := by omega
  have k4 : (L.map Value.int).set k (.int v) = (L.set k v).map .int := by rw [List.map_set]
  refine ⟨_, ?_, g5⟩
  unfold sp_machC at h0
  rw [M_X3_with_2 _ _ _ rfl]; simp only [at_X3_with_2_0, ex_push, ex_na, ex_sta, ex_sta_n, ey_ld, sk_ld_s, ey_gf, sk_gf_s, sk_v_s, ey_cp, sk_cp1_s, sk_cp2_s, ey_ast, sk_ast_s, ex_nw, ex_dup_i, ex_dup_r, ex_dup_n, ey_ci6, sk_c_s, ex_rv, sw_gl_0, sw_gl_s, sw_fx_n, sw_fx_i, sw_fx_r, sw_fx_0, sw_fx_l, sw_fx_d, sw_sl1_0, sw_sl1_1, sw_sl1_s, sw_no_0, sw_no_s, sw_no_e, sw_mk_t, sw_mk_f, sw_mk_e, sw_en_0, sw_en_n, sw_en_i, sw_en_r, sw_en_z, sw_en_l, sw_en_d, sw_ok_0, sw_ok_1, sw_ok_2, sw_ok_3, sw_ok_4, sw_bo_s, sw_oi_s, sw_cl_s, sw_cl_x, sw_psh_s, sw_psh_n, sw_kd_s, sw_op_s, sw_oc_s, sw_oc_e, sw_oa_s, sw_el_n, sw_el_r, sl_kds_1, sl_kds_67, sw_fit_i, sw_fit_r, sw_fit_n, sw_fit_l, sw_fit_d, sw_fit_b, sw_fit_0, sw_fit_1, sw_rel_0, sw_rel_1, sw_rel_2, sw_rel_3, sw_rel_4, sw_rel_5, sw_hp_set, sw_nx_set, sw_sl_set, sw_ev_set, sw_hp_new, sw_nx_new, sw_sl_new, sw_ev_new, List.getElem?_cons_zero, List.getElem?_cons_succ, List.set_cons_zero, List.set_cons_succ, List.length_cons, List.length_nil, Nat.reduceAdd, Nat.reduceSub, Nat.reduceLT, Nat.reduceLeDiff, Nat.zero_lt_succ, Nat.zero_add, beq_self_eq_true, Bool.true_and, and_true, true_and, and_self, not_true_eq_false, not_false_eq_true, ↓reduceIte, Nat.reduceBEq, eq_self, sw_b_0, sw_b_1, decide_eq_false_iff_not, decide_eq_true_eq, sl_n10, sl_n01, Decidable.not_not, sl_ct, sl_cats_0, sl_cats_i, sl_cats_r, sl_cats_n, sl_cats_l, sl_ok_5, sl_ok9, decide_true, sp_machC, sp_nodeC, sp_opC, sl_z0, sl_z1, sl_z2, sl_z3, sl_z4, sl_z5, sl_z6, sl_z7, sl_c0, sl_c1, sl_c2, sl_c3, sl_c4, sl_c5, sl_c6, sl_c7, List.length_map, sp_lifeC, sp_inC, sp_rnC, h0, h1, f1, f2, f3, t1, t2, r1, hl8, hL, k1, k2, k3, k4, kc, k6, k5, hk, show sw_dv 64 = .int 0 from rfl, show ((0 : Int32) ≤ 8) = True by decide, show (Int32.toNatClampNeg 8) = 8 by decide, show (Int32.toNatClampNeg 0) = 0 by decide, List.drop_zero, List.take_zero, List.nil_append, Nat.zero_add, List.length_replicate, Nat.le_refl, show ((8 : Nat) ≤ 1048576) = True by decide, show ((0 : Int32) ≤ 0) = True by decide, show List.drop 8 (List.replicate 8 (Value.int 0)) = [] from rfl, List.append_nil]
end
