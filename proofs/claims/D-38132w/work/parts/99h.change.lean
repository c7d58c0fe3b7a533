/-! ===== the component's main class: what changes the program or the machine ===== -/
def sp_nf : sw_O := (3, [.null, .null, .null, .null, .null, .int 0])
def sp_fn (ns : List sp_Node) (v : Int32) : Bool := sp_at v (nI ns.length) && !(sp_nd ns v).2.2.2
/-- a node's mark, set -/
def sp_mk (x : sp_Node) (f : Bool) : sp_Node := (x.1, x.2.1, x.2.2.1, f)
def sp_setF (ns : List sp_Node) (i : Nat) (f : Bool) : List sp_Node := ns.set i (sp_mk (sp_nd ns (nI i)) f)
def sp_nok (ns : List sp_Node) (k : Nat) (a b : Int32) : Bool := if 2 ≤ k then sp_fn ns a && (sp_fn ns b && decide (¬ a = b)) else decide (b = 0) && (if k = 0 then sp_in a (-999) 999 else sp_in a 0 7)
def cM_machine (q : sp_Q) (r k sm : Int32) (fu tw : Bool) : (sp_Q × Int32) ⊕ Nat := if sp_okm r k = false then .inr 0 else if sp_in sm 0 99 = false then .inr 0 else .inl ((q.1, q.2.1, q.2.2.1, q.2.2.2.1, (r, k, sm, fu, tw), q.2.2.2.2.2), q.2.2.2.2.1.1)
def cM_latency (q : sp_Q) (k cy : Int32) : (sp_Q × Int32) ⊕ Nat := if sp_at k 8 = false then .inr 2 else if sp_in cy 1 9 = false then .inr 0 else .inl ((q.1, q.2.1, q.2.2.1, q.2.2.2.1, q.2.2.2.2.1, q.2.2.2.2.2.set k.toNatClampNeg cy), q.2.2.2.2.2.getD k.toNatClampNeg 0)
def cM_times (q : sp_Q) (k t : Int32) : (sp_Q × Int32) ⊕ Nat := if sp_at k 4 = false then .inr 2 else if sp_in t 1 9 = false then .inr 0 else .inl ((q.1, q.2.1, q.2.2.1.set k.toNatClampNeg t, q.2.2.2.1, q.2.2.2.2.1, q.2.2.2.2.2), q.2.2.1.getD k.toNatClampNeg 0)
def cM_out (q : sp_Q) (v : Int32) : (sp_Q × Int32) ⊕ Nat := if sp_in v 0 255 = false then .inr 0 else .inl ((q.1, q.2.1, q.2.2.1, v, q.2.2.2.2.1, q.2.2.2.2.2), q.2.2.2.1)
def cM_node (q : sp_Q) (k a b : Int32) : (sp_Q × Int32) ⊕ Nat := if sp_in k 0 5 = false then .inr 0 else if sp_nok q.1 k.toNatClampNeg a b = false then .inr 0 else if 80 ≤ q.1.length then .inr 1 else
  .inl (((if 2 ≤ k.toNatClampNeg then sp_setF (sp_setF q.1 a.toNatClampNeg true) b.toNatClampNeg true else q.1) ++ [(k.toNatClampNeg, a, b, false)], q.2.1, q.2.2.1, q.2.2.2.1, q.2.2.2.2.1, q.2.2.2.2.2), nI q.1.length)
def cM_statement (q : sp_Q) (k v n : Int32) : (sp_Q × Int32) ⊕ Nat := if sp_at k 4 = false then .inr 2 else if sp_at v 8 = false then .inr 2 else if sp_at n (nI q.1.length) = false then .inr 2 else if (sp_nd q.1 n).2.2.2 = true then .inr 0 else if 24 ≤ sp_stms q.2.1 4 then .inr 1 else
  .inl ((sp_setF q.1 n.toNatClampNeg true, q.2.1.set k.toNatClampNeg (q.2.1.getD k.toNatClampNeg [] ++ [(v, n)]), q.2.2.1, q.2.2.2.1, q.2.2.2.2.1, q.2.2.2.2.2), nI ((q.2.1.getD k.toNatClampNeg []).length + 1))
def cM_take (q : sp_Q) (k : Int32) : (sp_Q × Int32) ⊕ Nat := if sp_at k 4 = false then .inr 2 else if (q.2.1.getD k.toNatClampNeg []).length = 0 then .inr 1 else
  .inl ((sp_setF q.1 ((q.2.1.getD k.toNatClampNeg []).getLastD (0, 0)).2.toNatClampNeg false, q.2.1.set k.toNatClampNeg (q.2.1.getD k.toNatClampNeg []).dropLast, q.2.2.1, q.2.2.2.1, q.2.2.2.2.1, q.2.2.2.2.2), ((q.2.1.getD k.toNatClampNeg []).getLastD (0, 0)).2)
/-- the state, settled -/
def sp_CS (ev : Nat → Nat) (c s : Nat) (P : sw_P) (x : Nat) (q : sp_Q) (b : sp_Bd) (F : List sl_A) : Prop := ∃ (bd mach l : Nat) (pa : sp_PA) (N : List (Nat × sp_Node)) (B : List sp_Blk), N.map (·.2) = q.1 ∧ B.map (fun y => y.2.map (·.2)) = q.2.1 ∧ sl_st ev c s P (sl_cs ev x bd mach l pa N B q.2.2.1 q.2.2.2.1 q.2.2.2.2.1 q.2.2.2.2.2 b ++ F)
def sp_rel (r : (sp_Q × Int32) ⊕ Nat) : Int32 ⊕ Nat := match r with
  | .inl y => .inl y.2
  | .inr e => .inr e
def sp_new (q : sp_Q) (r : (sp_Q × Int32) ⊕ Nat) : sp_Q := match r with
  | .inl y => y.1
  | .inr _ => q
section
variable {ev : Nat → Nat} {x bd mach l D d c s : Nat} {pa : sp_PA} {N : List (Nat × sp_Node)} {B : List sp_Blk} {T L : List Int32} {out : Int32} {m : sp_Mach} {b b' : sp_Bd} {F : List sl_A} {P : sw_P}
theorem jc_X1_renew (hD : 265 ≤ D) (hf : sp_fit (N.map (·.2), B.map (fun y => y.2.map (·.2)), T, out, m, L) 0 b') (h : sl_st ev c s P (sl_pt x (sp_xC pa mach bd) :: sl_pt mach (sp_machC m l) :: sl_pt l (64, L.map .int) :: (sl_prog ev pa N B T out ++ F))) :
    ∃ P' bd', sw_Z D m_X1_renew [.ref x] P = some (.inl none, P') ∧ sl_st ev (c + (1 + sp_kA b')) (s + (6 + sp_kS N.length b')) P' (sl_cs ev x bd' mach l pa N B T out m L b' ++ F) := by
  obtain ⟨d, hDe, hDn⟩ := sw_dep hD; subst hDe; replace hD := hDn; clear hDn
  have h0 := h.get 0 rfl
  have f1 := sl_ne_nx h0 h.nx0
  have g1 := h.new sp_nf
  have g2 : sl_st ev _ _ _ (sl_pt (sw_nx P) sp_nf :: sl_pt mach (sp_machC m l) :: sl_pt l (64, L.map .int) :: (sl_prog ev pa N B T out ++ (sl_pt x (sp_xC pa mach bd) :: F))) := g1.pp 10 [0, 2, 3, 4, 5, 6, 7, 8, 9, 1]
  obtain ⟨P1, r1, s1⟩ := jc_bd (D := d) (by omega) (Or.inl rfl) hf g2
  have q1 := s1.get 9 rfl
  have s2 := s1.set 9 (sp_xC pa mach (sw_nx P)) rfl
  have s3 : sl_st ev _ _ _ (sl_cs ev x (sw_nx P) mach l pa N B T out m L b' ++ F) := s2.pp 10 [9, 0, 1, 2, 3, 4, 5, 6, 7, 8]
  refine ⟨_, sw_nx P, ?_, s3.wk (by omega) (by show s + 6 + _ ≤ _; omega)⟩
  unfold sp_nf at r1
  rw [M_X1_renew _ _ _ rfl]; simp only [at_X1_renew_0, ey_ld, sk_ld_s, ex_nw, ex_dup_i, ex_dup_r, ex_dup_n, ey_gf, sk_gf_s, sk_v_s, ex_push, ey_ci3, sk_c_s, ey_pf, sk_pf_s, sw_set_set, ex_ret, sw_gl_0, sw_gl_s, sw_fx_n, sw_fx_i, sw_fx_r, sw_fx_0, sw_fx_l, sw_fx_d, sw_sl1_0, sw_sl1_1, sw_sl1_s, sw_no_0, sw_no_s, sw_no_e, sw_mk_t, sw_mk_f, sw_mk_e, sw_en_0, sw_en_n, sw_en_i, sw_en_r, sw_en_z, sw_en_l, sw_en_d, sw_ok_0, sw_ok_1, sw_ok_2, sw_ok_3, sw_ok_4, sw_bo_s, sw_oi_s, sw_cl_s, sw_cl_x, sw_psh_s, sw_psh_n, sw_kd_s, sw_op_s, sw_oc_s, sw_oc_e, sw_oa_s, sw_el_n, sw_el_r, sl_kds_1, sl_kds_67, sw_fit_i, sw_fit_r, sw_fit_n, sw_fit_l, sw_fit_d, sw_fit_b, sw_fit_0, sw_fit_1, sw_rel_0, sw_rel_1, sw_rel_2, sw_rel_3, sw_rel_4, sw_rel_5, sw_hp_set, sw_nx_set, sw_sl_set, sw_ev_set, sw_hp_new, sw_nx_new, sw_sl_new, sw_ev_new, List.getElem?_cons_zero, List.getElem?_cons_succ, List.set_cons_zero, List.set_cons_succ, List.length_cons, List.length_nil, Nat.reduceAdd, Nat.reduceSub, Nat.reduceLT, Nat.reduceLeDiff, Nat.zero_lt_succ, Nat.zero_add, beq_self_eq_true, Bool.true_and, and_true, true_and, and_self, not_true_eq_false, not_false_eq_true, ↓reduceIte, Nat.reduceBEq, eq_self, sw_b_0, sw_b_1, decide_eq_false_iff_not, decide_eq_true_eq, sl_n10, sl_n01, Decidable.not_not, sl_ct, sl_cats_0, sl_cats_i, sl_cats_r, sl_cats_n, sl_cats_l, sl_ok_5, sl_ok9, decide_true, sp_machC, sp_nodeC, sp_opC, sl_z0, sl_z1, sl_z2, sl_z3, sl_z4, sl_z5, sl_z6, sl_z7, sl_c0, sl_c1, sl_c2, sl_c3, sl_c4, sl_c5, sl_c6, sl_c7, List.length_map, sp_lifeC, sp_inC, sp_rnC, h0, sp_xC, f1, r1, q1]
theorem sl_cs_drop {X Y : sl_A} {bd' mach' l' : Nat} {N' : List (Nat × sp_Node)} {B' : List sp_Blk} {T' L' : List Int32} {out' : Int32} {m' : sp_Mach} (h : sl_st ev c s P (sl_cs ev x bd' mach' l' pa N' B' T' out' m' L' b' ++ (X :: Y :: F))) : sl_st ev c s P (sl_cs ev x bd' mach' l' pa N' B' T' out' m' L' b' ++ F) := by
  have h1 : sl_st ev c s P (X :: Y :: (sl_cs ev x bd' mach' l' pa N' B' T' out' m' L' b' ++ F)) := h.pp 12 [10, 11, 0, 1, 2, 3, 4, 5, 6, 7, 8, 9]
  exact h1.drop.drop
theorem jc_X1_machine {r k sm : Int32} {fu tw : Bool} (hD : 267 ≤ D) (hf : ∀ q v, cM_machine (N.map (·.2), B.map (fun y => y.2.map (·.2)), T, out, m, L) r k sm fu tw = .inl (q, v) → sp_fit q 0 b') (h : sl_st ev c s P (sl_cs ev x bd mach l pa N B T out m L b ++ F)) :
    ∃ P', sw_Z D m_X1_machine [.ref x, .int r, .int k, .int sm, .int (sw_b fu), .int (sw_b tw)] P = some (sp_o (sp_rel (cM_machine (N.map (·.2), B.map (fun y => y.2.map (·.2)), T, out, m, L) r k sm fu tw)), P') ∧
      ((∃ e, cM_machine (N.map (·.2), B.map (fun y => y.2.map (·.2)), T, out, m, L) r k sm fu tw = .inr e ∧ sl_st ev (c + 1) (s + 6) P' (sl_cs ev x bd mach l pa N B T out m L b ++ F)) ∨ ∃ q v, cM_machine (N.map (·.2), B.map (fun y => y.2.map (·.2)), T, out, m, L) r k sm fu tw = .inl (q, v) ∧ sp_CS ev (c + (2 + sp_kA b')) (s + (12 + sp_kS N.length b')) P' x q b' F) := by
  obtain ⟨d, hDe, hDn⟩ := sw_dep hD; subst hDe; replace hD := hDn; clear hDn
  have h0 := h.get 0 rfl
  have h2 := h.get 2 rfl
  have e1 := jc_X1_mustBeMachine (D := d) (P := P) (r := r) (k := k) (by omega)
  have e2 := jc_X1_mustBeIn (D := d) (P := P) (v := sm) (lo := 0) (hi := 99) (by omega)
  unfold cM_machine at hf ⊢
  cases c1 : sp_okm r k
  · rw [c1, sp_ck_f] at e1
    rw [if_pos rfl]
    refine ⟨_, ?_, Or.inl ⟨0, rfl, h.bump⟩⟩
    rw [M_X1_machine _ _ _ rfl]; simp only [at_X1_machine_0, ey_ld, sk_ld_s, ey_cs2, sk_c_s, ex_push, ey_cs3, ey_gf, sk_gf_s, sk_v_s, ex_sti, ex_nw, ex_dup_i, ex_dup_r, ex_dup_n, ey_ci6, ey_pf, sk_pf_s, sw_set_set, ey_cv0, ex_rv, sw_gl_0, sw_gl_s, sw_fx_n, sw_fx_i, sw_fx_r, sw_fx_0, sw_fx_l, sw_fx_d, sw_sl1_0, sw_sl1_1, sw_sl1_s, sw_no_0, sw_no_s, sw_no_e, sw_mk_t, sw_mk_f, sw_mk_e, sw_en_0, sw_en_n, sw_en_i, sw_en_r, sw_en_z, sw_en_l, sw_en_d, sw_ok_0, sw_ok_1, sw_ok_2, sw_ok_3, sw_ok_4, sw_bo_s, sw_oi_s, sw_cl_s, sw_cl_x, sw_psh_s, sw_psh_n, sw_kd_s, sw_op_s, sw_oc_s, sw_oc_e, sw_oa_s, sw_el_n, sw_el_r, sl_kds_1, sl_kds_67, sw_fit_i, sw_fit_r, sw_fit_n, sw_fit_l, sw_fit_d, sw_fit_b, sw_fit_0, sw_fit_1, sw_rel_0, sw_rel_1, sw_rel_2, sw_rel_3, sw_rel_4, sw_rel_5, sw_hp_set, sw_nx_set, sw_sl_set, sw_ev_set, sw_hp_new, sw_nx_new, sw_sl_new, sw_ev_new, List.getElem?_cons_zero, List.getElem?_cons_succ, List.set_cons_zero, List.set_cons_succ, List.length_cons, List.length_nil, Nat.reduceAdd, Nat.reduceSub, Nat.reduceLT, Nat.reduceLeDiff, Nat.zero_lt_succ, Nat.zero_add, beq_self_eq_true, Bool.true_and, and_true, true_and, and_self, not_true_eq_false, not_false_eq_true, ↓reduceIte, Nat.reduceBEq, eq_self, sw_b_0, sw_b_1, decide_eq_false_iff_not, decide_eq_true_eq, sl_n10, sl_n01, Decidable.not_not, sl_ct, sl_cats_0, sl_cats_i, sl_cats_r, sl_cats_n, sl_cats_l, sl_ok_5, sl_ok9, decide_true, sp_machC, sp_nodeC, sp_opC, sl_z0, sl_z1, sl_z2, sl_z3, sl_z4, sl_z5, sl_z6, sl_z7, sl_c0, sl_c1, sl_c2, sl_c3, sl_c4, sl_c5, sl_c6, sl_c7, List.length_map, sp_lifeC, sp_inC, sp_rnC, e1, sw_cl_x, sp_o, sp_rel]
  · rw [c1, sp_ck_t] at e1
    rw [c1, if_neg (by decide)] at hf
    rw [if_neg (by decide)]
    cases c2 : sp_in sm 0 99
    · rw [c2, sp_ck_f] at e2
      rw [if_pos rfl]
      refine ⟨_, ?_, Or.inl ⟨0, rfl, h.bump⟩⟩
      rw [M_X1_machine _ _ _ rfl]; simp only [at_X1_machine_0, ey_ld, sk_ld_s, ey_cs2, sk_c_s, ex_push, ey_cs3, ey_gf, sk_gf_s, sk_v_s, ex_sti, ex_nw, ex_dup_i, ex_dup_r, ex_dup_n, ey_ci6, ey_pf, sk_pf_s, sw_set_set, ey_cv0, ex_rv, sw_gl_0, sw_gl_s, sw_fx_n, sw_fx_i, sw_fx_r, sw_fx_0, sw_fx_l, sw_fx_d, sw_sl1_0, sw_sl1_1, sw_sl1_s, sw_no_0, sw_no_s, sw_no_e, sw_mk_t, sw_mk_f, sw_mk_e, sw_en_0, sw_en_n, sw_en_i, sw_en_r, sw_en_z, sw_en_l, sw_en_d, sw_ok_0, sw_ok_1, sw_ok_2, sw_ok_3, sw_ok_4, sw_bo_s, sw_oi_s, sw_cl_s, sw_cl_x, sw_psh_s, sw_psh_n, sw_kd_s, sw_op_s, sw_oc_s, sw_oc_e, sw_oa_s, sw_el_n, sw_el_r, sl_kds_1, sl_kds_67, sw_fit_i, sw_fit_r, sw_fit_n, sw_fit_l, sw_fit_d, sw_fit_b, sw_fit_0, sw_fit_1, sw_rel_0, sw_rel_1, sw_rel_2, sw_rel_3, sw_rel_4, sw_rel_5, sw_hp_set, sw_nx_set, sw_sl_set, sw_ev_set, sw_hp_new, sw_nx_new, sw_sl_new, sw_ev_new, List.getElem?_cons_zero, List.getElem?_cons_succ, List.set_cons_zero, List.set_cons_succ, List.length_cons, List.length_nil, Nat.reduceAdd, Nat.reduceSub, Nat.reduceLT, Nat.reduceLeDiff, Nat.zero_lt_succ, Nat.zero_add, beq_self_eq_true, Bool.true_and, and_true, true_and, and_self, not_true_eq_false, not_false_eq_true, ↓reduceIte, Nat.reduceBEq, eq_self, sw_b_0, sw_b_1, decide_eq_false_iff_not, decide_eq_true_eq, sl_n10, sl_n01, Decidable.not_not, sl_ct, sl_cats_0, sl_cats_i, sl_cats_r, sl_cats_n, sl_cats_l, sl_ok_5, sl_ok9, decide_true, sp_machC, sp_nodeC, sp_opC, sl_z0, sl_z1, sl_z2, sl_z3, sl_z4, sl_z5, sl_z6, sl_z7, sl_c0, sl_c1, sl_c2, sl_c3, sl_c4, sl_c5, sl_c6, sl_c7, List.length_map, sp_lifeC, sp_inC, sp_rnC, e1, e2, sw_cl_x, sp_o, sp_rel]
    · rw [c2, sp_ck_t] at e2
      rw [c2, if_neg (by decide)] at hf
      rw [if_neg (by decide)]
      have hf' := hf _ _ rfl
      have f1 := sl_ne_nx h0 h.nx0
      have f2 := sl_ne_nx h2 h.nx0
      have g1 := h.new (2, [.int 0, .int 0, .int 0, .int 0, .int 0, .null])
      have r1 := jc_X3_init (D := d) (m := (r, k, sm, fu, tw)) (l := l) (by omega) (g1.get 0 rfl)
      have g2 := (g1.set 0 (sp_machC (r, k, sm, fu, tw) l) rfl).set 1 (sp_xC pa (sw_nx P) bd) rfl
      have g3 : sl_st ev _ _ _ (sl_pt x (sp_xC pa (sw_nx P) bd) :: sl_pt (sw_nx P) (sp_machC (r, k, sm, fu, tw) l) :: sl_pt l (64, L.map .int) :: (sl_prog ev pa N B T out ++ (sl_bld ev bd mach pa b :: sl_pt mach (sp_machC m l) :: F))) := g2.pp 11 [1, 0, 4, 5, 6, 7, 8, 9, 10, 2, 3]
      obtain ⟨P', bd', r2, s2⟩ := jc_X1_renew (D := d) (b' := b') (by omega) hf' g3
      refine ⟨P', ?_, Or.inr ⟨_, _, rfl, bd', sw_nx P, l, pa, N, B, rfl, rfl, (sl_cs_drop s2).wk (by omega) (by show s + 6 + _ ≤ _; omega)⟩⟩
      dsimp only at r1
      unfold sp_machC at h2
      dsimp only [sp_xC, sp_machC] at r1 r2
      rw [M_X1_machine _ _ _ rfl]; simp only [at_X1_machine_0, ey_ld, sk_ld_s, ey_cs2, sk_c_s, ex_push, ey_cs3, ey_gf, sk_gf_s, sk_v_s, ex_sti, ex_nw, ex_dup_i, ex_dup_r, ex_dup_n, ey_ci6, ey_pf, sk_pf_s, sw_set_set, ey_cv0, ex_rv, sw_gl_0, sw_gl_s, sw_fx_n, sw_fx_i, sw_fx_r, sw_fx_0, sw_fx_l, sw_fx_d, sw_sl1_0, sw_sl1_1, sw_sl1_s, sw_no_0, sw_no_s, sw_no_e, sw_mk_t, sw_mk_f, sw_mk_e, sw_en_0, sw_en_n, sw_en_i, sw_en_r, sw_en_z, sw_en_l, sw_en_d, sw_ok_0, sw_ok_1, sw_ok_2, sw_ok_3, sw_ok_4, sw_bo_s, sw_oi_s, sw_cl_s, sw_cl_x, sw_psh_s, sw_psh_n, sw_kd_s, sw_op_s, sw_oc_s, sw_oc_e, sw_oa_s, sw_el_n, sw_el_r, sl_kds_1, sl_kds_67, sw_fit_i, sw_fit_r, sw_fit_n, sw_fit_l, sw_fit_d, sw_fit_b, sw_fit_0, sw_fit_1, sw_rel_0, sw_rel_1, sw_rel_2, sw_rel_3, sw_rel_4, sw_rel_5, sw_hp_set, sw_nx_set, sw_sl_set, sw_ev_set, sw_hp_new, sw_nx_new, sw_sl_new, sw_ev_new, List.getElem?_cons_zero, List.getElem?_cons_succ, List.set_cons_zero, List.set_cons_succ, List.length_cons, List.length_nil, Nat.reduceAdd, Nat.reduceSub, Nat.reduceLT, Nat.reduceLeDiff, Nat.zero_lt_succ, Nat.zero_add, beq_self_eq_true, Bool.true_and, and_true, true_and, and_self, not_true_eq_false, not_false_eq_true, ↓reduceIte, Nat.reduceBEq, eq_self, sw_b_0, sw_b_1, decide_eq_false_iff_not, decide_eq_true_eq, sl_n10, sl_n01, Decidable.not_not, sl_ct, sl_cats_0, sl_cats_i, sl_cats_r, sl_cats_n, sl_cats_l, sl_ok_5, sl_ok9, decide_true, sp_machC, sp_nodeC, sp_opC, sl_z0, sl_z1, sl_z2, sl_z3, sl_z4, sl_z5, sl_z6, sl_z7, sl_c0, sl_c1, sl_c2, sl_c3, sl_c4, sl_c5, sl_c6, sl_c7, List.length_map, sp_lifeC, sp_inC, sp_rnC, h0, sp_xC, h2, f1, f2, e1, e2, r1, r2, sp_o, sp_rel]
theorem jc_X1_latency {k cy : Int32} (hD : 267 ≤ D) (hL : L.length = 8) (hf : ∀ q v, cM_latency (N.map (·.2), B.map (fun y => y.2.map (·.2)), T, out, m, L) k cy = .inl (q, v) → sp_fit q 0 b') (h : sl_st ev c s P (sl_cs ev x bd mach l pa N B T out m L b ++ F)) :
    ∃ P', sw_Z D m_X1_latency [.ref x, .int k, .int cy] P = some (sp_o (sp_rel (cM_latency (N.map (·.2), B.map (fun y => y.2.map (·.2)), T, out, m, L) k cy)), P') ∧
      ((∃ e, cM_latency (N.map (·.2), B.map (fun y => y.2.map (·.2)), T, out, m, L) k cy = .inr e ∧ sl_st ev (c + 1) (s + 6) P' (sl_cs ev x bd mach l pa N B T out m L b ++ F)) ∨ ∃ q v, cM_latency (N.map (·.2), B.map (fun y => y.2.map (·.2)), T, out, m, L) k cy = .inl (q, v) ∧ sp_CS ev (c + (3 + sp_kA b')) (s + (20 + sp_kS N.length b')) P' x q b' F) := by
  obtain ⟨d, hDe, hDn⟩ := sw_dep hD; subst hDe; replace hD := hDn; clear hDn
  have h0 := h.get 0 rfl
  have h2 := h.get 2 rfl
  have h3 := h.get 3 rfl
  have e1 := jc_X1_checkPlace (D := d) (P := P) (v := k) (n := 8) (by omega)
  have e2 := jc_X1_mustBeIn (D := d) (P := P) (v := cy) (lo := 1) (hi := 9) (by omega)
  unfold cM_latency at hf ⊢
  cases c1 : sp_at k 8
  · rw [c1, sp_ck_f] at e1
    rw [if_pos rfl]
    refine ⟨_, ?_, Or.inl ⟨2, rfl, h.bump⟩⟩
    rw [M_X1_latency _ _ _ rfl]; simp only [at_X1_latency_0, ey_ld, sk_ld_s, ex_push, ey_cs2, sk_c_s, ey_cs3, ey_gf, sk_gf_s, sk_v_s, ey_ald, sk_ald_s, ex_sti, ey_cv2, ey_pf, sk_pf_s, sw_set_set, ey_cv0, ex_rv, sw_gl_0, sw_gl_s, sw_fx_n, sw_fx_i, sw_fx_r, sw_fx_0, sw_fx_l, sw_fx_d, sw_sl1_0, sw_sl1_1, sw_sl1_s, sw_no_0, sw_no_s, sw_no_e, sw_mk_t, sw_mk_f, sw_mk_e, sw_en_0, sw_en_n, sw_en_i, sw_en_r, sw_en_z, sw_en_l, sw_en_d, sw_ok_0, sw_ok_1, sw_ok_2, sw_ok_3, sw_ok_4, sw_bo_s, sw_oi_s, sw_cl_s, sw_cl_x, sw_psh_s, sw_psh_n, sw_kd_s, sw_op_s, sw_oc_s, sw_oc_e, sw_oa_s, sw_el_n, sw_el_r, sl_kds_1, sl_kds_67, sw_fit_i, sw_fit_r, sw_fit_n, sw_fit_l, sw_fit_d, sw_fit_b, sw_fit_0, sw_fit_1, sw_rel_0, sw_rel_1, sw_rel_2, sw_rel_3, sw_rel_4, sw_rel_5, sw_hp_set, sw_nx_set, sw_sl_set, sw_ev_set, sw_hp_new, sw_nx_new, sw_sl_new, sw_ev_new, List.getElem?_cons_zero, List.getElem?_cons_succ, List.set_cons_zero, List.set_cons_succ, List.length_cons, List.length_nil, Nat.reduceAdd, Nat.reduceSub, Nat.reduceLT, Nat.reduceLeDiff, Nat.zero_lt_succ, Nat.zero_add, beq_self_eq_true, Bool.true_and, and_true, true_and, and_self, not_true_eq_false, not_false_eq_true, ↓reduceIte, Nat.reduceBEq, eq_self, sw_b_0, sw_b_1, decide_eq_false_iff_not, decide_eq_true_eq, sl_n10, sl_n01, Decidable.not_not, sl_ct, sl_cats_0, sl_cats_i, sl_cats_r, sl_cats_n, sl_cats_l, sl_ok_5, sl_ok9, decide_true, sp_machC, sp_nodeC, sp_opC, sl_z0, sl_z1, sl_z2, sl_z3, sl_z4, sl_z5, sl_z6, sl_z7, sl_c0, sl_c1, sl_c2, sl_c3, sl_c4, sl_c5, sl_c6, sl_c7, List.length_map, sp_lifeC, sp_inC, sp_rnC, e1, sw_cl_x, sp_o, sp_rel]
  · rw [c1, sp_ck_t] at e1
    rw [c1, if_neg (by decide)] at hf
    rw [if_neg (by decide)]
    cases c2 : sp_in cy 1 9
    · rw [c2, sp_ck_f] at e2
      rw [if_pos rfl]
      refine ⟨_, ?_, Or.inl ⟨0, rfl, h.bump⟩⟩
      rw [M_X1_latency _ _ _ rfl]; simp only [at_X1_latency_0, ey_ld, sk_ld_s, ex_push, ey_cs2, sk_c_s, ey_cs3, ey_gf, sk_gf_s, sk_v_s, ey_ald, sk_ald_s, ex_sti, ey_cv2, ey_pf, sk_pf_s, sw_set_set, ey_cv0, ex_rv, sw_gl_0, sw_gl_s, sw_fx_n, sw_fx_i, sw_fx_r, sw_fx_0, sw_fx_l, sw_fx_d, sw_sl1_0, sw_sl1_1, sw_sl1_s, sw_no_0, sw_no_s, sw_no_e, sw_mk_t, sw_mk_f, sw_mk_e, sw_en_0, sw_en_n, sw_en_i, sw_en_r, sw_en_z, sw_en_l, sw_en_d, sw_ok_0, sw_ok_1, sw_ok_2, sw_ok_3, sw_ok_4, sw_bo_s, sw_oi_s, sw_cl_s, sw_cl_x, sw_psh_s, sw_psh_n, sw_kd_s, sw_op_s, sw_oc_s, sw_oc_e, sw_oa_s, sw_el_n, sw_el_r, sl_kds_1, sl_kds_67, sw_fit_i, sw_fit_r, sw_fit_n, sw_fit_l, sw_fit_d, sw_fit_b, sw_fit_0, sw_fit_1, sw_rel_0, sw_rel_1, sw_rel_2, sw_rel_3, sw_rel_4, sw_rel_5, sw_hp_set, sw_nx_set, sw_sl_set, sw_ev_set, sw_hp_new, sw_nx_new, sw_sl_new, sw_ev_new, List.getElem?_cons_zero, List.getElem?_cons_succ, List.set_cons_zero, List.set_cons_succ, List.length_cons, List.length_nil, Nat.reduceAdd, Nat.reduceSub, Nat.reduceLT, Nat.reduceLeDiff, Nat.zero_lt_succ, Nat.zero_add, beq_self_eq_true, Bool.true_and, and_true, true_and, and_self, not_true_eq_false, not_false_eq_true, ↓reduceIte, Nat.reduceBEq, eq_self, sw_b_0, sw_b_1, decide_eq_false_iff_not, decide_eq_true_eq, sl_n10, sl_n01, Decidable.not_not, sl_ct, sl_cats_0, sl_cats_i, sl_cats_r, sl_cats_n, sl_cats_l, sl_ok_5, sl_ok9, decide_true, sp_machC, sp_nodeC, sp_opC, sl_z0, sl_z1, sl_z2, sl_z3, sl_z4, sl_z5, sl_z6, sl_z7, sl_c0, sl_c1, sl_c2, sl_c3, sl_c4, sl_c5, sl_c6, sl_c7, List.length_map, sp_lifeC, sp_inC, sp_rnC, e1, e2, sw_cl_x, sp_o, sp_rel]
    · rw [c2, sp_ck_t] at e2
      rw [c2, if_neg (by decide)] at hf
      rw [if_neg (by decide)]
      have hf' := hf _ _ rfl
      obtain ⟨kn, hkn, rfl⟩ := sp_at_of (n := 8) (by omega) c1
      have t1 : (nI kn).toNatClampNeg = kn := nI_clamp (by omega)
      have t2 : ¬ nI kn < 0 := nI_pos (by omega)
      have t3 : (L.map Value.int)[kn]? = some (.int (L.getD kn 0)) := by
        rw [List.getElem?_map, List.getElem?_eq_getElem (by omega), sp_getD (List.getElem?_eq_getElem (by omega))]; rfl
      dsimp only at hf' ⊢
      rw [t1] at hf' ⊢
      have g1 : sl_st ev c s P (sl_pt mach (sp_machC m l) :: sl_pt l (64, L.map .int) :: (sl_pt x (sp_xC pa mach bd) :: (sl_prog ev pa N B T out ++ (sl_bld ev bd mach pa b :: F)))) := h.pp 10 [2, 3, 0, 4, 5, 6, 7, 8, 9, 1]
      obtain ⟨P1, r1, s1⟩ := jc_X3_with_2 (D := d) (k := kn) (v := cy) (by omega) hL hkn g1
      have q1 := s1.get 4 rfl
      have s2 := s1.set 4 (sp_xC pa (sw_nx P + 1) bd) rfl
      have s3 : sl_st ev _ _ _ (sl_pt x (sp_xC pa (sw_nx P + 1) bd) :: sl_pt (sw_nx P + 1) (sp_machC m (sw_nx P)) :: sl_pt (sw_nx P) (64, (L.set kn cy).map .int) :: (sl_prog ev pa N B T out ++ (sl_bld ev bd mach pa b :: sl_pt mach (sp_machC m l) :: sl_pt l (64, L.map .int) :: F))) := s2.pp 12 [4, 0, 1, 5, 6, 7, 8, 9, 10, 11, 2, 3]
      obtain ⟨P', bd', r2, s4⟩ := jc_X1_renew (D := d) (b' := b') (by omega) hf' s3
      have s5 := sl_cs_drop s4
      have s6 : sl_st ev _ _ P' (sl_pt l (64, L.map .int) :: (sl_cs ev x bd' (sw_nx P + 1) (sw_nx P) pa N B T out m (L.set kn cy) b' ++ F)) := s5.pp 11 [10, 0, 1, 2, 3, 4, 5, 6, 7, 8, 9]
      refine ⟨P', ?_, Or.inr ⟨_, _, rfl, bd', sw_nx P + 1, sw_nx P, pa, N, B, rfl, rfl, s6.drop.wk (by omega) (by omega)⟩⟩
      have h2' := h2
      unfold sp_machC at h2'
      dsimp only [sp_xC] at r2 q1
      rw [M_X1_latency _ _ _ rfl]; simp only [at_X1_latency_0, ey_ld, sk_ld_s, ex_push, ey_cs2, sk_c_s, ey_cs3, ey_gf, sk_gf_s, sk_v_s, ey_ald, sk_ald_s, ex_sti, ey_cv2, ey_pf, sk_pf_s, sw_set_set, ey_cv0, ex_rv, sw_gl_0, sw_gl_s, sw_fx_n, sw_fx_i, sw_fx_r, sw_fx_0, sw_fx_l, sw_fx_d, sw_sl1_0, sw_sl1_1, sw_sl1_s, sw_no_0, sw_no_s, sw_no_e, sw_mk_t, sw_mk_f, sw_mk_e, sw_en_0, sw_en_n, sw_en_i, sw_en_r, sw_en_z, sw_en_l, sw_en_d, sw_ok_0, sw_ok_1, sw_ok_2, sw_ok_3, sw_ok_4, sw_bo_s, sw_oi_s, sw_cl_s, sw_cl_x, sw_psh_s, sw_psh_n, sw_kd_s, sw_op_s, sw_oc_s, sw_oc_e, sw_oa_s, sw_el_n, sw_el_r, sl_kds_1, sl_kds_67, sw_fit_i, sw_fit_r, sw_fit_n, sw_fit_l, sw_fit_d, sw_fit_b, sw_fit_0, sw_fit_1, sw_rel_0, sw_rel_1, sw_rel_2, sw_rel_3, sw_rel_4, sw_rel_5, sw_hp_set, sw_nx_set, sw_sl_set, sw_ev_set, sw_hp_new, sw_nx_new, sw_sl_new, sw_ev_new, List.getElem?_cons_zero, List.getElem?_cons_succ, List.set_cons_zero, List.set_cons_succ, List.length_cons, List.length_nil, Nat.reduceAdd, Nat.reduceSub, Nat.reduceLT, Nat.reduceLeDiff, Nat.zero_lt_succ, Nat.zero_add, beq_self_eq_true, Bool.true_and, and_true, true_and, and_self, not_true_eq_false, not_false_eq_true, ↓reduceIte, Nat.reduceBEq, eq_self, sw_b_0, sw_b_1, decide_eq_false_iff_not, decide_eq_true_eq, sl_n10, sl_n01, Decidable.not_not, sl_ct, sl_cats_0, sl_cats_i, sl_cats_r, sl_cats_n, sl_cats_l, sl_ok_5, sl_ok9, decide_true, sp_machC, sp_nodeC, sp_opC, sl_z0, sl_z1, sl_z2, sl_z3, sl_z4, sl_z5, sl_z6, sl_z7, sl_c0, sl_c1, sl_c2, sl_c3, sl_c4, sl_c5, sl_c6, sl_c7, List.length_map, sp_lifeC, sp_inC, sp_rnC, h0, sp_xC, h2', h3, e1, e2, t1, t2, t3, r1, q1, r2, sp_o, sp_rel]
theorem jc_X1_times {k t : Int32} (hD : 267 ≤ D) (hT : T.length = 4) (hf : ∀ q v, cM_times (N.map (·.2), B.map (fun y => y.2.map (·.2)), T, out, m, L) k t = .inl (q, v) → sp_fit q 0 b') (h : sl_st ev c s P (sl_cs ev x bd mach l pa N B T out m L b ++ F)) :
    ∃ P', sw_Z D m_X1_times [.ref x, .int k, .int t] P = some (sp_o (sp_rel (cM_times (N.map (·.2), B.map (fun y => y.2.map (·.2)), T, out, m, L) k t)), P') ∧
      ((∃ e, cM_times (N.map (·.2), B.map (fun y => y.2.map (·.2)), T, out, m, L) k t = .inr e ∧ sl_st ev (c + 1) (s + 6) P' (sl_cs ev x bd mach l pa N B T out m L b ++ F)) ∨ ∃ q v, cM_times (N.map (·.2), B.map (fun y => y.2.map (·.2)), T, out, m, L) k t = .inl (q, v) ∧ sp_CS ev (c + (3 + sp_kA b')) (s + (20 + sp_kS N.length b')) P' x q b' F) := by
  obtain ⟨d, hDe, hDn⟩ := sw_dep hD; subst hDe; replace hD := hDn; clear hDn
  have h0 := h.get 0 rfl
  have h4 := h.get 4 rfl
  have h9 := h.get 9 rfl
  have e1 := jc_X1_checkBlock (D := d) (P := P) (v := k) (by omega)
  have e2 := jc_X1_mustBeIn (D := d) (P := P) (v := t) (lo := 1) (hi := 9) (by omega)
  unfold cM_times at hf ⊢
  cases c1 : sp_at k 4
  · rw [c1, sp_ck_f] at e1
    rw [if_pos rfl]
    refine ⟨_, ?_, Or.inl ⟨2, rfl, h.bump⟩⟩
    rw [M_X1_times _ _ _ rfl]; simp only [at_X1_times_0, ey_ld, sk_ld_s, ey_cs1, sk_c_s, ex_push, ey_cs3, ey_gf, sk_gf_s, sk_v_s, ey_ald, sk_ald_s, ex_sti, ey_ast, sk_ast_s, ey_cv0, ex_rv, sw_gl_0, sw_gl_s, sw_fx_n, sw_fx_i, sw_fx_r, sw_fx_0, sw_fx_l, sw_fx_d, sw_sl1_0, sw_sl1_1, sw_sl1_s, sw_no_0, sw_no_s, sw_no_e, sw_mk_t, sw_mk_f, sw_mk_e, sw_en_0, sw_en_n, sw_en_i, sw_en_r, sw_en_z, sw_en_l, sw_en_d, sw_ok_0, sw_ok_1, sw_ok_2, sw_ok_3, sw_ok_4, sw_bo_s, sw_oi_s, sw_cl_s, sw_cl_x, sw_psh_s, sw_psh_n, sw_kd_s, sw_op_s, sw_oc_s, sw_oc_e, sw_oa_s, sw_el_n, sw_el_r, sl_kds_1, sl_kds_67, sw_fit_i, sw_fit_r, sw_fit_n, sw_fit_l, sw_fit_d, sw_fit_b, sw_fit_0, sw_fit_1, sw_rel_0, sw_rel_1, sw_rel_2, sw_rel_3, sw_rel_4, sw_rel_5, sw_hp_set, sw_nx_set, sw_sl_set, sw_ev_set, sw_hp_new, sw_nx_new, sw_sl_new, sw_ev_new, List.getElem?_cons_zero, List.getElem?_cons_succ, List.set_cons_zero, List.set_cons_succ, List.length_cons, List.length_nil, Nat.reduceAdd, Nat.reduceSub, Nat.reduceLT, Nat.reduceLeDiff, Nat.zero_lt_succ, Nat.zero_add, beq_self_eq_true, Bool.true_and, and_true, true_and, and_self, not_true_eq_false, not_false_eq_true, ↓reduceIte, Nat.reduceBEq, eq_self, sw_b_0, sw_b_1, decide_eq_false_iff_not, decide_eq_true_eq, sl_n10, sl_n01, Decidable.not_not, sl_ct, sl_cats_0, sl_cats_i, sl_cats_r, sl_cats_n, sl_cats_l, sl_ok_5, sl_ok9, decide_true, sp_machC, sp_nodeC, sp_opC, sl_z0, sl_z1, sl_z2, sl_z3, sl_z4, sl_z5, sl_z6, sl_z7, sl_c0, sl_c1, sl_c2, sl_c3, sl_c4, sl_c5, sl_c6, sl_c7, List.length_map, sp_lifeC, sp_inC, sp_rnC, e1, sw_cl_x, sp_o, sp_rel]
  · rw [c1, sp_ck_t] at e1
    rw [c1, if_neg (by decide)] at hf
    rw [if_neg (by decide)]
    cases c2 : sp_in t 1 9
    · rw [c2, sp_ck_f] at e2
      rw [if_pos rfl]
      refine ⟨_, ?_, Or.inl ⟨0, rfl, h.bump⟩⟩
      rw [M_X1_times _ _ _ rfl]; simp only [at_X1_times_0, ey_ld, sk_ld_s, ey_cs1, sk_c_s, ex_push, ey_cs3, ey_gf, sk_gf_s, sk_v_s, ey_ald, sk_ald_s, ex_sti, ey_ast, sk_ast_s, ey_cv0, ex_rv, sw_gl_0, sw_gl_s, sw_fx_n, sw_fx_i, sw_fx_r, sw_fx_0, sw_fx_l, sw_fx_d, sw_sl1_0, sw_sl1_1, sw_sl1_s, sw_no_0, sw_no_s, sw_no_e, sw_mk_t, sw_mk_f, sw_mk_e, sw_en_0, sw_en_n, sw_en_i, sw_en_r, sw_en_z, sw_en_l, sw_en_d, sw_ok_0, sw_ok_1, sw_ok_2, sw_ok_3, sw_ok_4, sw_bo_s, sw_oi_s, sw_cl_s, sw_cl_x, sw_psh_s, sw_psh_n, sw_kd_s, sw_op_s, sw_oc_s, sw_oc_e, sw_oa_s, sw_el_n, sw_el_r, sl_kds_1, sl_kds_67, sw_fit_i, sw_fit_r, sw_fit_n, sw_fit_l, sw_fit_d, sw_fit_b, sw_fit_0, sw_fit_1, sw_rel_0, sw_rel_1, sw_rel_2, sw_rel_3, sw_rel_4, sw_rel_5, sw_hp_set, sw_nx_set, sw_sl_set, sw_ev_set, sw_hp_new, sw_nx_new, sw_sl_new, sw_ev_new, List.getElem?_cons_zero, List.getElem?_cons_succ, List.set_cons_zero, List.set_cons_succ, List.length_cons, List.length_nil, Nat.reduceAdd, Nat.reduceSub, Nat.reduceLT, Nat.reduceLeDiff, Nat.zero_lt_succ, Nat.zero_add, beq_self_eq_true, Bool.true_and, and_true, true_and, and_self, not_true_eq_false, not_false_eq_true, ↓reduceIte, Nat.reduceBEq, eq_self, sw_b_0, sw_b_1, decide_eq_false_iff_not, decide_eq_true_eq, sl_n10, sl_n01, Decidable.not_not, sl_ct, sl_cats_0, sl_cats_i, sl_cats_r, sl_cats_n, sl_cats_l, sl_ok_5, sl_ok9, decide_true, sp_machC, sp_nodeC, sp_opC, sl_z0, sl_z1, sl_z2, sl_z3, sl_z4, sl_z5, sl_z6, sl_z7, sl_c0, sl_c1, sl_c2, sl_c3, sl_c4, sl_c5, sl_c6, sl_c7, List.length_map, sp_lifeC, sp_inC, sp_rnC, e1, e2, sw_cl_x, sp_o, sp_rel]
    · rw [c2, sp_ck_t] at e2
      rw [c2, if_neg (by decide)] at hf
      rw [if_neg (by decide)]
      have hf' := hf _ _ rfl
      obtain ⟨kn, hkn, rfl⟩ := sp_at_of (n := 4) (by omega) c1
      have t1 : (nI kn).toNatClampNeg = kn := nI_clamp (by omega)
      have t2 : ¬ nI kn < 0 := nI_pos (by omega)
      have t3 : (T.map Value.int)[kn]? = some (.int (T.getD kn 0)) := by
        rw [List.getElem?_map, List.getElem?_eq_getElem (by omega), sp_getD (List.getElem?_eq_getElem (by omega))]; rfl
      have t4 : kn < T.length := by omega
      have t5 := sl_map_set T kn t
      dsimp only at hf' ⊢
      rw [t1] at hf' ⊢
      have g1 : sl_st ev c s P (sl_prog ev pa N B T out ++ (sl_pt x (sp_xC pa mach bd) :: sl_pt mach (sp_machC m l) :: sl_pt l (64, L.map .int) :: sl_bld ev bd mach pa b :: F)) := h.pp 10 [4, 5, 6, 7, 8, 9, 0, 2, 3, 1]
      have g2 := sl_prog_tim g1 (T.set kn t)
      have g3 : sl_st ev c s _ (sl_pt x (sp_xC pa mach bd) :: sl_pt mach (sp_machC m l) :: sl_pt l (64, L.map .int) :: (sl_prog ev pa N B (T.set kn t) out ++ (sl_bld ev bd mach pa b :: F))) := g2.pp 10 [6, 7, 8, 0, 1, 2, 3, 4, 5, 9]
      obtain ⟨P', bd', r2, s4⟩ := jc_X1_renew (D := d) (b' := b') (by omega) hf' g3
      have s6 : sl_st ev _ _ P' (sl_bld ev bd mach pa b :: (sl_cs ev x bd' mach l pa N B (T.set kn t) out m L b' ++ F)) := s4.pp 11 [10, 0, 1, 2, 3, 4, 5, 6, 7, 8, 9]
      refine ⟨P', ?_, Or.inr ⟨_, _, rfl, bd', mach, l, pa, N, B, rfl, rfl, s6.drop.wk (by omega) (by omega)⟩⟩
      have hne : ¬ x = pa.2.2.2 := fun e => by rw [e, h9] at h0; cases h0
      rw [M_X1_times _ _ _ rfl]; simp only [at_X1_times_0, ey_ld, sk_ld_s, ey_cs1, sk_c_s, ex_push, ey_cs3, ey_gf, sk_gf_s, sk_v_s, ey_ald, sk_ald_s, ex_sti, ey_ast, sk_ast_s, ey_cv0, ex_rv, sw_gl_0, sw_gl_s, sw_fx_n, sw_fx_i, sw_fx_r, sw_fx_0, sw_fx_l, sw_fx_d, sw_sl1_0, sw_sl1_1, sw_sl1_s, sw_no_0, sw_no_s, sw_no_e, sw_mk_t, sw_mk_f, sw_mk_e, sw_en_0, sw_en_n, sw_en_i, sw_en_r, sw_en_z, sw_en_l, sw_en_d, sw_ok_0, sw_ok_1, sw_ok_2, sw_ok_3, sw_ok_4, sw_bo_s, sw_oi_s, sw_cl_s, sw_cl_x, sw_psh_s, sw_psh_n, sw_kd_s, sw_op_s, sw_oc_s, sw_oc_e, sw_oa_s, sw_el_n, sw_el_r, sl_kds_1, sl_kds_67, sw_fit_i, sw_fit_r, sw_fit_n, sw_fit_l, sw_fit_d, sw_fit_b, sw_fit_0, sw_fit_1, sw_rel_0, sw_rel_1, sw_rel_2, sw_rel_3, sw_rel_4, sw_rel_5, sw_hp_set, sw_nx_set, sw_sl_set, sw_ev_set, sw_hp_new, sw_nx_new, sw_sl_new, sw_ev_new, List.getElem?_cons_zero, List.getElem?_cons_succ, List.set_cons_zero, List.set_cons_succ, List.length_cons, List.length_nil, Nat.reduceAdd, Nat.reduceSub, Nat.reduceLT, Nat.reduceLeDiff, Nat.zero_lt_succ, Nat.zero_add, beq_self_eq_true, Bool.true_and, and_true, true_and, and_self, not_true_eq_false, not_false_eq_true, ↓reduceIte, Nat.reduceBEq, eq_self, sw_b_0, sw_b_1, decide_eq_false_iff_not, decide_eq_true_eq, sl_n10, sl_n01, Decidable.not_not, sl_ct, sl_cats_0, sl_cats_i, sl_cats_r, sl_cats_n, sl_cats_l, sl_ok_5, sl_ok9, decide_true, sp_machC, sp_nodeC, sp_opC, sl_z0, sl_z1, sl_z2, sl_z3, sl_z4, sl_z5, sl_z6, sl_z7, sl_c0, sl_c1, sl_c2, sl_c3, sl_c4, sl_c5, sl_c6, sl_c7, List.length_map, sp_lifeC, sp_inC, sp_rnC, h0, sp_xC, h4, h9, hne, e1, e2, t1, t2, t3, t4, t5, sl_vt64, r2, sp_o, sp_rel]
theorem jc_X1_out {v : Int32} (hD : 267 ≤ D) (hf : ∀ q w, cM_out (N.map (·.2), B.map (fun y => y.2.map (·.2)), T, out, m, L) v = .inl (q, w) → sp_fit q 0 b') (h : sl_st ev c s P (sl_cs ev x bd mach l pa N B T out m L b ++ F)) :
    ∃ P', sw_Z D m_X1_out [.ref x, .int v] P = some (sp_o (sp_rel (cM_out (N.map (·.2), B.map (fun y => y.2.map (·.2)), T, out, m, L) v)), P') ∧
      ((∃ e, cM_out (N.map (·.2), B.map (fun y => y.2.map (·.2)), T, out, m, L) v = .inr e ∧ sl_st ev (c + 1) (s + 6) P' (sl_cs ev x bd mach l pa N B T out m L b ++ F)) ∨ ∃ q w, cM_out (N.map (·.2), B.map (fun y => y.2.map (·.2)), T, out, m, L) v = .inl (q, w) ∧ sp_CS ev (c + (3 + sp_kA b')) (s + (20 + sp_kS N.length b')) P' x q b' F) := by
  obtain ⟨d, hDe, hDn⟩ := sw_dep hD; subst hDe; replace hD := hDn; clear hDn
  have h0 := h.get 0 rfl
  have h4 := h.get 4 rfl
  have e2 := jc_X1_mustBeIn (D := d) (P := P) (v := v) (lo := 0) (hi := 255) (by omega)
  unfold cM_out at hf ⊢
  cases c2 : sp_in v 0 255
  · rw [c2, sp_ck_f] at e2
    rw [if_pos rfl]
    refine ⟨_, ?_, Or.inl ⟨0, rfl, h.bump⟩⟩
    rw [M_X1_out _ _ _ rfl]; simp only [at_X1_out_0, ey_ld, sk_ld_s, ex_push, ey_cs3, sk_c_s, ey_gf, sk_gf_s, sk_v_s, ex_sti, ey_pf, sk_pf_s, sw_set_set, ey_cv0, ex_rv, sw_gl_0, sw_gl_s, sw_fx_n, sw_fx_i, sw_fx_r, sw_fx_0, sw_fx_l, sw_fx_d, sw_sl1_0, sw_sl1_1, sw_sl1_s, sw_no_0, sw_no_s, sw_no_e, sw_mk_t, sw_mk_f, sw_mk_e, sw_en_0, sw_en_n, sw_en_i, sw_en_r, sw_en_z, sw_en_l, sw_en_d, sw_ok_0, sw_ok_1, sw_ok_2, sw_ok_3, sw_ok_4, sw_bo_s, sw_oi_s, sw_cl_s, sw_cl_x, sw_psh_s, sw_psh_n, sw_kd_s, sw_op_s, sw_oc_s, sw_oc_e, sw_oa_s, sw_el_n, sw_el_r, sl_kds_1, sl_kds_67, sw_fit_i, sw_fit_r, sw_fit_n, sw_fit_l, sw_fit_d, sw_fit_b, sw_fit_0, sw_fit_1, sw_rel_0, sw_rel_1, sw_rel_2, sw_rel_3, sw_rel_4, sw_rel_5, sw_hp_set, sw_nx_set, sw_sl_set, sw_ev_set, sw_hp_new, sw_nx_new, sw_sl_new, sw_ev_new, List.getElem?_cons_zero, List.getElem?_cons_succ, List.set_cons_zero, List.set_cons_succ, List.length_cons, List.length_nil, Nat.reduceAdd, Nat.reduceSub, Nat.reduceLT, Nat.reduceLeDiff, Nat.zero_lt_succ, Nat.zero_add, beq_self_eq_true, Bool.true_and, and_true, true_and, and_self, not_true_eq_false, not_false_eq_true, ↓reduceIte, Nat.reduceBEq, eq_self, sw_b_0, sw_b_1, decide_eq_false_iff_not, decide_eq_true_eq, sl_n10, sl_n01, Decidable.not_not, sl_ct, sl_cats_0, sl_cats_i, sl_cats_r, sl_cats_n, sl_cats_l, sl_ok_5, sl_ok9, decide_true, sp_machC, sp_nodeC, sp_opC, sl_z0, sl_z1, sl_z2, sl_z3, sl_z4, sl_z5, sl_z6, sl_z7, sl_c0, sl_c1, sl_c2, sl_c3, sl_c4, sl_c5, sl_c6, sl_c7, List.length_map, sp_lifeC, sp_inC, sp_rnC, e2, sw_cl_x, sp_o, sp_rel]
  · rw [c2, sp_ck_t] at e2
    rw [c2, if_neg (by decide)] at hf
    rw [if_neg (by decide)]
    have hf' := hf _ _ rfl
    have g1 : sl_st ev c s P (sl_prog ev pa N B T out ++ (sl_pt x (sp_xC pa mach bd) :: sl_pt mach (sp_machC m l) :: sl_pt l (64, L.map .int) :: sl_bld ev bd mach pa b :: F)) := h.pp 10 [4, 5, 6, 7, 8, 9, 0, 2, 3, 1]
    have g2 := sl_prog_out g1 v
    have g3 : sl_st ev c s _ (sl_pt x (sp_xC pa mach bd) :: sl_pt mach (sp_machC m l) :: sl_pt l (64, L.map .int) :: (sl_prog ev pa N B T v ++ (sl_bld ev bd mach pa b :: F))) := g2.pp 10 [6, 7, 8, 0, 1, 2, 3, 4, 5, 9]
    obtain ⟨P', bd', r2, s4⟩ := jc_X1_renew (D := d) (b' := b') (by omega) hf' g3
    have s6 : sl_st ev _ _ P' (sl_bld ev bd mach pa b :: (sl_cs ev x bd' mach l pa N B T v m L b' ++ F)) := s4.pp 11 [10, 0, 1, 2, 3, 4, 5, 6, 7, 8, 9]
    refine ⟨P', ?_, Or.inr ⟨_, _, rfl, bd', mach, l, pa, N, B, rfl, rfl, s6.drop.wk (by omega) (by omega)⟩⟩
    have hne : ¬ x = pa.1 := fun e => by rw [e, h4] at h0; cases h0
    rw [M_X1_out _ _ _ rfl]; simp only [at_X1_out_0, ey_ld, sk_ld_s, ex_push, ey_cs3, sk_c_s, ey_gf, sk_gf_s, sk_v_s, ex_sti, ey_pf, sk_pf_s, sw_set_set, ey_cv0, ex_rv, sw_gl_0, sw_gl_s, sw_fx_n, sw_fx_i, sw_fx_r, sw_fx_0, sw_fx_l, sw_fx_d, sw_sl1_0, sw_sl1_1, sw_sl1_s, sw_no_0, sw_no_s, sw_no_e, sw_mk_t, sw_mk_f, sw_mk_e, sw_en_0, sw_en_n, sw_en_i, sw_en_r, sw_en_z, sw_en_l, sw_en_d, sw_ok_0, sw_ok_1, sw_ok_2, sw_ok_3, sw_ok_4, sw_bo_s, sw_oi_s, sw_cl_s, sw_cl_x, sw_psh_s, sw_psh_n, sw_kd_s, sw_op_s, sw_oc_s, sw_oc_e, sw_oa_s, sw_el_n, sw_el_r, sl_kds_1, sl_kds_67, sw_fit_i, sw_fit_r, sw_fit_n, sw_fit_l, sw_fit_d, sw_fit_b, sw_fit_0, sw_fit_1, sw_rel_0, sw_rel_1, sw_rel_2, sw_rel_3, sw_rel_4, sw_rel_5, sw_hp_set, sw_nx_set, sw_sl_set, sw_ev_set, sw_hp_new, sw_nx_new, sw_sl_new, sw_ev_new, List.getElem?_cons_zero, List.getElem?_cons_succ, List.set_cons_zero, List.set_cons_succ, List.length_cons, List.length_nil, Nat.reduceAdd, Nat.reduceSub, Nat.reduceLT, Nat.reduceLeDiff, Nat.zero_lt_succ, Nat.zero_add, beq_self_eq_true, Bool.true_and, and_true, true_and, and_self, not_true_eq_false, not_false_eq_true, ↓reduceIte, Nat.reduceBEq, eq_self, sw_b_0, sw_b_1, decide_eq_false_iff_not, decide_eq_true_eq, sl_n10, sl_n01, Decidable.not_not, sl_ct, sl_cats_0, sl_cats_i, sl_cats_r, sl_cats_n, sl_cats_l, sl_ok_5, sl_ok9, decide_true, sp_machC, sp_nodeC, sp_opC, sl_z0, sl_z1, sl_z2, sl_z3, sl_z4, sl_z5, sl_z6, sl_z7, sl_c0, sl_c1, sl_c2, sl_c3, sl_c4, sl_c5, sl_c6, sl_c7, List.length_map, sp_lifeC, sp_inC, sp_rnC, h0, sp_xC, h4, e2, hne, r2, sp_o, sp_rel]
end
