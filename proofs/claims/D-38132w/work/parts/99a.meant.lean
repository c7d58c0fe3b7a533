/-! ===== new lists; the program: made, and what is meant ===== -/
theorem sl_st.newls {ev : Nat → Nat} {c s : Nat} {P : sw_P} {F : List sl_A} (h : sl_st ev c s P F) : sl_st ev (c + 1) (s + 3) (sw_new P (24, [.int 0, .ref (ev 10), .int 0])) (sl_ls ev (sw_nx P) [] :: F) := by
  have h1 := h.new (24, [.int 0, .ref (ev 10), .int 0])
  have h2 : sl_st ev (c + 1) (s + 3) _ (sl_pt (sw_nx P) (24, [.int 0, .ref (ev 10), .int (nI ([] : List Value).length)]) :: sl_bk ev (ev 10) [] 0 :: F) := (h1.ofbk0).pk [1]
  exact sl_st.oflx (Q := fun c => c ∈ sl_caps) (by decide) h2
theorem jc_J2_new {ev : Nat → Nat} {D : Nat} {P : sw_P} (hD : 3 ≤ D) (hev : sw_ev P = ev) : sw_Z D m_J2_init [.ref (sw_nx P)] (sw_new P (24, [.int 0, .null, .int 0])) = some (.inl none, sw_new P (24, [.int 0, .ref (ev 10), .int 0])) := by
  have e5 := jc_J2_init (D := D) (a := sw_nx P) (P := sw_new P (24, [.int 0, .null, .int 0])) hD (if_pos rfl)
  rw [show sw_ev (sw_new P (24, [.int 0, .null, .int 0])) = sw_ev P from rfl, hev, sw_set_new P 24 24 [.int 0, .null, .int 0] [.int 0, .ref (ev 10), .int 0] rfl] at e5
  exact e5
/-- a step done a number of times -/
def sp_rep {σ : Type} (f : σ → σ) : Nat → σ → σ
  | 0, s => s
  | n + 1, s => sp_rep f n (f s)
/-- the statements of a block, once -/
def sp_mS (ns : List sp_Node) (b : List sp_Stm) (V : List Int32) : List Int32 := b.foldl (fun V x => V.set x.1.toNatClampNeg (sp_nv ns V 81 x.2.toNatClampNeg)) V
def sp_mB (ns : List sp_Node) (B : List (List sp_Stm)) (T : List Int32) : Nat → Nat → List Int32 → List Int32
  | 0, _, V => V
  | j + 1, k, V => sp_mB ns B T j (k + 1) (sp_rep (sp_mS ns (B.getD k [])) (T.getD k 0).toNatClampNeg V)
/-- what the variables are at the end, by the trees alone -/
def sp_mnt (ns : List sp_Node) (B : List (List sp_Stm)) (T : List Int32) : List Int32 := sp_mB ns B T 4 0 (List.replicate 8 0)
def sp_okV (B : List (List sp_Stm)) : Prop := ∀ y ∈ B, ∀ x ∈ y, ∃ v, v < 8 ∧ x.1 = nI v
theorem sp_mS_len {ns : List sp_Node} {b : List sp_Stm} : ∀ {V : List Int32}, (sp_mS ns b V).length = V.length := by
  unfold sp_mS
  induction b with
  | nil => intro V; rfl
  | cons x b ih => intro V; rw [List.foldl_cons, ih, List.length_set]
theorem sp_rep_len {f : List Int32 → List Int32} (hf : ∀ V, (f V).length = V.length) : ∀ n V, (sp_rep f n V).length = V.length := by
  intro n
  induction n with
  | zero => intro V; rfl
  | succ n ih => intro V; exact (ih _).trans (hf _)
theorem sp_mB_len {ns : List sp_Node} {B : List (List sp_Stm)} {T : List Int32} : ∀ j k V, (sp_mB ns B T j k V).length = V.length := by
  intro j
  induction j with
  | zero => intro k V; rfl
  | succ j ih => intro k V; exact (ih _ _).trans (sp_rep_len (fun V => sp_mS_len) _ _)
section
variable {ev : Nat → Nat} {a d c s : Nat} {pa : sp_PA} {N : List (Nat × sp_Node)} {B : List sp_Blk} {T : List Int32} {out : Int32} {F : List sl_A}
theorem jc_X2_meant3 (hd : 90 ≤ d) (hok : sp_ok (N.map (·.2))) {k : Nat} {y : sp_Blk} (hy : B[k]? = some y) (hk : k < 4) (hB4 : B.length = 4) (hyl : y.2.length ≤ 24) (hyn : ∀ x ∈ y.2.map (·.2), ∃ j, j < N.length ∧ x.2 = nI j) (hyv : ∀ x ∈ y.2.map (·.2), ∃ v, v < 8 ∧ x.1 = nI v) (t : Int32) : ∀ j i, i + j = y.2.length → ∀ V P, V.length = 8 → sl_st ev c s P (sl_pt a (64, V.map .int) :: (sl_prog ev pa N B T out ++ F)) →
    ∃ P', sw_at (sw_Z d) b_X2_meant 3 [some (.ref pa.1), some (.ref a), some (.int (nI k)), some (.ref y.1), some (.int t), some (.int (nI i))] [] P = sw_at (sw_Z d) b_X2_meant 2 [some (.ref pa.1), some (.ref a), some (.int (nI k)), some (.ref y.1), some (.int (t + 1)), none] [] P' ∧
      sl_st ev c s P' (sl_pt a (64, (sp_mS (N.map (·.2)) ((y.2.map (·.2)).drop i) V).map .int) :: (sl_prog ev pa N B T out ++ F)) := by
  have hN : N.length ≤ 80 := by have := hok.1; rwa [List.length_map] at this
  intro j
  induction j with
  | zero =>
    intro i hi V P hV h
    have : i = y.2.length := by omega
    subst this
    have hpr : sl_rds (sw_hp P) (sl_prog ev pa N B T out) := (sl_rds_append.mp h.rd.2).1
    obtain ⟨hb, -⟩ := sl_prog_blk hpr hy
    have e5 := jc_J2_sizeR (D := d) (by omega) hb
    obtain ⟨_, _, _, _, e6, _⟩ := sl_rd_lx hb
    rw [List.length_map] at e5
    have e2 : nI y.2.length ≤ nI y.2.length := Int32.le_refl _
    refine ⟨P, ?_, ?_⟩
    · rw [at_X2_meant_3]; simp only [at_X2_meant_4, ex_push, ex_na, ex_sta, ex_sta_n, ex_sti, ex_goto, ey_ld, sk_ld_s, ex_ic, ey_gf, sk_gf_s, sk_v_s, ey_cv1, sk_c_s, ex_ct, ey_ald, sk_ald_s, ey_cv0, ey_cv2, ey_ast, sk_ast_s, ey_inc, sk_inc_s, ex_rv, sw_gl_0, sw_gl_s, sw_fx_n, sw_fx_i, sw_fx_r, sw_fx_0, sw_fx_l, sw_fx_d, sw_sl1_0, sw_sl1_1, sw_sl1_s, sw_no_0, sw_no_s, sw_no_e, sw_mk_t, sw_mk_f, sw_mk_e, sw_en_0, sw_en_n, sw_en_i, sw_en_r, sw_en_z, sw_en_l, sw_en_d, sw_ok_0, sw_ok_1, sw_ok_2, sw_ok_3, sw_ok_4, sw_bo_s, sw_oi_s, sw_cl_s, sw_cl_x, sw_psh_s, sw_psh_n, sw_kd_s, sw_op_s, sw_oc_s, sw_oc_e, sw_oa_s, sw_el_n, sw_el_r, sl_kds_1, sl_kds_67, sw_fit_i, sw_fit_r, sw_fit_n, sw_fit_l, sw_fit_d, sw_fit_b, sw_fit_0, sw_fit_1, sw_rel_0, sw_rel_1, sw_rel_2, sw_rel_3, sw_rel_4, sw_rel_5, sw_hp_set, sw_nx_set, sw_sl_set, sw_ev_set, sw_hp_new, sw_nx_new, sw_sl_new, sw_ev_new, List.getElem?_cons_zero, List.getElem?_cons_succ, List.set_cons_zero, List.set_cons_succ, List.length_cons, List.length_nil, Nat.reduceAdd, Nat.reduceSub, Nat.reduceLT, Nat.reduceLeDiff, Nat.zero_lt_succ, Nat.zero_add, beq_self_eq_true, Bool.true_and, and_true, true_and, and_self, not_true_eq_false, not_false_eq_true, ↓reduceIte, Nat.reduceBEq, eq_self, sw_b_0, sw_b_1, decide_eq_false_iff_not, decide_eq_true_eq, sl_n10, sl_n01, Decidable.not_not, sl_ct, sl_cats_0, sl_cats_i, sl_cats_r, sl_cats_n, sl_cats_l, sl_ok_5, sl_ok9, decide_true, sp_machC, sp_nodeC, sp_opC, sl_z0, sl_z1, sl_z2, sl_z3, sl_z4, sl_z5, sl_z6, sl_z7, sl_c0, sl_c1, sl_c2, sl_c3, sl_c4, sl_c5, sl_c6, sl_c7, List.length_map, sp_lifeC, sp_inC, sp_rnC, e5, e6, e2]
    · rw [List.drop_of_length_le (by simp)]
      exact h
  | succ j ih =>
    intro i hi V P hV h
    have hlt : i < y.2.length := by omega
    have hpr : sl_rds (sw_hp P) (sl_prog ev pa N B T out) := (sl_rds_append.mp h.rd.2).1
    have h0 := h.get 0 rfl
    have hp0 := sl_rd_pt.mp (sl_rds_at hpr 0 rfl)
    obtain ⟨hb, hbs⟩ := sl_prog_blk hpr hy
    have e5 := jc_J2_sizeR (D := d) (by omega) hb
    obtain ⟨_, _, _, _, e6, _⟩ := sl_rd_lx hb
    rw [List.length_map] at e5
    have e2 : ¬ nI y.2.length ≤ nI i := nI_ge hlt (by omega)
    have ex : y.2[i]? = some y.2[i] := List.getElem?_eq_getElem hlt
    have e4 := jc_J2_get (D := d) (by omega) hb (sl_refs_at ex) (by rw [List.length_map]; omega)
    have e7 := hbs i _ ex
    have hmem : y.2[i].2 ∈ y.2.map (·.2) := List.mem_map_of_mem (List.getElem_mem hlt)
    obtain ⟨n, hn, en⟩ := hyn _ hmem
    obtain ⟨v, hv, ev'⟩ := hyv _ hmem
    have e8 := jc_X2_value (a := a) (V := V) h.bs hpr hok hV h0 81 n d (by omega) hn (by omega)
    have g := h.set 0 (64, (V.set v (sp_nv (N.map (·.2)) V 81 n)).map .int) rfl
    have t1 : (nI v).toNatClampNeg = v := nI_clamp (by omega)
    have t2 : ¬ nI v < 0 := nI_pos (by omega)
    have t3 : (nI n).toNatClampNeg = n := nI_clamp (by omega)
    obtain ⟨P', r1, r2⟩ := ih (i + 1) (by omega) (V.set v (sp_nv (N.map (·.2)) V 81 n)) _ (by rw [List.length_set]; exact hV) g
    have hdr : (y.2.map (·.2)).drop i = y.2[i].2 :: (y.2.map (·.2)).drop (i + 1) := by
      rw [List.drop_eq_getElem_cons (by simpa using hlt), List.getElem_map]
    have hst : sp_mS (N.map (·.2)) ((y.2.map (·.2)).drop i) V = sp_mS (N.map (·.2)) ((y.2.map (·.2)).drop (i + 1)) (V.set v (sp_nv (N.map (·.2)) V 81 n)) := by
      rw [hdr]
      unfold sp_mS
      rw [List.foldl_cons, en, ev', t1, t3]
    rw [← hst] at r2
    refine ⟨P', ?_, r2⟩
    rw [← r1]
    have k3 : v < V.length := by omega
    have k4 : (V.map Value.int).set v (.int (sp_nv (N.map (·.2)) V 81 n)) = (V.set v (sp_nv (N.map (·.2)) V 81 n)).map .int := by rw [List.map_set]
    rw [at_X2_meant_3]; simp only [ex_push, ex_na, ex_sta, ex_sta_n, ex_sti, ex_goto, ey_ld, sk_ld_s, ex_ic, ey_gf, sk_gf_s, sk_v_s, ey_cv1, sk_c_s, ex_ct, ey_ald, sk_ald_s, ey_cv0, ey_cv2, ey_ast, sk_ast_s, ey_inc, sk_inc_s, ex_rv, sw_gl_0, sw_gl_s, sw_fx_n, sw_fx_i, sw_fx_r, sw_fx_0, sw_fx_l, sw_fx_d, sw_sl1_0, sw_sl1_1, sw_sl1_s, sw_no_0, sw_no_s, sw_no_e, sw_mk_t, sw_mk_f, sw_mk_e, sw_en_0, sw_en_n, sw_en_i, sw_en_r, sw_en_z, sw_en_l, sw_en_d, sw_ok_0, sw_ok_1, sw_ok_2, sw_ok_3, sw_ok_4, sw_bo_s, sw_oi_s, sw_cl_s, sw_cl_x, sw_psh_s, sw_psh_n, sw_kd_s, sw_op_s, sw_oc_s, sw_oc_e, sw_oa_s, sw_el_n, sw_el_r, sl_kds_1, sl_kds_67, sw_fit_i, sw_fit_r, sw_fit_n, sw_fit_l, sw_fit_d, sw_fit_b, sw_fit_0, sw_fit_1, sw_rel_0, sw_rel_1, sw_rel_2, sw_rel_3, sw_rel_4, sw_rel_5, sw_hp_set, sw_nx_set, sw_sl_set, sw_ev_set, sw_hp_new, sw_nx_new, sw_sl_new, sw_ev_new, List.getElem?_cons_zero, List.getElem?_cons_succ, List.set_cons_zero, List.set_cons_succ, List.length_cons, List.length_nil, Nat.reduceAdd, Nat.reduceSub, Nat.reduceLT, Nat.reduceLeDiff, Nat.zero_lt_succ, Nat.zero_add, beq_self_eq_true, Bool.true_and, and_true, true_and, and_self, not_true_eq_false, not_false_eq_true, ↓reduceIte, Nat.reduceBEq, eq_self, sw_b_0, sw_b_1, decide_eq_false_iff_not, decide_eq_true_eq, sl_n10, sl_n01, Decidable.not_not, sl_ct, sl_cats_0, sl_cats_i, sl_cats_r, sl_cats_n, sl_cats_l, sl_ok_5, sl_ok9, decide_true, sp_machC, sp_nodeC, sp_opC, sl_z0, sl_z1, sl_z2, sl_z3, sl_z4, sl_z5, sl_z6, sl_z7, sl_c0, sl_c1, sl_c2, sl_c3, sl_c4, sl_c5, sl_c6, sl_c7, List.length_map, sp_lifeC, sp_inC, sp_rnC, e5, e6, e2, e4, e7, sp_stmC, en, ev', e8, h0, hp0, t1, t2, k3, k4, sl_vt64, nI_1, sl_kds_1]
theorem jc_X2_meant2 (hd : 90 ≤ d) (hok : sp_ok (N.map (·.2))) {k : Nat} {y : sp_Blk} (hy : B[k]? = some y) (hk : k < 4) (hB4 : B.length = 4) (hT : T.length = 4) {n : Nat} (hn : n < 100000) (hTn : T.getD k 0 = nI n) (hyl : y.2.length ≤ 24) (hyn : ∀ x ∈ y.2.map (·.2), ∃ j, j < N.length ∧ x.2 = nI j) (hyv : ∀ x ∈ y.2.map (·.2), ∃ v, v < 8 ∧ x.1 = nI v) : ∀ j i, i + j = n → ∀ V P, V.length = 8 → sl_st ev c s P (sl_pt a (64, V.map .int) :: (sl_prog ev pa N B T out ++ F)) →
    ∃ P', sw_at (sw_Z d) b_X2_meant 2 [some (.ref pa.1), some (.ref a), some (.int (nI k)), some (.ref y.1), some (.int (nI i)), none] [] P = sw_at (sw_Z d) b_X2_meant 1 [some (.ref pa.1), some (.ref a), some (.int (nI k + 1)), none, none, none] [] P' ∧
      sl_st ev c s P' (sl_pt a (64, (sp_rep (sp_mS (N.map (·.2)) (y.2.map (·.2))) j V).map .int) :: (sl_prog ev pa N B T out ++ F)) := by
  have t1 : (nI k).toNatClampNeg = k := nI_clamp (by omega)
  have t2 : ¬ nI k < 0 := nI_pos (by omega)
  have ht : (T.map Value.int)[k]? = some (.int (nI n)) := by
    rw [List.getElem?_map, List.getElem?_eq_getElem (by omega : k < T.length)]
    rw [List.getD_eq_getElem?_getD, List.getElem?_eq_getElem (by omega : k < T.length)] at hTn
    rw [show T[k] = nI n from hTn]; rfl
  intro j
  induction j with
  | zero =>
    intro i hi V P hV h
    have : i = n := by omega
    subst this
    have hpr : sl_rds (sw_hp P) (sl_prog ev pa N B T out) := (sl_rds_append.mp h.rd.2).1
    have hp0 := sl_rd_pt.mp (sl_rds_at hpr 0 rfl)
    have hp5 := sl_rd_pt.mp (sl_rds_at hpr 5 rfl)
    have e2 : nI i ≤ nI i := Int32.le_refl _
    refine ⟨P, ?_, h⟩
    rw [at_X2_meant_2]; simp only [at_X2_meant_5, ex_push, ex_na, ex_sta, ex_sta_n, ex_sti, ex_goto, ey_ld, sk_ld_s, ex_ic, ey_gf, sk_gf_s, sk_v_s, ey_cv1, sk_c_s, ex_ct, ey_ald, sk_ald_s, ey_cv0, ey_cv2, ey_ast, sk_ast_s, ey_inc, sk_inc_s, ex_rv, sw_gl_0, sw_gl_s, sw_fx_n, sw_fx_i, sw_fx_r, sw_fx_0, sw_fx_l, sw_fx_d, sw_sl1_0, sw_sl1_1, sw_sl1_s, sw_no_0, sw_no_s, sw_no_e, sw_mk_t, sw_mk_f, sw_mk_e, sw_en_0, sw_en_n, sw_en_i, sw_en_r, sw_en_z, sw_en_l, sw_en_d, sw_ok_0, sw_ok_1, sw_ok_2, sw_ok_3, sw_ok_4, sw_bo_s, sw_oi_s, sw_cl_s, sw_cl_x, sw_psh_s, sw_psh_n, sw_kd_s, sw_op_s, sw_oc_s, sw_oc_e, sw_oa_s, sw_el_n, sw_el_r, sl_kds_1, sl_kds_67, sw_fit_i, sw_fit_r, sw_fit_n, sw_fit_l, sw_fit_d, sw_fit_b, sw_fit_0, sw_fit_1, sw_rel_0, sw_rel_1, sw_rel_2, sw_rel_3, sw_rel_4, sw_rel_5, sw_hp_set, sw_nx_set, sw_sl_set, sw_ev_set, sw_hp_new, sw_nx_new, sw_sl_new, sw_ev_new, List.getElem?_cons_zero, List.getElem?_cons_succ, List.set_cons_zero, List.set_cons_succ, List.length_cons, List.length_nil, Nat.reduceAdd, Nat.reduceSub, Nat.reduceLT, Nat.reduceLeDiff, Nat.zero_lt_succ, Nat.zero_add, beq_self_eq_true, Bool.true_and, and_true, true_and, and_self, not_true_eq_false, not_false_eq_true, ↓reduceIte, Nat.reduceBEq, eq_self, sw_b_0, sw_b_1, decide_eq_false_iff_not, decide_eq_true_eq, sl_n10, sl_n01, Decidable.not_not, sl_ct, sl_cats_0, sl_cats_i, sl_cats_r, sl_cats_n, sl_cats_l, sl_ok_5, sl_ok9, decide_true, sp_machC, sp_nodeC, sp_opC, sl_z0, sl_z1, sl_z2, sl_z3, sl_z4, sl_z5, sl_z6, sl_z7, sl_c0, sl_c1, sl_c2, sl_c3, sl_c4, sl_c5, sl_c6, sl_c7, List.length_map, sp_lifeC, sp_inC, sp_rnC, hp0, hp5, t1, t2, ht, e2]
  | succ j ih =>
    intro i hi V P hV h
    have hpr : sl_rds (sw_hp P) (sl_prog ev pa N B T out) := (sl_rds_append.mp h.rd.2).1
    have hp0 := sl_rd_pt.mp (sl_rds_at hpr 0 rfl)
    have hp5 := sl_rd_pt.mp (sl_rds_at hpr 5 rfl)
    have e2 : ¬ nI n ≤ nI i := nI_ge (by omega) (by omega)
    obtain ⟨P1, r1, r2⟩ := jc_X2_meant3 hd hok hy hk hB4 hyl hyn hyv (nI i) y.2.length 0 (by omega) V P hV h
    rw [List.drop_zero] at r2
    obtain ⟨P', q1, q2⟩ := ih (i + 1) (by omega) _ P1 (by rw [sp_mS_len]; exact hV) r2
    refine ⟨P', ?_, q2⟩
    rw [← q1]
    rw [show (nI 0 : Int32) = 0 from rfl] at r1
    rw [← nI_1, ← r1]
    rw [at_X2_meant_2]; simp only [ex_push, ex_na, ex_sta, ex_sta_n, ex_sti, ex_goto, ey_ld, sk_ld_s, ex_ic, ey_gf, sk_gf_s, sk_v_s, ey_cv1, sk_c_s, ex_ct, ey_ald, sk_ald_s, ey_cv0, ey_cv2, ey_ast, sk_ast_s, ey_inc, sk_inc_s, ex_rv, sw_gl_0, sw_gl_s, sw_fx_n, sw_fx_i, sw_fx_r, sw_fx_0, sw_fx_l, sw_fx_d, sw_sl1_0, sw_sl1_1, sw_sl1_s, sw_no_0, sw_no_s, sw_no_e, sw_mk_t, sw_mk_f, sw_mk_e, sw_en_0, sw_en_n, sw_en_i, sw_en_r, sw_en_z, sw_en_l, sw_en_d, sw_ok_0, sw_ok_1, sw_ok_2, sw_ok_3, sw_ok_4, sw_bo_s, sw_oi_s, sw_cl_s, sw_cl_x, sw_psh_s, sw_psh_n, sw_kd_s, sw_op_s, sw_oc_s, sw_oc_e, sw_oa_s, sw_el_n, sw_el_r, sl_kds_1, sl_kds_67, sw_fit_i, sw_fit_r, sw_fit_n, sw_fit_l, sw_fit_d, sw_fit_b, sw_fit_0, sw_fit_1, sw_rel_0, sw_rel_1, sw_rel_2, sw_rel_3, sw_rel_4, sw_rel_5, sw_hp_set, sw_nx_set, sw_sl_set, sw_ev_set, sw_hp_new, sw_nx_new, sw_sl_new, sw_ev_new, List.getElem?_cons_zero, List.getElem?_cons_succ, List.set_cons_zero, List.set_cons_succ, List.length_cons, List.length_nil, Nat.reduceAdd, Nat.reduceSub, Nat.reduceLT, Nat.reduceLeDiff, Nat.zero_lt_succ, Nat.zero_add, beq_self_eq_true, Bool.true_and, and_true, true_and, and_self, not_true_eq_false, not_false_eq_true, ↓reduceIte, Nat.reduceBEq, eq_self, sw_b_0, sw_b_1, decide_eq_false_iff_not, decide_eq_true_eq, sl_n10, sl_n01, Decidable.not_not, sl_ct, sl_cats_0, sl_cats_i, sl_cats_r, sl_cats_n, sl_cats_l, sl_ok_5, sl_ok9, decide_true, sp_machC, sp_nodeC, sp_opC, sl_z0, sl_z1, sl_z2, sl_z3, sl_z4, sl_z5, sl_z6, sl_z7, sl_c0, sl_c1, sl_c2, sl_c3, sl_c4, sl_c5, sl_c6, sl_c7, List.length_map, sp_lifeC, sp_inC, sp_rnC, hp0, hp5, t1, t2, ht, e2]
theorem jc_X2_meant {D : Nat} {P : sw_P} (hD : 91 ≤ D) (hok : sp_ok (N.map (·.2))) (hB : sp_okB N.length (B.map fun y => y.2.map (·.2))) (hV : sp_okV (B.map fun y => y.2.map (·.2))) (hT : T.length = 4) (hTn : ∀ k, k < 4 → ∃ n, n < 100000 ∧ T.getD k 0 = nI n) (h : sl_st ev c s P (sl_prog ev pa N B T out ++ F)) :
    ∃ P', sw_Z D m_X2_meant [.ref pa.1] P = some (.inl (some (.ref (sw_nx P))), P') ∧ sl_st ev (c + 1) (s + 8) P' (sl_pt (sw_nx P) (64, (sp_mnt (N.map (·.2)) (B.map fun y => y.2.map (·.2)) T).map .int) :: (sl_prog ev pa N B T out ++ F)) := by
  obtain ⟨d, hDe, hDn⟩ := sw_dep hD; subst hDe; replace hD := hDn; clear hDn
  have hB4 : B.length = 4 := by have := hB.1; rwa [List.length_map] at this
  have hloop : ∀ j k, k + j = 4 → ∀ V P a, V.length = 8 → sl_st ev (c + 1) (s + 8) P (sl_pt a (64, V.map .int) :: (sl_prog ev pa N B T out ++ F)) →
    ∃ P', sw_at (sw_Z d) b_X2_meant 1 [some (.ref pa.1), some (.ref a), some (.int (nI k)), none, none, none] [] P = some (.inl (some (.ref a)), P') ∧
      sl_st ev (c + 1) (s + 8) P' (sl_pt a (64, (sp_mB (N.map (·.2)) (B.map fun y => y.2.map (·.2)) T j k V).map .int) :: (sl_prog ev pa N B T out ++ F)) := by
    intro j
    induction j with
    | zero =>
      intro k hk V P a hV h
      have : k = 4 := by omega
      subst this
      have e2 : (4 : Int32) ≤ nI 4 := by decide
      refine ⟨P, ?_, h⟩
      rw [at_X2_meant_1]; simp only [at_X2_meant_6, ex_push, ex_na, ex_sta, ex_sta_n, ex_sti, ex_goto, ey_ld, sk_ld_s, ex_ic, ey_gf, sk_gf_s, sk_v_s, ey_cv1, sk_c_s, ex_ct, ey_ald, sk_ald_s, ey_cv0, ey_cv2, ey_ast, sk_ast_s, ey_inc, sk_inc_s, ex_rv, sw_gl_0, sw_gl_s, sw_fx_n, sw_fx_i, sw_fx_r, sw_fx_0, sw_fx_l, sw_fx_d, sw_sl1_0, sw_sl1_1, sw_sl1_s, sw_no_0, sw_no_s, sw_no_e, sw_mk_t, sw_mk_f, sw_mk_e, sw_en_0, sw_en_n, sw_en_i, sw_en_r, sw_en_z, sw_en_l, sw_en_d, sw_ok_0, sw_ok_1, sw_ok_2, sw_ok_3, sw_ok_4, sw_bo_s, sw_oi_s, sw_cl_s, sw_cl_x, sw_psh_s, sw_psh_n, sw_kd_s, sw_op_s, sw_oc_s, sw_oc_e, sw_oa_s, sw_el_n, sw_el_r, sl_kds_1, sl_kds_67, sw_fit_i, sw_fit_r, sw_fit_n, sw_fit_l, sw_fit_d, sw_fit_b, sw_fit_0, sw_fit_1, sw_rel_0, sw_rel_1, sw_rel_2, sw_rel_3, sw_rel_4, sw_rel_5, sw_hp_set, sw_nx_set, sw_sl_set, sw_ev_set, sw_hp_new, sw_nx_new, sw_sl_new, sw_ev_new, List.getElem?_cons_zero, List.getElem?_cons_succ, List.set_cons_zero, List.set_cons_succ, List.length_cons, List.length_nil, Nat.reduceAdd, Nat.reduceSub, Nat.reduceLT, Nat.reduceLeDiff, Nat.zero_lt_succ, Nat.zero_add, beq_self_eq_true, Bool.true_and, and_true, true_and, and_self, not_true_eq_false, not_false_eq_true, ↓reduceIte, Nat.reduceBEq, eq_self, sw_b_0, sw_b_1, decide_eq_false_iff_not, decide_eq_true_eq, sl_n10, sl_n01, Decidable.not_not, sl_ct, sl_cats_0, sl_cats_i, sl_cats_r, sl_cats_n, sl_cats_l, sl_ok_5, sl_ok9, decide_true, sp_machC, sp_nodeC, sp_opC, sl_z0, sl_z1, sl_z2, sl_z3, sl_z4, sl_z5, sl_z6, sl_z7, sl_c0, sl_c1, sl_c2, sl_c3, sl_c4, sl_c5, sl_c6, sl_c7, List.length_map, sp_lifeC, sp_inC, sp_rnC, e2]
    | succ j ih =>
      intro k hk V P a hVl h
      have e0 : ¬ nI 4 ≤ nI k := nI_ge (by omega) (by omega)
      have e2 : ¬ (4 : Int32) ≤ nI k := e0
      have hpr : sl_rds (sw_hp P) (sl_prog ev pa N B T out) := (sl_rds_append.mp h.rd.2).1
      have hp0 := sl_rd_pt.mp (sl_rds_at hpr 0 rfl)
      obtain ⟨_, _, _, _, e3, _⟩ := sl_rd_lx (sl_rds_at hpr 3 rfl)
      have ex : B[k]? = some B[k] := List.getElem?_eq_getElem (by omega)
      have e4 := jc_J2_get (D := d) (by omega) (sl_rds_at hpr 3 rfl) (sl_refs_at ex) (by rw [List.length_map]; omega)
      obtain ⟨hb, -⟩ := sl_prog_blk hpr ex
      obtain ⟨_, _, _, _, e6, _⟩ := sl_rd_lx hb
      have hmem : B[k].2.map (·.2) ∈ B.map fun y => y.2.map (·.2) := List.mem_map_of_mem (f := fun y : sp_Blk => y.2.map (·.2)) (List.getElem_mem (by omega))
      obtain ⟨b1, b2⟩ := hB.2 _ hmem
      rw [List.length_map] at b1
      obtain ⟨n, n1, n2⟩ := hTn k (by omega)
      obtain ⟨P1, r1, r2⟩ := jc_X2_meant2 (d := d) (by omega) hok ex (by omega) hB4 hT n1 n2 b1 b2 (hV _ hmem) n 0 (by omega) V P hVl h
      obtain ⟨P', q1, q2⟩ := ih (k + 1) (by omega) _ P1 a (by rw [sp_rep_len (fun V => sp_mS_len)]; exact hVl) r2
      have hgd : (B.map fun y => y.2.map (·.2)).getD k [] = B[k].2.map (·.2) := sp_getD (by rw [List.getElem?_map, ex]; rfl)
      have hst : sp_mB (N.map (·.2)) (B.map fun y => y.2.map (·.2)) T (j + 1) k V = sp_mB (N.map (·.2)) (B.map fun y => y.2.map (·.2)) T j (k + 1) (sp_rep (sp_mS (N.map (·.2)) (B[k].2.map (·.2))) n V) := by
        show sp_mB _ _ T j (k + 1) (sp_rep (sp_mS _ ((B.map fun y => y.2.map (·.2)).getD k [])) (T.getD k 0).toNatClampNeg V) = _
        rw [hgd, n2, nI_clamp (by omega)]
      rw [← hst] at q2
      refine ⟨P', ?_, q2⟩
      rw [← q1, ← nI_1, ← r1, show (nI 0 : Int32) = 0 from rfl]
      rw [at_X2_meant_1]; simp only [ex_push, ex_na, ex_sta, ex_sta_n, ex_sti, ex_goto, ey_ld, sk_ld_s, ex_ic, ey_gf, sk_gf_s, sk_v_s, ey_cv1, sk_c_s, ex_ct, ey_ald, sk_ald_s, ey_cv0, ey_cv2, ey_ast, sk_ast_s, ey_inc, sk_inc_s, ex_rv, sw_gl_0, sw_gl_s, sw_fx_n, sw_fx_i, sw_fx_r, sw_fx_0, sw_fx_l, sw_fx_d, sw_sl1_0, sw_sl1_1, sw_sl1_s, sw_no_0, sw_no_s, sw_no_e, sw_mk_t, sw_mk_f, sw_mk_e, sw_en_0, sw_en_n, sw_en_i, sw_en_r, sw_en_z, sw_en_l, sw_en_d, sw_ok_0, sw_ok_1, sw_ok_2, sw_ok_3, sw_ok_4, sw_bo_s, sw_oi_s, sw_cl_s, sw_cl_x, sw_psh_s, sw_psh_n, sw_kd_s, sw_op_s, sw_oc_s, sw_oc_e, sw_oa_s, sw_el_n, sw_el_r, sl_kds_1, sl_kds_67, sw_fit_i, sw_fit_r, sw_fit_n, sw_fit_l, sw_fit_d, sw_fit_b, sw_fit_0, sw_fit_1, sw_rel_0, sw_rel_1, sw_rel_2, sw_rel_3, sw_rel_4, sw_rel_5, sw_hp_set, sw_nx_set, sw_sl_set, sw_ev_set, sw_hp_new, sw_nx_new, sw_sl_new, sw_ev_new, List.getElem?_cons_zero, List.getElem?_cons_succ, List.set_cons_zero, List.set_cons_succ, List.length_cons, List.length_nil, Nat.reduceAdd, Nat.reduceSub, Nat.reduceLT, Nat.reduceLeDiff, Nat.zero_lt_succ, Nat.zero_add, beq_self_eq_true, Bool.true_and, and_true, true_and, and_self, not_true_eq_false, not_false_eq_true, ↓reduceIte, Nat.reduceBEq, eq_self, sw_b_0, sw_b_1, decide_eq_false_iff_not, decide_eq_true_eq, sl_n10, sl_n01, Decidable.not_not, sl_ct, sl_cats_0, sl_cats_i, sl_cats_r, sl_cats_n, sl_cats_l, sl_ok_5, sl_ok9, decide_true, sp_machC, sp_nodeC, sp_opC, sl_z0, sl_z1, sl_z2, sl_z3, sl_z4, sl_z5, sl_z6, sl_z7, sl_c0, sl_c1, sl_c2, sl_c3, sl_c4, sl_c5, sl_c6, sl_c7, List.length_map, sp_lifeC, sp_inC, sp_rnC, hp0, e2, e3, e4, e6, sl_kds_1]
  have g := h.new (64, (List.replicate 8 (0 : Int32)).map .int)
  obtain ⟨P', r1, r2⟩ := hloop 4 0 (by omega) (List.replicate 8 0) _ (sw_nx P) rfl g
  refine ⟨P', ?_, r2⟩
  rw [show (nI 0 : Int32) = 0 from rfl] at r1
  rw [← r1]
  rw [M_X2_meant _ _ _ rfl]; simp only [at_X2_meant_0, ex_push, ex_na, ex_sta, ex_sta_n, ex_sti, ex_goto, ey_ld, sk_ld_s, ex_ic, ey_gf, sk_gf_s, sk_v_s, ey_cv1, sk_c_s, ex_ct, ey_ald, sk_ald_s, ey_cv0, ey_cv2, ey_ast, sk_ast_s, ey_inc, sk_inc_s, ex_rv, sw_gl_0, sw_gl_s, sw_fx_n, sw_fx_i, sw_fx_r, sw_fx_0, sw_fx_l, sw_fx_d, sw_sl1_0, sw_sl1_1, sw_sl1_s, sw_no_0, sw_no_s, sw_no_e, sw_mk_t, sw_mk_f, sw_mk_e, sw_en_0, sw_en_n, sw_en_i, sw_en_r, sw_en_z, sw_en_l, sw_en_d, sw_ok_0, sw_ok_1, sw_ok_2, sw_ok_3, sw_ok_4, sw_bo_s, sw_oi_s, sw_cl_s, sw_cl_x, sw_psh_s, sw_psh_n, sw_kd_s, sw_op_s, sw_oc_s, sw_oc_e, sw_oa_s, sw_el_n, sw_el_r, sl_kds_1, sl_kds_67, sw_fit_i, sw_fit_r, sw_fit_n, sw_fit_l, sw_fit_d, sw_fit_b, sw_fit_0, sw_fit_1, sw_rel_0, sw_rel_1, sw_rel_2, sw_rel_3, sw_rel_4, sw_rel_5, sw_hp_set, sw_nx_set, sw_sl_set, sw_ev_set, sw_hp_new, sw_nx_new, sw_sl_new, sw_ev_new, List.getElem?_cons_zero, List.getElem?_cons_succ, List.set_cons_zero, List.set_cons_succ, List.length_cons, List.length_nil, Nat.reduceAdd, Nat.reduceSub, Nat.reduceLT, Nat.reduceLeDiff, Nat.zero_lt_succ, Nat.zero_add, beq_self_eq_true, Bool.true_and, and_true, true_and, and_self, not_true_eq_false, not_false_eq_true, ↓reduceIte, Nat.reduceBEq, eq_self, sw_b_0, sw_b_1, decide_eq_false_iff_not, decide_eq_true_eq, sl_n10, sl_n01, Decidable.not_not, sl_ct, sl_cats_0, sl_cats_i, sl_cats_r, sl_cats_n, sl_cats_l, sl_ok_5, sl_ok9, decide_true, sp_machC, sp_nodeC, sp_opC, sl_z0, sl_z1, sl_z2, sl_z3, sl_z4, sl_z5, sl_z6, sl_z7, sl_c0, sl_c1, sl_c2, sl_c3, sl_c4, sl_c5, sl_c6, sl_c7, List.length_map, sp_lifeC, sp_inC, sp_rnC, show ((0 : Int32) ≤ 8) = True by decide, show (Int32.toNatClampNeg 8) = 8 by decide, show ((8 : Nat) ≤ 1048576) = True by decide, show sw_dv 64 = .int 0 from rfl]
  rfl
end
