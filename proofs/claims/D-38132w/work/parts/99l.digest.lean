/-! ===== the component's main class: the digest ===== -/
theorem sp_mix_app (y : Int64) (l l' : List Int32) : sp_mix y (l ++ l') = sp_mix (sp_mix y l) l' := List.foldl_append
theorem sp_mix_cons (y : Int64) (v : Int32) (l : List Int32) : sp_mix y (v :: l) = sp_mix (sp_mix y [v]) l := rfl
def sp_valV (b : sp_Bd) (v : Nat) : List Int32 := if sp_plc b.2.1 (nI v) b.2.1.length = none then [] else nI v :: sp_toldL b.1 (sp_lifeV b.2.1 (nI v))
def sp_callV (b : sp_Bd) (p : Nat) : List Int32 := if (b.1.getD p sp_oz).1 = 9 then [sp_mapT b.1 b.2.1 p 0, sp_mapT b.1 b.2.1 p 1, sp_mapT b.1 b.2.1 p 2, sp_mapT b.1 b.2.1 p 3] else []
def sp_codeV (b : sp_Bd) (k : Nat) : List Int32 := sp_toldI (b.2.2.1.getD k (0, 0, 0, 0, 0, 0, 0)) ++ [(b.2.2.1.getD k (0, 0, 0, 0, 0, 0, 0)).2.2.2.2.2.2]
def sp_ansV (q : sp_Q) (b : sp_Bd) (v : Nat) : List Int32 := if sp_has q.2.2.2.1 (nI v) = true then [sp_ans b.1 b.2.1 b.2.2.2.1 (nI v)] else []
/-- a list, by a count from a place on -/
def sp_fm (f : Nat → List Int32) : Nat → Nat → List Int32
  | 0, _ => []
  | j + 1, k => f k ++ sp_fm f j (k + 1)
def sp_dgL (q : sp_Q) (b : sp_Bd) : List Int32 := sp_fm (fun w => [sp_manyT q b w]) 16 0 ++ (sp_mnt q.1 q.2.1 q.2.2.1 ++ (sp_fm (sp_ansV q b) 8 0 ++ (sp_fm (fun p => sp_told (b.1.getD p sp_oz)) b.1.length 0 ++ (sp_fm (sp_valV b) b.2.2.2.2.1 0 ++ (sp_fm (sp_callV b) b.1.length 0 ++ sp_fm (sp_codeV b) b.2.2.1.length 0)))))
def sp_digest (q : sp_Q) (b : sp_Bd) (bs : Nat → sp_Bd) (b1 bo : sp_Bd) : Int64 := sp_mix 58132 (sp_dgL q b ++ [sp_eno bs 7 5, b1.2.2.2.1.2.2.2.2.2.2 - b.2.2.2.1.2.2.2.2.2.2, sp_manyB q.2.2.2.2.1 bo 9, sp_manyB q.2.2.2.2.1 bo 13])
section
variable {ev : Nat → Nat} {x bd mach l D d c s : Nat} {pa : sp_PA} {N : List (Nat × sp_Node)} {B : List sp_Blk} {T L : List Int32} {out : Int32} {m : sp_Mach} {b b2 : sp_Bd} {F : List sl_A} {P : sw_P}
/-- one number, mixed by way of an array -/
theorem sl_mix1 {A : List sl_A} {v : Int32} (hd : 1 ≤ d) (y : Int64) (h : sl_st ev c s P A) : sw_Z d m_X1_mix [.long y, .ref (sw_nx P)] (sw_set (sw_new P (64, [.int 0])) (sw_nx P) (64, [.int v])) = some (.inl (some (.long (sp_mix y [v]))), sw_set (sw_new P (64, [.int 0])) (sw_nx P) (64, [.int v])) ∧ sl_st ev (c + 1) (s + 1) (sw_set (sw_new P (64, [.int 0])) (sw_nx P) (64, [.int v])) A ∧ sl_st ev (c + 1) (s + 1) (sw_new P (64, [.int 0])) A := by
  have g1 := h.new (64, [.int 0])
  have g2 := g1.set 0 (64, [.int v]) rfl
  exact ⟨jc_X1_mix (l := [v]) hd (by show 1 < 1000; decide) (g2.get 0 rfl), g2.drop, g1.drop⟩
theorem sp_told_drop (o : sp_Op) {w : Nat} (hw : w < 8) : (sp_told o).drop w = (sp_told o).getD w 0 :: (sp_told o).drop (w + 1) := by
  have : w = 0 ∨ w = 1 ∨ w = 2 ∨ w = 3 ∨ w = 4 ∨ w = 5 ∨ w = 6 ∨ w = 7 := by omega
  rcases this with rfl | rfl | rfl | rfl | rfl | rfl | rfl | rfl <;> rfl
theorem sp_toldL_drop (os : List sp_Op) (y : sp_Life) {w : Nat} (hw : w < 8) : (sp_toldL os y).drop w = (sp_toldL os y).getD w 0 :: (sp_toldL os y).drop (w + 1) := by
  have : w = 0 ∨ w = 1 ∨ w = 2 ∨ w = 3 ∨ w = 4 ∨ w = 5 ∨ w = 6 ∨ w = 7 := by omega
  rcases this with rfl | rfl | rfl | rfl | rfl | rfl | rfl | rfl <;> rfl
theorem sp_toldI_drop (i : sp_In) {w : Nat} (hw : w < 6) : (sp_toldI i).drop w = (sp_toldI i).getD w 0 :: (sp_toldI i).drop (w + 1) := by
  have : w = 0 ∨ w = 1 ∨ w = 2 ∨ w = 3 ∨ w = 4 ∨ w = 5 := by omega
  rcases this with rfl | rfl | rfl | rfl | rfl | rfl <;> rfl
theorem jc_X1_mixChosen1 (hd : 6 ≤ d) (hb : sp_bok T out b) {p : Nat} (hp : p < b.1.length) : ∀ j w, w + j = 8 → ∀ c s P y, sl_st ev c s P (sl_cs ev x bd mach l pa N B T out m L b ++ F) →
    ∃ P', sw_at (sw_Z d) b_X1_mixChosen 2 [some (.ref x), none, none, some (.long y), none, some (.int (nI p)), some (.int (nI w))] [] P = sw_at (sw_Z d) b_X1_mixChosen 1 [some (.ref x), none, none, some (.long (sp_mix y ((sp_told (b.1.getD p sp_oz)).drop w))), none, some (.int (nI (p + 1))), none] [] P' ∧ sl_st ev (c + j) (s + j) P' (sl_cs ev x bd mach l pa N B T out m L b ++ F) := by
  intro j
  induction j with
  | zero =>
    intro w hw c s P y h
    have : w = 8 := by omega
    subst this
    have e1 : (7 : Int32) < nI 8 := by decide
    refine ⟨P, ?_, h⟩
    have hdr : (sp_told (b.1.getD p sp_oz)).drop 8 = [] := rfl
    rw [hdr]
    rw [at_X1_mixChosen_2]; simp only [at_X1_mixChosen_3, ey_ld, sk_ld_s, ex_stl, ex_push, ex_sti, ex_goto, ey_gf, sk_gf_s, sk_v_s, ey_cv0, sk_c_s, ex_ic, ex_na, ex_dup_i, ex_dup_r, ex_dup_n, ey_cv2, ey_ast, sk_ast_s, ey_cs2, ey_inc, sk_inc_s, ex_rv, sw_gl_0, sw_gl_s, sw_fx_n, sw_fx_i, sw_fx_r, sw_fx_0, sw_fx_l, sw_fx_d, sw_sl1_0, sw_sl1_1, sw_sl1_s, sw_no_0, sw_no_s, sw_no_e, sw_mk_t, sw_mk_f, sw_mk_e, sw_en_0, sw_en_n, sw_en_i, sw_en_r, sw_en_z, sw_en_l, sw_en_d, sw_ok_0, sw_ok_1, sw_ok_2, sw_ok_3, sw_ok_4, sw_bo_s, sw_oi_s, sw_cl_s, sw_cl_x, sw_psh_s, sw_psh_n, sw_kd_s, sw_op_s, sw_oc_s, sw_oc_e, sw_oa_s, sw_el_n, sw_el_r, sl_kds_1, sl_kds_67, sw_fit_i, sw_fit_r, sw_fit_n, sw_fit_l, sw_fit_d, sw_fit_b, sw_fit_0, sw_fit_1, sw_rel_0, sw_rel_1, sw_rel_2, sw_rel_3, sw_rel_4, sw_rel_5, sw_hp_set, sw_nx_set, sw_sl_set, sw_ev_set, sw_hp_new, sw_nx_new, sw_sl_new, sw_ev_new, List.getElem?_cons_zero, List.getElem?_cons_succ, List.set_cons_zero, List.set_cons_succ, List.length_cons, List.length_nil, Nat.reduceAdd, Nat.reduceSub, Nat.reduceLT, Nat.reduceLeDiff, Nat.zero_lt_succ, Nat.zero_add, beq_self_eq_true, Bool.true_and, and_true, true_and, and_self, not_true_eq_false, not_false_eq_true, ↓reduceIte, Nat.reduceBEq, eq_self, sw_b_0, sw_b_1, decide_eq_false_iff_not, decide_eq_true_eq, sl_n10, sl_n01, Decidable.not_not, sl_ct, sl_cats_0, sl_cats_i, sl_cats_r, sl_cats_n, sl_cats_l, sl_ok_5, sl_ok9, decide_true, sp_machC, sp_nodeC, sp_opC, sl_z0, sl_z1, sl_z2, sl_z3, sl_z4, sl_z5, sl_z6, sl_z7, sl_c0, sl_c1, sl_c2, sl_c3, sl_c4, sl_c5, sl_c6, sl_c7, List.length_map, sp_lifeC, sp_inC, sp_rnC, eq_true e1, nI_1]
    rfl
  | succ j ih =>
    intro w hw c s P y h
    have e1 : ¬ (7 : Int32) < nI w := nI_nlt (a := 7) (by omega) (by omega)
    obtain ⟨m1, m2, m3⟩ := sl_mix1 (d := d) (v := (sp_told (b.1.getD p sp_oz)).getD w 0) (by omega) y h
    obtain ⟨hx, hm, hp', ol, lv, cl, rn, ca, rq, ra, rb, rs, M, Rw, K, hF⟩ := sl_cs_rd m3
    obtain ⟨hok, -⟩ := hb.1 M Rw hF.1 hF.2.1
    have e3 := jc_X1_chosenNow (D := d) (p := p) (w := w) (by omega) hx hF hok hp (by omega)
    have hx0 := (sl_cs_rd h).1
    have fx := sl_ne_nx hx0 h.nx0
    obtain ⟨P', r1, r2⟩ := ih (w + 1) (by omega) _ _ _ (sp_mix y [(sp_told (b.1.getD p sp_oz)).getD w 0]) m2
    refine ⟨P', ?_, r2.wk (by omega) (by omega)⟩
    rw [sp_told_drop _ (by omega), show sp_mix y ((sp_told (b.1.getD p sp_oz)).getD w 0 :: (sp_told (b.1.getD p sp_oz)).drop (w + 1)) = sp_mix (sp_mix y [(sp_told (b.1.getD p sp_oz)).getD w 0]) ((sp_told (b.1.getD p sp_oz)).drop (w + 1)) from rfl, ← r1]
    rw [at_X1_mixChosen_2]; simp only [ey_ld, sk_ld_s, ex_stl, ex_push, ex_sti, ex_goto, ey_gf, sk_gf_s, sk_v_s, ey_cv0, sk_c_s, ex_ic, ex_dup_i, ex_dup_r, ex_dup_n, ey_cv2, ey_ast, sk_ast_s, ey_cs2, ey_inc, sk_inc_s, ex_rv, sw_gl_0, sw_gl_s, sw_fx_n, sw_fx_i, sw_fx_r, sw_fx_0, sw_fx_l, sw_fx_d, sw_sl1_0, sw_sl1_1, sw_sl1_s, sw_no_0, sw_no_s, sw_no_e, sw_mk_t, sw_mk_f, sw_mk_e, sw_en_0, sw_en_n, sw_en_i, sw_en_r, sw_en_z, sw_en_l, sw_en_d, sw_ok_0, sw_ok_1, sw_ok_2, sw_ok_3, sw_ok_4, sw_bo_s, sw_oi_s, sw_cl_s, sw_cl_x, sw_psh_s, sw_psh_n, sw_kd_s, sw_op_s, sw_oc_s, sw_oc_e, sw_oa_s, sw_el_n, sw_el_r, sl_kds_1, sl_kds_67, sw_fit_i, sw_fit_r, sw_fit_n, sw_fit_l, sw_fit_d, sw_fit_b, sw_fit_0, sw_fit_1, sw_rel_0, sw_rel_1, sw_rel_2, sw_rel_3, sw_rel_4, sw_rel_5, sw_hp_set, sw_nx_set, sw_sl_set, sw_ev_set, sw_hp_new, sw_nx_new, sw_sl_new, sw_ev_new, List.getElem?_cons_zero, List.getElem?_cons_succ, List.set_cons_zero, List.set_cons_succ, List.length_cons, List.length_nil, Nat.reduceAdd, Nat.reduceSub, Nat.reduceLT, Nat.reduceLeDiff, Nat.zero_lt_succ, Nat.zero_add, beq_self_eq_true, Bool.true_and, and_true, true_and, and_self, not_true_eq_false, not_false_eq_true, ↓reduceIte, Nat.reduceBEq, eq_self, sw_b_0, sw_b_1, decide_eq_false_iff_not, decide_eq_true_eq, sl_n10, sl_n01, Decidable.not_not, sl_ct, sl_cats_0, sl_cats_i, sl_cats_r, sl_cats_n, sl_cats_l, sl_ok_5, sl_ok9, decide_true, sp_machC, sp_nodeC, sp_opC, sl_z0, sl_z1, sl_z2, sl_z3, sl_z4, sl_z5, sl_z6, sl_z7, sl_c0, sl_c1, sl_c2, sl_c3, sl_c4, sl_c5, sl_c6, sl_c7, List.length_map, sp_lifeC, sp_inC, sp_rnC, ex_na64_1, sl_vt64, eq_false e1, hx0, fx, sp_xC, e3, m1, nI_1]
theorem jc_X1_mixChosen {y : Int64} (hD : 7 ≤ D) (hb : sp_bok T out b) (h : sl_st ev c s P (sl_cs ev x bd mach l pa N B T out m L b ++ F)) :
    ∃ P', sw_Z D m_X1_mixChosen [.ref x, .long y] P = some (.inl (some (.long (sp_mix y (sp_fm (fun p => sp_told (b.1.getD p sp_oz)) b.1.length 0)))), P') ∧ sl_st ev (c + 8 * b.1.length) (s + 8 * b.1.length) P' (sl_cs ev x bd mach l pa N B T out m L b ++ F) := by
  obtain ⟨d, hDe, hDn⟩ := sw_dep hD; subst hDe; replace hD := hDn; clear hDn
  have hloop : ∀ j p, p + j = b.1.length → ∀ c s P y, sl_st ev c s P (sl_cs ev x bd mach l pa N B T out m L b ++ F) →
      ∃ P', sw_at (sw_Z d) b_X1_mixChosen 1 [some (.ref x), none, none, some (.long y), none, some (.int (nI p)), none] [] P = some (.inl (some (.long (sp_mix y (sp_fm (fun p => sp_told (b.1.getD p sp_oz)) j p)))), P') ∧ sl_st ev (c + 8 * j) (s + 8 * j) P' (sl_cs ev x bd mach l pa N B T out m L b ++ F) := by
    intro j
    induction j with
    | zero =>
      intro p hp c s P y h
      obtain ⟨hx, hm, hp', ol, lv, cl, rn, ca, rq, ra, rb, rs, M, Rw, K, hF⟩ := sl_cs_rd h
      obtain ⟨k1, k2⟩ := sp_lv_olkd hF.2.2.2.2.1 (d := d) (by omega)
      have hMl : M.length = b.1.length := by rw [← hF.1, List.length_map]
      rw [hMl, ← hp] at k2
      have e2 : nI (p + 0) ≤ nI p := Int32.le_refl _
      refine ⟨P, ?_, h⟩
      rw [at_X1_mixChosen_1]; simp only [at_X1_mixChosen_4, ey_ld, sk_ld_s, ex_stl, ex_push, ex_sti, ex_goto, ey_gf, sk_gf_s, sk_v_s, ey_cv0, sk_c_s, ex_ic, ex_na, ex_dup_i, ex_dup_r, ex_dup_n, ey_cv2, ey_ast, sk_ast_s, ey_cs2, ey_inc, sk_inc_s, ex_rv, sw_gl_0, sw_gl_s, sw_fx_n, sw_fx_i, sw_fx_r, sw_fx_0, sw_fx_l, sw_fx_d, sw_sl1_0, sw_sl1_1, sw_sl1_s, sw_no_0, sw_no_s, sw_no_e, sw_mk_t, sw_mk_f, sw_mk_e, sw_en_0, sw_en_n, sw_en_i, sw_en_r, sw_en_z, sw_en_l, sw_en_d, sw_ok_0, sw_ok_1, sw_ok_2, sw_ok_3, sw_ok_4, sw_bo_s, sw_oi_s, sw_cl_s, sw_cl_x, sw_psh_s, sw_psh_n, sw_kd_s, sw_op_s, sw_oc_s, sw_oc_e, sw_oa_s, sw_el_n, sw_el_r, sl_kds_1, sl_kds_67, sw_fit_i, sw_fit_r, sw_fit_n, sw_fit_l, sw_fit_d, sw_fit_b, sw_fit_0, sw_fit_1, sw_rel_0, sw_rel_1, sw_rel_2, sw_rel_3, sw_rel_4, sw_rel_5, sw_hp_set, sw_nx_set, sw_sl_set, sw_ev_set, sw_hp_new, sw_nx_new, sw_sl_new, sw_ev_new, List.getElem?_cons_zero, List.getElem?_cons_succ, List.set_cons_zero, List.set_cons_succ, List.length_cons, List.length_nil, Nat.reduceAdd, Nat.reduceSub, Nat.reduceLT, Nat.reduceLeDiff, Nat.zero_lt_succ, Nat.zero_add, beq_self_eq_true, Bool.true_and, and_true, true_and, and_self, not_true_eq_false, not_false_eq_true, ↓reduceIte, Nat.reduceBEq, eq_self, sw_b_0, sw_b_1, decide_eq_false_iff_not, decide_eq_true_eq, sl_n10, sl_n01, Decidable.not_not, sl_ct, sl_cats_0, sl_cats_i, sl_cats_r, sl_cats_n, sl_cats_l, sl_ok_5, sl_ok9, decide_true, sp_machC, sp_nodeC, sp_opC, sl_z0, sl_z1, sl_z2, sl_z3, sl_z4, sl_z5, sl_z6, sl_z7, sl_c0, sl_c1, sl_c2, sl_c3, sl_c4, sl_c5, sl_c6, sl_c7, List.length_map, sp_lifeC, sp_inC, sp_rnC, hx, sp_xC, hF.2.2.2.1, sp_bdC, k1, k2, eq_true e2]
      rfl
    | succ j ih =>
      intro p hp c s P y h
      obtain ⟨hx, hm, hp', ol, lv, cl, rn, ca, rq, ra, rb, rs, M, Rw, K, hF⟩ := sl_cs_rd h
      obtain ⟨hok, -⟩ := hb.1 M Rw hF.1 hF.2.1
      obtain ⟨k1, k2⟩ := sp_lv_olkd hF.2.2.2.2.1 (d := d) (by omega)
      have hMl : M.length = b.1.length := by rw [← hF.1, List.length_map]
      have hM := hok.1
      rw [hMl] at k2
      have e2 : ¬ nI b.1.length ≤ nI p := nI_ge (by omega) (by omega)
      obtain ⟨P1, r1, s1⟩ := jc_X1_mixChosen1 (d := d) (p := p) (by omega) hb (by omega) 8 0 (by omega) c s P y h
      obtain ⟨P', r2, s2⟩ := ih (p + 1) (by omega) _ _ P1 _ s1
      refine ⟨P', ?_, s2.wk (by omega) (by omega)⟩
      rw [show sp_fm (fun p => sp_told (b.1.getD p sp_oz)) (j + 1) p = sp_told (b.1.getD p sp_oz) ++ sp_fm (fun p => sp_told (b.1.getD p sp_oz)) j (p + 1) from rfl, sp_mix_app, ← r2]
      rw [List.drop_zero, show (nI 0 : Int32) = 0 from rfl] at r1
      rw [← r1]
      rw [at_X1_mixChosen_1]; simp only [ey_ld, sk_ld_s, ex_stl, ex_push, ex_sti, ex_goto, ey_gf, sk_gf_s, sk_v_s, ey_cv0, sk_c_s, ex_ic, ex_na, ex_dup_i, ex_dup_r, ex_dup_n, ey_cv2, ey_ast, sk_ast_s, ey_cs2, ey_inc, sk_inc_s, ex_rv, sw_gl_0, sw_gl_s, sw_fx_n, sw_fx_i, sw_fx_r, sw_fx_0, sw_fx_l, sw_fx_d, sw_sl1_0, sw_sl1_1, sw_sl1_s, sw_no_0, sw_no_s, sw_no_e, sw_mk_t, sw_mk_f, sw_mk_e, sw_en_0, sw_en_n, sw_en_i, sw_en_r, sw_en_z, sw_en_l, sw_en_d, sw_ok_0, sw_ok_1, sw_ok_2, sw_ok_3, sw_ok_4, sw_bo_s, sw_oi_s, sw_cl_s, sw_cl_x, sw_psh_s, sw_psh_n, sw_kd_s, sw_op_s, sw_oc_s, sw_oc_e, sw_oa_s, sw_el_n, sw_el_r, sl_kds_1, sl_kds_67, sw_fit_i, sw_fit_r, sw_fit_n, sw_fit_l, sw_fit_d, sw_fit_b, sw_fit_0, sw_fit_1, sw_rel_0, sw_rel_1, sw_rel_2, sw_rel_3, sw_rel_4, sw_rel_5, sw_hp_set, sw_nx_set, sw_sl_set, sw_ev_set, sw_hp_new, sw_nx_new, sw_sl_new, sw_ev_new, List.getElem?_cons_zero, List.getElem?_cons_succ, List.set_cons_zero, List.set_cons_succ, List.length_cons, List.length_nil, Nat.reduceAdd, Nat.reduceSub, Nat.reduceLT, Nat.reduceLeDiff, Nat.zero_lt_succ, Nat.zero_add, beq_self_eq_true, Bool.true_and, and_true, true_and, and_self, not_true_eq_false, not_false_eq_true, ↓reduceIte, Nat.reduceBEq, eq_self, sw_b_0, sw_b_1, decide_eq_false_iff_not, decide_eq_true_eq, sl_n10, sl_n01, Decidable.not_not, sl_ct, sl_cats_0, sl_cats_i, sl_cats_r, sl_cats_n, sl_cats_l, sl_ok_5, sl_ok9, decide_true, sp_machC, sp_nodeC, sp_opC, sl_z0, sl_z1, sl_z2, sl_z3, sl_z4, sl_z5, sl_z6, sl_z7, sl_c0, sl_c1, sl_c2, sl_c3, sl_c4, sl_c5, sl_c6, sl_c7, List.length_map, sp_lifeC, sp_inC, sp_rnC, hx, sp_xC, hF.2.2.2.1, sp_bdC, k1, k2, eq_false e2]
  obtain ⟨P', r1, r2⟩ := hloop b.1.length 0 (by omega) c s P y h
  refine ⟨P', ?_, r2⟩
  rw [show (nI 0 : Int32) = 0 from rfl] at r1
  rw [M_X1_mixChosen _ _ _ rfl]; simp only [at_X1_mixChosen_0, ey_ld, sk_ld_s, ex_stl, ex_push, ex_sti, ex_goto, ey_gf, sk_gf_s, sk_v_s, ey_cv0, sk_c_s, ex_ic, ex_na, ex_dup_i, ex_dup_r, ex_dup_n, ey_cv2, ey_ast, sk_ast_s, ey_cs2, ey_inc, sk_inc_s, ex_rv, sw_gl_0, sw_gl_s, sw_fx_n, sw_fx_i, sw_fx_r, sw_fx_0, sw_fx_l, sw_fx_d, sw_sl1_0, sw_sl1_1, sw_sl1_s, sw_no_0, sw_no_s, sw_no_e, sw_mk_t, sw_mk_f, sw_mk_e, sw_en_0, sw_en_n, sw_en_i, sw_en_r, sw_en_z, sw_en_l, sw_en_d, sw_ok_0, sw_ok_1, sw_ok_2, sw_ok_3, sw_ok_4, sw_bo_s, sw_oi_s, sw_cl_s, sw_cl_x, sw_psh_s, sw_psh_n, sw_kd_s, sw_op_s, sw_oc_s, sw_oc_e, sw_oa_s, sw_el_n, sw_el_r, sl_kds_1, sl_kds_67, sw_fit_i, sw_fit_r, sw_fit_n, sw_fit_l, sw_fit_d, sw_fit_b, sw_fit_0, sw_fit_1, sw_rel_0, sw_rel_1, sw_rel_2, sw_rel_3, sw_rel_4, sw_rel_5, sw_hp_set, sw_nx_set, sw_sl_set, sw_ev_set, sw_hp_new, sw_nx_new, sw_sl_new, sw_ev_new, List.getElem?_cons_zero, List.getElem?_cons_succ, List.set_cons_zero, List.set_cons_succ, List.length_cons, List.length_nil, Nat.reduceAdd, Nat.reduceSub, Nat.reduceLT, Nat.reduceLeDiff, Nat.zero_lt_succ, Nat.zero_add, beq_self_eq_true, Bool.true_and, and_true, true_and, and_self, not_true_eq_false, not_false_eq_true, ↓reduceIte, Nat.reduceBEq, eq_self, sw_b_0, sw_b_1, decide_eq_false_iff_not, decide_eq_true_eq, sl_n10, sl_n01, Decidable.not_not, sl_ct, sl_cats_0, sl_cats_i, sl_cats_r, sl_cats_n, sl_cats_l, sl_ok_5, sl_ok9, decide_true, sp_machC, sp_nodeC, sp_opC, sl_z0, sl_z1, sl_z2, sl_z3, sl_z4, sl_z5, sl_z6, sl_z7, sl_c0, sl_c1, sl_c2, sl_c3, sl_c4, sl_c5, sl_c6, sl_c7, List.length_map, sp_lifeC, sp_inC, sp_rnC]
  exact r1
end
