/-! ===== the component's choosing: the whole ===== -/
theorem sl_blkA_rd {ev : Nat → Nat} {H : sl_H} {y : sp_Blk} (h : sl_rd H (sl_all (sl_blk ev y))) : sl_rd H (sl_ls ev y.1 (y.2.map fun x => .ref x.1)) ∧ ∀ (i : Nat) (x : Nat × sp_Stm), y.2[i]? = some x → H x.1 = some (sp_stmC x.2) := by
  obtain ⟨h1, h2⟩ := sl_rd_all h
  exact ⟨h1, fun i x hx => sl_rd_pt.mp (sl_rds_mem h2 _ (List.mem_map.mpr ⟨x, List.mem_of_getElem? hx, rfl⟩))⟩
theorem sl_prog_blk {ev : Nat → Nat} {H : sl_H} {pa : sp_PA} {N : List (Nat × sp_Node)} {B : List sp_Blk} {T : List Int32} {out : Int32} (h : sl_rds H (sl_prog ev pa N B T out)) {j : Nat} {y : sp_Blk} (hj : B[j]? = some y) : sl_rd H (sl_ls ev y.1 (y.2.map fun x => .ref x.1)) ∧ ∀ (i : Nat) (x : Nat × sp_Stm), y.2[i]? = some x → H x.1 = some (sp_stmC x.2) :=
  sl_blkA_rd (sl_rd_map (f := fun y => sl_all (sl_blk ev y)) (sl_rds_at h 4 rfl) hj)
/-- a statement; a block; all blocks -/
def sp_stmF (ns : List sp_Node) (m : sp_Mach) (L cs : List Int32) (b : Int32) (acc : List sp_Op × Int32) (x : sp_Stm) : List sp_Op × Int32 := (acc.1 ++ (sp_em ns m L cs b 81 x.2 x.1 acc.2).1, (sp_em ns m L cs b 81 x.2 x.1 acc.2).2.1)
def sp_blkF (ns : List sp_Node) (m : sp_Mach) (L cs : List Int32) (acc : List sp_Op × Int32) (y : Nat × List sp_Stm) : List sp_Op × Int32 := y.2.foldl (sp_stmF ns m L cs (nI y.1)) acc
def sp_chosen (ns : List sp_Node) (m : sp_Mach) (L cs : List Int32) (Bs : List (List sp_Stm)) : List sp_Op × Int32 := sw_it (fun k acc => sp_blkF ns m L cs acc (k, Bs.getD k [])) ([], 8) 4
/-- the set of the variables that are read ahead, or asked for and never written -/
def sp_entR (o : sp_Op) (w r : Int32) : Int32 := sw_it (fun v r => r ||| (if 0 < sp_cnt o.2.2.1 (nI v) ∧ sp_has w (nI v) = false then 1 <<< (nI v &&& 31) else 0)) r 8
def sp_entF (wr : Int32 × Int32) (o : sp_Op) : Int32 × Int32 := (wr.1 ||| (if o.2.1 < 8 then 1 <<< (o.2.1 &&& 31) else 0), sp_entR o wr.1 wr.2)
def sp_entry (O : List sp_Op) (out : Int32) : Int32 := (O.foldl sp_entF (0, 0)).2 ||| (out &&& ((O.foldl sp_entF (0, 0)).1 ^^^ -1))
def sp_entOps (e : Int32) : Nat → List sp_Op := sw_it (fun v l => if sp_has e (nI v) = true then l ++ [(0, nI v, [], 0, -1, 0)] else l) []
theorem sl_refs_at {α : Type} {O : List (Nat × α)} {k : Nat} {x : Nat × α} (h : O[k]? = some x) : (O.map fun x => Value.ref x.1)[k]? = some (.ref x.1) := by rw [List.getElem?_map, h]; rfl
section
variable {ev : Nat → Nat} {ch mach ca ol l : Nat} {pa : sp_PA} {N : List (Nat × sp_Node)} {B : List sp_Blk} {T L cs : List Int32} {out b : Int32} {m : sp_Mach} {F : List sl_A}
/-- which nodes a program's statements name -/
def sp_okB (n : Nat) (B : List (List sp_Stm)) : Prop := B.length = 4 ∧ ∀ y ∈ B, y.length ≤ 24 ∧ ∀ x ∈ y, ∃ j, j < n ∧ x.2 = nI j
theorem sp_stmF_len {ns : List sp_Node} : ∀ (l : List sp_Stm) (acc : List sp_Op × Int32), acc.1.length ≤ (l.foldl (sp_stmF ns m L cs b) acc).1.length
  | [], _ => Nat.le_refl _
  | x :: l, acc => Nat.le_trans (by show _ ≤ (acc.1 ++ _).length; rw [List.length_append]; omega) (sp_stmF_len l (sp_stmF ns m L cs b acc x))
theorem jc_X5_all2 {d c s k : Nat} {y : sp_Blk} (hd : 260 ≤ d) (hg : sp_good (N.map (·.2)) m L cs) (hy : B[k]? = some y) (hx : y.2.length ≤ 24 ∧ ∀ x ∈ y.2, ∃ j, j < N.length ∧ x.2.2 = nI j) : ∀ j i, i + j = y.2.length → ∀ P v O, ((y.2.map (·.2)).drop i |>.foldl (sp_stmF (N.map (·.2)) m L cs b) (O.map (·.2), v)).1.length < 999 → sp_EmS ev ch ol (fun v => sp_chC pa mach ca ol v b) (sl_ctx ev ca cs mach m l L pa N B T out ++ F) c s P v O →
    ∃ P' O', sw_at (sw_Z d) b_X5_all 2 [some (.ref ch), some (.ref y.1), some (.int (nI i)), none] [] P = sw_at (sw_Z d) b_X5_all 3 [some (.ref ch), none, none, none] [] P' ∧ O'.map (·.2) = ((y.2.map (·.2)).drop i |>.foldl (sp_stmF (N.map (·.2)) m L cs b) (O.map (·.2), v)).1 ∧ sp_EmS ev ch ol (fun v => sp_chC pa mach ca ol v b) (sl_ctx ev ca cs mach m l L pa N B T out ++ F) c s P' ((y.2.map (·.2)).drop i |>.foldl (sp_stmF (N.map (·.2)) m L cs b) (O.map (·.2), v)).2 O' := by
  intro j
  induction j with
  | zero =>
    intro i hi P v O hl h
    have : i = y.2.length := by omega
    subst this
    obtain ⟨h1, h2⟩ := sl_prog_blk h.cx.2.1 hy
    have e1 := jc_J2_sizeR (D := d) (by omega) h1
    obtain ⟨_, _, _, _, e3, _⟩ := sl_rd_lx h1
    have e2 : nI y.2.length ≤ nI y.2.length := Int32.le_refl _
    rw [List.length_map] at e1
    refine ⟨P, O, ?_, ?_, ?_⟩
    · rw [at_X5_all_2]; simp only [ey_ld, sk_ld_s, ex_push, ey_pf, sk_pf_s, sw_set_set, ex_goto, ey_gf, sk_gf_s, sk_v_s, ex_ic, ey_cv1, sk_c_s, ex_ct, ex_sta, ex_sta_n, ex_sti, ey_cv0, ey_cv2, ex_pop_i, ex_pop_r, ex_pop_n, ey_inc, sk_inc_s, ex_dup_i, ex_dup_r, ex_dup_n, ex_ii, ex_nw, ey_ci0, ey_cs2, ex_iz, ex_na, ey_ci5, ex_rv, sw_gl_0, sw_gl_s, sw_fx_n, sw_fx_i, sw_fx_r, sw_fx_0, sw_fx_l, sw_fx_d, sw_sl1_0, sw_sl1_1, sw_sl1_s, sw_no_0, sw_no_s, sw_no_e, sw_mk_t, sw_mk_f, sw_mk_e, sw_en_0, sw_en_n, sw_en_i, sw_en_r, sw_en_z, sw_en_l, sw_en_d, sw_ok_0, sw_ok_1, sw_ok_2, sw_ok_3, sw_ok_4, sw_bo_s, sw_oi_s, sw_cl_s, sw_cl_x, sw_psh_s, sw_psh_n, sw_kd_s, sw_op_s, sw_oc_s, sw_oc_e, sw_oa_s, sw_el_n, sw_el_r, sl_kds_1, sl_kds_67, sw_fit_i, sw_fit_r, sw_fit_n, sw_fit_l, sw_fit_d, sw_fit_b, sw_fit_0, sw_fit_1, sw_rel_0, sw_rel_1, sw_rel_2, sw_rel_3, sw_rel_4, sw_rel_5, sw_hp_set, sw_nx_set, sw_sl_set, sw_ev_set, sw_hp_new, sw_nx_new, sw_sl_new, sw_ev_new, List.getElem?_cons_zero, List.getElem?_cons_succ, List.set_cons_zero, List.set_cons_succ, List.length_cons, List.length_nil, Nat.reduceAdd, Nat.reduceSub, Nat.reduceLT, Nat.reduceLeDiff, Nat.zero_lt_succ, Nat.zero_add, beq_self_eq_true, Bool.true_and, and_true, true_and, and_self, not_true_eq_false, not_false_eq_true, ↓reduceIte, Nat.reduceBEq, eq_self, sw_b_0, sw_b_1, decide_eq_false_iff_not, decide_eq_true_eq, sl_n10, sl_n01, Decidable.not_not, sl_ct, sl_cats_0, sl_cats_i, sl_cats_r, sl_cats_n, sl_cats_l, sl_ok_5, sl_ok9, decide_true, sp_machC, sp_nodeC, sp_opC, sl_z0, sl_z1, sl_z2, sl_z3, sl_z4, sl_z5, sl_z6, sl_z7, sl_c0, sl_c1, sl_c2, sl_c3, sl_c4, sl_c5, sl_c6, sl_c7, e1, e2, e3]
    · rw [List.drop_of_length_le (by simp)]; rfl
    · rw [List.drop_of_length_le (by simp)]; exact h
  | succ j ih =>
    intro i hi P v O hl h
    have hlt : i < y.2.length := by omega
    obtain ⟨h1, h2⟩ := sl_prog_blk h.cx.2.1 hy
    have ex : y.2[i]? = some y.2[i] := List.getElem?_eq_getElem hlt
    have e1 := jc_J2_sizeR (D := d) (by omega) h1
    obtain ⟨_, _, _, _, e3, _⟩ := sl_rd_lx h1
    rw [List.length_map] at e1
    have e2 : ¬ nI y.2.length ≤ nI i := nI_ge hlt (by omega)
    have e4 := jc_J2_get (D := d) (by omega) h1 (sl_refs_at ex) (by rw [List.length_map]; omega)
    have e5 := h2 i _ ex
    have hc := h.cx.1
    obtain ⟨q, hq, hn⟩ := hx.2 _ (List.getElem_mem hlt)
    have hdr : (y.2.map (·.2)).drop i = y.2[i].2 :: (y.2.map (·.2)).drop (i + 1) := by
      rw [List.drop_eq_getElem_cons (by simpa using hlt), List.getElem_map]
    rw [hdr, List.foldl_cons] at hl ⊢
    have hN : N.length ≤ 80 := by have := hg.1.1; rwa [List.length_map] at this
    obtain ⟨P1, A1, r1, a1, s1⟩ := jc_X5_emit (ev := ev) (ch := ch) (mach := mach) (ca := ca) (ol := ol) (l := l) (pa := pa) (B := B) (T := T) (out := out) (b := b) hg 81 y.2[i].2.2 y.2[i].2.1 d c s v O P F ⟨q, by omega, by rw [List.length_map]; exact hq, hn⟩ (by omega) (by
      have := sp_stmF_len (ns := N.map (·.2)) (m := m) (L := L) (cs := cs) (b := b) ((y.2.map (·.2)).drop (i + 1)) (sp_stmF (N.map (·.2)) m L cs b (O.map (·.2), v) y.2[i].2)
      simp only [sp_stmF, List.length_append, List.length_map] at this
      simp only [sp_stmF] at hl
      omega) h
    have hacc : sp_stmF (N.map (·.2)) m L cs b (O.map (·.2), v) y.2[i].2 = ((O ++ A1).map (·.2), (sp_em (N.map (·.2)) m L cs b 81 y.2[i].2.2 y.2[i].2.1 v).2.1) := by
      unfold sp_stmF
      rw [List.map_append, a1]
    rw [hacc] at hl ⊢
    obtain ⟨P2, O2, r2, a2, s2⟩ := ih (i + 1) (by omega) P1 _ _ hl s1
    refine ⟨P2, O2, ?_, a2, s2⟩
    rw [← r2]
    rw [at_X5_all_2]; simp only [ey_ld, sk_ld_s, ex_push, ey_pf, sk_pf_s, sw_set_set, ex_goto, ey_gf, sk_gf_s, sk_v_s, ex_ic, ey_cv1, sk_c_s, ex_ct, ex_sta, ex_sta_n, ex_sti, ey_cv0, ey_cv2, ex_pop_i, ex_pop_r, ex_pop_n, ey_inc, sk_inc_s, ex_dup_i, ex_dup_r, ex_dup_n, ex_ii, ex_nw, ey_ci0, ey_cs2, ex_iz, ex_na, ey_ci5, ex_rv, sw_gl_0, sw_gl_s, sw_fx_n, sw_fx_i, sw_fx_r, sw_fx_0, sw_fx_l, sw_fx_d, sw_sl1_0, sw_sl1_1, sw_sl1_s, sw_no_0, sw_no_s, sw_no_e, sw_mk_t, sw_mk_f, sw_mk_e, sw_en_0, sw_en_n, sw_en_i, sw_en_r, sw_en_z, sw_en_l, sw_en_d, sw_ok_0, sw_ok_1, sw_ok_2, sw_ok_3, sw_ok_4, sw_bo_s, sw_oi_s, sw_cl_s, sw_cl_x, sw_psh_s, sw_psh_n, sw_kd_s, sw_op_s, sw_oc_s, sw_oc_e, sw_oa_s, sw_el_n, sw_el_r, sl_kds_1, sl_kds_67, sw_fit_i, sw_fit_r, sw_fit_n, sw_fit_l, sw_fit_d, sw_fit_b, sw_fit_0, sw_fit_1, sw_rel_0, sw_rel_1, sw_rel_2, sw_rel_3, sw_rel_4, sw_rel_5, sw_hp_set, sw_nx_set, sw_sl_set, sw_ev_set, sw_hp_new, sw_nx_new, sw_sl_new, sw_ev_new, List.getElem?_cons_zero, List.getElem?_cons_succ, List.set_cons_zero, List.set_cons_succ, List.length_cons, List.length_nil, Nat.reduceAdd, Nat.reduceSub, Nat.reduceLT, Nat.reduceLeDiff, Nat.zero_lt_succ, Nat.zero_add, beq_self_eq_true, Bool.true_and, and_true, true_and, and_self, not_true_eq_false, not_false_eq_true, ↓reduceIte, Nat.reduceBEq, eq_self, sw_b_0, sw_b_1, decide_eq_false_iff_not, decide_eq_true_eq, sl_n10, sl_n01, Decidable.not_not, sl_ct, sl_cats_0, sl_cats_i, sl_cats_r, sl_cats_n, sl_cats_l, sl_ok_5, sl_ok9, decide_true, sp_machC, sp_nodeC, sp_opC, sl_z0, sl_z1, sl_z2, sl_z3, sl_z4, sl_z5, sl_z6, sl_z7, sl_c0, sl_c1, sl_c2, sl_c3, sl_c4, sl_c5, sl_c6, sl_c7, e1, e2, e3, e4, e5, sp_stmC, hc, sp_chC, r1, nI_1]
theorem sp_blkF_len {ns : List sp_Node} (acc : List sp_Op × Int32) (y : Nat × List sp_Stm) : acc.1.length ≤ (sp_blkF ns m L cs acc y).1.length := sp_stmF_len _ _
theorem sp_itlen {ns : List sp_Node} {Bs : List (List sp_Stm)} (acc : List sp_Op × Int32) (k j : Nat) : (sw_it (fun k acc => sp_blkF ns m L cs acc (k, Bs.getD k [])) acc k).1.length ≤ (sw_it (fun k acc => sp_blkF ns m L cs acc (k, Bs.getD k [])) acc (k + j)).1.length := by
  induction j with
  | zero => exact Nat.le_refl _
  | succ j ih => exact Nat.le_trans ih (sp_blkF_len _ _)
theorem jc_X5_all1 {d c s : Nat} (hd : 260 ≤ d) (hg : sp_good (N.map (·.2)) m L cs) (hB : sp_okB N.length (B.map fun y => y.2.map (·.2))) (hl : (sp_chosen (N.map (·.2)) m L cs (B.map fun y => y.2.map (·.2))).1.length < 900) : ∀ j k, k + j = 4 → ∀ P O, O.map (·.2) = (sw_it (fun k acc => sp_blkF (N.map (·.2)) m L cs acc (k, (B.map fun y => y.2.map (·.2)).getD k [])) ([], 8) k).1 → sp_EmS ev ch ol (fun v => sp_chC pa mach ca ol v (nI k)) (sl_ctx ev ca cs mach m l L pa N B T out ++ F) c s P (sw_it (fun k acc => sp_blkF (N.map (·.2)) m L cs acc (k, (B.map fun y => y.2.map (·.2)).getD k [])) ([], 8) k).2 O →
    ∃ P' O', sw_at (sw_Z d) b_X5_all 1 [some (.ref ch), none, none, none] [] P = sw_at (sw_Z d) b_X5_all 4 [some (.ref ch), none, none, none] [] P' ∧ O'.map (·.2) = (sp_chosen (N.map (·.2)) m L cs (B.map fun y => y.2.map (·.2))).1 ∧ sp_EmS ev ch ol (fun v => sp_chC pa mach ca ol v (nI 4)) (sl_ctx ev ca cs mach m l L pa N B T out ++ F) c s P' (sp_chosen (N.map (·.2)) m L cs (B.map fun y => y.2.map (·.2))).2 O' := by
  intro j
  induction j with
  | zero =>
    intro k hk P O ho h
    have : k = 4 := by omega
    subst this
    have e1 : (4 : Int32) ≤ nI 4 := by decide
    have hc := h.cx.1
    refine ⟨P, O, ?_, ho, h⟩
    rw [at_X5_all_1]; simp only [ey_ld, sk_ld_s, ex_push, ey_pf, sk_pf_s, sw_set_set, ex_goto, ey_gf, sk_gf_s, sk_v_s, ex_ic, ey_cv1, sk_c_s, ex_ct, ex_sta, ex_sta_n, ex_sti, ey_cv0, ey_cv2, ex_pop_i, ex_pop_r, ex_pop_n, ey_inc, sk_inc_s, ex_dup_i, ex_dup_r, ex_dup_n, ex_ii, ex_nw, ey_ci0, ey_cs2, ex_iz, ex_na, ey_ci5, ex_rv, sw_gl_0, sw_gl_s, sw_fx_n, sw_fx_i, sw_fx_r, sw_fx_0, sw_fx_l, sw_fx_d, sw_sl1_0, sw_sl1_1, sw_sl1_s, sw_no_0, sw_no_s, sw_no_e, sw_mk_t, sw_mk_f, sw_mk_e, sw_en_0, sw_en_n, sw_en_i, sw_en_r, sw_en_z, sw_en_l, sw_en_d, sw_ok_0, sw_ok_1, sw_ok_2, sw_ok_3, sw_ok_4, sw_bo_s, sw_oi_s, sw_cl_s, sw_cl_x, sw_psh_s, sw_psh_n, sw_kd_s, sw_op_s, sw_oc_s, sw_oc_e, sw_oa_s, sw_el_n, sw_el_r, sl_kds_1, sl_kds_67, sw_fit_i, sw_fit_r, sw_fit_n, sw_fit_l, sw_fit_d, sw_fit_b, sw_fit_0, sw_fit_1, sw_rel_0, sw_rel_1, sw_rel_2, sw_rel_3, sw_rel_4, sw_rel_5, sw_hp_set, sw_nx_set, sw_sl_set, sw_ev_set, sw_hp_new, sw_nx_new, sw_sl_new, sw_ev_new, List.getElem?_cons_zero, List.getElem?_cons_succ, List.set_cons_zero, List.set_cons_succ, List.length_cons, List.length_nil, Nat.reduceAdd, Nat.reduceSub, Nat.reduceLT, Nat.reduceLeDiff, Nat.zero_lt_succ, Nat.zero_add, beq_self_eq_true, Bool.true_and, and_true, true_and, and_self, not_true_eq_false, not_false_eq_true, ↓reduceIte, Nat.reduceBEq, eq_self, sw_b_0, sw_b_1, decide_eq_false_iff_not, decide_eq_true_eq, sl_n10, sl_n01, Decidable.not_not, sl_ct, sl_cats_0, sl_cats_i, sl_cats_r, sl_cats_n, sl_cats_l, sl_ok_5, sl_ok9, decide_true, sp_machC, sp_nodeC, sp_opC, sl_z0, sl_z1, sl_z2, sl_z3, sl_z4, sl_z5, sl_z6, sl_z7, sl_c0, sl_c1, sl_c2, sl_c3, sl_c4, sl_c5, sl_c6, sl_c7, hc, sp_chC, e1]
  | succ j ih =>
    intro k hk P O ho h
    have e1 : ¬ (4 : Int32) ≤ nI k := nI_ge (b := 4) (by omega) (by omega)
    have hBl : B.length = 4 := by have := hB.1; rwa [List.length_map] at this
    have hkB : k < B.length := by omega
    have ey : B[k]? = some B[k] := List.getElem?_eq_getElem hkB
    have hyd : (B.map fun y => y.2.map (·.2)).getD k [] = B[k].2.map (·.2) := by
      rw [List.getD_eq_getElem?_getD, List.getElem?_map, ey]; rfl
    have hbl := sl_rds_at h.cx.2.1 3 rfl
    have hp := sl_rd_pt.mp (sl_rds_at h.cx.2.1 0 rfl)
    have e2 := jc_J2_get (D := d) (by omega) hbl (sl_refs_at ey) (by rw [List.length_map]; omega)
    obtain ⟨_, _, _, _, e3, _⟩ := sl_rd_lx hbl
    obtain ⟨_, _, _, _, e4, _⟩ := sl_rd_lx (sl_prog_blk h.cx.2.1 ey).1
    obtain ⟨hy1, hy2⟩ := hB.2 (B[k].2.map (·.2)) (List.mem_map.mpr ⟨B[k], List.getElem_mem hkB, rfl⟩)
    rw [List.length_map] at hy1
    have hsucc : sw_it (fun k acc => sp_blkF (N.map (·.2)) m L cs acc (k, (B.map fun y => y.2.map (·.2)).getD k [])) ([], 8) (k + 1) = (B[k].2.map (·.2)).foldl (sp_stmF (N.map (·.2)) m L cs (nI k)) (sw_it (fun k acc => sp_blkF (N.map (·.2)) m L cs acc (k, (B.map fun y => y.2.map (·.2)).getD k [])) ([], 8) k) := by
      show sp_blkF _ _ _ _ _ (k, (B.map fun y => y.2.map (·.2)).getD k []) = _
      rw [hyd]; rfl
    have hlen := sp_itlen (m := m) (L := L) (cs := cs) (ns := N.map (·.2)) (Bs := B.map fun y => y.2.map (·.2)) ([], 8) (k + 1) j
    rw [show k + 1 + j = 4 by omega] at hlen
    have hacc : (O.map (·.2), (sw_it (fun k acc => sp_blkF (N.map (·.2)) m L cs acc (k, (B.map fun y => y.2.map (·.2)).getD k [])) ([], 8) k).2) = sw_it (fun k acc => sp_blkF (N.map (·.2)) m L cs acc (k, (B.map fun y => y.2.map (·.2)).getD k [])) ([], 8) k := by rw [ho]
    obtain ⟨P1, O1, r1, a1, s1⟩ := jc_X5_all2 (b := nI k) hd hg ey ⟨hy1, fun x hx => hy2 _ (List.mem_map.mpr ⟨x, hx, rfl⟩)⟩ B[k].2.length 0 (by omega) P _ O (by
      rw [List.drop_zero, hacc, ← hsucc]
      have : (sp_chosen (N.map (·.2)) m L cs (B.map fun y => y.2.map (·.2))).1.length < 900 := hl
      unfold sp_chosen at this
      omega) h
    rw [List.drop_zero, hacc, ← hsucc] at a1 s1
    have hc1 := s1.cx.1
    have s2 := sl_st.set s1 0 (sp_chC pa mach ca ol (sw_it (fun k acc => sp_blkF (N.map (·.2)) m L cs acc (k, (B.map fun y => y.2.map (·.2)).getD k [])) ([], 8) (k + 1)).2 (nI (k + 1))) rfl
    obtain ⟨P3, O3, r3, a3, s3⟩ := ih (k + 1) (by omega) _ O1 a1 s2
    refine ⟨P3, O3, ?_, a3, s3⟩
    rw [← r3]
    have hc := h.cx.1
    have e3' : ∀ {mc arr pad}, sw_hp P pa.2.2.1 = some (24, [mc, arr, pad]) → sw_kd (sw_hp P pa.2.2.1) 24 = true := fun q => by rw [q]; rfl
    rw [at_X5_all_1]; simp only [ey_ld, sk_ld_s, ex_push, ey_pf, sk_pf_s, sw_set_set, ex_goto, ey_gf, sk_gf_s, sk_v_s, ex_ic, ey_cv1, sk_c_s, ex_ct, ex_sta, ex_sta_n, ex_sti, ey_cv0, ey_cv2, ex_pop_i, ex_pop_r, ex_pop_n, ey_inc, sk_inc_s, ex_dup_i, ex_dup_r, ex_dup_n, ex_ii, ex_nw, ey_ci0, ey_cs2, ex_iz, ex_na, ey_ci5, ex_rv, sw_gl_0, sw_gl_s, sw_fx_n, sw_fx_i, sw_fx_r, sw_fx_0, sw_fx_l, sw_fx_d, sw_sl1_0, sw_sl1_1, sw_sl1_s, sw_no_0, sw_no_s, sw_no_e, sw_mk_t, sw_mk_f, sw_mk_e, sw_en_0, sw_en_n, sw_en_i, sw_en_r, sw_en_z, sw_en_l, sw_en_d, sw_ok_0, sw_ok_1, sw_ok_2, sw_ok_3, sw_ok_4, sw_bo_s, sw_oi_s, sw_cl_s, sw_cl_x, sw_psh_s, sw_psh_n, sw_kd_s, sw_op_s, sw_oc_s, sw_oc_e, sw_oa_s, sw_el_n, sw_el_r, sl_kds_1, sl_kds_67, sw_fit_i, sw_fit_r, sw_fit_n, sw_fit_l, sw_fit_d, sw_fit_b, sw_fit_0, sw_fit_1, sw_rel_0, sw_rel_1, sw_rel_2, sw_rel_3, sw_rel_4, sw_rel_5, sw_hp_set, sw_nx_set, sw_sl_set, sw_ev_set, sw_hp_new, sw_nx_new, sw_sl_new, sw_ev_new, List.getElem?_cons_zero, List.getElem?_cons_succ, List.set_cons_zero, List.set_cons_succ, List.length_cons, List.length_nil, Nat.reduceAdd, Nat.reduceSub, Nat.reduceLT, Nat.reduceLeDiff, Nat.zero_lt_succ, Nat.zero_add, beq_self_eq_true, Bool.true_and, and_true, true_and, and_self, not_true_eq_false, not_false_eq_true, ↓reduceIte, Nat.reduceBEq, eq_self, sw_b_0, sw_b_1, decide_eq_false_iff_not, decide_eq_true_eq, sl_n10, sl_n01, Decidable.not_not, sl_ct, sl_cats_0, sl_cats_i, sl_cats_r, sl_cats_n, sl_cats_l, sl_ok_5, sl_ok9, decide_true, sp_machC, sp_nodeC, sp_opC, sl_z0, sl_z1, sl_z2, sl_z3, sl_z4, sl_z5, sl_z6, sl_z7, sl_c0, sl_c1, sl_c2, sl_c3, sl_c4, sl_c5, sl_c6, sl_c7, hc, sp_chC, e1, hp, e2, e3, e4, sl_kds_1]
    rw [show (0 : Int32) = nI 0 from rfl, r1]
    rw [at_X5_all_3]; simp only [ey_ld, sk_ld_s, ex_push, ey_pf, sk_pf_s, sw_set_set, ex_goto, ey_gf, sk_gf_s, sk_v_s, ex_ic, ey_cv1, sk_c_s, ex_ct, ex_sta, ex_sta_n, ex_sti, ey_cv0, ey_cv2, ex_pop_i, ex_pop_r, ex_pop_n, ey_inc, sk_inc_s, ex_dup_i, ex_dup_r, ex_dup_n, ex_ii, ex_nw, ey_ci0, ey_cs2, ex_iz, ex_na, ey_ci5, ex_rv, sw_gl_0, sw_gl_s, sw_fx_n, sw_fx_i, sw_fx_r, sw_fx_0, sw_fx_l, sw_fx_d, sw_sl1_0, sw_sl1_1, sw_sl1_s, sw_no_0, sw_no_s, sw_no_e, sw_mk_t, sw_mk_f, sw_mk_e, sw_en_0, sw_en_n, sw_en_i, sw_en_r, sw_en_z, sw_en_l, sw_en_d, sw_ok_0, sw_ok_1, sw_ok_2, sw_ok_3, sw_ok_4, sw_bo_s, sw_oi_s, sw_cl_s, sw_cl_x, sw_psh_s, sw_psh_n, sw_kd_s, sw_op_s, sw_oc_s, sw_oc_e, sw_oa_s, sw_el_n, sw_el_r, sl_kds_1, sl_kds_67, sw_fit_i, sw_fit_r, sw_fit_n, sw_fit_l, sw_fit_d, sw_fit_b, sw_fit_0, sw_fit_1, sw_rel_0, sw_rel_1, sw_rel_2, sw_rel_3, sw_rel_4, sw_rel_5, sw_hp_set, sw_nx_set, sw_sl_set, sw_ev_set, sw_hp_new, sw_nx_new, sw_sl_new, sw_ev_new, List.getElem?_cons_zero, List.getElem?_cons_succ, List.set_cons_zero, List.set_cons_succ, List.length_cons, List.length_nil, Nat.reduceAdd, Nat.reduceSub, Nat.reduceLT, Nat.reduceLeDiff, Nat.zero_lt_succ, Nat.zero_add, beq_self_eq_true, Bool.true_and, and_true, true_and, and_self, not_true_eq_false, not_false_eq_true, ↓reduceIte, Nat.reduceBEq, eq_self, sw_b_0, sw_b_1, decide_eq_false_iff_not, decide_eq_true_eq, sl_n10, sl_n01, Decidable.not_not, sl_ct, sl_cats_0, sl_cats_i, sl_cats_r, sl_cats_n, sl_cats_l, sl_ok_5, sl_ok9, decide_true, sp_machC, sp_nodeC, sp_opC, sl_z0, sl_z1, sl_z2, sl_z3, sl_z4, sl_z5, sl_z6, sl_z7, sl_c0, sl_c1, sl_c2, sl_c3, sl_c4, sl_c5, sl_c6, sl_c7, hc1, sp_chC, nI_1]
end
