/-! ===== the component's choosing: what is emitted for a node ===== -/
def sl_GA : Nat → Nat
  | 0 => 0
  | n + 1 => sl_GA n + sl_gA n
def sl_GS : Nat → Nat
  | 0 => 0
  | n + 1 => sl_GS n + sl_gS n
def sp_add (k t n : Int32) (rs : List Int32) (b v : Int32) : List sp_Op × Int32 × Int32 := ([(k, if t = -1 then v else t, rs, n, b, 0)], if t = -1 then v + 1 else v, if t = -1 then v else t)
def sp_valW (ns : List sp_Node) (em : Int32 → Int32 → Int32 → List sp_Op × Int32 × Int32) (j v : Int32) : List sp_Op × Int32 × Int32 := if (sp_nd ns j).1 = 1 then ([], v, (sp_nd ns j).2.1) else em j (-1) v
def sp_em (ns : List sp_Node) (m : sp_Mach) (L cs : List Int32) (b : Int32) : Nat → Int32 → Int32 → Int32 → List sp_Op × Int32 × Int32
  | 0, _, _, v => ([], v, 0)
  | f + 1, i, t, v =>
    if (sp_nd ns i).1 = 1 then sp_add 1 t 0 [(sp_nd ns i).2.1] b v
    else if (sp_nd ns i).1 = 0 then sp_add 0 t (sp_nd ns i).2.1 [] b v
    else if sp_cg cs i = sp_plainC L cs (sp_nd ns i) then
      let r1 := sp_valW ns (sp_em ns m L cs b f) (sp_nd ns i).2.1 v
      let r2 := sp_valW ns (sp_em ns m L cs b f) (sp_nd ns i).2.2.1 r1.2.1
      let r3 := sp_add (sp_opOf (sp_nd ns i)) t 0 [r1.2.2, r2.2.2] b r2.2.1
      (r1.1 ++ r2.1 ++ r3.1, r3.2)
    else if sp_cg cs i = sp_smallC ns m L cs (sp_nd ns i) then
      let p := sp_small ns m (sp_nd ns i)
      let r1 := sp_valW ns (sp_em ns m L cs b f) (sp_other (sp_nd ns i) p) v
      let r3 := sp_add 5 t (if (sp_nd ns i).1 = 3 then -(sp_nd ns p).2.1 else (sp_nd ns p).2.1) [r1.2.2] b r1.2.1
      (r1.1 ++ r3.1, r3.2)
    else
      let p := sp_fused ns m (sp_nd ns i)
      if p = (sp_nd ns i).2.2.1 then
        let r0 := sp_valW ns (sp_em ns m L cs b f) (sp_nd ns i).2.1 v
        let r1 := sp_valW ns (sp_em ns m L cs b f) (sp_nd ns p).2.1 r0.2.1
        let r2 := sp_valW ns (sp_em ns m L cs b f) (sp_nd ns p).2.2.1 r1.2.1
        let r3 := sp_add 6 t 0 [r1.2.2, r2.2.2, r0.2.2] b r2.2.1
        (r0.1 ++ r1.1 ++ r2.1 ++ r3.1, r3.2)
      else
        let r1 := sp_valW ns (sp_em ns m L cs b f) (sp_nd ns p).2.1 v
        let r2 := sp_valW ns (sp_em ns m L cs b f) (sp_nd ns p).2.2.1 r1.2.1
        let r0 := sp_valW ns (sp_em ns m L cs b f) (sp_nd ns i).2.2.1 r2.2.1
        let r3 := sp_add 6 t 0 [r1.2.2, r2.2.2, r0.2.2] b r0.2.1
        (r1.1 ++ r2.1 ++ r0.1 ++ r3.1, r3.2)
/-! many of a kind -/
theorem sl_st.push {α : Type} {ev : Nat → Nat} {c s : Nat} {P : sw_P} {A : α → sl_A} {y : α} {l : List α} {F : List sl_A} (h : sl_st ev c s P (A y :: sl_all (l.map A) :: F)) : sl_st ev c s P (sl_all ((l ++ [y]).map A) :: F) := by
  refine sl_st.flat.mpr ?_
  have h2 := sl_st.flat.mp (h.pk [1])
  rw [List.map_append, List.append_assoc]
  exact h2
def sl_opA (x : Nat × sp_Op) : sl_A := sl_ex fun r : Nat => sl_all [sl_pt x.1 (sp_opC x.2 r), sl_pt r (64, x.2.2.2.1.map .int)]
theorem sl_rd_opA {H : sl_H} {x : Nat × sp_Op} (h : sl_rd H (sl_opA x)) : sp_op H x.1 x.2 := by
  obtain ⟨r, h⟩ := sl_rd_ex.mp h
  obtain ⟨h1, h2, -⟩ := sl_rd_all h
  exact ⟨r, sl_rd_pt.mp h1, sl_rd_pt.mp h2⟩
theorem sl_st.ofopA {ev : Nat → Nat} {c s : Nat} {P : sw_P} {a r : Nat} {o : sp_Op} {F : List sl_A} (h : sl_st ev c s P (sl_pt a (sp_opC o r) :: sl_pt r (64, o.2.2.1.map .int) :: F)) : sl_st ev c s P (sl_opA (a, o) :: F) :=
  sl_st.ofex (A := fun r : Nat => sl_all [sl_pt a (sp_opC o r), sl_pt r (64, o.2.2.1.map .int)]) r (sl_st.flat.mpr h)
theorem sl_ops_el {P : sw_P} {O : List (Nat × sp_Op)} (h : sl_rd (sw_hp P) (sl_all (O.map sl_opA))) : ∀ v ∈ O.map (fun x => Value.ref x.1), sw_el P sw_k67 v = true := by
  intro v hv
  obtain ⟨x, hx, rfl⟩ := List.mem_map.mp hv
  obtain ⟨r, h1, -⟩ := sl_rd_opA (sl_rds_mem (sl_rd_all h) _ (List.mem_map.mpr ⟨x, hx, rfl⟩))
  show sw_kds _ _ = true
  rw [h1]
  exact sl_k67 _ (by decide)
theorem sl_kd_new {P : sw_P} {a : Nat} {o : sw_O} {q : Nat} {cs : List Nat} (hn : ∀ q, sw_nx P ≤ q → sw_hp P q = none) (hq : sw_kds (sw_hp P q) cs = true) : sw_kds (sw_hp (sw_new P o) q) cs = true := by
  show sw_kds (if q = sw_nx P then _ else sw_hp P q) cs = true
  rw [if_neg]
  · exact hq
  · intro e
    rw [hn q (Nat.le_of_eq e.symm)] at hq
    cases hq
theorem sl_ne_nx {P : sw_P} {a : Nat} {o : sw_O} (h : sw_hp P a = some o) (hn : ∀ q, sw_nx P ≤ q → sw_hp P q = none) : ¬ a = sw_nx P := by
  intro e
  rw [hn a (Nat.le_of_eq e.symm)] at h
  cases h
theorem jc_X7_init {D a : Nat} {P : sw_P} {k w n b : Int32} {r : Nat} (hD : 1 ≤ D) (h : sw_hp P a = some (6, [.int 0, .int 0, .null, .int 0, .int 0, .int 0])) : sw_Z D m_X7_init [.ref a, .int k, .int w, .int n, .int b, .ref r] P = some (.inl none, sw_set P a (6, [.int k, .int w, .ref r, .int n, .int b, .int 0])) := by
  obtain ⟨d, hDe, hDn⟩ := sw_dep hD; subst hDe; replace hD := hDn; clear hDn
  rw [M_X7_init _ _ _ rfl]; simp only [at_X7_init_0, ey_ld, sk_ld_s, ex_oin, ey_pf, sk_pf_s, sw_set_set, ex_ret, sw_gl_0, sw_gl_s, sw_fx_n, sw_fx_i, sw_fx_r, sw_fx_0, sw_fx_l, sw_fx_d, sw_sl1_0, sw_sl1_1, sw_sl1_s, sw_no_0, sw_no_s, sw_no_e, sw_mk_t, sw_mk_f, sw_mk_e, sw_en_0, sw_en_n, sw_en_i, sw_en_r, sw_en_z, sw_en_l, sw_en_d, sw_ok_0, sw_ok_1, sw_ok_2, sw_ok_3, sw_ok_4, sw_bo_s, sw_oi_s, sw_cl_s, sw_cl_x, sw_psh_s, sw_psh_n, sw_kd_s, sw_op_s, sw_oc_s, sw_oc_e, sw_oa_s, sw_el_n, sw_el_r, sl_kds_1, sl_kds_67, sw_fit_i, sw_fit_r, sw_fit_n, sw_fit_l, sw_fit_d, sw_fit_b, sw_fit_0, sw_fit_1, sw_rel_0, sw_rel_1, sw_rel_2, sw_rel_3, sw_rel_4, sw_rel_5, sw_hp_set, sw_nx_set, sw_sl_set, sw_ev_set, sw_hp_new, sw_nx_new, sw_sl_new, sw_ev_new, List.getElem?_cons_zero, List.getElem?_cons_succ, List.set_cons_zero, List.set_cons_succ, List.length_cons, List.length_nil, Nat.reduceAdd, Nat.reduceSub, Nat.reduceLT, Nat.reduceLeDiff, Nat.zero_lt_succ, Nat.zero_add, beq_self_eq_true, Bool.true_and, and_true, true_and, and_self, not_true_eq_false, not_false_eq_true, ↓reduceIte, Nat.reduceBEq, eq_self, sw_b_0, sw_b_1, decide_eq_false_iff_not, decide_eq_true_eq, sl_n10, sl_n01, Decidable.not_not, sl_ct, sp_machC, sp_nodeC, sp_opC, h]
section
variable {ev : Nat → Nat} {ch ol : Nat} {C : Int32 → sw_O} {R : List sl_A}
/-- while things are emitted: v values, operations O -/
def sp_EmS (ev : Nat → Nat) (ch ol : Nat) (C : Int32 → sw_O) (R : List sl_A) (c s : Nat) (P : sw_P) (v : Int32) (O : List (Nat × sp_Op)) : Prop := sl_st ev (c + (2 * O.length + sl_GA O.length)) (s + (9 * O.length + sl_GS O.length)) P (sl_pt ch (C v) :: sl_ls ev ol (O.map fun x => .ref x.1) :: sl_all (O.map sl_opA) :: R)
def sp_EmR (ev : Nat → Nat) (ch ol : Nat) (C : Int32 → sw_O) (R : List sl_A) (c s : Nat) (O : List (Nat × sp_Op)) (res : List sp_Op × Int32 × Int32) (run : Option sw_R) : Prop := ∃ P' A, run = some (.inl (some (.int res.2.2)), P') ∧ A.map (·.2) = res.1 ∧ sp_EmS ev ch ol C R c s P' res.2.1 (O ++ A)
theorem jc_X5_emit_2 {c s D r mach ca : Nat} {P : sw_P} {pa : sp_PA} {b k t n v : Int32} {rs : List Int32} {O : List (Nat × sp_Op)} (hD : 10 ≤ D) (h : sl_st ev (c + (2 * O.length + sl_GA O.length) + 1) (s + (9 * O.length + sl_GS O.length) + rs.length) P (sl_pt r (64, rs.map .int) :: sl_pt ch (sp_chC pa mach ca ol v b) :: sl_ls ev ol (O.map fun x => .ref x.1) :: sl_all (O.map sl_opA) :: R)) (hl : O.length < 999) (hr : rs.length ≤ 3) :
    sp_EmR ev ch ol (fun v => sp_chC pa mach ca ol v b) R c s O (sp_add k t n rs b v) (sw_Z D m_X5_emit_2 [.ref ch, .int k, .int t, .int n, .ref r] P) := by
  obtain ⟨d, hDe, hDn⟩ := sw_dep hD; subst hDe; replace hD := hDn; clear hDn
  have h0 := h.get 1 rfl
  have hn := h.2.2.2.1
  obtain ⟨_, _, _, _, hol, -⟩ := sl_rd_lx (h.at 2 rfl)
  have hne : ol ≠ ch := by
    intro e; subst e; rw [h0] at hol; cases hol
  have hcn := sl_ne_nx h0 hn
  -- the chooser's counter, the new operation
  have h1 := (h.set 1 (sp_chC pa mach ca ol (if t = -1 then v + 1 else v) b) rfl)
  have h2 := h1.new (sp_opC (k, if t = -1 then v else t, rs, n, b, 0) r)
  have hn1 := h1.2.2.2.1
  have hnx : sw_nx (sw_set P ch (sp_chC pa mach ca ol (if t = -1 then v + 1 else v) b)) = sw_nx P := rfl
  have e1 : sw_hp P ol = sw_hp (sw_set P ch (sp_chC pa mach ca ol (if t = -1 then v + 1 else v) b)) ol := by
    rw [sw_hp_set, if_neg hne]
  obtain ⟨P', r1, r2⟩ := jc_J2_add (D := d) (b := sw_nx P) (by omega) ((h2.pk [3]).pk [0]) (by rw [List.length_map]; omega) (sl_ops_el (h2.at 4 rfl)) (by
    have := h2.get 0 rfl
    rw [hnx] at this
    rw [this]; exact sl_k67 _ (by decide))
  have q := (r2.pk [1, 2]).ofopA (o := (k, if t = -1 then v else t, rs, n, b, 0))
  have q2 := sl_st.push (A := sl_opA) (l := O) (q.pk [0, 3])
  have r3 := q2.pk [2, 1, 0]
  refine ⟨P', [(sw_nx P, (k, if t = -1 then v else t, rs, n, b, 0))], ?_, rfl, ?_⟩
  · have hinit := jc_X7_init (D := d) (a := sw_nx P) (P := sw_new (sw_set P ch (sp_chC pa mach ca ol (if t = -1 then v + 1 else v) b)) (6, [.int 0, .int 0, .null, .int 0, .int 0, .int 0])) (k := k) (w := if t = -1 then v else t) (n := n) (b := b) (r := r) (by omega) (if_pos rfl)
    have hset := sw_set_new (sw_set P ch (sp_chC pa mach ca ol (if t = -1 then v + 1 else v) b)) 6 6 [.int 0, .int 0, .null, .int 0, .int 0, .int 0] [.int k, .int (if t = -1 then v else t), .ref r, .int n, .int b, .int 0] rfl
    rw [hnx] at hset
    rw [hset] at hinit
    have hon := sl_ne_nx hol hn
    simp only [sp_chC, sp_opC] at h0 r1 hinit
    unfold sp_add
    rw [M_X5_emit_2 _ _ _ rfl]
    by_cases ht : t = -1
    · simp only [eq_true ht, if_true] at r1 hinit
      simp only [at_X5_emit_2_0, at_X5_emit_2_1, at_X5_emit_2_2, at_X5_emit_2_3, at_X5_emit_2_4, ey_ld, sk_ld_s, ex_push, ex_ic, ey_gf, sk_gf_s, sk_v_s, ex_goto, ex_sti, ex_dup_i, ex_dup_r, ex_dup_n, ex_ii, ey_pf, sk_pf_s, sw_set_set, ex_nw, ey_ci5, sk_c_s, ey_cv1, ex_pop_i, ex_pop_r, ex_pop_n, ex_rv, sw_gl_0, sw_gl_s, sw_fx_n, sw_fx_i, sw_fx_r, sw_fx_0, sw_fx_l, sw_fx_d, sw_sl1_0, sw_sl1_1, sw_sl1_s, sw_no_0, sw_no_s, sw_no_e, sw_mk_t, sw_mk_f, sw_mk_e, sw_en_0, sw_en_n, sw_en_i, sw_en_r, sw_en_z, sw_en_l, sw_en_d, sw_ok_0, sw_ok_1, sw_ok_2, sw_ok_3, sw_ok_4, sw_bo_s, sw_oi_s, sw_cl_s, sw_cl_x, sw_psh_s, sw_psh_n, sw_kd_s, sw_op_s, sw_oc_s, sw_oc_e, sw_oa_s, sw_el_n, sw_el_r, sl_kds_1, sl_kds_67, sw_fit_i, sw_fit_r, sw_fit_n, sw_fit_l, sw_fit_d, sw_fit_b, sw_fit_0, sw_fit_1, sw_rel_0, sw_rel_1, sw_rel_2, sw_rel_3, sw_rel_4, sw_rel_5, sw_hp_set, sw_nx_set, sw_sl_set, sw_ev_set, sw_hp_new, sw_nx_new, sw_sl_new, sw_ev_new, List.getElem?_cons_zero, List.getElem?_cons_succ, List.set_cons_zero, List.set_cons_succ, List.length_cons, List.length_nil, Nat.reduceAdd, Nat.reduceSub, Nat.reduceLT, Nat.reduceLeDiff, Nat.zero_lt_succ, Nat.zero_add, beq_self_eq_true, Bool.true_and, and_true, true_and, and_self, not_true_eq_false, not_false_eq_true, ↓reduceIte, Nat.reduceBEq, eq_self, sw_b_0, sw_b_1, decide_eq_false_iff_not, decide_eq_true_eq, sl_n10, sl_n01, Decidable.not_not, sl_ct, sp_machC, sp_nodeC, sp_opC, h0, eq_true ht, sw_nx_set, hinit, r1, hon, hne, hol, hcn]
    · simp only [eq_false ht, if_false] at r1 hinit
      simp only [at_X5_emit_2_0, at_X5_emit_2_1, at_X5_emit_2_2, at_X5_emit_2_3, at_X5_emit_2_4, ey_ld, sk_ld_s, ex_push, ex_ic, ey_gf, sk_gf_s, sk_v_s, ex_goto, ex_sti, ex_dup_i, ex_dup_r, ex_dup_n, ex_ii, ey_pf, sk_pf_s, sw_set_set, ex_nw, ey_ci5, sk_c_s, ey_cv1, ex_pop_i, ex_pop_r, ex_pop_n, ex_rv, sw_gl_0, sw_gl_s, sw_fx_n, sw_fx_i, sw_fx_r, sw_fx_0, sw_fx_l, sw_fx_d, sw_sl1_0, sw_sl1_1, sw_sl1_s, sw_no_0, sw_no_s, sw_no_e, sw_mk_t, sw_mk_f, sw_mk_e, sw_en_0, sw_en_n, sw_en_i, sw_en_r, sw_en_z, sw_en_l, sw_en_d, sw_ok_0, sw_ok_1, sw_ok_2, sw_ok_3, sw_ok_4, sw_bo_s, sw_oi_s, sw_cl_s, sw_cl_x, sw_psh_s, sw_psh_n, sw_kd_s, sw_op_s, sw_oc_s, sw_oc_e, sw_oa_s, sw_el_n, sw_el_r, sl_kds_1, sl_kds_67, sw_fit_i, sw_fit_r, sw_fit_n, sw_fit_l, sw_fit_d, sw_fit_b, sw_fit_0, sw_fit_1, sw_rel_0, sw_rel_1, sw_rel_2, sw_rel_3, sw_rel_4, sw_rel_5, sw_hp_set, sw_nx_set, sw_sl_set, sw_ev_set, sw_hp_new, sw_nx_new, sw_sl_new, sw_ev_new, List.getElem?_cons_zero, List.getElem?_cons_succ, List.set_cons_zero, List.set_cons_succ, List.length_cons, List.length_nil, Nat.reduceAdd, Nat.reduceSub, Nat.reduceLT, Nat.reduceLeDiff, Nat.zero_lt_succ, Nat.zero_add, beq_self_eq_true, Bool.true_and, and_true, true_and, and_self, not_true_eq_false, not_false_eq_true, ↓reduceIte, Nat.reduceBEq, eq_self, sw_b_0, sw_b_1, decide_eq_false_iff_not, decide_eq_true_eq, sl_n10, sl_n01, Decidable.not_not, sl_ct, sp_machC, sp_nodeC, sp_opC, h0, eq_false ht, sw_nx_set, hinit, r1, hon, hne, hol, hcn, show (v + 0 : Int32) = v from Int32.add_zero v]
  · unfold sp_EmS
    rw [List.map_append (f := fun x : Nat × sp_Op => Value.ref x.1)]
    refine r3.wk ?_ ?_
    · rw [List.length_append, List.length_map]
      show _ ≤ c + (2 * (O.length + 1) + (sl_GA O.length + sl_gA O.length))
      omega
    · rw [List.length_append, List.length_map]
      show _ + 6 + _ ≤ s + (9 * (O.length + 1) + (sl_GS O.length + sl_gS O.length))
      omega
end
