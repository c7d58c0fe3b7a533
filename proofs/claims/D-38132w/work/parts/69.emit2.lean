/-! ===== the component's choosing: the recursion ===== -/
theorem ex_na64_0 {cf : sw_F} {B : sw_B} {r : List sw_I} {l : sw_L} {st : List Value} {P : sw_P} : sw_ex cf B (sw_na 64 :: r) l (.int 0 :: st) P = sw_ex cf B r l (.ref (sw_nx P) :: st) (sw_new P (64, [])) := (ex_na 64 0).trans (if_pos (by decide))
theorem ex_na64_1 {cf : sw_F} {B : sw_B} {r : List sw_I} {l : sw_L} {st : List Value} {P : sw_P} : sw_ex cf B (sw_na 64 :: r) l (.int 1 :: st) P = sw_ex cf B r l (.ref (sw_nx P) :: st) (sw_new P (64, [.int 0])) := (ex_na 64 1).trans (if_pos (by decide))
theorem ex_na64_2 {cf : sw_F} {B : sw_B} {r : List sw_I} {l : sw_L} {st : List Value} {P : sw_P} : sw_ex cf B (sw_na 64 :: r) l (.int 2 :: st) P = sw_ex cf B r l (.ref (sw_nx P) :: st) (sw_new P (64, [.int 0, .int 0])) := (ex_na 64 2).trans (if_pos (by decide))
theorem ex_na64_3 {cf : sw_F} {B : sw_B} {r : List sw_I} {l : sw_L} {st : List Value} {P : sw_P} : sw_ex cf B (sw_na 64 :: r) l (.int 3 :: st) P = sw_ex cf B r l (.ref (sw_nx P) :: st) (sw_new P (64, [.int 0, .int 0, .int 0])) := (ex_na 64 3).trans (if_pos (by decide))
theorem sl_vt64 (x : Int32) : sw_fit (sw_vt 64) (.int x) = true := rfl
def sl_ctx (ev : Nat → Nat) (ca : Nat) (cs : List Int32) (mach : Nat) (m : sp_Mach) (l : Nat) (L : List Int32) (pa : sp_PA) (N : List (Nat × sp_Node)) (B : List sp_Blk) (T : List Int32) (out : Int32) : List sl_A := sl_pt ca (64, cs.map .int) :: sl_pt mach (sp_machC m l) :: sl_pt l (64, L.map .int) :: sl_prog ev pa N B T out
/-- the costs are those of all nodes -/
def sp_good (ns : List sp_Node) (m : sp_Mach) (L cs : List Int32) : Prop := sp_ok ns ∧ cs.length = ns.length ∧ L.length = 8 ∧ ∀ i, sp_ix ns i → sp_cg cs i = sp_costOf ns m L cs (sp_nd ns i)
theorem sl_maxle (x : Int32) : ¬ (2147483647 : Int32) < x := by
  intro h
  have h1 := Int32.lt_iff_toInt_lt.mp h
  have h2 := Int32.toInt_le x
  have e : (2147483647 : Int32).toInt = 2147483647 := rfl
  have e2 : Int32.maxValue.toInt = 2147483647 := rfl
  omega
theorem sw_min_or (x y : Int32) : sw_min x y = x ∧ ¬ y < x ∨ sw_min x y = y ∧ y < x := by
  unfold sw_min
  by_cases h : y < x
  · exact Or.inr ⟨if_pos h, h⟩
  · exact Or.inl ⟨if_neg h, h⟩
/-- what is neither plain nor small is fused -/
theorem sp_cost_small {ns : List sp_Node} {m : sp_Mach} {L cs : List Int32} {x : sp_Node} {k : Int32} (h2 : 2 ≤ x.1) (hk : k = sp_costOf ns m L cs x) (h1 : ¬ k = sp_plainC L cs x) (h : k = sp_smallC ns m L cs x) : sp_small ns m x ≠ -1 := by
  intro e
  unfold sp_costOf at hk
  rw [if_pos h2] at hk
  have e2 : sp_smallC ns m L cs x = 2147483647 := if_pos e
  rcases sw_min_or (sp_plainC L cs x) (sw_min (sp_smallC ns m L cs x) (sp_fusedC ns m L cs x)) with ⟨q, -⟩ | ⟨q, q2⟩
  · exact h1 (hk.trans q)
  · rw [← q, ← hk, h, e2] at q2
    exact sl_maxle _ q2
theorem sp_cost_fused {ns : List sp_Node} {m : sp_Mach} {L cs : List Int32} {x : sp_Node} {k : Int32} (h2 : 2 ≤ x.1) (hk : k = sp_costOf ns m L cs x) (h1 : ¬ k = sp_plainC L cs x) (h : ¬ k = sp_smallC ns m L cs x) : sp_fused ns m x ≠ -1 := by
  intro e
  unfold sp_costOf at hk
  rw [if_pos h2] at hk
  have e2 : sp_fusedC ns m L cs x = 2147483647 := if_pos e
  rcases sw_min_or (sp_plainC L cs x) (sw_min (sp_smallC ns m L cs x) (sp_fusedC ns m L cs x)) with ⟨q, -⟩ | ⟨q, q2⟩
  · exact h1 (hk.trans q)
  · rcases sw_min_or (sp_smallC ns m L cs x) (sp_fusedC ns m L cs x) with ⟨q3, -⟩ | ⟨q3, q4⟩
    · exact h ((hk.trans q).trans q3)
    · rw [e2] at q4
      exact sl_maxle _ q4
/-- a node's parts stand ahead of it -/
theorem sp_ok_kids {ns : List sp_Node} (h : sp_ok ns) {j f : Nat} (hj : j < f + 1) (hn : j < ns.length) (h2 : 2 ≤ (sp_nd ns (nI j)).1) : (∃ q, q < f ∧ q < ns.length ∧ (sp_nd ns (nI j)).2.1 = nI q) ∧ (∃ q, q < f ∧ q < ns.length ∧ (sp_nd ns (nI j)).2.2.1 = nI q) := by
  have e : ns[j]? = some ns[j] := List.getElem?_eq_getElem hn
  rw [sp_nd_nI h.1 e] at h2 ⊢
  obtain ⟨-, h3, -⟩ := h.2 j _ e
  obtain ⟨ja, jb, g1, g2, g3, g4⟩ := h3 h2
  exact ⟨⟨ja, by omega, by omega, g3⟩, ⟨jb, by omega, by omega, g4⟩⟩
theorem sp_small_kid {ns : List sp_Node} {m : sp_Mach} {x : sp_Node} {f : Nat} (ha : ∃ q, q < f ∧ q < ns.length ∧ x.2.1 = nI q) (hb : ∃ q, q < f ∧ q < ns.length ∧ x.2.2.1 = nI q) (p : Int32) : ∃ q, q < f ∧ q < ns.length ∧ sp_other x p = nI q := by
  unfold sp_other; split <;> assumption
theorem sp_fused_kid {ns : List sp_Node} {m : sp_Mach} {x : sp_Node} {f : Nat} (hok : sp_ok ns) (ha : ∃ q, q < f ∧ q < ns.length ∧ x.2.1 = nI q) (hb : ∃ q, q < f ∧ q < ns.length ∧ x.2.2.1 = nI q) (h : sp_fused ns m x ≠ -1) : (∃ q, q < f ∧ q < ns.length ∧ (sp_nd ns (sp_fused ns m x)).2.1 = nI q) ∧ (∃ q, q < f ∧ q < ns.length ∧ (sp_nd ns (sp_fused ns m x)).2.2.1 = nI q) := by
  have key : ∀ i, (∃ q, q < f ∧ q < ns.length ∧ i = nI q) → (sp_nd ns i).1 = 4 → (∃ q, q < f ∧ q < ns.length ∧ (sp_nd ns i).2.1 = nI q) ∧ (∃ q, q < f ∧ q < ns.length ∧ (sp_nd ns i).2.2.1 = nI q) := by
    rintro i ⟨q, h1, h2, rfl⟩ h4
    exact sp_ok_kids hok (by omega) h2 (by omega)
  unfold sp_fused at h ⊢
  split at h <;> rename_i q
  · exact absurd rfl h
  · rw [if_neg q]
    split at h <;> rename_i q2
    · rw [if_pos q2]; exact key _ ha q2
    · rw [if_neg q2]
      split at h <;> rename_i q3
      · rw [if_pos q3]; exact key _ hb q3
      · exact absurd rfl h
theorem sp_kid_ix {ns : List sp_Node} {f : Nat} {i : Int32} (h : ∃ q, q < f ∧ q < ns.length ∧ i = nI q) : sp_ix ns i := by
  obtain ⟨q, -, h1, h2⟩ := h
  exact ⟨q, h1, h2⟩
section
variable {ev : Nat → Nat} {ch mach ca ol l : Nat} {pa : sp_PA} {N : List (Nat × sp_Node)} {B : List sp_Blk} {T L cs : List Int32} {out b : Int32} {m : sp_Mach} {c s : Nat} {P : sw_P} {v : Int32} {O : List (Nat × sp_Op)} {F : List sl_A}
theorem sp_EmS.cx (h : sp_EmS ev ch ol (fun v => sp_chC pa mach ca ol v b) (sl_ctx ev ca cs mach m l L pa N B T out ++ F) c s P v O) : sp_cx ev (sw_hp P) ch mach ca ol pa N B T out m L cs v b := by
  have r := h.rd
  obtain ⟨h1, -, -, h4⟩ := r
  obtain ⟨⟨g1, g2, g3, g4⟩, -⟩ := sl_rds_append.mp h4
  exact ⟨sl_rd_pt.mp h1, g4, ⟨l, sl_rd_pt.mp g2, sl_rd_pt.mp g3⟩, sl_rd_pt.mp g1⟩
theorem jc_X5_atN {D j : Nat} (hD : 5 ≤ D) (h : sp_cx ev (sw_hp P) ch mach ca ol pa N B T out m L cs v b) (hok : sp_ok (N.map (·.2))) (hj : j < N.length) : sw_Z D m_X5_at [.ref ch, .int (nI j)] P = some (.inl (some (.ref N[j].1)), P) ∧ sw_hp P N[j].1 = some (sp_nodeC ev (sp_nd (N.map (·.2)) (nI j))) := by
  obtain ⟨d, hDe, hDn⟩ := sw_dep hD; subst hDe; replace hD := hDn; clear hDn
  have hl : N.length ≤ 80 := by have := hok.1; rwa [List.length_map] at this
  have ej : N[j]? = some N[j] := List.getElem?_eq_getElem hj
  have e1 := jc_X2_at (D := d) (by omega) h.2.1 hl ej
  have e2 := sl_rd_pt.mp (sl_rds_at h.2.1 0 rfl)
  refine ⟨?_, ?_⟩
  · rw [M_X5_at _ _ _ rfl]; simp only [at_X5_at_0, ey_ld, sk_ld_s, ey_gf, sk_gf_s, sk_v_s, ey_cv1, sk_c_s, ex_rv, sw_gl_0, sw_gl_s, sw_fx_n, sw_fx_i, sw_fx_r, sw_fx_0, sw_fx_l, sw_fx_d, sw_sl1_0, sw_sl1_1, sw_sl1_s, sw_no_0, sw_no_s, sw_no_e, sw_mk_t, sw_mk_f, sw_mk_e, sw_en_0, sw_en_n, sw_en_i, sw_en_r, sw_en_z, sw_en_l, sw_en_d, sw_ok_0, sw_ok_1, sw_ok_2, sw_ok_3, sw_ok_4, sw_bo_s, sw_oi_s, sw_cl_s, sw_cl_x, sw_psh_s, sw_psh_n, sw_kd_s, sw_op_s, sw_oc_s, sw_oc_e, sw_oa_s, sw_el_n, sw_el_r, sl_kds_1, sl_kds_67, sw_fit_i, sw_fit_r, sw_fit_n, sw_fit_l, sw_fit_d, sw_fit_b, sw_fit_0, sw_fit_1, sw_rel_0, sw_rel_1, sw_rel_2, sw_rel_3, sw_rel_4, sw_rel_5, sw_hp_set, sw_nx_set, sw_sl_set, sw_ev_set, sw_hp_new, sw_nx_new, sw_sl_new, sw_ev_new, List.getElem?_cons_zero, List.getElem?_cons_succ, List.set_cons_zero, List.set_cons_succ, List.length_cons, List.length_nil, Nat.reduceAdd, Nat.reduceSub, Nat.reduceLT, Nat.reduceLeDiff, Nat.zero_lt_succ, Nat.zero_add, beq_self_eq_true, Bool.true_and, and_true, true_and, and_self, not_true_eq_false, not_false_eq_true, ↓reduceIte, Nat.reduceBEq, eq_self, sw_b_0, sw_b_1, decide_eq_false_iff_not, decide_eq_true_eq, sl_n10, sl_n01, Decidable.not_not, sl_ct, sp_machC, sp_nodeC, sp_opC, sl_z0, sl_z1, sl_z2, sl_z3, sl_z4, sl_z5, sl_z6, sl_z7, sl_c0, sl_c1, sl_c2, sl_c3, sl_c4, sl_c5, sl_c6, sl_c7, h.1, sp_chC, e1, e2]
  · rw [sp_nd_nI hok.1 (x := N[j].2) (by rw [List.getElem?_map, ej]; rfl)]
    exact sl_prog_node h.2.1 ej
/-- what is made and held during a call goes into the frame -/
theorem sp_EmS.hold {c s : Nat} {X : sl_A} {C : Int32 → sw_O} {R : List sl_A} (h : sl_st ev (c + (2 * O.length + sl_GA O.length)) (s + (9 * O.length + sl_GS O.length)) P (X :: sl_pt ch (C v) :: sl_ls ev ol (O.map fun x => .ref x.1) :: sl_all (O.map sl_opA) :: (R ++ F))) : sp_EmS ev ch ol C (R ++ (X :: F)) c s P v O :=
  h.perm (List.perm_middle (l₁ := sl_pt ch (C v) :: sl_ls ev ol (O.map fun x => .ref x.1) :: sl_all (O.map sl_opA) :: R)).symm
theorem sp_EmS.free {c s : Nat} {X : sl_A} {C : Int32 → sw_O} {R : List sl_A} (h : sp_EmS ev ch ol C (R ++ (X :: F)) c s P v O) : sl_st ev (c + (2 * O.length + sl_GA O.length)) (s + (9 * O.length + sl_GS O.length)) P (X :: sl_pt ch (C v) :: sl_ls ev ol (O.map fun x => .ref x.1) :: sl_all (O.map sl_opA) :: (R ++ F)) :=
  sl_st.perm h (List.perm_middle (a := X) (l₂ := F) (l₁ := sl_pt ch (C v) :: sl_ls ev ol (O.map fun x : Nat × sp_Op => Value.ref x.1) :: sl_all (O.map sl_opA) :: R))
theorem jc_X5_value {f D : Nat} {i : Int32} (hg : sp_good (N.map (·.2)) m L cs) (hi : ∃ q, q < f ∧ q < (N.map (·.2)).length ∧ i = nI q)
    (ih : ∀ i t D c s v O P F, (∃ q, q < f ∧ q < (N.map (·.2)).length ∧ i = nI q) → 3 * f + 14 ≤ D → O.length + (sp_em (N.map (·.2)) m L cs b f i t v).1.length < 999 → sp_EmS ev ch ol (fun v => sp_chC pa mach ca ol v b) (sl_ctx ev ca cs mach m l L pa N B T out ++ F) c s P v O → sp_EmR ev ch ol (fun v => sp_chC pa mach ca ol v b) (sl_ctx ev ca cs mach m l L pa N B T out ++ F) c s O (sp_em (N.map (·.2)) m L cs b f i t v) (sw_Z D m_X5_emit [.ref ch, .int i, .int t] P))
    (hD : 3 * f + 15 ≤ D) (hl : O.length + (sp_valW (N.map (·.2)) (sp_em (N.map (·.2)) m L cs b f) i v).1.length < 999) (h : sp_EmS ev ch ol (fun v => sp_chC pa mach ca ol v b) (sl_ctx ev ca cs mach m l L pa N B T out ++ F) c s P v O) :
    sp_EmR ev ch ol (fun v => sp_chC pa mach ca ol v b) (sl_ctx ev ca cs mach m l L pa N B T out ++ F) c s O (sp_valW (N.map (·.2)) (sp_em (N.map (·.2)) m L cs b f) i v) (sw_Z D m_X5_value [.ref ch, .int i] P) := by
  obtain ⟨d, hDe, hDn⟩ := sw_dep hD; subst hDe; replace hD := hDn; clear hDn
  have hix := sp_kid_ix hi
  obtain ⟨a, e1, e2⟩ := jc_X5_at (D := d) (by omega) h.cx hg.1 hix
  have hb := sl_st.bs h
  have e3 := jc_X16_is (D := d) (j := 1) (by omega) hb e2 (sp_ok_at hg.1 hix).1 (by decide)
  have hc := h.cx.1
  unfold sp_valW at hl ⊢
  by_cases c1 : (sp_nd (N.map (·.2)) i).1 = 1
  · rw [if_pos c1] at hl ⊢
    refine ⟨P, [], ?_, rfl, ?_⟩
    · rw [M_X5_value _ _ _ rfl]; simp only [at_X5_value_0, at_X5_value_1, at_X5_value_2, ey_ld, sk_ld_s, ey_cv1, sk_c_s, ex_gs, ex_iz, ey_gf, sk_gf_s, sk_v_s, ex_goto, ex_push, ey_cv2, ex_rv, sw_gl_0, sw_gl_s, sw_fx_n, sw_fx_i, sw_fx_r, sw_fx_0, sw_fx_l, sw_fx_d, sw_sl1_0, sw_sl1_1, sw_sl1_s, sw_no_0, sw_no_s, sw_no_e, sw_mk_t, sw_mk_f, sw_mk_e, sw_en_0, sw_en_n, sw_en_i, sw_en_r, sw_en_z, sw_en_l, sw_en_d, sw_ok_0, sw_ok_1, sw_ok_2, sw_ok_3, sw_ok_4, sw_bo_s, sw_oi_s, sw_cl_s, sw_cl_x, sw_psh_s, sw_psh_n, sw_kd_s, sw_op_s, sw_oc_s, sw_oc_e, sw_oa_s, sw_el_n, sw_el_r, sl_kds_1, sl_kds_67, sw_fit_i, sw_fit_r, sw_fit_n, sw_fit_l, sw_fit_d, sw_fit_b, sw_fit_0, sw_fit_1, sw_rel_0, sw_rel_1, sw_rel_2, sw_rel_3, sw_rel_4, sw_rel_5, sw_hp_set, sw_nx_set, sw_sl_set, sw_ev_set, sw_hp_new, sw_nx_new, sw_sl_new, sw_ev_new, List.getElem?_cons_zero, List.getElem?_cons_succ, List.set_cons_zero, List.set_cons_succ, List.length_cons, List.length_nil, Nat.reduceAdd, Nat.reduceSub, Nat.reduceLT, Nat.reduceLeDiff, Nat.zero_lt_succ, Nat.zero_add, beq_self_eq_true, Bool.true_and, and_true, true_and, and_self, not_true_eq_false, not_false_eq_true, ↓reduceIte, Nat.reduceBEq, eq_self, sw_b_0, sw_b_1, decide_eq_false_iff_not, decide_eq_true_eq, sl_n10, sl_n01, Decidable.not_not, sl_ct, sp_machC, sp_nodeC, sp_opC, sl_z0, sl_z1, sl_z2, sl_z3, sl_z4, sl_z5, sl_z6, sl_z7, sl_c0, sl_c1, sl_c2, sl_c3, sl_c4, sl_c5, sl_c6, sl_c7, hc, sp_chC, hb.1, e1, e2, e3, eq_true c1, decide_true, sw_b_t]
    · rw [List.append_nil]; exact h
  · rw [if_neg c1] at hl ⊢
    obtain ⟨P', A, r1, r2, r3⟩ := ih i (-1) d c s v O P F hi (by omega) hl h
    refine ⟨P', A, ?_, r2, r3⟩
    rw [M_X5_value _ _ _ rfl]; simp only [at_X5_value_0, at_X5_value_1, at_X5_value_2, ey_ld, sk_ld_s, ey_cv1, sk_c_s, ex_gs, ex_iz, ey_gf, sk_gf_s, sk_v_s, ex_goto, ex_push, ey_cv2, ex_rv, sw_gl_0, sw_gl_s, sw_fx_n, sw_fx_i, sw_fx_r, sw_fx_0, sw_fx_l, sw_fx_d, sw_sl1_0, sw_sl1_1, sw_sl1_s, sw_no_0, sw_no_s, sw_no_e, sw_mk_t, sw_mk_f, sw_mk_e, sw_en_0, sw_en_n, sw_en_i, sw_en_r, sw_en_z, sw_en_l, sw_en_d, sw_ok_0, sw_ok_1, sw_ok_2, sw_ok_3, sw_ok_4, sw_bo_s, sw_oi_s, sw_cl_s, sw_cl_x, sw_psh_s, sw_psh_n, sw_kd_s, sw_op_s, sw_oc_s, sw_oc_e, sw_oa_s, sw_el_n, sw_el_r, sl_kds_1, sl_kds_67, sw_fit_i, sw_fit_r, sw_fit_n, sw_fit_l, sw_fit_d, sw_fit_b, sw_fit_0, sw_fit_1, sw_rel_0, sw_rel_1, sw_rel_2, sw_rel_3, sw_rel_4, sw_rel_5, sw_hp_set, sw_nx_set, sw_sl_set, sw_ev_set, sw_hp_new, sw_nx_new, sw_sl_new, sw_ev_new, List.getElem?_cons_zero, List.getElem?_cons_succ, List.set_cons_zero, List.set_cons_succ, List.length_cons, List.length_nil, Nat.reduceAdd, Nat.reduceSub, Nat.reduceLT, Nat.reduceLeDiff, Nat.zero_lt_succ, Nat.zero_add, beq_self_eq_true, Bool.true_and, and_true, true_and, and_self, not_true_eq_false, not_false_eq_true, ↓reduceIte, Nat.reduceBEq, eq_self, sw_b_0, sw_b_1, decide_eq_false_iff_not, decide_eq_true_eq, sl_n10, sl_n01, Decidable.not_not, sl_ct, sp_machC, sp_nodeC, sp_opC, sl_z0, sl_z1, sl_z2, sl_z3, sl_z4, sl_z5, sl_z6, sl_z7, sl_c0, sl_c1, sl_c2, sl_c3, sl_c4, sl_c5, sl_c6, sl_c7, hc, sp_chC, hb.1, e1, e2, e3, eq_false c1, decide_false, sw_b_f, r1]
end
