/-! ===== the component's lives: slots ===== -/
def sp_tkn (Rs : List sp_Life) (k0 : Nat) (s k : Nat) : Bool := decide ((Rs.getD k sp_lz).2.2.2.2.2.2.2.2.2.1 = nI s) && sp_meets (Rs.getD k sp_lz) (Rs.getD k0 sp_lz)
/-- whether a slot is taken by one ahead -/
def sp_tks (Rs : List sp_Life) (k0 s : Nat) : Bool := (List.range k0).any (sp_tkn Rs k0 s)
def sp_sl (Rs : List sp_Life) (k0 : Nat) : Nat → Nat → Nat
  | 0, s => s
  | f + 1, s => if sp_tks Rs k0 s = true then sp_sl Rs k0 f (s + 1) else s
def sp_slotOf (Rs : List sp_Life) (k0 : Nat) : Nat := sp_sl Rs k0 (k0 + 1) 0
def sp_setO (x : sp_Life) (s : Nat) : sp_Life := (x.1, x.2.1, x.2.2.1, x.2.2.2.1, x.2.2.2.2.1, x.2.2.2.2.2.1, x.2.2.2.2.2.2.1, x.2.2.2.2.2.2.2.1, x.2.2.2.2.2.2.2.2.1, nI s, x.2.2.2.2.2.2.2.2.2.2)
def sp_gsF (os : List sp_Op) (k : Nat) (Rs : List sp_Life) : List sp_Life := if (Rs.getD k sp_lz).2.2.2.2.2.2.2.2.1 = true ∧ sp_rem os (Rs.getD k sp_lz) = false then Rs.set k (sp_setO (Rs.getD k sp_lz) (sp_slotOf Rs k)) else Rs
def sp_gs (os : List sp_Op) (Rs : List sp_Life) : Nat → List sp_Life := sw_it (sp_gsF os) Rs
def sp_cs (Rs : List sp_Life) (s : Nat) : Nat → Nat
  | 0 => 0
  | k + 1 => sp_cs Rs s k + (if nI s ≤ (Rs.getD k sp_lz).2.2.2.2.2.2.2.2.2.1 then 1 else 0)
theorem sp_cs_le (Rs : List sp_Life) (s k : Nat) : sp_cs Rs s k ≤ k := by
  induction k with
  | zero => exact Nat.le_refl _
  | succ k ih =>
    show sp_cs Rs s k + _ ≤ _
    split <;> omega
theorem sp_cs_mono (Rs : List sp_Life) (s : Nat) (hs : s < 10000) (k : Nat) : sp_cs Rs (s + 1) k ≤ sp_cs Rs s k := by
  induction k with
  | zero => exact Nat.le_refl _
  | succ k ih =>
    show sp_cs Rs (s + 1) k + _ ≤ sp_cs Rs s k + _
    by_cases h : nI (s + 1) ≤ (Rs.getD k sp_lz).2.2.2.2.2.2.2.2.2.1
    · have h2 : nI s ≤ (Rs.getD k sp_lz).2.2.2.2.2.2.2.2.2.1 := Int32.le_trans (nI_le (Nat.le_succ s) (by omega)) h
      rw [if_pos h, if_pos h2]; omega
    · rw [if_neg h]; omega
theorem sp_cs_lt (Rs : List sp_Life) (s : Nat) (hs : s < 10000) (k i : Nat) (hi : i < k) (h : (Rs.getD i sp_lz).2.2.2.2.2.2.2.2.2.1 = nI s) : sp_cs Rs (s + 1) k < sp_cs Rs s k := by
  induction k with
  | zero => omega
  | succ k ih =>
    show sp_cs Rs (s + 1) k + _ < sp_cs Rs s k + _
    by_cases e : i = k
    · subst e
      have h1 : nI s ≤ (Rs.getD i sp_lz).2.2.2.2.2.2.2.2.2.1 := by rw [h]; exact Int32.le_refl _
      have h2 : ¬ nI (s + 1) ≤ (Rs.getD i sp_lz).2.2.2.2.2.2.2.2.2.1 := by rw [h]; exact nI_ge (by omega) (by omega)
      rw [if_pos h1, if_neg h2]
      have := sp_cs_mono Rs s hs i
      omega
    · have h1 := ih (by omega)
      by_cases h3 : nI (s + 1) ≤ (Rs.getD k sp_lz).2.2.2.2.2.2.2.2.2.1
      · have h2 : nI s ≤ (Rs.getD k sp_lz).2.2.2.2.2.2.2.2.2.1 := Int32.le_trans (nI_le (Nat.le_succ s) (by omega)) h3
        rw [if_pos h3, if_pos h2]; omega
      · rw [if_neg h3]; omega
section
variable {ev : Nat → Nat} {lv ol mach rw l a b D d c s nl bl tm pg : Nat} {pa : sp_PA} {N : List (Nat × sp_Node)} {B : List sp_Blk} {M : List (Nat × sp_Op)} {Rw : sp_LR} {m : sp_Mach} {L T : List Int32} {out v g f : Int32} {P : sw_P} {x y : sp_Life} {F : List sl_A}
theorem sp_lvok_set {k : Nat} {z : Nat × sp_Life} {a' : Nat} {y : sp_Life} (hok : sp_lvok M Rw T) (hk : Rw[k]? = some z) (h1 : y.2.2.2.2.2.2.2.2.2.2 = z.2.2.2.2.2.2.2.2.2.2.2) (h2 : y.2.1 = z.2.2.1) (h3 : y.2.2.1 = z.2.2.2.1) : sp_lvok M (Rw.set k (a', y)) T := by
  obtain ⟨q1, q2, q3, q4, q5⟩ := hok
  refine ⟨q1, by rw [List.length_set]; exact q2, q3, q4, fun w hw => ?_⟩
  rcases List.mem_or_eq_of_mem_set hw with e | e
  · exact q5 w e
  · have q6 := q5 z (List.mem_of_getElem? hk)
    subst e
    dsimp only
    rw [h1, h2, h3]
    exact q6
theorem jc_X8_freeSlot {k0 : Nat} (hD : 4 ≤ D) (h : sp_lvF ev (sw_hp P) lv ol pg mach rw nl bl tm M Rw m L T out) (hok : sp_lvok M Rw T) (hk0 : k0 < Rw.length) : sw_Z D m_X8_freeSlot [.ref lv, .int (nI k0)] P = some (.inl (some (.int (nI (sp_slotOf (Rw.map (·.2)) k0)))), P) := by
  obtain ⟨d, hDe, hDn⟩ := sw_dep hD; subst hDe; replace hD := hDn; clear hDn
  obtain ⟨k1, k2⟩ := sp_lv_rwkd h (d := d) (by omega)
  have hR := hok.2.1
  obtain ⟨p1, p2, p3⟩ := sp_lv_row h hok (d := d) (by omega) hk0
  have hloop : ∀ n s f, sp_cs (Rw.map (·.2)) s k0 ≤ n → n < f → s + n < 9000 → ∀ j k, k + j = k0 → (∀ i, i < k → sp_tkn (Rw.map (·.2)) k0 s i = false) → sw_at (sw_Z d) b_X8_freeSlot 1 [some (.ref lv), some (.int (nI k0)), some (.int (nI s)), some (.int (nI k)), none] [] P = some (.inl (some (.int (nI (sp_sl (Rw.map (·.2)) k0 f s)))), P) := by
    intro n
    induction n with
    | zero =>
      intro s f hn hf hs j
      induction j with
      | zero =>
        intro k hk hi
        have : k = k0 := by omega
        subst this
        have e1 : nI k ≤ nI k := Int32.le_refl _
        have e2 : sp_tks (Rw.map (·.2)) k s = false := by
          unfold sp_tks
          rw [List.any_eq_false]
          intro i hi2
          rw [hi i (List.mem_range.mp hi2)]; decide
        have e3 : sp_sl (Rw.map (·.2)) k f s = s := by
          cases f with
          | zero => rfl
          | succ f => unfold sp_sl; rw [e2]; rfl
        rw [e3]
        rw [at_X8_freeSlot_1]; simp only [at_X8_freeSlot_8, ex_push, ex_sti, ex_goto, ey_ld, sk_ld_s, ex_ic, ey_gf, sk_gf_s, sk_v_s, ey_cv1, sk_c_s, ex_ct, ex_iz, ex_ii, ex_rv, sw_gl_0, sw_gl_s, sw_fx_n, sw_fx_i, sw_fx_r, sw_fx_0, sw_fx_l, sw_fx_d, sw_sl1_0, sw_sl1_1, sw_sl1_s, sw_no_0, sw_no_s, sw_no_e, sw_mk_t, sw_mk_f, sw_mk_e, sw_en_0, sw_en_n, sw_en_i, sw_en_r, sw_en_z, sw_en_l, sw_en_d, sw_ok_0, sw_ok_1, sw_ok_2, sw_ok_3, sw_ok_4, sw_bo_s, sw_oi_s, sw_cl_s, sw_cl_x, sw_psh_s, sw_psh_n, sw_kd_s, sw_op_s, sw_oc_s, sw_oc_e, sw_oa_s, sw_el_n, sw_el_r, sl_kds_1, sl_kds_67, sw_fit_i, sw_fit_r, sw_fit_n, sw_fit_l, sw_fit_d, sw_fit_b, sw_fit_0, sw_fit_1, sw_rel_0, sw_rel_1, sw_rel_2, sw_rel_3, sw_rel_4, sw_rel_5, sw_hp_set, sw_nx_set, sw_sl_set, sw_ev_set, sw_hp_new, sw_nx_new, sw_sl_new, sw_ev_new, List.getElem?_cons_zero, List.getElem?_cons_succ, List.set_cons_zero, List.set_cons_succ, List.length_cons, List.length_nil, Nat.reduceAdd, Nat.reduceSub, Nat.reduceLT, Nat.reduceLeDiff, Nat.zero_lt_succ, Nat.zero_add, beq_self_eq_true, Bool.true_and, and_true, true_and, and_self, not_true_eq_false, not_false_eq_true, ↓reduceIte, Nat.reduceBEq, eq_self, sw_b_0, sw_b_1, decide_eq_false_iff_not, decide_eq_true_eq, sl_n10, sl_n01, Decidable.not_not, sl_ct, sl_cats_0, sl_cats_i, sl_cats_r, sl_cats_n, sl_cats_l, sl_ok_5, sl_ok9, decide_true, sp_machC, sp_nodeC, sp_opC, sl_z0, sl_z1, sl_z2, sl_z3, sl_z4, sl_z5, sl_z6, sl_z7, sl_c0, sl_c1, sl_c2, sl_c3, sl_c4, sl_c5, sl_c6, sl_c7, List.length_map, sp_lifeC, e1]
      | succ j ihj =>
        intro k hk hi
        have e1 : ¬ nI k0 ≤ nI k := nI_ge (by omega) (by omega)
        obtain ⟨g1, g2, g3⟩ := sp_lv_row h hok (d := d) (by omega) (k := k) (by omega)
        have e2 := jc_X9_meets (D := d) (by omega) g2 p2
        by_cases c1 : ((Rw.map (·.2)).getD k sp_lz).2.2.2.2.2.2.2.2.2.1 = nI s
        · have := sp_cs_lt (Rw.map (·.2)) s (by omega) k0 k (by omega) c1
          omega
        · have e3 : sp_tkn (Rw.map (·.2)) k0 s k = false := by unfold sp_tkn; rw [decide_eq_false c1]; rfl
          have hs2 := ihj (k + 1) (by omega) (fun i hi2 => by
            rcases Nat.lt_succ_iff_lt_or_eq.mp hi2 with q | q
            · exact hi i q
            · rw [q]; exact e3)
          rw [at_X8_freeSlot_1]; simp only [at_X8_freeSlot_2, at_X8_freeSlot_3, at_X8_freeSlot_4, at_X8_freeSlot_5, at_X8_freeSlot_6, at_X8_freeSlot_7, ex_push, ex_sti, ex_goto, ey_ld, sk_ld_s, ex_ic, ey_gf, sk_gf_s, sk_v_s, ey_cv1, sk_c_s, ex_ct, ex_iz, ex_ii, ex_rv, sw_gl_0, sw_gl_s, sw_fx_n, sw_fx_i, sw_fx_r, sw_fx_0, sw_fx_l, sw_fx_d, sw_sl1_0, sw_sl1_1, sw_sl1_s, sw_no_0, sw_no_s, sw_no_e, sw_mk_t, sw_mk_f, sw_mk_e, sw_en_0, sw_en_n, sw_en_i, sw_en_r, sw_en_z, sw_en_l, sw_en_d, sw_ok_0, sw_ok_1, sw_ok_2, sw_ok_3, sw_ok_4, sw_bo_s, sw_oi_s, sw_cl_s, sw_cl_x, sw_psh_s, sw_psh_n, sw_kd_s, sw_op_s, sw_oc_s, sw_oc_e, sw_oa_s, sw_el_n, sw_el_r, sl_kds_1, sl_kds_67, sw_fit_i, sw_fit_r, sw_fit_n, sw_fit_l, sw_fit_d, sw_fit_b, sw_fit_0, sw_fit_1, sw_rel_0, sw_rel_1, sw_rel_2, sw_rel_3, sw_rel_4, sw_rel_5, sw_hp_set, sw_nx_set, sw_sl_set, sw_ev_set, sw_hp_new, sw_nx_new, sw_sl_new, sw_ev_new, List.getElem?_cons_zero, List.getElem?_cons_succ, List.set_cons_zero, List.set_cons_succ, List.length_cons, List.length_nil, Nat.reduceAdd, Nat.reduceSub, Nat.reduceLT, Nat.reduceLeDiff, Nat.zero_lt_succ, Nat.zero_add, beq_self_eq_true, Bool.true_and, and_true, true_and, and_self, not_true_eq_false, not_false_eq_true, ↓reduceIte, Nat.reduceBEq, eq_self, sw_b_0, sw_b_1, decide_eq_false_iff_not, decide_eq_true_eq, sl_n10, sl_n01, Decidable.not_not, sl_ct, sl_cats_0, sl_cats_i, sl_cats_r, sl_cats_n, sl_cats_l, sl_ok_5, sl_ok9, decide_true, sp_machC, sp_nodeC, sp_opC, sl_z0, sl_z1, sl_z2, sl_z3, sl_z4, sl_z5, sl_z6, sl_z7, sl_c0, sl_c1, sl_c2, sl_c3, sl_c4, sl_c5, sl_c6, sl_c7, List.length_map, sp_lifeC, h.1, sp_lvC, k1, e1, g1, g2, eq_false c1, sl_kds_1, nI_1, Int32.add_zero, reduceCtorEq]
          exact hs2
    | succ n ihn =>
      intro s f hn hf hs j
      induction j with
      | zero =>
        intro k hk hi
        have : k = k0 := by omega
        subst this
        have e1 : nI k ≤ nI k := Int32.le_refl _
        have e2 : sp_tks (Rw.map (·.2)) k s = false := by
          unfold sp_tks
          rw [List.any_eq_false]
          intro i hi2
          rw [hi i (List.mem_range.mp hi2)]; decide
        have e3 : sp_sl (Rw.map (·.2)) k f s = s := by
          cases f with
          | zero => rfl
          | succ f => unfold sp_sl; rw [e2]; rfl
        rw [e3]
        rw [at_X8_freeSlot_1]; simp only [at_X8_freeSlot_8, ex_push, ex_sti, ex_goto, ey_ld, sk_ld_s, ex_ic, ey_gf, sk_gf_s, sk_v_s, ey_cv1, sk_c_s, ex_ct, ex_iz, ex_ii, ex_rv, sw_gl_0, sw_gl_s, sw_fx_n, sw_fx_i, sw_fx_r, sw_fx_0, sw_fx_l, sw_fx_d, sw_sl1_0, sw_sl1_1, sw_sl1_s, sw_no_0, sw_no_s, sw_no_e, sw_mk_t, sw_mk_f, sw_mk_e, sw_en_0, sw_en_n, sw_en_i, sw_en_r, sw_en_z, sw_en_l, sw_en_d, sw_ok_0, sw_ok_1, sw_ok_2, sw_ok_3, sw_ok_4, sw_bo_s, sw_oi_s, sw_cl_s, sw_cl_x, sw_psh_s, sw_psh_n, sw_kd_s, sw_op_s, sw_oc_s, sw_oc_e, sw_oa_s, sw_el_n, sw_el_r, sl_kds_1, sl_kds_67, sw_fit_i, sw_fit_r, sw_fit_n, sw_fit_l, sw_fit_d, sw_fit_b, sw_fit_0, sw_fit_1, sw_rel_0, sw_rel_1, sw_rel_2, sw_rel_3, sw_rel_4, sw_rel_5, sw_hp_set, sw_nx_set, sw_sl_set, sw_ev_set, sw_hp_new, sw_nx_new, sw_sl_new, sw_ev_new, List.getElem?_cons_zero, List.getElem?_cons_succ, List.set_cons_zero, List.set_cons_succ, List.length_cons, List.length_nil, Nat.reduceAdd, Nat.reduceSub, Nat.reduceLT, Nat.reduceLeDiff, Nat.zero_lt_succ, Nat.zero_add, beq_self_eq_true, Bool.true_and, and_true, true_and, and_self, not_true_eq_false, not_false_eq_true, ↓reduceIte, Nat.reduceBEq, eq_self, sw_b_0, sw_b_1, decide_eq_false_iff_not, decide_eq_true_eq, sl_n10, sl_n01, Decidable.not_not, sl_ct, sl_cats_0, sl_cats_i, sl_cats_r, sl_cats_n, sl_cats_l, sl_ok_5, sl_ok9, decide_true, sp_machC, sp_nodeC, sp_opC, sl_z0, sl_z1, sl_z2, sl_z3, sl_z4, sl_z5, sl_z6, sl_z7, sl_c0, sl_c1, sl_c2, sl_c3, sl_c4, sl_c5, sl_c6, sl_c7, List.length_map, sp_lifeC, e1]
      | succ j ihj =>
        intro k hk hi
        have e1 : ¬ nI k0 ≤ nI k := nI_ge (by omega) (by omega)
        obtain ⟨g1, g2, g3⟩ := sp_lv_row h hok (d := d) (by omega) (k := k) (by omega)
        have e2 := jc_X9_meets (D := d) (by omega) g2 p2
        by_cases c1 : ((Rw.map (·.2)).getD k sp_lz).2.2.2.2.2.2.2.2.2.1 = nI s
        · cases c2 : sp_meets ((Rw.map (·.2)).getD k sp_lz) ((Rw.map (·.2)).getD k0 sp_lz)
          · have e3 : sp_tkn (Rw.map (·.2)) k0 s k = false := by unfold sp_tkn; rw [c2, Bool.and_false]
            rw [c2] at e2
            have hs2 := ihj (k + 1) (by omega) (fun i hi2 => by
              rcases Nat.lt_succ_iff_lt_or_eq.mp hi2 with q | q
              · exact hi i q
              · rw [q]; exact e3)
            rw [at_X8_freeSlot_1]; simp only [at_X8_freeSlot_2, at_X8_freeSlot_3, at_X8_freeSlot_4, at_X8_freeSlot_5, at_X8_freeSlot_6, at_X8_freeSlot_7, ex_push, ex_sti, ex_goto, ey_ld, sk_ld_s, ex_ic, ey_gf, sk_gf_s, sk_v_s, ey_cv1, sk_c_s, ex_ct, ex_iz, ex_ii, ex_rv, sw_gl_0, sw_gl_s, sw_fx_n, sw_fx_i, sw_fx_r, sw_fx_0, sw_fx_l, sw_fx_d, sw_sl1_0, sw_sl1_1, sw_sl1_s, sw_no_0, sw_no_s, sw_no_e, sw_mk_t, sw_mk_f, sw_mk_e, sw_en_0, sw_en_n, sw_en_i, sw_en_r, sw_en_z, sw_en_l, sw_en_d, sw_ok_0, sw_ok_1, sw_ok_2, sw_ok_3, sw_ok_4, sw_bo_s, sw_oi_s, sw_cl_s, sw_cl_x, sw_psh_s, sw_psh_n, sw_kd_s, sw_op_s, sw_oc_s, sw_oc_e, sw_oa_s, sw_el_n, sw_el_r, sl_kds_1, sl_kds_67, sw_fit_i, sw_fit_r, sw_fit_n, sw_fit_l, sw_fit_d, sw_fit_b, sw_fit_0, sw_fit_1, sw_rel_0, sw_rel_1, sw_rel_2, sw_rel_3, sw_rel_4, sw_rel_5, sw_hp_set, sw_nx_set, sw_sl_set, sw_ev_set, sw_hp_new, sw_nx_new, sw_sl_new, sw_ev_new, List.getElem?_cons_zero, List.getElem?_cons_succ, List.set_cons_zero, List.set_cons_succ, List.length_cons, List.length_nil, Nat.reduceAdd, Nat.reduceSub, Nat.reduceLT, Nat.reduceLeDiff, Nat.zero_lt_succ, Nat.zero_add, beq_self_eq_true, Bool.true_and, and_true, true_and, and_self, not_true_eq_false, not_false_eq_true, ↓reduceIte, Nat.reduceBEq, eq_self, sw_b_0, sw_b_1, decide_eq_false_iff_not, decide_eq_true_eq, sl_n10, sl_n01, Decidable.not_not, sl_ct, sl_cats_0, sl_cats_i, sl_cats_r, sl_cats_n, sl_cats_l, sl_ok_5, sl_ok9, decide_true, sp_machC, sp_nodeC, sp_opC, sl_z0, sl_z1, sl_z2, sl_z3, sl_z4, sl_z5, sl_z6, sl_z7, sl_c0, sl_c1, sl_c2, sl_c3, sl_c4, sl_c5, sl_c6, sl_c7, List.length_map, sp_lifeC, h.1, sp_lvC, k1, e1, g1, g2, p1, p2, e2, eq_true c1, sw_b_f, sl_kds_1, nI_1, Int32.add_zero, reduceCtorEq]
            exact hs2
          · have e3 : sp_tkn (Rw.map (·.2)) k0 s k = true := by unfold sp_tkn; rw [c2, decide_eq_true c1]; rfl
            have e4 : sp_tks (Rw.map (·.2)) k0 s = true := by
              unfold sp_tks
              rw [List.any_eq_true]
              exact ⟨k, List.mem_range.mpr (by omega), e3⟩
            have e5 := sp_cs_lt (Rw.map (·.2)) s (by omega) k0 k (by omega) c1
            obtain ⟨f, rfl⟩ : ∃ q, f = q + 1 := ⟨f - 1, by omega⟩
            have e6 : sp_sl (Rw.map (·.2)) k0 (f + 1) s = sp_sl (Rw.map (·.2)) k0 f (s + 1) := by
              show (if sp_tks (Rw.map (·.2)) k0 s = true then _ else _) = _
              rw [if_pos e4]
            rw [c2] at e2
            have hs2 := ihn (s + 1) f (by omega) (by omega) (by omega) k0 0 (by omega) (fun i hi2 => by omega)
            rw [← e6, show (nI 0 : Int32) = 0 from rfl] at hs2
            rw [at_X8_freeSlot_1]; simp only [at_X8_freeSlot_3, at_X8_freeSlot_5, at_X8_freeSlot_7, ex_push, ex_sti, ex_goto, ey_ld, sk_ld_s, ex_ic, ey_gf, sk_gf_s, sk_v_s, ey_cv1, sk_c_s, ex_ct, ex_iz, ex_ii, ex_rv, sw_gl_0, sw_gl_s, sw_fx_n, sw_fx_i, sw_fx_r, sw_fx_0, sw_fx_l, sw_fx_d, sw_sl1_0, sw_sl1_1, sw_sl1_s, sw_no_0, sw_no_s, sw_no_e, sw_mk_t, sw_mk_f, sw_mk_e, sw_en_0, sw_en_n, sw_en_i, sw_en_r, sw_en_z, sw_en_l, sw_en_d, sw_ok_0, sw_ok_1, sw_ok_2, sw_ok_3, sw_ok_4, sw_bo_s, sw_oi_s, sw_cl_s, sw_cl_x, sw_psh_s, sw_psh_n, sw_kd_s, sw_op_s, sw_oc_s, sw_oc_e, sw_oa_s, sw_el_n, sw_el_r, sl_kds_1, sl_kds_67, sw_fit_i, sw_fit_r, sw_fit_n, sw_fit_l, sw_fit_d, sw_fit_b, sw_fit_0, sw_fit_1, sw_rel_0, sw_rel_1, sw_rel_2, sw_rel_3, sw_rel_4, sw_rel_5, sw_hp_set, sw_nx_set, sw_sl_set, sw_ev_set, sw_hp_new, sw_nx_new, sw_sl_new, sw_ev_new, List.getElem?_cons_zero, List.getElem?_cons_succ, List.set_cons_zero, List.set_cons_succ, List.length_cons, List.length_nil, Nat.reduceAdd, Nat.reduceSub, Nat.reduceLT, Nat.reduceLeDiff, Nat.zero_lt_succ, Nat.zero_add, beq_self_eq_true, Bool.true_and, and_true, true_and, and_self, not_true_eq_false, not_false_eq_true, ↓reduceIte, Nat.reduceBEq, eq_self, sw_b_0, sw_b_1, decide_eq_false_iff_not, decide_eq_true_eq, sl_n10, sl_n01, Decidable.not_not, sl_ct, sl_cats_0, sl_cats_i, sl_cats_r, sl_cats_n, sl_cats_l, sl_ok_5, sl_ok9, decide_true, sp_machC, sp_nodeC, sp_opC, sl_z0, sl_z1, sl_z2, sl_z3, sl_z4, sl_z5, sl_z6, sl_z7, sl_c0, sl_c1, sl_c2, sl_c3, sl_c4, sl_c5, sl_c6, sl_c7, List.length_map, sp_lifeC, h.1, sp_lvC, k1, e1, g1, g2, p1, p2, e2, eq_true c1, sw_b_t, sl_kds_1, nI_1, reduceCtorEq]
            exact hs2
        · have e3 : sp_tkn (Rw.map (·.2)) k0 s k = false := by unfold sp_tkn; rw [decide_eq_false c1]; rfl
          have hs2 := ihj (k + 1) (by omega) (fun i hi2 => by
            rcases Nat.lt_succ_iff_lt_or_eq.mp hi2 with q | q
            · exact hi i q
            · rw [q]; exact e3)
          rw [at_X8_freeSlot_1]; simp only [at_X8_freeSlot_2, at_X8_freeSlot_3, at_X8_freeSlot_4, at_X8_freeSlot_5, at_X8_freeSlot_6, at_X8_freeSlot_7, ex_push, ex_sti, ex_goto, ey_ld, sk_ld_s, ex_ic, ey_gf, sk_gf_s, sk_v_s, ey_cv1, sk_c_s, ex_ct, ex_iz, ex_ii, ex_rv, sw_gl_0, sw_gl_s, sw_fx_n, sw_fx_i, sw_fx_r, sw_fx_0, sw_fx_l, sw_fx_d, sw_sl1_0, sw_sl1_1, sw_sl1_s, sw_no_0, sw_no_s, sw_no_e, sw_mk_t, sw_mk_f, sw_mk_e, sw_en_0, sw_en_n, sw_en_i, sw_en_r, sw_en_z, sw_en_l, sw_en_d, sw_ok_0, sw_ok_1, sw_ok_2, sw_ok_3, sw_ok_4, sw_bo_s, sw_oi_s, sw_cl_s, sw_cl_x, sw_psh_s, sw_psh_n, sw_kd_s, sw_op_s, sw_oc_s, sw_oc_e, sw_oa_s, sw_el_n, sw_el_r, sl_kds_1, sl_kds_67, sw_fit_i, sw_fit_r, sw_fit_n, sw_fit_l, sw_fit_d, sw_fit_b, sw_fit_0, sw_fit_1, sw_rel_0, sw_rel_1, sw_rel_2, sw_rel_3, sw_rel_4, sw_rel_5, sw_hp_set, sw_nx_set, sw_sl_set, sw_ev_set, sw_hp_new, sw_nx_new, sw_sl_new, sw_ev_new, List.getElem?_cons_zero, List.getElem?_cons_succ, List.set_cons_zero, List.set_cons_succ, List.length_cons, List.length_nil, Nat.reduceAdd, Nat.reduceSub, Nat.reduceLT, Nat.reduceLeDiff, Nat.zero_lt_succ, Nat.zero_add, beq_self_eq_true, Bool.true_and, and_true, true_and, and_self, not_true_eq_false, not_false_eq_true, ↓reduceIte, Nat.reduceBEq, eq_self, sw_b_0, sw_b_1, decide_eq_false_iff_not, decide_eq_true_eq, sl_n10, sl_n01, Decidable.not_not, sl_ct, sl_cats_0, sl_cats_i, sl_cats_r, sl_cats_n, sl_cats_l, sl_ok_5, sl_ok9, decide_true, sp_machC, sp_nodeC, sp_opC, sl_z0, sl_z1, sl_z2, sl_z3, sl_z4, sl_z5, sl_z6, sl_z7, sl_c0, sl_c1, sl_c2, sl_c3, sl_c4, sl_c5, sl_c6, sl_c7, List.length_map, sp_lifeC, h.1, sp_lvC, k1, e1, g1, g2, eq_false c1, sl_kds_1, nI_1, Int32.add_zero, reduceCtorEq]
          exact hs2
  have hs := hloop k0 0 (k0 + 1) (sp_cs_le _ _ _) (by omega) (by omega) k0 0 (by omega) (fun i hi => by omega)
  rw [M_X8_freeSlot _ _ _ rfl]; simp only [at_X8_freeSlot_0, ex_push, ex_sti, ex_goto, ey_ld, sk_ld_s, ex_ic, ey_gf, sk_gf_s, sk_v_s, ey_cv1, sk_c_s, ex_ct, ex_iz, ex_ii, ex_rv, sw_gl_0, sw_gl_s, sw_fx_n, sw_fx_i, sw_fx_r, sw_fx_0, sw_fx_l, sw_fx_d, sw_sl1_0, sw_sl1_1, sw_sl1_s, sw_no_0, sw_no_s, sw_no_e, sw_mk_t, sw_mk_f, sw_mk_e, sw_en_0, sw_en_n, sw_en_i, sw_en_r, sw_en_z, sw_en_l, sw_en_d, sw_ok_0, sw_ok_1, sw_ok_2, sw_ok_3, sw_ok_4, sw_bo_s, sw_oi_s, sw_cl_s, sw_cl_x, sw_psh_s, sw_psh_n, sw_kd_s, sw_op_s, sw_oc_s, sw_oc_e, sw_oa_s, sw_el_n, sw_el_r, sl_kds_1, sl_kds_67, sw_fit_i, sw_fit_r, sw_fit_n, sw_fit_l, sw_fit_d, sw_fit_b, sw_fit_0, sw_fit_1, sw_rel_0, sw_rel_1, sw_rel_2, sw_rel_3, sw_rel_4, sw_rel_5, sw_hp_set, sw_nx_set, sw_sl_set, sw_ev_set, sw_hp_new, sw_nx_new, sw_sl_new, sw_ev_new, List.getElem?_cons_zero, List.getElem?_cons_succ, List.set_cons_zero, List.set_cons_succ, List.length_cons, List.length_nil, Nat.reduceAdd, Nat.reduceSub, Nat.reduceLT, Nat.reduceLeDiff, Nat.zero_lt_succ, Nat.zero_add, beq_self_eq_true, Bool.true_and, and_true, true_and, and_self, not_true_eq_false, not_false_eq_true, ↓reduceIte, Nat.reduceBEq, eq_self, sw_b_0, sw_b_1, decide_eq_false_iff_not, decide_eq_true_eq, sl_n10, sl_n01, Decidable.not_not, sl_ct, sl_cats_0, sl_cats_i, sl_cats_r, sl_cats_n, sl_cats_l, sl_ok_5, sl_ok9, decide_true, sp_machC, sp_nodeC, sp_opC, sl_z0, sl_z1, sl_z2, sl_z3, sl_z4, sl_z5, sl_z6, sl_z7, sl_c0, sl_c1, sl_c2, sl_c3, sl_c4, sl_c5, sl_c6, sl_c7, List.length_map, sp_lifeC]
  exact hs
theorem jc_X8_giveSlots (hD : 6 ≤ D) (hM : M.length < 200) (hR : Rw.length < 200) (hokk : sp_lvok M Rw T)
    (h : sl_st ev c s P (sl_lvs ev lv ol pa.1 mach rw M Rw ++ (sl_pt mach (sp_machC m l) :: sl_pt l (64, L.map .int) :: (sl_prog ev pa N B T out ++ F)))) :
    ∃ (P' : sw_P) (Rw' : sp_LR), sw_Z D m_X8_giveSlots [.ref lv] P = some (.inl none, P') ∧ Rw'.map (·.2) = sp_gs (M.map (·.2)) (Rw.map (·.2)) Rw.length ∧ sl_st ev c s P' (sl_lvs ev lv ol pa.1 mach rw M Rw' ++ (sl_pt mach (sp_machC m l) :: sl_pt l (64, L.map .int) :: (sl_prog ev pa N B T out ++ F))) := by
  obtain ⟨d, hDe, hDn⟩ := sw_dep hD; subst hDe; replace hD := hDn; clear hDn
  have hloop : ∀ j k, k + j = Rw.length → ∀ P (R1 : sp_LR), R1.map (·.2) = sp_gs (M.map (·.2)) (Rw.map (·.2)) k → R1.length = Rw.length → sp_lvok M R1 T → sl_st ev c s P (sl_lvs ev lv ol pa.1 mach rw M R1 ++ (sl_pt mach (sp_machC m l) :: sl_pt l (64, L.map .int) :: (sl_prog ev pa N B T out ++ F))) →
      ∃ (P' : sw_P) (Rw' : sp_LR), sw_at (sw_Z d) b_X8_giveSlots 1 [some (.ref lv), some (.int (nI k)), none] [] P = some (.inl none, P') ∧ Rw'.map (·.2) = sp_gs (M.map (·.2)) (Rw.map (·.2)) Rw.length ∧ sl_st ev c s P' (sl_lvs ev lv ol pa.1 mach rw M Rw' ++ (sl_pt mach (sp_machC m l) :: sl_pt l (64, L.map .int) :: (sl_prog ev pa N B T out ++ F))) := by
    intro j
    induction j with
    | zero =>
      intro k hk P R1 h1 h2 h3 h
      have : k = Rw.length := by omega
      subst this
      have hf := sl_lvs_rd h.rd
      obtain ⟨k1, k2⟩ := sp_lv_rwkd hf (d := d) (by omega)
      have e1 : nI R1.length ≤ nI Rw.length := by rw [h2]; exact Int32.le_refl _
      refine ⟨P, R1, ?_, h1, h⟩
      rw [at_X8_giveSlots_1]; simp only [at_X8_giveSlots_3, ex_push, ex_sti, ex_goto, ey_ld, sk_ld_s, ey_gf, sk_gf_s, sk_v_s, ey_cv0, sk_c_s, ex_ic, ey_cv1, ex_ct, ex_sta, ex_sta_n, ex_iz, ey_pf, sk_pf_s, sw_set_set, ey_inc, sk_inc_s, ex_ret, sw_gl_0, sw_gl_s, sw_fx_n, sw_fx_i, sw_fx_r, sw_fx_0, sw_fx_l, sw_fx_d, sw_sl1_0, sw_sl1_1, sw_sl1_s, sw_no_0, sw_no_s, sw_no_e, sw_mk_t, sw_mk_f, sw_mk_e, sw_en_0, sw_en_n, sw_en_i, sw_en_r, sw_en_z, sw_en_l, sw_en_d, sw_ok_0, sw_ok_1, sw_ok_2, sw_ok_3, sw_ok_4, sw_bo_s, sw_oi_s, sw_cl_s, sw_cl_x, sw_psh_s, sw_psh_n, sw_kd_s, sw_op_s, sw_oc_s, sw_oc_e, sw_oa_s, sw_el_n, sw_el_r, sl_kds_1, sl_kds_67, sw_fit_i, sw_fit_r, sw_fit_n, sw_fit_l, sw_fit_d, sw_fit_b, sw_fit_0, sw_fit_1, sw_rel_0, sw_rel_1, sw_rel_2, sw_rel_3, sw_rel_4, sw_rel_5, sw_hp_set, sw_nx_set, sw_sl_set, sw_ev_set, sw_hp_new, sw_nx_new, sw_sl_new, sw_ev_new, List.getElem?_cons_zero, List.getElem?_cons_succ, List.set_cons_zero, List.set_cons_succ, List.length_cons, List.length_nil, Nat.reduceAdd, Nat.reduceSub, Nat.reduceLT, Nat.reduceLeDiff, Nat.zero_lt_succ, Nat.zero_add, beq_self_eq_true, Bool.true_and, and_true, true_and, and_self, not_true_eq_false, not_false_eq_true, ↓reduceIte, Nat.reduceBEq, eq_self, sw_b_0, sw_b_1, decide_eq_false_iff_not, decide_eq_true_eq, sl_n10, sl_n01, Decidable.not_not, sl_ct, sl_cats_0, sl_cats_i, sl_cats_r, sl_cats_n, sl_cats_l, sl_ok_5, sl_ok9, decide_true, sp_machC, sp_nodeC, sp_opC, sl_z0, sl_z1, sl_z2, sl_z3, sl_z4, sl_z5, sl_z6, sl_z7, sl_c0, sl_c1, sl_c2, sl_c3, sl_c4, sl_c5, sl_c6, sl_c7, List.length_map, sp_lifeC, hf.1, sp_lvC, k1, k2, e1]
    | succ j ih =>
      intro k hk P R1 h1 h2 h3 h
      have hf := sl_lvs_rd h.rd
      obtain ⟨k1, k2⟩ := sp_lv_rwkd hf (d := d) (by omega)
      have e1 : ¬ nI R1.length ≤ nI k := by rw [h2]; exact nI_ge (by omega) (by omega)
      have hkR : k < R1.length := by omega
      obtain ⟨g1, g2, g3⟩ := sp_lv_row hf h3 (d := d) (by omega) hkR
      have ex : R1[k]? = some R1[k] := List.getElem?_eq_getElem hkR
      have hkM := (h3.2.2.2.2 _ (List.getElem_mem hkR)).1
      rw [g3] at g2
      obtain ⟨r, f1, f2, f3⟩ := sp_lv_1st hf hkM
      have e2 := jc_X9_isRemade (D := d) (os := M.map (·.2)) (by omega) g2 f1
      have hst : sp_gs (M.map (·.2)) (Rw.map (·.2)) (k + 1) = sp_gsF (M.map (·.2)) k (R1.map (·.2)) := by rw [h1]; rfl
      have hkeep : ∀ (hc : ¬ (R1[k].2.2.2.2.2.2.2.2.2.1 = true ∧ sp_rem (M.map (·.2)) R1[k].2 = false)), R1.map (·.2) = sp_gs (M.map (·.2)) (Rw.map (·.2)) (k + 1) := by
        intro hc
        rw [hst]
        unfold sp_gsF
        rw [g3, if_neg hc]
      cases c1 : R1[k].2.2.2.2.2.2.2.2.2.1
      · obtain ⟨P', Rw', r1, r2, r3⟩ := ih (k + 1) (by omega) P R1 (hkeep (by rw [c1]; simp)) h2 h3 h
        refine ⟨P', Rw', ?_, r2, r3⟩
        rw [← r1]
        rw [at_X8_giveSlots_1]; simp only [at_X8_giveSlots_2, ex_push, ex_sti, ex_goto, ey_ld, sk_ld_s, ey_gf, sk_gf_s, sk_v_s, ey_cv0, sk_c_s, ex_ic, ey_cv1, ex_ct, ex_sta, ex_sta_n, ex_iz, ey_pf, sk_pf_s, sw_set_set, ey_inc, sk_inc_s, ex_ret, sw_gl_0, sw_gl_s, sw_fx_n, sw_fx_i, sw_fx_r, sw_fx_0, sw_fx_l, sw_fx_d, sw_sl1_0, sw_sl1_1, sw_sl1_s, sw_no_0, sw_no_s, sw_no_e, sw_mk_t, sw_mk_f, sw_mk_e, sw_en_0, sw_en_n, sw_en_i, sw_en_r, sw_en_z, sw_en_l, sw_en_d, sw_ok_0, sw_ok_1, sw_ok_2, sw_ok_3, sw_ok_4, sw_bo_s, sw_oi_s, sw_cl_s, sw_cl_x, sw_psh_s, sw_psh_n, sw_kd_s, sw_op_s, sw_oc_s, sw_oc_e, sw_oa_s, sw_el_n, sw_el_r, sl_kds_1, sl_kds_67, sw_fit_i, sw_fit_r, sw_fit_n, sw_fit_l, sw_fit_d, sw_fit_b, sw_fit_0, sw_fit_1, sw_rel_0, sw_rel_1, sw_rel_2, sw_rel_3, sw_rel_4, sw_rel_5, sw_hp_set, sw_nx_set, sw_sl_set, sw_ev_set, sw_hp_new, sw_nx_new, sw_sl_new, sw_ev_new, List.getElem?_cons_zero, List.getElem?_cons_succ, List.set_cons_zero, List.set_cons_succ, List.length_cons, List.length_nil, Nat.reduceAdd, Nat.reduceSub, Nat.reduceLT, Nat.reduceLeDiff, Nat.zero_lt_succ, Nat.zero_add, beq_self_eq_true, Bool.true_and, and_true, true_and, and_self, not_true_eq_false, not_false_eq_true, ↓reduceIte, Nat.reduceBEq, eq_self, sw_b_0, sw_b_1, decide_eq_false_iff_not, decide_eq_true_eq, sl_n10, sl_n01, Decidable.not_not, sl_ct, sl_cats_0, sl_cats_i, sl_cats_r, sl_cats_n, sl_cats_l, sl_ok_5, sl_ok9, decide_true, sp_machC, sp_nodeC, sp_opC, sl_z0, sl_z1, sl_z2, sl_z3, sl_z4, sl_z5, sl_z6, sl_z7, sl_c0, sl_c1, sl_c2, sl_c3, sl_c4, sl_c5, sl_c6, sl_c7, List.length_map, sp_lifeC, hf.1, sp_lvC, k1, k2, e1, g1, g2, c1, sw_b_f, sl_kds_1, nI_1, reduceCtorEq]
      · cases c2 : sp_rem (M.map (·.2)) R1[k].2 <;> rw [c2] at e2
        · have e3 := jc_X8_freeSlot (D := d) (by omega) hf h3 hkR
          have s1 := sl_lvs_set ex (sp_setO R1[k].2 (sp_slotOf (R1.map (·.2)) k)) h
          have e4 : (R1.set k (R1[k].1, sp_setO R1[k].2 (sp_slotOf (R1.map (·.2)) k))).map (·.2) = sp_gs (M.map (·.2)) (Rw.map (·.2)) (k + 1) := by
            rw [hst, sp_snd_set]
            unfold sp_gsF
            rw [g3, if_pos ⟨c1, c2⟩]
          have e5 : (R1.set k (R1[k].1, sp_setO R1[k].2 (sp_slotOf (R1.map (·.2)) k))).length = Rw.length := by rw [List.length_set]; exact h2
          have e6 : sp_lvok M (R1.set k (R1[k].1, sp_setO R1[k].2 (sp_slotOf (R1.map (·.2)) k))) T := sp_lvok_set h3 ex rfl rfl rfl
          obtain ⟨P', Rw', r1, r2, r3⟩ := ih (k + 1) (by omega) _ _ e4 e5 e6 s1
          refine ⟨P', Rw', ?_, r2, r3⟩
          rw [← r1]
          rw [at_X8_giveSlots_1]; simp only [at_X8_giveSlots_2, ex_push, ex_sti, ex_goto, ey_ld, sk_ld_s, ey_gf, sk_gf_s, sk_v_s, ey_cv0, sk_c_s, ex_ic, ey_cv1, ex_ct, ex_sta, ex_sta_n, ex_iz, ey_pf, sk_pf_s, sw_set_set, ey_inc, sk_inc_s, ex_ret, sw_gl_0, sw_gl_s, sw_fx_n, sw_fx_i, sw_fx_r, sw_fx_0, sw_fx_l, sw_fx_d, sw_sl1_0, sw_sl1_1, sw_sl1_s, sw_no_0, sw_no_s, sw_no_e, sw_mk_t, sw_mk_f, sw_mk_e, sw_en_0, sw_en_n, sw_en_i, sw_en_r, sw_en_z, sw_en_l, sw_en_d, sw_ok_0, sw_ok_1, sw_ok_2, sw_ok_3, sw_ok_4, sw_bo_s, sw_oi_s, sw_cl_s, sw_cl_x, sw_psh_s, sw_psh_n, sw_kd_s, sw_op_s, sw_oc_s, sw_oc_e, sw_oa_s, sw_el_n, sw_el_r, sl_kds_1, sl_kds_67, sw_fit_i, sw_fit_r, sw_fit_n, sw_fit_l, sw_fit_d, sw_fit_b, sw_fit_0, sw_fit_1, sw_rel_0, sw_rel_1, sw_rel_2, sw_rel_3, sw_rel_4, sw_rel_5, sw_hp_set, sw_nx_set, sw_sl_set, sw_ev_set, sw_hp_new, sw_nx_new, sw_sl_new, sw_ev_new, List.getElem?_cons_zero, List.getElem?_cons_succ, List.set_cons_zero, List.set_cons_succ, List.length_cons, List.length_nil, Nat.reduceAdd, Nat.reduceSub, Nat.reduceLT, Nat.reduceLeDiff, Nat.zero_lt_succ, Nat.zero_add, beq_self_eq_true, Bool.true_and, and_true, true_and, and_self, not_true_eq_false, not_false_eq_true, ↓reduceIte, Nat.reduceBEq, eq_self, sw_b_0, sw_b_1, decide_eq_false_iff_not, decide_eq_true_eq, sl_n10, sl_n01, Decidable.not_not, sl_ct, sl_cats_0, sl_cats_i, sl_cats_r, sl_cats_n, sl_cats_l, sl_ok_5, sl_ok9, decide_true, sp_machC, sp_nodeC, sp_opC, sl_z0, sl_z1, sl_z2, sl_z3, sl_z4, sl_z5, sl_z6, sl_z7, sl_c0, sl_c1, sl_c2, sl_c3, sl_c4, sl_c5, sl_c6, sl_c7, List.length_map, sp_lifeC, hf.1, sp_lvC, k1, k2, e1, g1, g2, c1, sw_b_t, sw_b_f, e2, e3, sp_setO, sl_kds_1, nI_1, reduceCtorEq]
        · obtain ⟨P', Rw', r1, r2, r3⟩ := ih (k + 1) (by omega) P R1 (hkeep (by rw [c2]; simp)) h2 h3 h
          refine ⟨P', Rw', ?_, r2, r3⟩
          rw [← r1]
          rw [at_X8_giveSlots_1]; simp only [at_X8_giveSlots_2, ex_push, ex_sti, ex_goto, ey_ld, sk_ld_s, ey_gf, sk_gf_s, sk_v_s, ey_cv0, sk_c_s, ex_ic, ey_cv1, ex_ct, ex_sta, ex_sta_n, ex_iz, ey_pf, sk_pf_s, sw_set_set, ey_inc, sk_inc_s, ex_ret, sw_gl_0, sw_gl_s, sw_fx_n, sw_fx_i, sw_fx_r, sw_fx_0, sw_fx_l, sw_fx_d, sw_sl1_0, sw_sl1_1, sw_sl1_s, sw_no_0, sw_no_s, sw_no_e, sw_mk_t, sw_mk_f, sw_mk_e, sw_en_0, sw_en_n, sw_en_i, sw_en_r, sw_en_z, sw_en_l, sw_en_d, sw_ok_0, sw_ok_1, sw_ok_2, sw_ok_3, sw_ok_4, sw_bo_s, sw_oi_s, sw_cl_s, sw_cl_x, sw_psh_s, sw_psh_n, sw_kd_s, sw_op_s, sw_oc_s, sw_oc_e, sw_oa_s, sw_el_n, sw_el_r, sl_kds_1, sl_kds_67, sw_fit_i, sw_fit_r, sw_fit_n, sw_fit_l, sw_fit_d, sw_fit_b, sw_fit_0, sw_fit_1, sw_rel_0, sw_rel_1, sw_rel_2, sw_rel_3, sw_rel_4, sw_rel_5, sw_hp_set, sw_nx_set, sw_sl_set, sw_ev_set, sw_hp_new, sw_nx_new, sw_sl_new, sw_ev_new, List.getElem?_cons_zero, List.getElem?_cons_succ, List.set_cons_zero, List.set_cons_succ, List.length_cons, List.length_nil, Nat.reduceAdd, Nat.reduceSub, Nat.reduceLT, Nat.reduceLeDiff, Nat.zero_lt_succ, Nat.zero_add, beq_self_eq_true, Bool.true_and, and_true, true_and, and_self, not_true_eq_false, not_false_eq_true, ↓reduceIte, Nat.reduceBEq, eq_self, sw_b_0, sw_b_1, decide_eq_false_iff_not, decide_eq_true_eq, sl_n10, sl_n01, Decidable.not_not, sl_ct, sl_cats_0, sl_cats_i, sl_cats_r, sl_cats_n, sl_cats_l, sl_ok_5, sl_ok9, decide_true, sp_machC, sp_nodeC, sp_opC, sl_z0, sl_z1, sl_z2, sl_z3, sl_z4, sl_z5, sl_z6, sl_z7, sl_c0, sl_c1, sl_c2, sl_c3, sl_c4, sl_c5, sl_c6, sl_c7, List.length_map, sp_lifeC, hf.1, sp_lvC, k1, k2, e1, g1, g2, c1, sw_b_t, e2, sl_kds_1, nI_1, reduceCtorEq]
  obtain ⟨P', Rw', r1, r2, r3⟩ := hloop Rw.length 0 (by omega) P Rw rfl rfl hokk h
  refine ⟨P', Rw', ?_, r2, r3⟩
  rw [M_X8_giveSlots _ _ _ rfl]; simp only [at_X8_giveSlots_0, ex_push, ex_sti, ex_goto, ey_ld, sk_ld_s, ey_gf, sk_gf_s, sk_v_s, ey_cv0, sk_c_s, ex_ic, ey_cv1, ex_ct, ex_sta, ex_sta_n, ex_iz, ey_pf, sk_pf_s, sw_set_set, ey_inc, sk_inc_s, ex_ret, sw_gl_0, sw_gl_s, sw_fx_n, sw_fx_i, sw_fx_r, sw_fx_0, sw_fx_l, sw_fx_d, sw_sl1_0, sw_sl1_1, sw_sl1_s, sw_no_0, sw_no_s, sw_no_e, sw_mk_t, sw_mk_f, sw_mk_e, sw_en_0, sw_en_n, sw_en_i, sw_en_r, sw_en_z, sw_en_l, sw_en_d, sw_ok_0, sw_ok_1, sw_ok_2, sw_ok_3, sw_ok_4, sw_bo_s, sw_oi_s, sw_cl_s, sw_cl_x, sw_psh_s, sw_psh_n, sw_kd_s, sw_op_s, sw_oc_s, sw_oc_e, sw_oa_s, sw_el_n, sw_el_r, sl_kds_1, sl_kds_67, sw_fit_i, sw_fit_r, sw_fit_n, sw_fit_l, sw_fit_d, sw_fit_b, sw_fit_0, sw_fit_1, sw_rel_0, sw_rel_1, sw_rel_2, sw_rel_3, sw_rel_4, sw_rel_5, sw_hp_set, sw_nx_set, sw_sl_set, sw_ev_set, sw_hp_new, sw_nx_new, sw_sl_new, sw_ev_new, List.getElem?_cons_zero, List.getElem?_cons_succ, List.set_cons_zero, List.set_cons_succ, List.length_cons, List.length_nil, Nat.reduceAdd, Nat.reduceSub, Nat.reduceLT, Nat.reduceLeDiff, Nat.zero_lt_succ, Nat.zero_add, beq_self_eq_true, Bool.true_and, and_true, true_and, and_self, not_true_eq_false, not_false_eq_true, ↓reduceIte, Nat.reduceBEq, eq_self, sw_b_0, sw_b_1, decide_eq_false_iff_not, decide_eq_true_eq, sl_n10, sl_n01, Decidable.not_not, sl_ct, sl_cats_0, sl_cats_i, sl_cats_r, sl_cats_n, sl_cats_l, sl_ok_5, sl_ok9, decide_true, sp_machC, sp_nodeC, sp_opC, sl_z0, sl_z1, sl_z2, sl_z3, sl_z4, sl_z5, sl_z6, sl_z7, sl_c0, sl_c1, sl_c2, sl_c3, sl_c4, sl_c5, sl_c6, sl_c7, List.length_map, sp_lifeC]
  exact r1
end
