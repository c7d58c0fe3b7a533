/-! ===== the component's lives: one is made, stretched, put into the row ===== -/
def sl_lvs (ev : Nat → Nat) (lv ol pg mach rw : Nat) (M : List (Nat × sp_Op)) (Rw : sp_LR) : List sl_A := [sl_pt lv (sp_lvC ol pg mach rw), sl_ls ev ol (M.map fun x => .ref x.1), sl_all (M.map sl_opA), sl_ls ev rw (Rw.map fun x => .ref x.1), sl_all (Rw.map (sl_lifeA (M.map (·.1))))]
def sp_lfF (os : List sp_Op) (T : List Int32) (v : Int32) (p : Nat) (z : Option sp_Life) : Option sp_Life := if (os.getD p sp_oz).2.1 = v ∨ 0 < sp_cnt (os.getD p sp_oz).2.2.1 v then some (sp_tch v (os.getD p sp_oz) p (sp_tms T (os.getD p sp_oz).2.2.2.2.1) z) else z
def sp_lf (os : List sp_Op) (T : List Int32) (v : Int32) : Nat → Option sp_Life := sw_it (sp_lfF os T v) none
/-- what is known of a life that was touched -/
def sp_lfok (v : Int32) (k : Nat) (x : sp_Life) : Prop := x.1 = v ∧ (∃ p q, p ≤ q ∧ q < k ∧ x.2.1 = nI p ∧ x.2.2.2.2.2.2.2.2.2.2 = p ∧ x.2.2.1 = nI q) ∧ x.2.2.2.2.2.2.1 = 0 ∧ x.2.2.2.2.2.2.2.1 = -1 ∧ x.2.2.2.2.2.2.2.2.1 = false ∧ x.2.2.2.2.2.2.2.2.2.1 = -1
theorem sp_lf_ok {os : List sp_Op} {T : List Int32} {v : Int32} (k : Nat) (x : sp_Life) (h : sp_lf os T v k = some x) : sp_lfok v k x := by
  induction k generalizing x with
  | zero => cases h
  | succ k ih =>
    have h : sp_lfF os T v k (sp_lf os T v k) = some x := h
    unfold sp_lfF at h
    split at h
    · cases hz : sp_lf os T v k with
      | none =>
        rw [hz] at h
        cases h
        exact ⟨rfl, ⟨k, k, Nat.le_refl _, Nat.lt_succ_self _, rfl, rfl, rfl⟩, rfl, rfl, rfl, rfl⟩
      | some y =>
        obtain ⟨g1, ⟨p, q, g2, g3, g4, g5, g6⟩, g7, g8, g9, g10⟩ := ih y hz
        rw [hz] at h
        cases h
        exact ⟨g1, ⟨p, k, by omega, Nat.lt_succ_self _, g4, g5, rfl⟩, g7, g8, g9, g10⟩
    · obtain ⟨g1, ⟨p, q, g2, g3, g4, g5, g6⟩, g7⟩ := ih x h
      exact ⟨g1, ⟨p, q, g2, by omega, g4, g5, g6⟩, g7⟩
def sp_stT (os : List sp_Op) (T : List Int32) (out : Int32) (x : sp_Life) : Int32 :=
  if x.1 < 8 ∧ sp_has out x.1 = true then nI os.length
  else if ¬ (os.getD x.2.2.1.toNatClampNeg sp_oz).2.2.2.2.1 = -1 ∧ 1 < T.getD (os.getD x.2.2.1.toNatClampNeg sp_oz).2.2.2.2.1.toNatClampNeg 0 ∧ x.2.1 < sp_edge os (os.getD x.2.2.1.toNatClampNeg sp_oz).2.2.2.2.1 false os.length then sp_edge os (os.getD x.2.2.1.toNatClampNeg sp_oz).2.2.2.2.1 true os.length else x.2.2.1
def sp_crN (os : List sp_Op) (x : sp_Life) : Nat → Int32 := sw_it (fun p c => c + (if (os.getD p sp_oz).1 = 9 ∧ sp_crs x (nI p) = true then 1 else 0)) x.2.2.2.2.2.2.1
def sp_stT1 (os : List sp_Op) (T : List Int32) (out : Int32) (x : sp_Life) : sp_Life := (x.1, x.2.1, sp_stT os T out x, x.2.2.2.1, x.2.2.2.2.1, x.2.2.2.2.2.1, x.2.2.2.2.2.2.1, x.2.2.2.2.2.2.2.1, x.2.2.2.2.2.2.2.2.1, x.2.2.2.2.2.2.2.2.2.1, x.2.2.2.2.2.2.2.2.2.2)
def sp_strC (x : sp_Life) (q : Int32) : sp_Life := (x.1, x.2.1, x.2.2.1, x.2.2.2.1, x.2.2.2.2.1, x.2.2.2.2.2.1, q, x.2.2.2.2.2.2.2.1, x.2.2.2.2.2.2.2.2.1, x.2.2.2.2.2.2.2.2.2.1, x.2.2.2.2.2.2.2.2.2.2)
def sp_str (os : List sp_Op) (T : List Int32) (out : Int32) (x : sp_Life) : sp_Life := sp_strC (sp_stT1 os T out x) (sp_crN os (sp_stT1 os T out x) os.length)
def sp_pp (Rs : List sp_Life) (f : Int32) : Nat → Nat
  | 0 => 0
  | k + 1 => if f < (Rs.getD k sp_lz).2.1 then sp_pp Rs f k else k + 1
theorem sp_pp_le (Rs : List sp_Life) (f : Int32) : ∀ k, sp_pp Rs f k ≤ k
  | 0 => Nat.le_refl _
  | k + 1 => by
    unfold sp_pp
    split
    · exact Nat.le_succ_of_le (sp_pp_le Rs f k)
    · exact Nat.le_refl _
theorem sl_st.insall {α : Type} {ev : Nat → Nat} {c s : Nat} {P : sw_P} {A : α → sl_A} {l : List α} {i : Nat} {x : α} {F : List sl_A} (h : sl_st ev c s P (A x :: sl_all (l.map A) :: F)) : sl_st ev c s P (sl_all ((l.take i ++ x :: l.drop i).map A) :: F) := by
  refine sl_st.flat.mpr ?_
  have h2 := sl_st.flat.mp (h.pk [1])
  rw [List.map_append, List.map_cons]
  refine h2.perm ?_
  have e : l.map A = (l.take i).map A ++ (l.drop i).map A := by rw [← List.map_append, List.take_append_drop]
  rw [e, List.append_assoc, List.append_assoc]
  exact List.Perm.append_left _ List.perm_middle
section
variable {ev : Nat → Nat} {lv ol mach rw l a b D d c s : Nat} {pa : sp_PA} {N : List (Nat × sp_Node)} {B : List sp_Blk} {M : List (Nat × sp_Op)} {Rw : sp_LR} {m : sp_Mach} {L T : List Int32} {out v g f : Int32} {P : sw_P} {x y : sp_Life} {F : List sl_A}
theorem sl_lvs_rd {H : sl_H} (h : sl_rds H (sl_lvs ev lv ol pa.1 mach rw M Rw ++ (sl_pt mach (sp_machC m l) :: sl_pt l (64, L.map .int) :: (sl_prog ev pa N B T out ++ F)))) : sp_lvF ev H lv ol pa.1 mach rw pa.2.1 pa.2.2.1 pa.2.2.2 M Rw m L T out := by
  obtain ⟨⟨g1, g2, g3, g4, g5, -⟩, h2⟩ := sl_rds_append.mp h
  obtain ⟨h3, h4, h5⟩ := h2
  obtain ⟨⟨p1, -, -, -, -, p6, -⟩, -⟩ := sl_rds_append.mp h5
  exact ⟨sl_rd_pt.mp g1, g2, g3, g4, g5, ⟨l, sl_rd_pt.mp h3, sl_rd_pt.mp h4⟩, sl_rd_pt.mp p1, sl_rd_pt.mp p6⟩
theorem jc_X8_lifeOf (hD : 5 ≤ D) (hl : M.length < 200) (hT : T.length = 4) (hM : ∀ x ∈ M, x.2.2.2.1.length < 100 ∧ (x.2.2.2.2.2.1 = -1 ∨ ∃ k, k < 4 ∧ x.2.2.2.2.2.1 = nI k))
    (h : sl_st ev c s P (sl_lvs ev lv ol pa.1 mach rw M Rw ++ (sl_pt mach (sp_machC m l) :: sl_pt l (64, L.map .int) :: (sl_prog ev pa N B T out ++ F)))) :
    ∃ (P' : sw_P) (a : Nat), sw_Z D m_X8_lifeOf [.ref lv, .int v] P = some (.inl (some (.ref a)), P') ∧ sl_st ev (c + 1) (s + 11) P' (sl_pt a (sp_lifeO (M.map (·.1)) v (sp_lf (M.map (·.2)) T v M.length)) :: (sl_lvs ev lv ol pa.1 mach rw M Rw ++ (sl_pt mach (sp_machC m l) :: sl_pt l (64, L.map .int) :: (sl_prog ev pa N B T out ++ F)))) := by
  obtain ⟨d, hDe, hDn⟩ := sw_dep hD; subst hDe; replace hD := hDn; clear hDn
  have hloop : ∀ a, ∀ j p, p + j = M.length → ∀ P, sl_st ev (c + 1) (s + 11) P (sl_pt a (sp_lifeO (M.map (·.1)) v (sp_lf (M.map (·.2)) T v p)) :: (sl_lvs ev lv ol pa.1 mach rw M Rw ++ (sl_pt mach (sp_machC m l) :: sl_pt l (64, L.map .int) :: (sl_prog ev pa N B T out ++ F)))) →
      ∃ P', sw_at (sw_Z d) b_X8_lifeOf 1 [some (.ref lv), some (.int v), some (.ref a), some (.int (nI p)), none] [] P = some (.inl (some (.ref a)), P') ∧ sl_st ev (c + 1) (s + 11) P' (sl_pt a (sp_lifeO (M.map (·.1)) v (sp_lf (M.map (·.2)) T v M.length)) :: (sl_lvs ev lv ol pa.1 mach rw M Rw ++ (sl_pt mach (sp_machC m l) :: sl_pt l (64, L.map .int) :: (sl_prog ev pa N B T out ++ F)))) := by
    intro a j
    induction j with
    | zero =>
      intro p hp P h
      have : p = M.length := by omega
      subst this
      have hf := sl_lvs_rd h.rd.2
      obtain ⟨k1, k2⟩ := sp_lv_olkd hf (d := d) (by omega)
      have e1 : nI M.length ≤ nI M.length := Int32.le_refl _
      refine ⟨P, ?_, h⟩
      rw [at_X8_lifeOf_1]; simp only [at_X8_lifeOf_4, ex_nw, ex_dup_i, ex_dup_r, ex_dup_n, ey_ld, sk_ld_s, ey_ci1, sk_c_s, ex_sta, ex_sta_n, ex_push, ex_sti, ex_goto, ey_gf, sk_gf_s, sk_v_s, ey_cv0, ex_ic, ey_cv1, ex_ct, ex_iz, ey_cv3, ey_inc, sk_inc_s, ex_rv, sw_gl_0, sw_gl_s, sw_fx_n, sw_fx_i, sw_fx_r, sw_fx_0, sw_fx_l, sw_fx_d, sw_sl1_0, sw_sl1_1, sw_sl1_s, sw_no_0, sw_no_s, sw_no_e, sw_mk_t, sw_mk_f, sw_mk_e, sw_en_0, sw_en_n, sw_en_i, sw_en_r, sw_en_z, sw_en_l, sw_en_d, sw_ok_0, sw_ok_1, sw_ok_2, sw_ok_3, sw_ok_4, sw_bo_s, sw_oi_s, sw_cl_s, sw_cl_x, sw_psh_s, sw_psh_n, sw_kd_s, sw_op_s, sw_oc_s, sw_oc_e, sw_oa_s, sw_el_n, sw_el_r, sl_kds_1, sl_kds_67, sw_fit_i, sw_fit_r, sw_fit_n, sw_fit_l, sw_fit_d, sw_fit_b, sw_fit_0, sw_fit_1, sw_rel_0, sw_rel_1, sw_rel_2, sw_rel_3, sw_rel_4, sw_rel_5, sw_hp_set, sw_nx_set, sw_sl_set, sw_ev_set, sw_hp_new, sw_nx_new, sw_sl_new, sw_ev_new, List.getElem?_cons_zero, List.getElem?_cons_succ, List.set_cons_zero, List.set_cons_succ, List.length_cons, List.length_nil, Nat.reduceAdd, Nat.reduceSub, Nat.reduceLT, Nat.reduceLeDiff, Nat.zero_lt_succ, Nat.zero_add, beq_self_eq_true, Bool.true_and, and_true, true_and, and_self, not_true_eq_false, not_false_eq_true, ↓reduceIte, Nat.reduceBEq, eq_self, sw_b_0, sw_b_1, decide_eq_false_iff_not, decide_eq_true_eq, sl_n10, sl_n01, Decidable.not_not, sl_ct, sl_cats_0, sl_cats_i, sl_cats_r, sl_cats_n, sl_cats_l, sl_ok_5, sl_ok9, decide_true, sp_machC, sp_nodeC, sp_opC, sl_z0, sl_z1, sl_z2, sl_z3, sl_z4, sl_z5, sl_z6, sl_z7, sl_c0, sl_c1, sl_c2, sl_c3, sl_c4, sl_c5, sl_c6, sl_c7, List.length_map, sp_lifeC, hf.1, sp_lvC, k1, k2, e1]
    | succ j ih =>
      intro p hp P h
      have hf := sl_lvs_rd h.rd.2
      obtain ⟨k1, k2⟩ := sp_lv_olkd hf (d := d) (by omega)
      have e1 : ¬ nI M.length ≤ nI p := nI_ge (by omega) (by omega)
      obtain ⟨r, f1, f2, f3, f4⟩ := sp_opsR (d := d) (by omega) hf.2.1 hf.2.2.1 (by omega) (k := p) (by omega)
      have ex : M[p]? = some M[p] := List.getElem?_eq_getElem (by omega)
      have eo : (M.map (·.2)).getD p sp_oz = M[p].2 := sp_getD (by rw [List.getElem?_map, ex]; rfl)
      obtain ⟨hr, hbk⟩ := hM _ (List.getElem_mem (show p < M.length by omega))
      rw [← eo] at hr hbk
      have e2 := jc_X7_reads (D := d) (v := v) (by omega) f2 f3 hr
      have hst : sp_lf (M.map (·.2)) T v (p + 1) = sp_lfF (M.map (·.2)) T v p (sp_lf (M.map (·.2)) T v p) := rfl
      by_cases c1 : ((M.map (·.2)).getD p sp_oz).2.1 = v ∨ 0 < sp_cnt ((M.map (·.2)).getD p sp_oz).2.2.1 v
      · have e3 := jc_X8_timesOf (D := d) (by omega) hf hT f2 hbk
        have e4 := jc_X9_touch (D := d) (p := p) (a := a) (tm := sp_tms T ((M.map (·.2)).getD p sp_oz).2.2.2.2.1) (by omega) (by omega) (h.get 0 rfl) (fun x hx => by
          obtain ⟨g1, ⟨q, _, _, _, g2, _⟩, -⟩ := sp_lf_ok p x hx
          exact ⟨g1, by rw [g2]; exact sp_nI_ne q (by omega)⟩) f2 f3 hr (show (M.map (·.1)).getD p 0 = M[p].1 from sp_getD (by rw [List.getElem?_map, ex]; rfl))
        have e5 : sp_lf (M.map (·.2)) T v (p + 1) = some (sp_tch v ((M.map (·.2)).getD p sp_oz) p (sp_tms T ((M.map (·.2)).getD p sp_oz).2.2.2.2.1) (sp_lf (M.map (·.2)) T v p)) := by rw [hst]; exact if_pos c1
        have g := sl_st.set h 0 (sp_lifeO (M.map (·.1)) v (sp_lf (M.map (·.2)) T v (p + 1))) rfl
        obtain ⟨P', r1, r2⟩ := ih (p + 1) (by omega) _ g
        refine ⟨P', ?_, r2⟩
        rw [← r1]
        rw [e5]
        have hlk : sw_kd (sw_hp P a) 8 = true := by
          rw [h.get 0 rfl]
          cases sp_lf (M.map (·.2)) T v p <;> rfl
        by_cases c2 : ((M.map (·.2)).getD p sp_oz).2.1 = v
        · rw [at_X8_lifeOf_1]; simp only [at_X8_lifeOf_2, at_X8_lifeOf_3, ex_nw, ex_dup_i, ex_dup_r, ex_dup_n, ey_ld, sk_ld_s, ey_ci1, sk_c_s, ex_sta, ex_sta_n, ex_push, ex_sti, ex_goto, ey_gf, sk_gf_s, sk_v_s, ey_cv0, ex_ic, ey_cv1, ex_ct, ex_iz, ey_cv3, ey_inc, sk_inc_s, ex_rv, sw_gl_0, sw_gl_s, sw_fx_n, sw_fx_i, sw_fx_r, sw_fx_0, sw_fx_l, sw_fx_d, sw_sl1_0, sw_sl1_1, sw_sl1_s, sw_no_0, sw_no_s, sw_no_e, sw_mk_t, sw_mk_f, sw_mk_e, sw_en_0, sw_en_n, sw_en_i, sw_en_r, sw_en_z, sw_en_l, sw_en_d, sw_ok_0, sw_ok_1, sw_ok_2, sw_ok_3, sw_ok_4, sw_bo_s, sw_oi_s, sw_cl_s, sw_cl_x, sw_psh_s, sw_psh_n, sw_kd_s, sw_op_s, sw_oc_s, sw_oc_e, sw_oa_s, sw_el_n, sw_el_r, sl_kds_1, sl_kds_67, sw_fit_i, sw_fit_r, sw_fit_n, sw_fit_l, sw_fit_d, sw_fit_b, sw_fit_0, sw_fit_1, sw_rel_0, sw_rel_1, sw_rel_2, sw_rel_3, sw_rel_4, sw_rel_5, sw_hp_set, sw_nx_set, sw_sl_set, sw_ev_set, sw_hp_new, sw_nx_new, sw_sl_new, sw_ev_new, List.getElem?_cons_zero, List.getElem?_cons_succ, List.set_cons_zero, List.set_cons_succ, List.length_cons, List.length_nil, Nat.reduceAdd, Nat.reduceSub, Nat.reduceLT, Nat.reduceLeDiff, Nat.zero_lt_succ, Nat.zero_add, beq_self_eq_true, Bool.true_and, and_true, true_and, and_self, not_true_eq_false, not_false_eq_true, ↓reduceIte, Nat.reduceBEq, eq_self, sw_b_0, sw_b_1, decide_eq_false_iff_not, decide_eq_true_eq, sl_n10, sl_n01, Decidable.not_not, sl_ct, sl_cats_0, sl_cats_i, sl_cats_r, sl_cats_n, sl_cats_l, sl_ok_5, sl_ok9, decide_true, sp_machC, sp_nodeC, sp_opC, sl_z0, sl_z1, sl_z2, sl_z3, sl_z4, sl_z5, sl_z6, sl_z7, sl_c0, sl_c1, sl_c2, sl_c3, sl_c4, sl_c5, sl_c6, sl_c7, List.length_map, sp_lifeC, hf.1, sp_lvC, k1, k2, e1, f1, f2, eq_true c2, e3, e4, hlk, sl_kds_1, nI_1]
          rfl
        · have c3 : ¬ sp_cnt ((M.map (·.2)).getD p sp_oz).2.2.1 v ≤ 0 := Int32.not_le.mpr (c1.resolve_left c2)
          rw [at_X8_lifeOf_1]; simp only [at_X8_lifeOf_2, at_X8_lifeOf_3, ex_nw, ex_dup_i, ex_dup_r, ex_dup_n, ey_ld, sk_ld_s, ey_ci1, sk_c_s, ex_sta, ex_sta_n, ex_push, ex_sti, ex_goto, ey_gf, sk_gf_s, sk_v_s, ey_cv0, ex_ic, ey_cv1, ex_ct, ex_iz, ey_cv3, ey_inc, sk_inc_s, ex_rv, sw_gl_0, sw_gl_s, sw_fx_n, sw_fx_i, sw_fx_r, sw_fx_0, sw_fx_l, sw_fx_d, sw_sl1_0, sw_sl1_1, sw_sl1_s, sw_no_0, sw_no_s, sw_no_e, sw_mk_t, sw_mk_f, sw_mk_e, sw_en_0, sw_en_n, sw_en_i, sw_en_r, sw_en_z, sw_en_l, sw_en_d, sw_ok_0, sw_ok_1, sw_ok_2, sw_ok_3, sw_ok_4, sw_bo_s, sw_oi_s, sw_cl_s, sw_cl_x, sw_psh_s, sw_psh_n, sw_kd_s, sw_op_s, sw_oc_s, sw_oc_e, sw_oa_s, sw_el_n, sw_el_r, sl_kds_1, sl_kds_67, sw_fit_i, sw_fit_r, sw_fit_n, sw_fit_l, sw_fit_d, sw_fit_b, sw_fit_0, sw_fit_1, sw_rel_0, sw_rel_1, sw_rel_2, sw_rel_3, sw_rel_4, sw_rel_5, sw_hp_set, sw_nx_set, sw_sl_set, sw_ev_set, sw_hp_new, sw_nx_new, sw_sl_new, sw_ev_new, List.getElem?_cons_zero, List.getElem?_cons_succ, List.set_cons_zero, List.set_cons_succ, List.length_cons, List.length_nil, Nat.reduceAdd, Nat.reduceSub, Nat.reduceLT, Nat.reduceLeDiff, Nat.zero_lt_succ, Nat.zero_add, beq_self_eq_true, Bool.true_and, and_true, true_and, and_self, not_true_eq_false, not_false_eq_true, ↓reduceIte, Nat.reduceBEq, eq_self, sw_b_0, sw_b_1, decide_eq_false_iff_not, decide_eq_true_eq, sl_n10, sl_n01, Decidable.not_not, sl_ct, sl_cats_0, sl_cats_i, sl_cats_r, sl_cats_n, sl_cats_l, sl_ok_5, sl_ok9, decide_true, sp_machC, sp_nodeC, sp_opC, sl_z0, sl_z1, sl_z2, sl_z3, sl_z4, sl_z5, sl_z6, sl_z7, sl_c0, sl_c1, sl_c2, sl_c3, sl_c4, sl_c5, sl_c6, sl_c7, List.length_map, sp_lifeC, hf.1, sp_lvC, k1, k2, e1, f1, f2, eq_false c2, c3, e2, e3, e4, hlk, sl_kds_1, nI_1]
          rfl
      · have e5 : sp_lf (M.map (·.2)) T v (p + 1) = sp_lf (M.map (·.2)) T v p := by rw [hst]; exact if_neg c1
        obtain ⟨P', r1, r2⟩ := ih (p + 1) (by omega) P (by rw [e5]; exact h)
        refine ⟨P', ?_, r2⟩
        rw [← r1]
        have c2 : ¬ ((M.map (·.2)).getD p sp_oz).2.1 = v := fun q => c1 (Or.inl q)
        have c3 : sp_cnt ((M.map (·.2)).getD p sp_oz).2.2.1 v ≤ 0 := Int32.not_lt.mp fun q => c1 (Or.inr q)
        rw [at_X8_lifeOf_1]; simp only [at_X8_lifeOf_3, ex_nw, ex_dup_i, ex_dup_r, ex_dup_n, ey_ld, sk_ld_s, ey_ci1, sk_c_s, ex_sta, ex_sta_n, ex_push, ex_sti, ex_goto, ey_gf, sk_gf_s, sk_v_s, ey_cv0, ex_ic, ey_cv1, ex_ct, ex_iz, ey_cv3, ey_inc, sk_inc_s, ex_rv, sw_gl_0, sw_gl_s, sw_fx_n, sw_fx_i, sw_fx_r, sw_fx_0, sw_fx_l, sw_fx_d, sw_sl1_0, sw_sl1_1, sw_sl1_s, sw_no_0, sw_no_s, sw_no_e, sw_mk_t, sw_mk_f, sw_mk_e, sw_en_0, sw_en_n, sw_en_i, sw_en_r, sw_en_z, sw_en_l, sw_en_d, sw_ok_0, sw_ok_1, sw_ok_2, sw_ok_3, sw_ok_4, sw_bo_s, sw_oi_s, sw_cl_s, sw_cl_x, sw_psh_s, sw_psh_n, sw_kd_s, sw_op_s, sw_oc_s, sw_oc_e, sw_oa_s, sw_el_n, sw_el_r, sl_kds_1, sl_kds_67, sw_fit_i, sw_fit_r, sw_fit_n, sw_fit_l, sw_fit_d, sw_fit_b, sw_fit_0, sw_fit_1, sw_rel_0, sw_rel_1, sw_rel_2, sw_rel_3, sw_rel_4, sw_rel_5, sw_hp_set, sw_nx_set, sw_sl_set, sw_ev_set, sw_hp_new, sw_nx_new, sw_sl_new, sw_ev_new, List.getElem?_cons_zero, List.getElem?_cons_succ, List.set_cons_zero, List.set_cons_succ, List.length_cons, List.length_nil, Nat.reduceAdd, Nat.reduceSub, Nat.reduceLT, Nat.reduceLeDiff, Nat.zero_lt_succ, Nat.zero_add, beq_self_eq_true, Bool.true_and, and_true, true_and, and_self, not_true_eq_false, not_false_eq_true, ↓reduceIte, Nat.reduceBEq, eq_self, sw_b_0, sw_b_1, decide_eq_false_iff_not, decide_eq_true_eq, sl_n10, sl_n01, Decidable.not_not, sl_ct, sl_cats_0, sl_cats_i, sl_cats_r, sl_cats_n, sl_cats_l, sl_ok_5, sl_ok9, decide_true, sp_machC, sp_nodeC, sp_opC, sl_z0, sl_z1, sl_z2, sl_z3, sl_z4, sl_z5, sl_z6, sl_z7, sl_c0, sl_c1, sl_c2, sl_c3, sl_c4, sl_c5, sl_c6, sl_c7, List.length_map, sp_lifeC, hf.1, sp_lvC, k1, k2, e1, f1, f2, eq_false c2, eq_true c3, e2, sl_kds_1, nI_1]
  have g := h.new (sp_life0 v)
  obtain ⟨P', r1, r2⟩ := hloop (sw_nx P) M.length 0 (by omega) _ g
  refine ⟨P', _, ?_, r2⟩
  rw [show (nI 0 : Int32) = 0 from rfl] at r1
  rw [← r1]
  have e1 := jc_X9_init (D := d) (v := v) (a := sw_nx P) (P := sw_new P (8, [.int 0, .int 0, .int 0, .int 0, .int 0, .int 0, .int 0, .int 0, .int 0, .int 0, .null])) (by omega) (if_pos rfl)
  unfold sp_life0 at e1
  rw [sw_set_new P 8 8 [.int 0, .int 0, .int 0, .int 0, .int 0, .int 0, .int 0, .int 0, .int 0, .int 0, .null] [.int v, .int (-1), .int 0, .int 0, .int 0, .int 0, .int 0, .int (-1), .int 0, .int (-1), .null] rfl] at e1
  rw [M_X8_lifeOf _ _ _ rfl]; simp only [at_X8_lifeOf_0, ex_nw, ex_dup_i, ex_dup_r, ex_dup_n, ey_ld, sk_ld_s, ey_ci1, sk_c_s, ex_sta, ex_sta_n, ex_push, ex_sti, ex_goto, ey_gf, sk_gf_s, sk_v_s, ey_cv0, ex_ic, ey_cv1, ex_ct, ex_iz, ey_cv3, ey_inc, sk_inc_s, ex_rv, sw_gl_0, sw_gl_s, sw_fx_n, sw_fx_i, sw_fx_r, sw_fx_0, sw_fx_l, sw_fx_d, sw_sl1_0, sw_sl1_1, sw_sl1_s, sw_no_0, sw_no_s, sw_no_e, sw_mk_t, sw_mk_f, sw_mk_e, sw_en_0, sw_en_n, sw_en_i, sw_en_r, sw_en_z, sw_en_l, sw_en_d, sw_ok_0, sw_ok_1, sw_ok_2, sw_ok_3, sw_ok_4, sw_bo_s, sw_oi_s, sw_cl_s, sw_cl_x, sw_psh_s, sw_psh_n, sw_kd_s, sw_op_s, sw_oc_s, sw_oc_e, sw_oa_s, sw_el_n, sw_el_r, sl_kds_1, sl_kds_67, sw_fit_i, sw_fit_r, sw_fit_n, sw_fit_l, sw_fit_d, sw_fit_b, sw_fit_0, sw_fit_1, sw_rel_0, sw_rel_1, sw_rel_2, sw_rel_3, sw_rel_4, sw_rel_5, sw_hp_set, sw_nx_set, sw_sl_set, sw_ev_set, sw_hp_new, sw_nx_new, sw_sl_new, sw_ev_new, List.getElem?_cons_zero, List.getElem?_cons_succ, List.set_cons_zero, List.set_cons_succ, List.length_cons, List.length_nil, Nat.reduceAdd, Nat.reduceSub, Nat.reduceLT, Nat.reduceLeDiff, Nat.zero_lt_succ, Nat.zero_add, beq_self_eq_true, Bool.true_and, and_true, true_and, and_self, not_true_eq_false, not_false_eq_true, ↓reduceIte, Nat.reduceBEq, eq_self, sw_b_0, sw_b_1, decide_eq_false_iff_not, decide_eq_true_eq, sl_n10, sl_n01, Decidable.not_not, sl_ct, sl_cats_0, sl_cats_i, sl_cats_r, sl_cats_n, sl_cats_l, sl_ok_5, sl_ok9, decide_true, sp_machC, sp_nodeC, sp_opC, sl_z0, sl_z1, sl_z2, sl_z3, sl_z4, sl_z5, sl_z6, sl_z7, sl_c0, sl_c1, sl_c2, sl_c3, sl_c4, sl_c5, sl_c6, sl_c7, List.length_map, sp_lifeC, e1]
  rfl
theorem jc_X8_stretch {q0 : Nat} (hD : 5 ≤ D) (hl : M.length < 200) (hT : T.length = 4) (hM : ∀ x ∈ M, x.2.2.2.1.length < 100 ∧ (x.2.2.2.2.2.1 = -1 ∨ ∃ k, k < 4 ∧ x.2.2.2.2.2.1 = nI k)) (hq : q0 < M.length) (hx : x.2.2.1 = nI q0)
    (h : sl_st ev c s P (sl_pt a (sp_lifeC (M.map (·.1)) x) :: (sl_lvs ev lv ol pa.1 mach rw M Rw ++ (sl_pt mach (sp_machC m l) :: sl_pt l (64, L.map .int) :: (sl_prog ev pa N B T out ++ F))))) :
    ∃ (P' : sw_P), sw_Z D m_X8_stretch [.ref lv, .ref a] P = some (.inl none, P') ∧ sl_st ev c s P' (sl_pt a (sp_lifeC (M.map (·.1)) (sp_str (M.map (·.2)) T out x)) :: (sl_lvs ev lv ol pa.1 mach rw M Rw ++ (sl_pt mach (sp_machC m l) :: sl_pt l (64, L.map .int) :: (sl_prog ev pa N B T out ++ F)))) := by
  obtain ⟨d, hDe, hDn⟩ := sw_dep hD; subst hDe; replace hD := hDn; clear hDn
  have hloop : ∀ x1 : sp_Life, ∀ j p, p + j = M.length → ∀ P, sl_st ev c s P (sl_pt a (sp_lifeC (M.map (·.1)) (sp_strC x1 (sp_crN (M.map (·.2)) x1 p))) :: (sl_lvs ev lv ol pa.1 mach rw M Rw ++ (sl_pt mach (sp_machC m l) :: sl_pt l (64, L.map .int) :: (sl_prog ev pa N B T out ++ F)))) →
      ∃ P', sw_at (sw_Z d) b_X8_stretch 3 [some (.ref lv), some (.ref a), none, some (.int (nI p))] [] P = some (.inl none, P') ∧ sl_st ev c s P' (sl_pt a (sp_lifeC (M.map (·.1)) (sp_strC x1 (sp_crN (M.map (·.2)) x1 M.length))) :: (sl_lvs ev lv ol pa.1 mach rw M Rw ++ (sl_pt mach (sp_machC m l) :: sl_pt l (64, L.map .int) :: (sl_prog ev pa N B T out ++ F)))) := by
    intro x1 j
    induction j with
    | zero =>
      intro p hp P h
      have : p = M.length := by omega
      subst this
      have hf := sl_lvs_rd h.rd.2
      obtain ⟨k1, k2⟩ := sp_lv_olkd hf (d := d) (by omega)
      have e1 : nI M.length ≤ nI M.length := Int32.le_refl _
      refine ⟨P, ?_, h⟩
      rw [at_X8_stretch_3]; simp only [at_X8_stretch_6, ey_ld, sk_ld_s, ey_gf, sk_gf_s, sk_v_s, ey_cv1, sk_c_s, ex_ct, ex_sti, ex_push, ex_ic, ey_cs2, ex_iz, ey_cv0, ey_pf, sk_pf_s, sw_set_set, ex_goto, ey_ald, sk_ald_s, ey_cv2, ex_dup_i, ex_dup_r, ex_dup_n, ex_ii, ey_inc, sk_inc_s, ex_ret, sw_gl_0, sw_gl_s, sw_fx_n, sw_fx_i, sw_fx_r, sw_fx_0, sw_fx_l, sw_fx_d, sw_sl1_0, sw_sl1_1, sw_sl1_s, sw_no_0, sw_no_s, sw_no_e, sw_mk_t, sw_mk_f, sw_mk_e, sw_en_0, sw_en_n, sw_en_i, sw_en_r, sw_en_z, sw_en_l, sw_en_d, sw_ok_0, sw_ok_1, sw_ok_2, sw_ok_3, sw_ok_4, sw_bo_s, sw_oi_s, sw_cl_s, sw_cl_x, sw_psh_s, sw_psh_n, sw_kd_s, sw_op_s, sw_oc_s, sw_oc_e, sw_oa_s, sw_el_n, sw_el_r, sl_kds_1, sl_kds_67, sw_fit_i, sw_fit_r, sw_fit_n, sw_fit_l, sw_fit_d, sw_fit_b, sw_fit_0, sw_fit_1, sw_rel_0, sw_rel_1, sw_rel_2, sw_rel_3, sw_rel_4, sw_rel_5, sw_hp_set, sw_nx_set, sw_sl_set, sw_ev_set, sw_hp_new, sw_nx_new, sw_sl_new, sw_ev_new, List.getElem?_cons_zero, List.getElem?_cons_succ, List.set_cons_zero, List.set_cons_succ, List.length_cons, List.length_nil, Nat.reduceAdd, Nat.reduceSub, Nat.reduceLT, Nat.reduceLeDiff, Nat.zero_lt_succ, Nat.zero_add, beq_self_eq_true, Bool.true_and, and_true, true_and, and_self, not_true_eq_false, not_false_eq_true, ↓reduceIte, Nat.reduceBEq, eq_self, sw_b_0, sw_b_1, decide_eq_false_iff_not, decide_eq_true_eq, sl_n10, sl_n01, Decidable.not_not, sl_ct, sl_cats_0, sl_cats_i, sl_cats_r, sl_cats_n, sl_cats_l, sl_ok_5, sl_ok9, decide_true, sp_machC, sp_nodeC, sp_opC, sl_z0, sl_z1, sl_z2, sl_z3, sl_z4, sl_z5, sl_z6, sl_z7, sl_c0, sl_c1, sl_c2, sl_c3, sl_c4, sl_c5, sl_c6, sl_c7, List.length_map, sp_lifeC, hf.1, sp_lvC, k1, k2, e1]
    | succ j ih =>
      intro p hp P h
      have hf := sl_lvs_rd h.rd.2
      obtain ⟨k1, k2⟩ := sp_lv_olkd hf (d := d) (by omega)
      have e1 : ¬ nI M.length ≤ nI p := nI_ge (by omega) (by omega)
      obtain ⟨r, f1, f2, f3, f4⟩ := sp_opsR (d := d) (by omega) hf.2.1 hf.2.2.1 (by omega) (k := p) (by omega)
      have h0 := h.get 0 rfl
      have e2 := jc_X7_is (D := d) (k := 9) (by omega) f2
      have e3 := jc_X9_crosses (D := d) (q := nI p) (by omega) h0
      have hcr : sp_crs (sp_strC x1 (sp_crN (M.map (·.2)) x1 p)) (nI p) = sp_crs x1 (nI p) := rfl
      rw [hcr] at e3
      have hst : sp_crN (M.map (·.2)) x1 (p + 1) = sp_crN (M.map (·.2)) x1 p + (if ((M.map (·.2)).getD p sp_oz).1 = 9 ∧ sp_crs x1 (nI p) = true then 1 else 0) := rfl
      have g := sl_st.set h 0 (sp_lifeC (M.map (·.1)) (sp_strC x1 (sp_crN (M.map (·.2)) x1 (p + 1)))) rfl
      obtain ⟨P', r1, r2⟩ := ih (p + 1) (by omega) _ g
      refine ⟨P', ?_, r2⟩
      rw [← r1, hst]
      by_cases c1 : ((M.map (·.2)).getD p sp_oz).1 = 9
      · cases c2 : sp_crs x1 (nI p) <;> rw [c2] at e3
        · rw [at_X8_stretch_3]; simp only [at_X8_stretch_4, at_X8_stretch_5, ey_ld, sk_ld_s, ey_gf, sk_gf_s, sk_v_s, ey_cv1, sk_c_s, ex_ct, ex_sti, ex_push, ex_ic, ey_cs2, ex_iz, ey_cv0, ey_pf, sk_pf_s, sw_set_set, ex_goto, ey_ald, sk_ald_s, ey_cv2, ex_dup_i, ex_dup_r, ex_dup_n, ex_ii, ey_inc, sk_inc_s, ex_ret, sw_gl_0, sw_gl_s, sw_fx_n, sw_fx_i, sw_fx_r, sw_fx_0, sw_fx_l, sw_fx_d, sw_sl1_0, sw_sl1_1, sw_sl1_s, sw_no_0, sw_no_s, sw_no_e, sw_mk_t, sw_mk_f, sw_mk_e, sw_en_0, sw_en_n, sw_en_i, sw_en_r, sw_en_z, sw_en_l, sw_en_d, sw_ok_0, sw_ok_1, sw_ok_2, sw_ok_3, sw_ok_4, sw_bo_s, sw_oi_s, sw_cl_s, sw_cl_x, sw_psh_s, sw_psh_n, sw_kd_s, sw_op_s, sw_oc_s, sw_oc_e, sw_oa_s, sw_el_n, sw_el_r, sl_kds_1, sl_kds_67, sw_fit_i, sw_fit_r, sw_fit_n, sw_fit_l, sw_fit_d, sw_fit_b, sw_fit_0, sw_fit_1, sw_rel_0, sw_rel_1, sw_rel_2, sw_rel_3, sw_rel_4, sw_rel_5, sw_hp_set, sw_nx_set, sw_sl_set, sw_ev_set, sw_hp_new, sw_nx_new, sw_sl_new, sw_ev_new, List.getElem?_cons_zero, List.getElem?_cons_succ, List.set_cons_zero, List.set_cons_succ, List.length_cons, List.length_nil, Nat.reduceAdd, Nat.reduceSub, Nat.reduceLT, Nat.reduceLeDiff, Nat.zero_lt_succ, Nat.zero_add, beq_self_eq_true, Bool.true_and, and_true, true_and, and_self, not_true_eq_false, not_false_eq_true, ↓reduceIte, Nat.reduceBEq, eq_self, sw_b_0, sw_b_1, decide_eq_false_iff_not, decide_eq_true_eq, sl_n10, sl_n01, Decidable.not_not, sl_ct, sl_cats_0, sl_cats_i, sl_cats_r, sl_cats_n, sl_cats_l, sl_ok_5, sl_ok9, decide_true, sp_machC, sp_nodeC, sp_opC, sl_z0, sl_z1, sl_z2, sl_z3, sl_z4, sl_z5, sl_z6, sl_z7, sl_c0, sl_c1, sl_c2, sl_c3, sl_c4, sl_c5, sl_c6, sl_c7, List.length_map, sp_lifeC, hf.1, sp_lvC, k1, k2, e1, h0, sp_strC, f1, f2, e2, e3, eq_true c1, sw_b_t, sw_b_f, sl_kds_1, nI_1, reduceCtorEq, and_false]
        · rw [at_X8_stretch_3]; simp only [at_X8_stretch_5, ey_ld, sk_ld_s, ey_gf, sk_gf_s, sk_v_s, ey_cv1, sk_c_s, ex_ct, ex_sti, ex_push, ex_ic, ey_cs2, ex_iz, ey_cv0, ey_pf, sk_pf_s, sw_set_set, ex_goto, ey_ald, sk_ald_s, ey_cv2, ex_dup_i, ex_dup_r, ex_dup_n, ex_ii, ey_inc, sk_inc_s, ex_ret, sw_gl_0, sw_gl_s, sw_fx_n, sw_fx_i, sw_fx_r, sw_fx_0, sw_fx_l, sw_fx_d, sw_sl1_0, sw_sl1_1, sw_sl1_s, sw_no_0, sw_no_s, sw_no_e, sw_mk_t, sw_mk_f, sw_mk_e, sw_en_0, sw_en_n, sw_en_i, sw_en_r, sw_en_z, sw_en_l, sw_en_d, sw_ok_0, sw_ok_1, sw_ok_2, sw_ok_3, sw_ok_4, sw_bo_s, sw_oi_s, sw_cl_s, sw_cl_x, sw_psh_s, sw_psh_n, sw_kd_s, sw_op_s, sw_oc_s, sw_oc_e, sw_oa_s, sw_el_n, sw_el_r, sl_kds_1, sl_kds_67, sw_fit_i, sw_fit_r, sw_fit_n, sw_fit_l, sw_fit_d, sw_fit_b, sw_fit_0, sw_fit_1, sw_rel_0, sw_rel_1, sw_rel_2, sw_rel_3, sw_rel_4, sw_rel_5, sw_hp_set, sw_nx_set, sw_sl_set, sw_ev_set, sw_hp_new, sw_nx_new, sw_sl_new, sw_ev_new, List.getElem?_cons_zero, List.getElem?_cons_succ, List.set_cons_zero, List.set_cons_succ, List.length_cons, List.length_nil, Nat.reduceAdd, Nat.reduceSub, Nat.reduceLT, Nat.reduceLeDiff, Nat.zero_lt_succ, Nat.zero_add, beq_self_eq_true, Bool.true_and, and_true, true_and, and_self, not_true_eq_false, not_false_eq_true, ↓reduceIte, Nat.reduceBEq, eq_self, sw_b_0, sw_b_1, decide_eq_false_iff_not, decide_eq_true_eq, sl_n10, sl_n01, Decidable.not_not, sl_ct, sl_cats_0, sl_cats_i, sl_cats_r, sl_cats_n, sl_cats_l, sl_ok_5, sl_ok9, decide_true, sp_machC, sp_nodeC, sp_opC, sl_z0, sl_z1, sl_z2, sl_z3, sl_z4, sl_z5, sl_z6, sl_z7, sl_c0, sl_c1, sl_c2, sl_c3, sl_c4, sl_c5, sl_c6, sl_c7, List.length_map, sp_lifeC, hf.1, sp_lvC, k1, k2, e1, h0, sp_strC, f1, f2, e2, e3, eq_true c1, sw_b_t, sw_b_f, sl_kds_1, nI_1, reduceCtorEq]
      · rw [at_X8_stretch_3]; simp only [at_X8_stretch_4, at_X8_stretch_5, ey_ld, sk_ld_s, ey_gf, sk_gf_s, sk_v_s, ey_cv1, sk_c_s, ex_ct, ex_sti, ex_push, ex_ic, ey_cs2, ex_iz, ey_cv0, ey_pf, sk_pf_s, sw_set_set, ex_goto, ey_ald, sk_ald_s, ey_cv2, ex_dup_i, ex_dup_r, ex_dup_n, ex_ii, ey_inc, sk_inc_s, ex_ret, sw_gl_0, sw_gl_s, sw_fx_n, sw_fx_i, sw_fx_r, sw_fx_0, sw_fx_l, sw_fx_d, sw_sl1_0, sw_sl1_1, sw_sl1_s, sw_no_0, sw_no_s, sw_no_e, sw_mk_t, sw_mk_f, sw_mk_e, sw_en_0, sw_en_n, sw_en_i, sw_en_r, sw_en_z, sw_en_l, sw_en_d, sw_ok_0, sw_ok_1, sw_ok_2, sw_ok_3, sw_ok_4, sw_bo_s, sw_oi_s, sw_cl_s, sw_cl_x, sw_psh_s, sw_psh_n, sw_kd_s, sw_op_s, sw_oc_s, sw_oc_e, sw_oa_s, sw_el_n, sw_el_r, sl_kds_1, sl_kds_67, sw_fit_i, sw_fit_r, sw_fit_n, sw_fit_l, sw_fit_d, sw_fit_b, sw_fit_0, sw_fit_1, sw_rel_0, sw_rel_1, sw_rel_2, sw_rel_3, sw_rel_4, sw_rel_5, sw_hp_set, sw_nx_set, sw_sl_set, sw_ev_set, sw_hp_new, sw_nx_new, sw_sl_new, sw_ev_new, List.getElem?_cons_zero, List.getElem?_cons_succ, List.set_cons_zero, List.set_cons_succ, List.length_cons, List.length_nil, Nat.reduceAdd, Nat.reduceSub, Nat.reduceLT, Nat.reduceLeDiff, Nat.zero_lt_succ, Nat.zero_add, beq_self_eq_true, Bool.true_and, and_true, true_and, and_self, not_true_eq_false, not_false_eq_true, ↓reduceIte, Nat.reduceBEq, eq_self, sw_b_0, sw_b_1, decide_eq_false_iff_not, decide_eq_true_eq, sl_n10, sl_n01, Decidable.not_not, sl_ct, sl_cats_0, sl_cats_i, sl_cats_r, sl_cats_n, sl_cats_l, sl_ok_5, sl_ok9, decide_true, sp_machC, sp_nodeC, sp_opC, sl_z0, sl_z1, sl_z2, sl_z3, sl_z4, sl_z5, sl_z6, sl_z7, sl_c0, sl_c1, sl_c2, sl_c3, sl_c4, sl_c5, sl_c6, sl_c7, List.length_map, sp_lifeC, hf.1, sp_lvC, k1, k2, e1, h0, sp_strC, f1, f2, e2, eq_false c1, decide_false, sw_b_f, sl_kds_1, nI_1, false_and]
  have hf := sl_lvs_rd h.rd.2
  obtain ⟨k1, k2⟩ := sp_lv_olkd hf (d := d) (by omega)
  obtain ⟨r, f1, f2, f3, f4⟩ := sp_opsR (d := d) (by omega) hf.2.1 hf.2.2.1 (by omega) (k := q0) hq
  have h0 := h.get 0 rfl
  have ex : M[q0]? = some M[q0] := List.getElem?_eq_getElem hq
  have eo : (M.map (·.2)).getD q0 sp_oz = M[q0].2 := sp_getD (by rw [List.getElem?_map, ex]; rfl)
  obtain ⟨-, hbk⟩ := hM _ (List.getElem_mem hq)
  rw [← eo] at hbk
  have etn : x.2.2.1.toNatClampNeg = q0 := by rw [hx]; exact nI_clamp (by omega)
  have g := sl_st.set h 0 (sp_lifeC (M.map (·.1)) (sp_stT1 (M.map (·.2)) T out x)) rfl
  obtain ⟨P', r1, r2⟩ := hloop (sp_stT1 (M.map (·.2)) T out x) M.length 0 (by omega) _ g
  have hfin : sp_str (M.map (·.2)) T out x = sp_strC (sp_stT1 (M.map (·.2)) T out x) (sp_crN (M.map (·.2)) (sp_stT1 (M.map (·.2)) T out x) M.length) := by unfold sp_str; rw [List.length_map]
  refine ⟨P', ?_, by rw [hfin]; exact r2⟩
  rw [← r1, show (nI 0 : Int32) = 0 from rfl]
  have e0 := jc_X1_has (D := d) (P := P) (x := out) (k := x.1) (by omega)
  have ee1 := jc_X8_edge (D := d) (bk := ((M.map (·.2)).getD q0 sp_oz).2.2.2.2.1) (beh := false) (by omega) hf hl
  have ee2 := jc_X8_edge (D := d) (bk := ((M.map (·.2)).getD q0 sp_oz).2.2.2.2.1) (beh := true) (by omega) hf hl
  rw [sw_b_f] at ee1
  rw [sw_b_t] at ee2
  rw [← hx] at f1
  unfold sp_stT1 sp_stT
  rw [etn, List.length_map]
  generalize (M.map (·.2)).getD q0 sp_oz = o at *
  have hset : sw_set P a (sp_lifeC (M.map (·.1)) x) = P ∨ True := Or.inr trivial
  have same : ∀ Q : sw_P, sw_hp Q a = some (sp_lifeC (M.map (·.1)) x) → sw_set Q a (sp_lifeC (M.map (·.1)) x) = Q := by
    intro Q hQ
    unfold sw_set
    refine Prod.ext (funext fun b => ?_) rfl
    show (if b = a then some _ else Q.1 b) = Q.1 b
    by_cases hb : b = a
    · rw [if_pos hb, hb]; exact hQ.symm
    · rw [if_neg hb]
  have same := same P h0
  simp only [sp_lifeC] at same
  have tail : sw_at (sw_Z d) b_X8_stretch 1 [some (.ref lv), some (.ref a), some (.int o.2.2.2.2.1), none] [] P = sw_at (sw_Z d) b_X8_stretch 3 [some (.ref lv), some (.ref a), none, some (.int 0)] [] (sw_set P a (sp_lifeC (M.map (·.1)) (x.1, x.2.1, if ¬ o.2.2.2.2.1 = -1 ∧ 1 < T.getD o.2.2.2.2.1.toNatClampNeg 0 ∧ x.2.1 < sp_edge (M.map (·.2)) o.2.2.2.2.1 false M.length then sp_edge (M.map (·.2)) o.2.2.2.2.1 true M.length else x.2.2.1, x.2.2.2.1, x.2.2.2.2.1, x.2.2.2.2.2.1, x.2.2.2.2.2.2.1, x.2.2.2.2.2.2.2.1, x.2.2.2.2.2.2.2.2.1, x.2.2.2.2.2.2.2.2.2.1, x.2.2.2.2.2.2.2.2.2.2))) := by
    by_cases c3 : o.2.2.2.2.1 = -1
    · rw [at_X8_stretch_1]; simp only [at_X8_stretch_2, ey_ld, sk_ld_s, ey_gf, sk_gf_s, sk_v_s, ey_cv1, sk_c_s, ex_ct, ex_sti, ex_push, ex_ic, ey_cs2, ex_iz, ey_cv0, ey_pf, sk_pf_s, sw_set_set, ex_goto, ey_ald, sk_ald_s, ey_cv2, ex_dup_i, ex_dup_r, ex_dup_n, ex_ii, ey_inc, sk_inc_s, ex_ret, sw_gl_0, sw_gl_s, sw_fx_n, sw_fx_i, sw_fx_r, sw_fx_0, sw_fx_l, sw_fx_d, sw_sl1_0, sw_sl1_1, sw_sl1_s, sw_no_0, sw_no_s, sw_no_e, sw_mk_t, sw_mk_f, sw_mk_e, sw_en_0, sw_en_n, sw_en_i, sw_en_r, sw_en_z, sw_en_l, sw_en_d, sw_ok_0, sw_ok_1, sw_ok_2, sw_ok_3, sw_ok_4, sw_bo_s, sw_oi_s, sw_cl_s, sw_cl_x, sw_psh_s, sw_psh_n, sw_kd_s, sw_op_s, sw_oc_s, sw_oc_e, sw_oa_s, sw_el_n, sw_el_r, sl_kds_1, sl_kds_67, sw_fit_i, sw_fit_r, sw_fit_n, sw_fit_l, sw_fit_d, sw_fit_b, sw_fit_0, sw_fit_1, sw_rel_0, sw_rel_1, sw_rel_2, sw_rel_3, sw_rel_4, sw_rel_5, sw_hp_set, sw_nx_set, sw_sl_set, sw_ev_set, sw_hp_new, sw_nx_new, sw_sl_new, sw_ev_new, List.getElem?_cons_zero, List.getElem?_cons_succ, List.set_cons_zero, List.set_cons_succ, List.length_cons, List.length_nil, Nat.reduceAdd, Nat.reduceSub, Nat.reduceLT, Nat.reduceLeDiff, Nat.zero_lt_succ, Nat.zero_add, beq_self_eq_true, Bool.true_and, and_true, true_and, and_self, not_true_eq_false, not_false_eq_true, ↓reduceIte, Nat.reduceBEq, eq_self, sw_b_0, sw_b_1, decide_eq_false_iff_not, decide_eq_true_eq, sl_n10, sl_n01, Decidable.not_not, sl_ct, sl_cats_0, sl_cats_i, sl_cats_r, sl_cats_n, sl_cats_l, sl_ok_5, sl_ok9, decide_true, sp_machC, sp_nodeC, sp_opC, sl_z0, sl_z1, sl_z2, sl_z3, sl_z4, sl_z5, sl_z6, sl_z7, sl_c0, sl_c1, sl_c2, sl_c3, sl_c4, sl_c5, sl_c6, sl_c7, List.length_map, sp_lifeC, eq_true c3, same, false_and]
    · obtain ⟨k, hk, ek⟩ := hbk.resolve_left c3
      have e1 : ¬ o.2.2.2.2.1 < 0 := by rw [ek]; exact nI_pos (by omega)
      have e2 : (T.map Value.int)[(o.2.2.2.2.1).toNatClampNeg]? = some (.int (T.getD (o.2.2.2.2.1).toNatClampNeg 0)) := by
        rw [ek, nI_clamp (by omega)]; exact sl_mapget T k (by omega)
      by_cases c4 : 1 < T.getD (o.2.2.2.2.1).toNatClampNeg 0
      · have c4' : ¬ T.getD (o.2.2.2.2.1).toNatClampNeg 0 ≤ 1 := Int32.not_le.mpr c4
        by_cases c5 : x.2.1 < sp_edge (M.map (·.2)) o.2.2.2.2.1 false M.length
        · have c5' : ¬ sp_edge (M.map (·.2)) o.2.2.2.2.1 false M.length ≤ x.2.1 := Int32.not_le.mpr c5
          rw [at_X8_stretch_1]; simp only [at_X8_stretch_2, ey_ld, sk_ld_s, ey_gf, sk_gf_s, sk_v_s, ey_cv1, sk_c_s, ex_ct, ex_sti, ex_push, ex_ic, ey_cs2, ex_iz, ey_cv0, ey_pf, sk_pf_s, sw_set_set, ex_goto, ey_ald, sk_ald_s, ey_cv2, ex_dup_i, ex_dup_r, ex_dup_n, ex_ii, ey_inc, sk_inc_s, ex_ret, sw_gl_0, sw_gl_s, sw_fx_n, sw_fx_i, sw_fx_r, sw_fx_0, sw_fx_l, sw_fx_d, sw_sl1_0, sw_sl1_1, sw_sl1_s, sw_no_0, sw_no_s, sw_no_e, sw_mk_t, sw_mk_f, sw_mk_e, sw_en_0, sw_en_n, sw_en_i, sw_en_r, sw_en_z, sw_en_l, sw_en_d, sw_ok_0, sw_ok_1, sw_ok_2, sw_ok_3, sw_ok_4, sw_bo_s, sw_oi_s, sw_cl_s, sw_cl_x, sw_psh_s, sw_psh_n, sw_kd_s, sw_op_s, sw_oc_s, sw_oc_e, sw_oa_s, sw_el_n, sw_el_r, sl_kds_1, sl_kds_67, sw_fit_i, sw_fit_r, sw_fit_n, sw_fit_l, sw_fit_d, sw_fit_b, sw_fit_0, sw_fit_1, sw_rel_0, sw_rel_1, sw_rel_2, sw_rel_3, sw_rel_4, sw_rel_5, sw_hp_set, sw_nx_set, sw_sl_set, sw_ev_set, sw_hp_new, sw_nx_new, sw_sl_new, sw_ev_new, List.getElem?_cons_zero, List.getElem?_cons_succ, List.set_cons_zero, List.set_cons_succ, List.length_cons, List.length_nil, Nat.reduceAdd, Nat.reduceSub, Nat.reduceLT, Nat.reduceLeDiff, Nat.zero_lt_succ, Nat.zero_add, beq_self_eq_true, Bool.true_and, and_true, true_and, and_self, not_true_eq_false, not_false_eq_true, ↓reduceIte, Nat.reduceBEq, eq_self, sw_b_0, sw_b_1, decide_eq_false_iff_not, decide_eq_true_eq, sl_n10, sl_n01, Decidable.not_not, sl_ct, sl_cats_0, sl_cats_i, sl_cats_r, sl_cats_n, sl_cats_l, sl_ok_5, sl_ok9, decide_true, sp_machC, sp_nodeC, sp_opC, sl_z0, sl_z1, sl_z2, sl_z3, sl_z4, sl_z5, sl_z6, sl_z7, sl_c0, sl_c1, sl_c2, sl_c3, sl_c4, sl_c5, sl_c6, sl_c7, List.length_map, sp_lifeC, eq_false c3, eq_true c4, c4', eq_true c5, c5', hf.1, sp_lvC, hf.2.2.2.2.2.2.1, hf.2.2.2.2.2.2.2, e1, e2, h0, ee1, ee2]
        · have c5' : sp_edge (M.map (·.2)) o.2.2.2.2.1 false M.length ≤ x.2.1 := Int32.not_lt.mp c5
          rw [at_X8_stretch_1]; simp only [at_X8_stretch_2, ey_ld, sk_ld_s, ey_gf, sk_gf_s, sk_v_s, ey_cv1, sk_c_s, ex_ct, ex_sti, ex_push, ex_ic, ey_cs2, ex_iz, ey_cv0, ey_pf, sk_pf_s, sw_set_set, ex_goto, ey_ald, sk_ald_s, ey_cv2, ex_dup_i, ex_dup_r, ex_dup_n, ex_ii, ey_inc, sk_inc_s, ex_ret, sw_gl_0, sw_gl_s, sw_fx_n, sw_fx_i, sw_fx_r, sw_fx_0, sw_fx_l, sw_fx_d, sw_sl1_0, sw_sl1_1, sw_sl1_s, sw_no_0, sw_no_s, sw_no_e, sw_mk_t, sw_mk_f, sw_mk_e, sw_en_0, sw_en_n, sw_en_i, sw_en_r, sw_en_z, sw_en_l, sw_en_d, sw_ok_0, sw_ok_1, sw_ok_2, sw_ok_3, sw_ok_4, sw_bo_s, sw_oi_s, sw_cl_s, sw_cl_x, sw_psh_s, sw_psh_n, sw_kd_s, sw_op_s, sw_oc_s, sw_oc_e, sw_oa_s, sw_el_n, sw_el_r, sl_kds_1, sl_kds_67, sw_fit_i, sw_fit_r, sw_fit_n, sw_fit_l, sw_fit_d, sw_fit_b, sw_fit_0, sw_fit_1, sw_rel_0, sw_rel_1, sw_rel_2, sw_rel_3, sw_rel_4, sw_rel_5, sw_hp_set, sw_nx_set, sw_sl_set, sw_ev_set, sw_hp_new, sw_nx_new, sw_sl_new, sw_ev_new, List.getElem?_cons_zero, List.getElem?_cons_succ, List.set_cons_zero, List.set_cons_succ, List.length_cons, List.length_nil, Nat.reduceAdd, Nat.reduceSub, Nat.reduceLT, Nat.reduceLeDiff, Nat.zero_lt_succ, Nat.zero_add, beq_self_eq_true, Bool.true_and, and_true, true_and, and_self, not_true_eq_false, not_false_eq_true, ↓reduceIte, Nat.reduceBEq, eq_self, sw_b_0, sw_b_1, decide_eq_false_iff_not, decide_eq_true_eq, sl_n10, sl_n01, Decidable.not_not, sl_ct, sl_cats_0, sl_cats_i, sl_cats_r, sl_cats_n, sl_cats_l, sl_ok_5, sl_ok9, decide_true, sp_machC, sp_nodeC, sp_opC, sl_z0, sl_z1, sl_z2, sl_z3, sl_z4, sl_z5, sl_z6, sl_z7, sl_c0, sl_c1, sl_c2, sl_c3, sl_c4, sl_c5, sl_c6, sl_c7, List.length_map, sp_lifeC, eq_false c3, eq_true c4, c4', eq_false c5, eq_true c5', hf.1, sp_lvC, hf.2.2.2.2.2.2.1, hf.2.2.2.2.2.2.2, e1, e2, h0, ee1, same, and_false]
      · have c4' : T.getD (o.2.2.2.2.1).toNatClampNeg 0 ≤ 1 := Int32.not_lt.mp c4
        rw [at_X8_stretch_1]; simp only [at_X8_stretch_2, ey_ld, sk_ld_s, ey_gf, sk_gf_s, sk_v_s, ey_cv1, sk_c_s, ex_ct, ex_sti, ex_push, ex_ic, ey_cs2, ex_iz, ey_cv0, ey_pf, sk_pf_s, sw_set_set, ex_goto, ey_ald, sk_ald_s, ey_cv2, ex_dup_i, ex_dup_r, ex_dup_n, ex_ii, ey_inc, sk_inc_s, ex_ret, sw_gl_0, sw_gl_s, sw_fx_n, sw_fx_i, sw_fx_r, sw_fx_0, sw_fx_l, sw_fx_d, sw_sl1_0, sw_sl1_1, sw_sl1_s, sw_no_0, sw_no_s, sw_no_e, sw_mk_t, sw_mk_f, sw_mk_e, sw_en_0, sw_en_n, sw_en_i, sw_en_r, sw_en_z, sw_en_l, sw_en_d, sw_ok_0, sw_ok_1, sw_ok_2, sw_ok_3, sw_ok_4, sw_bo_s, sw_oi_s, sw_cl_s, sw_cl_x, sw_psh_s, sw_psh_n, sw_kd_s, sw_op_s, sw_oc_s, sw_oc_e, sw_oa_s, sw_el_n, sw_el_r, sl_kds_1, sl_kds_67, sw_fit_i, sw_fit_r, sw_fit_n, sw_fit_l, sw_fit_d, sw_fit_b, sw_fit_0, sw_fit_1, sw_rel_0, sw_rel_1, sw_rel_2, sw_rel_3, sw_rel_4, sw_rel_5, sw_hp_set, sw_nx_set, sw_sl_set, sw_ev_set, sw_hp_new, sw_nx_new, sw_sl_new, sw_ev_new, List.getElem?_cons_zero, List.getElem?_cons_succ, List.set_cons_zero, List.set_cons_succ, List.length_cons, List.length_nil, Nat.reduceAdd, Nat.reduceSub, Nat.reduceLT, Nat.reduceLeDiff, Nat.zero_lt_succ, Nat.zero_add, beq_self_eq_true, Bool.true_and, and_true, true_and, and_self, not_true_eq_false, not_false_eq_true, ↓reduceIte, Nat.reduceBEq, eq_self, sw_b_0, sw_b_1, decide_eq_false_iff_not, decide_eq_true_eq, sl_n10, sl_n01, Decidable.not_not, sl_ct, sl_cats_0, sl_cats_i, sl_cats_r, sl_cats_n, sl_cats_l, sl_ok_5, sl_ok9, decide_true, sp_machC, sp_nodeC, sp_opC, sl_z0, sl_z1, sl_z2, sl_z3, sl_z4, sl_z5, sl_z6, sl_z7, sl_c0, sl_c1, sl_c2, sl_c3, sl_c4, sl_c5, sl_c6, sl_c7, List.length_map, sp_lifeC, eq_false c3, eq_false c4, eq_true c4', hf.1, sp_lvC, hf.2.2.2.2.2.2.1, hf.2.2.2.2.2.2.2, e1, e2, same, and_false, false_and]
  by_cases c1 : x.1 < 8
  · have c1' : ¬ (8 : Int32) ≤ x.1 := Int32.not_le.mpr c1
    cases c2 : sp_has out x.1 <;> rw [c2] at e0
    · rw [M_X8_stretch _ _ _ rfl]; simp only [at_X8_stretch_0, ey_ld, sk_ld_s, ey_gf, sk_gf_s, sk_v_s, ey_cv1, sk_c_s, ex_ct, ex_sti, ex_push, ex_ic, ey_cs2, ex_iz, ey_cv0, ey_pf, sk_pf_s, sw_set_set, ex_goto, ey_ald, sk_ald_s, ey_cv2, ex_dup_i, ex_dup_r, ex_dup_n, ex_ii, ey_inc, sk_inc_s, ex_ret, sw_gl_0, sw_gl_s, sw_fx_n, sw_fx_i, sw_fx_r, sw_fx_0, sw_fx_l, sw_fx_d, sw_sl1_0, sw_sl1_1, sw_sl1_s, sw_no_0, sw_no_s, sw_no_e, sw_mk_t, sw_mk_f, sw_mk_e, sw_en_0, sw_en_n, sw_en_i, sw_en_r, sw_en_z, sw_en_l, sw_en_d, sw_ok_0, sw_ok_1, sw_ok_2, sw_ok_3, sw_ok_4, sw_bo_s, sw_oi_s, sw_cl_s, sw_cl_x, sw_psh_s, sw_psh_n, sw_kd_s, sw_op_s, sw_oc_s, sw_oc_e, sw_oa_s, sw_el_n, sw_el_r, sl_kds_1, sl_kds_67, sw_fit_i, sw_fit_r, sw_fit_n, sw_fit_l, sw_fit_d, sw_fit_b, sw_fit_0, sw_fit_1, sw_rel_0, sw_rel_1, sw_rel_2, sw_rel_3, sw_rel_4, sw_rel_5, sw_hp_set, sw_nx_set, sw_sl_set, sw_ev_set, sw_hp_new, sw_nx_new, sw_sl_new, sw_ev_new, List.getElem?_cons_zero, List.getElem?_cons_succ, List.set_cons_zero, List.set_cons_succ, List.length_cons, List.length_nil, Nat.reduceAdd, Nat.reduceSub, Nat.reduceLT, Nat.reduceLeDiff, Nat.zero_lt_succ, Nat.zero_add, beq_self_eq_true, Bool.true_and, and_true, true_and, and_self, not_true_eq_false, not_false_eq_true, ↓reduceIte, Nat.reduceBEq, eq_self, sw_b_0, sw_b_1, decide_eq_false_iff_not, decide_eq_true_eq, sl_n10, sl_n01, Decidable.not_not, sl_ct, sl_cats_0, sl_cats_i, sl_cats_r, sl_cats_n, sl_cats_l, sl_ok_5, sl_ok9, decide_true, sp_machC, sp_nodeC, sp_opC, sl_z0, sl_z1, sl_z2, sl_z3, sl_z4, sl_z5, sl_z6, sl_z7, sl_c0, sl_c1, sl_c2, sl_c3, sl_c4, sl_c5, sl_c6, sl_c7, List.length_map, sp_lifeC, hf.1, sp_lvC, k1, h0, f1, f2, c1', hf.2.2.2.2.2.2.1, e0, sw_b_f, sl_kds_1, reduceCtorEq, and_false]
      rw [tail]
      rfl
    · rw [M_X8_stretch _ _ _ rfl]; simp only [at_X8_stretch_0, at_X8_stretch_2, ey_ld, sk_ld_s, ey_gf, sk_gf_s, sk_v_s, ey_cv1, sk_c_s, ex_ct, ex_sti, ex_push, ex_ic, ey_cs2, ex_iz, ey_cv0, ey_pf, sk_pf_s, sw_set_set, ex_goto, ey_ald, sk_ald_s, ey_cv2, ex_dup_i, ex_dup_r, ex_dup_n, ex_ii, ey_inc, sk_inc_s, ex_ret, sw_gl_0, sw_gl_s, sw_fx_n, sw_fx_i, sw_fx_r, sw_fx_0, sw_fx_l, sw_fx_d, sw_sl1_0, sw_sl1_1, sw_sl1_s, sw_no_0, sw_no_s, sw_no_e, sw_mk_t, sw_mk_f, sw_mk_e, sw_en_0, sw_en_n, sw_en_i, sw_en_r, sw_en_z, sw_en_l, sw_en_d, sw_ok_0, sw_ok_1, sw_ok_2, sw_ok_3, sw_ok_4, sw_bo_s, sw_oi_s, sw_cl_s, sw_cl_x, sw_psh_s, sw_psh_n, sw_kd_s, sw_op_s, sw_oc_s, sw_oc_e, sw_oa_s, sw_el_n, sw_el_r, sl_kds_1, sl_kds_67, sw_fit_i, sw_fit_r, sw_fit_n, sw_fit_l, sw_fit_d, sw_fit_b, sw_fit_0, sw_fit_1, sw_rel_0, sw_rel_1, sw_rel_2, sw_rel_3, sw_rel_4, sw_rel_5, sw_hp_set, sw_nx_set, sw_sl_set, sw_ev_set, sw_hp_new, sw_nx_new, sw_sl_new, sw_ev_new, List.getElem?_cons_zero, List.getElem?_cons_succ, List.set_cons_zero, List.set_cons_succ, List.length_cons, List.length_nil, Nat.reduceAdd, Nat.reduceSub, Nat.reduceLT, Nat.reduceLeDiff, Nat.zero_lt_succ, Nat.zero_add, beq_self_eq_true, Bool.true_and, and_true, true_and, and_self, not_true_eq_false, not_false_eq_true, ↓reduceIte, Nat.reduceBEq, eq_self, sw_b_0, sw_b_1, decide_eq_false_iff_not, decide_eq_true_eq, sl_n10, sl_n01, Decidable.not_not, sl_ct, sl_cats_0, sl_cats_i, sl_cats_r, sl_cats_n, sl_cats_l, sl_ok_5, sl_ok9, decide_true, sp_machC, sp_nodeC, sp_opC, sl_z0, sl_z1, sl_z2, sl_z3, sl_z4, sl_z5, sl_z6, sl_z7, sl_c0, sl_c1, sl_c2, sl_c3, sl_c4, sl_c5, sl_c6, sl_c7, List.length_map, sp_lifeC, hf.1, sp_lvC, k1, k2, h0, f1, f2, c1', eq_true c1, hf.2.2.2.2.2.2.1, e0, sw_b_t, sl_kds_1, reduceCtorEq]
  · have c1' : (8 : Int32) ≤ x.1 := Int32.not_lt.mp c1
    rw [M_X8_stretch _ _ _ rfl]; simp only [at_X8_stretch_0, ey_ld, sk_ld_s, ey_gf, sk_gf_s, sk_v_s, ey_cv1, sk_c_s, ex_ct, ex_sti, ex_push, ex_ic, ey_cs2, ex_iz, ey_cv0, ey_pf, sk_pf_s, sw_set_set, ex_goto, ey_ald, sk_ald_s, ey_cv2, ex_dup_i, ex_dup_r, ex_dup_n, ex_ii, ey_inc, sk_inc_s, ex_ret, sw_gl_0, sw_gl_s, sw_fx_n, sw_fx_i, sw_fx_r, sw_fx_0, sw_fx_l, sw_fx_d, sw_sl1_0, sw_sl1_1, sw_sl1_s, sw_no_0, sw_no_s, sw_no_e, sw_mk_t, sw_mk_f, sw_mk_e, sw_en_0, sw_en_n, sw_en_i, sw_en_r, sw_en_z, sw_en_l, sw_en_d, sw_ok_0, sw_ok_1, sw_ok_2, sw_ok_3, sw_ok_4, sw_bo_s, sw_oi_s, sw_cl_s, sw_cl_x, sw_psh_s, sw_psh_n, sw_kd_s, sw_op_s, sw_oc_s, sw_oc_e, sw_oa_s, sw_el_n, sw_el_r, sl_kds_1, sl_kds_67, sw_fit_i, sw_fit_r, sw_fit_n, sw_fit_l, sw_fit_d, sw_fit_b, sw_fit_0, sw_fit_1, sw_rel_0, sw_rel_1, sw_rel_2, sw_rel_3, sw_rel_4, sw_rel_5, sw_hp_set, sw_nx_set, sw_sl_set, sw_ev_set, sw_hp_new, sw_nx_new, sw_sl_new, sw_ev_new, List.getElem?_cons_zero, List.getElem?_cons_succ, List.set_cons_zero, List.set_cons_succ, List.length_cons, List.length_nil, Nat.reduceAdd, Nat.reduceSub, Nat.reduceLT, Nat.reduceLeDiff, Nat.zero_lt_succ, Nat.zero_add, beq_self_eq_true, Bool.true_and, and_true, true_and, and_self, not_true_eq_false, not_false_eq_true, ↓reduceIte, Nat.reduceBEq, eq_self, sw_b_0, sw_b_1, decide_eq_false_iff_not, decide_eq_true_eq, sl_n10, sl_n01, Decidable.not_not, sl_ct, sl_cats_0, sl_cats_i, sl_cats_r, sl_cats_n, sl_cats_l, sl_ok_5, sl_ok9, decide_true, sp_machC, sp_nodeC, sp_opC, sl_z0, sl_z1, sl_z2, sl_z3, sl_z4, sl_z5, sl_z6, sl_z7, sl_c0, sl_c1, sl_c2, sl_c3, sl_c4, sl_c5, sl_c6, sl_c7, List.length_map, sp_lifeC, hf.1, sp_lvC, k1, h0, f1, f2, eq_true c1', eq_false c1, sl_kds_1, false_and]
    rw [tail]
    rfl
end
