/-! ===== the component's writer: one instruction ===== -/
def sp_rdK (m : sp_Mach) (Rs : List sp_Life) (v : Int32) (k : Nat) : Int32 := if (sp_lifeV Rs v).2.2.2.2.2.2.2.2.1 = true then m.1 - 3 + nI k else (sp_lifeV Rs v).2.2.2.2.2.2.2.1
def sp_rdC (m : sp_Mach) (os : List sp_Op) (Rs : List sp_Life) (p v : Int32) (k : Nat) : List sp_In := if (sp_lifeV Rs v).2.2.2.2.2.2.2.2.1 = true then sp_brg os Rs p v (m.1 - 3 + nI k) else []
def sp_rds (m : sp_Mach) (Rs : List sp_Life) (rs : List Int32) : Nat → List Int32 := sw_it (fun k l => l.set k (sp_rdK m Rs (rs.getD k 0) k)) (List.replicate rs.length 0)
def sp_rdc (m : sp_Mach) (os : List sp_Op) (Rs : List sp_Life) (p : Int32) (rs : List Int32) : Nat → List sp_In := sw_it (fun k l => l ++ sp_rdC m os Rs p (rs.getD k 0) k) []
def sp_rck (p : Int32) (o : sp_Op) (d0 : Int32) (rs : List Int32) : List sp_In := if o.1 = 5 then [(5, d0, rs.getD 0 0, o.2.2.2.1, 0, p, -1)] else if o.1 = 6 then [(6, d0, rs.getD 0 0, rs.getD 1 0, rs.getD 2 0, p, -1)] else [(o.1, d0, rs.getD 0 0, rs.getD 1 0, 0, p, -1)]
def sp_rckI (p : Int32) (o : sp_Op) (d0 : Int32) (rs : List Int32) : List sp_In := sp_mv p d0 (rs.getD 0 0) ++ sp_rck p o d0 (rs.set 0 d0)
def sp_isIn (d0 : Int32) (rs : List Int32) : Nat → Int32 := sw_it (fun j q => q ||| (if rs.getD (j + 1) 0 = d0 then 1 else 0)) 0
def sp_two (m : sp_Mach) (p : Int32) (o : sp_Op) (d0 : Int32) (rs : List Int32) : List sp_In :=
  if rs.getD 0 0 = d0 ∨ sp_isIn d0 rs (rs.length - 1) = 0 then sp_rckI p o d0 rs
  else if o.1 = 2 ∨ o.1 = 4 then [(o.1, d0, d0, rs.getD 0 0, 0, p, -1)]
  else sp_rckI p o (m.1 - 3) rs ++ sp_mv p d0 (m.1 - 3)
/-- how many an instruction reads -/
def sp_rlen (o : sp_Op) : Prop := (o.1 = 0 ∧ o.2.2.1.length = 0) ∨ ((o.1 = 1 ∨ o.1 = 5) ∧ o.2.2.1.length = 1) ∨ (o.1 = 6 ∧ o.2.2.1.length = 3) ∨ ((o.1 = 2 ∨ o.1 = 3 ∨ o.1 = 4 ∨ o.1 = 9) ∧ o.2.2.1.length = 2)
theorem sp_mv_len (p a b : Int32) : (sp_mv p a b).length ≤ 1 := by unfold sp_mv; split <;> simp
theorem sp_brg_len (os : List sp_Op) (Rs : List sp_Life) (p v t : Int32) : (sp_brg os Rs p v t).length ≤ 1 := by
  unfold sp_brg; split
  · simp
  · split
    · simp
    · exact sp_mv_len _ _ _
theorem sp_rdC_len (m : sp_Mach) (os : List sp_Op) (Rs : List sp_Life) (p v : Int32) (k : Nat) : (sp_rdC m os Rs p v k).length ≤ 1 := by
  unfold sp_rdC; split
  · exact sp_brg_len _ _ _ _ _
  · simp
theorem sp_rdc_len (m : sp_Mach) (os : List sp_Op) (Rs : List sp_Life) (p : Int32) (rs : List Int32) (k : Nat) : (sp_rdc m os Rs p rs k).length ≤ k := by
  induction k with
  | zero => exact Nat.le_refl _
  | succ k ih =>
    show (sp_rdc m os Rs p rs k ++ _).length ≤ _
    rw [List.length_append]
    have := sp_rdC_len m os Rs p (rs.getD k 0) k
    omega
theorem sp_rck_len (p : Int32) (o : sp_Op) (d0 : Int32) (rs : List Int32) : (sp_rck p o d0 rs).length = 1 := by
  unfold sp_rck; split
  · rfl
  · split <;> rfl
theorem sp_rckI_len (p : Int32) (o : sp_Op) (d0 : Int32) (rs : List Int32) : (sp_rckI p o d0 rs).length ≤ 2 := by
  unfold sp_rckI
  rw [List.length_append, sp_rck_len]
  have := sp_mv_len p d0 (rs.getD 0 0)
  omega
theorem sp_rds_len (m : sp_Mach) (Rs : List sp_Life) (rs : List Int32) (k : Nat) : (sp_rds m Rs rs k).length = rs.length := by
  induction k with
  | zero => exact List.length_replicate
  | succ k ih => exact (List.length_set).trans ih
theorem sp_insLen {A : List (Nat × sp_In)} {x : List sp_In} (h : A.map (·.2) = x) : A.length = x.length := by rw [← h, List.length_map]
section
variable {ev : Nat → Nat} {wr cl lv ol mach rw l a b r ra D d c s : Nat} {pa : sp_PA} {N : List (Nat × sp_Node)} {B : List sp_Blk} {M : List (Nat × sp_Op)} {Rw : sp_LR} {m : sp_Mach} {L T rs : List Int32} {out v g f p d0 : Int32} {P : sw_P} {x y : sp_Life} {F R : List sl_A} {K : List (Nat × sp_In)} {o : sp_Op}
/-- what is written where, in a frame that holds an array -/
theorem jc_X10_readsOf (hD : 14 ≤ D) (hok : sp_lvok M Rw T) (hl : K.length < 990) (hb : ∀ P, sp_lvF ev (sw_hp P) lv ol pa.1 mach rw pa.2.1 pa.2.2.1 pa.2.2.2 M Rw m L T out → ∃ r, sw_hp P b = some (sp_opC o r) ∧ sw_hp P r = some (64, o.2.2.1.map .int)) (hrl : o.2.2.1.length ≤ 3) (hv : ∀ k, k < o.2.2.1.length → ∃ q, sp_plc (Rw.map (·.2)) (o.2.2.1.getD k 0) Rw.length = some q) (h : sp_wrS ev wr cl (sp_wrC lv mach cl p) (sl_cx ev lv ol mach rw M Rw m l L pa N B T out F) c s P K) :
    ∃ (P' : sw_P) (ra : Nat) (A : List (Nat × sp_In)), sw_Z D m_X10_readsOf [.ref wr, .ref b] P = some (.inl (some (.ref ra)), P') ∧ A.map (·.2) = sp_rdc m (M.map (·.2)) (Rw.map (·.2)) p o.2.2.1 o.2.2.1.length ∧ sp_wrS ev wr cl (sp_wrC lv mach cl p) (sl_cx ev lv ol mach rw M Rw m l L pa N B T out (sl_pt ra (64, (sp_rds m (Rw.map (·.2)) o.2.2.1 o.2.2.1.length).map .int) :: F)) (c + 1) (s + o.2.2.1.length) P' (K ++ A) := by
  obtain ⟨d, hDe, hDn⟩ := sw_dep hD; subst hDe; replace hD := hDn; clear hDn
  have hloop : ∀ ra, ∀ j k, k + j = o.2.2.1.length → ∀ P (A : List (Nat × sp_In)), A.map (·.2) = sp_rdc m (M.map (·.2)) (Rw.map (·.2)) p o.2.2.1 k → sp_wrS ev wr cl (sp_wrC lv mach cl p) (sl_cx ev lv ol mach rw M Rw m l L pa N B T out (sl_pt ra (64, (sp_rds m (Rw.map (·.2)) o.2.2.1 k).map .int) :: F)) (c + 1) (s + o.2.2.1.length) P (K ++ A) →
      ∃ (P' : sw_P) (A : List (Nat × sp_In)), sw_at (sw_Z d) b_X10_readsOf 1 [some (.ref wr), some (.ref b), some (.ref ra), some (.int (nI k)), none] [] P = some (.inl (some (.ref ra)), P') ∧ A.map (·.2) = sp_rdc m (M.map (·.2)) (Rw.map (·.2)) p o.2.2.1 o.2.2.1.length ∧ sp_wrS ev wr cl (sp_wrC lv mach cl p) (sl_cx ev lv ol mach rw M Rw m l L pa N B T out (sl_pt ra (64, (sp_rds m (Rw.map (·.2)) o.2.2.1 o.2.2.1.length).map .int) :: F)) (c + 1) (s + o.2.2.1.length) P' (K ++ A) := by
    intro ra j
    induction j with
    | zero =>
      intro k hk P A hA h
      have : k = o.2.2.1.length := by omega
      subst this
      have har := sl_st.get h.free 0 rfl
      have e1 : Int32.ofNat (sp_rds m (Rw.map (·.2)) o.2.2.1 o.2.2.1.length).length ≤ nI o.2.2.1.length := by rw [sp_rds_len]; exact Int32.le_refl _
      refine ⟨P, A, ?_, hA, h⟩
      rw [at_X10_readsOf_1]; simp only [at_X10_readsOf_5, ey_ld, sk_ld_s, ey_gf, sk_gf_s, sk_v_s, ey_al, sk_al_s, ex_na, ex_sta, ex_sta_n, ex_push, ex_sti, ex_goto, ex_ic, ey_ald, sk_ald_s, ey_cv1, sk_c_s, ex_iz, ey_cv0, ex_ii, ey_ast, sk_ast_s, ey_cv2, ey_inc, sk_inc_s, ex_rv, sw_gl_0, sw_gl_s, sw_fx_n, sw_fx_i, sw_fx_r, sw_fx_0, sw_fx_l, sw_fx_d, sw_sl1_0, sw_sl1_1, sw_sl1_s, sw_no_0, sw_no_s, sw_no_e, sw_mk_t, sw_mk_f, sw_mk_e, sw_en_0, sw_en_n, sw_en_i, sw_en_r, sw_en_z, sw_en_l, sw_en_d, sw_ok_0, sw_ok_1, sw_ok_2, sw_ok_3, sw_ok_4, sw_bo_s, sw_oi_s, sw_cl_s, sw_cl_x, sw_psh_s, sw_psh_n, sw_kd_s, sw_op_s, sw_oc_s, sw_oc_e, sw_oa_s, sw_el_n, sw_el_r, sl_kds_1, sl_kds_67, sw_fit_i, sw_fit_r, sw_fit_n, sw_fit_l, sw_fit_d, sw_fit_b, sw_fit_0, sw_fit_1, sw_rel_0, sw_rel_1, sw_rel_2, sw_rel_3, sw_rel_4, sw_rel_5, sw_hp_set, sw_nx_set, sw_sl_set, sw_ev_set, sw_hp_new, sw_nx_new, sw_sl_new, sw_ev_new, List.getElem?_cons_zero, List.getElem?_cons_succ, List.set_cons_zero, List.set_cons_succ, List.length_cons, List.length_nil, Nat.reduceAdd, Nat.reduceSub, Nat.reduceLT, Nat.reduceLeDiff, Nat.zero_lt_succ, Nat.zero_add, beq_self_eq_true, Bool.true_and, and_true, true_and, and_self, not_true_eq_false, not_false_eq_true, ↓reduceIte, Nat.reduceBEq, eq_self, sw_b_0, sw_b_1, decide_eq_false_iff_not, decide_eq_true_eq, sl_n10, sl_n01, Decidable.not_not, sl_ct, sl_cats_0, sl_cats_i, sl_cats_r, sl_cats_n, sl_cats_l, sl_ok_5, sl_ok9, decide_true, sp_machC, sp_nodeC, sp_opC, sl_z0, sl_z1, sl_z2, sl_z3, sl_z4, sl_z5, sl_z6, sl_z7, sl_c0, sl_c1, sl_c2, sl_c3, sl_c4, sl_c5, sl_c6, sl_c7, List.length_map, sp_lifeC, sp_inC, har, e1]
    | succ j ih =>
      intro k hk P A hA h
      have har := sl_st.get h.free 0 rfl
      have h0 := sl_st.get h 0 rfl
      have hf := h.lives
      obtain ⟨r, f1, f2⟩ := hb P hf
      have e1 : ¬ Int32.ofNat (sp_rds m (Rw.map (·.2)) o.2.2.1 k).length ≤ nI k := by rw [sp_rds_len]; exact nI_ge (by omega) (by omega)
      have e2 : ¬ nI k < 0 := nI_pos (by omega)
      have e3 : (nI k).toNatClampNeg = k := nI_clamp (by omega)
      have e4 := sl_mapget o.2.2.1 k (by omega)
      obtain ⟨q, hq⟩ := hv k (by omega)
      have hkl := (sp_plc_lt _ _ _ hq).1
      have e5 := jc_X8_of (D := d) (by omega) hf hok hq hkl
      obtain ⟨g1, g2, g3⟩ := sp_lv_row hf hok (d := d) (by omega) hkl
      have ex : sp_lifeV (Rw.map (·.2)) (o.2.2.1.getD k 0) = Rw[q].2 := by
        unfold sp_lifeV
        rw [List.length_map, hq]; exact g3
      have hqv : Rw[q].2.1 = o.2.2.1.getD k 0 := by rw [← g3]; exact (sp_plc_lt _ _ _ hq).2
      rw [g3] at g2
      have esc := jc_X3_scratch (D := d) (by omega) hf.2.2.2.2.2.1
      obtain ⟨lm, em, -⟩ := hf.2.2.2.2.2.1
      have hlk := hf.1
      have hAl := sp_insLen hA
      have hAk := sp_rdc_len m (M.map (·.2)) (Rw.map (·.2)) p o.2.2.1 k
      have e6 : k < (sp_rds m (Rw.map (·.2)) o.2.2.1 k).length := by rw [sp_rds_len]; omega
      have e7 := sl_map_set (sp_rds m (Rw.map (·.2)) o.2.2.1 k) k (sp_rdK m (Rw.map (·.2)) (o.2.2.1.getD k 0) k)
      have hst1 : sp_rds m (Rw.map (·.2)) o.2.2.1 (k + 1) = (sp_rds m (Rw.map (·.2)) o.2.2.1 k).set k (sp_rdK m (Rw.map (·.2)) (o.2.2.1.getD k 0) k) := rfl
      have hst2 : sp_rdc m (M.map (·.2)) (Rw.map (·.2)) p o.2.2.1 (k + 1) = sp_rdc m (M.map (·.2)) (Rw.map (·.2)) p o.2.2.1 k ++ sp_rdC m (M.map (·.2)) (Rw.map (·.2)) p (o.2.2.1.getD k 0) k := rfl
      rw [← hst1] at e7
      have s1 : sp_wrS ev wr cl (sp_wrC lv mach cl p) (sl_cx ev lv ol mach rw M Rw m l L pa N B T out (sl_pt ra (64, (sp_rds m (Rw.map (·.2)) o.2.2.1 (k + 1)).map .int) :: F)) (c + 1) (s + o.2.2.1.length) (sw_set P ra (64, (sp_rds m (Rw.map (·.2)) o.2.2.1 (k + 1)).map .int)) (K ++ A) := sp_wrS.hold (sl_st.set (sp_wrS.free h) 0 _ rfl)
      have har1 := sl_st.get s1.free 0 rfl
      have hlr : ¬ Rw[q].1 = ra := sl_one g2 har (by show ¬ (8 : Nat) = 64; decide)
      have har2 : ((sp_rds m (Rw.map (·.2)) o.2.2.1 (k + 1)).map Value.int)[k]? = some (.int (sp_rdK m (Rw.map (·.2)) (o.2.2.1.getD k 0) k)) := by
        rw [sl_mapget _ k (by rw [sp_rds_len]; omega), hst1, sp_getD (List.getElem?_set_self e6)]
      have hwr1 : ¬ wr = ra := sl_one h0 har (by show ¬ (9 : Nat) = 64; decide)
      cases c1 : Rw[q].2.2.2.2.2.2.2.2.2.1
      · have e8 : sp_rdK m (Rw.map (·.2)) (o.2.2.1.getD k 0) k = Rw[q].2.2.2.2.2.2.2.2.1 := by unfold sp_rdK; rw [ex, if_neg (by rw [c1]; decide)]
        have e9 : sp_rdC m (M.map (·.2)) (Rw.map (·.2)) p (o.2.2.1.getD k 0) k = [] := by unfold sp_rdC; rw [ex, if_neg (by rw [c1]; decide)]
        obtain ⟨P', A', r1, a1, t1⟩ := ih (k + 1) (by omega) _ A (by rw [hst2, e9, List.append_nil]; exact hA) s1
        refine ⟨P', A', ?_, a1, t1⟩
        rw [← r1]
        rw [e8] at e7
        rw [at_X10_readsOf_1]; simp only [at_X10_readsOf_2, at_X10_readsOf_3, at_X10_readsOf_4, ey_ld, sk_ld_s, ey_gf, sk_gf_s, sk_v_s, ey_al, sk_al_s, ex_na, ex_sta, ex_sta_n, ex_push, ex_sti, ex_goto, ex_ic, ey_ald, sk_ald_s, ey_cv1, sk_c_s, ex_iz, ey_cv0, ex_ii, ey_ast, sk_ast_s, ey_cv2, ey_inc, sk_inc_s, ex_rv, sw_gl_0, sw_gl_s, sw_fx_n, sw_fx_i, sw_fx_r, sw_fx_0, sw_fx_l, sw_fx_d, sw_sl1_0, sw_sl1_1, sw_sl1_s, sw_no_0, sw_no_s, sw_no_e, sw_mk_t, sw_mk_f, sw_mk_e, sw_en_0, sw_en_n, sw_en_i, sw_en_r, sw_en_z, sw_en_l, sw_en_d, sw_ok_0, sw_ok_1, sw_ok_2, sw_ok_3, sw_ok_4, sw_bo_s, sw_oi_s, sw_cl_s, sw_cl_x, sw_psh_s, sw_psh_n, sw_kd_s, sw_op_s, sw_oc_s, sw_oc_e, sw_oa_s, sw_el_n, sw_el_r, sl_kds_1, sl_kds_67, sw_fit_i, sw_fit_r, sw_fit_n, sw_fit_l, sw_fit_d, sw_fit_b, sw_fit_0, sw_fit_1, sw_rel_0, sw_rel_1, sw_rel_2, sw_rel_3, sw_rel_4, sw_rel_5, sw_hp_set, sw_nx_set, sw_sl_set, sw_ev_set, sw_hp_new, sw_nx_new, sw_sl_new, sw_ev_new, List.getElem?_cons_zero, List.getElem?_cons_succ, List.set_cons_zero, List.set_cons_succ, List.length_cons, List.length_nil, Nat.reduceAdd, Nat.reduceSub, Nat.reduceLT, Nat.reduceLeDiff, Nat.zero_lt_succ, Nat.zero_add, beq_self_eq_true, Bool.true_and, and_true, true_and, and_self, not_true_eq_false, not_false_eq_true, ↓reduceIte, Nat.reduceBEq, eq_self, sw_b_0, sw_b_1, decide_eq_false_iff_not, decide_eq_true_eq, sl_n10, sl_n01, Decidable.not_not, sl_ct, sl_cats_0, sl_cats_i, sl_cats_r, sl_cats_n, sl_cats_l, sl_ok_5, sl_ok9, decide_true, sp_machC, sp_nodeC, sp_opC, sl_z0, sl_z1, sl_z2, sl_z3, sl_z4, sl_z5, sl_z6, sl_z7, sl_c0, sl_c1, sl_c2, sl_c3, sl_c4, sl_c5, sl_c6, sl_c7, List.length_map, sp_lifeC, sp_inC, har, h0, sp_wrC, hlk, sp_lvC, f1, f2, e1, e2, e3, e4, e5, e6, g2, hlr, c1, sw_b_f, e7, sl_vt64, nI_1]
      · have e8 : sp_rdK m (Rw.map (·.2)) (o.2.2.1.getD k 0) k = m.1 - 3 + nI k := by unfold sp_rdK; rw [ex, if_pos c1]
        have e9 : sp_rdC m (M.map (·.2)) (Rw.map (·.2)) p (o.2.2.1.getD k 0) k = sp_brg (M.map (·.2)) (Rw.map (·.2)) p (o.2.2.1.getD k 0) (m.1 - 3 + nI k) := by unfold sp_rdC; rw [ex, if_pos c1]
        obtain ⟨P2, A2, r2, a2, t2⟩ := jc_X10_bring (D := d) (to := m.1 - 3 + nI k) (v := o.2.2.1.getD k 0) (by omega) hok hq (by rw [List.length_append]; omega) s1
        obtain ⟨P', A', r1, a1, t1⟩ := ih (k + 1) (by omega) P2 (A ++ A2) (by rw [hst2, e9, List.map_append, hA, a2]) (by rw [← List.append_assoc]; exact t2)
        refine ⟨P', A', ?_, a1, t1⟩
        rw [← r1]
        rw [e8] at e7 har2
        rw [← hqv] at r2
        rw [at_X10_readsOf_1]; simp only [at_X10_readsOf_3, at_X10_readsOf_4, ey_ld, sk_ld_s, ey_gf, sk_gf_s, sk_v_s, ey_al, sk_al_s, ex_na, ex_sta, ex_sta_n, ex_push, ex_sti, ex_goto, ex_ic, ey_ald, sk_ald_s, ey_cv1, sk_c_s, ex_iz, ey_cv0, ex_ii, ey_ast, sk_ast_s, ey_cv2, ey_inc, sk_inc_s, ex_rv, sw_gl_0, sw_gl_s, sw_fx_n, sw_fx_i, sw_fx_r, sw_fx_0, sw_fx_l, sw_fx_d, sw_sl1_0, sw_sl1_1, sw_sl1_s, sw_no_0, sw_no_s, sw_no_e, sw_mk_t, sw_mk_f, sw_mk_e, sw_en_0, sw_en_n, sw_en_i, sw_en_r, sw_en_z, sw_en_l, sw_en_d, sw_ok_0, sw_ok_1, sw_ok_2, sw_ok_3, sw_ok_4, sw_bo_s, sw_oi_s, sw_cl_s, sw_cl_x, sw_psh_s, sw_psh_n, sw_kd_s, sw_op_s, sw_oc_s, sw_oc_e, sw_oa_s, sw_el_n, sw_el_r, sl_kds_1, sl_kds_67, sw_fit_i, sw_fit_r, sw_fit_n, sw_fit_l, sw_fit_d, sw_fit_b, sw_fit_0, sw_fit_1, sw_rel_0, sw_rel_1, sw_rel_2, sw_rel_3, sw_rel_4, sw_rel_5, sw_hp_set, sw_nx_set, sw_sl_set, sw_ev_set, sw_hp_new, sw_nx_new, sw_sl_new, sw_ev_new, List.getElem?_cons_zero, List.getElem?_cons_succ, List.set_cons_zero, List.set_cons_succ, List.length_cons, List.length_nil, Nat.reduceAdd, Nat.reduceSub, Nat.reduceLT, Nat.reduceLeDiff, Nat.zero_lt_succ, Nat.zero_add, beq_self_eq_true, Bool.true_and, and_true, true_and, and_self, not_true_eq_false, not_false_eq_true, ↓reduceIte, Nat.reduceBEq, eq_self, sw_b_0, sw_b_1, decide_eq_false_iff_not, decide_eq_true_eq, sl_n10, sl_n01, Decidable.not_not, sl_ct, sl_cats_0, sl_cats_i, sl_cats_r, sl_cats_n, sl_cats_l, sl_ok_5, sl_ok9, decide_true, sp_machC, sp_nodeC, sp_opC, sl_z0, sl_z1, sl_z2, sl_z3, sl_z4, sl_z5, sl_z6, sl_z7, sl_c0, sl_c1, sl_c2, sl_c3, sl_c4, sl_c5, sl_c6, sl_c7, List.length_map, sp_lifeC, sp_inC, har, h0, sp_wrC, hlk, sp_lvC, f1, f2, e1, e2, e3, e4, e5, e6, g2, hlr, hwr1, c1, sw_b_t, em, esc, e7, har1, har2, r2, sl_vt64, nI_1, reduceCtorEq]
  have hf := h.lives
  obtain ⟨r, f1, f2⟩ := hb P hf
  have g1 := sl_st.new h (64, (sp_rds m (Rw.map (·.2)) o.2.2.1 0).map .int)
  have g2 : sp_wrS ev wr cl (sp_wrC lv mach cl p) (sl_cx ev lv ol mach rw M Rw m l L pa N B T out (sl_pt (sw_nx P) (64, (sp_rds m (Rw.map (·.2)) o.2.2.1 0).map .int) :: F)) (c + 1) (s + o.2.2.1.length) _ (K ++ []) := sp_wrS.hold (by
    rw [List.append_nil]
    refine g1.wk (by omega) ?_
    show _ + ((sp_rds m (Rw.map (·.2)) o.2.2.1 0).map Value.int).length ≤ _
    rw [List.length_map, sp_rds_len]; omega)
  obtain ⟨P', A, r1, a1, t1⟩ := hloop (sw_nx P) o.2.2.1.length 0 (by omega) _ [] rfl g2
  refine ⟨P', sw_nx P, A, ?_, a1, t1⟩
  rw [← r1]
  have e1 : (0 : Int32) ≤ Int32.ofNat o.2.2.1.length := nI_pos' (by omega)
  have e2 : (Int32.ofNat o.2.2.1.length).toNatClampNeg = o.2.2.1.length := nI_clamp (n := o.2.2.1.length) (by omega)
  have e3 : o.2.2.1.length ≤ 1048576 := by omega
  have e4 : List.replicate o.2.2.1.length (sw_dv 64) = (sp_rds m (Rw.map (·.2)) o.2.2.1 0).map Value.int := by
    show _ = (List.replicate o.2.2.1.length (0 : Int32)).map Value.int
    rw [List.map_replicate]; rfl
  rw [M_X10_readsOf _ _ _ rfl]; simp only [at_X10_readsOf_0, ey_ld, sk_ld_s, ey_gf, sk_gf_s, sk_v_s, ey_al, sk_al_s, ex_na, ex_sta, ex_sta_n, ex_push, ex_sti, ex_goto, ex_ic, ey_ald, sk_ald_s, ey_cv1, sk_c_s, ex_iz, ey_cv0, ex_ii, ey_ast, sk_ast_s, ey_cv2, ey_inc, sk_inc_s, ex_rv, sw_gl_0, sw_gl_s, sw_fx_n, sw_fx_i, sw_fx_r, sw_fx_0, sw_fx_l, sw_fx_d, sw_sl1_0, sw_sl1_1, sw_sl1_s, sw_no_0, sw_no_s, sw_no_e, sw_mk_t, sw_mk_f, sw_mk_e, sw_en_0, sw_en_n, sw_en_i, sw_en_r, sw_en_z, sw_en_l, sw_en_d, sw_ok_0, sw_ok_1, sw_ok_2, sw_ok_3, sw_ok_4, sw_bo_s, sw_oi_s, sw_cl_s, sw_cl_x, sw_psh_s, sw_psh_n, sw_kd_s, sw_op_s, sw_oc_s, sw_oc_e, sw_oa_s, sw_el_n, sw_el_r, sl_kds_1, sl_kds_67, sw_fit_i, sw_fit_r, sw_fit_n, sw_fit_l, sw_fit_d, sw_fit_b, sw_fit_0, sw_fit_1, sw_rel_0, sw_rel_1, sw_rel_2, sw_rel_3, sw_rel_4, sw_rel_5, sw_hp_set, sw_nx_set, sw_sl_set, sw_ev_set, sw_hp_new, sw_nx_new, sw_sl_new, sw_ev_new, List.getElem?_cons_zero, List.getElem?_cons_succ, List.set_cons_zero, List.set_cons_succ, List.length_cons, List.length_nil, Nat.reduceAdd, Nat.reduceSub, Nat.reduceLT, Nat.reduceLeDiff, Nat.zero_lt_succ, Nat.zero_add, beq_self_eq_true, Bool.true_and, and_true, true_and, and_self, not_true_eq_false, not_false_eq_true, ↓reduceIte, Nat.reduceBEq, eq_self, sw_b_0, sw_b_1, decide_eq_false_iff_not, decide_eq_true_eq, sl_n10, sl_n01, Decidable.not_not, sl_ct, sl_cats_0, sl_cats_i, sl_cats_r, sl_cats_n, sl_cats_l, sl_ok_5, sl_ok9, decide_true, sp_machC, sp_nodeC, sp_opC, sl_z0, sl_z1, sl_z2, sl_z3, sl_z4, sl_z5, sl_z6, sl_z7, sl_c0, sl_c1, sl_c2, sl_c3, sl_c4, sl_c5, sl_c6, sl_c7, List.length_map, sp_lifeC, sp_inC, f1, f2, e1, e2, e3, e4]
  rfl
theorem jc_X10_reckon (hD : 11 ≤ D) (hl : K.length < 999) (ho : sw_hp P b = some (sp_opC o r)) (har : sw_hp P ra = some (64, rs.map .int)) (hrl : sp_rlen o) (hk : ¬ o.1 = 0 ∧ ¬ o.1 = 1) (hrs : rs.length = o.2.2.1.length) (h : sp_wrS ev wr cl (sp_wrC lv mach cl p) R c s P K) : sp_wrR ev wr cl (sp_wrC lv mach cl p) R c s K (sp_rck p o d0 rs) (sw_Z D m_X10_reckon [.ref wr, .ref b, .int d0, .ref ra] P) := by
  obtain ⟨d, hDe, hDn⟩ := sw_dep hD; subst hDe; replace hD := hDn; clear hDn
  have h0 := sl_st.get h 0 rfl
  unfold sp_rck
  by_cases c1 : o.1 = 5
  · rw [if_pos c1]
    have hl1 : 0 < rs.length := by
      rcases hrl with q | q | q | q
      · exact absurd q.1 hk.1
      · omega
      · omega
      · omega
    have e1 := sl_mapget rs 0 hl1
    obtain ⟨P', A, r1, r2, r3⟩ := jc_X10_put_2 (D := d) (o := 5) (x1 := d0) (x2 := rs.getD 0 0) (x3 := o.2.2.2.1) (x4 := 0) (by omega) hl h
    refine ⟨P', A, ?_, r2, r3⟩
    rw [M_X10_reckon _ _ _ rfl]; simp only [at_X10_reckon_0, at_X10_reckon_1, at_X10_reckon_4, ey_ld, sk_ld_s, ey_gf, sk_gf_s, sk_v_s, ex_sw, sw_lk_e, sw_lk_c, ex_push, ey_ald, sk_ald_s, ey_cv5, sk_c_s, ex_goto, ex_ret, sw_gl_0, sw_gl_s, sw_fx_n, sw_fx_i, sw_fx_r, sw_fx_0, sw_fx_l, sw_fx_d, sw_sl1_0, sw_sl1_1, sw_sl1_s, sw_no_0, sw_no_s, sw_no_e, sw_mk_t, sw_mk_f, sw_mk_e, sw_en_0, sw_en_n, sw_en_i, sw_en_r, sw_en_z, sw_en_l, sw_en_d, sw_ok_0, sw_ok_1, sw_ok_2, sw_ok_3, sw_ok_4, sw_bo_s, sw_oi_s, sw_cl_s, sw_cl_x, sw_psh_s, sw_psh_n, sw_kd_s, sw_op_s, sw_oc_s, sw_oc_e, sw_oa_s, sw_el_n, sw_el_r, sl_kds_1, sl_kds_67, sw_fit_i, sw_fit_r, sw_fit_n, sw_fit_l, sw_fit_d, sw_fit_b, sw_fit_0, sw_fit_1, sw_rel_0, sw_rel_1, sw_rel_2, sw_rel_3, sw_rel_4, sw_rel_5, sw_hp_set, sw_nx_set, sw_sl_set, sw_ev_set, sw_hp_new, sw_nx_new, sw_sl_new, sw_ev_new, List.getElem?_cons_zero, List.getElem?_cons_succ, List.set_cons_zero, List.set_cons_succ, List.length_cons, List.length_nil, Nat.reduceAdd, Nat.reduceSub, Nat.reduceLT, Nat.reduceLeDiff, Nat.zero_lt_succ, Nat.zero_add, beq_self_eq_true, Bool.true_and, and_true, true_and, and_self, not_true_eq_false, not_false_eq_true, ↓reduceIte, Nat.reduceBEq, eq_self, sw_b_0, sw_b_1, decide_eq_false_iff_not, decide_eq_true_eq, sl_n10, sl_n01, Decidable.not_not, sl_ct, sl_cats_0, sl_cats_i, sl_cats_r, sl_cats_n, sl_cats_l, sl_ok_5, sl_ok9, decide_true, sp_machC, sp_nodeC, sp_opC, sl_z0, sl_z1, sl_z2, sl_z3, sl_z4, sl_z5, sl_z6, sl_z7, sl_c0, sl_c1, sl_c2, sl_c3, sl_c4, sl_c5, sl_c6, sl_c7, List.length_map, sp_lifeC, sp_inC, ho, eq_true c1, h0, sp_wrC, har, e1, r1]
  · rw [if_neg c1]
    by_cases c2 : o.1 = 6
    · rw [if_pos c2]
      have hl1 : 2 < rs.length := by
        rcases hrl with q | q | q | q
        · exact absurd q.1 hk.1
        · rcases q.1 with z | z
          · exact absurd z hk.2
          · exact absurd z c1
        · omega
        · exfalso
          rcases q.1 with z | z | z | z <;> rw [z] at c2 <;> exact absurd c2 (by decide)
      have e1 := sl_mapget rs 0 (by omega)
      have e2 := sl_mapget rs 1 (by omega)
      have e3 := sl_mapget rs 2 (by omega)
      obtain ⟨P', A, r1, r2, r3⟩ := jc_X10_put_2 (D := d) (o := 6) (x1 := d0) (x2 := rs.getD 0 0) (x3 := rs.getD 1 0) (x4 := rs.getD 2 0) (by omega) hl h
      refine ⟨P', A, ?_, r2, r3⟩
      rw [M_X10_reckon _ _ _ rfl]; simp only [at_X10_reckon_0, at_X10_reckon_2, at_X10_reckon_4, ey_ld, sk_ld_s, ey_gf, sk_gf_s, sk_v_s, ex_sw, sw_lk_e, sw_lk_c, ex_push, ey_ald, sk_ald_s, ey_cv5, sk_c_s, ex_goto, ex_ret, sw_gl_0, sw_gl_s, sw_fx_n, sw_fx_i, sw_fx_r, sw_fx_0, sw_fx_l, sw_fx_d, sw_sl1_0, sw_sl1_1, sw_sl1_s, sw_no_0, sw_no_s, sw_no_e, sw_mk_t, sw_mk_f, sw_mk_e, sw_en_0, sw_en_n, sw_en_i, sw_en_r, sw_en_z, sw_en_l, sw_en_d, sw_ok_0, sw_ok_1, sw_ok_2, sw_ok_3, sw_ok_4, sw_bo_s, sw_oi_s, sw_cl_s, sw_cl_x, sw_psh_s, sw_psh_n, sw_kd_s, sw_op_s, sw_oc_s, sw_oc_e, sw_oa_s, sw_el_n, sw_el_r, sl_kds_1, sl_kds_67, sw_fit_i, sw_fit_r, sw_fit_n, sw_fit_l, sw_fit_d, sw_fit_b, sw_fit_0, sw_fit_1, sw_rel_0, sw_rel_1, sw_rel_2, sw_rel_3, sw_rel_4, sw_rel_5, sw_hp_set, sw_nx_set, sw_sl_set, sw_ev_set, sw_hp_new, sw_nx_new, sw_sl_new, sw_ev_new, List.getElem?_cons_zero, List.getElem?_cons_succ, List.set_cons_zero, List.set_cons_succ, List.length_cons, List.length_nil, Nat.reduceAdd, Nat.reduceSub, Nat.reduceLT, Nat.reduceLeDiff, Nat.zero_lt_succ, Nat.zero_add, beq_self_eq_true, Bool.true_and, and_true, true_and, and_self, not_true_eq_false, not_false_eq_true, ↓reduceIte, Nat.reduceBEq, eq_self, sw_b_0, sw_b_1, decide_eq_false_iff_not, decide_eq_true_eq, sl_n10, sl_n01, Decidable.not_not, sl_ct, sl_cats_0, sl_cats_i, sl_cats_r, sl_cats_n, sl_cats_l, sl_ok_5, sl_ok9, decide_true, sp_machC, sp_nodeC, sp_opC, sl_z0, sl_z1, sl_z2, sl_z3, sl_z4, sl_z5, sl_z6, sl_z7, sl_c0, sl_c1, sl_c2, sl_c3, sl_c4, sl_c5, sl_c6, sl_c7, List.length_map, sp_lifeC, sp_inC, ho, eq_false c1, eq_true c2, h0, sp_wrC, har, e1, e2, e3, r1]
    · rw [if_neg c2]
      have hl1 : 1 < rs.length := by
        rcases hrl with q | q | q | q
        · exact absurd q.1 hk.1
        · rcases q.1 with z | z
          · exact absurd z hk.2
          · exact absurd z c1
        · exact absurd q.1 c2
        · omega
      have e1 := sl_mapget rs 0 (by omega)
      have e2 := sl_mapget rs 1 (by omega)
      obtain ⟨P', A, r1, r2, r3⟩ := jc_X10_put_2 (D := d) (o := o.1) (x1 := d0) (x2 := rs.getD 0 0) (x3 := rs.getD 1 0) (x4 := 0) (by omega) hl h
      refine ⟨P', A, ?_, r2, r3⟩
      rw [M_X10_reckon _ _ _ rfl]; simp only [at_X10_reckon_0, at_X10_reckon_3, at_X10_reckon_4, ey_ld, sk_ld_s, ey_gf, sk_gf_s, sk_v_s, ex_sw, sw_lk_e, sw_lk_c, ex_push, ey_ald, sk_ald_s, ey_cv5, sk_c_s, ex_goto, ex_ret, sw_gl_0, sw_gl_s, sw_fx_n, sw_fx_i, sw_fx_r, sw_fx_0, sw_fx_l, sw_fx_d, sw_sl1_0, sw_sl1_1, sw_sl1_s, sw_no_0, sw_no_s, sw_no_e, sw_mk_t, sw_mk_f, sw_mk_e, sw_en_0, sw_en_n, sw_en_i, sw_en_r, sw_en_z, sw_en_l, sw_en_d, sw_ok_0, sw_ok_1, sw_ok_2, sw_ok_3, sw_ok_4, sw_bo_s, sw_oi_s, sw_cl_s, sw_cl_x, sw_psh_s, sw_psh_n, sw_kd_s, sw_op_s, sw_oc_s, sw_oc_e, sw_oa_s, sw_el_n, sw_el_r, sl_kds_1, sl_kds_67, sw_fit_i, sw_fit_r, sw_fit_n, sw_fit_l, sw_fit_d, sw_fit_b, sw_fit_0, sw_fit_1, sw_rel_0, sw_rel_1, sw_rel_2, sw_rel_3, sw_rel_4, sw_rel_5, sw_hp_set, sw_nx_set, sw_sl_set, sw_ev_set, sw_hp_new, sw_nx_new, sw_sl_new, sw_ev_new, List.getElem?_cons_zero, List.getElem?_cons_succ, List.set_cons_zero, List.set_cons_succ, List.length_cons, List.length_nil, Nat.reduceAdd, Nat.reduceSub, Nat.reduceLT, Nat.reduceLeDiff, Nat.zero_lt_succ, Nat.zero_add, beq_self_eq_true, Bool.true_and, and_true, true_and, and_self, not_true_eq_false, not_false_eq_true, ↓reduceIte, Nat.reduceBEq, eq_self, sw_b_0, sw_b_1, decide_eq_false_iff_not, decide_eq_true_eq, sl_n10, sl_n01, Decidable.not_not, sl_ct, sl_cats_0, sl_cats_i, sl_cats_r, sl_cats_n, sl_cats_l, sl_ok_5, sl_ok9, decide_true, sp_machC, sp_nodeC, sp_opC, sl_z0, sl_z1, sl_z2, sl_z3, sl_z4, sl_z5, sl_z6, sl_z7, sl_c0, sl_c1, sl_c2, sl_c3, sl_c4, sl_c5, sl_c6, sl_c7, List.length_map, sp_lifeC, sp_inC, ho, eq_false c1, eq_false c2, h0, sp_wrC, har, e1, e2, r1]
end
