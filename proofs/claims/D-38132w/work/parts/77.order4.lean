/-! ===== the component's order: the constructor, all ===== -/
def sl_tri : Nat → Nat
  | 0 => 0
  | n + 1 => sl_tri n + n
section
variable {ev : Nat → Nat} {od fr md na wt mach l a ra : Nat} {m : sp_Mach} {L ws : List Int32} {M : List (Nat × sp_Op)} {NR : List (Nat × List Bool)} {F R : List sl_A} {c s d D : Nat} {P : sw_P} {nd : Nat → Nat → Bool}
def sp_wsk (nd : Nat → Nat → Bool) (n k : Nat) : List Int32 := (List.range k).map (fun q => sp_wt nd q q) ++ List.replicate (n - k) 0
theorem sp_wsk_len (n k : Nat) (h : k ≤ n) : (sp_wsk nd n k).length = n := by unfold sp_wsk; simp; omega
theorem sp_wsk_at (n k : Nat) (h : k < n) : (sp_wsk nd n k).getD k 0 = 0 := by
  unfold sp_wsk
  rw [List.getD_eq_getElem?_getD, List.getElem?_append_right (by simp), List.length_map, List.length_range, Nat.sub_self, List.getElem?_replicate, if_pos (by omega)]
  rfl
theorem sp_wsk_set (n k : Nat) (h : k < n) : (sp_wsk nd n k).set k (sp_wt nd k k) = sp_wsk nd n (k + 1) := by
  unfold sp_wsk
  rw [List.set_append_right _ _ (by simp), List.length_map, List.length_range, Nat.sub_self, show n - k = (n - (k + 1)) + 1 by omega, List.replicate_succ, List.set_cons_zero, List.range_succ, List.map_append, List.append_assoc]
  rfl
theorem jc_X6_init1 (hd : 8 ≤ d) (hl : M.length < 1000) (hr : ∀ o ∈ M.map (·.2), o.2.2.1.length < 100) : ∀ j k, k + j = M.length → ∀ P (NR : List (Nat × List Bool)), NR.map (·.2) = (List.range k).map (sp_row (sp_nd2 (M.map (·.2)))) →
    sl_st ev (c + k) (s + sl_tri k) P (sl_pt na (69, (NR.map fun x => .ref x.1) ++ List.replicate (M.length - k) .null) :: sl_all (NR.map sl_rowA) :: sl_pt od (sp_odC fr mach md na wt) :: sl_pt wt (64, (sp_wsk (sp_nd2 (M.map (·.2))) M.length k).map .int) :: sl_ls ev fr (M.map fun x => .ref x.1) :: sl_all (M.map sl_opA) :: R) →
    ∃ (P' : sw_P) (NR' : List (Nat × List Bool)), sw_at (sw_Z d) b_X6_init 1 [some (.ref od), some (.ref fr), none, some (.int (nI k))] [] P = sw_at (sw_Z d) b_X6_init 2 [some (.ref od), some (.ref fr), none, none] [] P' ∧ NR'.map (·.2) = (List.range M.length).map (sp_row (sp_nd2 (M.map (·.2)))) ∧
      sl_st ev (c + M.length) (s + sl_tri M.length) P' (sl_pt na (69, NR'.map fun x => .ref x.1) :: sl_all (NR'.map sl_rowA) :: sl_pt od (sp_odC fr mach md na wt) :: sl_pt wt (64, (sp_wsk (sp_nd2 (M.map (·.2))) M.length M.length).map .int) :: sl_ls ev fr (M.map fun x => .ref x.1) :: sl_all (M.map sl_opA) :: R) := by
  intro j
  induction j with
  | zero =>
    intro k hk P NR hNR h
    have : k = M.length := by omega
    subst this
    have h0 := h.get 2 rfl
    have h1 := h.get 3 rfl
    have e1 : Int32.ofNat (sp_wsk (sp_nd2 (M.map (·.2))) M.length M.length).length ≤ nI M.length := by rw [sp_wsk_len _ _ (Nat.le_refl _)]; exact Int32.le_refl _
    rw [Nat.sub_self, List.replicate_zero, List.append_nil] at h
    refine ⟨P, NR, ?_, hNR, h⟩
    rw [at_X6_init_1]; simp only [ey_ld, sk_ld_s, ex_oin, ex_nw, ex_dup_i, ex_dup_r, ex_dup_n, ey_ci0, sk_c_s, ey_pf, sk_pf_s, sw_set_set, ey_cv0, ex_na, ex_push, ex_sti, ex_goto, ey_gf, sk_gf_s, sk_v_s, ey_al, sk_al_s, ex_ic, ey_cv1, ey_asr, sk_asr_s, ey_inc, sk_inc_s, ex_ii, ex_iz, ex_ct, ex_ret, sw_gl_0, sw_gl_s, sw_fx_n, sw_fx_i, sw_fx_r, sw_fx_0, sw_fx_l, sw_fx_d, sw_sl1_0, sw_sl1_1, sw_sl1_s, sw_no_0, sw_no_s, sw_no_e, sw_mk_t, sw_mk_f, sw_mk_e, sw_en_0, sw_en_n, sw_en_i, sw_en_r, sw_en_z, sw_en_l, sw_en_d, sw_ok_0, sw_ok_1, sw_ok_2, sw_ok_3, sw_ok_4, sw_bo_s, sw_oi_s, sw_cl_s, sw_cl_x, sw_psh_s, sw_psh_n, sw_kd_s, sw_op_s, sw_oc_s, sw_oc_e, sw_oa_s, sw_el_n, sw_el_r, sl_kds_1, sl_kds_67, sw_fit_i, sw_fit_r, sw_fit_n, sw_fit_l, sw_fit_d, sw_fit_b, sw_fit_0, sw_fit_1, sw_rel_0, sw_rel_1, sw_rel_2, sw_rel_3, sw_rel_4, sw_rel_5, sw_hp_set, sw_nx_set, sw_sl_set, sw_ev_set, sw_hp_new, sw_nx_new, sw_sl_new, sw_ev_new, List.getElem?_cons_zero, List.getElem?_cons_succ, List.set_cons_zero, List.set_cons_succ, List.length_cons, List.length_nil, Nat.reduceAdd, Nat.reduceSub, Nat.reduceLT, Nat.reduceLeDiff, Nat.zero_lt_succ, Nat.zero_add, beq_self_eq_true, Bool.true_and, and_true, true_and, and_self, not_true_eq_false, not_false_eq_true, ↓reduceIte, Nat.reduceBEq, eq_self, sw_b_0, sw_b_1, decide_eq_false_iff_not, decide_eq_true_eq, sl_n10, sl_n01, Decidable.not_not, sl_ct, sl_cats_0, sl_cats_i, sl_cats_r, sl_cats_n, sl_cats_l, sl_ok_5, sl_ok9, decide_true, sp_machC, sp_nodeC, sp_opC, sl_z0, sl_z1, sl_z2, sl_z3, sl_z4, sl_z5, sl_z6, sl_z7, sl_c0, sl_c1, sl_c2, sl_c3, sl_c4, sl_c5, sl_c6, sl_c7, List.length_map, h0, sp_odC, h1, e1]
  | succ j ih =>
    intro k hk P NR hNR h
    have h0 := h.get 2 rfl
    have h1 := h.get 3 rfl
    have hwl := sp_wsk_len (nd := sp_nd2 (M.map (·.2))) M.length k (by omega)
    have e1 : ¬ Int32.ofNat (sp_wsk (sp_nd2 (M.map (·.2))) M.length k).length ≤ nI k := by rw [hwl]; exact nI_ge (by omega) (by omega)
    obtain ⟨P1, b, r1, s1⟩ := jc_X6_needsOf (D := d) (k := k) (by omega) (by omega) hl hwl (sp_wsk_at _ _ (by omega)) hr (h.pk [2, 3, 4, 5])
    rw [sp_wsk_set _ _ (by omega)] at s1
    have hNl : NR.length = k := by
      have := congrArg List.length hNR
      simpa using this
    have hb := s1.get 0 rfl
    have hna := s1.get 5 rfl
    have hod := s1.get 1 rfl
    have e2 : ¬ nI k < 0 := nI_pos (by omega)
    have e3 : (nI k).toNatClampNeg = k := nI_clamp (by omega)
    have e4 : k < ((NR.map fun x : Nat × List Bool => Value.ref x.1) ++ List.replicate (M.length - k) Value.null).length := by simp; omega
    have e5 : ((NR.map fun x : Nat × List Bool => Value.ref x.1) ++ List.replicate (M.length - k) Value.null).set k (.ref b) = ((NR ++ [(b, sp_row (sp_nd2 (M.map (·.2))) k)]).map fun x : Nat × List Bool => Value.ref x.1) ++ List.replicate (M.length - (k + 1)) .null := by
      rw [List.set_append_right _ _ (by simp; omega), List.length_map, hNl, Nat.sub_self, show M.length - k = (M.length - (k + 1)) + 1 by omega, List.replicate_succ, List.set_cons_zero, List.map_append, List.append_assoc]
      rfl
    have s2 := s1.set 5 (69, ((NR ++ [(b, sp_row (sp_nd2 (M.map (·.2))) k)]).map fun x : Nat × List Bool => Value.ref x.1) ++ List.replicate (M.length - (k + 1)) .null) rfl
    have s3 := sl_st.push (A := sl_rowA) (l := NR) (s2.pk [0, 6])
    obtain ⟨P', NR', r2, a2, t2⟩ := ih (k + 1) (by omega) _ (NR ++ [(b, sp_row (sp_nd2 (M.map (·.2))) k)]) (by rw [List.map_append, hNR, List.range_succ, List.map_append]; rfl) ((s3.pk [5, 0]).wk (by omega) (by
      show _ ≤ s + (sl_tri k + k)
      omega))
    refine ⟨P', NR', ?_, a2, t2⟩
    rw [← r2]
    rw [at_X6_init_1]; simp only [ey_ld, sk_ld_s, ex_oin, ex_nw, ex_dup_i, ex_dup_r, ex_dup_n, ey_ci0, sk_c_s, ey_pf, sk_pf_s, sw_set_set, ey_cv0, ex_na, ex_push, ex_sti, ex_goto, ey_gf, sk_gf_s, sk_v_s, ey_al, sk_al_s, ex_ic, ey_cv1, ey_asr, sk_asr_s, ey_inc, sk_inc_s, ex_ii, ex_iz, ex_ct, ex_ret, sw_gl_0, sw_gl_s, sw_fx_n, sw_fx_i, sw_fx_r, sw_fx_0, sw_fx_l, sw_fx_d, sw_sl1_0, sw_sl1_1, sw_sl1_s, sw_no_0, sw_no_s, sw_no_e, sw_mk_t, sw_mk_f, sw_mk_e, sw_en_0, sw_en_n, sw_en_i, sw_en_r, sw_en_z, sw_en_l, sw_en_d, sw_ok_0, sw_ok_1, sw_ok_2, sw_ok_3, sw_ok_4, sw_bo_s, sw_oi_s, sw_cl_s, sw_cl_x, sw_psh_s, sw_psh_n, sw_kd_s, sw_op_s, sw_oc_s, sw_oc_e, sw_oa_s, sw_el_n, sw_el_r, sl_kds_1, sl_kds_67, sw_fit_i, sw_fit_r, sw_fit_n, sw_fit_l, sw_fit_d, sw_fit_b, sw_fit_0, sw_fit_1, sw_rel_0, sw_rel_1, sw_rel_2, sw_rel_3, sw_rel_4, sw_rel_5, sw_hp_set, sw_nx_set, sw_sl_set, sw_ev_set, sw_hp_new, sw_nx_new, sw_sl_new, sw_ev_new, List.getElem?_cons_zero, List.getElem?_cons_succ, List.set_cons_zero, List.set_cons_succ, List.length_cons, List.length_nil, Nat.reduceAdd, Nat.reduceSub, Nat.reduceLT, Nat.reduceLeDiff, Nat.zero_lt_succ, Nat.zero_add, beq_self_eq_true, Bool.true_and, and_true, true_and, and_self, not_true_eq_false, not_false_eq_true, ↓reduceIte, Nat.reduceBEq, eq_self, sw_b_0, sw_b_1, decide_eq_false_iff_not, decide_eq_true_eq, sl_n10, sl_n01, Decidable.not_not, sl_ct, sl_cats_0, sl_cats_i, sl_cats_r, sl_cats_n, sl_cats_l, sl_ok_5, sl_ok9, decide_true, sp_machC, sp_nodeC, sp_opC, sl_z0, sl_z1, sl_z2, sl_z3, sl_z4, sl_z5, sl_z6, sl_z7, sl_c0, sl_c1, sl_c2, sl_c3, sl_c4, sl_c5, sl_c6, sl_c7, List.length_map, h0, hod, sp_odC, h1, e1, r1, hna, e2, e3, e4, e5, hb, sl_kds_1, nI_1]
theorem sp_htF_len (k : Nat) (os : List sp_Op) : (sp_htF nd L k os).length = os.length := List.length_set
theorem sp_hts_len (nd : Nat → Nat → Bool) (L : List Int32) : ∀ k os, (sp_hts nd L k os).length = os.length
  | 0, _ => rfl
  | k + 1, os => (sp_hts_len nd L k _).trans (sp_htF_len k os)
theorem jc_X6_init3 (hd : 8 ≤ d) (hL : L.length = 8) : ∀ k (M : List (Nat × sp_Op)) P, k ≤ M.length → ws.length = M.length → M.length < 1000 → NR.map (·.2) = (List.range M.length).map (sp_row nd) →
    sl_st ev c s P (sl_ord ev od fr mach md na wt ws NR M ++ (sl_pt mach (sp_machC m l) :: sl_pt l (64, L.map .int) :: F)) →
    ∃ (P' : sw_P) (M' : List (Nat × sp_Op)), sw_at (sw_Z d) b_X6_init 3 [some (.ref od), some (.ref fr), none, some (.int (nI k - 1))] [] P = some (.inl none, P') ∧ M'.map (·.2) = sp_hts nd L k (M.map (·.2)) ∧
      sl_st ev c s P' (sl_ord ev od fr mach md na wt ws NR M' ++ (sl_pt mach (sp_machC m l) :: sl_pt l (64, L.map .int) :: F)) := by
  intro k
  induction k with
  | zero =>
    intro M P hk h7 h9 h8 h
    have e1 : (nI 0 - 1 : Int32) < 0 := by decide
    refine ⟨P, M, ?_, rfl, h⟩
    rw [at_X6_init_3]; simp only [at_X6_init_6, ey_ld, sk_ld_s, ex_oin, ex_nw, ex_dup_i, ex_dup_r, ex_dup_n, ey_ci0, sk_c_s, ey_pf, sk_pf_s, sw_set_set, ey_cv0, ex_na, ex_push, ex_sti, ex_goto, ey_gf, sk_gf_s, sk_v_s, ey_al, sk_al_s, ex_ic, ey_cv1, ey_asr, sk_asr_s, ey_inc, sk_inc_s, ex_ii, ex_iz, ex_ct, ex_ret, sw_gl_0, sw_gl_s, sw_fx_n, sw_fx_i, sw_fx_r, sw_fx_0, sw_fx_l, sw_fx_d, sw_sl1_0, sw_sl1_1, sw_sl1_s, sw_no_0, sw_no_s, sw_no_e, sw_mk_t, sw_mk_f, sw_mk_e, sw_en_0, sw_en_n, sw_en_i, sw_en_r, sw_en_z, sw_en_l, sw_en_d, sw_ok_0, sw_ok_1, sw_ok_2, sw_ok_3, sw_ok_4, sw_bo_s, sw_oi_s, sw_cl_s, sw_cl_x, sw_psh_s, sw_psh_n, sw_kd_s, sw_op_s, sw_oc_s, sw_oc_e, sw_oa_s, sw_el_n, sw_el_r, sl_kds_1, sl_kds_67, sw_fit_i, sw_fit_r, sw_fit_n, sw_fit_l, sw_fit_d, sw_fit_b, sw_fit_0, sw_fit_1, sw_rel_0, sw_rel_1, sw_rel_2, sw_rel_3, sw_rel_4, sw_rel_5, sw_hp_set, sw_nx_set, sw_sl_set, sw_ev_set, sw_hp_new, sw_nx_new, sw_sl_new, sw_ev_new, List.getElem?_cons_zero, List.getElem?_cons_succ, List.set_cons_zero, List.set_cons_succ, List.length_cons, List.length_nil, Nat.reduceAdd, Nat.reduceSub, Nat.reduceLT, Nat.reduceLeDiff, Nat.zero_lt_succ, Nat.zero_add, beq_self_eq_true, Bool.true_and, and_true, true_and, and_self, not_true_eq_false, not_false_eq_true, ↓reduceIte, Nat.reduceBEq, eq_self, sw_b_0, sw_b_1, decide_eq_false_iff_not, decide_eq_true_eq, sl_n10, sl_n01, Decidable.not_not, sl_ct, sl_cats_0, sl_cats_i, sl_cats_r, sl_cats_n, sl_cats_l, sl_ok_5, sl_ok9, decide_true, sp_machC, sp_nodeC, sp_opC, sl_z0, sl_z1, sl_z2, sl_z3, sl_z4, sl_z5, sl_z6, sl_z7, sl_c0, sl_c1, sl_c2, sl_c3, sl_c4, sl_c5, sl_c6, sl_c7, List.length_map, e1]
  | succ k ih =>
    intro M P hk h7 h9 h8 h
    have ho := sl_ord_rd (nd := nd) h.rd h7 h8 h9
    have e1 : ¬ nI k < 0 := nI_pos (by omega)
    obtain ⟨rk, f1, f2, f3, f4⟩ := sp_opsR (d := d) (by omega) ho.2.2.2.2.1 ho.2.2.2.2.2.1 h9 (k := k) (by omega)
    have ex : M[k]? = some M[k] := List.getElem?_eq_getElem (by omega)
    have eo : (M.map (·.2)).getD k sp_oz = M[k].2 := sp_getD (by rw [List.getElem?_map, ex]; rfl)
    have e2 := jc_X6_heightOf (D := d) (k := k) (by omega) (by omega) ho ⟨l, sl_rd_pt.mp (sl_rds_append.mp h.rd).2.1, sl_rd_pt.mp (sl_rds_append.mp h.rd).2.2.1⟩ hL
    -- the height is written
    have g1 := sl_st.pickall (A := sl_opA) (h.pk [5]) ex
    obtain ⟨r, g2⟩ := g1.exs
    have g3 := sl_st.flat.mp g2
    have h0 := g3.get 0 rfl
    have g4 := g3.set 0 (sp_opC (sp_oh M[k].2 (if M[k].2.2.2.2.2.1 = -1 then 0 else sp_lat L M[k].2.1 + sp_mx nd (M.map (·.2)) k (M.length - (k + 1)))) r) rfl
    have g5 := sl_st.putall (A := sl_opA) (y := (M[k].1, sp_oh M[k].2 (if M[k].2.2.2.2.2.1 = -1 then 0 else sp_lat L M[k].2.1 + sp_mx nd (M.map (·.2)) k (M.length - (k + 1))))) ex g4.ofopA
    have hs : (M.set k (M[k].1, sp_oh M[k].2 (if M[k].2.2.2.2.2.1 = -1 then 0 else sp_lat L M[k].2.1 + sp_mx nd (M.map (·.2)) k (M.length - (k + 1))))).map (·.2) = sp_htF nd L k (M.map (·.2)) := by
      unfold sp_htF
      rw [List.map_set, List.length_map, eo]
    have hrf := sl_refs_set M k M[k] (sp_oh M[k].2 (if M[k].2.2.2.2.2.1 = -1 then 0 else sp_lat L M[k].2.1 + sp_mx nd (M.map (·.2)) k (M.length - (k + 1)))) ex
    obtain ⟨P', M', r1, a1, t1⟩ := ih (M.set k (M[k].1, sp_oh M[k].2 (if M[k].2.2.2.2.2.1 = -1 then 0 else sp_lat L M[k].2.1 + sp_mx nd (M.map (·.2)) k (M.length - (k + 1))))) _ (by rw [List.length_set]; omega) (by rw [List.length_set]; exact h7) (by rw [List.length_set]; exact h9) (by rw [List.length_set]; exact h8) (by
      unfold sl_ord
      rw [hrf]
      exact g5.pk [1, 2, 3, 4, 5, 0])
    refine ⟨P', M', ?_, by rw [a1, hs]; rfl, t1⟩
    rw [← r1]
    rw [eo] at f2 e2
    have e3 : nI k + -1 = nI k - 1 := (Int32.sub_eq_add_neg _ _).symm
    rw [nI_pred]
    by_cases c1 : M[k].2.2.2.2.2.1 = -1
    · simp only [sp_opC, sp_oh, eq_true c1, if_true] at h0 ⊢
      rw [at_X6_init_3]; simp only [at_X6_init_5, ey_ld, sk_ld_s, ex_oin, ex_nw, ex_dup_i, ex_dup_r, ex_dup_n, ey_ci0, sk_c_s, ey_pf, sk_pf_s, sw_set_set, ey_cv0, ex_na, ex_push, ex_sti, ex_goto, ey_gf, sk_gf_s, sk_v_s, ey_al, sk_al_s, ex_ic, ey_cv1, ey_asr, sk_asr_s, ey_inc, sk_inc_s, ex_ii, ex_iz, ex_ct, ex_ret, sw_gl_0, sw_gl_s, sw_fx_n, sw_fx_i, sw_fx_r, sw_fx_0, sw_fx_l, sw_fx_d, sw_sl1_0, sw_sl1_1, sw_sl1_s, sw_no_0, sw_no_s, sw_no_e, sw_mk_t, sw_mk_f, sw_mk_e, sw_en_0, sw_en_n, sw_en_i, sw_en_r, sw_en_z, sw_en_l, sw_en_d, sw_ok_0, sw_ok_1, sw_ok_2, sw_ok_3, sw_ok_4, sw_bo_s, sw_oi_s, sw_cl_s, sw_cl_x, sw_psh_s, sw_psh_n, sw_kd_s, sw_op_s, sw_oc_s, sw_oc_e, sw_oa_s, sw_el_n, sw_el_r, sl_kds_1, sl_kds_67, sw_fit_i, sw_fit_r, sw_fit_n, sw_fit_l, sw_fit_d, sw_fit_b, sw_fit_0, sw_fit_1, sw_rel_0, sw_rel_1, sw_rel_2, sw_rel_3, sw_rel_4, sw_rel_5, sw_hp_set, sw_nx_set, sw_sl_set, sw_ev_set, sw_hp_new, sw_nx_new, sw_sl_new, sw_ev_new, List.getElem?_cons_zero, List.getElem?_cons_succ, List.set_cons_zero, List.set_cons_succ, List.length_cons, List.length_nil, Nat.reduceAdd, Nat.reduceSub, Nat.reduceLT, Nat.reduceLeDiff, Nat.zero_lt_succ, Nat.zero_add, beq_self_eq_true, Bool.true_and, and_true, true_and, and_self, not_true_eq_false, not_false_eq_true, ↓reduceIte, Nat.reduceBEq, eq_self, sw_b_0, sw_b_1, decide_eq_false_iff_not, decide_eq_true_eq, sl_n10, sl_n01, Decidable.not_not, sl_ct, sl_cats_0, sl_cats_i, sl_cats_r, sl_cats_n, sl_cats_l, sl_ok_5, sl_ok9, decide_true, sp_machC, sp_nodeC, sp_opC, sl_z0, sl_z1, sl_z2, sl_z3, sl_z4, sl_z5, sl_z6, sl_z7, sl_c0, sl_c1, sl_c2, sl_c3, sl_c4, sl_c5, sl_c6, sl_c7, List.length_map, e1, f1, f4, eq_true c1, sl_kds_1, h0, e3]
    · simp only [sp_opC, sp_oh, eq_false c1, if_false] at h0 ⊢
      rw [at_X6_init_3]; simp only [at_X6_init_4, at_X6_init_5, ey_ld, sk_ld_s, ex_oin, ex_nw, ex_dup_i, ex_dup_r, ex_dup_n, ey_ci0, sk_c_s, ey_pf, sk_pf_s, sw_set_set, ey_cv0, ex_na, ex_push, ex_sti, ex_goto, ey_gf, sk_gf_s, sk_v_s, ey_al, sk_al_s, ex_ic, ey_cv1, ey_asr, sk_asr_s, ey_inc, sk_inc_s, ex_ii, ex_iz, ex_ct, ex_ret, sw_gl_0, sw_gl_s, sw_fx_n, sw_fx_i, sw_fx_r, sw_fx_0, sw_fx_l, sw_fx_d, sw_sl1_0, sw_sl1_1, sw_sl1_s, sw_no_0, sw_no_s, sw_no_e, sw_mk_t, sw_mk_f, sw_mk_e, sw_en_0, sw_en_n, sw_en_i, sw_en_r, sw_en_z, sw_en_l, sw_en_d, sw_ok_0, sw_ok_1, sw_ok_2, sw_ok_3, sw_ok_4, sw_bo_s, sw_oi_s, sw_cl_s, sw_cl_x, sw_psh_s, sw_psh_n, sw_kd_s, sw_op_s, sw_oc_s, sw_oc_e, sw_oa_s, sw_el_n, sw_el_r, sl_kds_1, sl_kds_67, sw_fit_i, sw_fit_r, sw_fit_n, sw_fit_l, sw_fit_d, sw_fit_b, sw_fit_0, sw_fit_1, sw_rel_0, sw_rel_1, sw_rel_2, sw_rel_3, sw_rel_4, sw_rel_5, sw_hp_set, sw_nx_set, sw_sl_set, sw_ev_set, sw_hp_new, sw_nx_new, sw_sl_new, sw_ev_new, List.getElem?_cons_zero, List.getElem?_cons_succ, List.set_cons_zero, List.set_cons_succ, List.length_cons, List.length_nil, Nat.reduceAdd, Nat.reduceSub, Nat.reduceLT, Nat.reduceLeDiff, Nat.zero_lt_succ, Nat.zero_add, beq_self_eq_true, Bool.true_and, and_true, true_and, and_self, not_true_eq_false, not_false_eq_true, ↓reduceIte, Nat.reduceBEq, eq_self, sw_b_0, sw_b_1, decide_eq_false_iff_not, decide_eq_true_eq, sl_n10, sl_n01, Decidable.not_not, sl_ct, sl_cats_0, sl_cats_i, sl_cats_r, sl_cats_n, sl_cats_l, sl_ok_5, sl_ok9, decide_true, sp_machC, sp_nodeC, sp_opC, sl_z0, sl_z1, sl_z2, sl_z3, sl_z4, sl_z5, sl_z6, sl_z7, sl_c0, sl_c1, sl_c2, sl_c3, sl_c4, sl_c5, sl_c6, sl_c7, List.length_map, e1, f1, f4, ho.1, sp_odC, eq_false c1, e2, sl_kds_1, h0, e3]
end
