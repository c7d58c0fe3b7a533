/-! ===== the JDK's lists: the rest ===== -/
theorem sl_kd_set {P : sw_P} {a q : Nat} {t : Nat} {vs vs' : List Value} {cs : List Nat} (h0 : sw_hp P a = some (t, vs)) (hq : sw_kds (sw_hp P q) cs = true) : sw_kds (sw_hp (sw_set P a (t, vs')) q) cs = true := by
  show sw_kds (if q = a then _ else sw_hp P q) cs = true
  by_cases e : q = a
  · subst e; rw [h0] at hq; rw [if_pos rfl]; exact hq
  · rw [if_neg e]; exact hq
theorem sl_el_set {P : sw_P} {a : Nat} {t : Nat} {vs vs' : List Value} {cs : List Nat} (h0 : sw_hp P a = some (t, vs)) {v : Value} (hv : sw_el P cs v = true) : sw_el (sw_set P a (t, vs')) cs v = true := by
  cases v <;> first | exact hv | exact sl_kd_set h0 hv
theorem jc_J2_remove {ev : Nat → Nat} {c s D a b : Nat} {P : sw_P} {vs : List Value} {F : List sl_A} (hD : 3 ≤ D) (h : sl_st ev c s P (sl_ls ev a (vs ++ [.ref b]) :: F)) (hl : vs.length < 100000) :
    ∃ P', sw_Z D m_J2_remove [.ref a, .int (nI vs.length)] P = some (.inl (some (.ref b)), P') ∧ sl_st ev c s P' (sl_ls ev a vs :: F) := by
  obtain ⟨d, hDe, hDn⟩ := sw_dep hD; subst hDe; replace hD := hDn; clear hDn
  obtain ⟨mc, arr, pad, hq, h⟩ := h.lx
  rcases (h.pk [1]).bk with ⟨⟨-, e3, -⟩, -⟩ | ⟨hp, h⟩
  · simp at e3
  have h1 := h.get 0 rfl
  have h0 := h.get 1 rfl
  have hlen : (vs ++ [Value.ref b]).length = vs.length + 1 := by simp
  rw [hlen] at h0 hq
  have hne : arr ≠ a := by
    intro e
    subst e
    rw [h0] at h1
    cases h1
  have e1 := jc_J6_checkIndex (D := d) (P := P) (i := vs.length) (n := vs.length + 1) hD (by omega) (by omega)
  have e2 : ¬ nI vs.length < 0 := nI_pos (by omega)
  have e3 : (nI vs.length).toNatClampNeg = vs.length := nI_clamp (by omega)
  have e4 : (vs ++ [Value.ref b] ++ List.replicate pad Value.null)[vs.length]? = some (.ref b) := by simp
  have e5 : nI (vs.length + 1) - 1 = nI vs.length := nI_pred _
  have e6 : vs.length < (vs ++ [Value.ref b] ++ List.replicate pad Value.null).length := by simp
  have e7 : (vs ++ [Value.ref b] ++ List.replicate pad Value.null).set vs.length .null = vs ++ List.replicate (pad + 1) .null := by
    rw [List.append_assoc, List.set_append_right _ _ (Nat.le_refl _), Nat.sub_self]
    rfl
  have e8 : nI vs.length ≤ nI vs.length := Int32.le_refl _
  have g := (h.set 1 (24, [.int (mc + 1), .ref arr, .int (nI vs.length)]) rfl).set 0 (67, vs ++ List.replicate (pad + 1) .null) rfl
  obtain ⟨d', hDe, hDn⟩ := sw_dep hD; subst hDe; replace hD := hDn; clear hDn
  have e9 : sw_Z (d' + 1) m_J2_fastRemove [.ref a, .ref arr, .int (nI vs.length)] P = some (.inl none, sw_set (sw_set P a (24, [.int (mc + 1), .ref arr, .int (nI vs.length)])) arr (67, vs ++ List.replicate (pad + 1) .null)) := by
    rw [M_J2_fastRemove _ _ _ rfl]; simp only [at_J2_fastRemove_0, at_J2_fastRemove_1, ey_ld, sk_ld_s, ex_dup_i, ex_dup_r, ex_dup_n, ey_gf, sk_gf_s, sk_v_s, ex_push, ex_ii, ey_pf, sk_pf_s, sw_set_set, ex_sti, ex_ic, ey_cp, sk_cp1_s, sk_cp2_s, ex_goto, ex_dx1_ir, ex_dx1_rr, ey_asr, sk_asr_s, ex_ret, sw_gl_0, sw_gl_s, sw_fx_n, sw_fx_i, sw_fx_r, sw_fx_0, sw_fx_l, sw_fx_d, sw_sl1_0, sw_sl1_1, sw_sl1_s, sw_no_0, sw_no_s, sw_no_e, sw_mk_t, sw_mk_f, sw_mk_e, sw_en_0, sw_en_n, sw_en_i, sw_en_r, sw_en_z, sw_en_l, sw_en_d, sw_ok_0, sw_ok_1, sw_ok_2, sw_ok_3, sw_ok_4, sw_bo_s, sw_oi_s, sw_cl_s, sw_cl_x, sw_psh_s, sw_psh_n, sw_kd_s, sw_op_s, sw_oc_s, sw_oc_e, sw_oa_s, sw_el_n, sw_el_r, sl_kds_1, sl_kds_67, sw_fit_i, sw_fit_r, sw_fit_n, sw_fit_l, sw_fit_d, sw_fit_b, sw_fit_0, sw_fit_1, sw_rel_0, sw_rel_1, sw_rel_2, sw_rel_3, sw_rel_4, sw_rel_5, sw_hp_set, sw_nx_set, sw_sl_set, sw_ev_set, sw_hp_new, sw_nx_new, sw_sl_new, sw_ev_new, List.getElem?_cons_zero, List.getElem?_cons_succ, List.set_cons_zero, List.set_cons_succ, List.length_cons, List.length_nil, Nat.reduceAdd, Nat.reduceSub, Nat.reduceLT, Nat.reduceLeDiff, Nat.zero_lt_succ, Nat.zero_add, beq_self_eq_true, Bool.true_and, and_true, true_and, and_self, not_true_eq_false, not_false_eq_true, ↓reduceIte, Nat.reduceBEq, eq_self, h0, h1, e2, e3, e5, e6, e7, e8, hne, hne.symm]
  refine ⟨_, ?_, sl_st.oflx (Q := fun c => c ∈ sl_caps) (mc := mc + 1) (arr := arr) (pad := pad + 1) (by rw [show vs.length + (pad + 1) = vs.length + 1 + pad by omega]; exact hq) ((g.ofbk (by omega)).pk [1])⟩
  rw [M_J2_remove _ _ _ rfl]; simp only [at_J2_remove_0, ey_ld, sk_ld_s, ey_gf, sk_gf_s, sk_v_s, ey_cs2, sk_c_s, ex_pop_i, ex_pop_r, ex_pop_n, ex_sta, ex_sta_n, ey_ald, sk_ald_s, ey_cv2, ex_rv, sw_gl_0, sw_gl_s, sw_fx_n, sw_fx_i, sw_fx_r, sw_fx_0, sw_fx_l, sw_fx_d, sw_sl1_0, sw_sl1_1, sw_sl1_s, sw_no_0, sw_no_s, sw_no_e, sw_mk_t, sw_mk_f, sw_mk_e, sw_en_0, sw_en_n, sw_en_i, sw_en_r, sw_en_z, sw_en_l, sw_en_d, sw_ok_0, sw_ok_1, sw_ok_2, sw_ok_3, sw_ok_4, sw_bo_s, sw_oi_s, sw_cl_s, sw_cl_x, sw_psh_s, sw_psh_n, sw_kd_s, sw_op_s, sw_oc_s, sw_oc_e, sw_oa_s, sw_el_n, sw_el_r, sl_kds_1, sl_kds_67, sw_fit_i, sw_fit_r, sw_fit_n, sw_fit_l, sw_fit_d, sw_fit_b, sw_fit_0, sw_fit_1, sw_rel_0, sw_rel_1, sw_rel_2, sw_rel_3, sw_rel_4, sw_rel_5, sw_hp_set, sw_nx_set, sw_sl_set, sw_ev_set, sw_hp_new, sw_nx_new, sw_sl_new, sw_ev_new, List.getElem?_cons_zero, List.getElem?_cons_succ, List.set_cons_zero, List.set_cons_succ, List.length_cons, List.length_nil, Nat.reduceAdd, Nat.reduceSub, Nat.reduceLT, Nat.reduceLeDiff, Nat.zero_lt_succ, Nat.zero_add, beq_self_eq_true, Bool.true_and, and_true, true_and, and_self, not_true_eq_false, not_false_eq_true, ↓reduceIte, Nat.reduceBEq, eq_self, h0, h1, e1, e2, e3, e4, e9]
theorem sl_cpy_ins (vs : List Value) (i k b : Nat) (hi : i ≤ vs.length) : (sw_cpy (vs ++ List.replicate (k + 1) .null) (vs ++ List.replicate (k + 1) .null) i (i + 1) (vs.length - i)).set i (.ref b) = (vs.take i ++ .ref b :: vs.drop i) ++ List.replicate k .null := by
  have hlt : i < (vs ++ List.replicate (k + 1) Value.null).length := by simp; omega
  have h1 : (vs ++ List.replicate (k + 1) Value.null).take (i + 1) = vs.take i ++ [(vs ++ List.replicate (k + 1) Value.null)[i]] := by
    rw [List.take_succ_eq_append_getElem hlt, List.take_append_of_le_length hi]
  have h2 : ((vs ++ List.replicate (k + 1) Value.null).drop i).take (vs.length - i) = vs.drop i := by
    rw [List.drop_append_of_le_length hi, List.take_left' (by simp)]
  have h3 : (vs ++ List.replicate (k + 1) Value.null).drop (i + 1 + (vs.length - i)) = List.replicate k .null := by
    rw [show i + 1 + (vs.length - i) = vs.length + 1 by omega, List.drop_append, List.drop_of_length_le (by omega), List.nil_append, show vs.length + 1 - vs.length = 1 by omega, List.drop_replicate]
    rfl
  unfold sw_cpy
  rw [h1, h2, h3, List.append_assoc, List.set_append_right _ _ (by simp; omega), List.length_take, Nat.min_eq_left hi, Nat.sub_self, List.append_assoc]
  rfl
theorem jc_J2_add_3T {ev : Nat → Nat} {c s d a b arr k i : Nat} {P : sw_P} {x : Value} {vs : List Value} {F : List sl_A} (h : sl_st ev c s P (sl_pt a (24, [x, .ref arr, .int (nI vs.length)]) :: sl_pt arr (67, vs ++ List.replicate (k + 1) .null) :: F)) (hi : i ≤ vs.length) (hl : vs.length < 100000) (hk : ∀ v ∈ vs, sw_el P sw_k67 v = true) (hb : sw_kds (sw_hp P b) sw_k67 = true) :
    ∃ P', sw_at (sw_Z d) b_J2_add_3 1 [some (.ref a), some (.int (nI i)), some (.ref b), some (.int (nI vs.length)), some (.ref arr)] [] P = some (.inl none, P') ∧ sl_st ev c s P' (sl_pt a (24, [x, .ref arr, .int (nI (vs.length + 1))]) :: sl_pt arr (67, (vs.take i ++ .ref b :: vs.drop i) ++ List.replicate k .null) :: F) := by
  have h0 := h.get 0 rfl
  have h1 := h.get 1 rfl
  have hne : a ≠ arr := by
    intro e
    subst e
    rw [h0] at h1
    cases h1
  have e1 : ¬ nI i < 0 := nI_pos (by omega)
  have e2 : (nI i).toNatClampNeg = i := nI_clamp (by omega)
  have e2' : (nI (i + 1)).toNatClampNeg = i + 1 := nI_clamp (by omega)
  have e3 : nI vs.length - nI i = nI (vs.length - i) := pk_sub hi
  have e3' : (nI (vs.length - i)).toNatClampNeg = vs.length - i := nI_clamp (by omega)
  have e4 : (0 : Int32) ≤ nI i := nI_pos' (by omega)
  have e4' : (0 : Int32) ≤ nI (i + 1) := nI_pos' (by omega)
  have e4'' : (0 : Int32) ≤ nI (vs.length - i) := nI_pos' (by omega)
  have e5 : i + (vs.length - i) ≤ (vs ++ List.replicate (k + 1) Value.null).length := by simp; omega
  have e6 : i + 1 + (vs.length - i) ≤ (vs ++ List.replicate (k + 1) Value.null).length := by simp; omega
  have e7 : (((vs ++ List.replicate (k + 1) Value.null).drop i).take (vs.length - i)).all (sw_ce P 67) = true := by
    rw [List.all_eq_true]
    intro v hv
    rcases List.mem_append.mp (List.mem_of_mem_drop (List.mem_of_mem_take hv)) with q | q
    · exact hk v q
    · rw [(List.mem_replicate.mp q).2]; rfl
  have e8 : i < (sw_cpy (vs ++ List.replicate (k + 1) Value.null) (vs ++ List.replicate (k + 1) Value.null) i (i + 1) (vs.length - i)).length := by
    unfold sw_cpy; simp; omega
  have e9 := sl_cpy_ins vs i k b hi
  have hb2 := sl_kd_set (vs' := sw_cpy (vs ++ List.replicate (k + 1) Value.null) (vs ++ List.replicate (k + 1) Value.null) i (i + 1) (vs.length - i)) h1 hb
  rw [sw_hp_set] at hb2
  have g := (h.set 1 (67, (vs.take i ++ .ref b :: vs.drop i) ++ List.replicate k .null) rfl).set 0 (24, [x, .ref arr, .int (nI (vs.length + 1))]) rfl
  refine ⟨_, ?_, g⟩
  simp only [at_J2_add_3_1, ey_ld, sk_ld_s, ey_cv1, sk_c_s, ex_dup_i, ex_dup_r, ex_dup_n, ey_gf, sk_gf_s, sk_v_s, ex_push, ex_ii, ey_pf, sk_pf_s, sw_set_set, ex_sti, ex_sta, ex_sta_n, ey_al, sk_al_s, ex_ic, ey_cv0, ex_goto, ey_cp, sk_cp1_s, sk_cp2_s, ey_asr, sk_asr_s, ex_ret, sw_gl_0, sw_gl_s, sw_fx_n, sw_fx_i, sw_fx_r, sw_fx_0, sw_fx_l, sw_fx_d, sw_sl1_0, sw_sl1_1, sw_sl1_s, sw_no_0, sw_no_s, sw_no_e, sw_mk_t, sw_mk_f, sw_mk_e, sw_en_0, sw_en_n, sw_en_i, sw_en_r, sw_en_z, sw_en_l, sw_en_d, sw_ok_0, sw_ok_1, sw_ok_2, sw_ok_3, sw_ok_4, sw_bo_s, sw_oi_s, sw_cl_s, sw_cl_x, sw_psh_s, sw_psh_n, sw_kd_s, sw_op_s, sw_oc_s, sw_oc_e, sw_oa_s, sw_el_n, sw_el_r, sl_kds_1, sl_kds_67, sw_fit_i, sw_fit_r, sw_fit_n, sw_fit_l, sw_fit_d, sw_fit_b, sw_fit_0, sw_fit_1, sw_rel_0, sw_rel_1, sw_rel_2, sw_rel_3, sw_rel_4, sw_rel_5, sw_hp_set, sw_nx_set, sw_sl_set, sw_ev_set, sw_hp_new, sw_nx_new, sw_sl_new, sw_ev_new, List.getElem?_cons_zero, List.getElem?_cons_succ, List.set_cons_zero, List.set_cons_succ, List.length_cons, List.length_nil, Nat.reduceAdd, Nat.reduceSub, Nat.reduceLT, Nat.reduceLeDiff, Nat.zero_lt_succ, Nat.zero_add, beq_self_eq_true, Bool.true_and, and_true, true_and, and_self, not_true_eq_false, not_false_eq_true, ↓reduceIte, Nat.reduceBEq, eq_self, h0, h1, e1, e2, e2', e3, e3', e4, e4', e4'', e5, e6, e7, e8, e9, hb2, hne, nI_1]
theorem jc_J2_add_3 {ev : Nat → Nat} {c s D a b i : Nat} {P : sw_P} {vs : List Value} {F : List sl_A} (hD : 8 ≤ D) (h : sl_st ev c s P (sl_ls ev a vs :: F)) (hi : i ≤ vs.length) (hl : vs.length < 1000) (hk : ∀ v ∈ vs, sw_el P sw_k67 v = true) (hb : sw_kds (sw_hp P b) sw_k67 = true) :
    ∃ P', sw_Z D m_J2_add_3 [.ref a, .int (nI i), .ref b] P = some (.inl none, P') ∧ sl_st ev (c + sl_gA vs.length) (s + sl_gS vs.length) P' (sl_ls ev a (vs.take i ++ .ref b :: vs.drop i) :: F) := by
  obtain ⟨d, hDe, hDn⟩ := sw_dep hD; subst hDe; replace hD := hDn; clear hDn
  obtain ⟨mc, arr, pad, hq, h⟩ := h.lx
  have h0' := h.get 0 rfl
  have hgl := h.gl.1
  have h := h.set 0 (24, [.int (mc + 1), .ref arr, .int (nI vs.length)]) rfl
  have hk : ∀ v ∈ vs, sw_el (sw_set P a (24, [.int (mc + 1), .ref arr, .int (nI vs.length)])) sw_k67 v = true := fun v hv => sl_el_set h0' (hk v hv)
  have hb := sl_kd_set (vs' := [.int (mc + 1), .ref arr, .int (nI vs.length)]) h0' hb
  have r0 : sw_Z d m_J2_rangeCheckForAdd [.ref a, .int (nI i)] P = some (.inl none, P) := by
    obtain ⟨d, hDe, hDn⟩ := sw_dep hD; subst hDe; replace hD := hDn; clear hDn
    have e1 : ¬ nI vs.length < nI i := nI_nlt hi (by omega)
    have e2 : (0 : Int32) ≤ nI i := nI_pos' (by omega)
    rw [M_J2_rangeCheckForAdd _ _ _ rfl]; simp only [at_J2_rangeCheckForAdd_0, at_J2_rangeCheckForAdd_1, at_J2_rangeCheckForAdd_2, ey_ld, sk_ld_s, ey_gf, sk_gf_s, sk_v_s, ex_ic, ex_iz, ex_goto, ex_ret, sw_gl_0, sw_gl_s, sw_fx_n, sw_fx_i, sw_fx_r, sw_fx_0, sw_fx_l, sw_fx_d, sw_sl1_0, sw_sl1_1, sw_sl1_s, sw_no_0, sw_no_s, sw_no_e, sw_mk_t, sw_mk_f, sw_mk_e, sw_en_0, sw_en_n, sw_en_i, sw_en_r, sw_en_z, sw_en_l, sw_en_d, sw_ok_0, sw_ok_1, sw_ok_2, sw_ok_3, sw_ok_4, sw_bo_s, sw_oi_s, sw_cl_s, sw_cl_x, sw_psh_s, sw_psh_n, sw_kd_s, sw_op_s, sw_oc_s, sw_oc_e, sw_oa_s, sw_el_n, sw_el_r, sl_kds_1, sl_kds_67, sw_fit_i, sw_fit_r, sw_fit_n, sw_fit_l, sw_fit_d, sw_fit_b, sw_fit_0, sw_fit_1, sw_rel_0, sw_rel_1, sw_rel_2, sw_rel_3, sw_rel_4, sw_rel_5, sw_hp_set, sw_nx_set, sw_sl_set, sw_ev_set, sw_hp_new, sw_nx_new, sw_sl_new, sw_ev_new, List.getElem?_cons_zero, List.getElem?_cons_succ, List.set_cons_zero, List.set_cons_succ, List.length_cons, List.length_nil, Nat.reduceAdd, Nat.reduceSub, Nat.reduceLT, Nat.reduceLeDiff, Nat.zero_lt_succ, Nat.zero_add, beq_self_eq_true, Bool.true_and, and_true, true_and, and_self, not_true_eq_false, not_false_eq_true, ↓reduceIte, Nat.reduceBEq, eq_self, h0', e1, e2]
  generalize hP1 : sw_set P a (24, [.int (mc + 1), .ref arr, .int (nI vs.length)]) = P1 at *
  have h0 := h.get 0 rfl
  have hlen : (vs.take i ++ Value.ref b :: vs.drop i).length = vs.length + 1 := by simp; omega
  have fin : ∀ {c' s' P' arr' k}, vs.length + 1 + k ∈ sl_caps → sl_st ev c' s' P' (sl_pt a (24, [.int (mc + 1), .ref arr', .int (nI (vs.length + 1))]) :: sl_pt arr' (67, (vs.take i ++ .ref b :: vs.drop i) ++ List.replicate k .null) :: F) → sl_st ev c' s' P' (sl_ls ev a (vs.take i ++ .ref b :: vs.drop i) :: F) := by
    intro c' s' P' arr' k hq h
    refine sl_st.oflx (Q := fun c => c ∈ sl_caps) (mc := mc + 1) (arr := arr') (pad := k) (by rw [hlen]; exact hq) ?_
    rw [hlen]
    exact ((h.pk [1]).ofbk (by omega)).pk [1]
  have hal : sw_oa (sw_hp P1 arr) (fun ws => some ws.length) = some (vs.length + pad) := by
    rcases (h.pk [1]).bk with ⟨⟨e1, e2, e3⟩, h⟩ | ⟨hp, h⟩
    · subst e1 e2 e3
      rw [h.gl.1]; rfl
    · rw [h.get 0 rfl]
      show some _ = some _
      simp
  obtain ⟨t, ws, ho, ht, hws⟩ : ∃ t ws, sw_hp P1 arr = some (t, ws) ∧ 64 ≤ t ∧ ws.length = vs.length + pad := by
    cases ho : sw_hp P1 arr with
    | none => rw [ho] at hal; cases hal
    | some o =>
      obtain ⟨t, ws⟩ := o
      rw [ho, sw_oa_s] at hal
      by_cases ht : 64 ≤ t
      · rw [if_pos ht] at hal
        exact ⟨t, ws, rfl, ht, Option.some.inj hal⟩
      · rw [if_neg ht] at hal; cases hal
  by_cases hp : pad = 0
  · subst hp
    have hgA : sl_gA vs.length = 1 := if_pos hq
    have hgS : sl_gS vs.length = sl_nc vs.length := if_pos hq
    have hcap := sl_caps_next _ hq hl
    have hc10 : vs.length = 0 ∨ 10 ≤ vs.length := by
      simp only [sl_caps, List.mem_cons, List.not_mem_nil, or_false] at hq
      omega
    obtain ⟨d, hDe, hDn⟩ := sw_dep hD; subst hDe; replace hD := hDn; clear hDn
    obtain ⟨P2, arr', e1, hkeep, h1⟩ := jc_J2_growS (D := d) (k := vs.length + 1) (by omega) h (by omega) (by omega) hk
    have e2 : sw_Z (d + 1) m_J2_grow [.ref a] P1 = some (.inl (some (.ref arr')), P2) := by
      rw [M_J2_grow _ _ _ rfl]; simp only [at_J2_grow_0, ey_ld, sk_ld_s, ey_gf, sk_gf_s, sk_v_s, ex_push, ex_ii, ey_cv1, sk_c_s, ex_rv, sw_gl_0, sw_gl_s, sw_fx_n, sw_fx_i, sw_fx_r, sw_fx_0, sw_fx_l, sw_fx_d, sw_sl1_0, sw_sl1_1, sw_sl1_s, sw_no_0, sw_no_s, sw_no_e, sw_mk_t, sw_mk_f, sw_mk_e, sw_en_0, sw_en_n, sw_en_i, sw_en_r, sw_en_z, sw_en_l, sw_en_d, sw_ok_0, sw_ok_1, sw_ok_2, sw_ok_3, sw_ok_4, sw_bo_s, sw_oi_s, sw_cl_s, sw_cl_x, sw_psh_s, sw_psh_n, sw_kd_s, sw_op_s, sw_oc_s, sw_oc_e, sw_oa_s, sw_el_n, sw_el_r, sl_kds_1, sl_kds_67, sw_fit_i, sw_fit_r, sw_fit_n, sw_fit_l, sw_fit_d, sw_fit_b, sw_fit_0, sw_fit_1, sw_rel_0, sw_rel_1, sw_rel_2, sw_rel_3, sw_rel_4, sw_rel_5, sw_hp_set, sw_nx_set, sw_sl_set, sw_ev_set, sw_hp_new, sw_nx_new, sw_sl_new, sw_ev_new, List.getElem?_cons_zero, List.getElem?_cons_succ, List.set_cons_zero, List.set_cons_succ, List.length_cons, List.length_nil, Nat.reduceAdd, Nat.reduceSub, Nat.reduceLT, Nat.reduceLeDiff, Nat.zero_lt_succ, Nat.zero_add, beq_self_eq_true, Bool.true_and, and_true, true_and, and_self, not_true_eq_false, not_false_eq_true, ↓reduceIte, Nat.reduceBEq, eq_self, h0, nI_1, e1]
    have hgc : sl_gc (vs.length + 0) (vs.length + 1) = sl_nc vs.length := by
      unfold sl_gc sl_nc
      split <;> split <;> omega
    have hnc : vs.length + 1 ≤ sl_nc vs.length := by unfold sl_nc; split <;> omega
    rw [hgc] at h1
    obtain ⟨k, hk2⟩ : ∃ k, sl_nc vs.length = vs.length + 1 + k := ⟨sl_nc vs.length - (vs.length + 1), by omega⟩
    rw [show sl_nc vs.length - vs.length = k + 1 by omega] at h1
    have hkd : ∀ {q}, sw_kds (sw_hp P1 q) sw_k67 = true → sw_kds (sw_hp P2 q) sw_k67 = true := by
      intro q hb
      by_cases hba : q = a
      · subst hba
        rw [h1.get 0 rfl]; rfl
      · revert hb
        cases hob : sw_hp P1 q with
        | none => intro hb; cases hb
        | some o => intro hb; rw [hkeep q hba o hob]; exact hb
    obtain ⟨P', r1, r2⟩ := jc_J2_add_3T (d := d + 1) (b := b) h1 hi (by omega) (fun v hv => by
      have := hk v hv
      cases v <;> first | exact this | exact hkd this) (hkd hb)
    refine ⟨P', ?_, ?_⟩
    · rw [← r1]
      have e3 : Int32.ofNat ws.length = nI vs.length := by rw [hws]; rfl
      rw [M_J2_add_3 _ _ _ rfl]; simp only [at_J2_add_3_0, ey_ld, sk_ld_s, ey_cv1, sk_c_s, ex_dup_i, ex_dup_r, ex_dup_n, ey_gf, sk_gf_s, sk_v_s, ex_push, ex_ii, ey_pf, sk_pf_s, sw_set_set, ex_sti, ex_sta, ex_sta_n, ey_al, sk_al_s, ex_ic, ey_cv0, ex_goto, ey_cp, sk_cp1_s, sk_cp2_s, ey_asr, sk_asr_s, ex_ret, sw_gl_0, sw_gl_s, sw_fx_n, sw_fx_i, sw_fx_r, sw_fx_0, sw_fx_l, sw_fx_d, sw_sl1_0, sw_sl1_1, sw_sl1_s, sw_no_0, sw_no_s, sw_no_e, sw_mk_t, sw_mk_f, sw_mk_e, sw_en_0, sw_en_n, sw_en_i, sw_en_r, sw_en_z, sw_en_l, sw_en_d, sw_ok_0, sw_ok_1, sw_ok_2, sw_ok_3, sw_ok_4, sw_bo_s, sw_oi_s, sw_cl_s, sw_cl_x, sw_psh_s, sw_psh_n, sw_kd_s, sw_op_s, sw_oc_s, sw_oc_e, sw_oa_s, sw_el_n, sw_el_r, sl_kds_1, sl_kds_67, sw_fit_i, sw_fit_r, sw_fit_n, sw_fit_l, sw_fit_d, sw_fit_b, sw_fit_0, sw_fit_1, sw_rel_0, sw_rel_1, sw_rel_2, sw_rel_3, sw_rel_4, sw_rel_5, sw_hp_set, sw_nx_set, sw_sl_set, sw_ev_set, sw_hp_new, sw_nx_new, sw_sl_new, sw_ev_new, List.getElem?_cons_zero, List.getElem?_cons_succ, List.set_cons_zero, List.set_cons_succ, List.length_cons, List.length_nil, Nat.reduceAdd, Nat.reduceSub, Nat.reduceLT, Nat.reduceLeDiff, Nat.zero_lt_succ, Nat.zero_add, beq_self_eq_true, Bool.true_and, and_true, true_and, and_self, not_true_eq_false, not_false_eq_true, ↓reduceIte, Nat.reduceBEq, eq_self, h0', ho, ht, r0, e2, hP1, h0, e3]
    · rw [hgA, hgS]
      exact fin (k := k) (hk2 ▸ hcap) r2
  · rcases (h.pk [1]).bk with ⟨⟨-, -, e3⟩, -⟩ | ⟨-, h1⟩
    · exact absurd e3 hp
    · obtain ⟨k, rfl⟩ : ∃ k, pad = k + 1 := ⟨pad - 1, by omega⟩
      obtain ⟨P', r1, r2⟩ := jc_J2_add_3T (d := d) (b := b) (h1.pk [1]) hi (by omega) hk hb
      have e1 : ¬ nI vs.length = Int32.ofNat ws.length := fun e => by
        have hc := sl_caps_le _ hq
        have := (nI_eq (by omega) (by omega)).mp (e : nI vs.length = nI ws.length)
        omega
      refine ⟨P', ?_, fin (k := k) (by rw [show vs.length + 1 + k = vs.length + (k + 1) by omega]; exact hq) (r2.wk (Nat.le_add_right _ _) (Nat.le_add_right _ _))⟩
      rw [← r1]
      rw [M_J2_add_3 _ _ _ rfl]; simp only [at_J2_add_3_0, ey_ld, sk_ld_s, ey_cv1, sk_c_s, ex_dup_i, ex_dup_r, ex_dup_n, ey_gf, sk_gf_s, sk_v_s, ex_push, ex_ii, ey_pf, sk_pf_s, sw_set_set, ex_sti, ex_sta, ex_sta_n, ey_al, sk_al_s, ex_ic, ey_cv0, ex_goto, ey_cp, sk_cp1_s, sk_cp2_s, ey_asr, sk_asr_s, ex_ret, sw_gl_0, sw_gl_s, sw_fx_n, sw_fx_i, sw_fx_r, sw_fx_0, sw_fx_l, sw_fx_d, sw_sl1_0, sw_sl1_1, sw_sl1_s, sw_no_0, sw_no_s, sw_no_e, sw_mk_t, sw_mk_f, sw_mk_e, sw_en_0, sw_en_n, sw_en_i, sw_en_r, sw_en_z, sw_en_l, sw_en_d, sw_ok_0, sw_ok_1, sw_ok_2, sw_ok_3, sw_ok_4, sw_bo_s, sw_oi_s, sw_cl_s, sw_cl_x, sw_psh_s, sw_psh_n, sw_kd_s, sw_op_s, sw_oc_s, sw_oc_e, sw_oa_s, sw_el_n, sw_el_r, sl_kds_1, sl_kds_67, sw_fit_i, sw_fit_r, sw_fit_n, sw_fit_l, sw_fit_d, sw_fit_b, sw_fit_0, sw_fit_1, sw_rel_0, sw_rel_1, sw_rel_2, sw_rel_3, sw_rel_4, sw_rel_5, sw_hp_set, sw_nx_set, sw_sl_set, sw_ev_set, sw_hp_new, sw_nx_new, sw_sl_new, sw_ev_new, List.getElem?_cons_zero, List.getElem?_cons_succ, List.set_cons_zero, List.set_cons_succ, List.length_cons, List.length_nil, Nat.reduceAdd, Nat.reduceSub, Nat.reduceLT, Nat.reduceLeDiff, Nat.zero_lt_succ, Nat.zero_add, beq_self_eq_true, Bool.true_and, and_true, true_and, and_self, not_true_eq_false, not_false_eq_true, ↓reduceIte, Nat.reduceBEq, eq_self, h0', ho, ht, r0, e1, hP1, h0]
