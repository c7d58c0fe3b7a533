/-! ===== the JDK's lists: addAll; cached numbers ===== -/
theorem sl_cpy_all (us vs : List Value) (k : Nat) (h : vs.length ≤ k) : sw_cpy vs (us ++ List.replicate k .null) 0 us.length vs.length = us ++ vs ++ List.replicate (k - vs.length) .null := by
  unfold sw_cpy
  rw [List.take_left' rfl, List.drop_zero, List.take_of_length_le (Nat.le_refl _), List.drop_append, List.drop_of_length_le (by omega), List.nil_append, Nat.add_sub_cancel_left, List.drop_replicate, List.append_assoc]
theorem jc_J2_addAllT {ev : Nat → Nat} {c s d a b arr arr2 k : Nat} {P : sw_P} {x : Value} {us vs : List Value} {F : List sl_A} (h : sl_st ev c s P (sl_pt a (24, [x, .ref arr, .int (nI us.length)]) :: sl_pt arr (67, us ++ List.replicate k .null) :: sl_pt arr2 (67, vs) :: F)) (hl : us.length + vs.length < 100000) (hv : ∀ v ∈ vs, sw_el P sw_k67 v = true) (hk : vs.length ≤ k) :
    ∃ P', sw_at (sw_Z d) b_J2_addAll 2 [some (.ref a), none, some (.ref arr2), some (.int (nI vs.length)), some (.ref arr), some (.int (nI us.length))] [] P = some (.inl (some (.int 1)), P') ∧ sl_st ev c s P' (sl_pt a (24, [x, .ref arr, .int (nI (us.length + vs.length))]) :: sl_pt arr (67, us ++ vs ++ List.replicate (k - vs.length) .null) :: F) := by
  have h0 := h.get 0 rfl
  have h1 := h.get 1 rfl
  have h2 := h.get 2 rfl
  have hne : a ≠ arr := by
    intro e
    subst e
    rw [h0] at h1
    cases h1
  have e1 : (0 : Int32) ≤ nI vs.length := nI_pos' (by omega)
  have e2 : (0 : Int32) ≤ nI us.length := nI_pos' (by omega)
  have e3 : (nI vs.length).toNatClampNeg = vs.length := nI_clamp (by omega)
  have e4 : (nI us.length).toNatClampNeg = us.length := nI_clamp (by omega)
  have e5 : (0 : Int32).toNatClampNeg = 0 := rfl
  have e6 : (0 : Int32) ≤ 0 := by decide
  have e7 : vs.length ≤ vs.length := Nat.le_refl _
  have e8 : us.length + vs.length ≤ (us ++ List.replicate k Value.null).length := by simp; omega
  have e9 : ((vs.drop 0).take vs.length).all (sw_ce P 67) = true := by
    rw [List.all_eq_true]
    intro v hm
    exact hv v (List.mem_of_mem_drop (List.mem_of_mem_take hm))
  have e10 := sl_cpy_all us vs k hk
  have g := (((h.set 1 (67, us ++ vs ++ List.replicate (k - vs.length) .null) rfl).set 0 (24, [x, .ref arr, .int (nI (us.length + vs.length))]) rfl).pk [2]).drop
  refine ⟨_, ?_, g⟩
  simp only [at_J2_addAll_2, ey_ld, sk_ld_s, ey_cv0, sk_c_s, ex_sta, ex_sta_n, ex_dup_i, ex_dup_r, ex_dup_n, ey_gf, sk_gf_s, sk_v_s, ex_push, ex_ii, ey_pf, sk_pf_s, sw_set_set, ey_al, sk_al_s, ex_sti, ex_iz, ex_rv, ex_ic, ey_cv1, ex_goto, ey_cp, sk_cp1_s, sk_cp2_s, sw_gl_0, sw_gl_s, sw_fx_n, sw_fx_i, sw_fx_r, sw_fx_0, sw_fx_l, sw_fx_d, sw_sl1_0, sw_sl1_1, sw_sl1_s, sw_no_0, sw_no_s, sw_no_e, sw_mk_t, sw_mk_f, sw_mk_e, sw_en_0, sw_en_n, sw_en_i, sw_en_r, sw_en_z, sw_en_l, sw_en_d, sw_ok_0, sw_ok_1, sw_ok_2, sw_ok_3, sw_ok_4, sw_bo_s, sw_oi_s, sw_cl_s, sw_cl_x, sw_psh_s, sw_psh_n, sw_kd_s, sw_op_s, sw_oc_s, sw_oc_e, sw_oa_s, sw_el_n, sw_el_r, sl_kds_1, sl_kds_67, sw_fit_i, sw_fit_r, sw_fit_n, sw_fit_l, sw_fit_d, sw_fit_b, sw_fit_0, sw_fit_1, sw_rel_0, sw_rel_1, sw_rel_2, sw_rel_3, sw_rel_4, sw_rel_5, sw_hp_set, sw_nx_set, sw_sl_set, sw_ev_set, sw_hp_new, sw_nx_new, sw_sl_new, sw_ev_new, List.getElem?_cons_zero, List.getElem?_cons_succ, List.set_cons_zero, List.set_cons_succ, List.length_cons, List.length_nil, Nat.reduceAdd, Nat.reduceSub, Nat.reduceLT, Nat.reduceLeDiff, Nat.zero_lt_succ, Nat.zero_add, beq_self_eq_true, Bool.true_and, and_true, true_and, and_self, not_true_eq_false, not_false_eq_true, ↓reduceIte, Nat.reduceBEq, eq_self, h0, h1, h2, e1, e2, e3, e4, e5, e6, e7, e8, e9, e10, hne, nI_add]
theorem jc_J2_addAll {Q : Nat → Prop} {ev : Nat → Nat} {c s D a b : Nat} {P : sw_P} {us vs : List Value} {F : List sl_A} (hD : 8 ≤ D) (h : sl_st ev c s P (sl_li ev a us :: sl_lx Q ev b vs :: F)) (hQ : ∀ c, Q c → c < 50000) (hl : us.length + vs.length < 10000) (hu : ∀ v ∈ us, sw_el P sw_k67 v = true) (hv : ∀ v ∈ vs, sw_el P sw_k67 v = true) :
    ∃ P' r, sw_Z D m_J2_addAll [.ref a, .ref b] P = some (.inl (some (.int r)), P') ∧ sl_st ev (c + 2) (s + (10 + 3 * (us.length + vs.length))) P' (sl_li ev a (us ++ vs) :: sl_lx Q ev b vs :: F) := by
  obtain ⟨d, hDe, hDn⟩ := sw_dep hD; subst hDe; replace hD := hDn; clear hDn
  have hn := h.2.2.2.1
  have t1 := jc_J2_toArray (D := d) (by omega) (h.pk [1]) (by omega) hv hQ
  have hkind : sw_kd (sw_hp P b) 24 = true := by
    obtain ⟨_, _, _, _, q, _⟩ := sl_rd_lx (h.at 1 rfl)
    rw [q]; rfl
  have hw : ∀ v, sw_el P sw_k67 v = true → sw_el (sw_new P (67, vs)) sw_k67 v = true := by
    intro v hm
    cases v with
    | ref q =>
      have hm : sw_kds (sw_hp P q) sw_k67 = true := hm
      show sw_kds (if q = sw_nx P then _ else sw_hp P q) sw_k67 = true
      rw [if_neg]
      · exact hm
      · intro e
        rw [hn q (Nat.le_of_eq e.symm)] at hm
        cases hm
    | _ => first | rfl | exact hm
  have h := h.new (67, vs)
  have hu : ∀ v ∈ us, sw_el (sw_new P (67, vs)) sw_k67 v = true := fun v m => hw v (hu v m)
  have hv : ∀ v ∈ vs, sw_el (sw_new P (67, vs)) sw_k67 v = true := fun v m => hw v (hv v m)
  clear hw hn
  generalize hP1 : sw_new P (67, vs) = P1 at *
  obtain ⟨mc, arr, pad, hq, h⟩ := (h.pk [1]).lx
  have h0 := h.get 0 rfl
  have hu : ∀ v ∈ us, sw_el (sw_set P1 a (24, [.int (mc + 1), .ref arr, .int (nI us.length)])) sw_k67 v = true := fun v m => sl_el_set h0 (hu v m)
  have hv : ∀ v ∈ vs, sw_el (sw_set P1 a (24, [.int (mc + 1), .ref arr, .int (nI us.length)])) sw_k67 v = true := fun v m => sl_el_set h0 (hv v m)
  have h := h.set 0 (24, [.int (mc + 1), .ref arr, .int (nI us.length)]) rfl
  generalize hP2 : sw_set P1 a (24, [.int (mc + 1), .ref arr, .int (nI us.length)]) = P2 at *
  have h0' := h.get 0 rfl
  have h2 := h.get 2 rfl
  rcases vs with _ | ⟨v0, vs'⟩
  · refine ⟨P2, 0, ?_, ?_⟩
    · rw [M_J2_addAll _ _ _ rfl]; simp only [at_J2_addAll_0, ey_ld, sk_ld_s, ey_cv0, sk_c_s, ex_sta, ex_sta_n, ex_dup_i, ex_dup_r, ex_dup_n, ey_gf, sk_gf_s, sk_v_s, ex_push, ex_ii, ey_pf, sk_pf_s, sw_set_set, ey_al, sk_al_s, ex_sti, ex_iz, ex_rv, ex_ic, ey_cv1, ex_goto, ey_cp, sk_cp1_s, sk_cp2_s, sw_gl_0, sw_gl_s, sw_fx_n, sw_fx_i, sw_fx_r, sw_fx_0, sw_fx_l, sw_fx_d, sw_sl1_0, sw_sl1_1, sw_sl1_s, sw_no_0, sw_no_s, sw_no_e, sw_mk_t, sw_mk_f, sw_mk_e, sw_en_0, sw_en_n, sw_en_i, sw_en_r, sw_en_z, sw_en_l, sw_en_d, sw_ok_0, sw_ok_1, sw_ok_2, sw_ok_3, sw_ok_4, sw_bo_s, sw_oi_s, sw_cl_s, sw_cl_x, sw_psh_s, sw_psh_n, sw_kd_s, sw_op_s, sw_oc_s, sw_oc_e, sw_oa_s, sw_el_n, sw_el_r, sl_kds_1, sl_kds_67, sw_fit_i, sw_fit_r, sw_fit_n, sw_fit_l, sw_fit_d, sw_fit_b, sw_fit_0, sw_fit_1, sw_rel_0, sw_rel_1, sw_rel_2, sw_rel_3, sw_rel_4, sw_rel_5, sw_hp_set, sw_nx_set, sw_sl_set, sw_ev_set, sw_hp_new, sw_nx_new, sw_sl_new, sw_ev_new, List.getElem?_cons_zero, List.getElem?_cons_succ, List.set_cons_zero, List.set_cons_succ, List.length_cons, List.length_nil, Nat.reduceAdd, Nat.reduceSub, Nat.reduceLT, Nat.reduceLeDiff, Nat.zero_lt_succ, Nat.zero_add, beq_self_eq_true, Bool.true_and, and_true, true_and, and_self, not_true_eq_false, not_false_eq_true, ↓reduceIte, Nat.reduceBEq, eq_self, hkind, t1, hP1, h0, hP2, h2, List.length_nil, show (Int32.ofNat 0 : Int32) = 0 from rfl, show sw_fit 1 (.int 0) = true from sw_fit_0]
    · rw [List.append_nil]
      have g := ((h.pk [2]).drop).pk [0, 1]
      exact (sl_st.oflx (Q := fun c => c < 50000) hq g).wk (by omega) (by simp)
  · generalize hvs : v0 :: vs' = vs at *
    have hpos : 0 < vs.length := by rw [← hvs]; simp
    have e0 : ¬ (Int32.ofNat vs.length = 0) := nI_ne0 hpos (by omega)
    have hal : sw_oa (sw_hp P2 arr) (fun ws => some ws.length) = some (us.length + pad) := by
      rcases (h.pk [1]).bk with ⟨⟨e1, e2, e3⟩, h⟩ | ⟨hp, h⟩
      · subst e1 e2 e3
        rw [h.gl.1]; rfl
      · rw [h.get 0 rfl]
        show some _ = some _
        simp
    obtain ⟨t, ws, ho, ht, hws⟩ : ∃ t ws, sw_hp P2 arr = some (t, ws) ∧ 64 ≤ t ∧ ws.length = us.length + pad := by
      cases ho : sw_hp P2 arr with
      | none => rw [ho] at hal; cases hal
      | some o =>
        obtain ⟨t, ws⟩ := o
        rw [ho, sw_oa_s] at hal
        by_cases ht : 64 ≤ t
        · rw [if_pos ht] at hal
          exact ⟨t, ws, rfl, ht, Option.some.inj hal⟩
        · rw [if_neg ht] at hal; cases hal
    have e1 : Int32.ofNat ws.length - nI us.length = nI pad := by
      rw [hws]
      refine (pk_sub (by omega)).trans ?_
      rw [Nat.add_sub_cancel_left]
    have hlen : (us ++ vs).length = us.length + vs.length := by simp
    by_cases hp : vs.length ≤ pad
    · rcases (h.pk [1]).bk with ⟨⟨-, -, e3⟩, -⟩ | ⟨-, h1⟩
      · omega
      · obtain ⟨P', r1, r2⟩ := jc_J2_addAllT (d := d) (b := b) (vs := vs) (h1.pk [1, 0, 2]) (by omega) hv hp
        have e2 : Int32.ofNat vs.length ≤ nI pad := nI_le hp (by omega)
        refine ⟨P', 1, ?_, ?_⟩
        · rw [← r1]
          rw [M_J2_addAll _ _ _ rfl]; simp only [at_J2_addAll_0, at_J2_addAll_1, ey_ld, sk_ld_s, ey_cv0, sk_c_s, ex_sta, ex_sta_n, ex_dup_i, ex_dup_r, ex_dup_n, ey_gf, sk_gf_s, sk_v_s, ex_push, ex_ii, ey_pf, sk_pf_s, sw_set_set, ey_al, sk_al_s, ex_sti, ex_iz, ex_rv, ex_ic, ey_cv1, ex_goto, ey_cp, sk_cp1_s, sk_cp2_s, sw_gl_0, sw_gl_s, sw_fx_n, sw_fx_i, sw_fx_r, sw_fx_0, sw_fx_l, sw_fx_d, sw_sl1_0, sw_sl1_1, sw_sl1_s, sw_no_0, sw_no_s, sw_no_e, sw_mk_t, sw_mk_f, sw_mk_e, sw_en_0, sw_en_n, sw_en_i, sw_en_r, sw_en_z, sw_en_l, sw_en_d, sw_ok_0, sw_ok_1, sw_ok_2, sw_ok_3, sw_ok_4, sw_bo_s, sw_oi_s, sw_cl_s, sw_cl_x, sw_psh_s, sw_psh_n, sw_kd_s, sw_op_s, sw_oc_s, sw_oc_e, sw_oa_s, sw_el_n, sw_el_r, sl_kds_1, sl_kds_67, sw_fit_i, sw_fit_r, sw_fit_n, sw_fit_l, sw_fit_d, sw_fit_b, sw_fit_0, sw_fit_1, sw_rel_0, sw_rel_1, sw_rel_2, sw_rel_3, sw_rel_4, sw_rel_5, sw_hp_set, sw_nx_set, sw_sl_set, sw_ev_set, sw_hp_new, sw_nx_new, sw_sl_new, sw_ev_new, List.getElem?_cons_zero, List.getElem?_cons_succ, List.set_cons_zero, List.set_cons_succ, List.length_cons, List.length_nil, Nat.reduceAdd, Nat.reduceSub, Nat.reduceLT, Nat.reduceLeDiff, Nat.zero_lt_succ, Nat.zero_add, beq_self_eq_true, Bool.true_and, and_true, true_and, and_self, not_true_eq_false, not_false_eq_true, ↓reduceIte, Nat.reduceBEq, eq_self, hkind, t1, hP1, h0, h0', hP2, h2, ho, ht, e0, e1, e2]
          rfl
        · refine (sl_st.oflx (Q := fun c => c < 50000) (mc := mc + 1) (arr := arr) (pad := pad - vs.length) ?_ ?_).wk (c := c + 1) (s := s + vs.length) (by omega) (by omega)
          · rw [hlen]; omega
          · rw [hlen]
            exact ((r2.pk [1]).ofbk (by rw [hlen]; omega)).pk [1]
    · obtain ⟨P3, arr', e3, hkeep, h3⟩ := jc_J2_growS (D := d) (k := us.length + vs.length) (by omega) h (by omega) (by omega) hu
      have e2 : ¬ Int32.ofNat vs.length ≤ nI pad := nI_ge (by omega) (by omega)
      have hgc : us.length + vs.length ≤ sl_gc (us.length + pad) (us.length + vs.length) ∧ sl_gc (us.length + pad) (us.length + vs.length) ≤ 10 + 2 * (us.length + vs.length) := by
        unfold sl_gc
        split <;> omega
      obtain ⟨P', r1, r2⟩ := jc_J2_addAllT (d := d) (b := b) (vs := vs) h3 (by omega) (fun v m => by
        have := hv v m
        cases v with
        | ref q =>
          have hb : sw_kds (sw_hp P2 q) sw_k67 = true := this
          show sw_kds (sw_hp P3 q) sw_k67 = true
          by_cases hba : q = a
          · subst hba
            rw [h3.get 0 rfl]; rfl
          · revert hb
            cases hob : sw_hp P2 q with
            | none => intro hb; cases hb
            | some o => intro hb; rw [hkeep q hba o hob]; exact hb
        | _ => first | rfl | exact this) (by omega)
      refine ⟨P', 1, ?_, ?_⟩
      · rw [← r1]
        rw [M_J2_addAll _ _ _ rfl]; simp only [at_J2_addAll_0, at_J2_addAll_1, ey_ld, sk_ld_s, ey_cv0, sk_c_s, ex_sta, ex_sta_n, ex_dup_i, ex_dup_r, ex_dup_n, ey_gf, sk_gf_s, sk_v_s, ex_push, ex_ii, ey_pf, sk_pf_s, sw_set_set, ey_al, sk_al_s, ex_sti, ex_iz, ex_rv, ex_ic, ey_cv1, ex_goto, ey_cp, sk_cp1_s, sk_cp2_s, sw_gl_0, sw_gl_s, sw_fx_n, sw_fx_i, sw_fx_r, sw_fx_0, sw_fx_l, sw_fx_d, sw_sl1_0, sw_sl1_1, sw_sl1_s, sw_no_0, sw_no_s, sw_no_e, sw_mk_t, sw_mk_f, sw_mk_e, sw_en_0, sw_en_n, sw_en_i, sw_en_r, sw_en_z, sw_en_l, sw_en_d, sw_ok_0, sw_ok_1, sw_ok_2, sw_ok_3, sw_ok_4, sw_bo_s, sw_oi_s, sw_cl_s, sw_cl_x, sw_psh_s, sw_psh_n, sw_kd_s, sw_op_s, sw_oc_s, sw_oc_e, sw_oa_s, sw_el_n, sw_el_r, sl_kds_1, sl_kds_67, sw_fit_i, sw_fit_r, sw_fit_n, sw_fit_l, sw_fit_d, sw_fit_b, sw_fit_0, sw_fit_1, sw_rel_0, sw_rel_1, sw_rel_2, sw_rel_3, sw_rel_4, sw_rel_5, sw_hp_set, sw_nx_set, sw_sl_set, sw_ev_set, sw_hp_new, sw_nx_new, sw_sl_new, sw_ev_new, List.getElem?_cons_zero, List.getElem?_cons_succ, List.set_cons_zero, List.set_cons_succ, List.length_cons, List.length_nil, Nat.reduceAdd, Nat.reduceSub, Nat.reduceLT, Nat.reduceLeDiff, Nat.zero_lt_succ, Nat.zero_add, beq_self_eq_true, Bool.true_and, and_true, true_and, and_self, not_true_eq_false, not_false_eq_true, ↓reduceIte, Nat.reduceBEq, eq_self, hkind, t1, hP1, h0, h0', hP2, h2, ho, ht, e0, e1, e2, nI_add]
        have e4 : nI us.length + Int32.ofNat vs.length = nI (us.length + vs.length) := nI_add _ _
        simp only [ey_ld, sk_ld_s, ey_cv0, sk_c_s, ex_sta, ex_sta_n, ex_dup_i, ex_dup_r, ex_dup_n, ey_gf, sk_gf_s, sk_v_s, ex_push, ex_ii, ey_pf, sk_pf_s, sw_set_set, ey_al, sk_al_s, ex_sti, ex_iz, ex_rv, ex_ic, ey_cv1, ex_goto, ey_cp, sk_cp1_s, sk_cp2_s, sw_gl_0, sw_gl_s, sw_fx_n, sw_fx_i, sw_fx_r, sw_fx_0, sw_fx_l, sw_fx_d, sw_sl1_0, sw_sl1_1, sw_sl1_s, sw_no_0, sw_no_s, sw_no_e, sw_mk_t, sw_mk_f, sw_mk_e, sw_en_0, sw_en_n, sw_en_i, sw_en_r, sw_en_z, sw_en_l, sw_en_d, sw_ok_0, sw_ok_1, sw_ok_2, sw_ok_3, sw_ok_4, sw_bo_s, sw_oi_s, sw_cl_s, sw_cl_x, sw_psh_s, sw_psh_n, sw_kd_s, sw_op_s, sw_oc_s, sw_oc_e, sw_oa_s, sw_el_n, sw_el_r, sl_kds_1, sl_kds_67, sw_fit_i, sw_fit_r, sw_fit_n, sw_fit_l, sw_fit_d, sw_fit_b, sw_fit_0, sw_fit_1, sw_rel_0, sw_rel_1, sw_rel_2, sw_rel_3, sw_rel_4, sw_rel_5, sw_hp_set, sw_nx_set, sw_sl_set, sw_ev_set, sw_hp_new, sw_nx_new, sw_sl_new, sw_ev_new, List.getElem?_cons_zero, List.getElem?_cons_succ, List.set_cons_zero, List.set_cons_succ, List.length_cons, List.length_nil, Nat.reduceAdd, Nat.reduceSub, Nat.reduceLT, Nat.reduceLeDiff, Nat.zero_lt_succ, Nat.zero_add, beq_self_eq_true, Bool.true_and, and_true, true_and, and_self, not_true_eq_false, not_false_eq_true, ↓reduceIte, Nat.reduceBEq, eq_self, e4, e3, h0']
        rfl
      · refine (sl_st.oflx (Q := fun c => c < 50000) (mc := mc + 1) (arr := arr') (pad := sl_gc (us.length + pad) (us.length + vs.length) - us.length - vs.length) ?_ ?_).wk (c := c + 1 + 1) (s := s + vs.length + sl_gc (us.length + pad) (us.length + vs.length)) (by omega) (by omega)
        · rw [hlen]; omega
        · rw [hlen]
          exact ((r2.pk [1]).ofbk (by rw [hlen]; omega)).pk [1]
theorem jc_J19_valueOf {ev : Nat → Nat} {c s D p : Nat} {P : sw_P} {F : List sl_A} (hD : 1 ≤ D) (h : sl_st ev c s P F) (hp : p < 128) : sw_Z D m_J19_valueOf [.int (nI p)] P = some (.inl (some (.ref (ev (1000 + (p + 128))))), P) := by
  obtain ⟨d, hDe, hDn⟩ := sw_dep hD; subst hDe; replace hD := hDn; clear hDn
  have hev := h.ev
  have hg := h.gl.2.1
  have e1 : ¬ nI p < -128 := by
    intro hc
    have := Int32.lt_iff_toInt_lt.mp hc
    rw [nI_toInt (by omega)] at this
    have e : (-128 : Int32).toInt = -128 := rfl
    omega
  have e2 : ¬ (127 : Int32) < nI p := nI_nlt (a := 127) (by omega) (by omega)
  have e3 : nI p + 128 = nI (p + 128) := nI_add p 128
  have e4 : ¬ nI (p + 128) < 0 := nI_pos (by omega)
  have e5 : (nI (p + 128)).toNatClampNeg = p + 128 := nI_clamp (by omega)
  have e6 : ((List.range 256).map fun j => Value.ref (ev (1000 + j)))[p + 128]? = some (.ref (ev (1000 + (p + 128)))) := by
    rw [List.getElem?_map, List.getElem?_range (by omega)]
    rfl
  rw [M_J19_valueOf _ _ _ rfl]; simp only [at_J19_valueOf_0, ey_ld, sk_ld_s, ex_push, ex_ic, ex_gs, ex_ii, ey_ald, sk_ald_s, sk_v_s, ex_rv, sw_gl_0, sw_gl_s, sw_fx_n, sw_fx_i, sw_fx_r, sw_fx_0, sw_fx_l, sw_fx_d, sw_sl1_0, sw_sl1_1, sw_sl1_s, sw_no_0, sw_no_s, sw_no_e, sw_mk_t, sw_mk_f, sw_mk_e, sw_en_0, sw_en_n, sw_en_i, sw_en_r, sw_en_z, sw_en_l, sw_en_d, sw_ok_0, sw_ok_1, sw_ok_2, sw_ok_3, sw_ok_4, sw_bo_s, sw_oi_s, sw_cl_s, sw_cl_x, sw_psh_s, sw_psh_n, sw_kd_s, sw_op_s, sw_oc_s, sw_oc_e, sw_oa_s, sw_el_n, sw_el_r, sl_kds_1, sl_kds_67, sw_fit_i, sw_fit_r, sw_fit_n, sw_fit_l, sw_fit_d, sw_fit_b, sw_fit_0, sw_fit_1, sw_rel_0, sw_rel_1, sw_rel_2, sw_rel_3, sw_rel_4, sw_rel_5, sw_hp_set, sw_nx_set, sw_sl_set, sw_ev_set, sw_hp_new, sw_nx_new, sw_sl_new, sw_ev_new, List.getElem?_cons_zero, List.getElem?_cons_succ, List.set_cons_zero, List.set_cons_succ, List.length_cons, List.length_nil, Nat.reduceAdd, Nat.reduceSub, Nat.reduceLT, Nat.reduceLeDiff, Nat.zero_lt_succ, Nat.zero_add, beq_self_eq_true, Bool.true_and, and_true, true_and, and_self, not_true_eq_false, not_false_eq_true, ↓reduceIte, Nat.reduceBEq, eq_self, hev, hg, e1, e2, e3, e4, e5, e6]
theorem jc_J19_intValue {ev : Nat → Nat} {c s D p : Nat} {P : sw_P} {F : List sl_A} (hD : 1 ≤ D) (h : sl_st ev c s P F) (hp : p < 128) : sw_Z D m_J19_intValue [.ref (ev (1000 + (p + 128)))] P = some (.inl (some (.int (nI p))), P) := by
  obtain ⟨d, hDe, hDn⟩ := sw_dep hD; subst hDe; replace hD := hDn; clear hDn
  have hg := h.gl.2.2.2 (p + 128) (by omega)
  have e : vb_c (p + 128) = nI p := by
    unfold vb_c
    rw [show Int32.ofNat (p + 128) = nI p + 128 from (nI_add p 128).symm]
    exact Int32.add_sub_cancel _ _
  rw [M_J19_intValue _ _ _ rfl]; simp only [at_J19_intValue_0, ey_ld, sk_ld_s, ey_gf, sk_gf_s, sk_v_s, ex_rv, sw_gl_0, sw_gl_s, sw_fx_n, sw_fx_i, sw_fx_r, sw_fx_0, sw_fx_l, sw_fx_d, sw_sl1_0, sw_sl1_1, sw_sl1_s, sw_no_0, sw_no_s, sw_no_e, sw_mk_t, sw_mk_f, sw_mk_e, sw_en_0, sw_en_n, sw_en_i, sw_en_r, sw_en_z, sw_en_l, sw_en_d, sw_ok_0, sw_ok_1, sw_ok_2, sw_ok_3, sw_ok_4, sw_bo_s, sw_oi_s, sw_cl_s, sw_cl_x, sw_psh_s, sw_psh_n, sw_kd_s, sw_op_s, sw_oc_s, sw_oc_e, sw_oa_s, sw_el_n, sw_el_r, sl_kds_1, sl_kds_67, sw_fit_i, sw_fit_r, sw_fit_n, sw_fit_l, sw_fit_d, sw_fit_b, sw_fit_0, sw_fit_1, sw_rel_0, sw_rel_1, sw_rel_2, sw_rel_3, sw_rel_4, sw_rel_5, sw_hp_set, sw_nx_set, sw_sl_set, sw_ev_set, sw_hp_new, sw_nx_new, sw_sl_new, sw_ev_new, List.getElem?_cons_zero, List.getElem?_cons_succ, List.set_cons_zero, List.set_cons_succ, List.length_cons, List.length_nil, Nat.reduceAdd, Nat.reduceSub, Nat.reduceLT, Nat.reduceLeDiff, Nat.zero_lt_succ, Nat.zero_add, beq_self_eq_true, Bool.true_and, and_true, true_and, and_self, not_true_eq_false, not_false_eq_true, ↓reduceIte, Nat.reduceBEq, eq_self, hg, e]
