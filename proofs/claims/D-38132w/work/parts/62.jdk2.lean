/-! ===== the JDK's lists: growth ===== -/
theorem jc_J2_grow_2 {D a arr k : Nat} {P : sw_P} {x y : Value} {ws : List Value} (hD : 4 ≤ D) (h : sw_hp P a = some (24, [x, .ref arr, y])) (hr : sw_hp P arr = some (67, ws)) (h0 : 0 < ws.length) (hk : ws.length < k) (hkb : k < 100000) (hv : ∀ v ∈ ws, sw_el P sw_k67 v = true) (hn : ∀ q, sw_nx P ≤ q → sw_hp P q = none) : sw_Z D m_J2_grow_2 [.ref a, .int (nI k)] P = some (.inl (some (.ref (sw_nx P))), sw_set (sw_new P (67, ws ++ List.replicate (max (k - ws.length) (ws.length / 2)) .null)) a (24, [x, .ref (sw_nx P), y])) := by
  obtain ⟨d, hDe, hDn⟩ := sw_dep hD; subst hDe; replace hD := hDn; clear hDn
  have hne : a ≠ sw_nx P := by
    intro e
    rw [hn a (by omega)] at h
    cases h
  have e1 : (0 : Int32) < Int32.ofNat ws.length := nI_lt (a := 0) h0 (by omega)
  have e2 : Int32.ofNat k - Int32.ofNat ws.length = Int32.ofNat (k - ws.length) := pk_sub (by omega)
  have e3 : (Int32.ofNat ws.length >>> ((1 : Int32) &&& 31)) = nI (ws.length / 2) := pk_shrN (by omega) _ 1 (by decide)
  have e4 := jc_J3_newLength (D := d) (P := P) (a := ws.length) (b := k - ws.length) (q := ws.length / 2) (by omega) (by omega) (by omega)
  have e5 := jc_J5_copyOf (D := d) (P := P) (k := ws.length + max (k - ws.length) (ws.length / 2)) (by omega) hr (Or.inl rfl) (by omega) (by omega) hv hn
  rw [List.take_of_length_le (by omega), Nat.add_sub_cancel_left] at e5
  simp only [nI] at e3 e4 e5
  rw [M_J2_grow_2 _ _ _ rfl]; simp only [at_J2_grow_2_0, at_J2_grow_2_1, ey_ld, sk_ld_s, ey_gf, sk_gf_s, sk_v_s, ey_al, sk_al_s, ex_sti, ex_iz, ex_gs, ex_iac_t, ex_iac_f, ex_goto, ex_ii, ex_push, ey_cs3, sk_c_s, ey_cs2, ex_dx1_ir, ex_dx1_rr, ey_pf, sk_pf_s, sw_set_set, ex_rv, ex_mm, ex_na, sw_gl_0, sw_gl_s, sw_fx_n, sw_fx_i, sw_fx_r, sw_fx_0, sw_fx_l, sw_fx_d, sw_sl1_0, sw_sl1_1, sw_sl1_s, sw_no_0, sw_no_s, sw_no_e, sw_mk_t, sw_mk_f, sw_mk_e, sw_en_0, sw_en_n, sw_en_i, sw_en_r, sw_en_z, sw_en_l, sw_en_d, sw_ok_0, sw_ok_1, sw_ok_2, sw_ok_3, sw_ok_4, sw_bo_s, sw_oi_s, sw_cl_s, sw_cl_x, sw_psh_s, sw_psh_n, sw_kd_s, sw_op_s, sw_oc_s, sw_oc_e, sw_oa_s, sw_el_n, sw_el_r, sl_kds_1, sl_kds_67, sw_fit_i, sw_fit_r, sw_fit_n, sw_fit_l, sw_fit_d, sw_fit_b, sw_fit_0, sw_fit_1, sw_rel_0, sw_rel_1, sw_rel_2, sw_rel_3, sw_rel_4, sw_rel_5, sw_hp_set, sw_nx_set, sw_sl_set, sw_ev_set, sw_hp_new, sw_nx_new, sw_sl_new, sw_ev_new, List.getElem?_cons_zero, List.getElem?_cons_succ, List.set_cons_zero, List.set_cons_succ, List.length_cons, List.length_nil, Nat.reduceAdd, Nat.reduceSub, Nat.reduceLT, Nat.reduceLeDiff, Nat.zero_lt_succ, Nat.zero_add, beq_self_eq_true, Bool.true_and, and_true, true_and, and_self, not_true_eq_false, not_false_eq_true, ↓reduceIte, Nat.reduceBEq, eq_self, h, hr, e1, e2, e3, e4, e5, hne, nI]
theorem jc_J2_grow_2d {D a k : Nat} {P : sw_P} {x y : Value} (hD : 1 ≤ D) (h : sw_hp P a = some (24, [x, .ref (sw_ev P 10), y])) (hr : sw_hp P (sw_ev P 10) = some (70, [])) (hkb : k < 100000) (hn : ∀ q, sw_nx P ≤ q → sw_hp P q = none) : sw_Z D m_J2_grow_2 [.ref a, .int (nI k)] P = some (.inl (some (.ref (sw_nx P))), sw_set (sw_new P (67, List.replicate (max 10 k) .null)) a (24, [x, .ref (sw_nx P), y])) := by
  obtain ⟨d, hDe, hDn⟩ := sw_dep hD; subst hDe; replace hD := hDn; clear hDn
  have hne : a ≠ sw_nx P := by
    intro e
    rw [hn a (by omega)] at h
    cases h
  have e1 : ¬ (0 : Int32) < Int32.ofNat 0 := by decide
  have e2 : sw_max 10 (nI k) = nI (max 10 k) := sl_max_nI (a := 10) (by omega) (by omega)
  have e3 : (0 : Int32) ≤ nI (max 10 k) := nI_pos' (by omega)
  have e4 : (nI (max 10 k)).toNatClampNeg = max 10 k := nI_clamp (by omega)
  have e5 : max 10 k ≤ 1048576 := by omega
  have e6 : sw_dv 67 = .null := rfl
  rw [M_J2_grow_2 _ _ _ rfl]; simp only [at_J2_grow_2_0, at_J2_grow_2_2, ey_ld, sk_ld_s, ey_gf, sk_gf_s, sk_v_s, ey_al, sk_al_s, ex_sti, ex_iz, ex_gs, ex_iac_t, ex_iac_f, ex_goto, ex_ii, ex_push, ey_cs3, sk_c_s, ey_cs2, ex_dx1_ir, ex_dx1_rr, ey_pf, sk_pf_s, sw_set_set, ex_rv, ex_mm, ex_na, sw_gl_0, sw_gl_s, sw_fx_n, sw_fx_i, sw_fx_r, sw_fx_0, sw_fx_l, sw_fx_d, sw_sl1_0, sw_sl1_1, sw_sl1_s, sw_no_0, sw_no_s, sw_no_e, sw_mk_t, sw_mk_f, sw_mk_e, sw_en_0, sw_en_n, sw_en_i, sw_en_r, sw_en_z, sw_en_l, sw_en_d, sw_ok_0, sw_ok_1, sw_ok_2, sw_ok_3, sw_ok_4, sw_bo_s, sw_oi_s, sw_cl_s, sw_cl_x, sw_psh_s, sw_psh_n, sw_kd_s, sw_op_s, sw_oc_s, sw_oc_e, sw_oa_s, sw_el_n, sw_el_r, sl_kds_1, sl_kds_67, sw_fit_i, sw_fit_r, sw_fit_n, sw_fit_l, sw_fit_d, sw_fit_b, sw_fit_0, sw_fit_1, sw_rel_0, sw_rel_1, sw_rel_2, sw_rel_3, sw_rel_4, sw_rel_5, sw_hp_set, sw_nx_set, sw_sl_set, sw_ev_set, sw_hp_new, sw_nx_new, sw_sl_new, sw_ev_new, List.getElem?_cons_zero, List.getElem?_cons_succ, List.set_cons_zero, List.set_cons_succ, List.length_cons, List.length_nil, Nat.reduceAdd, Nat.reduceSub, Nat.reduceLT, Nat.reduceLeDiff, Nat.zero_lt_succ, Nat.zero_add, beq_self_eq_true, Bool.true_and, and_true, true_and, and_self, not_true_eq_false, not_false_eq_true, ↓reduceIte, Nat.reduceBEq, eq_self, h, hr, e1, e2, e3, e4, e5, e6, hne]
theorem sl_setn (vs : List Value) (b : Nat) (k : Nat) : (vs ++ List.replicate (k + 1) Value.null).set vs.length (.ref b) = vs ++ [.ref b] ++ List.replicate k .null := by
  rw [List.set_append_right _ _ (Nat.le_refl _), Nat.sub_self, List.append_assoc]
  rfl
theorem jc_J2_addT {ev : Nat → Nat} {c s d a b arr k : Nat} {P : sw_P} {x : Value} {vs : List Value} {F : List sl_A} (h : sl_st ev c s P (sl_pt a (24, [x, .ref arr, .int (nI vs.length)]) :: sl_pt arr (67, vs ++ List.replicate (k + 1) .null) :: F)) (hl : vs.length < 100000) (hb : sw_kds (sw_hp P b) sw_k67 = true) :
    ∃ P', sw_at (sw_Z d) b_J2_add_2 1 [some (.ref a), some (.ref b), some (.ref arr), some (.int (nI vs.length))] [] P = some (.inl none, P') ∧ sl_st ev c s P' (sl_pt a (24, [x, .ref arr, .int (nI (vs.length + 1))]) :: sl_pt arr (67, vs ++ [.ref b] ++ List.replicate k .null) :: F) := by
  have h0 := h.get 0 rfl
  have h1 := h.get 1 rfl
  have hne : a ≠ arr := by
    intro e
    subst e
    rw [h0] at h1
    cases h1
  have e1 : ¬ nI vs.length < 0 := nI_pos (by omega)
  have e2 : (nI vs.length).toNatClampNeg = vs.length := nI_clamp (by omega)
  have e3 : vs.length < (vs ++ List.replicate (k + 1) Value.null).length := by simp
  have g := (h.set 1 (67, vs ++ [.ref b] ++ List.replicate k .null) rfl).set 0 (24, [x, .ref arr, .int (nI (vs.length + 1))]) rfl
  refine ⟨_, ?_, g⟩
  simp only [at_J2_add_2_1, ey_ld, sk_ld_s, ey_al, sk_al_s, ex_ic, ey_cv0, sk_c_s, ex_sta, ex_sta_n, ex_goto, ey_asr, sk_asr_s, ex_push, ex_ii, ey_pf, sk_pf_s, sw_set_set, ex_ret, sw_gl_0, sw_gl_s, sw_fx_n, sw_fx_i, sw_fx_r, sw_fx_0, sw_fx_l, sw_fx_d, sw_sl1_0, sw_sl1_1, sw_sl1_s, sw_no_0, sw_no_s, sw_no_e, sw_mk_t, sw_mk_f, sw_mk_e, sw_en_0, sw_en_n, sw_en_i, sw_en_r, sw_en_z, sw_en_l, sw_en_d, sw_ok_0, sw_ok_1, sw_ok_2, sw_ok_3, sw_ok_4, sw_bo_s, sw_oi_s, sw_cl_s, sw_cl_x, sw_psh_s, sw_psh_n, sw_kd_s, sw_op_s, sw_oc_s, sw_oc_e, sw_oa_s, sw_el_n, sw_el_r, sl_kds_1, sl_kds_67, sw_fit_i, sw_fit_r, sw_fit_n, sw_fit_l, sw_fit_d, sw_fit_b, sw_fit_0, sw_fit_1, sw_rel_0, sw_rel_1, sw_rel_2, sw_rel_3, sw_rel_4, sw_rel_5, sw_hp_set, sw_nx_set, sw_sl_set, sw_ev_set, sw_hp_new, sw_nx_new, sw_sl_new, sw_ev_new, List.getElem?_cons_zero, List.getElem?_cons_succ, List.set_cons_zero, List.set_cons_succ, List.length_cons, List.length_nil, Nat.reduceAdd, Nat.reduceSub, Nat.reduceLT, Nat.reduceLeDiff, Nat.zero_lt_succ, Nat.zero_add, beq_self_eq_true, Bool.true_and, and_true, true_and, and_self, not_true_eq_false, not_false_eq_true, ↓reduceIte, Nat.reduceBEq, eq_self, h0, h1, e1, e2, e3, hb, sl_setn, hne, nI_1]
/-- the new capacity -/
def sl_gc (old k : Nat) : Nat := if old = 0 then max 10 k else old + max (k - old) (old / 2)
theorem jc_J2_growS {ev : Nat → Nat} {c s D a arr pad k : Nat} {P : sw_P} {x y : Value} {vs : List Value} {F : List sl_A} (hD : 4 ≤ D) (h : sl_st ev c s P (sl_pt a (24, [x, .ref arr, y]) :: sl_bk ev arr vs pad :: F)) (hk : vs.length + pad < k) (hkb : k < 100000) (hv : ∀ v ∈ vs, sw_el P sw_k67 v = true) :
    ∃ P' arr', sw_Z D m_J2_grow_2 [.ref a, .int (nI k)] P = some (.inl (some (.ref arr')), P') ∧ (∀ q, q ≠ a → ∀ o, sw_hp P q = some o → sw_hp P' q = some o) ∧ sl_st ev (c + 1) (s + sl_gc (vs.length + pad) k) P' (sl_pt a (24, [x, .ref arr', y]) :: sl_pt arr' (67, vs ++ List.replicate (sl_gc (vs.length + pad) k - vs.length) .null) :: F) := by
  have hn := h.2.2.2.1
  have h0 := h.get 0 rfl
  have keep : ∀ o1 o2 q, q ≠ a → ∀ o, sw_hp P q = some o → sw_hp (sw_set (sw_new P o1) a o2) q = some o := by
    intro o1 o2 q hq o ho
    show (if q = a then _ else if q = sw_nx P then _ else sw_hp P q) = _
    rw [if_neg hq, if_neg]
    · exact ho
    · intro e
      rw [hn q (by omega)] at ho
      cases ho
  rcases (h.pk [1]).bk with ⟨⟨e1, e2, e3⟩, h⟩ | ⟨hp, h⟩
  · subst e1 e2 e3
    have hev := h.ev
    have hg := h.gl.1
    have e3 := jc_J2_grow_2d (D := D) (P := P) (a := a) (k := k) (x := x) (y := y) (by omega) (by rw [hev]; exact h0) (by rw [hev]; exact hg) (by omega) hn
    refine ⟨_, _, e3, keep _ _, ?_⟩
    have h1 := (h.new (67, List.replicate (max 10 k) .null)).set 1 (24, [x, .ref (sw_nx P), y]) rfl
    have e4 : sl_gc (([] : List Value).length + 0) k = max 10 k := rfl
    rw [e4]
    refine (h1.pk [1]).wk (Nat.le_refl _) ?_
    simp
  · have h1 := h.get 0 rfl
    have hws : (vs ++ List.replicate pad Value.null).length = vs.length + pad := by simp
    have e3 := jc_J2_grow_2 (D := D) (P := P) (a := a) (k := k) (x := x) (y := y) hD h0 h1 (by omega) (by omega) (by omega) (fun v hm => by
      rcases List.mem_append.mp hm with q | q
      · exact hv v q
      · rw [(List.mem_replicate.mp q).2]; rfl) hn
    have h2 := (h.new (67, vs ++ List.replicate pad .null ++ List.replicate (max (k - (vs ++ List.replicate pad Value.null).length) ((vs ++ List.replicate pad Value.null).length / 2)) .null)).set 2 (24, [x, .ref (sw_nx P), y]) rfl
    rw [hws] at h2 e3
    have e4 : sl_gc (vs.length + pad) k = (vs.length + pad) + max (k - (vs.length + pad)) ((vs.length + pad) / 2) := if_neg hp
    have e5 : vs ++ List.replicate pad Value.null ++ List.replicate (max (k - (vs.length + pad)) ((vs.length + pad) / 2)) .null = vs ++ List.replicate (sl_gc (vs.length + pad) k - vs.length) .null := by
      rw [List.append_assoc, List.replicate_append_replicate, e4]
      congr 2
      omega
    rw [e5] at h2 e3
    refine ⟨_, _, e3, keep _ _, ?_⟩
    refine (((h2.pk [1]).drop).pk [1]).wk (Nat.le_refl _) ?_
    simp; omega
theorem jc_J2_add_2 {ev : Nat → Nat} {c s D a b : Nat} {P : sw_P} {x : Int32} {vs : List Value} {arr pad : Nat} {F : List sl_A} (hD : 7 ≤ D) (h : sl_st ev c s P (sl_pt a (24, [.int x, .ref arr, .int (nI vs.length)]) :: sl_bk ev arr vs pad :: F)) (hq : vs.length + pad ∈ sl_caps) (hl : vs.length < 1000) (hk : ∀ v ∈ vs, sw_el P sw_k67 v = true) (hb : sw_kds (sw_hp P b) sw_k67 = true) :
    ∃ P', sw_Z D m_J2_add_2 [.ref a, .ref b, .ref arr, .int (nI vs.length)] P = some (.inl none, P') ∧ sl_st ev (c + sl_gA vs.length) (s + sl_gS vs.length) P' (sl_ls ev a (vs ++ [.ref b]) :: F) := by
  obtain ⟨d, hDe, hDn⟩ := sw_dep hD; subst hDe; replace hD := hDn; clear hDn
  have h0 := h.get 0 rfl
  have hlen : (vs ++ [Value.ref b]).length = vs.length + 1 := by simp
  have fin : ∀ {c' s' P' arr' k}, vs.length + 1 + k ∈ sl_caps → sl_st ev c' s' P' (sl_pt a (24, [.int x, .ref arr', .int (nI (vs.length + 1))]) :: sl_pt arr' (67, vs ++ [.ref b] ++ List.replicate k .null) :: F) → sl_st ev c' s' P' (sl_ls ev a (vs ++ [.ref b]) :: F) := by
    intro c' s' P' arr' k hq h
    refine sl_st.oflx (Q := fun c => c ∈ sl_caps) (mc := x) (arr := arr') (pad := k) (by rw [hlen]; exact hq) ?_
    rw [hlen]
    exact ((h.pk [1]).ofbk (by omega)).pk [1]
  have hal : sw_oa (sw_hp P arr) (fun ws => some ws.length) = some (vs.length + pad) := by
    rcases (h.pk [1]).bk with ⟨⟨e1, e2, e3⟩, h⟩ | ⟨hp, h⟩
    · subst e1 e2 e3
      rw [h.gl.1]; rfl
    · rw [h.get 0 rfl]
      show some _ = some _
      simp
  obtain ⟨t, ws, ho, ht, hws⟩ : ∃ t ws, sw_hp P arr = some (t, ws) ∧ 64 ≤ t ∧ ws.length = vs.length + pad := by
    cases ho : sw_hp P arr with
    | none => rw [ho] at hal; cases hal
    | some o =>
      obtain ⟨t, ws⟩ := o
      rw [ho, sw_oa_s] at hal
      by_cases ht : 64 ≤ t
      · rw [if_pos ht] at hal
        exact ⟨t, ws, rfl, ht, Option.some.inj hal⟩
      · rw [if_neg ht] at hal; cases hal
  by_cases hp : pad = 0
  · subst hp
    have hgA : sl_gA vs.length = 1 := if_pos hq
    have hgS : sl_gS vs.length = sl_nc vs.length := if_pos hq
    have hcap := sl_caps_next _ hq hl
    obtain ⟨d, hDe, hDn⟩ := sw_dep hD; subst hDe; replace hD := hDn; clear hDn
    obtain ⟨P1, arr', e1, hkeep, h1⟩ := jc_J2_growS (D := d) (k := vs.length + 1) (by omega) h (by omega) (by omega) hk
    have e2 : sw_Z (d + 1) m_J2_grow [.ref a] P = some (.inl (some (.ref arr')), P1) := by
      rw [M_J2_grow _ _ _ rfl]; simp only [at_J2_grow_0, ey_ld, sk_ld_s, ey_gf, sk_gf_s, sk_v_s, ex_push, ex_ii, ey_cv1, sk_c_s, ex_rv, sw_gl_0, sw_gl_s, sw_fx_n, sw_fx_i, sw_fx_r, sw_fx_0, sw_fx_l, sw_fx_d, sw_sl1_0, sw_sl1_1, sw_sl1_s, sw_no_0, sw_no_s, sw_no_e, sw_mk_t, sw_mk_f, sw_mk_e, sw_en_0, sw_en_n, sw_en_i, sw_en_r, sw_en_z, sw_en_l, sw_en_d, sw_ok_0, sw_ok_1, sw_ok_2, sw_ok_3, sw_ok_4, sw_bo_s, sw_oi_s, sw_cl_s, sw_cl_x, sw_psh_s, sw_psh_n, sw_kd_s, sw_op_s, sw_oc_s, sw_oc_e, sw_oa_s, sw_el_n, sw_el_r, sl_kds_1, sl_kds_67, sw_fit_i, sw_fit_r, sw_fit_n, sw_fit_l, sw_fit_d, sw_fit_b, sw_fit_0, sw_fit_1, sw_rel_0, sw_rel_1, sw_rel_2, sw_rel_3, sw_rel_4, sw_rel_5, sw_hp_set, sw_nx_set, sw_sl_set, sw_ev_set, sw_hp_new, sw_nx_new, sw_sl_new, sw_ev_new, List.getElem?_cons_zero, List.getElem?_cons_succ, List.set_cons_zero, List.set_cons_succ, List.length_cons, List.length_nil, Nat.reduceAdd, Nat.reduceSub, Nat.reduceLT, Nat.reduceLeDiff, Nat.zero_lt_succ, Nat.zero_add, beq_self_eq_true, Bool.true_and, and_true, true_and, and_self, not_true_eq_false, not_false_eq_true, ↓reduceIte, Nat.reduceBEq, eq_self, h0, nI_1, e1]
    have hc10 : vs.length = 0 ∨ 10 ≤ vs.length := by
      simp only [sl_caps, List.mem_cons, List.not_mem_nil, or_false] at hq
      omega
    have hgc : sl_gc (vs.length + 0) (vs.length + 1) = sl_nc vs.length := by
      unfold sl_gc sl_nc
      split <;> split <;> omega
    have hnc : vs.length + 1 ≤ sl_nc vs.length := by unfold sl_nc; split <;> omega
    rw [hgc] at h1
    obtain ⟨k, hk2⟩ : ∃ k, sl_nc vs.length = vs.length + 1 + k := ⟨sl_nc vs.length - (vs.length + 1), by omega⟩
    rw [show sl_nc vs.length - vs.length = k + 1 by omega] at h1
    obtain ⟨P', r1, r2⟩ := jc_J2_addT (d := d + 1) (b := b) h1 (by omega) (by
      by_cases hba : b = a
      · subst hba
        rw [h1.get 0 rfl]; rfl
      · revert hb
        cases hob : sw_hp P b with
        | none => intro hb; cases hb
        | some o => intro hb; rw [hkeep b hba o hob]; exact hb)
    refine ⟨P', ?_, ?_⟩
    · rw [← r1]
      rw [M_J2_add_2 _ _ _ rfl]; simp only [at_J2_add_2_0, ey_ld, sk_ld_s, ey_al, sk_al_s, ex_ic, ey_cv0, sk_c_s, ex_sta, ex_sta_n, ex_goto, ey_asr, sk_asr_s, ex_push, ex_ii, ey_pf, sk_pf_s, sw_set_set, ex_ret, sw_gl_0, sw_gl_s, sw_fx_n, sw_fx_i, sw_fx_r, sw_fx_0, sw_fx_l, sw_fx_d, sw_sl1_0, sw_sl1_1, sw_sl1_s, sw_no_0, sw_no_s, sw_no_e, sw_mk_t, sw_mk_f, sw_mk_e, sw_en_0, sw_en_n, sw_en_i, sw_en_r, sw_en_z, sw_en_l, sw_en_d, sw_ok_0, sw_ok_1, sw_ok_2, sw_ok_3, sw_ok_4, sw_bo_s, sw_oi_s, sw_cl_s, sw_cl_x, sw_psh_s, sw_psh_n, sw_kd_s, sw_op_s, sw_oc_s, sw_oc_e, sw_oa_s, sw_el_n, sw_el_r, sl_kds_1, sl_kds_67, sw_fit_i, sw_fit_r, sw_fit_n, sw_fit_l, sw_fit_d, sw_fit_b, sw_fit_0, sw_fit_1, sw_rel_0, sw_rel_1, sw_rel_2, sw_rel_3, sw_rel_4, sw_rel_5, sw_hp_set, sw_nx_set, sw_sl_set, sw_ev_set, sw_hp_new, sw_nx_new, sw_sl_new, sw_ev_new, List.getElem?_cons_zero, List.getElem?_cons_succ, List.set_cons_zero, List.set_cons_succ, List.length_cons, List.length_nil, Nat.reduceAdd, Nat.reduceSub, Nat.reduceLT, Nat.reduceLeDiff, Nat.zero_lt_succ, Nat.zero_add, beq_self_eq_true, Bool.true_and, and_true, true_and, and_self, not_true_eq_false, not_false_eq_true, ↓reduceIte, Nat.reduceBEq, eq_self, ho, ht, hws, e2, nI, Nat.add_zero, h0]
    · rw [hgA, hgS]
      exact fin (k := k) (hk2 ▸ hcap) r2
  · rcases (h.pk [1]).bk with ⟨⟨-, -, e3⟩, -⟩ | ⟨-, h1⟩
    · exact absurd e3 hp
    · obtain ⟨k, rfl⟩ : ∃ k, pad = k + 1 := ⟨pad - 1, by omega⟩
      obtain ⟨P', r1, r2⟩ := jc_J2_addT (d := d) (b := b) (h1.pk [1]) (by omega) hb
      have e1 : ¬ Int32.ofNat vs.length = Int32.ofNat (vs.length + (k + 1)) := fun e => by
        have hc := sl_caps_le _ hq
        have := (nI_eq (by omega) (by omega)).mp e
        omega
      refine ⟨P', ?_, fin (k := k) (by rw [show vs.length + 1 + k = vs.length + (k + 1) by omega]; exact hq) (r2.wk (Nat.le_add_right _ _) (Nat.le_add_right _ _))⟩
      rw [← r1]
      rw [M_J2_add_2 _ _ _ rfl]; simp only [at_J2_add_2_0, ey_ld, sk_ld_s, ey_al, sk_al_s, ex_ic, ey_cv0, sk_c_s, ex_sta, ex_sta_n, ex_goto, ey_asr, sk_asr_s, ex_push, ex_ii, ey_pf, sk_pf_s, sw_set_set, ex_ret, sw_gl_0, sw_gl_s, sw_fx_n, sw_fx_i, sw_fx_r, sw_fx_0, sw_fx_l, sw_fx_d, sw_sl1_0, sw_sl1_1, sw_sl1_s, sw_no_0, sw_no_s, sw_no_e, sw_mk_t, sw_mk_f, sw_mk_e, sw_en_0, sw_en_n, sw_en_i, sw_en_r, sw_en_z, sw_en_l, sw_en_d, sw_ok_0, sw_ok_1, sw_ok_2, sw_ok_3, sw_ok_4, sw_bo_s, sw_oi_s, sw_cl_s, sw_cl_x, sw_psh_s, sw_psh_n, sw_kd_s, sw_op_s, sw_oc_s, sw_oc_e, sw_oa_s, sw_el_n, sw_el_r, sl_kds_1, sl_kds_67, sw_fit_i, sw_fit_r, sw_fit_n, sw_fit_l, sw_fit_d, sw_fit_b, sw_fit_0, sw_fit_1, sw_rel_0, sw_rel_1, sw_rel_2, sw_rel_3, sw_rel_4, sw_rel_5, sw_hp_set, sw_nx_set, sw_sl_set, sw_ev_set, sw_hp_new, sw_nx_new, sw_sl_new, sw_ev_new, List.getElem?_cons_zero, List.getElem?_cons_succ, List.set_cons_zero, List.set_cons_succ, List.length_cons, List.length_nil, Nat.reduceAdd, Nat.reduceSub, Nat.reduceLT, Nat.reduceLeDiff, Nat.zero_lt_succ, Nat.zero_add, beq_self_eq_true, Bool.true_and, and_true, true_and, and_self, not_true_eq_false, not_false_eq_true, ↓reduceIte, Nat.reduceBEq, eq_self, ho, ht, hws, nI, e1, h0]
theorem jc_J2_add {ev : Nat → Nat} {c s D a b : Nat} {P : sw_P} {vs : List Value} {F : List sl_A} (hD : 8 ≤ D) (h : sl_st ev c s P (sl_ls ev a vs :: F)) (hl : vs.length < 1000) (hk : ∀ v ∈ vs, sw_el P sw_k67 v = true) (hb : sw_kds (sw_hp P b) sw_k67 = true) :
    ∃ P', sw_Z D m_J2_add [.ref a, .ref b] P = some (.inl (some (.int 1)), P') ∧ sl_st ev (c + sl_gA vs.length) (s + sl_gS vs.length) P' (sl_ls ev a (vs ++ [.ref b]) :: F) := by
  obtain ⟨d, hDe, hDn⟩ := sw_dep hD; subst hDe; replace hD := hDn; clear hDn
  obtain ⟨mc, arr, pad, hq, h⟩ := h.lx
  have h0 := h.get 0 rfl
  have h1 := h.set 0 (24, [.int (mc + 1), .ref arr, .int (nI vs.length)]) rfl
  have hkd : ∀ {q cs}, sw_kds (sw_hp P q) cs = true → sw_kds (sw_hp (sw_set P a (24, [.int (mc + 1), .ref arr, .int (nI vs.length)])) q) cs = true := by
    intro q cs hq
    show sw_kds (if q = a then _ else sw_hp P q) cs = true
    by_cases e : q = a
    · subst e; rw [h0] at hq; rw [if_pos rfl]; exact hq
    · rw [if_neg e]; exact hq
  obtain ⟨P', r1, r2⟩ := jc_J2_add_2 (D := d) (b := b) hD h1 hq hl (fun v hv => by
    have := hk v hv
    cases v <;> first | exact this | exact hkd this) (hkd hb)
  refine ⟨P', ?_, r2⟩
  rw [M_J2_add _ _ _ rfl]; simp only [at_J2_add_0, ey_ld, sk_ld_s, ex_dup_i, ex_dup_r, ex_dup_n, ey_gf, sk_gf_s, sk_v_s, ex_push, ex_ii, ey_pf, sk_pf_s, sw_set_set, ey_cv3, sk_c_s, ex_rv, sw_gl_0, sw_gl_s, sw_fx_n, sw_fx_i, sw_fx_r, sw_fx_0, sw_fx_l, sw_fx_d, sw_sl1_0, sw_sl1_1, sw_sl1_s, sw_no_0, sw_no_s, sw_no_e, sw_mk_t, sw_mk_f, sw_mk_e, sw_en_0, sw_en_n, sw_en_i, sw_en_r, sw_en_z, sw_en_l, sw_en_d, sw_ok_0, sw_ok_1, sw_ok_2, sw_ok_3, sw_ok_4, sw_bo_s, sw_oi_s, sw_cl_s, sw_cl_x, sw_psh_s, sw_psh_n, sw_kd_s, sw_op_s, sw_oc_s, sw_oc_e, sw_oa_s, sw_el_n, sw_el_r, sl_kds_1, sl_kds_67, sw_fit_i, sw_fit_r, sw_fit_n, sw_fit_l, sw_fit_d, sw_fit_b, sw_fit_0, sw_fit_1, sw_rel_0, sw_rel_1, sw_rel_2, sw_rel_3, sw_rel_4, sw_rel_5, sw_hp_set, sw_nx_set, sw_sl_set, sw_ev_set, sw_hp_new, sw_nx_new, sw_sl_new, sw_ev_new, List.getElem?_cons_zero, List.getElem?_cons_succ, List.set_cons_zero, List.set_cons_succ, List.length_cons, List.length_nil, Nat.reduceAdd, Nat.reduceSub, Nat.reduceLT, Nat.reduceLeDiff, Nat.zero_lt_succ, Nat.zero_add, beq_self_eq_true, Bool.true_and, and_true, true_and, and_self, not_true_eq_false, not_false_eq_true, ↓reduceIte, Nat.reduceBEq, eq_self, h0, r1]
