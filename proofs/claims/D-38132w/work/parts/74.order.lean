/-! ===== the component's order ===== -/
abbrev sp_oz : sp_Op := (0, 0, [], 0, 0, 0)
def sp_oh (o : sp_Op) (h : Int32) : sp_Op := (o.1, o.2.1, o.2.2.1, o.2.2.2.1, o.2.2.2.2.1, h)
/-- whether k needs o, of one block -/
def sp_nd2 (os : List sp_Op) (k o : Nat) : Bool := decide ((os.getD o sp_oz).2.2.2.2.1 = (os.getD k sp_oz).2.2.2.2.1) && sp_needs (os.getD k sp_oz) (os.getD o sp_oz)
def sp_row (nd : Nat → Nat → Bool) (k : Nat) : List Bool := (List.range k).map (nd k)
def sp_wt (nd : Nat → Nat → Bool) (k : Nat) : Nat → Int32 := sw_it (fun o w => w + (if nd k o = true then 1 else 0)) 0
def sp_bv (bs : List Bool) : List Value := bs.map fun c => .int (sw_b c)
def sl_rowA (x : Nat × List Bool) : sl_A := sl_pt x.1 (65, sp_bv x.2)
def sp_mx (nd : Nat → Nat → Bool) (os : List sp_Op) (k : Nat) : Nat → Int32 := sw_it (fun j w => if nd (k + 1 + j) k = true then sw_max w (os.getD (k + 1 + j) sp_oz).2.2.2.2.2 else w) 0
def sp_htF (nd : Nat → Nat → Bool) (L : List Int32) (k : Nat) (os : List sp_Op) : List sp_Op := os.set k (sp_oh (os.getD k sp_oz) (if (os.getD k sp_oz).2.2.2.2.1 = -1 then 0 else sp_lat L (os.getD k sp_oz).1 + sp_mx nd os k (os.length - (k + 1))))
/-- heights, from behind -/
def sp_hts (nd : Nat → Nat → Bool) (L : List Int32) : Nat → List sp_Op → List sp_Op
  | 0, os => os
  | k + 1, os => sp_hts nd L k (sp_htF nd L k os)
def sp_oi : Option Nat → Int32
  | none => -1
  | some i => nI i
def sp_nxF (os : List sp_Op) (ws : List Int32) (b : Int32) (k : Nat) (best : Option Nat) : Option Nat := if ws.getD k 0 = 0 ∧ (os.getD k sp_oz).2.2.2.2.1 = b ∧ (best = none ∨ (os.getD (best.getD 0) sp_oz).2.2.2.2.2 < (os.getD k sp_oz).2.2.2.2.2) then some k else best
def sp_nxt (os : List sp_Op) (ws : List Int32) (b : Int32) : Nat → Option Nat := sw_it (sp_nxF os ws b) none
def sp_plF (nd : Nat → Nat → Bool) (k : Nat) (j : Nat) (ws : List Int32) : List Int32 := ws.set (k + 1 + j) (ws.getD (k + 1 + j) 0 - (if nd (k + 1 + j) k = true then 1 else 0))
def sp_pl (nd : Nat → Nat → Bool) (n k : Nat) (ws : List Int32) : List Int32 := sw_it (sp_plF nd k) (ws.set k (-1)) (n - (k + 1))
def sp_place (nd : Nat → Nat → Bool) (n : Nat) (st : List Nat × List Int32) (k : Nat) : List Nat × List Int32 := (st.1 ++ [k], sp_pl nd n k st.2)
/-- those of the entry, ahead -/
def sp_pre (nd : Nat → Nat → Bool) (os : List sp_Op) : Nat → Nat → List Nat × List Int32 → List Nat × List Int32
  | 0, _, st => st
  | f + 1, k, st => if k < os.length ∧ (os.getD k sp_oz).2.2.2.2.1 = -1 then sp_pre nd os f (k + 1) (sp_place nd os.length st k) else st
def sp_lp (nd : Nat → Nat → Bool) (os : List sp_Op) (b : Int32) : Nat → List Nat × List Int32 → Option (List Nat × List Int32)
  | 0, _ => none
  | f + 1, st => match sp_nxt os st.2 b os.length with
    | none => some st
    | some k => sp_lp nd os b f (sp_place nd os.length st k)
def sp_lps (nd : Nat → Nat → Bool) (os : List sp_Op) (f : Nat) : Nat → List Nat × List Int32 → Option (List Nat × List Int32) := fun k st => sw_it (fun b st => st.bind (sp_lp nd os (nI b) f)) (some st) k
section
variable {ev : Nat → Nat} {od fr md na wt mach l a ra : Nat} {m : sp_Mach} {L ws : List Int32} {M : List (Nat × sp_Op)} {F R : List sl_A} {c s d D : Nat} {P : sw_P} {nd : Nat → Nat → Bool}
def sp_odC (fr mach md na wt : Nat) : sw_O := (5, [.ref fr, .ref mach, .ref md, .ref na, .ref wt])
theorem sp_getD {α : Type} {l : List α} {k : Nat} {x z : α} (h : l[k]? = some x) : l.getD k z = x := by rw [List.getD_eq_getElem?_getD, h]; rfl
theorem sp_bv_get (bs : List Bool) (k : Nat) (x : Bool) (h : bs[k]? = some x) : (sp_bv bs)[k]? = some (.int (sw_b x)) := by unfold sp_bv; rw [List.getElem?_map, h]; rfl
theorem sl_vt65 (c : Bool) : sw_fit (sw_vt 65) (.int (sw_b c)) = true := by cases c <;> decide
theorem sp_row_at (k o : Nat) (h : o < k) : (sp_row nd k)[o]? = some (nd k o) := by
  unfold sp_row; rw [List.getElem?_map, List.getElem?_range h]; rfl
/-- an operation of the row, to a reader -/
theorem sp_opsR (hd : 3 ≤ d) {Q : Nat → Prop} (hfr : sl_rd (sw_hp P) (sl_lx Q ev fr (M.map fun x => .ref x.1))) (hop : sl_rd (sw_hp P) (sl_all (M.map sl_opA))) (hl : M.length < 1000) {k : Nat} (hk : k < M.length) :
    ∃ r, sw_Z d m_J2_get [.ref fr, .int (nI k)] P = some (.inl (some (.ref M[k].1)), P) ∧ sw_hp P M[k].1 = some (sp_opC ((M.map (·.2)).getD k sp_oz) r) ∧ sw_hp P r = some (64, ((M.map (·.2)).getD k sp_oz).2.2.1.map .int) ∧ sw_kd (sw_hp P fr) 24 = true := by
  have ex : M[k]? = some M[k] := List.getElem?_eq_getElem hk
  have e2 := jc_J2_get (D := d) (by omega) hfr (sl_refs_at ex) (by rw [List.length_map]; omega)
  obtain ⟨_, _, _, _, e3, _⟩ := sl_rd_lx hfr
  obtain ⟨r, f1, f2⟩ := sl_rd_ops hop ex
  have e : (M.map (·.2)).getD k sp_oz = M[k].2 := sp_getD (by rw [List.getElem?_map, ex]; rfl)
  rw [e]
  exact ⟨r, e2, f1, f2, by rw [e3]; rfl⟩
theorem jc_X6_needsOf {k : Nat} (hD : 4 ≤ D) (hk : k < M.length) (hl : M.length < 1000) (hw : ws.length = M.length) (hw0 : ws.getD k 0 = 0) (hr : ∀ o ∈ M.map (·.2), o.2.2.1.length < 100)
    (h : sl_st ev c s P (sl_pt od (sp_odC fr mach md na wt) :: sl_pt wt (64, ws.map .int) :: sl_ls ev fr (M.map fun x => .ref x.1) :: sl_all (M.map sl_opA) :: R)) :
    ∃ (P' : sw_P) (b : Nat), sw_Z D m_X6_needsOf [.ref od, .int (nI k)] P = some (.inl (some (.ref b)), P') ∧ sl_st ev (c + 1) (s + k) P' (sl_rowA (b, sp_row (sp_nd2 (M.map (·.2))) k) :: sl_pt od (sp_odC fr mach md na wt) :: sl_pt wt (64, (ws.set k (sp_wt (sp_nd2 (M.map (·.2))) k k)).map .int) :: sl_ls ev fr (M.map fun x => .ref x.1) :: sl_all (M.map sl_opA) :: R) := by
  obtain ⟨d, hDe, hDn⟩ := sw_dep hD; subst hDe; replace hD := hDn; clear hDn
  have hloop : ∀ a, ∀ j i, i + j = k → ∀ P1, sl_st ev (c + 1) (s + k) P1 (sl_pt a (65, sp_bv (sp_row (sp_nd2 (M.map (·.2))) k |>.take i) ++ List.replicate j (.int 0)) :: sl_pt od (sp_odC fr mach md na wt) :: sl_pt wt (64, (ws.set k (sp_wt (sp_nd2 (M.map (·.2))) k i)).map .int) :: sl_ls ev fr (M.map fun x => .ref x.1) :: sl_all (M.map sl_opA) :: R) →
      ∃ P', sw_at (sw_Z d) b_X6_needsOf 1 [some (.ref od), some (.int (nI k)), some (.ref a), some (.int (nI i))] [] P1 = some (.inl (some (.ref a)), P') ∧ sl_st ev (c + 1) (s + k) P' (sl_rowA (a, sp_row (sp_nd2 (M.map (·.2))) k) :: sl_pt od (sp_odC fr mach md na wt) :: sl_pt wt (64, (ws.set k (sp_wt (sp_nd2 (M.map (·.2))) k k)).map .int) :: sl_ls ev fr (M.map fun x => .ref x.1) :: sl_all (M.map sl_opA) :: R) := by
    intro a j
    induction j with
    | zero =>
      intro i hi P1 g
      have : i = k := by omega
      subst this
      have e1 : nI i ≤ nI i := Int32.le_refl _
      refine ⟨P1, ?_, ?_⟩
      · rw [at_X6_needsOf_1]; simp only [at_X6_needsOf_6, ey_ld, sk_ld_s, ex_na, ex_sta, ex_sta_n, ex_push, ex_sti, ex_goto, ex_ic, ey_gf, sk_gf_s, sk_v_s, ey_cv1, sk_c_s, ex_ct, ex_iz, ey_ast, sk_ast_s, ex_du2, ey_ald, sk_ald_s, ex_ii, ey_inc, sk_inc_s, ex_rv, sw_gl_0, sw_gl_s, sw_fx_n, sw_fx_i, sw_fx_r, sw_fx_0, sw_fx_l, sw_fx_d, sw_sl1_0, sw_sl1_1, sw_sl1_s, sw_no_0, sw_no_s, sw_no_e, sw_mk_t, sw_mk_f, sw_mk_e, sw_en_0, sw_en_n, sw_en_i, sw_en_r, sw_en_z, sw_en_l, sw_en_d, sw_ok_0, sw_ok_1, sw_ok_2, sw_ok_3, sw_ok_4, sw_bo_s, sw_oi_s, sw_cl_s, sw_cl_x, sw_psh_s, sw_psh_n, sw_kd_s, sw_op_s, sw_oc_s, sw_oc_e, sw_oa_s, sw_el_n, sw_el_r, sl_kds_1, sl_kds_67, sw_fit_i, sw_fit_r, sw_fit_n, sw_fit_l, sw_fit_d, sw_fit_b, sw_fit_0, sw_fit_1, sw_rel_0, sw_rel_1, sw_rel_2, sw_rel_3, sw_rel_4, sw_rel_5, sw_hp_set, sw_nx_set, sw_sl_set, sw_ev_set, sw_hp_new, sw_nx_new, sw_sl_new, sw_ev_new, List.getElem?_cons_zero, List.getElem?_cons_succ, List.set_cons_zero, List.set_cons_succ, List.length_cons, List.length_nil, Nat.reduceAdd, Nat.reduceSub, Nat.reduceLT, Nat.reduceLeDiff, Nat.zero_lt_succ, Nat.zero_add, beq_self_eq_true, Bool.true_and, and_true, true_and, and_self, not_true_eq_false, not_false_eq_true, ↓reduceIte, Nat.reduceBEq, eq_self, sw_b_0, sw_b_1, decide_eq_false_iff_not, decide_eq_true_eq, sl_n10, sl_n01, Decidable.not_not, sl_ct, sl_cats_0, sl_cats_i, sl_cats_r, sl_cats_n, sl_cats_l, sl_ok_5, sl_ok9, decide_true, sp_machC, sp_nodeC, sp_opC, sl_z0, sl_z1, sl_z2, sl_z3, sl_z4, sl_z5, sl_z6, sl_z7, sl_c0, sl_c1, sl_c2, sl_c3, sl_c4, sl_c5, sl_c6, sl_c7, List.length_map, e1]
      · rw [List.replicate_zero, List.append_nil, List.take_of_length_le (by unfold sp_row; simp)] at g
        exact g
    | succ j ih =>
      intro i hi P1 g
      have e1 : ¬ nI k ≤ nI i := nI_ge (by omega) (by omega)
      have h0 := g.get 0 rfl
      have h1 := g.get 1 rfl
      have h2 := g.get 2 rfl
      obtain ⟨rk, f1, f2, f3, f4⟩ := sp_opsR (d := d) (by omega) (g.at 3 rfl) (g.at 4 rfl) hl hk
      obtain ⟨ri, f5, f6, f7, -⟩ := sp_opsR (d := d) (by omega) (g.at 3 rfl) (g.at 4 rfl) hl (k := i) (by omega)
      have hmem : ∀ q, q < M.length → ((M.map (·.2)).getD q sp_oz).2.2.1.length < 100 := fun q hq => hr _ (by
        have ex : (M.map (·.2))[q]? = some (M[q].2) := by rw [List.getElem?_map, List.getElem?_eq_getElem hq]; rfl
        rw [sp_getD ex]
        exact List.mem_of_getElem? ex)
      have e2 := jc_X7_needs (D := d) (by omega) ⟨rk, f2, f3⟩ ⟨ri, f6, f7⟩ (hmem k hk) (hmem i (by omega))
      have e3 : ¬ nI i < 0 := nI_pos (by omega)
      have e4 : (nI i).toNatClampNeg = i := nI_clamp (by omega)
      have e3' : ¬ nI k < 0 := nI_pos (by omega)
      have e4' : (nI k).toNatClampNeg = k := nI_clamp (by omega)
      have hrl : (sp_row (sp_nd2 (M.map (·.2))) k).length = k := by unfold sp_row; simp
      have hbl : (sp_bv ((sp_row (sp_nd2 (M.map (·.2))) k).take i)).length = i := by unfold sp_bv; simp; omega
      have e5 : i < (sp_bv ((sp_row (sp_nd2 (M.map (·.2))) k).take i) ++ List.replicate (j + 1) (Value.int 0)).length := by rw [List.length_append, hbl]; simp
      have e6 : (sp_bv ((sp_row (sp_nd2 (M.map (·.2))) k).take i) ++ List.replicate (j + 1) (Value.int 0)).set i (.int (sw_b (sp_nd2 (M.map (·.2)) k i))) = sp_bv ((sp_row (sp_nd2 (M.map (·.2))) k).take (i + 1)) ++ List.replicate j (Value.int 0) := by
        have hgi : (sp_row (sp_nd2 (M.map (·.2))) k)[i]? = some (sp_nd2 (M.map (·.2)) k i) := sp_row_at k i (by omega)
        rw [List.set_append_right _ _ (by omega), hbl, Nat.sub_self, List.replicate_succ, List.set_cons_zero, List.take_add_one, hgi]
        unfold sp_bv
        simp
      have e7 : (sp_bv ((sp_row (sp_nd2 (M.map (·.2))) k).take (i + 1)) ++ List.replicate j (Value.int 0))[i]? = some (.int (sw_b (sp_nd2 (M.map (·.2)) k i))) := by
        rw [← e6, List.getElem?_set_self (by exact e5)]
      have e8 := sl_mapget (ws.set k (sp_wt (sp_nd2 (M.map (·.2))) k i)) k (by rw [List.length_set]; omega)
      have e8' : (ws.set k (sp_wt (sp_nd2 (M.map (·.2))) k i)).getD k 0 = sp_wt (sp_nd2 (M.map (·.2))) k i := sp_getD (List.getElem?_set_self (by omega))
      rw [e8'] at e8
      have e9 : k < (ws.set k (sp_wt (sp_nd2 (M.map (·.2))) k i)).length := by rw [List.length_set]; omega
      have e10 : ((ws.set k (sp_wt (sp_nd2 (M.map (·.2))) k i)).map Value.int).set k (.int (sp_wt (sp_nd2 (M.map (·.2))) k (i + 1))) = (ws.set k (sp_wt (sp_nd2 (M.map (·.2))) k (i + 1))).map .int := by rw [sl_map_set, List.set_set]
      have hstep : sp_wt (sp_nd2 (M.map (·.2))) k (i + 1) = sp_wt (sp_nd2 (M.map (·.2))) k i + (if sp_nd2 (M.map (·.2)) k i = true then 1 else 0) := rfl
      have hne : ¬ wt = a := sl_one h2 h0 (by decide)
      have g2 := (g.set 0 (65, sp_bv ((sp_row (sp_nd2 (M.map (·.2))) k).take (i + 1)) ++ List.replicate j (Value.int 0)) rfl).set 2 (64, (ws.set k (sp_wt (sp_nd2 (M.map (·.2))) k (i + 1))).map .int) rfl
      obtain ⟨P', r1, r2⟩ := ih (i + 1) (by omega) _ g2
      refine ⟨P', ?_, r2⟩
      rw [← r1]
      have hod : ¬ od = a := sl_one h1 h0 (by decide)
      have hval : sw_at (sw_Z d) b_X6_needsOf 1 [some (.ref od), some (.int (nI k)), some (.ref a), some (.int (nI i))] [] P1 = sw_at (sw_Z d) b_X6_needsOf 3 [some (.ref od), some (.int (nI k)), some (.ref a), some (.int (nI i))] [.int (sw_b (sp_nd2 (M.map (·.2)) k i)), .int (nI i), .ref a] P1 := by
        unfold sp_nd2
        by_cases c1 : ((M.map (·.2)).getD i sp_oz).2.2.2.2.1 = ((M.map (·.2)).getD k sp_oz).2.2.2.2.1
        · cases c2 : sp_needs ((M.map (·.2)).getD k sp_oz) ((M.map (·.2)).getD i sp_oz) <;> rw [c2] at e2
          · rw [at_X6_needsOf_1]; simp only [at_X6_needsOf_2, ey_ld, sk_ld_s, ex_na, ex_sta, ex_sta_n, ex_push, ex_sti, ex_goto, ex_ic, ey_gf, sk_gf_s, sk_v_s, ey_cv1, sk_c_s, ex_ct, ex_iz, ey_ast, sk_ast_s, ex_du2, ey_ald, sk_ald_s, ex_ii, ey_inc, sk_inc_s, ex_rv, sw_gl_0, sw_gl_s, sw_fx_n, sw_fx_i, sw_fx_r, sw_fx_0, sw_fx_l, sw_fx_d, sw_sl1_0, sw_sl1_1, sw_sl1_s, sw_no_0, sw_no_s, sw_no_e, sw_mk_t, sw_mk_f, sw_mk_e, sw_en_0, sw_en_n, sw_en_i, sw_en_r, sw_en_z, sw_en_l, sw_en_d, sw_ok_0, sw_ok_1, sw_ok_2, sw_ok_3, sw_ok_4, sw_bo_s, sw_oi_s, sw_cl_s, sw_cl_x, sw_psh_s, sw_psh_n, sw_kd_s, sw_op_s, sw_oc_s, sw_oc_e, sw_oa_s, sw_el_n, sw_el_r, sl_kds_1, sl_kds_67, sw_fit_i, sw_fit_r, sw_fit_n, sw_fit_l, sw_fit_d, sw_fit_b, sw_fit_0, sw_fit_1, sw_rel_0, sw_rel_1, sw_rel_2, sw_rel_3, sw_rel_4, sw_rel_5, sw_hp_set, sw_nx_set, sw_sl_set, sw_ev_set, sw_hp_new, sw_nx_new, sw_sl_new, sw_ev_new, List.getElem?_cons_zero, List.getElem?_cons_succ, List.set_cons_zero, List.set_cons_succ, List.length_cons, List.length_nil, Nat.reduceAdd, Nat.reduceSub, Nat.reduceLT, Nat.reduceLeDiff, Nat.zero_lt_succ, Nat.zero_add, beq_self_eq_true, Bool.true_and, and_true, true_and, and_self, not_true_eq_false, not_false_eq_true, ↓reduceIte, Nat.reduceBEq, eq_self, sw_b_0, sw_b_1, decide_eq_false_iff_not, decide_eq_true_eq, sl_n10, sl_n01, Decidable.not_not, sl_ct, sl_cats_0, sl_cats_i, sl_cats_r, sl_cats_n, sl_cats_l, sl_ok_5, sl_ok9, decide_true, sp_machC, sp_nodeC, sp_opC, sl_z0, sl_z1, sl_z2, sl_z3, sl_z4, sl_z5, sl_z6, sl_z7, sl_c0, sl_c1, sl_c2, sl_c3, sl_c4, sl_c5, sl_c6, sl_c7, List.length_map, e1, h1, sp_odC, f1, f2, f4, f5, f6, eq_true c1, e2, sw_b_f, sl_kds_1, decide_true, Bool.and_false]
          · rw [at_X6_needsOf_1]; simp only [at_X6_needsOf_2, ey_ld, sk_ld_s, ex_na, ex_sta, ex_sta_n, ex_push, ex_sti, ex_goto, ex_ic, ey_gf, sk_gf_s, sk_v_s, ey_cv1, sk_c_s, ex_ct, ex_iz, ey_ast, sk_ast_s, ex_du2, ey_ald, sk_ald_s, ex_ii, ey_inc, sk_inc_s, ex_rv, sw_gl_0, sw_gl_s, sw_fx_n, sw_fx_i, sw_fx_r, sw_fx_0, sw_fx_l, sw_fx_d, sw_sl1_0, sw_sl1_1, sw_sl1_s, sw_no_0, sw_no_s, sw_no_e, sw_mk_t, sw_mk_f, sw_mk_e, sw_en_0, sw_en_n, sw_en_i, sw_en_r, sw_en_z, sw_en_l, sw_en_d, sw_ok_0, sw_ok_1, sw_ok_2, sw_ok_3, sw_ok_4, sw_bo_s, sw_oi_s, sw_cl_s, sw_cl_x, sw_psh_s, sw_psh_n, sw_kd_s, sw_op_s, sw_oc_s, sw_oc_e, sw_oa_s, sw_el_n, sw_el_r, sl_kds_1, sl_kds_67, sw_fit_i, sw_fit_r, sw_fit_n, sw_fit_l, sw_fit_d, sw_fit_b, sw_fit_0, sw_fit_1, sw_rel_0, sw_rel_1, sw_rel_2, sw_rel_3, sw_rel_4, sw_rel_5, sw_hp_set, sw_nx_set, sw_sl_set, sw_ev_set, sw_hp_new, sw_nx_new, sw_sl_new, sw_ev_new, List.getElem?_cons_zero, List.getElem?_cons_succ, List.set_cons_zero, List.set_cons_succ, List.length_cons, List.length_nil, Nat.reduceAdd, Nat.reduceSub, Nat.reduceLT, Nat.reduceLeDiff, Nat.zero_lt_succ, Nat.zero_add, beq_self_eq_true, Bool.true_and, and_true, true_and, and_self, not_true_eq_false, not_false_eq_true, ↓reduceIte, Nat.reduceBEq, eq_self, sw_b_0, sw_b_1, decide_eq_false_iff_not, decide_eq_true_eq, sl_n10, sl_n01, Decidable.not_not, sl_ct, sl_cats_0, sl_cats_i, sl_cats_r, sl_cats_n, sl_cats_l, sl_ok_5, sl_ok9, decide_true, sp_machC, sp_nodeC, sp_opC, sl_z0, sl_z1, sl_z2, sl_z3, sl_z4, sl_z5, sl_z6, sl_z7, sl_c0, sl_c1, sl_c2, sl_c3, sl_c4, sl_c5, sl_c6, sl_c7, List.length_map, e1, h1, sp_odC, f1, f2, f4, f5, f6, eq_true c1, e2, sw_b_t, sl_kds_1, decide_true, Bool.and_true]
        · rw [at_X6_needsOf_1]; simp only [at_X6_needsOf_2, ey_ld, sk_ld_s, ex_na, ex_sta, ex_sta_n, ex_push, ex_sti, ex_goto, ex_ic, ey_gf, sk_gf_s, sk_v_s, ey_cv1, sk_c_s, ex_ct, ex_iz, ey_ast, sk_ast_s, ex_du2, ey_ald, sk_ald_s, ex_ii, ey_inc, sk_inc_s, ex_rv, sw_gl_0, sw_gl_s, sw_fx_n, sw_fx_i, sw_fx_r, sw_fx_0, sw_fx_l, sw_fx_d, sw_sl1_0, sw_sl1_1, sw_sl1_s, sw_no_0, sw_no_s, sw_no_e, sw_mk_t, sw_mk_f, sw_mk_e, sw_en_0, sw_en_n, sw_en_i, sw_en_r, sw_en_z, sw_en_l, sw_en_d, sw_ok_0, sw_ok_1, sw_ok_2, sw_ok_3, sw_ok_4, sw_bo_s, sw_oi_s, sw_cl_s, sw_cl_x, sw_psh_s, sw_psh_n, sw_kd_s, sw_op_s, sw_oc_s, sw_oc_e, sw_oa_s, sw_el_n, sw_el_r, sl_kds_1, sl_kds_67, sw_fit_i, sw_fit_r, sw_fit_n, sw_fit_l, sw_fit_d, sw_fit_b, sw_fit_0, sw_fit_1, sw_rel_0, sw_rel_1, sw_rel_2, sw_rel_3, sw_rel_4, sw_rel_5, sw_hp_set, sw_nx_set, sw_sl_set, sw_ev_set, sw_hp_new, sw_nx_new, sw_sl_new, sw_ev_new, List.getElem?_cons_zero, List.getElem?_cons_succ, List.set_cons_zero, List.set_cons_succ, List.length_cons, List.length_nil, Nat.reduceAdd, Nat.reduceSub, Nat.reduceLT, Nat.reduceLeDiff, Nat.zero_lt_succ, Nat.zero_add, beq_self_eq_true, Bool.true_and, and_true, true_and, and_self, not_true_eq_false, not_false_eq_true, ↓reduceIte, Nat.reduceBEq, eq_self, sw_b_0, sw_b_1, decide_eq_false_iff_not, decide_eq_true_eq, sl_n10, sl_n01, Decidable.not_not, sl_ct, sl_cats_0, sl_cats_i, sl_cats_r, sl_cats_n, sl_cats_l, sl_ok_5, sl_ok9, decide_true, sp_machC, sp_nodeC, sp_opC, sl_z0, sl_z1, sl_z2, sl_z3, sl_z4, sl_z5, sl_z6, sl_z7, sl_c0, sl_c1, sl_c2, sl_c3, sl_c4, sl_c5, sl_c6, sl_c7, List.length_map, e1, h1, sp_odC, f1, f2, f4, f5, f6, eq_false c1, sw_b_f, sl_kds_1, decide_false, Bool.false_and]
      rw [hval]
      have hvt := sl_vt65 (sp_nd2 (M.map (·.2)) k i)
      cases hv : sp_nd2 (M.map (·.2)) k i
      · rw [hv, if_neg (by decide), Int32.add_zero] at hstep
        rw [hv, sw_b_f] at e6 e7 hvt
        rw [hstep] at e10 ⊢
        rw [at_X6_needsOf_3]; simp only [at_X6_needsOf_4, at_X6_needsOf_5, ey_ld, sk_ld_s, ex_na, ex_sta, ex_sta_n, ex_push, ex_sti, ex_goto, ex_ic, ey_gf, sk_gf_s, sk_v_s, ey_cv1, sk_c_s, ex_ct, ex_iz, ey_ast, sk_ast_s, ex_du2, ey_ald, sk_ald_s, ex_ii, ey_inc, sk_inc_s, ex_rv, sw_gl_0, sw_gl_s, sw_fx_n, sw_fx_i, sw_fx_r, sw_fx_0, sw_fx_l, sw_fx_d, sw_sl1_0, sw_sl1_1, sw_sl1_s, sw_no_0, sw_no_s, sw_no_e, sw_mk_t, sw_mk_f, sw_mk_e, sw_en_0, sw_en_n, sw_en_i, sw_en_r, sw_en_z, sw_en_l, sw_en_d, sw_ok_0, sw_ok_1, sw_ok_2, sw_ok_3, sw_ok_4, sw_bo_s, sw_oi_s, sw_cl_s, sw_cl_x, sw_psh_s, sw_psh_n, sw_kd_s, sw_op_s, sw_oc_s, sw_oc_e, sw_oa_s, sw_el_n, sw_el_r, sl_kds_1, sl_kds_67, sw_fit_i, sw_fit_r, sw_fit_n, sw_fit_l, sw_fit_d, sw_fit_b, sw_fit_0, sw_fit_1, sw_rel_0, sw_rel_1, sw_rel_2, sw_rel_3, sw_rel_4, sw_rel_5, sw_hp_set, sw_nx_set, sw_sl_set, sw_ev_set, sw_hp_new, sw_nx_new, sw_sl_new, sw_ev_new, List.getElem?_cons_zero, List.getElem?_cons_succ, List.set_cons_zero, List.set_cons_succ, List.length_cons, List.length_nil, Nat.reduceAdd, Nat.reduceSub, Nat.reduceLT, Nat.reduceLeDiff, Nat.zero_lt_succ, Nat.zero_add, beq_self_eq_true, Bool.true_and, and_true, true_and, and_self, not_true_eq_false, not_false_eq_true, ↓reduceIte, Nat.reduceBEq, eq_self, sw_b_0, sw_b_1, decide_eq_false_iff_not, decide_eq_true_eq, sl_n10, sl_n01, Decidable.not_not, sl_ct, sl_cats_0, sl_cats_i, sl_cats_r, sl_cats_n, sl_cats_l, sl_ok_5, sl_ok9, decide_true, sp_machC, sp_nodeC, sp_opC, sl_z0, sl_z1, sl_z2, sl_z3, sl_z4, sl_z5, sl_z6, sl_z7, sl_c0, sl_c1, sl_c2, sl_c3, sl_c4, sl_c5, sl_c6, sl_c7, List.length_map, h0, h1, h2, sp_odC, e3, e4, e3', e4', e5, e6, e7, e8, e9, e10, hod, hne, hvt, sw_b_f, sl_vt64, nI_1, Int32.add_zero]
      · rw [hv, if_pos rfl] at hstep
        rw [hv, sw_b_t] at e6 e7 hvt
        rw [hstep] at e10 ⊢
        rw [at_X6_needsOf_3]; simp only [at_X6_needsOf_4, at_X6_needsOf_5, ey_ld, sk_ld_s, ex_na, ex_sta, ex_sta_n, ex_push, ex_sti, ex_goto, ex_ic, ey_gf, sk_gf_s, sk_v_s, ey_cv1, sk_c_s, ex_ct, ex_iz, ey_ast, sk_ast_s, ex_du2, ey_ald, sk_ald_s, ex_ii, ey_inc, sk_inc_s, ex_rv, sw_gl_0, sw_gl_s, sw_fx_n, sw_fx_i, sw_fx_r, sw_fx_0, sw_fx_l, sw_fx_d, sw_sl1_0, sw_sl1_1, sw_sl1_s, sw_no_0, sw_no_s, sw_no_e, sw_mk_t, sw_mk_f, sw_mk_e, sw_en_0, sw_en_n, sw_en_i, sw_en_r, sw_en_z, sw_en_l, sw_en_d, sw_ok_0, sw_ok_1, sw_ok_2, sw_ok_3, sw_ok_4, sw_bo_s, sw_oi_s, sw_cl_s, sw_cl_x, sw_psh_s, sw_psh_n, sw_kd_s, sw_op_s, sw_oc_s, sw_oc_e, sw_oa_s, sw_el_n, sw_el_r, sl_kds_1, sl_kds_67, sw_fit_i, sw_fit_r, sw_fit_n, sw_fit_l, sw_fit_d, sw_fit_b, sw_fit_0, sw_fit_1, sw_rel_0, sw_rel_1, sw_rel_2, sw_rel_3, sw_rel_4, sw_rel_5, sw_hp_set, sw_nx_set, sw_sl_set, sw_ev_set, sw_hp_new, sw_nx_new, sw_sl_new, sw_ev_new, List.getElem?_cons_zero, List.getElem?_cons_succ, List.set_cons_zero, List.set_cons_succ, List.length_cons, List.length_nil, Nat.reduceAdd, Nat.reduceSub, Nat.reduceLT, Nat.reduceLeDiff, Nat.zero_lt_succ, Nat.zero_add, beq_self_eq_true, Bool.true_and, and_true, true_and, and_self, not_true_eq_false, not_false_eq_true, ↓reduceIte, Nat.reduceBEq, eq_self, sw_b_0, sw_b_1, decide_eq_false_iff_not, decide_eq_true_eq, sl_n10, sl_n01, Decidable.not_not, sl_ct, sl_cats_0, sl_cats_i, sl_cats_r, sl_cats_n, sl_cats_l, sl_ok_5, sl_ok9, decide_true, sp_machC, sp_nodeC, sp_opC, sl_z0, sl_z1, sl_z2, sl_z3, sl_z4, sl_z5, sl_z6, sl_z7, sl_c0, sl_c1, sl_c2, sl_c3, sl_c4, sl_c5, sl_c6, sl_c7, List.length_map, h0, h1, h2, sp_odC, e3, e4, e3', e4', e5, e6, e7, e8, e9, e10, hod, hne, hvt, sw_b_t, sl_vt64, nI_1]
  have e1 : (0 : Int32) ≤ nI k := nI_pos' (by omega)
  have e2 : (nI k).toNatClampNeg = k := nI_clamp (by omega)
  have e3 : k ≤ 1048576 := by omega
  have g := h.new (65, List.replicate k (.int 0))
  obtain ⟨P', r1, r2⟩ := hloop (sw_nx P) k 0 (by omega) _ (by
    have e4 : ws.set k (sp_wt (sp_nd2 (M.map (·.2))) k 0) = ws := by
      have e5 : sp_wt (sp_nd2 (M.map (·.2))) k 0 = ws.getD k 0 := hw0.symm
      rw [e5, List.getD_eq_getElem?_getD, List.getElem?_eq_getElem (by omega)]
      exact List.set_getElem_self _
    rw [e4]
    exact g.wk (Nat.le_refl _) (by simp))
  refine ⟨P', _, ?_, r2⟩
  rw [show (nI 0 : Int32) = 0 from rfl] at r1
  rw [← r1]
  rw [M_X6_needsOf _ _ _ rfl]; simp only [at_X6_needsOf_0, ey_ld, sk_ld_s, ex_na, ex_sta, ex_sta_n, ex_push, ex_sti, ex_goto, ex_ic, ey_gf, sk_gf_s, sk_v_s, ey_cv1, sk_c_s, ex_ct, ex_iz, ey_ast, sk_ast_s, ex_du2, ey_ald, sk_ald_s, ex_ii, ey_inc, sk_inc_s, ex_rv, sw_gl_0, sw_gl_s, sw_fx_n, sw_fx_i, sw_fx_r, sw_fx_0, sw_fx_l, sw_fx_d, sw_sl1_0, sw_sl1_1, sw_sl1_s, sw_no_0, sw_no_s, sw_no_e, sw_mk_t, sw_mk_f, sw_mk_e, sw_en_0, sw_en_n, sw_en_i, sw_en_r, sw_en_z, sw_en_l, sw_en_d, sw_ok_0, sw_ok_1, sw_ok_2, sw_ok_3, sw_ok_4, sw_bo_s, sw_oi_s, sw_cl_s, sw_cl_x, sw_psh_s, sw_psh_n, sw_kd_s, sw_op_s, sw_oc_s, sw_oc_e, sw_oa_s, sw_el_n, sw_el_r, sl_kds_1, sl_kds_67, sw_fit_i, sw_fit_r, sw_fit_n, sw_fit_l, sw_fit_d, sw_fit_b, sw_fit_0, sw_fit_1, sw_rel_0, sw_rel_1, sw_rel_2, sw_rel_3, sw_rel_4, sw_rel_5, sw_hp_set, sw_nx_set, sw_sl_set, sw_ev_set, sw_hp_new, sw_nx_new, sw_sl_new, sw_ev_new, List.getElem?_cons_zero, List.getElem?_cons_succ, List.set_cons_zero, List.set_cons_succ, List.length_cons, List.length_nil, Nat.reduceAdd, Nat.reduceSub, Nat.reduceLT, Nat.reduceLeDiff, Nat.zero_lt_succ, Nat.zero_add, beq_self_eq_true, Bool.true_and, and_true, true_and, and_self, not_true_eq_false, not_false_eq_true, ↓reduceIte, Nat.reduceBEq, eq_self, sw_b_0, sw_b_1, decide_eq_false_iff_not, decide_eq_true_eq, sl_n10, sl_n01, Decidable.not_not, sl_ct, sl_cats_0, sl_cats_i, sl_cats_r, sl_cats_n, sl_cats_l, sl_ok_5, sl_ok9, decide_true, sp_machC, sp_nodeC, sp_opC, sl_z0, sl_z1, sl_z2, sl_z3, sl_z4, sl_z5, sl_z6, sl_z7, sl_c0, sl_c1, sl_c2, sl_c3, sl_c4, sl_c5, sl_c6, sl_c7, List.length_map, e1, e2, e3, show sw_dv 65 = .int 0 from rfl]
end
