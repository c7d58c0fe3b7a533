/-! ===== the component's plan of one program: the constructor ===== -/
section
variable {ev : Nat → Nat} {bd mach l D d c s nv ns : Nat} {pa : sp_PA} {N : List (Nat × sp_Node)} {B : List sp_Blk} {m : sp_Mach} {L T : List Int32} {A os : List sp_Op} {Rs : List sp_Life} {Ks : List sp_In} {out t : Int32} {P : sw_P} {F : List sl_A} {x y : List Nat × List Int32}
theorem sp_bdS.wk {o2 lv cl rn ca ra rb rs c' s' : Nat} {nw : Int32} {M : List (Nat × sp_Op)} {G : List sl_A} {q : sp_Rn × List sp_In} (h : sp_bdS ev bd o2 lv cl rn ca nw mach ra rb rs l m L M pa N B T out G c s P q) (h1 : c ≤ c') (h2 : s ≤ s') : sp_bdS ev bd o2 lv cl rn ca nw mach ra rb rs l m L M pa N B T out G c' s' P q := by
  obtain ⟨K, e, h⟩ := h
  exact ⟨K, e, h.wk h1 h2⟩
theorem jc_X4_init (hD : 263 ≤ D) (hg : sp_good (N.map (·.2)) m L (sp_costs (N.map (·.2)) m L N.length)) (hB : sp_okB N.length (B.map fun y => y.2.map (·.2))) (hl : (sp_chosen (N.map (·.2)) m L (sp_costs (N.map (·.2)) m L N.length) (B.map fun y => y.2.map (·.2))).1.length < 900) (hr : ∀ o ∈ (sp_chosen (N.map (·.2)) m L (sp_costs (N.map (·.2)) m L N.length) (B.map fun y => y.2.map (·.2))).1, o.2.2.1.length < 100)
    (hA : A = sp_allOps (N.map (·.2)) m L (sp_costs (N.map (·.2)) m L N.length) (B.map fun y => y.2.map (·.2)) out) (ha : A.length < 130) (hr2 : ∀ o ∈ A, o.2.2.1.length < 100) (ht : t = 0 ∨ t = 1)
    (hx : x = sp_pre (sp_nd2 A) (sp_os L A) A.length 0 ([], sp_wsk (sp_nd2 A) A.length A.length)) (hy : sp_lps (sp_nd2 A) (sp_os L A) (A.length + 1) 4 x = some y) (hp : y.1.Perm (List.range A.length)) (hos : os = sp_plan L A t y.1)
    (hnv : (sp_chosen (N.map (·.2)) m L (sp_costs (N.map (·.2)) m L N.length) (B.map fun y => y.2.map (·.2))).2 = nI nv) (hnv2 : nv < 190) (hT : T.length = 4) (hTn : ∀ k, k < 4 → ∃ n, n < 100000 ∧ T.getD k 0 = nI n) (hM : ∀ o ∈ os, o.2.2.1.length < 100 ∧ (o.2.2.2.2.1 = -1 ∨ ∃ k, k < 4 ∧ o.2.2.2.2.1 = nI k)) (hm : 5 ≤ m.1.toNatClampNeg ∧ m.1.toNatClampNeg ≤ 11 ∧ m.1 = nI m.1.toNatClampNeg) (hw : sp_wok m os nv)
    (hRs : Rs = sp_lives m os T out nv) (hKs : Ks = sp_code m os Rs os.length) (hlv : ∀ (M : List (Nat × sp_Op)) (Rw : sp_LR), M.map (·.2) = os → Rw.map (·.2) = Rs → sp_lvok M Rw T ∧ sp_vok M Rw) (hsl : sp_slots Rs Rs.length = nI ns) (hns : ns < 1000) (hck : sp_cok os.length ns Ks) (hKl : Ks.length < 1000)
    (h : sl_st ev c s P (sl_pt bd (3, [.null, .null, .null, .null, .null, .int 0]) :: sl_pt mach (sp_machC m l) :: sl_pt l (64, L.map .int) :: (sl_prog ev pa N B T out ++ F))) :
    ∃ (P' : sw_P) (o2 lv cl rn ca rw ra rb rs : Nat) (M : List (Nat × sp_Op)) (Rw : sp_LR) (G1 G : List sl_A), sw_Z D m_X4_init [.ref bd, .ref pa.1, .ref mach, .int t] P = some (.inl none, P') ∧ M.map (·.2) = os ∧ Rw.map (·.2) = Rs ∧
      sp_bdS ev bd o2 lv cl rn ca (nI nv) mach ra rb rs l m L M pa N B T out (sl_pt lv (sp_lvC o2 pa.1 mach rw) :: sl_ls ev rw (Rw.map fun x => .ref x.1) :: sl_all (Rw.map (sl_lifeA (M.map (·.1)))) :: (G1 ++ (F ++ G))) (c + 16 + (4 * A.length + 3 * sl_GA A.length) + (nv + sl_GA Rs.length) + (Ks.length + sl_GA Ks.length)) (s + 64 + N.length + (14 * A.length + 3 * sl_GS A.length) + sl_tri A.length + (11 * nv + sl_GS Rs.length) + (7 * Ks.length + sl_GS Ks.length) + ns) P' (sp_runT m L os T (sp_run m L os (-1) (sp_rn0 ns, Ks) Ks.length) 4) ∧ sl_pt ca (64, (sp_costs (N.map (·.2)) m L N.length).map .int) ∈ G1 := by
  obtain ⟨d, hDe, hDn⟩ := sw_dep hD; subst hDe; replace hD := hDn; clear hDn
  have hws : (sp_wsk (sp_nd2 A) A.length A.length).length = A.length := sp_wsk_len _ _ (Nat.le_refl _)
  obtain ⟨P1, ca, ol, P2, ml, M0, P3, md, na, wt, NR, M1, a1, a2, a3, a4, a5, a6, a7, a8, a9, ⟨n1, n2, n3, n4⟩, sA⟩ := sp_bdA (D := d) (by omega) hg hB hl hr (by rw [← hA]; omega) (by rw [← hA]; exact hr2) h
  rw [← hA] at a6
  have hM0 : M0.length = A.length := by rw [← a6, List.length_map]
  rw [a6] at a7 a8 sA
  rw [hM0] at a9
  rw [hM0, ← a9] at sA
  rw [← a9] at ha hws hx hy hp
  rw [← a7] at hx hy
  obtain ⟨P4, o2, M, G, b1, b2, b3, sB⟩ := sp_bdB (D := d) (by omega) a7 a8 (by omega) ht hws hx hy hp sA
  rw [← hos] at b2
  have q4 := sB.get 12 rfl
  have q5 := sB.get 4 rfl
  have sC : sl_st ev _ _ (sw_set P4 bd (3, [.ref o2, .null, .null, .null, .ref ca, .int (nI nv)])) (sl_ls ev o2 (M.map fun x => .ref x.1) :: sl_all (M.map sl_opA) :: (sl_pt mach (sp_machC m l) :: sl_pt l (64, L.map .int) :: (sl_prog ev pa N B T out ++ (sl_pt bd (3, [.ref o2, .null, .null, .null, .ref ca, .int (nI nv)]) :: (sl_pt (sw_nx P) (sp_chC pa mach ca ol (sp_chosen (N.map (·.2)) m L (sp_costs (N.map (·.2)) m L N.length) (B.map fun y => y.2.map (·.2))).2 4) :: sl_pt ca (64, (sp_costs (N.map (·.2)) m L N.length).map .int) :: _))))) := (sB.set 12 (3, [.ref o2, .null, .null, .null, .ref ca, .int (nI nv)]) rfl).pp 13 [0, 1, 2, 3, 6, 7, 8, 9, 10, 11, 12, 4, 5]
  have sC' : sl_st ev _ _ (sw_set P4 bd (3, [.ref o2, .null, .null, .null, .ref ca, .int (nI nv)])) (sl_ls ev o2 (M.map fun x => .ref x.1) :: sl_all (M.map sl_opA) :: (sl_pt mach (sp_machC m l) :: sl_pt l (64, L.map .int) :: (sl_prog ev pa N B T out ++ (sl_pt bd (3, [.ref o2, .null, .null, .null, .ref ca, .int (nI nv)]) :: (sl_pt (sw_nx P) (sp_chC pa mach ca ol (sp_chosen (N.map (·.2)) m L (sp_costs (N.map (·.2)) m L N.length) (B.map fun y => y.2.map (·.2))).2 4) :: sl_pt ca (64, (sp_costs (N.map (·.2)) m L N.length).map .int) :: (F ++ G)))))) := sC
  have hMl : M.length < 130 := by omega
  have hol : os.length = M.length := by rw [← b2, List.length_map]
  subst hRs
  obtain ⟨P5, rw', Rw, P6, cl, P7, K, P8, ra, rb, rs, G2, d1, d2, d3, d4, d5, d6, d7, d8, d9, e1, e2, ⟨w1, w2, w3, w4, w5, w6, w7⟩, sD⟩ := sp_bdD (D := d) (nv := nv) (ns := ns) (by omega) hMl hnv2 hT (fun z hz => hM z.2 (by rw [← b2]; exact List.mem_map_of_mem hz)) hm (by rw [b2]; exact hw) (fun Rw e => hlv M Rw b2 (by rw [e, b2])) (by rw [b2]; exact hsl) hns sC'
  rw [b2] at e1
  rw [b2, e1, ← hol, ← hKs] at e2
  rw [e2] at sD
  have hq : sp_qok M.length ns (sp_rn0 ns, Ks) := by
    refine ⟨⟨?_, ?_, ?_⟩, by rw [← hol]; exact hck, hKl⟩
    · exact List.length_replicate
    · exact List.length_replicate
    · exact List.length_replicate
  have hKl2 : K.length = Ks.length := by rw [← e2, List.length_map]
  have hRl : Rw.length = (sp_lives m os T out nv).length := by rw [← e1, List.length_map]
  rw [hKl2, hRl, b3] at sD
  have sD' := sD.wk (c' := c + 16 + (4 * A.length + 3 * sl_GA A.length) + (nv + sl_GA (sp_lives m os T out nv).length) + (Ks.length + sl_GA Ks.length)) (s' := s + 64 + N.length + (14 * A.length + 3 * sl_GS A.length) + sl_tri A.length + (11 * nv + sl_GS (sp_lives m os T out nv).length) + (7 * Ks.length + sl_GS Ks.length) + ns) (by rw [← a9]; omega) (by rw [← a9]; omega)
  have eT : ∀ (X1 X2 : sl_A), G2 ++ (X1 :: X2 :: (F ++ G)) = (G2 ++ [X1, X2]) ++ (F ++ G) := fun X1 X2 => by rw [List.append_assoc]; rfl
  rw [eT] at sD'
  obtain ⟨P9, r9, s9⟩ := jc_X12_runS (D := d) (b := -1) (by omega) (by omega) hq hns hg.2.2.1 hm sD'
  rw [b2] at s9
  have hq2 : sp_qok M.length ns (sp_run m L os (-1) (sp_rn0 ns, Ks) (sp_rn0 ns, Ks).2.length) := sp_run_qok hq _
  have i1 := jc_X4_init1 (d := d) (q := sp_run m L os (-1) (sp_rn0 ns, Ks) (sp_rn0 ns, Ks).2.length) (ev := ev) (bd := bd) (ol := o2) (cl := cl) (rn := sw_nx P7) (ca := ca) (mach := mach) (l := l) (ra := ra) (rb := rb) (rs := rs) (pa := pa) (N := N) (B := B) (M := M) (m := m) (L := L) (T := T) (out := out) (nv := nI nv) (by omega) hT hTn (by omega) hns hg.2.2.1 hm hq2 4 0 (by omega) P9 s9
  rw [b2] at i1
  obtain ⟨P10, r10, s10⟩ := i1
  have en : sw_nx (sw_set P4 bd (3, [.ref o2, .null, .null, .null, .ref ca, .int (nI nv)])) = sw_nx P4 := rfl
  have kk := sD'.kds
  refine ⟨P10, o2, _, cl, sw_nx P7, ca, rw', ra, rb, rs, M, Rw, _, G, ?_, b2, e1, s10, List.mem_append_right _ (List.mem_cons_of_mem _ List.mem_cons_self)⟩
  rw [← r10]
  have k6 : sw_kd (sw_hp P3 (sw_nx P1)) 5 = true := by rw [sA.get 1 rfl]; rfl
  have q6 : sw_hp P9 bd = _ := s9.gets.1
  rw [hnv] at q5
  simp only [en] at d1 d3 d4 d6 d7 d8 d9 w1 w4 w6 w7 kk r9 q6
  have w8 : ¬ sw_nx P7 = bd := fun e => w3 e.symm
  have k8 : sw_kd (sw_hp P8 (sw_nx P7)) 11 = true := by
    have e8 : sw_hp (sw_set P8 bd (sp_bdC o2 (sw_nx P4) cl (sw_nx P7) ca (nI nv))) (sw_nx P7) = sw_hp P8 (sw_nx P7) := if_neg w8
    rw [← e8]; exact kk.1
  simp only [sp_bdC] at r9 q6
  rw [M_X4_init _ _ _ rfl]; simp only [at_X4_init_0, ey_ld, sk_ld_s, ex_oin, ex_nw, ex_dup_i, ex_dup_r, ex_dup_n, ey_ci2, sk_c_s, ex_sta, ex_sta_n, ey_gf, sk_gf_s, sk_v_s, ey_pf, sk_pf_s, sw_set_set, ey_cv0, ey_cv1, ey_ci4, ex_push, ey_cv3, ex_sti, ex_goto, ex_ic, ey_ald, sk_ald_s, ey_inc, sk_inc_s, ex_ret, sw_gl_0, sw_gl_s, sw_fx_n, sw_fx_i, sw_fx_r, sw_fx_0, sw_fx_l, sw_fx_d, sw_sl1_0, sw_sl1_1, sw_sl1_s, sw_no_0, sw_no_s, sw_no_e, sw_mk_t, sw_mk_f, sw_mk_e, sw_en_0, sw_en_n, sw_en_i, sw_en_r, sw_en_z, sw_en_l, sw_en_d, sw_ok_0, sw_ok_1, sw_ok_2, sw_ok_3, sw_ok_4, sw_bo_s, sw_oi_s, sw_cl_s, sw_cl_x, sw_psh_s, sw_psh_n, sw_kd_s, sw_op_s, sw_oc_s, sw_oc_e, sw_oa_s, sw_el_n, sw_el_r, sl_kds_1, sl_kds_67, sw_fit_i, sw_fit_r, sw_fit_n, sw_fit_l, sw_fit_d, sw_fit_b, sw_fit_0, sw_fit_1, sw_rel_0, sw_rel_1, sw_rel_2, sw_rel_3, sw_rel_4, sw_rel_5, sw_hp_set, sw_nx_set, sw_sl_set, sw_ev_set, sw_hp_new, sw_nx_new, sw_sl_new, sw_ev_new, List.getElem?_cons_zero, List.getElem?_cons_succ, List.set_cons_zero, List.set_cons_succ, List.length_cons, List.length_nil, Nat.reduceAdd, Nat.reduceSub, Nat.reduceLT, Nat.reduceLeDiff, Nat.zero_lt_succ, Nat.zero_add, beq_self_eq_true, Bool.true_and, and_true, true_and, and_self, not_true_eq_false, not_false_eq_true, ↓reduceIte, Nat.reduceBEq, eq_self, sw_b_0, sw_b_1, decide_eq_false_iff_not, decide_eq_true_eq, sl_n10, sl_n01, Decidable.not_not, sl_ct, sl_cats_0, sl_cats_i, sl_cats_r, sl_cats_n, sl_cats_l, sl_ok_5, sl_ok9, decide_true, sp_machC, sp_nodeC, sp_opC, sl_z0, sl_z1, sl_z2, sl_z3, sl_z4, sl_z5, sl_z6, sl_z7, sl_c0, sl_c1, sl_c2, sl_c3, sl_c4, sl_c5, sl_c6, sl_c7, List.length_map, sp_lifeC, sp_inC, sp_rnC, a1, a2, a3, n1, n2, n3, n4, a4, a5, k6, b1, q4, q5, sp_chC, sw_set_set, d1, d2, d3, d4, d5, d6, d7, d8, d9, w1, w2, w3, w4, w5, w6, w7, w8, k8, r9, q6, en]
  rfl
end
