/-! ===== the component's plan of one program: choosing, and the order's tables ===== -/
section
variable {ev : Nat → Nat} {bd mach l D d c s : Nat} {pa : sp_PA} {N : List (Nat × sp_Node)} {B : List sp_Blk} {m : sp_Mach} {L T : List Int32} {out : Int32} {P : sw_P} {F : List sl_A}
theorem sp_bdA (hD : 262 ≤ D) (hg : sp_good (N.map (·.2)) m L (sp_costs (N.map (·.2)) m L N.length)) (hB : sp_okB N.length (B.map fun y => y.2.map (·.2))) (hl : (sp_chosen (N.map (·.2)) m L (sp_costs (N.map (·.2)) m L N.length) (B.map fun y => y.2.map (·.2))).1.length < 900) (hr : ∀ o ∈ (sp_chosen (N.map (·.2)) m L (sp_costs (N.map (·.2)) m L N.length) (B.map fun y => y.2.map (·.2))).1, o.2.2.1.length < 100)
    (ha : (sp_allOps (N.map (·.2)) m L (sp_costs (N.map (·.2)) m L N.length) (B.map fun y => y.2.map (·.2)) out).length < 1000) (hr2 : ∀ o ∈ sp_allOps (N.map (·.2)) m L (sp_costs (N.map (·.2)) m L N.length) (B.map fun y => y.2.map (·.2)) out, o.2.2.1.length < 100)
    (h : sl_st ev c s P (sl_pt bd (3, [.null, .null, .null, .null, .null, .int 0]) :: sl_pt mach (sp_machC m l) :: sl_pt l (64, L.map .int) :: (sl_prog ev pa N B T out ++ F))) :
    ∃ (P1 : sw_P) (ca ol : Nat) (P2 : sw_P) (ml : Nat) (M : List (Nat × sp_Op)) (P3 : sw_P) (md na wt : Nat) (NR : List (Nat × List Bool)) (M' : List (Nat × sp_Op)),
      sw_Z D m_X5_init [.ref (sw_nx P), .ref pa.1, .ref mach] (sw_new P (4, [.null, .null, .null, .null, .int 0, .int 0])) = some (.inl none, P1) ∧
      sw_hp P1 (sw_nx P) = some (sp_chC pa mach ca ol 8 0) ∧ sw_hp P1 bd = some (3, [.null, .null, .null, .null, .null, .int 0]) ∧
      sw_Z D m_X5_all [.ref (sw_nx P)] (sw_new (sw_set P1 bd (3, [.null, .null, .null, .null, .ref ca, .int 0])) (5, [.null, .null, .null, .null, .null])) = some (.inl (some (.ref ml)), P2) ∧
      sw_Z D m_X6_init [.ref (sw_nx P1), .ref ml, .ref mach] P2 = some (.inl none, P3) ∧
      M.map (·.2) = sp_allOps (N.map (·.2)) m L (sp_costs (N.map (·.2)) m L N.length) (B.map fun y => y.2.map (·.2)) out ∧
      M'.map (·.2) = sp_os L (M.map (·.2)) ∧ NR.map (·.2) = (List.range M'.length).map (sp_row (sp_nd2 (M.map (·.2)))) ∧ M'.length = M.length ∧ (¬ sw_nx P = sw_nx P1 ∧ ¬ bd = sw_nx P1 ∧ ¬ bd = sw_nx P ∧ ¬ sw_nx P = bd) ∧
      sl_st ev (c + 8 + (3 * M.length + 2 * sl_GA M.length)) (s + 20 + N.length + (11 * M.length + 2 * sl_GS M.length) + sl_tri M.length) P3 (sl_ls ev md [] :: (sl_ord ev (sw_nx P1) ml mach md na wt (sp_wsk (sp_nd2 (M.map (·.2))) M.length M.length) NR M' ++ (sl_pt mach (sp_machC m l) :: sl_pt l (64, L.map .int) :: sl_pt (sw_nx P) (sp_chC pa mach ca ol (sp_chosen (N.map (·.2)) m L (sp_costs (N.map (·.2)) m L N.length) (B.map fun y => y.2.map (·.2))).2 4) :: sl_pt ca (64, (sp_costs (N.map (·.2)) m L N.length).map .int) :: (sl_prog ev pa N B T out ++ (sl_pt bd (3, [.null, .null, .null, .null, .ref ca, .int 0]) :: F))))) := by
  have g1 := h.new (4, [.null, .null, .null, .null, .int 0, .int 0])
  have g2 : sl_st ev (c + 1) (s + 6) (sw_new P (4, [.null, .null, .null, .null, .int 0, .int 0])) (sl_pt (sw_nx P) (4, [.null, .null, .null, .null, .int 0, .int 0]) :: sl_pt mach (sp_machC m l) :: sl_pt l (64, L.map .int) :: (sl_prog ev pa N B T out ++ (sl_pt bd (3, [.null, .null, .null, .null, .null, .int 0]) :: _))) := g1.pp 10 [0, 2, 3, 4, 5, 6, 7, 8, 9, 1]
  obtain ⟨P1, ca, ol, r1, s1⟩ := jc_X5_init (D := D) (by omega) hg.1 hg.2.2.1 g2
  have s1' : sl_st ev _ _ P1 _ := s1
  have q1 := s1'.get 0 rfl
  have q2 := s1'.get 12 rfl
  have s2 := (s1'.set 12 (3, [.null, .null, .null, .null, .ref ca, .int 0]) rfl).new (5, [.null, .null, .null, .null, .null])
  have s3 : sp_EmS ev (sw_nx P) ol (fun v => sp_chC pa mach ca ol v 0) (sl_ctx ev ca (sp_costs (N.map (·.2)) m L N.length) mach m l L pa N B T out ++ (sl_pt (sw_nx P1) (5, [.null, .null, .null, .null, .null]) :: sl_pt bd (3, [.null, .null, .null, .null, .ref ca, .int 0]) :: F)) (c + 4) (s + 14 + N.length) (sw_new (sw_set P1 bd (3, [.null, .null, .null, .null, .ref ca, .int 0])) (5, [.null, .null, .null, .null, .null])) 8 [] := by
    have s4 : sl_st ev _ _ (sw_new (sw_set P1 bd (3, [.null, .null, .null, .null, .ref ca, .int 0])) (5, [.null, .null, .null, .null, .null])) (sl_pt (sw_nx P) (sp_chC pa mach ca ol 8 0) :: sl_ls ev ol [] :: sl_all [] :: (sl_ctx ev ca (sp_costs (N.map (·.2)) m L N.length) mach m l L pa N B T out ++ (sl_pt (sw_nx P1) (5, [.null, .null, .null, .null, .null]) :: sl_pt bd (3, [.null, .null, .null, .null, .ref ca, .int 0]) :: _))) := s2.pp 14 [1, 2, 3, 4, 5, 6, 7, 8, 9, 10, 11, 12, 0, 13]
    refine s4.wk ?_ ?_
    · show c + 1 + 2 + _ + 1 ≤ c + 4 + _
      omega
    · show s + 6 + 3 + N.length + _ + 5 ≤ s + 14 + N.length + _
      omega
  obtain ⟨P2, ml, M, r2, m1, s5⟩ := jc_X5_all (D := D) hD hg hB hl hr s3
  have s6 : sl_st ev _ _ P2 (sl_pt (sw_nx P1) (5, [.null, .null, .null, .null, .null]) :: sl_ls ev ml (M.map fun x => .ref x.1) :: sl_all (M.map sl_opA) :: sl_pt mach (sp_machC m l) :: sl_pt l (64, L.map .int) :: (sl_pt (sw_nx P) (sp_chC pa mach ca ol (sp_chosen (N.map (·.2)) m L (sp_costs (N.map (·.2)) m L N.length) (B.map fun y => y.2.map (·.2))).2 4) :: sl_pt ca (64, (sp_costs (N.map (·.2)) m L N.length).map .int) :: (sl_prog ev pa N B T out ++ (sl_pt bd (3, [.null, .null, .null, .null, .ref ca, .int 0]) :: _)))) := s5.pp 14 [12, 0, 1, 4, 5, 2, 3, 6, 7, 8, 9, 10, 11, 13]
  have hM : M.length < 1000 := by rw [← m1, List.length_map] at ha; exact ha
  obtain ⟨P3, md, na, wt, NR, M', r3, m2, m3, m4, s7⟩ := jc_X6_init (D := D) (by omega) hg.2.2.1 hM (by rw [m1]; exact hr2) s6
  exact ⟨P1, ca, ol, P2, ml, M, P3, md, na, wt, NR, M', r1, q1, q2, r2, r3, m1, m2, m3, m4, ⟨sl_ne_nx q1 s1'.2.2.2.1, sl_ne_nx q2 s1'.2.2.2.1, sl_ne_nx (h.get 0 rfl) h.2.2.2.1, fun e => sl_ne_nx (h.get 0 rfl) h.2.2.2.1 e.symm⟩, s7.wk (by omega) (by omega)⟩
end
/-- the list of instructions as it is in force: in its own order, or as placed -/
def sp_pick (M : List (Nat × sp_Op)) (y : List Nat) : List (Nat × sp_Op) := y.map fun i => M.getD i (0, sp_oz)
theorem sp_pick_refs (M : List (Nat × sp_Op)) (y : List Nat) : ((sp_pick M y).map fun x => Value.ref x.1) = sp_mdR M y := by unfold sp_pick sp_mdR; rw [List.map_map]; rfl
theorem sp_pick_ops (M : List (Nat × sp_Op)) (y : List Nat) : (sp_pick M y).map (·.2) = y.map fun i => (M.map (·.2)).getD i sp_oz := by
  unfold sp_pick
  rw [List.map_map]
  refine List.map_congr_left fun i _ => ?_
  show (M.getD i (0, sp_oz)).2 = _
  rw [List.getD_eq_getElem?_getD, List.getD_eq_getElem?_getD, List.getElem?_map]
  cases M[i]? <;> rfl
theorem sp_pick_perm {M : List (Nat × sp_Op)} {y : List Nat} (h : y.Perm (List.range M.length)) : (sp_pick M y).Perm M := by
  refine (h.map _).trans (List.Perm.of_eq ?_)
  refine List.ext_getElem (by rw [List.length_map, List.length_range]) fun i h1 h2 => ?_
  rw [List.getElem_map, List.getElem_range, List.getD_eq_getElem?_getD, List.getElem?_eq_getElem h2]
  rfl
theorem sl_st.permall {α : Type} {ev : Nat → Nat} {c s : Nat} {P : sw_P} {A : α → sl_A} {l l' : List α} {F : List sl_A} (p : l.Perm l') (h : sl_st ev c s P (sl_all (l.map A) :: F)) : sl_st ev c s P (sl_all (l'.map A) :: F) :=
  sl_st.flat.mpr ((sl_st.flat.mp h).perm ((p.map A).append_right F))
def sp_plan (L : List Int32) (os : List sp_Op) (t : Int32) (y : List Nat) : List sp_Op := if t = 1 then sp_os L os else y.map fun i => (sp_os L os).getD i sp_oz
section
variable {ev : Nat → Nat} {mach l D c s od ml md na wt n : Nat} {M : List (Nat × sp_Op)} {NR : List (Nat × List Bool)} {L ws : List Int32} {os : List sp_Op} {nd : Nat → Nat → Bool} {t : Int32} {x y : List Nat × List Int32} {P : sw_P} {F R : List sl_A}
theorem sp_bdB (hD : 13 ≤ D) (hM : M.map (·.2) = sp_os L os) (h8 : NR.map (·.2) = (List.range M.length).map (sp_row nd)) (h9 : M.length < 150) (ht : t = 0 ∨ t = 1) (hws : ws.length = M.length) (hx : x = sp_pre nd (M.map (·.2)) M.length 0 ([], ws)) (hy : sp_lps nd (M.map (·.2)) (M.length + 1) 4 x = some y) (hp : y.1.Perm (List.range M.length))
    (h : sl_st ev c s P (sl_ls ev md [] :: (sl_ord ev od ml mach md na wt ws NR M ++ F))) :
    ∃ (P' : sw_P) (o2 : Nat) (M2 : List (Nat × sp_Op)) (G : List sl_A), sw_Z D m_X6_all [.ref od, .int t] P = some (.inl (some (.ref o2)), P') ∧ M2.map (·.2) = sp_plan L os t y.1 ∧ M2.length = M.length ∧ sl_st ev (c + sl_GA M.length) (s + sl_GS M.length) P' (sl_ls ev o2 (M2.map fun x => .ref x.1) :: sl_all (M2.map sl_opA) :: (F ++ G)) := by
  have hyl : y.1.length = M.length := by rw [hp.length_eq, List.length_range]
  rcases ht with rfl | rfl
  · have h' : sp_plS ev od ml mach md na wt NR M F c s P ([], ws) := by
      refine ⟨hws, ?_, h⟩
      intro i hi
      exact absurd hi List.not_mem_nil
    obtain ⟨P', r1, -, -, s1⟩ := jc_X6_all (nd := nd) hD h8 h9 hx hy h'
    rw [hyl] at s1
    have s2 : sl_st ev _ _ P' (sl_all (M.map sl_opA) :: sl_ls ev md (sp_mdR M y.1) :: sl_pt od (sp_odC ml mach md na wt) :: sl_pt wt (64, y.2.map .int) :: sl_pt na (69, NR.map fun x => .ref x.1) :: sl_all (NR.map sl_rowA) :: sl_ls ev ml (M.map fun x => .ref x.1) :: _) := s1.pp 7 [6, 0, 1, 2, 3, 4, 5]
    have s2' : sl_st ev _ _ P' (sl_all (M.map sl_opA) :: sl_ls ev md (sp_mdR M y.1) :: sl_pt od (sp_odC ml mach md na wt) :: sl_pt wt (64, y.2.map .int) :: sl_pt na (69, NR.map fun x => .ref x.1) :: sl_all (NR.map sl_rowA) :: sl_ls ev ml (M.map fun x => .ref x.1) :: F) := s2
    have s3 : sl_st ev _ _ P' (sl_ls ev md (sp_mdR M y.1) :: sl_all ((sp_pick M y.1).map sl_opA) :: ([sl_pt od (sp_odC ml mach md na wt), sl_pt wt (64, y.2.map .int), sl_pt na (69, NR.map fun x : Nat × List Bool => Value.ref x.1), sl_all (NR.map sl_rowA), sl_ls ev ml (M.map fun x : Nat × sp_Op => Value.ref x.1)] ++ F)) := (s2'.permall (sp_pick_perm hp).symm).pk [1]
    have s4 := s3.perm (List.Perm.cons _ (List.Perm.cons _ List.perm_append_comm))
    rw [← sp_pick_refs] at s4
    refine ⟨P', md, sp_pick M y.1, _, r1, ?_, ?_, s4⟩
    · rw [sp_pick_ops, hM]; unfold sp_plan; rw [if_neg (by decide)]
    · unfold sp_pick; rw [List.length_map, hyl]
  · have r1 := jc_X6_allT (x := x) (D := D) (fr := ml) (mach := mach) (md := md) (na := na) (wt := wt) (by omega) (h.get 1 rfl)
    have s2 : sl_st ev _ _ P (sl_ls ev ml (M.map fun x => .ref x.1) :: sl_all (M.map sl_opA) :: sl_ls ev md [] :: sl_pt od (sp_odC ml mach md na wt) :: sl_pt wt (64, ws.map .int) :: sl_pt na (69, NR.map fun x => .ref x.1) :: sl_all (NR.map sl_rowA) :: _) := h.pp 7 [5, 6, 0, 1, 2, 3, 4]
    have s3 : sl_st ev _ _ P (sl_ls ev ml (M.map fun x => .ref x.1) :: sl_all (M.map sl_opA) :: ([sl_ls ev md [], sl_pt od (sp_odC ml mach md na wt), sl_pt wt (64, ws.map .int), sl_pt na (69, NR.map fun x : Nat × List Bool => Value.ref x.1), sl_all (NR.map sl_rowA)] ++ F)) := s2
    have s4 := s3.perm (List.Perm.cons _ (List.Perm.cons _ List.perm_append_comm))
    refine ⟨P, ml, M, _, r1, ?_, rfl, s4.wk (by omega) (by omega)⟩
    rw [hM]; unfold sp_plan; rw [if_pos rfl]
end
