/-! ===== the program, changed ===== -/
section
variable {ev : Nat → Nat} {D d c s i : Nat} {pa : sp_PA} {N : List (Nat × sp_Node)} {B : List sp_Blk} {T : List Int32} {out : Int32} {F : List sl_A} {P : sw_P}
theorem sl_prog_fl {y : Nat × sp_Node} (h : sl_st ev c s P (sl_prog ev pa N B T out ++ F)) (hy : N[i]? = some y) (z : sp_Node) : sl_st ev c s (sw_set P y.1 (sp_nodeC ev z)) (sl_prog ev pa (N.set i (y.1, z)) B T out ++ F) := by
  have h1 : sl_st ev c s P (sl_all (N.map fun x => sl_pt x.1 (sp_nodeC ev x.2)) :: (sl_pt pa.1 (1, [.ref pa.2.1, .ref pa.2.2.1, .ref pa.2.2.2, .int out]) :: sl_ls ev pa.2.1 (N.map fun x => .ref x.1) :: sl_ls ev pa.2.2.1 (B.map fun y => .ref y.1) :: sl_all (B.map fun y => sl_all (sl_blk ev y)) :: sl_pt pa.2.2.2 (64, T.map .int) :: F)) := h.pp 6 [2, 0, 1, 3, 4, 5]
  have h2 := (sl_st.pickall (A := fun x : Nat × sp_Node => sl_pt x.1 (sp_nodeC ev x.2)) h1 hy).set0 (sp_nodeC ev z)
  have h3 := sl_st.putall (A := fun x : Nat × sp_Node => sl_pt x.1 (sp_nodeC ev x.2)) (y := (y.1, z)) hy h2
  rw [← sl_refs_set N i y z hy] at h3
  exact h3.pp 6 [1, 2, 0, 3, 4, 5]
theorem sl_prog_out (h : sl_st ev c s P (sl_prog ev pa N B T out ++ F)) (v : Int32) : sl_st ev c s (sw_set P pa.1 (1, [.ref pa.2.1, .ref pa.2.2.1, .ref pa.2.2.2, .int v])) (sl_prog ev pa N B T v ++ F) := h.set 0 _ rfl
theorem sl_prog_tim (h : sl_st ev c s P (sl_prog ev pa N B T out ++ F)) (T' : List Int32) : sl_st ev c s (sw_set P pa.2.2.2 (64, T'.map .int)) (sl_prog ev pa N B T' out ++ F) := h.set 5 _ rfl
theorem sl_prog_add {a : Nat} {z : sp_Node} (hD : 8 ≤ D) (hN : N.length < 1000) (h : sl_st ev c s P (sl_pt a (sp_nodeC ev z) :: (sl_prog ev pa N B T out ++ F))) :
    ∃ P', sw_Z D m_J2_add [.ref pa.2.1, .ref a] P = some (.inl (some (.int 1)), P') ∧ sl_st ev (c + sl_gA N.length) (s + sl_gS N.length) P' (sl_prog ev pa (N ++ [(a, z)]) B T out ++ F) := by
  have h1 : sl_st ev c s P (sl_ls ev pa.2.1 (N.map fun x => .ref x.1) :: sl_pt a (sp_nodeC ev z) :: sl_all (N.map fun x => sl_pt x.1 (sp_nodeC ev x.2)) :: sl_pt pa.1 (1, [.ref pa.2.1, .ref pa.2.2.1, .ref pa.2.2.2, .int out]) :: sl_ls ev pa.2.2.1 (B.map fun y => .ref y.1) :: sl_all (B.map fun y => sl_all (sl_blk ev y)) :: sl_pt pa.2.2.2 (64, T.map .int) :: F) := h.pp 7 [2, 0, 3, 1, 4, 5, 6]
  have hel : ∀ v ∈ (N.map fun x => Value.ref x.1), sw_el P sw_k67 v = true := by
    intro v hv
    obtain ⟨y, hy, rfl⟩ := List.mem_map.mp hv
    have hr := sl_rds_mem (sl_rd_all (h1.at 2 rfl)) _ (List.mem_map.mpr ⟨y, hy, rfl⟩)
    rw [sw_el_r, sl_rd_pt.mp hr]
    exact sl_k67 _ (show 15 ∈ sw_k67 by decide)
  obtain ⟨P', r1, r2⟩ := jc_J2_add (D := D) (b := a) hD h1 (by rw [List.length_map]; exact hN) hel (by rw [h1.get 1 rfl]; exact sl_k67 _ (show 15 ∈ sw_k67 by decide))
  rw [List.length_map] at r2
  have r3 : sl_st ev _ _ P' (sl_pt a (sp_nodeC ev z) :: sl_all (N.map fun x => sl_pt x.1 (sp_nodeC ev x.2)) :: sl_ls ev pa.2.1 ((N.map fun x => .ref x.1) ++ [.ref a]) :: sl_pt pa.1 (1, [.ref pa.2.1, .ref pa.2.2.1, .ref pa.2.2.2, .int out]) :: sl_ls ev pa.2.2.1 (B.map fun y => .ref y.1) :: sl_all (B.map fun y => sl_all (sl_blk ev y)) :: sl_pt pa.2.2.2 (64, T.map .int) :: F) := r2.pk [1, 1]
  have r4 := sl_st.push (A := fun x : Nat × sp_Node => sl_pt x.1 (sp_nodeC ev x.2)) (y := (a, z)) r3
  rw [show ((N.map fun x => Value.ref x.1) ++ [.ref a]) = (N ++ [(a, z)]).map fun x => .ref x.1 by rw [List.map_append]; rfl] at r4
  exact ⟨P', r1, r4.pp 6 [2, 1, 0, 3, 4, 5]⟩
theorem sl_blk_app (a : Nat) (x : sp_Stm) (y : List (Nat × sp_Stm)) (R : List sl_A) : (y.map fun x => sl_pt x.1 (sp_stmC x.2)) ++ (sl_pt a (sp_stmC x) :: R) = ((y ++ [(a, x)]).map fun x => sl_pt x.1 (sp_stmC x.2)) ++ R := by
  rw [List.map_append, List.append_assoc]; rfl
theorem sl_prog_stm {a : Nat} {z : sp_Stm} {y : sp_Blk} (hD : 8 ≤ D) (hy : B[i]? = some y) (hl : y.2.length < 1000) (h : sl_st ev c s P (sl_pt a (sp_stmC z) :: (sl_prog ev pa N B T out ++ F))) :
    ∃ P', sw_Z D m_J2_add [.ref y.1, .ref a] P = some (.inl (some (.int 1)), P') ∧ sl_st ev (c + sl_gA y.2.length) (s + sl_gS y.2.length) P' (sl_prog ev pa N (B.set i (y.1, y.2 ++ [(a, z)])) T out ++ F) := by
  have h1 : sl_st ev c s P (sl_all (B.map fun y => sl_all (sl_blk ev y)) :: (sl_pt a (sp_stmC z) :: sl_pt pa.1 (1, [.ref pa.2.1, .ref pa.2.2.1, .ref pa.2.2.2, .int out]) :: sl_ls ev pa.2.1 (N.map fun x => .ref x.1) :: sl_all (N.map fun x => sl_pt x.1 (sp_nodeC ev x.2)) :: sl_ls ev pa.2.2.1 (B.map fun y => .ref y.1) :: sl_pt pa.2.2.2 (64, T.map .int) :: F)) := h.pp 7 [5, 0, 1, 2, 3, 4, 6]
  have h2 := sl_st.flat.mp (sl_st.pickall (A := fun y : sp_Blk => sl_all (sl_blk ev y)) h1 hy)
  have h3 : sl_st ev c s P (sl_ls ev y.1 (y.2.map fun x => .ref x.1) :: ((y.2.map fun x => sl_pt x.1 (sp_stmC x.2)) ++ (sl_all ((B.eraseIdx i).map fun y => sl_all (sl_blk ev y)) :: (sl_pt a (sp_stmC z) :: sl_pt pa.1 (1, [.ref pa.2.1, .ref pa.2.2.1, .ref pa.2.2.2, .int out]) :: sl_ls ev pa.2.1 (N.map fun x => .ref x.1) :: sl_all (N.map fun x => sl_pt x.1 (sp_nodeC ev x.2)) :: sl_ls ev pa.2.2.1 (B.map fun y => .ref y.1) :: sl_pt pa.2.2.2 (64, T.map .int) :: F)))) := h2
  have h4 : sl_st ev c s P (sl_ls ev y.1 (y.2.map fun x => .ref x.1) :: ((y.2.map fun x => sl_pt x.1 (sp_stmC x.2)) ++ (sl_pt a (sp_stmC z) :: (sl_all ((B.eraseIdx i).map fun y => sl_all (sl_blk ev y)) :: sl_pt pa.1 (1, [.ref pa.2.1, .ref pa.2.2.1, .ref pa.2.2.2, .int out]) :: sl_ls ev pa.2.1 (N.map fun x => .ref x.1) :: sl_all (N.map fun x => sl_pt x.1 (sp_nodeC ev x.2)) :: sl_ls ev pa.2.2.1 (B.map fun y => .ref y.1) :: sl_pt pa.2.2.2 (64, T.map .int) :: F)))) := h3.perm (List.Perm.cons _ (List.Perm.append_left _ (List.Perm.swap _ _ _)))
  rw [sl_blk_app] at h4
  have hat : sw_hp P a = some (sp_stmC z) := h.get 0 rfl
  have hel : ∀ v ∈ (y.2.map fun x => Value.ref x.1), sw_el P sw_k67 v = true := by
    intro v hv
    obtain ⟨w, hw, rfl⟩ := List.mem_map.mp hv
    have hr := sl_rds_mem (sl_rds_append.mp h3.rd.2).1 _ (List.mem_map.mpr ⟨w, hw, rfl⟩)
    rw [sw_el_r, sl_rd_pt.mp hr]
    exact sl_k67 _ (show 17 ∈ sw_k67 by decide)
  obtain ⟨P', r1, r2⟩ := jc_J2_add (D := D) (b := a) hD h4 (by rw [List.length_map]; exact hl) hel (by rw [hat]; exact sl_k67 _ (show 17 ∈ sw_k67 by decide))
  rw [List.length_map, show ((y.2.map fun x => Value.ref x.1) ++ [.ref a]) = (y.2 ++ [(a, z)]).map fun x => .ref x.1 by rw [List.map_append]; rfl] at r2
  have r3 : sl_st ev _ _ P' (sl_blk ev (y.1, y.2 ++ [(a, z)]) ++ (sl_all ((B.eraseIdx i).map fun y => sl_all (sl_blk ev y)) :: sl_pt pa.1 (1, [.ref pa.2.1, .ref pa.2.2.1, .ref pa.2.2.2, .int out]) :: sl_ls ev pa.2.1 (N.map fun x => .ref x.1) :: sl_all (N.map fun x => sl_pt x.1 (sp_nodeC ev x.2)) :: sl_ls ev pa.2.2.1 (B.map fun y => .ref y.1) :: sl_pt pa.2.2.2 (64, T.map .int) :: F)) := r2
  have r4 := sl_st.putall (A := fun y : sp_Blk => sl_all (sl_blk ev y)) (y := (y.1, y.2 ++ [(a, z)])) hy (sl_st.flat.mpr r3)
  rw [← sl_refs_set B i y (y.2 ++ [(a, z)]) hy] at r4
  exact ⟨P', r1, r4.pp 6 [1, 2, 3, 4, 0, 5]⟩
theorem sl_prog_tak {a : Nat} {z : sp_Stm} {y : sp_Blk} {ys : List (Nat × sp_Stm)} (hD : 3 ≤ D) (hy : B[i]? = some y) (hys : y.2 = ys ++ [(a, z)]) (hl : ys.length < 1000) (h : sl_st ev c s P (sl_prog ev pa N B T out ++ F)) :
    ∃ P', sw_Z D m_J2_remove [.ref y.1, .int (nI ys.length)] P = some (.inl (some (.ref a)), P') ∧ sl_st ev c s P' (sl_prog ev pa N (B.set i (y.1, ys)) T out ++ F) := by
  have h1 : sl_st ev c s P (sl_all (B.map fun y => sl_all (sl_blk ev y)) :: (sl_pt pa.1 (1, [.ref pa.2.1, .ref pa.2.2.1, .ref pa.2.2.2, .int out]) :: sl_ls ev pa.2.1 (N.map fun x => .ref x.1) :: sl_all (N.map fun x => sl_pt x.1 (sp_nodeC ev x.2)) :: sl_ls ev pa.2.2.1 (B.map fun y => .ref y.1) :: sl_pt pa.2.2.2 (64, T.map .int) :: F)) := h.pp 6 [4, 0, 1, 2, 3, 5]
  have h2 := sl_st.flat.mp (sl_st.pickall (A := fun y : sp_Blk => sl_all (sl_blk ev y)) h1 hy)
  have h3 : sl_st ev c s P (sl_ls ev y.1 (y.2.map fun x => .ref x.1) :: ((y.2.map fun x => sl_pt x.1 (sp_stmC x.2)) ++ (sl_all ((B.eraseIdx i).map fun y => sl_all (sl_blk ev y)) :: (sl_pt pa.1 (1, [.ref pa.2.1, .ref pa.2.2.1, .ref pa.2.2.2, .int out]) :: sl_ls ev pa.2.1 (N.map fun x => .ref x.1) :: sl_all (N.map fun x => sl_pt x.1 (sp_nodeC ev x.2)) :: sl_ls ev pa.2.2.1 (B.map fun y => .ref y.1) :: sl_pt pa.2.2.2 (64, T.map .int) :: F)))) := h2
  rw [hys, ← sl_blk_app, List.map_append] at h3
  have h4 : sl_st ev c s P (sl_ls ev y.1 ((ys.map fun x => .ref x.1) ++ [.ref a]) :: ((ys.map fun x => sl_pt x.1 (sp_stmC x.2)) ++ (sl_pt a (sp_stmC z) :: (sl_all ((B.eraseIdx i).map fun y => sl_all (sl_blk ev y)) :: sl_pt pa.1 (1, [.ref pa.2.1, .ref pa.2.2.1, .ref pa.2.2.2, .int out]) :: sl_ls ev pa.2.1 (N.map fun x => .ref x.1) :: sl_all (N.map fun x => sl_pt x.1 (sp_nodeC ev x.2)) :: sl_ls ev pa.2.2.1 (B.map fun y => .ref y.1) :: sl_pt pa.2.2.2 (64, T.map .int) :: F)))) := h3
  obtain ⟨P', r1, r2⟩ := jc_J2_remove (D := D) (b := a) hD h4 (by rw [List.length_map]; omega)
  rw [List.length_map] at r1
  have r3 := (r2.perm ((List.perm_middle (l₁ := (sl_ls ev y.1 (ys.map fun (x : Nat × sp_Stm) => Value.ref x.1) :: (ys.map fun (x : Nat × sp_Stm) => sl_pt x.1 (sp_stmC x.2))))))).drop
  have r4 : sl_st ev _ _ P' (sl_blk ev (y.1, ys) ++ (sl_all ((B.eraseIdx i).map fun y => sl_all (sl_blk ev y)) :: sl_pt pa.1 (1, [.ref pa.2.1, .ref pa.2.2.1, .ref pa.2.2.2, .int out]) :: sl_ls ev pa.2.1 (N.map fun x => .ref x.1) :: sl_all (N.map fun x => sl_pt x.1 (sp_nodeC ev x.2)) :: sl_ls ev pa.2.2.1 (B.map fun y => .ref y.1) :: sl_pt pa.2.2.2 (64, T.map .int) :: F)) := r3
  have r5 := sl_st.putall (A := fun y : sp_Blk => sl_all (sl_blk ev y)) (y := (y.1, ys)) hy (sl_st.flat.mpr r4)
  rw [← sl_refs_set B i y ys hy] at r5
  exact ⟨P', r1, r5.pp 6 [1, 2, 3, 4, 0, 5]⟩
end
