/-! ===== the component's plan of one program: lives, code, the run's tables ===== -/
theorem sl_st.nx0 {ev : Nat → Nat} {c s : Nat} {P : sw_P} {As : List sl_A} (h : sl_st ev c s P As) : ∀ a, sw_nx P ≤ a → sw_hp P a = none := h.2.2.2.1
section
variable {ev : Nat → Nat} {bd mach l D d c s o2 ca nv ns : Nat} {pa : sp_PA} {N : List (Nat × sp_Node)} {B : List sp_Blk} {M : List (Nat × sp_Op)} {m : sp_Mach} {L T : List Int32} {out : Int32} {P : sw_P} {R : List sl_A}
theorem sp_bdD (hD : 18 ≤ D) (hn : M.length < 130) (hnv : nv < 190) (hT : T.length = 4) (hM : ∀ x ∈ M, x.2.2.2.1.length < 100 ∧ (x.2.2.2.2.2.1 = -1 ∨ ∃ k, k < 4 ∧ x.2.2.2.2.2.1 = nI k)) (hm : 5 ≤ m.1.toNatClampNeg ∧ m.1.toNatClampNeg ≤ 11 ∧ m.1 = nI m.1.toNatClampNeg) (hw : sp_wok m (M.map (·.2)) nv)
    (hlv : ∀ Rw : sp_LR, Rw.map (·.2) = sp_lives m (M.map (·.2)) T out nv → sp_lvok M Rw T ∧ sp_vok M Rw) (hsl : sp_slots (sp_lives m (M.map (·.2)) T out nv) (sp_lives m (M.map (·.2)) T out nv).length = nI ns) (hns : ns < 1000)
    (h : sl_st ev c s P (sl_ls ev o2 (M.map fun x => .ref x.1) :: sl_all (M.map sl_opA) :: (sl_pt mach (sp_machC m l) :: sl_pt l (64, L.map .int) :: (sl_prog ev pa N B T out ++ (sl_pt bd (3, [.ref o2, .null, .null, .null, .ref ca, .int (nI nv)]) :: R))))) :
    ∃ (P1 : sw_P) (rw : Nat) (Rw : sp_LR) (P2 : sw_P) (cl : Nat) (P3 : sw_P) (K : List (Nat × sp_In)) (P4 : sw_P) (ra rb rs : Nat) (G : List sl_A),
      sw_Z D m_X8_init [.ref (sw_nx P), .ref o2, .ref pa.1, .ref mach, .int (nI nv)] (sw_new P (7, [.null, .null, .null, .null])) = some (.inl none, P1) ∧
      sw_hp P1 bd = some (3, [.ref o2, .null, .null, .null, .ref ca, .int (nI nv)]) ∧
      sw_Z D m_X10_init [.ref (sw_nx P1), .ref (sw_nx P), .ref mach] (sw_new (sw_set P1 bd (3, [.ref o2, .ref (sw_nx P), .null, .null, .ref ca, .int (nI nv)])) (9, [.null, .null, .null, .int 0])) = some (.inl none, P2) ∧
      sw_hp P2 bd = some (3, [.ref o2, .ref (sw_nx P), .null, .null, .ref ca, .int (nI nv)]) ∧
      sw_Z D m_X10_all [.ref (sw_nx P1), .ref o2] P2 = some (.inl (some (.ref cl)), P3) ∧
      sw_hp P3 bd = some (3, [.ref o2, .ref (sw_nx P), .null, .null, .ref ca, .int (nI nv)]) ∧
      sw_Z D m_X8_slots [.ref (sw_nx P)] (sw_new (sw_set P3 bd (3, [.ref o2, .ref (sw_nx P), .ref cl, .null, .ref ca, .int (nI nv)])) (11, [.null, .null, .null, .null, .int 0, .int 0, .int 0, .int 0])) = some (.inl (some (.int (nI ns))), sw_new (sw_set P3 bd (3, [.ref o2, .ref (sw_nx P), .ref cl, .null, .ref ca, .int (nI nv)])) (11, [.null, .null, .null, .null, .int 0, .int 0, .int 0, .int 0])) ∧
      sw_Z D m_X12_init [.ref (sw_nx P3), .ref mach, .int (nI ns)] (sw_new (sw_set P3 bd (3, [.ref o2, .ref (sw_nx P), .ref cl, .null, .ref ca, .int (nI nv)])) (11, [.null, .null, .null, .null, .int 0, .int 0, .int 0, .int 0])) = some (.inl none, P4) ∧
      sw_hp P4 bd = some (3, [.ref o2, .ref (sw_nx P), .ref cl, .null, .ref ca, .int (nI nv)]) ∧
      Rw.map (·.2) = sp_lives m (M.map (·.2)) T out nv ∧ K.map (·.2) = sp_code m (M.map (·.2)) (Rw.map (·.2)) M.length ∧
      (¬ bd = sw_nx P ∧ ¬ bd = sw_nx P1 ∧ ¬ bd = sw_nx P3 ∧ ¬ sw_nx P = sw_nx P3 ∧ sw_kd (sw_hp P2 (sw_nx P1)) 9 = true ∧ sw_kd (sw_hp P3 (sw_nx P)) 7 = true ∧ ¬ sw_nx P = bd) ∧
      sp_bdS ev bd o2 (sw_nx P) cl (sw_nx P3) ca (nI nv) mach ra rb rs l m L M pa N B T out (sl_pt (sw_nx P) (sp_lvC o2 pa.1 mach rw) :: sl_ls ev rw (Rw.map fun x => .ref x.1) :: sl_all (Rw.map (sl_lifeA (M.map (·.1)))) :: (G ++ R)) (c + 8 + (nv + sl_GA Rw.length) + (M.length + K.length + sl_GA K.length)) (s + 44 + (11 * nv + sl_GS Rw.length) + (3 * M.length + 7 * K.length + sl_GS K.length) + ns) (sw_set P4 bd (sp_bdC o2 (sw_nx P) cl (sw_nx P3) ca (nI nv))) (sp_rn0 ns, K.map (·.2)) := by
  obtain ⟨P1, rw', Rw, r1, m1, s1⟩ := jc_X8_init (D := D) (by omega) (by omega) hnv hT hM hm hw (h.new (7, [.null, .null, .null, .null]))
  obtain ⟨hok, hvk⟩ := hlv Rw m1
  have q1 := s1.get 13 rfl
  have s2 : sl_st ev _ _ (sw_new (sw_set P1 bd (3, [.ref o2, .ref (sw_nx P), .null, .null, .ref ca, .int (nI nv)])) (9, [.null, .null, .null, .int 0])) (sl_pt (sw_nx P1) (9, [.null, .null, .null, .int 0]) :: sl_cx ev (sw_nx P) o2 mach rw' M Rw m l L pa N B T out (sl_pt bd (3, [.ref o2, .ref (sw_nx P), .null, .null, .ref ca, .int (nI nv)]) :: R)) := (s1.set 13 (3, [.ref o2, .ref (sw_nx P), .null, .null, .ref ca, .int (nI nv)]) rfl).new (9, [.null, .null, .null, .int 0])
  obtain ⟨P2, cl, r2, s3⟩ := jc_X10_init (D := D) (lv := sw_nx P) (mach := mach) (by omega) s2
  have q2 := sl_st.get s3 16 rfl
  obtain ⟨P3, K, r3, m2, s4⟩ := jc_X10_all (D := D) (by omega) hok hn hvk s3
  have q3 := sl_st.get s4 16 rfl
  have s5 : sl_st ev _ _ (sw_new (sw_set P3 bd (3, [.ref o2, .ref (sw_nx P), .ref cl, .null, .ref ca, .int (nI nv)])) (11, [.null, .null, .null, .null, .int 0, .int 0, .int 0, .int 0])) (sl_pt (sw_nx P3) (11, [.null, .null, .null, .null, .int 0, .int 0, .int 0, .int 0]) :: sl_pt (sw_nx P1) (sp_wrC (sw_nx P) mach cl (nI M.length)) :: sl_ls ev cl (K.map fun x => .ref x.1) :: sl_all (K.map sl_inA) :: sl_cx ev (sw_nx P) o2 mach rw' M Rw m l L pa N B T out (sl_pt bd (3, [.ref o2, .ref (sw_nx P), .ref cl, .null, .ref ca, .int (nI nv)]) :: R)) := (sl_st.set s4 16 (3, [.ref o2, .ref (sw_nx P), .ref cl, .null, .ref ca, .int (nI nv)]) rfl).new (11, [.null, .null, .null, .null, .int 0, .int 0, .int 0, .int 0])
  have r4 := jc_X8_slots (D := D) (by omega) (sl_lvs_rd (sl_st.rd s5).2.2.2.2) hok
  have hlen : Rw.length = (sp_lives m (M.map (·.2)) T out nv).length := by rw [← m1, List.length_map]
  rw [m1, hlen, hsl] at r4
  obtain ⟨P4, ra, rb, rs, r5, s6⟩ := jc_X12_init (D := D) (ns := ns) (mach := mach) (by omega) hns s5
  have q4 := s6.get 20 rfl
  have s7 := s6.set 20 (sp_bdC o2 (sw_nx P) cl (sw_nx P3) ca (nI nv)) rfl
  have s8 : sl_st ev _ _ (sw_set P4 bd (sp_bdC o2 (sw_nx P) cl (sw_nx P3) ca (nI nv))) (sl_rnA ev (sw_nx P3) mach ra rb rs (sp_rn0 ns) cl K o2 M ++ (sl_pt mach (sp_machC m l) :: sl_pt l (64, L.map .int) :: (sl_pt bd (sp_bdC o2 (sw_nx P) cl (sw_nx P3) ca (nI nv)) :: (sl_prog ev pa N B T out ++ (sl_pt (sw_nx P) (sp_lvC o2 pa.1 mach rw') :: sl_ls ev rw' (Rw.map fun x => .ref x.1) :: sl_all (Rw.map (sl_lifeA (M.map (·.1)))) :: ([sl_pt (sw_nx P1) (sp_wrC (sw_nx P) mach cl (nI M.length))] ++ _)))))) := s7.pp 21 [0, 1, 2, 3, 5, 6, 8, 9, 12, 13, 20, 14, 15, 16, 17, 18, 19, 7, 10, 11, 4]
  refine ⟨P1, rw', Rw, P2, cl, P3, K, P4, ra, rb, rs, [sl_pt (sw_nx P1) (sp_wrC (sw_nx P) mach cl (nI M.length))], r1, q1, r2, q2, r3, q3, r4, r5, q4, m1, m2, ⟨sl_ne_nx (h.get 10 rfl) h.2.2.2.1, sl_ne_nx q1 s1.2.2.2.1, sl_ne_nx q3 (sl_st.nx0 s4), sl_ne_nx (sl_st.get s4 3 rfl) (sl_st.nx0 s4), by rw [sl_st.get s3 0 rfl]; rfl, by rw [sl_st.get s4 3 rfl]; rfl, fun e => sl_ne_nx (h.get 10 rfl) h.2.2.2.1 e.symm⟩, K, rfl, s8.wk ?_ ?_⟩
  · have e : ([] : List (Nat × sp_In)).length = 0 := rfl
    show _ + 3 ≤ _
    omega
  · have e7 : ((7, [.null, .null, .null, .null]) : sw_O).2.length = 4 := rfl
    have e9 : ((9, [.null, .null, .null, .int 0]) : sw_O).2.length = 4 := rfl
    have e11 : ((11, [.null, .null, .null, .null, .int 0, .int 0, .int 0, .int 0]) : sw_O).2.length = 8 := rfl
    show _ + 22 + ns ≤ _
    omega
end
