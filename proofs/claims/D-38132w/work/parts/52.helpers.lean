/-! ===== the law's helpers ===== -/
def sw_NCl : List (Nat × Nat) := [(0, 1), (0, 2), (1, 0), (1, 2), (2, 0), (2, 1)]
/-- the three classes of exceptions are no subclasses of each other -/
def sw_NC (U : State) : Prop := ∀ q ∈ sw_NCl, va_Nc (sw_exn q.1) (sw_exn q.2) U
theorem sw_NC.moved {u U : State} (hvm : u.vm.Alike U.vm) (h : sw_NC u) : sw_NC U := fun q hq => (h q hq).moved hvm
def sw_B1 (l : Launch) (D : sw_D) (A : Nat → Prop) (P : sw_P) (U : State) : Prop := sw_B0 l D A P U ∧ sw_NC U
theorem sw_blind1 {l : Launch} {D : sw_D} {A : Nat → Prop} {P : sw_P} {as : List Value} : FrameBlind (va_Pc as (sw_B1 l D A P)) := by
  rintro a U g mk ⟨h1, h2, h3⟩
  obtain ⟨h4, h5⟩ := sw_blind (l := l) (D := D) (A := A) (P := P) (as := as) a U g mk ⟨h1, h2⟩
  exact ⟨h4, h5, h3.moved (u := U) (U := U.calling g mk a) (Vm.Alike.refl U.vm)⟩
abbrev sw_NH : Type := MethodName × ByteArray × Nat × List (Nat × Nat × Nat × Nat)
/-- a contract of a method with handlers -/
def sw_MtH (l : Launch) (nm : sw_NH) (d : Nat) (as : List Value) (P : sw_P) (r : sw_R) : Prop := sw_mo P r.2 ∧ ∀ (D : sw_D) (A : Nat → Prop), vx_Met l nm.1 (Cond.codeWith nm.1 nm.2.1 nm.2.2.1 (some .int) nm.2.2.2 :: lw_all) (sw_rm d P r) (va_Pc as (sw_B1 l D A P)) (sw_Qc D A r) (sw_XC D A r) (sw_nx r.2 - sw_nx P) (sw_sl r.2 - sw_sl P) A
def sw_OkH (l : Launch) (nm : sw_NH) (B : sw_B) (bp : Nat → Nat) : Prop :=
  plainName nm.1.cls = true ∧ bp 0 = 0 ∧ Cond.codeWith nm.1 nm.2.1 nm.2.2.1 (some .int) nm.2.2.2 ∈ lw_all ∧
  ∀ (p : Program) (e : Env) (R : Room) (s : State) (m : MethodId) (args : Array Value) (below : List Frame) (meth : Method) (c : Code) (Q : State → Prop) (D : sw_D) (A : Nat → Prop) (N0 K0 NE KE d : Nat) (cf : sw_F) (rf : sw_R),
    sw_X p l e R s m args below meth c D A nm.1.cls nm.2.1 nm.2.2.1 (some .int) N0 K0 NE KE d → sw_Ct l sw_TN cf d → (∃ v, rf.1 = .inl v) → sw_QR s args below Q D A N0 K0 NE KE rf → c.exceptionTable.toList = tableOf nm.2.2.2 → sw_NC s →
    ∀ n, sw_Gd (sw_J p l e R s m args below meth c Q D A nm.2.2.1 N0 K0) cf bp NE KE rf (B n) (bp n)
theorem sw_bodyH {l : Launch} {nm : sw_NH} {B : sw_B} {bp : Nat → Nat} (hk : sw_OkH l nm B bp) {p : Program} {e : Env} {R : Room} {s : State} {m : MethodId} {args : Array Value} {below : List Frame} {meth : Method} {c : Code} {D : sw_D} {A : Nat → Prop} {d : Nat} {cf : sw_F} {rf : sw_R} {as : List Value} {P : sw_P}
    (hX : sw_X p l e R s m args below meth c D A nm.1.cls nm.2.1 nm.2.2.1 (some .int) (sw_nx P) (sw_sl P) (sw_nx rf.2) (sw_sl rf.2) d) (hC : sw_Ct l sw_TN cf d) (hv : ∃ v, rf.1 = .inl v) (ht : c.exceptionTable.toList = tableOf nm.2.2.2) (hN : sw_NC s) (hrun : sw_at cf B 0 (sw_en nm.2.2.1 as) [] P = some rf) :
    sw_mo P rf.2 ∧ sw_J p l e R s m args below meth c (vx_MQ below (sw_Qc D A rf) (sw_XC D A rf) args s (sw_nx rf.2 - sw_nx P) (sw_sl rf.2 - sw_sl P) A) D A nm.2.2.1 (sw_nx P) (sw_sl P) 0 (sw_en nm.2.2.1 as) [] P := by
  obtain ⟨-, h0, -, hG⟩ := hk
  have hg := hG p e R s m args below meth c _ D A _ _ _ _ d cf rf hX hC hv ⟨rfl, rfl, rfl⟩ ht hN
  obtain ⟨n, hn⟩ := sw_exC_iff.mp (show sw_exC cf B (B 0, sw_en nm.2.2.1 as, [], P) = some rf from hrun)
  have h := sw_sound hg rfl rfl n (B 0) (bp 0) _ _ _ (hg 0) hn
  rw [h0] at h
  exact h
def sw_WitH (l : Launch) : Prop := ∃ (p : Program) (e : Env) (s : State) (args : Array Value) (D : sw_D) (A : Nat → Prop), p.tables.exec = Jvm.exec ∧ (∀ w ∈ lw_all, w.before args s = true) ∧ sw_ST l D A s s.heap ∧ (∀ q : Nat, s.heap.size ≤ q → A q) ∧ sw_NC s
theorem sw_WitH.wit {l : Launch} (h : sw_WitH l) : sw_Wit l := by
  obtain ⟨p, e, s, args, D, A, h1, h2, h3, h4, -⟩ := h
  exact ⟨p, e, s, args, D, A, h1, h2, h3, h4⟩
/-- what a helper comes to at a depth -/
noncomputable def sw_H (nm : sw_NH) (B : sw_B) (d : Nat) (as : List Value) (P : sw_P) : Option sw_R := if sw_wd nm.2.2.1 as = true then sw_at (sw_Z d) B 0 (sw_en nm.2.2.1 as) [] P else none
theorem sw_mainH {l : Launch} (hW : sw_WitH l) {nm : sw_NH} {B : sw_B} {bp : Nat → Nat} (hk : sw_OkH l nm B bp) {d : Nat} {as : List Value} {P : sw_P} {r : sw_R} (h' : sw_H nm B d as P = some r) (hv : ∃ v, r.1 = .inl v) : sw_MtH l nm (d + 1) as P r := by
  have ih := sw_bridge hW.wit d
  unfold sw_H at h'
  by_cases hwd : sw_wd nm.2.2.1 as = true
  · rw [if_pos hwd] at h'
    refine ⟨?_, fun D A => ?_⟩
    · obtain ⟨p, e, s, args, D, A, hexec, hts, hST, hA, hN⟩ := hW
      obtain ⟨m9, meth, c, hn9, h1, h2, h3, h4, h8, h5, h6, -⟩ := Cond.codeWith_spec (hts _ hk.2.2.1)
      exact (sw_bodyH (p := p) (e := e) (R := { frames := d + 9, cells := sw_nx r.2 - sw_nx P, slots := sw_sl r.2 - sw_sl P, locals := 48 * d + 448 }) (args := args) (below := []) hk ⟨hexec, h3, h4, findClass_of_methodNamed hn9, hts, h5, h6, hST, hA, rfl, rfl, Nat.le_refl _, Nat.le_refl _⟩ ih hv (by rw [← h8, table_eq]) hN h').1
    · refine vx_ofWH (ret := some .int) hk.1 rfl (fun p e s m args below meth c s₁ B9 hml hP => ?_)
      obtain ⟨rfl, ⟨hHP, hST, hA⟩, hN⟩ := hP
      have hts : ∀ w ∈ lw_all, w.before as.toArray s = true := fun w hw => atoms_spec (ws := Cond.codeWith nm.1 nm.2.1 nm.2.2.1 (some .int) nm.2.2.2 :: lw_all) B9.pre w (List.mem_cons_of_mem _ hw)
      have hb := (sw_bodyH (e := e) (below := below) (R := (headSpec (Cond.codeWith nm.1 nm.2.1 nm.2.2.1 (some .int) nm.2.2.2 :: lw_all) (sw_rm (d + 1) P r)).room) hk ⟨B9.exec, B9.bytes, hml, findClass_of_methodNamed B9.named, hts, B9.returns, B9.notSynchronized, hST, hA, rfl, rfl, Nat.le_of_eq (by show d + 9 = d + 1 + 8; omega), Nat.le_of_eq (Nat.add_assoc (48 * d) 48 400).symm⟩ ih hv (vx_table (x := nm.1) B9 (hts _ hk.2.2.1)) hN h').2 (Nat.le_refl _) (Nat.le_refl _) _ s.heap [] (sw_lv_en hwd) hHP va_S.rf
      rw [Nat.sub_self, Nat.sub_self] at hb
      rw [lg_entry_eq]
      exact hb
  · rw [if_neg hwd] at h'; cases h'

theorem sw_cw0 : Cond.castable (sw_exn 0) (sw_exn 0) ∈ sw_wC := by decide +kernel
theorem sw_cw1 : Cond.castable (sw_exn 1) (sw_exn 1) ∈ sw_wC := by decide +kernel
theorem sw_cw2 : Cond.castable (sw_exn 2) (sw_exn 2) ∈ sw_wC := by decide +kernel
def bb_X0_machine_0 : List sw_I := [sw_ld 2 6, sw_push (.int 0), sw_ld 2 0, sw_ld 0 1, sw_ld 0 2, sw_ld 0 3, sw_ld 0 4, sw_ld 0 5, sw_cvh 0 m_X1_machine 5 [(0, 1)], sw_i2l, sw_ast 66, sw_goto 2 []]
def b_X0_machine : sw_B := fun n => match n with
  | 0 => bb_X0_machine_0
  | 1 => [sw_push (.int 1), sw_rv 0]
  | 2 => [sw_push (.int 0), sw_rv 0]
  | _ => []
def bp_X0_machine : Nat → Nat := fun n => match n with
  | 0 => 0
  | 1 => 21
  | 2 => 23
  | _ => 0
abbrev NH_X0_machine : sw_NH := (yX0_machine, cX0_machine, 8, [(0, 16, 19, 13)])
theorem hd_X0_machine {s : State} (hN : sw_NC s) : ∀ k j, sw_jf k [(0, 1)] = some j → sw_Hnd "SpillslotWorksLaw" cX0_machine 8 s (tableOf NH_X0_machine.2.2.2) 11 k (bp_X0_machine j) := by
  intro k j h
  simp only [sw_jf_c, sw_jf_e] at h
  by_cases e0 : k = 0
  · subst e0
    have h9 : j = 1 := by simpa using h.symm
    subst h9
    exact ⟨[], [], ⟨0, 16, 19, 13⟩, rfl, List.forall_mem_nil _, by decide, by decide, q1560, sw_cw0, Or.inl ⟨7, dX0_machine_19, by decide, rfl⟩⟩
  · rw [if_neg e0] at h
    cases h
theorem gd_X0_machine_0 {p : Program} {l : Launch} {e : Env} {R : Room} {s : State} {m : MethodId} {args : Array Value} {below : List Frame} {meth : Method} {c : Code} {Q : State → Prop} {D : sw_D} {A : Nat → Prop} {N0 K0 NE KE d : Nat} {cf : sw_F} {rf : sw_R} (hX : sw_X p l e R s m args below meth c D A "SpillslotWorksLaw" cX0_machine 8 (some .int) N0 K0 NE KE d) (hC : sw_Ct l sw_TN cf d) (hv : ∃ v, rf.1 = .inl v) (hQ : sw_QR s args below Q D A N0 K0 NE KE rf) (ht : c.exceptionTable.toList = tableOf NH_X0_machine.2.2.2) (hN : sw_NC s) : sw_Gd (sw_J p l e R s m args below meth c Q D A 8 N0 K0) cf bp_X0_machine NE KE rf bb_X0_machine_0 0 :=
  sw_gcn 2 (Sd_aload hX dX0_machine_0) (sw_gcn 3 (Sd_iconst hX dX0_machine_2 (by decide)) (sw_gcn 4 (Sd_aload_n hX dX0_machine_3 rfl) (sw_gcn 5 (Sd_iload_n hX dX0_machine_4 rfl) (sw_gcn 6 (Sd_iload_n hX dX0_machine_5 rfl) (sw_gcn 7 (Sd_iload_n hX dX0_machine_6 rfl) (sw_gcn 9 (Sd_iload hX dX0_machine_7) (sw_gcn 11 (Sd_iload hX dX0_machine_9) (sw_gcn 14 (Sd_cvh hX hC hv ht (hd_X0_machine hN) (y := m_X1_machine) (nm := N_X1_machine) rfl (k := 0) (by decide) mf_X1_machine dX0_machine_11 q1561 q1562 q1563) (sw_gcn 15 (Sd_i2l hX dX0_machine_14) (sw_gcn 16 (Sd_lastore hX dX0_machine_15) (sw_gcn 19 (Sd_goto hX dX0_machine_16 (by decide) rfl) sw_gn)))))))))))
theorem ok_X0_machine {l : Launch} : sw_OkH l NH_X0_machine b_X0_machine bp_X0_machine := ⟨by decide +kernel, rfl, q1559, fun _ _ _ _ _ _ _ _ _ _ _ _ _ _ _ _ _ _ _ hX hC hv hQ ht hN => fun n => match n with
  | 0 => gd_X0_machine_0 hX hC hv hQ ht hN
  | 1 => sw_gcn 22 (Sd_iconst hX dX0_machine_21 (by decide)) (sw_gcn 23 (Sd_ireturn hX hQ dX0_machine_22 rfl) sw_gn)
  | 2 => sw_gcn 24 (Sd_iconst hX dX0_machine_23 (by decide)) (sw_gcn 25 (Sd_ireturn hX hQ dX0_machine_24 rfl) sw_gn)
  | _ + 3 => trivial⟩
def bb_X0_latency_0 : List sw_I := [sw_ld 2 3, sw_push (.int 0), sw_ld 2 0, sw_ld 0 1, sw_ld 0 2, sw_cvh 0 m_X1_latency 2 [(2, 1), (0, 2)], sw_i2l, sw_ast 66, sw_goto 3 []]
def b_X0_latency : sw_B := fun n => match n with
  | 0 => bb_X0_latency_0
  | 1 => [sw_push (.int 1), sw_rv 0]
  | 2 => [sw_push (.int 2), sw_rv 0]
  | 3 => [sw_push (.int 0), sw_rv 0]
  | _ => []
def bp_X0_latency : Nat → Nat := fun n => match n with
  | 0 => 0
  | 1 => 15
  | 2 => 19
  | 3 => 21
  | _ => 0
abbrev NH_X0_latency : sw_NH := (yX0_latency, cX0_latency, 5, [(0, 10, 13, 19), (0, 10, 17, 13)])
theorem hd_X0_latency {s : State} (hN : sw_NC s) : ∀ k j, sw_jf k [(2, 1), (0, 2)] = some j → sw_Hnd "SpillslotWorksLaw" cX0_latency 5 s (tableOf NH_X0_latency.2.2.2) 5 k (bp_X0_latency j) := by
  intro k j h
  simp only [sw_jf_c, sw_jf_e] at h
  by_cases e0 : k = 2
  · subst e0
    have h9 : j = 1 := by simpa using h.symm
    subst h9
    exact ⟨[], [⟨0, 10, 17, 13⟩], ⟨0, 10, 13, 19⟩, rfl, List.forall_mem_nil _, by decide, by decide, q1592, sw_cw2, Or.inl ⟨4, dX0_latency_13, by decide, rfl⟩⟩
  · rw [if_neg e0] at h
    by_cases e1 : k = 0
    · subst e1
      have h9 : j = 2 := by simpa using h.symm
      subst h9
      exact ⟨[⟨0, 10, 13, 19⟩], [], ⟨0, 10, 17, 13⟩, rfl, List.forall_mem_cons.mpr ⟨Or.inr ⟨by decide, sw_exn 2, q1592, hN (0, 2) (by decide)⟩, List.forall_mem_nil _⟩, by decide, by decide, q1560, sw_cw0, Or.inl ⟨4, dX0_latency_17, by decide, rfl⟩⟩
    · rw [if_neg e1] at h
      cases h
theorem gd_X0_latency_0 {p : Program} {l : Launch} {e : Env} {R : Room} {s : State} {m : MethodId} {args : Array Value} {below : List Frame} {meth : Method} {c : Code} {Q : State → Prop} {D : sw_D} {A : Nat → Prop} {N0 K0 NE KE d : Nat} {cf : sw_F} {rf : sw_R} (hX : sw_X p l e R s m args below meth c D A "SpillslotWorksLaw" cX0_latency 5 (some .int) N0 K0 NE KE d) (hC : sw_Ct l sw_TN cf d) (hv : ∃ v, rf.1 = .inl v) (hQ : sw_QR s args below Q D A N0 K0 NE KE rf) (ht : c.exceptionTable.toList = tableOf NH_X0_latency.2.2.2) (hN : sw_NC s) : sw_Gd (sw_J p l e R s m args below meth c Q D A 5 N0 K0) cf bp_X0_latency NE KE rf bb_X0_latency_0 0 :=
  sw_gcn 1 (Sd_aload_n hX dX0_latency_0 rfl) (sw_gcn 2 (Sd_iconst hX dX0_latency_1 (by decide)) (sw_gcn 3 (Sd_aload_n hX dX0_latency_2 rfl) (sw_gcn 4 (Sd_iload_n hX dX0_latency_3 rfl) (sw_gcn 5 (Sd_iload_n hX dX0_latency_4 rfl) (sw_gcn 8 (Sd_cvh hX hC hv ht (hd_X0_latency hN) (y := m_X1_latency) (nm := N_X1_latency) rfl (k := 0) (by decide) mf_X1_latency dX0_latency_5 q1608 q1609 q1610) (sw_gcn 9 (Sd_i2l hX dX0_latency_8) (sw_gcn 10 (Sd_lastore hX dX0_latency_9) (sw_gcn 13 (Sd_goto hX dX0_latency_10 (by decide) rfl) sw_gn))))))))
theorem ok_X0_latency {l : Launch} : sw_OkH l NH_X0_latency b_X0_latency bp_X0_latency := ⟨by decide +kernel, rfl, q1591, fun _ _ _ _ _ _ _ _ _ _ _ _ _ _ _ _ _ _ _ hX hC hv hQ ht hN => fun n => match n with
  | 0 => gd_X0_latency_0 hX hC hv hQ ht hN
  | 1 => sw_gcn 16 (Sd_iconst hX dX0_latency_15 (by decide)) (sw_gcn 17 (Sd_ireturn hX hQ dX0_latency_16 rfl) sw_gn)
  | 2 => sw_gcn 20 (Sd_iconst hX dX0_latency_19 (by decide)) (sw_gcn 21 (Sd_ireturn hX hQ dX0_latency_20 rfl) sw_gn)
  | 3 => sw_gcn 22 (Sd_iconst hX dX0_latency_21 (by decide)) (sw_gcn 23 (Sd_ireturn hX hQ dX0_latency_22 rfl) sw_gn)
  | _ + 4 => trivial⟩
def bb_X0_node_0 : List sw_I := [sw_ld 2 4, sw_push (.int 0), sw_ld 2 0, sw_ld 0 1, sw_ld 0 2, sw_ld 0 3, sw_cvh 0 m_X1_node 3 [(0, 1), (1, 2)], sw_i2l, sw_ast 66, sw_goto 3 []]
def b_X0_node : sw_B := fun n => match n with
  | 0 => bb_X0_node_0
  | 1 => [sw_push (.int 1), sw_rv 0]
  | 2 => [sw_push (.int 2), sw_rv 0]
  | 3 => [sw_push (.int 0), sw_rv 0]
  | _ => []
def bp_X0_node : Nat → Nat := fun n => match n with
  | 0 => 0
  | 1 => 17
  | 2 => 21
  | 3 => 23
  | _ => 0
abbrev NH_X0_node : sw_NH := (yX0_node, cX0_node, 6, [(0, 12, 15, 13), (0, 12, 19, 25)])
theorem hd_X0_node {s : State} (hN : sw_NC s) : ∀ k j, sw_jf k [(0, 1), (1, 2)] = some j → sw_Hnd "SpillslotWorksLaw" cX0_node 6 s (tableOf NH_X0_node.2.2.2) 7 k (bp_X0_node j) := by
  intro k j h
  simp only [sw_jf_c, sw_jf_e] at h
  by_cases e0 : k = 0
  · subst e0
    have h9 : j = 1 := by simpa using h.symm
    subst h9
    exact ⟨[], [⟨0, 12, 19, 25⟩], ⟨0, 12, 15, 13⟩, rfl, List.forall_mem_nil _, by decide, by decide, q1560, sw_cw0, Or.inl ⟨5, dX0_node_15, by decide, rfl⟩⟩
  · rw [if_neg e0] at h
    by_cases e1 : k = 1
    · subst e1
      have h9 : j = 2 := by simpa using h.symm
      subst h9
      exact ⟨[⟨0, 12, 15, 13⟩], [], ⟨0, 12, 19, 25⟩, rfl, List.forall_mem_cons.mpr ⟨Or.inr ⟨by decide, sw_exn 0, q1560, hN (1, 0) (by decide)⟩, List.forall_mem_nil _⟩, by decide, by decide, q1628, sw_cw1, Or.inl ⟨5, dX0_node_19, by decide, rfl⟩⟩
    · rw [if_neg e1] at h
      cases h
theorem gd_X0_node_0 {p : Program} {l : Launch} {e : Env} {R : Room} {s : State} {m : MethodId} {args : Array Value} {below : List Frame} {meth : Method} {c : Code} {Q : State → Prop} {D : sw_D} {A : Nat → Prop} {N0 K0 NE KE d : Nat} {cf : sw_F} {rf : sw_R} (hX : sw_X p l e R s m args below meth c D A "SpillslotWorksLaw" cX0_node 6 (some .int) N0 K0 NE KE d) (hC : sw_Ct l sw_TN cf d) (hv : ∃ v, rf.1 = .inl v) (hQ : sw_QR s args below Q D A N0 K0 NE KE rf) (ht : c.exceptionTable.toList = tableOf NH_X0_node.2.2.2) (hN : sw_NC s) : sw_Gd (sw_J p l e R s m args below meth c Q D A 6 N0 K0) cf bp_X0_node NE KE rf bb_X0_node_0 0 :=
  sw_gcn 2 (Sd_aload hX dX0_node_0) (sw_gcn 3 (Sd_iconst hX dX0_node_2 (by decide)) (sw_gcn 4 (Sd_aload_n hX dX0_node_3 rfl) (sw_gcn 5 (Sd_iload_n hX dX0_node_4 rfl) (sw_gcn 6 (Sd_iload_n hX dX0_node_5 rfl) (sw_gcn 7 (Sd_iload_n hX dX0_node_6 rfl) (sw_gcn 10 (Sd_cvh hX hC hv ht (hd_X0_node hN) (y := m_X1_node) (nm := N_X1_node) rfl (k := 0) (by decide) mf_X1_node dX0_node_7 q1629 q1630 q1631) (sw_gcn 11 (Sd_i2l hX dX0_node_10) (sw_gcn 12 (Sd_lastore hX dX0_node_11) (sw_gcn 15 (Sd_goto hX dX0_node_12 (by decide) rfl) sw_gn)))))))))
theorem ok_X0_node {l : Launch} : sw_OkH l NH_X0_node b_X0_node bp_X0_node := ⟨by decide +kernel, rfl, q1627, fun _ _ _ _ _ _ _ _ _ _ _ _ _ _ _ _ _ _ _ hX hC hv hQ ht hN => fun n => match n with
  | 0 => gd_X0_node_0 hX hC hv hQ ht hN
  | 1 => sw_gcn 18 (Sd_iconst hX dX0_node_17 (by decide)) (sw_gcn 19 (Sd_ireturn hX hQ dX0_node_18 rfl) sw_gn)
  | 2 => sw_gcn 22 (Sd_iconst hX dX0_node_21 (by decide)) (sw_gcn 23 (Sd_ireturn hX hQ dX0_node_22 rfl) sw_gn)
  | 3 => sw_gcn 24 (Sd_iconst hX dX0_node_23 (by decide)) (sw_gcn 25 (Sd_ireturn hX hQ dX0_node_24 rfl) sw_gn)
  | _ + 4 => trivial⟩
def bb_X0_statement_0 : List sw_I := [sw_ld 2 4, sw_push (.int 0), sw_ld 2 0, sw_ld 0 1, sw_ld 0 2, sw_ld 0 3, sw_cvh 0 m_X1_statement 3 [(2, 1), (0, 2), (1, 3)], sw_i2l, sw_ast 66, sw_goto 4 []]
def b_X0_statement : sw_B := fun n => match n with
  | 0 => bb_X0_statement_0
  | 1 => [sw_push (.int 1), sw_rv 0]
  | 2 => [sw_push (.int 2), sw_rv 0]
  | 3 => [sw_push (.int 3), sw_rv 0]
  | 4 => [sw_push (.int 0), sw_rv 0]
  | _ => []
def bp_X0_statement : Nat → Nat := fun n => match n with
  | 0 => 0
  | 1 => 17
  | 2 => 21
  | 3 => 25
  | 4 => 27
  | _ => 0
abbrev NH_X0_statement : sw_NH := (yX0_statement, cX0_statement, 6, [(0, 12, 15, 19), (0, 12, 19, 13), (0, 12, 23, 25)])
theorem hd_X0_statement {s : State} (hN : sw_NC s) : ∀ k j, sw_jf k [(2, 1), (0, 2), (1, 3)] = some j → sw_Hnd "SpillslotWorksLaw" cX0_statement 6 s (tableOf NH_X0_statement.2.2.2) 7 k (bp_X0_statement j) := by
  intro k j h
  simp only [sw_jf_c, sw_jf_e] at h
  by_cases e0 : k = 2
  · subst e0
    have h9 : j = 1 := by simpa using h.symm
    subst h9
    exact ⟨[], [⟨0, 12, 19, 13⟩, ⟨0, 12, 23, 25⟩], ⟨0, 12, 15, 19⟩, rfl, List.forall_mem_nil _, by decide, by decide, q1592, sw_cw2, Or.inl ⟨5, dX0_statement_15, by decide, rfl⟩⟩
  · rw [if_neg e0] at h
    by_cases e1 : k = 0
    · subst e1
      have h9 : j = 2 := by simpa using h.symm
      subst h9
      exact ⟨[⟨0, 12, 15, 19⟩], [⟨0, 12, 23, 25⟩], ⟨0, 12, 19, 13⟩, rfl, List.forall_mem_cons.mpr ⟨Or.inr ⟨by decide, sw_exn 2, q1592, hN (0, 2) (by decide)⟩, List.forall_mem_nil _⟩, by decide, by decide, q1560, sw_cw0, Or.inl ⟨5, dX0_statement_19, by decide, rfl⟩⟩
    · rw [if_neg e1] at h
      by_cases e2 : k = 1
      · subst e2
        have h9 : j = 3 := by simpa using h.symm
        subst h9
        exact ⟨[⟨0, 12, 15, 19⟩, ⟨0, 12, 19, 13⟩], [], ⟨0, 12, 23, 25⟩, rfl, List.forall_mem_cons.mpr ⟨Or.inr ⟨by decide, sw_exn 2, q1592, hN (1, 2) (by decide)⟩, List.forall_mem_cons.mpr ⟨Or.inr ⟨by decide, sw_exn 0, q1560, hN (1, 0) (by decide)⟩, List.forall_mem_nil _⟩⟩, by decide, by decide, q1628, sw_cw1, Or.inl ⟨5, dX0_statement_23, by decide, rfl⟩⟩
      · rw [if_neg e2] at h
        cases h
theorem gd_X0_statement_0 {p : Program} {l : Launch} {e : Env} {R : Room} {s : State} {m : MethodId} {args : Array Value} {below : List Frame} {meth : Method} {c : Code} {Q : State → Prop} {D : sw_D} {A : Nat → Prop} {N0 K0 NE KE d : Nat} {cf : sw_F} {rf : sw_R} (hX : sw_X p l e R s m args below meth c D A "SpillslotWorksLaw" cX0_statement 6 (some .int) N0 K0 NE KE d) (hC : sw_Ct l sw_TN cf d) (hv : ∃ v, rf.1 = .inl v) (hQ : sw_QR s args below Q D A N0 K0 NE KE rf) (ht : c.exceptionTable.toList = tableOf NH_X0_statement.2.2.2) (hN : sw_NC s) : sw_Gd (sw_J p l e R s m args below meth c Q D A 6 N0 K0) cf bp_X0_statement NE KE rf bb_X0_statement_0 0 :=
  sw_gcn 2 (Sd_aload hX dX0_statement_0) (sw_gcn 3 (Sd_iconst hX dX0_statement_2 (by decide)) (sw_gcn 4 (Sd_aload_n hX dX0_statement_3 rfl) (sw_gcn 5 (Sd_iload_n hX dX0_statement_4 rfl) (sw_gcn 6 (Sd_iload_n hX dX0_statement_5 rfl) (sw_gcn 7 (Sd_iload_n hX dX0_statement_6 rfl) (sw_gcn 10 (Sd_cvh hX hC hv ht (hd_X0_statement hN) (y := m_X1_statement) (nm := N_X1_statement) rfl (k := 0) (by decide) mf_X1_statement dX0_statement_7 q1695 q1696 q1697) (sw_gcn 11 (Sd_i2l hX dX0_statement_10) (sw_gcn 12 (Sd_lastore hX dX0_statement_11) (sw_gcn 15 (Sd_goto hX dX0_statement_12 (by decide) rfl) sw_gn)))))))))
theorem ok_X0_statement {l : Launch} : sw_OkH l NH_X0_statement b_X0_statement bp_X0_statement := ⟨by decide +kernel, rfl, q1694, fun _ _ _ _ _ _ _ _ _ _ _ _ _ _ _ _ _ _ _ hX hC hv hQ ht hN => fun n => match n with
  | 0 => gd_X0_statement_0 hX hC hv hQ ht hN
  | 1 => sw_gcn 18 (Sd_iconst hX dX0_statement_17 (by decide)) (sw_gcn 19 (Sd_ireturn hX hQ dX0_statement_18 rfl) sw_gn)
  | 2 => sw_gcn 22 (Sd_iconst hX dX0_statement_21 (by decide)) (sw_gcn 23 (Sd_ireturn hX hQ dX0_statement_22 rfl) sw_gn)
  | 3 => sw_gcn 26 (Sd_iconst hX dX0_statement_25 (by decide)) (sw_gcn 27 (Sd_ireturn hX hQ dX0_statement_26 rfl) sw_gn)
  | 4 => sw_gcn 28 (Sd_iconst hX dX0_statement_27 (by decide)) (sw_gcn 29 (Sd_ireturn hX hQ dX0_statement_28 rfl) sw_gn)
  | _ + 5 => trivial⟩
def bb_X0_take_0 : List sw_I := [sw_ld 2 2, sw_push (.int 0), sw_ld 2 0, sw_ld 0 1, sw_cvh 0 m_X1_take 1 [(2, 1), (1, 2)], sw_i2l, sw_ast 66, sw_goto 3 []]
def b_X0_take : sw_B := fun n => match n with
  | 0 => bb_X0_take_0
  | 1 => [sw_push (.int 1), sw_rv 0]
  | 2 => [sw_push (.int 2), sw_rv 0]
  | 3 => [sw_push (.int 0), sw_rv 0]
  | _ => []
def bp_X0_take : Nat → Nat := fun n => match n with
  | 0 => 0
  | 1 => 13
  | 2 => 16
  | 3 => 18
  | _ => 0
abbrev NH_X0_take : sw_NH := (yX0_take, cX0_take, 4, [(0, 9, 12, 19), (0, 9, 15, 25)])
theorem hd_X0_take {s : State} (hN : sw_NC s) : ∀ k j, sw_jf k [(2, 1), (1, 2)] = some j → sw_Hnd "SpillslotWorksLaw" cX0_take 4 s (tableOf NH_X0_take.2.2.2) 4 k (bp_X0_take j) := by
  intro k j h
  simp only [sw_jf_c, sw_jf_e] at h
  by_cases e0 : k = 2
  · subst e0
    have h9 : j = 1 := by simpa using h.symm
    subst h9
    exact ⟨[], [⟨0, 9, 15, 25⟩], ⟨0, 9, 12, 19⟩, rfl, List.forall_mem_nil _, by decide, by decide, q1592, sw_cw2, Or.inr ⟨3, dX0_take_12, by decide, rfl⟩⟩
  · rw [if_neg e0] at h
    by_cases e1 : k = 1
    · subst e1
      have h9 : j = 2 := by simpa using h.symm
      subst h9
      exact ⟨[⟨0, 9, 12, 19⟩], [], ⟨0, 9, 15, 25⟩, rfl, List.forall_mem_cons.mpr ⟨Or.inr ⟨by decide, sw_exn 2, q1592, hN (1, 2) (by decide)⟩, List.forall_mem_nil _⟩, by decide, by decide, q1628, sw_cw1, Or.inr ⟨3, dX0_take_15, by decide, rfl⟩⟩
    · rw [if_neg e1] at h
      cases h
theorem gd_X0_take_0 {p : Program} {l : Launch} {e : Env} {R : Room} {s : State} {m : MethodId} {args : Array Value} {below : List Frame} {meth : Method} {c : Code} {Q : State → Prop} {D : sw_D} {A : Nat → Prop} {N0 K0 NE KE d : Nat} {cf : sw_F} {rf : sw_R} (hX : sw_X p l e R s m args below meth c D A "SpillslotWorksLaw" cX0_take 4 (some .int) N0 K0 NE KE d) (hC : sw_Ct l sw_TN cf d) (hv : ∃ v, rf.1 = .inl v) (hQ : sw_QR s args below Q D A N0 K0 NE KE rf) (ht : c.exceptionTable.toList = tableOf NH_X0_take.2.2.2) (hN : sw_NC s) : sw_Gd (sw_J p l e R s m args below meth c Q D A 4 N0 K0) cf bp_X0_take NE KE rf bb_X0_take_0 0 :=
  sw_gcn 1 (Sd_aload_n hX dX0_take_0 rfl) (sw_gcn 2 (Sd_iconst hX dX0_take_1 (by decide)) (sw_gcn 3 (Sd_aload_n hX dX0_take_2 rfl) (sw_gcn 4 (Sd_iload_n hX dX0_take_3 rfl) (sw_gcn 7 (Sd_cvh hX hC hv ht (hd_X0_take hN) (y := m_X1_take) (nm := N_X1_take) rfl (k := 0) (by decide) mf_X1_take dX0_take_4 q1724 q1725 q1726) (sw_gcn 8 (Sd_i2l hX dX0_take_7) (sw_gcn 9 (Sd_lastore hX dX0_take_8) (sw_gcn 12 (Sd_goto hX dX0_take_9 (by decide) rfl) sw_gn)))))))
theorem ok_X0_take {l : Launch} : sw_OkH l NH_X0_take b_X0_take bp_X0_take := ⟨by decide +kernel, rfl, q1723, fun _ _ _ _ _ _ _ _ _ _ _ _ _ _ _ _ _ _ _ hX hC hv hQ ht hN => fun n => match n with
  | 0 => gd_X0_take_0 hX hC hv hQ ht hN
  | 1 => sw_gcn 14 (Sd_iconst hX dX0_take_13 (by decide)) (sw_gcn 15 (Sd_ireturn hX hQ dX0_take_14 rfl) sw_gn)
  | 2 => sw_gcn 17 (Sd_iconst hX dX0_take_16 (by decide)) (sw_gcn 18 (Sd_ireturn hX hQ dX0_take_17 rfl) sw_gn)
  | 3 => sw_gcn 19 (Sd_iconst hX dX0_take_18 (by decide)) (sw_gcn 20 (Sd_ireturn hX hQ dX0_take_19 rfl) sw_gn)
  | _ + 4 => trivial⟩
def bb_X0_times_0 : List sw_I := [sw_ld 2 3, sw_push (.int 0), sw_ld 2 0, sw_ld 0 1, sw_ld 0 2, sw_cvh 0 m_X1_times 2 [(2, 1), (0, 2)], sw_i2l, sw_ast 66, sw_goto 3 []]
def b_X0_times : sw_B := fun n => match n with
  | 0 => bb_X0_times_0
  | 1 => [sw_push (.int 1), sw_rv 0]
  | 2 => [sw_push (.int 2), sw_rv 0]
  | 3 => [sw_push (.int 0), sw_rv 0]
  | _ => []
def bp_X0_times : Nat → Nat := fun n => match n with
  | 0 => 0
  | 1 => 15
  | 2 => 19
  | 3 => 21
  | _ => 0
abbrev NH_X0_times : sw_NH := (yX0_times, cX0_times, 5, [(0, 10, 13, 19), (0, 10, 17, 13)])
theorem hd_X0_times {s : State} (hN : sw_NC s) : ∀ k j, sw_jf k [(2, 1), (0, 2)] = some j → sw_Hnd "SpillslotWorksLaw" cX0_times 5 s (tableOf NH_X0_times.2.2.2) 5 k (bp_X0_times j) := by
  intro k j h
  simp only [sw_jf_c, sw_jf_e] at h
  by_cases e0 : k = 2
  · subst e0
    have h9 : j = 1 := by simpa using h.symm
    subst h9
    exact ⟨[], [⟨0, 10, 17, 13⟩], ⟨0, 10, 13, 19⟩, rfl, List.forall_mem_nil _, by decide, by decide, q1592, sw_cw2, Or.inl ⟨4, dX0_times_13, by decide, rfl⟩⟩
  · rw [if_neg e0] at h
    by_cases e1 : k = 0
    · subst e1
      have h9 : j = 2 := by simpa using h.symm
      subst h9
      exact ⟨[⟨0, 10, 13, 19⟩], [], ⟨0, 10, 17, 13⟩, rfl, List.forall_mem_cons.mpr ⟨Or.inr ⟨by decide, sw_exn 2, q1592, hN (0, 2) (by decide)⟩, List.forall_mem_nil _⟩, by decide, by decide, q1560, sw_cw0, Or.inl ⟨4, dX0_times_17, by decide, rfl⟩⟩
    · rw [if_neg e1] at h
      cases h
theorem gd_X0_times_0 {p : Program} {l : Launch} {e : Env} {R : Room} {s : State} {m : MethodId} {args : Array Value} {below : List Frame} {meth : Method} {c : Code} {Q : State → Prop} {D : sw_D} {A : Nat → Prop} {N0 K0 NE KE d : Nat} {cf : sw_F} {rf : sw_R} (hX : sw_X p l e R s m args below meth c D A "SpillslotWorksLaw" cX0_times 5 (some .int) N0 K0 NE KE d) (hC : sw_Ct l sw_TN cf d) (hv : ∃ v, rf.1 = .inl v) (hQ : sw_QR s args below Q D A N0 K0 NE KE rf) (ht : c.exceptionTable.toList = tableOf NH_X0_times.2.2.2) (hN : sw_NC s) : sw_Gd (sw_J p l e R s m args below meth c Q D A 5 N0 K0) cf bp_X0_times NE KE rf bb_X0_times_0 0 :=
  sw_gcn 1 (Sd_aload_n hX dX0_times_0 rfl) (sw_gcn 2 (Sd_iconst hX dX0_times_1 (by decide)) (sw_gcn 3 (Sd_aload_n hX dX0_times_2 rfl) (sw_gcn 4 (Sd_iload_n hX dX0_times_3 rfl) (sw_gcn 5 (Sd_iload_n hX dX0_times_4 rfl) (sw_gcn 8 (Sd_cvh hX hC hv ht (hd_X0_times hN) (y := m_X1_times) (nm := N_X1_times) rfl (k := 0) (by decide) mf_X1_times dX0_times_5 q1753 q1754 q1755) (sw_gcn 9 (Sd_i2l hX dX0_times_8) (sw_gcn 10 (Sd_lastore hX dX0_times_9) (sw_gcn 13 (Sd_goto hX dX0_times_10 (by decide) rfl) sw_gn))))))))
theorem ok_X0_times {l : Launch} : sw_OkH l NH_X0_times b_X0_times bp_X0_times := ⟨by decide +kernel, rfl, q1752, fun _ _ _ _ _ _ _ _ _ _ _ _ _ _ _ _ _ _ _ hX hC hv hQ ht hN => fun n => match n with
  | 0 => gd_X0_times_0 hX hC hv hQ ht hN
  | 1 => sw_gcn 16 (Sd_iconst hX dX0_times_15 (by decide)) (sw_gcn 17 (Sd_ireturn hX hQ dX0_times_16 rfl) sw_gn)
  | 2 => sw_gcn 20 (Sd_iconst hX dX0_times_19 (by decide)) (sw_gcn 21 (Sd_ireturn hX hQ dX0_times_20 rfl) sw_gn)
  | 3 => sw_gcn 22 (Sd_iconst hX dX0_times_21 (by decide)) (sw_gcn 23 (Sd_ireturn hX hQ dX0_times_22 rfl) sw_gn)
  | _ + 4 => trivial⟩
def bb_X0_out_0 : List sw_I := [sw_ld 2 2, sw_push (.int 0), sw_ld 2 0, sw_ld 0 1, sw_cvh 0 m_X1_out 1 [(0, 1)], sw_i2l, sw_ast 66, sw_goto 2 []]
def b_X0_out : sw_B := fun n => match n with
  | 0 => bb_X0_out_0
  | 1 => [sw_push (.int 1), sw_rv 0]
  | 2 => [sw_push (.int 0), sw_rv 0]
  | _ => []
def bp_X0_out : Nat → Nat := fun n => match n with
  | 0 => 0
  | 1 => 13
  | 2 => 15
  | _ => 0
abbrev NH_X0_out : sw_NH := (yX0_out, cX0_out, 4, [(0, 9, 12, 13)])
theorem hd_X0_out {s : State} (hN : sw_NC s) : ∀ k j, sw_jf k [(0, 1)] = some j → sw_Hnd "SpillslotWorksLaw" cX0_out 4 s (tableOf NH_X0_out.2.2.2) 4 k (bp_X0_out j) := by
  intro k j h
  simp only [sw_jf_c, sw_jf_e] at h
  by_cases e0 : k = 0
  · subst e0
    have h9 : j = 1 := by simpa using h.symm
    subst h9
    exact ⟨[], [], ⟨0, 9, 12, 13⟩, rfl, List.forall_mem_nil _, by decide, by decide, q1560, sw_cw0, Or.inr ⟨3, dX0_out_12, by decide, rfl⟩⟩
  · rw [if_neg e0] at h
    cases h
theorem gd_X0_out_0 {p : Program} {l : Launch} {e : Env} {R : Room} {s : State} {m : MethodId} {args : Array Value} {below : List Frame} {meth : Method} {c : Code} {Q : State → Prop} {D : sw_D} {A : Nat → Prop} {N0 K0 NE KE d : Nat} {cf : sw_F} {rf : sw_R} (hX : sw_X p l e R s m args below meth c D A "SpillslotWorksLaw" cX0_out 4 (some .int) N0 K0 NE KE d) (hC : sw_Ct l sw_TN cf d) (hv : ∃ v, rf.1 = .inl v) (hQ : sw_QR s args below Q D A N0 K0 NE KE rf) (ht : c.exceptionTable.toList = tableOf NH_X0_out.2.2.2) (hN : sw_NC s) : sw_Gd (sw_J p l e R s m args below meth c Q D A 4 N0 K0) cf bp_X0_out NE KE rf bb_X0_out_0 0 :=
  sw_gcn 1 (Sd_aload_n hX dX0_out_0 rfl) (sw_gcn 2 (Sd_iconst hX dX0_out_1 (by decide)) (sw_gcn 3 (Sd_aload_n hX dX0_out_2 rfl) (sw_gcn 4 (Sd_iload_n hX dX0_out_3 rfl) (sw_gcn 7 (Sd_cvh hX hC hv ht (hd_X0_out hN) (y := m_X1_out) (nm := N_X1_out) rfl (k := 0) (by decide) mf_X1_out dX0_out_4 q1760 q1761 q1762) (sw_gcn 8 (Sd_i2l hX dX0_out_7) (sw_gcn 9 (Sd_lastore hX dX0_out_8) (sw_gcn 12 (Sd_goto hX dX0_out_9 (by decide) rfl) sw_gn)))))))
theorem ok_X0_out {l : Launch} : sw_OkH l NH_X0_out b_X0_out bp_X0_out := ⟨by decide +kernel, rfl, q1759, fun _ _ _ _ _ _ _ _ _ _ _ _ _ _ _ _ _ _ _ hX hC hv hQ ht hN => fun n => match n with
  | 0 => gd_X0_out_0 hX hC hv hQ ht hN
  | 1 => sw_gcn 14 (Sd_iconst hX dX0_out_13 (by decide)) (sw_gcn 15 (Sd_ireturn hX hQ dX0_out_14 rfl) sw_gn)
  | 2 => sw_gcn 16 (Sd_iconst hX dX0_out_15 (by decide)) (sw_gcn 17 (Sd_ireturn hX hQ dX0_out_16 rfl) sw_gn)
  | _ + 3 => trivial⟩
def bb_X0_meant_0 : List sw_I := [sw_ld 2 2, sw_push (.int 0), sw_ld 2 0, sw_ld 0 1, sw_cvh 0 m_X1_meant 1 [(2, 1)], sw_i2l, sw_ast 66, sw_goto 2 []]
def b_X0_meant : sw_B := fun n => match n with
  | 0 => bb_X0_meant_0
  | 1 => [sw_push (.int 1), sw_rv 0]
  | 2 => [sw_push (.int 0), sw_rv 0]
  | _ => []
def bp_X0_meant : Nat → Nat := fun n => match n with
  | 0 => 0
  | 1 => 13
  | 2 => 15
  | _ => 0
abbrev NH_X0_meant : sw_NH := (yX0_meant, cX0_meant, 4, [(0, 9, 12, 19)])
theorem hd_X0_meant {s : State} (hN : sw_NC s) : ∀ k j, sw_jf k [(2, 1)] = some j → sw_Hnd "SpillslotWorksLaw" cX0_meant 4 s (tableOf NH_X0_meant.2.2.2) 4 k (bp_X0_meant j) := by
  intro k j h
  simp only [sw_jf_c, sw_jf_e] at h
  by_cases e0 : k = 2
  · subst e0
    have h9 : j = 1 := by simpa using h.symm
    subst h9
    exact ⟨[], [], ⟨0, 9, 12, 19⟩, rfl, List.forall_mem_nil _, by decide, by decide, q1592, sw_cw2, Or.inr ⟨3, dX0_meant_12, by decide, rfl⟩⟩
  · rw [if_neg e0] at h
    cases h
theorem gd_X0_meant_0 {p : Program} {l : Launch} {e : Env} {R : Room} {s : State} {m : MethodId} {args : Array Value} {below : List Frame} {meth : Method} {c : Code} {Q : State → Prop} {D : sw_D} {A : Nat → Prop} {N0 K0 NE KE d : Nat} {cf : sw_F} {rf : sw_R} (hX : sw_X p l e R s m args below meth c D A "SpillslotWorksLaw" cX0_meant 4 (some .int) N0 K0 NE KE d) (hC : sw_Ct l sw_TN cf d) (hv : ∃ v, rf.1 = .inl v) (hQ : sw_QR s args below Q D A N0 K0 NE KE rf) (ht : c.exceptionTable.toList = tableOf NH_X0_meant.2.2.2) (hN : sw_NC s) : sw_Gd (sw_J p l e R s m args below meth c Q D A 4 N0 K0) cf bp_X0_meant NE KE rf bb_X0_meant_0 0 :=
  sw_gcn 1 (Sd_aload_n hX dX0_meant_0 rfl) (sw_gcn 2 (Sd_iconst hX dX0_meant_1 (by decide)) (sw_gcn 3 (Sd_aload_n hX dX0_meant_2 rfl) (sw_gcn 4 (Sd_iload_n hX dX0_meant_3 rfl) (sw_gcn 7 (Sd_cvh hX hC hv ht (hd_X0_meant hN) (y := m_X1_meant) (nm := N_X1_meant) rfl (k := 0) (by decide) mf_X1_meant dX0_meant_4 q1767 q1768 q1769) (sw_gcn 8 (Sd_i2l hX dX0_meant_7) (sw_gcn 9 (Sd_lastore hX dX0_meant_8) (sw_gcn 12 (Sd_goto hX dX0_meant_9 (by decide) rfl) sw_gn)))))))
theorem ok_X0_meant {l : Launch} : sw_OkH l NH_X0_meant b_X0_meant bp_X0_meant := ⟨by decide +kernel, rfl, q1766, fun _ _ _ _ _ _ _ _ _ _ _ _ _ _ _ _ _ _ _ hX hC hv hQ ht hN => fun n => match n with
  | 0 => gd_X0_meant_0 hX hC hv hQ ht hN
  | 1 => sw_gcn 14 (Sd_iconst hX dX0_meant_13 (by decide)) (sw_gcn 15 (Sd_ireturn hX hQ dX0_meant_14 rfl) sw_gn)
  | 2 => sw_gcn 16 (Sd_iconst hX dX0_meant_15 (by decide)) (sw_gcn 17 (Sd_ireturn hX hQ dX0_meant_16 rfl) sw_gn)
  | _ + 3 => trivial⟩
def bb_X0_chosen_0 : List sw_I := [sw_ld 2 3, sw_push (.int 0), sw_ld 2 0, sw_ld 0 1, sw_ld 0 2, sw_cvh 0 m_X1_chosen 2 [(2, 1), (0, 2)], sw_i2l, sw_ast 66, sw_goto 3 []]
def b_X0_chosen : sw_B := fun n => match n with
  | 0 => bb_X0_chosen_0
  | 1 => [sw_push (.int 1), sw_rv 0]
  | 2 => [sw_push (.int 2), sw_rv 0]
  | 3 => [sw_push (.int 0), sw_rv 0]
  | _ => []
def bp_X0_chosen : Nat → Nat := fun n => match n with
  | 0 => 0
  | 1 => 15
  | 2 => 19
  | 3 => 21
  | _ => 0
abbrev NH_X0_chosen : sw_NH := (yX0_chosen, cX0_chosen, 5, [(0, 10, 13, 19), (0, 10, 17, 13)])
theorem hd_X0_chosen {s : State} (hN : sw_NC s) : ∀ k j, sw_jf k [(2, 1), (0, 2)] = some j → sw_Hnd "SpillslotWorksLaw" cX0_chosen 5 s (tableOf NH_X0_chosen.2.2.2) 5 k (bp_X0_chosen j) := by
  intro k j h
  simp only [sw_jf_c, sw_jf_e] at h
  by_cases e0 : k = 2
  · subst e0
    have h9 : j = 1 := by simpa using h.symm
    subst h9
    exact ⟨[], [⟨0, 10, 17, 13⟩], ⟨0, 10, 13, 19⟩, rfl, List.forall_mem_nil _, by decide, by decide, q1592, sw_cw2, Or.inl ⟨4, dX0_chosen_13, by decide, rfl⟩⟩
  · rw [if_neg e0] at h
    by_cases e1 : k = 0
    · subst e1
      have h9 : j = 2 := by simpa using h.symm
      subst h9
      exact ⟨[⟨0, 10, 13, 19⟩], [], ⟨0, 10, 17, 13⟩, rfl, List.forall_mem_cons.mpr ⟨Or.inr ⟨by decide, sw_exn 2, q1592, hN (0, 2) (by decide)⟩, List.forall_mem_nil _⟩, by decide, by decide, q1560, sw_cw0, Or.inl ⟨4, dX0_chosen_17, by decide, rfl⟩⟩
    · rw [if_neg e1] at h
      cases h
theorem gd_X0_chosen_0 {p : Program} {l : Launch} {e : Env} {R : Room} {s : State} {m : MethodId} {args : Array Value} {below : List Frame} {meth : Method} {c : Code} {Q : State → Prop} {D : sw_D} {A : Nat → Prop} {N0 K0 NE KE d : Nat} {cf : sw_F} {rf : sw_R} (hX : sw_X p l e R s m args below meth c D A "SpillslotWorksLaw" cX0_chosen 5 (some .int) N0 K0 NE KE d) (hC : sw_Ct l sw_TN cf d) (hv : ∃ v, rf.1 = .inl v) (hQ : sw_QR s args below Q D A N0 K0 NE KE rf) (ht : c.exceptionTable.toList = tableOf NH_X0_chosen.2.2.2) (hN : sw_NC s) : sw_Gd (sw_J p l e R s m args below meth c Q D A 5 N0 K0) cf bp_X0_chosen NE KE rf bb_X0_chosen_0 0 :=
  sw_gcn 1 (Sd_aload_n hX dX0_chosen_0 rfl) (sw_gcn 2 (Sd_iconst hX dX0_chosen_1 (by decide)) (sw_gcn 3 (Sd_aload_n hX dX0_chosen_2 rfl) (sw_gcn 4 (Sd_iload_n hX dX0_chosen_3 rfl) (sw_gcn 5 (Sd_iload_n hX dX0_chosen_4 rfl) (sw_gcn 8 (Sd_cvh hX hC hv ht (hd_X0_chosen hN) (y := m_X1_chosen) (nm := N_X1_chosen) rfl (k := 0) (by decide) mf_X1_chosen dX0_chosen_5 q1774 q1775 q1776) (sw_gcn 9 (Sd_i2l hX dX0_chosen_8) (sw_gcn 10 (Sd_lastore hX dX0_chosen_9) (sw_gcn 13 (Sd_goto hX dX0_chosen_10 (by decide) rfl) sw_gn))))))))
theorem ok_X0_chosen {l : Launch} : sw_OkH l NH_X0_chosen b_X0_chosen bp_X0_chosen := ⟨by decide +kernel, rfl, q1773, fun _ _ _ _ _ _ _ _ _ _ _ _ _ _ _ _ _ _ _ hX hC hv hQ ht hN => fun n => match n with
  | 0 => gd_X0_chosen_0 hX hC hv hQ ht hN
  | 1 => sw_gcn 16 (Sd_iconst hX dX0_chosen_15 (by decide)) (sw_gcn 17 (Sd_ireturn hX hQ dX0_chosen_16 rfl) sw_gn)
  | 2 => sw_gcn 20 (Sd_iconst hX dX0_chosen_19 (by decide)) (sw_gcn 21 (Sd_ireturn hX hQ dX0_chosen_20 rfl) sw_gn)
  | 3 => sw_gcn 22 (Sd_iconst hX dX0_chosen_21 (by decide)) (sw_gcn 23 (Sd_ireturn hX hQ dX0_chosen_22 rfl) sw_gn)
  | _ + 4 => trivial⟩
def bb_X0_ofValue_0 : List sw_I := [sw_ld 2 3, sw_push (.int 0), sw_ld 2 0, sw_ld 0 1, sw_ld 0 2, sw_cvh 0 m_X1_ofValue 2 [(2, 1), (0, 2)], sw_i2l, sw_ast 66, sw_goto 3 []]
def b_X0_ofValue : sw_B := fun n => match n with
  | 0 => bb_X0_ofValue_0
  | 1 => [sw_push (.int 1), sw_rv 0]
  | 2 => [sw_push (.int 2), sw_rv 0]
  | 3 => [sw_push (.int 0), sw_rv 0]
  | _ => []
def bp_X0_ofValue : Nat → Nat := fun n => match n with
  | 0 => 0
  | 1 => 15
  | 2 => 19
  | 3 => 21
  | _ => 0
abbrev NH_X0_ofValue : sw_NH := (yX0_ofValue, cX0_ofValue, 5, [(0, 10, 13, 19), (0, 10, 17, 13)])
theorem hd_X0_ofValue {s : State} (hN : sw_NC s) : ∀ k j, sw_jf k [(2, 1), (0, 2)] = some j → sw_Hnd "SpillslotWorksLaw" cX0_ofValue 5 s (tableOf NH_X0_ofValue.2.2.2) 5 k (bp_X0_ofValue j) := by
  intro k j h
  simp only [sw_jf_c, sw_jf_e] at h
  by_cases e0 : k = 2
  · subst e0
    have h9 : j = 1 := by simpa using h.symm
    subst h9
    exact ⟨[], [⟨0, 10, 17, 13⟩], ⟨0, 10, 13, 19⟩, rfl, List.forall_mem_nil _, by decide, by decide, q1592, sw_cw2, Or.inl ⟨4, dX0_ofValue_13, by decide, rfl⟩⟩
  · rw [if_neg e0] at h
    by_cases e1 : k = 0
    · subst e1
      have h9 : j = 2 := by simpa using h.symm
      subst h9
      exact ⟨[⟨0, 10, 13, 19⟩], [], ⟨0, 10, 17, 13⟩, rfl, List.forall_mem_cons.mpr ⟨Or.inr ⟨by decide, sw_exn 2, q1592, hN (0, 2) (by decide)⟩, List.forall_mem_nil _⟩, by decide, by decide, q1560, sw_cw0, Or.inl ⟨4, dX0_ofValue_17, by decide, rfl⟩⟩
    · rw [if_neg e1] at h
      cases h
theorem gd_X0_ofValue_0 {p : Program} {l : Launch} {e : Env} {R : Room} {s : State} {m : MethodId} {args : Array Value} {below : List Frame} {meth : Method} {c : Code} {Q : State → Prop} {D : sw_D} {A : Nat → Prop} {N0 K0 NE KE d : Nat} {cf : sw_F} {rf : sw_R} (hX : sw_X p l e R s m args below meth c D A "SpillslotWorksLaw" cX0_ofValue 5 (some .int) N0 K0 NE KE d) (hC : sw_Ct l sw_TN cf d) (hv : ∃ v, rf.1 = .inl v) (hQ : sw_QR s args below Q D A N0 K0 NE KE rf) (ht : c.exceptionTable.toList = tableOf NH_X0_ofValue.2.2.2) (hN : sw_NC s) : sw_Gd (sw_J p l e R s m args below meth c Q D A 5 N0 K0) cf bp_X0_ofValue NE KE rf bb_X0_ofValue_0 0 :=
  sw_gcn 1 (Sd_aload_n hX dX0_ofValue_0 rfl) (sw_gcn 2 (Sd_iconst hX dX0_ofValue_1 (by decide)) (sw_gcn 3 (Sd_aload_n hX dX0_ofValue_2 rfl) (sw_gcn 4 (Sd_iload_n hX dX0_ofValue_3 rfl) (sw_gcn 5 (Sd_iload_n hX dX0_ofValue_4 rfl) (sw_gcn 8 (Sd_cvh hX hC hv ht (hd_X0_ofValue hN) (y := m_X1_ofValue) (nm := N_X1_ofValue) rfl (k := 0) (by decide) mf_X1_ofValue dX0_ofValue_5 q1781 q1782 q1783) (sw_gcn 9 (Sd_i2l hX dX0_ofValue_8) (sw_gcn 10 (Sd_lastore hX dX0_ofValue_9) (sw_gcn 13 (Sd_goto hX dX0_ofValue_10 (by decide) rfl) sw_gn))))))))
theorem ok_X0_ofValue {l : Launch} : sw_OkH l NH_X0_ofValue b_X0_ofValue bp_X0_ofValue := ⟨by decide +kernel, rfl, q1780, fun _ _ _ _ _ _ _ _ _ _ _ _ _ _ _ _ _ _ _ hX hC hv hQ ht hN => fun n => match n with
  | 0 => gd_X0_ofValue_0 hX hC hv hQ ht hN
  | 1 => sw_gcn 16 (Sd_iconst hX dX0_ofValue_15 (by decide)) (sw_gcn 17 (Sd_ireturn hX hQ dX0_ofValue_16 rfl) sw_gn)
  | 2 => sw_gcn 20 (Sd_iconst hX dX0_ofValue_19 (by decide)) (sw_gcn 21 (Sd_ireturn hX hQ dX0_ofValue_20 rfl) sw_gn)
  | 3 => sw_gcn 22 (Sd_iconst hX dX0_ofValue_21 (by decide)) (sw_gcn 23 (Sd_ireturn hX hQ dX0_ofValue_22 rfl) sw_gn)
  | _ + 4 => trivial⟩
def bb_X0_mapAt_0 : List sw_I := [sw_ld 2 3, sw_push (.int 0), sw_ld 2 0, sw_ld 0 1, sw_ld 0 2, sw_cvh 0 m_X1_mapAt 2 [(2, 1), (0, 2)], sw_i2l, sw_ast 66, sw_goto 3 []]
def b_X0_mapAt : sw_B := fun n => match n with
  | 0 => bb_X0_mapAt_0
  | 1 => [sw_push (.int 1), sw_rv 0]
  | 2 => [sw_push (.int 2), sw_rv 0]
  | 3 => [sw_push (.int 0), sw_rv 0]
  | _ => []
def bp_X0_mapAt : Nat → Nat := fun n => match n with
  | 0 => 0
  | 1 => 15
  | 2 => 19
  | 3 => 21
  | _ => 0
abbrev NH_X0_mapAt : sw_NH := (yX0_mapAt, cX0_mapAt, 5, [(0, 10, 13, 19), (0, 10, 17, 13)])
theorem hd_X0_mapAt {s : State} (hN : sw_NC s) : ∀ k j, sw_jf k [(2, 1), (0, 2)] = some j → sw_Hnd "SpillslotWorksLaw" cX0_mapAt 5 s (tableOf NH_X0_mapAt.2.2.2) 5 k (bp_X0_mapAt j) := by
  intro k j h
  simp only [sw_jf_c, sw_jf_e] at h
  by_cases e0 : k = 2
  · subst e0
    have h9 : j = 1 := by simpa using h.symm
    subst h9
    exact ⟨[], [⟨0, 10, 17, 13⟩], ⟨0, 10, 13, 19⟩, rfl, List.forall_mem_nil _, by decide, by decide, q1592, sw_cw2, Or.inl ⟨4, dX0_mapAt_13, by decide, rfl⟩⟩
  · rw [if_neg e0] at h
    by_cases e1 : k = 0
    · subst e1
      have h9 : j = 2 := by simpa using h.symm
      subst h9
      exact ⟨[⟨0, 10, 13, 19⟩], [], ⟨0, 10, 17, 13⟩, rfl, List.forall_mem_cons.mpr ⟨Or.inr ⟨by decide, sw_exn 2, q1592, hN (0, 2) (by decide)⟩, List.forall_mem_nil _⟩, by decide, by decide, q1560, sw_cw0, Or.inl ⟨4, dX0_mapAt_17, by decide, rfl⟩⟩
    · rw [if_neg e1] at h
      cases h
theorem gd_X0_mapAt_0 {p : Program} {l : Launch} {e : Env} {R : Room} {s : State} {m : MethodId} {args : Array Value} {below : List Frame} {meth : Method} {c : Code} {Q : State → Prop} {D : sw_D} {A : Nat → Prop} {N0 K0 NE KE d : Nat} {cf : sw_F} {rf : sw_R} (hX : sw_X p l e R s m args below meth c D A "SpillslotWorksLaw" cX0_mapAt 5 (some .int) N0 K0 NE KE d) (hC : sw_Ct l sw_TN cf d) (hv : ∃ v, rf.1 = .inl v) (hQ : sw_QR s args below Q D A N0 K0 NE KE rf) (ht : c.exceptionTable.toList = tableOf NH_X0_mapAt.2.2.2) (hN : sw_NC s) : sw_Gd (sw_J p l e R s m args below meth c Q D A 5 N0 K0) cf bp_X0_mapAt NE KE rf bb_X0_mapAt_0 0 :=
  sw_gcn 1 (Sd_aload_n hX dX0_mapAt_0 rfl) (sw_gcn 2 (Sd_iconst hX dX0_mapAt_1 (by decide)) (sw_gcn 3 (Sd_aload_n hX dX0_mapAt_2 rfl) (sw_gcn 4 (Sd_iload_n hX dX0_mapAt_3 rfl) (sw_gcn 5 (Sd_iload_n hX dX0_mapAt_4 rfl) (sw_gcn 8 (Sd_cvh hX hC hv ht (hd_X0_mapAt hN) (y := m_X1_mapAt) (nm := N_X1_mapAt) rfl (k := 0) (by decide) mf_X1_mapAt dX0_mapAt_5 q1788 q1789 q1790) (sw_gcn 9 (Sd_i2l hX dX0_mapAt_8) (sw_gcn 10 (Sd_lastore hX dX0_mapAt_9) (sw_gcn 13 (Sd_goto hX dX0_mapAt_10 (by decide) rfl) sw_gn))))))))
theorem ok_X0_mapAt {l : Launch} : sw_OkH l NH_X0_mapAt b_X0_mapAt bp_X0_mapAt := ⟨by decide +kernel, rfl, q1787, fun _ _ _ _ _ _ _ _ _ _ _ _ _ _ _ _ _ _ _ hX hC hv hQ ht hN => fun n => match n with
  | 0 => gd_X0_mapAt_0 hX hC hv hQ ht hN
  | 1 => sw_gcn 16 (Sd_iconst hX dX0_mapAt_15 (by decide)) (sw_gcn 17 (Sd_ireturn hX hQ dX0_mapAt_16 rfl) sw_gn)
  | 2 => sw_gcn 20 (Sd_iconst hX dX0_mapAt_19 (by decide)) (sw_gcn 21 (Sd_ireturn hX hQ dX0_mapAt_20 rfl) sw_gn)
  | 3 => sw_gcn 22 (Sd_iconst hX dX0_mapAt_21 (by decide)) (sw_gcn 23 (Sd_ireturn hX hQ dX0_mapAt_22 rfl) sw_gn)
  | _ + 4 => trivial⟩
def bb_X0_cost_0 : List sw_I := [sw_ld 2 2, sw_push (.int 0), sw_ld 2 0, sw_ld 0 1, sw_cvh 0 m_X1_cost 1 [(2, 1)], sw_i2l, sw_ast 66, sw_goto 2 []]
def b_X0_cost : sw_B := fun n => match n with
  | 0 => bb_X0_cost_0
  | 1 => [sw_push (.int 1), sw_rv 0]
  | 2 => [sw_push (.int 0), sw_rv 0]
  | _ => []
def bp_X0_cost : Nat → Nat := fun n => match n with
  | 0 => 0
  | 1 => 13
  | 2 => 15
  | _ => 0
abbrev NH_X0_cost : sw_NH := (yX0_cost, cX0_cost, 4, [(0, 9, 12, 19)])
theorem hd_X0_cost {s : State} (hN : sw_NC s) : ∀ k j, sw_jf k [(2, 1)] = some j → sw_Hnd "SpillslotWorksLaw" cX0_cost 4 s (tableOf NH_X0_cost.2.2.2) 4 k (bp_X0_cost j) := by
  intro k j h
  simp only [sw_jf_c, sw_jf_e] at h
  by_cases e0 : k = 2
  · subst e0
    have h9 : j = 1 := by simpa using h.symm
    subst h9
    exact ⟨[], [], ⟨0, 9, 12, 19⟩, rfl, List.forall_mem_nil _, by decide, by decide, q1592, sw_cw2, Or.inr ⟨3, dX0_cost_12, by decide, rfl⟩⟩
  · rw [if_neg e0] at h
    cases h
theorem gd_X0_cost_0 {p : Program} {l : Launch} {e : Env} {R : Room} {s : State} {m : MethodId} {args : Array Value} {below : List Frame} {meth : Method} {c : Code} {Q : State → Prop} {D : sw_D} {A : Nat → Prop} {N0 K0 NE KE d : Nat} {cf : sw_F} {rf : sw_R} (hX : sw_X p l e R s m args below meth c D A "SpillslotWorksLaw" cX0_cost 4 (some .int) N0 K0 NE KE d) (hC : sw_Ct l sw_TN cf d) (hv : ∃ v, rf.1 = .inl v) (hQ : sw_QR s args below Q D A N0 K0 NE KE rf) (ht : c.exceptionTable.toList = tableOf NH_X0_cost.2.2.2) (hN : sw_NC s) : sw_Gd (sw_J p l e R s m args below meth c Q D A 4 N0 K0) cf bp_X0_cost NE KE rf bb_X0_cost_0 0 :=
  sw_gcn 1 (Sd_aload_n hX dX0_cost_0 rfl) (sw_gcn 2 (Sd_iconst hX dX0_cost_1 (by decide)) (sw_gcn 3 (Sd_aload_n hX dX0_cost_2 rfl) (sw_gcn 4 (Sd_iload_n hX dX0_cost_3 rfl) (sw_gcn 7 (Sd_cvh hX hC hv ht (hd_X0_cost hN) (y := m_X1_cost) (nm := N_X1_cost) rfl (k := 0) (by decide) mf_X1_cost dX0_cost_4 q1799 q1800 q1801) (sw_gcn 8 (Sd_i2l hX dX0_cost_7) (sw_gcn 9 (Sd_lastore hX dX0_cost_8) (sw_gcn 12 (Sd_goto hX dX0_cost_9 (by decide) rfl) sw_gn)))))))
theorem ok_X0_cost {l : Launch} : sw_OkH l NH_X0_cost b_X0_cost bp_X0_cost := ⟨by decide +kernel, rfl, q1798, fun _ _ _ _ _ _ _ _ _ _ _ _ _ _ _ _ _ _ _ hX hC hv hQ ht hN => fun n => match n with
  | 0 => gd_X0_cost_0 hX hC hv hQ ht hN
  | 1 => sw_gcn 14 (Sd_iconst hX dX0_cost_13 (by decide)) (sw_gcn 15 (Sd_ireturn hX hQ dX0_cost_14 rfl) sw_gn)
  | 2 => sw_gcn 16 (Sd_iconst hX dX0_cost_15 (by decide)) (sw_gcn 17 (Sd_ireturn hX hQ dX0_cost_16 rfl) sw_gn)
  | _ + 3 => trivial⟩
def bb_X0_code_0 : List sw_I := [sw_ld 2 3, sw_push (.int 0), sw_ld 2 0, sw_ld 0 1, sw_ld 0 2, sw_cvh 0 m_X1_code 2 [(2, 1), (0, 2)], sw_i2l, sw_ast 66, sw_goto 3 []]
def b_X0_code : sw_B := fun n => match n with
  | 0 => bb_X0_code_0
  | 1 => [sw_push (.int 1), sw_rv 0]
  | 2 => [sw_push (.int 2), sw_rv 0]
  | 3 => [sw_push (.int 0), sw_rv 0]
  | _ => []
def bp_X0_code : Nat → Nat := fun n => match n with
  | 0 => 0
  | 1 => 15
  | 2 => 19
  | 3 => 21
  | _ => 0
abbrev NH_X0_code : sw_NH := (yX0_code, cX0_code, 5, [(0, 10, 13, 19), (0, 10, 17, 13)])
theorem hd_X0_code {s : State} (hN : sw_NC s) : ∀ k j, sw_jf k [(2, 1), (0, 2)] = some j → sw_Hnd "SpillslotWorksLaw" cX0_code 5 s (tableOf NH_X0_code.2.2.2) 5 k (bp_X0_code j) := by
  intro k j h
  simp only [sw_jf_c, sw_jf_e] at h
  by_cases e0 : k = 2
  · subst e0
    have h9 : j = 1 := by simpa using h.symm
    subst h9
    exact ⟨[], [⟨0, 10, 17, 13⟩], ⟨0, 10, 13, 19⟩, rfl, List.forall_mem_nil _, by decide, by decide, q1592, sw_cw2, Or.inl ⟨4, dX0_code_13, by decide, rfl⟩⟩
  · rw [if_neg e0] at h
    by_cases e1 : k = 0
    · subst e1
      have h9 : j = 2 := by simpa using h.symm
      subst h9
      exact ⟨[⟨0, 10, 13, 19⟩], [], ⟨0, 10, 17, 13⟩, rfl, List.forall_mem_cons.mpr ⟨Or.inr ⟨by decide, sw_exn 2, q1592, hN (0, 2) (by decide)⟩, List.forall_mem_nil _⟩, by decide, by decide, q1560, sw_cw0, Or.inl ⟨4, dX0_code_17, by decide, rfl⟩⟩
    · rw [if_neg e1] at h
      cases h
theorem gd_X0_code_0 {p : Program} {l : Launch} {e : Env} {R : Room} {s : State} {m : MethodId} {args : Array Value} {below : List Frame} {meth : Method} {c : Code} {Q : State → Prop} {D : sw_D} {A : Nat → Prop} {N0 K0 NE KE d : Nat} {cf : sw_F} {rf : sw_R} (hX : sw_X p l e R s m args below meth c D A "SpillslotWorksLaw" cX0_code 5 (some .int) N0 K0 NE KE d) (hC : sw_Ct l sw_TN cf d) (hv : ∃ v, rf.1 = .inl v) (hQ : sw_QR s args below Q D A N0 K0 NE KE rf) (ht : c.exceptionTable.toList = tableOf NH_X0_code.2.2.2) (hN : sw_NC s) : sw_Gd (sw_J p l e R s m args below meth c Q D A 5 N0 K0) cf bp_X0_code NE KE rf bb_X0_code_0 0 :=
  sw_gcn 1 (Sd_aload_n hX dX0_code_0 rfl) (sw_gcn 2 (Sd_iconst hX dX0_code_1 (by decide)) (sw_gcn 3 (Sd_aload_n hX dX0_code_2 rfl) (sw_gcn 4 (Sd_iload_n hX dX0_code_3 rfl) (sw_gcn 5 (Sd_iload_n hX dX0_code_4 rfl) (sw_gcn 8 (Sd_cvh hX hC hv ht (hd_X0_code hN) (y := m_X1_code) (nm := N_X1_code) rfl (k := 0) (by decide) mf_X1_code dX0_code_5 q1806 q1807 q1808) (sw_gcn 9 (Sd_i2l hX dX0_code_8) (sw_gcn 10 (Sd_lastore hX dX0_code_9) (sw_gcn 13 (Sd_goto hX dX0_code_10 (by decide) rfl) sw_gn))))))))
theorem ok_X0_code {l : Launch} : sw_OkH l NH_X0_code b_X0_code bp_X0_code := ⟨by decide +kernel, rfl, q1805, fun _ _ _ _ _ _ _ _ _ _ _ _ _ _ _ _ _ _ _ hX hC hv hQ ht hN => fun n => match n with
  | 0 => gd_X0_code_0 hX hC hv hQ ht hN
  | 1 => sw_gcn 16 (Sd_iconst hX dX0_code_15 (by decide)) (sw_gcn 17 (Sd_ireturn hX hQ dX0_code_16 rfl) sw_gn)
  | 2 => sw_gcn 20 (Sd_iconst hX dX0_code_19 (by decide)) (sw_gcn 21 (Sd_ireturn hX hQ dX0_code_20 rfl) sw_gn)
  | 3 => sw_gcn 22 (Sd_iconst hX dX0_code_21 (by decide)) (sw_gcn 23 (Sd_ireturn hX hQ dX0_code_22 rfl) sw_gn)
  | _ + 4 => trivial⟩
def bb_X0_begins_0 : List sw_I := [sw_ld 2 2, sw_push (.int 0), sw_ld 2 0, sw_ld 0 1, sw_cvh 0 m_X1_begins 1 [(2, 1)], sw_i2l, sw_ast 66, sw_goto 2 []]
def b_X0_begins : sw_B := fun n => match n with
  | 0 => bb_X0_begins_0
  | 1 => [sw_push (.int 1), sw_rv 0]
  | 2 => [sw_push (.int 0), sw_rv 0]
  | _ => []
def bp_X0_begins : Nat → Nat := fun n => match n with
  | 0 => 0
  | 1 => 13
  | 2 => 15
  | _ => 0
abbrev NH_X0_begins : sw_NH := (yX0_begins, cX0_begins, 4, [(0, 9, 12, 19)])
theorem hd_X0_begins {s : State} (hN : sw_NC s) : ∀ k j, sw_jf k [(2, 1)] = some j → sw_Hnd "SpillslotWorksLaw" cX0_begins 4 s (tableOf NH_X0_begins.2.2.2) 4 k (bp_X0_begins j) := by
  intro k j h
  simp only [sw_jf_c, sw_jf_e] at h
  by_cases e0 : k = 2
  · subst e0
    have h9 : j = 1 := by simpa using h.symm
    subst h9
    exact ⟨[], [], ⟨0, 9, 12, 19⟩, rfl, List.forall_mem_nil _, by decide, by decide, q1592, sw_cw2, Or.inr ⟨3, dX0_begins_12, by decide, rfl⟩⟩
  · rw [if_neg e0] at h
    cases h
theorem gd_X0_begins_0 {p : Program} {l : Launch} {e : Env} {R : Room} {s : State} {m : MethodId} {args : Array Value} {below : List Frame} {meth : Method} {c : Code} {Q : State → Prop} {D : sw_D} {A : Nat → Prop} {N0 K0 NE KE d : Nat} {cf : sw_F} {rf : sw_R} (hX : sw_X p l e R s m args below meth c D A "SpillslotWorksLaw" cX0_begins 4 (some .int) N0 K0 NE KE d) (hC : sw_Ct l sw_TN cf d) (hv : ∃ v, rf.1 = .inl v) (hQ : sw_QR s args below Q D A N0 K0 NE KE rf) (ht : c.exceptionTable.toList = tableOf NH_X0_begins.2.2.2) (hN : sw_NC s) : sw_Gd (sw_J p l e R s m args below meth c Q D A 4 N0 K0) cf bp_X0_begins NE KE rf bb_X0_begins_0 0 :=
  sw_gcn 1 (Sd_aload_n hX dX0_begins_0 rfl) (sw_gcn 2 (Sd_iconst hX dX0_begins_1 (by decide)) (sw_gcn 3 (Sd_aload_n hX dX0_begins_2 rfl) (sw_gcn 4 (Sd_iload_n hX dX0_begins_3 rfl) (sw_gcn 7 (Sd_cvh hX hC hv ht (hd_X0_begins hN) (y := m_X1_begins) (nm := N_X1_begins) rfl (k := 0) (by decide) mf_X1_begins dX0_begins_4 q1813 q1814 q1815) (sw_gcn 8 (Sd_i2l hX dX0_begins_7) (sw_gcn 9 (Sd_lastore hX dX0_begins_8) (sw_gcn 12 (Sd_goto hX dX0_begins_9 (by decide) rfl) sw_gn)))))))
theorem ok_X0_begins {l : Launch} : sw_OkH l NH_X0_begins b_X0_begins bp_X0_begins := ⟨by decide +kernel, rfl, q1812, fun _ _ _ _ _ _ _ _ _ _ _ _ _ _ _ _ _ _ _ hX hC hv hQ ht hN => fun n => match n with
  | 0 => gd_X0_begins_0 hX hC hv hQ ht hN
  | 1 => sw_gcn 14 (Sd_iconst hX dX0_begins_13 (by decide)) (sw_gcn 15 (Sd_ireturn hX hQ dX0_begins_14 rfl) sw_gn)
  | 2 => sw_gcn 16 (Sd_iconst hX dX0_begins_15 (by decide)) (sw_gcn 17 (Sd_ireturn hX hQ dX0_begins_16 rfl) sw_gn)
  | _ + 3 => trivial⟩
def bb_X0_answer_0 : List sw_I := [sw_ld 2 2, sw_push (.int 0), sw_ld 2 0, sw_ld 0 1, sw_cvh 0 m_X1_answer 1 [(2, 1)], sw_i2l, sw_ast 66, sw_goto 2 []]
def b_X0_answer : sw_B := fun n => match n with
  | 0 => bb_X0_answer_0
  | 1 => [sw_push (.int 1), sw_rv 0]
  | 2 => [sw_push (.int 0), sw_rv 0]
  | _ => []
def bp_X0_answer : Nat → Nat := fun n => match n with
  | 0 => 0
  | 1 => 13
  | 2 => 15
  | _ => 0
abbrev NH_X0_answer : sw_NH := (yX0_answer, cX0_answer, 4, [(0, 9, 12, 19)])
theorem hd_X0_answer {s : State} (hN : sw_NC s) : ∀ k j, sw_jf k [(2, 1)] = some j → sw_Hnd "SpillslotWorksLaw" cX0_answer 4 s (tableOf NH_X0_answer.2.2.2) 4 k (bp_X0_answer j) := by
  intro k j h
  simp only [sw_jf_c, sw_jf_e] at h
  by_cases e0 : k = 2
  · subst e0
    have h9 : j = 1 := by simpa using h.symm
    subst h9
    exact ⟨[], [], ⟨0, 9, 12, 19⟩, rfl, List.forall_mem_nil _, by decide, by decide, q1592, sw_cw2, Or.inr ⟨3, dX0_answer_12, by decide, rfl⟩⟩
  · rw [if_neg e0] at h
    cases h
theorem gd_X0_answer_0 {p : Program} {l : Launch} {e : Env} {R : Room} {s : State} {m : MethodId} {args : Array Value} {below : List Frame} {meth : Method} {c : Code} {Q : State → Prop} {D : sw_D} {A : Nat → Prop} {N0 K0 NE KE d : Nat} {cf : sw_F} {rf : sw_R} (hX : sw_X p l e R s m args below meth c D A "SpillslotWorksLaw" cX0_answer 4 (some .int) N0 K0 NE KE d) (hC : sw_Ct l sw_TN cf d) (hv : ∃ v, rf.1 = .inl v) (hQ : sw_QR s args below Q D A N0 K0 NE KE rf) (ht : c.exceptionTable.toList = tableOf NH_X0_answer.2.2.2) (hN : sw_NC s) : sw_Gd (sw_J p l e R s m args below meth c Q D A 4 N0 K0) cf bp_X0_answer NE KE rf bb_X0_answer_0 0 :=
  sw_gcn 1 (Sd_aload_n hX dX0_answer_0 rfl) (sw_gcn 2 (Sd_iconst hX dX0_answer_1 (by decide)) (sw_gcn 3 (Sd_aload_n hX dX0_answer_2 rfl) (sw_gcn 4 (Sd_iload_n hX dX0_answer_3 rfl) (sw_gcn 7 (Sd_cvh hX hC hv ht (hd_X0_answer hN) (y := m_X1_answer) (nm := N_X1_answer) rfl (k := 0) (by decide) mf_X1_answer dX0_answer_4 q1820 q1821 q1822) (sw_gcn 8 (Sd_i2l hX dX0_answer_7) (sw_gcn 9 (Sd_lastore hX dX0_answer_8) (sw_gcn 12 (Sd_goto hX dX0_answer_9 (by decide) rfl) sw_gn)))))))
theorem ok_X0_answer {l : Launch} : sw_OkH l NH_X0_answer b_X0_answer bp_X0_answer := ⟨by decide +kernel, rfl, q1819, fun _ _ _ _ _ _ _ _ _ _ _ _ _ _ _ _ _ _ _ hX hC hv hQ ht hN => fun n => match n with
  | 0 => gd_X0_answer_0 hX hC hv hQ ht hN
  | 1 => sw_gcn 14 (Sd_iconst hX dX0_answer_13 (by decide)) (sw_gcn 15 (Sd_ireturn hX hQ dX0_answer_14 rfl) sw_gn)
  | 2 => sw_gcn 16 (Sd_iconst hX dX0_answer_15 (by decide)) (sw_gcn 17 (Sd_ireturn hX hQ dX0_answer_16 rfl) sw_gn)
  | _ + 3 => trivial⟩
def bb_X0_many_0 : List sw_I := [sw_ld 2 2, sw_push (.int 0), sw_ld 2 0, sw_ld 0 1, sw_cvh 0 m_X1_many 1 [(0, 1)], sw_i2l, sw_ast 66, sw_goto 2 []]
def b_X0_many : sw_B := fun n => match n with
  | 0 => bb_X0_many_0
  | 1 => [sw_push (.int 1), sw_rv 0]
  | 2 => [sw_push (.int 0), sw_rv 0]
  | _ => []
def bp_X0_many : Nat → Nat := fun n => match n with
  | 0 => 0
  | 1 => 13
  | 2 => 15
  | _ => 0
abbrev NH_X0_many : sw_NH := (yX0_many, cX0_many, 4, [(0, 9, 12, 13)])
theorem hd_X0_many {s : State} (hN : sw_NC s) : ∀ k j, sw_jf k [(0, 1)] = some j → sw_Hnd "SpillslotWorksLaw" cX0_many 4 s (tableOf NH_X0_many.2.2.2) 4 k (bp_X0_many j) := by
  intro k j h
  simp only [sw_jf_c, sw_jf_e] at h
  by_cases e0 : k = 0
  · subst e0
    have h9 : j = 1 := by simpa using h.symm
    subst h9
    exact ⟨[], [], ⟨0, 9, 12, 13⟩, rfl, List.forall_mem_nil _, by decide, by decide, q1560, sw_cw0, Or.inr ⟨3, dX0_many_12, by decide, rfl⟩⟩
  · rw [if_neg e0] at h
    cases h
theorem gd_X0_many_0 {p : Program} {l : Launch} {e : Env} {R : Room} {s : State} {m : MethodId} {args : Array Value} {below : List Frame} {meth : Method} {c : Code} {Q : State → Prop} {D : sw_D} {A : Nat → Prop} {N0 K0 NE KE d : Nat} {cf : sw_F} {rf : sw_R} (hX : sw_X p l e R s m args below meth c D A "SpillslotWorksLaw" cX0_many 4 (some .int) N0 K0 NE KE d) (hC : sw_Ct l sw_TN cf d) (hv : ∃ v, rf.1 = .inl v) (hQ : sw_QR s args below Q D A N0 K0 NE KE rf) (ht : c.exceptionTable.toList = tableOf NH_X0_many.2.2.2) (hN : sw_NC s) : sw_Gd (sw_J p l e R s m args below meth c Q D A 4 N0 K0) cf bp_X0_many NE KE rf bb_X0_many_0 0 :=
  sw_gcn 1 (Sd_aload_n hX dX0_many_0 rfl) (sw_gcn 2 (Sd_iconst hX dX0_many_1 (by decide)) (sw_gcn 3 (Sd_aload_n hX dX0_many_2 rfl) (sw_gcn 4 (Sd_iload_n hX dX0_many_3 rfl) (sw_gcn 7 (Sd_cvh hX hC hv ht (hd_X0_many hN) (y := m_X1_many) (nm := N_X1_many) rfl (k := 0) (by decide) mf_X1_many dX0_many_4 q1827 q1828 q1829) (sw_gcn 8 (Sd_i2l hX dX0_many_7) (sw_gcn 9 (Sd_lastore hX dX0_many_8) (sw_gcn 12 (Sd_goto hX dX0_many_9 (by decide) rfl) sw_gn)))))))
theorem ok_X0_many {l : Launch} : sw_OkH l NH_X0_many b_X0_many bp_X0_many := ⟨by decide +kernel, rfl, q1826, fun _ _ _ _ _ _ _ _ _ _ _ _ _ _ _ _ _ _ _ hX hC hv hQ ht hN => fun n => match n with
  | 0 => gd_X0_many_0 hX hC hv hQ ht hN
  | 1 => sw_gcn 14 (Sd_iconst hX dX0_many_13 (by decide)) (sw_gcn 15 (Sd_ireturn hX hQ dX0_many_14 rfl) sw_gn)
  | 2 => sw_gcn 16 (Sd_iconst hX dX0_many_15 (by decide)) (sw_gcn 17 (Sd_ireturn hX hQ dX0_many_16 rfl) sw_gn)
  | _ + 3 => trivial⟩
def bb_X0_with_0 : List sw_I := [sw_ld 2 5, sw_push (.int 0), sw_ld 2 0, sw_ld 0 1, sw_ld 0 2, sw_ld 0 3, sw_ld 0 4, sw_cvh 0 m_X1_with 4 [(0, 1)], sw_i2l, sw_ast 66, sw_goto 2 []]
def b_X0_with : sw_B := fun n => match n with
  | 0 => bb_X0_with_0
  | 1 => [sw_push (.int 1), sw_rv 0]
  | 2 => [sw_push (.int 0), sw_rv 0]
  | _ => []
def bp_X0_with : Nat → Nat := fun n => match n with
  | 0 => 0
  | 1 => 19
  | 2 => 21
  | _ => 0
abbrev NH_X0_with : sw_NH := (yX0_with, cX0_with, 7, [(0, 14, 17, 13)])
theorem hd_X0_with {s : State} (hN : sw_NC s) : ∀ k j, sw_jf k [(0, 1)] = some j → sw_Hnd "SpillslotWorksLaw" cX0_with 7 s (tableOf NH_X0_with.2.2.2) 9 k (bp_X0_with j) := by
  intro k j h
  simp only [sw_jf_c, sw_jf_e] at h
  by_cases e0 : k = 0
  · subst e0
    have h9 : j = 1 := by simpa using h.symm
    subst h9
    exact ⟨[], [], ⟨0, 14, 17, 13⟩, rfl, List.forall_mem_nil _, by decide, by decide, q1560, sw_cw0, Or.inl ⟨6, dX0_with_17, by decide, rfl⟩⟩
  · rw [if_neg e0] at h
    cases h
theorem gd_X0_with_0 {p : Program} {l : Launch} {e : Env} {R : Room} {s : State} {m : MethodId} {args : Array Value} {below : List Frame} {meth : Method} {c : Code} {Q : State → Prop} {D : sw_D} {A : Nat → Prop} {N0 K0 NE KE d : Nat} {cf : sw_F} {rf : sw_R} (hX : sw_X p l e R s m args below meth c D A "SpillslotWorksLaw" cX0_with 7 (some .int) N0 K0 NE KE d) (hC : sw_Ct l sw_TN cf d) (hv : ∃ v, rf.1 = .inl v) (hQ : sw_QR s args below Q D A N0 K0 NE KE rf) (ht : c.exceptionTable.toList = tableOf NH_X0_with.2.2.2) (hN : sw_NC s) : sw_Gd (sw_J p l e R s m args below meth c Q D A 7 N0 K0) cf bp_X0_with NE KE rf bb_X0_with_0 0 :=
  sw_gcn 2 (Sd_aload hX dX0_with_0) (sw_gcn 3 (Sd_iconst hX dX0_with_2 (by decide)) (sw_gcn 4 (Sd_aload_n hX dX0_with_3 rfl) (sw_gcn 5 (Sd_iload_n hX dX0_with_4 rfl) (sw_gcn 6 (Sd_iload_n hX dX0_with_5 rfl) (sw_gcn 7 (Sd_iload_n hX dX0_with_6 rfl) (sw_gcn 9 (Sd_iload hX dX0_with_7) (sw_gcn 12 (Sd_cvh hX hC hv ht (hd_X0_with hN) (y := m_X1_with) (nm := N_X1_with) rfl (k := 0) (by decide) mf_X1_with dX0_with_9 q1834 q1835 q1836) (sw_gcn 13 (Sd_i2l hX dX0_with_12) (sw_gcn 14 (Sd_lastore hX dX0_with_13) (sw_gcn 17 (Sd_goto hX dX0_with_14 (by decide) rfl) sw_gn))))))))))
theorem ok_X0_with {l : Launch} : sw_OkH l NH_X0_with b_X0_with bp_X0_with := ⟨by decide +kernel, rfl, q1833, fun _ _ _ _ _ _ _ _ _ _ _ _ _ _ _ _ _ _ _ hX hC hv hQ ht hN => fun n => match n with
  | 0 => gd_X0_with_0 hX hC hv hQ ht hN
  | 1 => sw_gcn 20 (Sd_iconst hX dX0_with_19 (by decide)) (sw_gcn 21 (Sd_ireturn hX hQ dX0_with_20 rfl) sw_gn)
  | 2 => sw_gcn 22 (Sd_iconst hX dX0_with_21 (by decide)) (sw_gcn 23 (Sd_ireturn hX hQ dX0_with_22 rfl) sw_gn)
  | _ + 3 => trivial⟩
def bb_X0_cyclesWith_0 : List sw_I := [sw_ld 2 3, sw_push (.int 0), sw_ld 2 0, sw_ld 0 1, sw_ld 0 2, sw_cvh 0 m_X1_cyclesWith 2 [(2, 1), (0, 2)], sw_i2l, sw_ast 66, sw_goto 3 []]
def b_X0_cyclesWith : sw_B := fun n => match n with
  | 0 => bb_X0_cyclesWith_0
  | 1 => [sw_push (.int 1), sw_rv 0]
  | 2 => [sw_push (.int 2), sw_rv 0]
  | 3 => [sw_push (.int 0), sw_rv 0]
  | _ => []
def bp_X0_cyclesWith : Nat → Nat := fun n => match n with
  | 0 => 0
  | 1 => 15
  | 2 => 19
  | 3 => 21
  | _ => 0
abbrev NH_X0_cyclesWith : sw_NH := (yX0_cyclesWith, cX0_cyclesWith, 5, [(0, 10, 13, 19), (0, 10, 17, 13)])
theorem hd_X0_cyclesWith {s : State} (hN : sw_NC s) : ∀ k j, sw_jf k [(2, 1), (0, 2)] = some j → sw_Hnd "SpillslotWorksLaw" cX0_cyclesWith 5 s (tableOf NH_X0_cyclesWith.2.2.2) 5 k (bp_X0_cyclesWith j) := by
  intro k j h
  simp only [sw_jf_c, sw_jf_e] at h
  by_cases e0 : k = 2
  · subst e0
    have h9 : j = 1 := by simpa using h.symm
    subst h9
    exact ⟨[], [⟨0, 10, 17, 13⟩], ⟨0, 10, 13, 19⟩, rfl, List.forall_mem_nil _, by decide, by decide, q1592, sw_cw2, Or.inl ⟨4, dX0_cyclesWith_13, by decide, rfl⟩⟩
  · rw [if_neg e0] at h
    by_cases e1 : k = 0
    · subst e1
      have h9 : j = 2 := by simpa using h.symm
      subst h9
      exact ⟨[⟨0, 10, 13, 19⟩], [], ⟨0, 10, 17, 13⟩, rfl, List.forall_mem_cons.mpr ⟨Or.inr ⟨by decide, sw_exn 2, q1592, hN (0, 2) (by decide)⟩, List.forall_mem_nil _⟩, by decide, by decide, q1560, sw_cw0, Or.inl ⟨4, dX0_cyclesWith_17, by decide, rfl⟩⟩
    · rw [if_neg e1] at h
      cases h
theorem gd_X0_cyclesWith_0 {p : Program} {l : Launch} {e : Env} {R : Room} {s : State} {m : MethodId} {args : Array Value} {below : List Frame} {meth : Method} {c : Code} {Q : State → Prop} {D : sw_D} {A : Nat → Prop} {N0 K0 NE KE d : Nat} {cf : sw_F} {rf : sw_R} (hX : sw_X p l e R s m args below meth c D A "SpillslotWorksLaw" cX0_cyclesWith 5 (some .int) N0 K0 NE KE d) (hC : sw_Ct l sw_TN cf d) (hv : ∃ v, rf.1 = .inl v) (hQ : sw_QR s args below Q D A N0 K0 NE KE rf) (ht : c.exceptionTable.toList = tableOf NH_X0_cyclesWith.2.2.2) (hN : sw_NC s) : sw_Gd (sw_J p l e R s m args below meth c Q D A 5 N0 K0) cf bp_X0_cyclesWith NE KE rf bb_X0_cyclesWith_0 0 :=
  sw_gcn 1 (Sd_aload_n hX dX0_cyclesWith_0 rfl) (sw_gcn 2 (Sd_iconst hX dX0_cyclesWith_1 (by decide)) (sw_gcn 3 (Sd_aload_n hX dX0_cyclesWith_2 rfl) (sw_gcn 4 (Sd_iload_n hX dX0_cyclesWith_3 rfl) (sw_gcn 5 (Sd_iload_n hX dX0_cyclesWith_4 rfl) (sw_gcn 8 (Sd_cvh hX hC hv ht (hd_X0_cyclesWith hN) (y := m_X1_cyclesWith) (nm := N_X1_cyclesWith) rfl (k := 0) (by decide) mf_X1_cyclesWith dX0_cyclesWith_5 q1841 q1842 q1843) (sw_gcn 9 (Sd_i2l hX dX0_cyclesWith_8) (sw_gcn 10 (Sd_lastore hX dX0_cyclesWith_9) (sw_gcn 13 (Sd_goto hX dX0_cyclesWith_10 (by decide) rfl) sw_gn))))))))
theorem ok_X0_cyclesWith {l : Launch} : sw_OkH l NH_X0_cyclesWith b_X0_cyclesWith bp_X0_cyclesWith := ⟨by decide +kernel, rfl, q1840, fun _ _ _ _ _ _ _ _ _ _ _ _ _ _ _ _ _ _ _ hX hC hv hQ ht hN => fun n => match n with
  | 0 => gd_X0_cyclesWith_0 hX hC hv hQ ht hN
  | 1 => sw_gcn 16 (Sd_iconst hX dX0_cyclesWith_15 (by decide)) (sw_gcn 17 (Sd_ireturn hX hQ dX0_cyclesWith_16 rfl) sw_gn)
  | 2 => sw_gcn 20 (Sd_iconst hX dX0_cyclesWith_19 (by decide)) (sw_gcn 21 (Sd_ireturn hX hQ dX0_cyclesWith_20 rfl) sw_gn)
  | 3 => sw_gcn 22 (Sd_iconst hX dX0_cyclesWith_21 (by decide)) (sw_gcn 23 (Sd_ireturn hX hQ dX0_cyclesWith_22 rfl) sw_gn)
  | _ + 4 => trivial⟩
