/-! ===== the bridge: contracts, calls, ends ===== -/
theorem sw_over_moved {u U : State} (hvm : u.vm.Alike U.vm) (h : (Cond.arrayOver (.array .boolean)).before #[] u = true) : (Cond.arrayOver (.array .boolean)).before #[] U = true := by
  obtain ⟨comp, c, k, h1, h2, h3, h4, h5⟩ := arrayOverA_spec h
  obtain ⟨k', hk', he⟩ := hvm.2.2 _ _ h3
  have hi : (U.vm.classes.findIdx? fun (x : Class) => match x.kind with | .array component _ => component == comp | _ => false) = some c := by
    rw [hvm.findIdx?_eq _ (fun _ => rfl)]; exact h2
  have hkind : k'.kind = .array comp (.array .boolean) := by rw [he]; exact h4
  have f1 : U.vm.findClass (FieldType.array .boolean).toString = some comp := by rw [hvm.findClass]; exact h1
  have f2 : U.vm.findClass ("[" ++ (FieldType.array .boolean).toString) = some c := by rw [hvm.findClass]; exact h5
  unfold Cond.before Cond.holds
  simp only [Cond.value]
  rw [f1, Option.bind_some]
  refine (congrArg (fun o : Option Nat => (o.bind (fun c => (U.vm.classes[c]?).map fun (k : Class) => match k.kind with | .array _ ty => decide (ty = FieldType.array .boolean) && decide (U.vm.findClass ("[" ++ (FieldType.array .boolean).toString) = some c) | _ => false) == some true)) hi).trans ?_
  simp [hk', hkind, f2]
theorem sw_ST.warm {l : Launch} {D : sw_D} {A : Nat → Prop} {s U : State} {H H1 : Heap} (hW : s.WarmedH U.vm) (hq : ∀ a : Nat, a < H.size → ¬ A a → H1[a]? = H[a]?) (h : sw_ST l D A s H) : sw_ST l D A U H1 := by
  have hvm := hW.alike
  obtain ⟨h1, h2, h3, h4, h5, h6, h7, h8, h9, h10, h11, h12, h13, h14, h15, h16, h17, h18, h19, h20, h21⟩ := h
  refine ⟨h1.moved hvm, va_En.moved hvm (h2.kept hq), vb_C.moved hvm (h3.kept hq), va_Z.moved hvm (h4.kept hq), va_T.moved hvm (h5.kept hq), va_O.moved hvm (h6.kept hq), va_Z.moved hvm (h7.kept hq), va_T.moved hvm (h8.kept hq), va_Z.moved hvm (h9.kept hq), va_Mi.moved hvm h10, va_Dc.moved hvm h11, fun w hw => ?_, fun w hw => ?_, fun w hw => ?_, fun q hq2 => (h15 q hq2).moved (sw_wI_ok q hq2) hvm, va_AO.moved hvm h16, va_AO.moved hvm h17, sw_over_moved hvm h18, vx_Zq.moved hvm (h19.kept hq), vx_Zq.moved hvm (h20.kept hq), h21⟩
  · have hz := h12 w hw
    have hw2 := (List.mem_filter.mp hw).2
    split at hw2
    · exact va_Nw.warmF hW hz
    · cases hw2
  · have hz := h13 w hw
    have hw2 := (List.mem_filter.mp hw).2
    split at hw2
    · exact va_Nw.warmM hW hz
    · cases hw2
  · have hz := h14 w hw
    have hw2 := (List.mem_filter.mp hw).2
    split at hw2
    · exact va_Nw.warmC hW hz
    · exact va_Nw.warmD hW hz
    · cases hw2
def sw_exn (k : Nat) : String := if k = 0 then "java/lang/IllegalArgumentException" else if k = 1 then "java/lang/IllegalStateException" else "java/lang/IndexOutOfBoundsException"
abbrev sw_NM : Type := MethodName × ByteArray × Nat × Option FieldType
def sw_B0 (l : Launch) (D : sw_D) (A : Nat → Prop) (P : sw_P) (U : State) : Prop := sw_HP D A P U.heap ∧ sw_ST l D A U U.heap ∧ ∀ q, U.heap.size ≤ q → A q
def sw_rm (d : Nat) (P : sw_P) (r : sw_R) : Room := { frames := d + 8, cells := sw_nx r.2 - sw_nx P, slots := sw_sl r.2 - sw_sl P, locals := 48 * d + 400 }
def sw_Qc (D : sw_D) (A : Nat → Prop) (r : sw_R) : Array Value → State → Outcome → State → Prop := fun _ st oc t => (∃ v, r.1 = .inl v ∧ oc = .returned v) ∧ sw_HP D A r.2 t.heap ∧ va_F A st t
def sw_XC (D : sw_D) (A : Nat → Prop) (r : sw_R) : String → State → State → Prop := fun E st t => (∃ k, r.1 = .inr k ∧ E = sw_exn k) ∧ sw_HP D A r.2 t.heap ∧ va_F A st t
/-- a method's contract over the small machine's answer -/
def sw_Mt (l : Launch) (nm : sw_NM) (d : Nat) (as : List Value) (P : sw_P) (r : sw_R) : Prop := sw_mo P r.2 ∧ ∀ (D : sw_D) (A : Nat → Prop), vx_Met l nm.1 (ws_ nm.1 nm.2.1 nm.2.2.1 nm.2.2.2) (sw_rm d P r) (va_Pc as (sw_B0 l D A P)) (sw_Qc D A r) (sw_XC D A r) (sw_nx r.2 - sw_nx P) (sw_sl r.2 - sw_sl P) A
/-- all contracts at a depth; TN: the methods' names -/
def sw_Ct (l : Launch) (TN : Nat → Option sw_NM) (cf : sw_F) (d : Nat) : Prop := ∀ y as P r nm, TN y = some nm → cf y as P = some r → sw_Mt l nm d as P r
theorem sw_blind {l : Launch} {D : sw_D} {A : Nat → Prop} {P : sw_P} {as : List Value} : FrameBlind (va_Pc as (sw_B0 l D A P)) := by
  rintro a U g mk ⟨h1, h2, h3, h4⟩
  exact ⟨h1, h2, sw_ST.warm (s := U) (U := U.calling g mk a) (State.WarmedH.refl U) (fun _ _ _ => rfl) h3, h4⟩
/-- the end of a method that throws -/
def sw_QR (s : State) (args : Array Value) (below : List Frame) (Q : State → Prop) (D : sw_D) (A : Nat → Prop) (N0 K0 NE KE : Nat) (rf : sw_R) : Prop := Q = vx_MQ below (sw_Qc D A rf) (sw_XC D A rf) args s (NE - N0) (KE - K0) A ∧ sw_nx rf.2 = NE ∧ sw_sl rf.2 = KE
def sw_QM (s : State) (args : Array Value) (below : List Frame) (c : Code) (Q : State → Prop) (D : sw_D) (A : Nat → Prop) (N0 K0 NE KE : Nat) (rf : sw_R) : Prop := sw_QR s args below Q D A N0 K0 NE KE rf ∧ (∀ x ∈ c.exceptionTable.toList, False)
theorem sw_room_l {mL d X : Nat} (h : 48 * d + 448 ≤ X) (hm : mL ≤ 29) : 8 + (mL + 11) + (48 * d + 400) ≤ X := by
  have h1 : 8 + (mL + 11) ≤ 48 := by omega
  exact Nat.le_trans (Nat.add_le_add_right h1 _) (by rw [Nat.add_comm, Nat.add_assoc]; exact h)
theorem sw_room_f {d X : Nat} (h : d + 9 ≤ X) : d + 8 + 1 ≤ X := by omega
theorem sw_decl {args : Array Value} {s : State} {y : MethodName} {b : ByteArray} {L : Nat} {r : Option FieldType} (h1 : (Cond.instanceMethod y).before args s = true) (h2 : (Cond.code y b L r).before args s = true) : va_Decl s y := by
  obtain ⟨mk, methM, hnamed, hmethM, hstM, habM⟩ := Cond.instanceMethod_spec h1
  obtain ⟨methM', cM, hmethM', -, -, -, -, -, -, hsigM⟩ := Cond.code_spec hnamed h2
  cases hmethM.symm.trans hmethM'
  exact ⟨mk, methM, hnamed, hmethM, hstM, hsigM⟩
section SWK
variable {p : Program} {l : Launch} {e : Env} {R : Room} {s : State} {m : MethodId} {args : Array Value} {below : List Frame} {meth : Method} {c : Code} {Q : State → Prop} {D : sw_D} {A : Nat → Prop} {nL N0 K0 NE KE d : Nat} {cf : sw_F} {bpc : Nat → Nat} {rf : sw_R} {own : String} {cc : ByteArray} {ret : Option FieldType} {pc : Nat}
/-- behind a call -/
theorem sw_after (hl3 : nL = nL) {d2 : Nat} {y : Nat} {as : List Value} {P : sw_P} {r : sw_R} {L : sw_L} {st0 rest : List Value} {ls : Array Slot} {H : Heap} {locs : List Loc} {a : Array Value} {len : Nat} (hlocks : meth.locks = false) (hmo : sw_mo P r.2) (h1 : N0 ≤ sw_nx P) (h2 : K0 ≤ sw_sl P) (hl : sw_lv ls nL L) (hS : va_S A s.heap H locs)
    (hr : ∀ T : State, T.heap = H → Stand p l e R s m args below meth c T locs (sw_nx P - N0) (sw_sl P - K0) →
    (∃ (v : Option Value) (st₀ t T' : State) (L : List Loc), st₀.heap = H ∧ Stand p l e R s m args below meth c T' (locs ++ L) (sw_nx P - N0 + (sw_nx r.2 - sw_nx P)) (sw_sl P - K0 + (sw_sl r.2 - sw_sl P)) ∧ (∀ q ∈ L, A q.base) ∧ T'.heap = t.heap ∧ T'.vm = t.vm ∧ sw_Qc D A r a st₀ (.returned v) t ∧
      Goes p e below T (F0 m pc ls st0) T' { (F0 m pc ls st0) with pc := (F0 m pc ls st0).pc + len, stack := v.toList ++ rest }) ∨
    (∃ (q : Addr) (st₀ t T' : State) (L : List Loc) (E : String) (ce : Cell), st₀.heap = H ∧ Stand p l e R s m args below meth c T' (locs ++ L) (sw_nx P - N0 + (sw_nx r.2 - sw_nx P)) (sw_sl P - K0 + (sw_sl r.2 - sw_sl P)) ∧ (∀ z ∈ L, A z.base) ∧ T'.heap = t.heap ∧ T'.vm = t.vm ∧ sw_XC D A r E st₀ t ∧ t.heap[q]? = some ce ∧ ce.vm = .none ∧ s.vm.findClass E = some ce.cls ∧
      Steps p.tables e below (T.setTop (F0 m pc ls st0)) ((T'.setTop { (F0 m pc ls st0) with stack := rest }).pushFrame (.throwing q))))
    (hn : ∀ v, r.1 = .inl v → sw_J p l e R s m args below meth c Q D A nL N0 K0 (pc + len) L (sw_psh v rest) r.2)
    (hx : ∀ k, r.1 = .inr k → ∀ (H1 : Heap) (locs1 : List Loc) (q : Addr) (ce : Cell), sw_HP D A r.2 H1 → va_S A s.heap H1 locs1 → H1[q]? = some ce → ce.vm = .none → s.vm.findClass (sw_exn k) = some ce.cls → vx_W p l e R s m args below meth c H1 locs1 (sw_nx r.2 - N0) (sw_sl r.2 - K0) Q (F0 m pc ls rest) q) :
    W p l e R s m args below meth c H locs (sw_nx P - N0) (sw_sl P - K0) Q (F0 m pc ls st0) := by
  have e1 : sw_nx P - N0 + (sw_nx r.2 - sw_nx P) = sw_nx r.2 - N0 := by have := hmo.1; omega
  have e2 : sw_sl P - K0 + (sw_sl r.2 - sw_sl P) = sw_sl r.2 - K0 := by have := hmo.2; omega
  rw [e1, e2] at hr
  intro T hT X
  rcases hr T hT X with ⟨v, st₀, t, T', L1, g0, X', gL, g1, g2, ⟨⟨v', hv, hoc⟩, hP', hF⟩, st⟩ | ⟨q, st₀, t, T', L1, E, ce, g0, X', gL, g1, g2, ⟨⟨k, hk, hE⟩, hP', hF⟩, hce, hcv, hcl, st⟩
  · cases hoc
    obtain ⟨-, -, k3⟩ := vx_keep g0 g1 hS (fun q _ h => h) (fun q h => h) gL hF
    obtain ⟨t2, a1, b1⟩ := hn v hv (Nat.le_trans h1 hmo.1) (Nat.le_trans h2 hmo.2) ls T'.heap (locs ++ L1) hl (by rw [g1]; exact hP') k3 T' rfl X'
    exact ⟨t2, st t2 a1, b1⟩
  · subst hE
    obtain ⟨-, -, k3⟩ := vx_keep g0 g1 hS (fun q _ h => h) (fun q h => h) gL hF
    obtain ⟨t2, a1, b1⟩ := hx k hk T'.heap (locs ++ L1) q ce (by rw [g1]; exact hP') k3 (by rw [g1]; exact hce) hcv hcl T' rfl X'
    exact ⟨t2, Steps.trans st a1, b1⟩
/-- a callee's exception leaves this method too -/
theorem sw_thrown (hQ : sw_QM s args below c Q D A N0 K0 NE KE rf) (hlocks : meth.locks = false) {k : Nat} (hk : rf.1 = .inr k) {ls : Array Slot} {rest : List Value} {H1 : Heap} {locs1 : List Loc} {q : Addr} {ce : Cell} (hP : sw_HP D A rf.2 H1) (hS : va_S A s.heap H1 locs1) (h1 : H1[q]? = some ce) (h2 : ce.vm = .none) (h3 : s.vm.findClass (sw_exn k) = some ce.cls) :
    vx_W p l e R s m args below meth c H1 locs1 (sw_nx rf.2 - N0) (sw_sl rf.2 - K0) Q (F0 m pc ls rest) q := by
  obtain ⟨⟨hQ1, hQ3, hQ4⟩, hQ2⟩ := hQ
  subst hQ1
  refine vx_out (fun x hx => (hQ2 x hx).elim) hlocks h1 h2 h3 (fun t ht hvm => ⟨⟨k, hk, rfl⟩, by rw [ht]; exact hP, hS.F ht⟩) hS.2.2 (Nat.le_of_eq (by rw [hQ3])) (Nat.le_of_eq (by rw [hQ4]))
/-- what the tables say of a method that is called -/
def sw_Mf (nm : sw_NM) (n : Nat) : Prop := Cond.code nm.1 nm.2.1 nm.2.2.1 nm.2.2.2 ∈ lw_all ∧ Cond.initialized nm.1.cls ∈ lw_all ∧ (nm.1.cls ≠ "java/lang/invoke/MethodHandle" ∧ nm.1.cls ≠ "java/lang/invoke/VarHandle") ∧ (parseMethodDescriptor nm.1.desc).map (fun d => d.parameters.length) = some n ∧ nm.2.2.1 ≤ 29
theorem sw_ws_pay (hts : ∀ w ∈ lw_all, w.before args s = true) {nm : sw_NM} (hc : Cond.code nm.1 nm.2.1 nm.2.2.1 nm.2.2.2 ∈ lw_all) : ∀ w ∈ ws_ nm.1 nm.2.1 nm.2.2.1 nm.2.2.2, ∀ (a' : Array Value) (U : State), s.WarmedH U.vm → w.before a' U = true := pay_in hts (lw_meth hc)
theorem sw_cb (hX : sw_X p l e R s m args below meth c D A own cc nL ret N0 K0 NE KE d) {nm : sw_NM} {n i : Nat} (hM : sw_Mf nm n) (hw : Cond.methodLink own i nm.1 ∈ lw_all) {P : sw_P} {r : sw_R} : CallB R s args own i nm.1 nm.2.1 nm.2.2.1 nm.2.2.2 (ws_ nm.1 nm.2.1 nm.2.2.1 nm.2.2.2) (sw_rm d P r) (sw_nx r.2 - sw_nx P) (sw_sl r.2 - sw_sl P) n := by
  obtain ⟨m1, m2, m3, m4, m5⟩ := hM
  obtain ⟨-, -, -, hfr, hlo⟩ := hX.2.2.2.2.2.2.2.2
  refine ⟨rfl, rfl, sw_room_f hfr, sw_room_l hlo m5, sw_ws_pay hX.2.2.2.2.1 m1, List.mem_cons_self, hX.2.2.2.2.1 _ m1, hX.2.2.2.2.1 _ m2, m3, fun sig h => ?_, hX.2.2.2.2.1 _ hw⟩
  rw [h] at m4
  exact (Option.some.inj m4).symm
theorem sw_cn' (hX : sw_X p l e R s m args below meth c D A own cc nL ret N0 K0 NE KE d) {nm : sw_NM} {n i : Nat} {host : String} (hM : sw_Mf nm n) (hw : Cond.methodLinkNest own i nm.1 host ∈ sw_wM) {P : sw_P} {r : sw_R} : va_CN R s args own i nm.1 host nm.2.1 nm.2.2.1 nm.2.2.2 (ws_ nm.1 nm.2.1 nm.2.2.1 nm.2.2.2) (sw_rm d P r) (sw_nx r.2 - sw_nx P) (sw_sl r.2 - sw_sl P) n := by
  obtain ⟨m1, m2, m3, m4, m5⟩ := hM
  have hST := hX.2.2.2.2.2.2.2.1
  obtain ⟨-, -, -, hfr, hlo⟩ := hX.2.2.2.2.2.2.2.2
  refine ⟨⟨rfl, rfl, sw_room_f hfr, sw_room_l hlo m5, sw_ws_pay hX.2.2.2.2.1 m1, List.mem_cons_self⟩, hX.2.2.2.2.1 _ m1, hX.2.2.2.2.1 _ m2, m3, fun sig h => ?_, va_Nw.use rfl (hST.2.2.2.2.2.2.2.2.2.2.2.2.1 _ hw)⟩
  rw [h] at m4
  exact (Option.some.inj m4).symm
theorem sw_pcs (hST : sw_ST l D A s s.heap) (hAll : ∀ q, s.heap.size ≤ q → A q) {P : sw_P} {as : List Value} {H : Heap} {locs : List Loc} (hP : sw_HP D A P H) (hS : va_S A s.heap H locs) : PreS s H (va_Pc as (sw_B0 l D A P)) as :=
  ⟨sw_blind, fun U hU hW => ⟨rfl, by rw [hU]; exact hP, sw_ST.warm hW (by rw [hU]; exact hS.2.1) hST, fun q hq => hAll q (Nat.le_trans hS.1 (by rw [← hU]; exact hq))⟩⟩
theorem sw_pcv (hST : sw_ST l D A s s.heap) (hAll : ∀ q, s.heap.size ≤ q → A q) {P : sw_P} {a t : Nat} {vs as : List Value} {H : Heap} {locs : List Loc} (hP : sw_HP D A P H) (hS : va_S A s.heap H locs) (ha : sw_hp P a = some (t, vs)) (h71 : t ≠ 71) : PreV s H (sw_cn t) a (va_Pc (.ref a :: as) (sw_B0 l D A P)) as :=
  ⟨sw_blind, sw_recv hST hS hP ha h71, (sw_pcs hST hAll hP hS).2⟩
theorem sw_cs_inv {y n : Nat} {L : sw_L} {st : List Value} {P : sw_P} {x : sw_N} (h : sw_cs y n cf (L, st, P) = some x) : ∃ as rest r, st = as.reverse ++ rest ∧ as.length = n ∧ sw_ok rest = true ∧ cf y as P = some r ∧ ((∃ v, r.1 = .inl v ∧ x = .inl (L, sw_psh v rest, r.2)) ∨ (∃ k, r.1 = .inr k ∧ x = .inr (.inr r))) := by
  simp only [sw_cs] at h
  split at h
  · rename_i hc
    refine ⟨(st.take n).reverse, st.drop n, ?_⟩
    cases hcf : cf y (st.take n).reverse P with
    | none => rw [hcf] at h; cases h
    | some r =>
      rw [hcf] at h
      refine ⟨r, by rw [List.reverse_reverse]; exact (List.take_append_drop n st).symm, by simp; exact Nat.min_eq_left hc.1, hc.2, rfl, ?_⟩
      obtain ⟨v | k, P'⟩ := r
      · left; exact ⟨v, rfl, (Option.some.inj h).symm⟩
      · right; exact ⟨k, rfl, (Option.some.inj h).symm⟩
  · cases h
variable {TN : Nat → Option sw_NM}

theorem Sd_static (hX : sw_X p l e R s m args below meth c D A own cc nL ret N0 K0 NE KE d) (hC : sw_Ct l TN cf d) (hQ : (∃ v, rf.1 = .inl v) ∨ sw_QM s args below c Q D A N0 K0 NE KE rf) {y n i : Nat} {nm : sw_NM} (hy : TN y = some nm) (hM : sw_Mf nm n) (hd : decode cc pc = .ok (.invokestatic i, 3)) (hw : Cond.methodLink own i nm.1 ∈ lw_all) (hst0 : Cond.static nm.1 ∈ lw_all) : sw_Sd (sw_J p l e R s m args below meth c Q D A nL N0 K0) cf bpc NE KE rf (sw_cs y n) pc (pc + 3) := by
  intro L st P x hx
  obtain ⟨as, rest, r, hst, hlen, hok, hcf, hres⟩ := sw_cs_inv hx
  obtain ⟨hmo, hMet⟩ := hC y _ P r _ hy hcf
  have hMt := hMet D A
  have hout : sw_out x = r.2 := by rcases hres with ⟨v, -, rfl⟩ | ⟨k, -, rfl⟩ <;> rfl
  refine ⟨by rw [hout]; exact hmo, fun hNE hKE hk h1 h2 ls H locs hl hP hS => ?_⟩
  rw [hout] at hNE hKE
  have hsum := sw_ok_sum hok
  have hST := hX.2.2.2.2.2.2.2.1
  obtain ⟨hAll, hRc, hRs, hfr, hlo⟩ := hX.2.2.2.2.2.2.2.2
  have hf : sw_nx P - N0 + (sw_nx r.2 - sw_nx P) ≤ R.cells ∧ sw_sl P - K0 + (sw_sl r.2 - sw_sl P) ≤ R.slots := by
    have := hmo.1; have := hmo.2
    rw [hRc, hRs]; omega
  have hfix : CallFix p m c cc nL s args lw_all own := ⟨hX.1, hX.2.1, hX.2.2.1, hX.2.2.2.1, hX.2.2.2.2.1⟩
  subst hst
  refine sw_after (len := 3) rfl (d2 := d) (y := y) (as := as) hX.2.2.2.2.2.2.1 hmo h1 h2 hl hS (vx_runS (As := as) hfix hMt ⟨sw_cb hX hM hw, hX.2.2.2.2.1 _ hst0⟩ (sw_pcs hST hAll hP hS) rfl hlen hl.1 rfl (lv_room hsum) hd hf) (fun v hv => ?_) (fun k hk2 H1 locs1 q ce g1 g2 g3 g4 g5 => ?_)
  · rcases hres with ⟨v', hv', rfl⟩ | ⟨k, hk', rfl⟩
    · rw [hv] at hv'
      cases hv'
      exact hk
    · rw [hv] at hk'; cases hk'
  · rcases hres with ⟨v', hv', rfl⟩ | ⟨k', hk', rfl⟩
    · rw [hk2] at hv'; cases hv'
    · have hrf : r = rf := hk
      subst hrf
      rcases hQ with ⟨v, hv⟩ | hQ
      · rw [hv] at hk2; cases hk2
      · exact sw_thrown hQ hX.2.2.2.2.2.2.1 hk2 g1 g2 g3 g4 g5
theorem Sd_staticN (hX : sw_X p l e R s m args below meth c D A own cc nL ret N0 K0 NE KE d) (hC : sw_Ct l TN cf d) (hQ : (∃ v, rf.1 = .inl v) ∨ sw_QM s args below c Q D A N0 K0 NE KE rf) {y n i : Nat} {nm : sw_NM} (hy : TN y = some nm) {host : String} (hM : sw_Mf nm n) (hd : decode cc pc = .ok (.invokestatic i, 3)) (hw : Cond.methodLinkNest own i nm.1 host ∈ sw_wM) (hst0 : Cond.static nm.1 ∈ lw_all) : sw_Sd (sw_J p l e R s m args below meth c Q D A nL N0 K0) cf bpc NE KE rf (sw_cs y n) pc (pc + 3) := by
  intro L st P x hx
  obtain ⟨as, rest, r, hst, hlen, hok, hcf, hres⟩ := sw_cs_inv hx
  obtain ⟨hmo, hMet⟩ := hC y _ P r _ hy hcf
  have hMt := hMet D A
  have hout : sw_out x = r.2 := by rcases hres with ⟨v, -, rfl⟩ | ⟨k, -, rfl⟩ <;> rfl
  refine ⟨by rw [hout]; exact hmo, fun hNE hKE hk h1 h2 ls H locs hl hP hS => ?_⟩
  rw [hout] at hNE hKE
  have hsum := sw_ok_sum hok
  have hST := hX.2.2.2.2.2.2.2.1
  obtain ⟨hAll, hRc, hRs, hfr, hlo⟩ := hX.2.2.2.2.2.2.2.2
  have hf : sw_nx P - N0 + (sw_nx r.2 - sw_nx P) ≤ R.cells ∧ sw_sl P - K0 + (sw_sl r.2 - sw_sl P) ≤ R.slots := by
    have := hmo.1; have := hmo.2
    rw [hRc, hRs]; omega
  have hfix : CallFix p m c cc nL s args lw_all own := ⟨hX.1, hX.2.1, hX.2.2.1, hX.2.2.2.1, hX.2.2.2.2.1⟩
  subst hst
  refine sw_after (len := 3) rfl (d2 := d) (y := y) (as := as) hX.2.2.2.2.2.2.1 hmo h1 h2 hl hS (vx_runSN (As := as) hfix hMt ⟨sw_cn' hX hM hw, hX.2.2.2.2.1 _ hst0, trivial⟩ (sw_pcs hST hAll hP hS) rfl hlen hl.1 rfl (lv_room hsum) hd hf) (fun v hv => ?_) (fun k hk2 H1 locs1 q ce g1 g2 g3 g4 g5 => ?_)
  · rcases hres with ⟨v', hv', rfl⟩ | ⟨k, hk', rfl⟩
    · rw [hv] at hv'
      cases hv'
      exact hk
    · rw [hv] at hk'; cases hk'
  · rcases hres with ⟨v', hv', rfl⟩ | ⟨k', hk', rfl⟩
    · rw [hk2] at hv'; cases hv'
    · have hrf : r = rf := hk
      subst hrf
      rcases hQ with ⟨v, hv⟩ | hQ
      · rw [hv] at hk2; cases hk2
      · exact sw_thrown hQ hX.2.2.2.2.2.2.1 hk2 g1 g2 g3 g4 g5
theorem Sd_special (hX : sw_X p l e R s m args below meth c D A own cc nL ret N0 K0 NE KE d) (hC : sw_Ct l TN cf d) (hQ : (∃ v, rf.1 = .inl v) ∨ sw_QM s args below c Q D A N0 K0 NE KE rf) {y n i : Nat} {nm : sw_NM} (hy : TN y = some nm) (hM : sw_Mf nm n) (hini : nm.1.name = "<init>") (hret : nm.2.2.2 = none) (hd : decode cc pc = .ok (.invokespecial i, 3)) (hw : Cond.methodLink own i nm.1 ∈ lw_all) (hin : Cond.instanceMethod nm.1 ∈ lw_all) : sw_Sd (sw_J p l e R s m args below meth c Q D A nL N0 K0) cf bpc NE KE rf (sw_ci y n) pc (pc + 3) := by
  intro L st P x hx
  obtain ⟨yn, yb, yl, yr⟩ := nm
  simp only at hret
  subst hret
  have hx0 := hx
  have hx : sw_cs y (n + 1) cf (L, st, P) = some x := by
    simp only [sw_ci] at hx
    split at hx
    · exact hx
    · cases hx
  obtain ⟨as0, rest, r, hst, hlen0, hok, hcf, hres⟩ := sw_cs_inv hx
  obtain ⟨b, as, has⟩ : ∃ (b : Nat) (as : List Value), as0 = .ref b :: as := by
    have hd2 : ∃ b tl, st.drop n = .ref b :: tl := by
      simp only [sw_ci] at hx0
      split at hx0
      · rename_i b tl heq; exact ⟨b, tl, heq⟩
      · cases hx0
    obtain ⟨b, tl, hd2⟩ := hd2
    cases as0 with
    | nil => cases hlen0
    | cons v as =>
      have hl2 : as.length = n := by simpa using hlen0
      have e : st.drop n = v :: rest := by
        rw [hst]
        simp only [List.reverse_cons, List.append_assoc, List.singleton_append]
        rw [List.drop_append_of_le_length (by simp; omega), List.drop_of_length_le (by simp; omega)]
        rfl
      rw [e] at hd2
      cases hd2
      exact ⟨b, as, rfl⟩
  subst has
  have hlen : as.length = n := by simpa using hlen0
  have hst : st = as.reverse ++ .ref b :: rest := by rw [hst]; simp
  obtain ⟨hmo, hMet⟩ := hC y _ P r _ hy hcf
  have hMt := hMet D A
  have hout : sw_out x = r.2 := by rcases hres with ⟨v, -, rfl⟩ | ⟨k, -, rfl⟩ <;> rfl
  refine ⟨by rw [hout]; exact hmo, fun hNE hKE hk h1 h2 ls H locs hl hP hS => ?_⟩
  rw [hout] at hNE hKE
  have hsum := sw_ok_sum hok
  have hST := hX.2.2.2.2.2.2.2.1
  obtain ⟨hAll, hRc, hRs, hfr, hlo⟩ := hX.2.2.2.2.2.2.2.2
  have hf : sw_nx P - N0 + (sw_nx r.2 - sw_nx P) ≤ R.cells ∧ sw_sl P - K0 + (sw_sl r.2 - sw_sl P) ≤ R.slots := by
    have := hmo.1; have := hmo.2
    rw [hRc, hRs]; omega
  have hfix : CallFix p m c cc nL s args lw_all own := ⟨hX.1, hX.2.1, hX.2.2.1, hX.2.2.2.1, hX.2.2.2.2.1⟩
  subst hst
  refine sw_after (len := 3) rfl (d2 := d) (y := y) (as := as) hX.2.2.2.2.2.2.1 hmo h1 h2 hl hS (vx_runI (As := as) hfix hMt ⟨sw_cb hX hM hw, hini, hX.2.2.2.2.1 _ hin⟩ (sw_pcs hST hAll hP hS) rfl hlen hl.1 rfl (lv_room hsum) hd hf) (fun v hv => ?_) (fun k hk2 H1 locs1 q ce g1 g2 g3 g4 g5 => ?_)
  · rcases hres with ⟨v', hv', rfl⟩ | ⟨k, hk', rfl⟩
    · rw [hv] at hv'
      cases hv'
      exact hk
    · rw [hv] at hk'; cases hk'
  · rcases hres with ⟨v', hv', rfl⟩ | ⟨k', hk', rfl⟩
    · rw [hk2] at hv'; cases hv'
    · have hrf : r = rf := hk
      subst hrf
      rcases hQ with ⟨v, hv⟩ | hQ
      · rw [hv] at hk2; cases hk2
      · exact sw_thrown hQ hX.2.2.2.2.2.2.1 hk2 g1 g2 g3 g4 g5
theorem Sd_specialN (hX : sw_X p l e R s m args below meth c D A own cc nL ret N0 K0 NE KE d) (hC : sw_Ct l TN cf d) (hQ : (∃ v, rf.1 = .inl v) ∨ sw_QM s args below c Q D A N0 K0 NE KE rf) {y n i : Nat} {nm : sw_NM} (hy : TN y = some nm) {host : String} (hM : sw_Mf nm n) (hini : nm.1.name = "<init>") (hret : nm.2.2.2 = none) (hd : decode cc pc = .ok (.invokespecial i, 3)) (hw : Cond.methodLinkNest own i nm.1 host ∈ sw_wM) (hin : Cond.instanceMethod nm.1 ∈ lw_all) : sw_Sd (sw_J p l e R s m args below meth c Q D A nL N0 K0) cf bpc NE KE rf (sw_ci y n) pc (pc + 3) := by
  intro L st P x hx
  obtain ⟨yn, yb, yl, yr⟩ := nm
  simp only at hret
  subst hret
  have hx0 := hx
  have hx : sw_cs y (n + 1) cf (L, st, P) = some x := by
    simp only [sw_ci] at hx
    split at hx
    · exact hx
    · cases hx
  obtain ⟨as0, rest, r, hst, hlen0, hok, hcf, hres⟩ := sw_cs_inv hx
  obtain ⟨b, as, has⟩ : ∃ (b : Nat) (as : List Value), as0 = .ref b :: as := by
    have hd2 : ∃ b tl, st.drop n = .ref b :: tl := by
      simp only [sw_ci] at hx0
      split at hx0
      · rename_i b tl heq; exact ⟨b, tl, heq⟩
      · cases hx0
    obtain ⟨b, tl, hd2⟩ := hd2
    cases as0 with
    | nil => cases hlen0
    | cons v as =>
      have hl2 : as.length = n := by simpa using hlen0
      have e : st.drop n = v :: rest := by
        rw [hst]
        simp only [List.reverse_cons, List.append_assoc, List.singleton_append]
        rw [List.drop_append_of_le_length (by simp; omega), List.drop_of_length_le (by simp; omega)]
        rfl
      rw [e] at hd2
      cases hd2
      exact ⟨b, as, rfl⟩
  subst has
  have hlen : as.length = n := by simpa using hlen0
  have hst : st = as.reverse ++ .ref b :: rest := by rw [hst]; simp
  obtain ⟨hmo, hMet⟩ := hC y _ P r _ hy hcf
  have hMt := hMet D A
  have hout : sw_out x = r.2 := by rcases hres with ⟨v, -, rfl⟩ | ⟨k, -, rfl⟩ <;> rfl
  refine ⟨by rw [hout]; exact hmo, fun hNE hKE hk h1 h2 ls H locs hl hP hS => ?_⟩
  rw [hout] at hNE hKE
  have hsum := sw_ok_sum hok
  have hST := hX.2.2.2.2.2.2.2.1
  obtain ⟨hAll, hRc, hRs, hfr, hlo⟩ := hX.2.2.2.2.2.2.2.2
  have hf : sw_nx P - N0 + (sw_nx r.2 - sw_nx P) ≤ R.cells ∧ sw_sl P - K0 + (sw_sl r.2 - sw_sl P) ≤ R.slots := by
    have := hmo.1; have := hmo.2
    rw [hRc, hRs]; omega
  have hfix : CallFix p m c cc nL s args lw_all own := ⟨hX.1, hX.2.1, hX.2.2.1, hX.2.2.2.1, hX.2.2.2.2.1⟩
  subst hst
  refine sw_after (len := 3) rfl (d2 := d) (y := y) (as := as) hX.2.2.2.2.2.2.1 hmo h1 h2 hl hS (vx_runIN (As := as) hfix hMt ⟨sw_cn' hX hM hw, hini, hX.2.2.2.2.1 _ hin⟩ (sw_pcs hST hAll hP hS) rfl hlen hl.1 rfl (lv_room hsum) hd hf) (fun v hv => ?_) (fun k hk2 H1 locs1 q ce g1 g2 g3 g4 g5 => ?_)
  · rcases hres with ⟨v', hv', rfl⟩ | ⟨k, hk', rfl⟩
    · rw [hv] at hv'
      cases hv'
      exact hk
    · rw [hv] at hk'; cases hk'
  · rcases hres with ⟨v', hv', rfl⟩ | ⟨k', hk', rfl⟩
    · rw [hk2] at hv'; cases hv'
    · have hrf : r = rf := hk
      subst hrf
      rcases hQ with ⟨v, hv⟩ | hQ
      · rw [hv] at hk2; cases hk2
      · exact sw_thrown hQ hX.2.2.2.2.2.2.1 hk2 g1 g2 g3 g4 g5
theorem Sd_virtual (hX : sw_X p l e R s m args below meth c D A own cc nL ret N0 K0 NE KE d) (hC : sw_Ct l TN cf d) (hQ : (∃ v, rf.1 = .inl v) ∨ sw_QM s args below c Q D A N0 K0 NE KE rf) {y n i : Nat} {nm : sw_NM} (hy : TN y = some nm) {k : Nat} (hk71 : k ≠ 71) (hM : sw_Mf nm n) (hd : decode cc pc = .ok (.invokevirtual i, 3)) (hw : Cond.methodLink own i nm.1 ∈ lw_all) (hin : Cond.instanceMethod nm.1 ∈ lw_all) (hsel : Cond.selects (sw_cn k) nm.1 nm.1 ∈ lw_all) : sw_Sd (sw_J p l e R s m args below meth c Q D A nL N0 K0) cf bpc NE KE rf (sw_cv k y n) pc (pc + 3) := by
  intro L st P x hx
  have hx0 := hx
  obtain ⟨b, tl, vsb, hd2, hb⟩ : ∃ b tl vs, st.drop n = .ref b :: tl ∧ sw_hp P b = some (k, vs) := by
    simp only [sw_cv] at hx0
    split at hx0
    · rename_i b tl heq
      split at hx0
      · rename_i hk
        obtain ⟨vs, hvs⟩ := sw_kd_inv hk
        exact ⟨b, tl, vs, heq, hvs⟩
      · cases hx0
    · cases hx0
  have hx : sw_cs y (n + 1) cf (L, st, P) = some x := by
    simp only [sw_cv] at hx
    split at hx
    · split at hx
      · exact hx
      · cases hx
    · cases hx
  obtain ⟨as0, rest, r, hst, hlen0, hok, hcf, hres⟩ := sw_cs_inv hx
  obtain ⟨as, has⟩ : ∃ (as : List Value), as0 = .ref b :: as := by
    cases as0 with
    | nil => cases hlen0
    | cons v as =>
      have hl2 : as.length = n := by simpa using hlen0
      have e : st.drop n = v :: rest := by
        rw [hst]
        simp only [List.reverse_cons, List.append_assoc, List.singleton_append]
        rw [List.drop_append_of_le_length (by simp; omega), List.drop_of_length_le (by simp; omega)]
        rfl
      rw [e] at hd2
      cases hd2
      exact ⟨as, rfl⟩
  subst has
  have hlen : as.length = n := by simpa using hlen0
  have hst : st = as.reverse ++ .ref b :: rest := by rw [hst]; simp
  obtain ⟨hmo, hMet⟩ := hC y _ P r _ hy hcf
  have hMt := hMet D A
  have hout : sw_out x = r.2 := by rcases hres with ⟨v, -, rfl⟩ | ⟨k, -, rfl⟩ <;> rfl
  refine ⟨by rw [hout]; exact hmo, fun hNE hKE hk h1 h2 ls H locs hl hP hS => ?_⟩
  rw [hout] at hNE hKE
  have hsum := sw_ok_sum hok
  have hST := hX.2.2.2.2.2.2.2.1
  obtain ⟨hAll, hRc, hRs, hfr, hlo⟩ := hX.2.2.2.2.2.2.2.2
  have hf : sw_nx P - N0 + (sw_nx r.2 - sw_nx P) ≤ R.cells ∧ sw_sl P - K0 + (sw_sl r.2 - sw_sl P) ≤ R.slots := by
    have := hmo.1; have := hmo.2
    rw [hRc, hRs]; omega
  have hfix : CallFix p m c cc nL s args lw_all own := ⟨hX.1, hX.2.1, hX.2.2.1, hX.2.2.2.1, hX.2.2.2.2.1⟩
  subst hst
  refine sw_after (len := 3) rfl (d2 := d) (y := y) (as := as) hX.2.2.2.2.2.2.1 hmo h1 h2 hl hS (vx_runV (As := as) hfix hMt ⟨sw_cb hX hM hw, hX.2.2.2.2.1 _ hin, hX.2.2.2.2.1 _ hsel⟩ (sw_pcv hST hAll hP hS hb hk71) rfl hlen hl.1 rfl (lv_room hsum) hd hf) (fun v hv => ?_) (fun k hk2 H1 locs1 q ce g1 g2 g3 g4 g5 => ?_)
  · rcases hres with ⟨v', hv', rfl⟩ | ⟨k, hk', rfl⟩
    · rw [hv] at hv'
      cases hv'
      exact hk
    · rw [hv] at hk'; cases hk'
  · rcases hres with ⟨v', hv', rfl⟩ | ⟨k', hk', rfl⟩
    · rw [hk2] at hv'; cases hv'
    · have hrf : r = rf := hk
      subst hrf
      rcases hQ with ⟨v, hv⟩ | hQ
      · rw [hv] at hk2; cases hk2
      · exact sw_thrown hQ hX.2.2.2.2.2.2.1 hk2 g1 g2 g3 g4 g5
theorem Sd_face (hX : sw_X p l e R s m args below meth c D A own cc nL ret N0 K0 NE KE d) (hC : sw_Ct l TN cf d) (hQ : (∃ v, rf.1 = .inl v) ∨ sw_QM s args below c Q D A N0 K0 NE KE rf) {y n i : Nat} {nm : sw_NM} (hy : TN y = some nm) {k ct : Nat} {x9 : MethodName} {C9 : String} {T9 : u_T} {ty9 : Nat → FieldType} {N9 : Nat} (hC9 : sw_Cl k C9 T9 ty9 N9) (hM : sw_Mf nm n) (hd : decode cc pc = .ok (.invokeinterface i ct, 5)) (hw : Cond.methodLink own i x9 ∈ lw_all) (hin : Cond.instanceMethod nm.1 ∈ lw_all) (hsel : Cond.selects C9 x9 nm.1 ∈ lw_all) (hfc : (C9, x9, nm.1) ∈ sw_wI) (hn9 : (parseMethodDescriptor x9.desc).map (fun d => d.parameters.length) = some n) : sw_Sd (sw_J p l e R s m args below meth c Q D A nL N0 K0) cf bpc NE KE rf (sw_cv k y n) pc (pc + 5) := by
  intro L st P x hx
  have hx0 := hx
  obtain ⟨b, tl, vsb, hd2, hb⟩ : ∃ b tl vs, st.drop n = .ref b :: tl ∧ sw_hp P b = some (k, vs) := by
    simp only [sw_cv] at hx0
    split at hx0
    · rename_i b tl heq
      split at hx0
      · rename_i hk
        obtain ⟨vs, hvs⟩ := sw_kd_inv hk
        exact ⟨b, tl, vs, heq, hvs⟩
      · cases hx0
    · cases hx0
  have hx : sw_cs y (n + 1) cf (L, st, P) = some x := by
    simp only [sw_cv] at hx
    split at hx
    · split at hx
      · exact hx
      · cases hx
    · cases hx
  obtain ⟨as0, rest, r, hst, hlen0, hok, hcf, hres⟩ := sw_cs_inv hx
  obtain ⟨as, has⟩ : ∃ (as : List Value), as0 = .ref b :: as := by
    cases as0 with
    | nil => cases hlen0
    | cons v as =>
      have hl2 : as.length = n := by simpa using hlen0
      have e : st.drop n = v :: rest := by
        rw [hst]
        simp only [List.reverse_cons, List.append_assoc, List.singleton_append]
        rw [List.drop_append_of_le_length (by simp; omega), List.drop_of_length_le (by simp; omega)]
        rfl
      rw [e] at hd2
      cases hd2
      exact ⟨as, rfl⟩
  subst has
  have hlen : as.length = n := by simpa using hlen0
  have hst : st = as.reverse ++ .ref b :: rest := by rw [hst]; simp
  obtain ⟨hmo, hMet⟩ := hC y _ P r _ hy hcf
  have hMt := hMet D A
  have hout : sw_out x = r.2 := by rcases hres with ⟨v, -, rfl⟩ | ⟨k, -, rfl⟩ <;> rfl
  refine ⟨by rw [hout]; exact hmo, fun hNE hKE hk h1 h2 ls H locs hl hP hS => ?_⟩
  rw [hout] at hNE hKE
  have hsum := sw_ok_sum hok
  have hST := hX.2.2.2.2.2.2.2.1
  obtain ⟨hAll, hRc, hRs, hfr, hlo⟩ := hX.2.2.2.2.2.2.2.2
  have hf : sw_nx P - N0 + (sw_nx r.2 - sw_nx P) ≤ R.cells ∧ sw_sl P - K0 + (sw_sl r.2 - sw_sl P) ≤ R.slots := by
    have := hmo.1; have := hmo.2
    rw [hRc, hRs]; omega
  have hfix : CallFix p m c cc nL s args lw_all own := ⟨hX.1, hX.2.1, hX.2.2.1, hX.2.2.2.1, hX.2.2.2.2.1⟩
  subst hst
  refine sw_after (len := 5) rfl (d2 := d) (y := y) (as := as) hX.2.2.2.2.2.2.1 hmo h1 h2 hl hS (vx_runF (As := as) (hST.1.1 k _ hC9.2.1).2 hfix hMt ⟨⟨rfl, rfl, sw_room_f hfr, sw_room_l hlo hM.2.2.2.2, sw_ws_pay hX.2.2.2.2.1 hM.1, List.mem_cons_self⟩, hX.2.2.2.2.1 _ hw, (hST.2.2.2.2.2.2.2.2.2.2.2.2.2.2.1 _ hfc).1, (hST.2.2.2.2.2.2.2.2.2.2.2.2.2.2.1 _ hfc).2.1, hX.2.2.2.2.1 _ hsel, hX.2.2.2.2.1 _ hin, (hST.2.2.2.2.2.2.2.2.2.2.2.2.2.2.1 _ hfc).2.2.1, (hST.2.2.2.2.2.2.2.2.2.2.2.2.2.2.1 _ hfc).2.2.2.1, (hST.2.2.2.2.2.2.2.2.2.2.2.2.2.2.1 _ hfc).2.2.2.2, hX.2.2.2.2.1 _ hM.2.1, hX.2.2.2.2.1 _ hM.1, sw_wI_ok _ hfc, fun sig h => by rw [h] at hn9; exact (Option.some.inj hn9).symm⟩ (by
      have hcn : sw_cn k = C9 := by simp only [sw_cn, if_pos hC9.1, hC9.2.1, Option.map_some, Option.getD_some]
      rw [← hcn]
      exact sw_pcv hST hAll hP hS hb (by have := hC9.1; omega)) rfl hlen hl.1 rfl (lv_room hsum) hd hf) (fun v hv => ?_) (fun k hk2 H1 locs1 q ce g1 g2 g3 g4 g5 => ?_)
  · rcases hres with ⟨v', hv', rfl⟩ | ⟨k, hk', rfl⟩
    · rw [hv] at hv'
      cases hv'
      exact hk
    · rw [hv] at hk'; cases hk'
  · rcases hres with ⟨v', hv', rfl⟩ | ⟨k', hk', rfl⟩
    · rw [hk2] at hv'; cases hv'
    · have hrf : r = rf := hk
      subst hrf
      rcases hQ with ⟨v, hv⟩ | hQ
      · rw [hv] at hk2; cases hk2
      · exact sw_thrown hQ hX.2.2.2.2.2.2.1 hk2 g1 g2 g3 g4 g5
theorem Sd_virtualU (hX : sw_X p l e R s m args below meth c D A own cc nL ret N0 K0 NE KE d) (hC : sw_Ct l TN cf d) (hQ : (∃ v, rf.1 = .inl v) ∨ sw_QM s args below c Q D A N0 K0 NE KE rf) {y n i : Nat} {nm : sw_NM} (hy : TN y = some nm) {k : Nat} {x9 : MethodName} {owner : String} (hk71 : k ≠ 71) (hM : sw_Mf nm n) (hd : decode cc pc = .ok (.invokevirtual i, 3)) (hw : Cond.methodLink own i x9 ∈ lw_all) (hin : Cond.instanceMethod nm.1 ∈ lw_all) (hsel : Cond.selects (sw_cn k) x9 nm.1 ∈ lw_all) (hsame : Cond.sameMethod x9.cls owner x9.name x9.desc ∈ lw_all) (how : owner ≠ "java/lang/invoke/MethodHandle" ∧ owner ≠ "java/lang/invoke/VarHandle") (hx9 : (⟨owner, x9.name, x9.desc⟩ : MethodName) = nm.1) (hds : x9.desc = nm.1.desc) : sw_Sd (sw_J p l e R s m args below meth c Q D A nL N0 K0) cf bpc NE KE rf (sw_cv k y n) pc (pc + 3) := by
  intro L st P x hx
  have hx0 := hx
  obtain ⟨b, tl, vsb, hd2, hb⟩ : ∃ b tl vs, st.drop n = .ref b :: tl ∧ sw_hp P b = some (k, vs) := by
    simp only [sw_cv] at hx0
    split at hx0
    · rename_i b tl heq
      split at hx0
      · rename_i hk
        obtain ⟨vs, hvs⟩ := sw_kd_inv hk
        exact ⟨b, tl, vs, heq, hvs⟩
      · cases hx0
    · cases hx0
  have hx : sw_cs y (n + 1) cf (L, st, P) = some x := by
    simp only [sw_cv] at hx
    split at hx
    · split at hx
      · exact hx
      · cases hx
    · cases hx
  obtain ⟨as0, rest, r, hst, hlen0, hok, hcf, hres⟩ := sw_cs_inv hx
  obtain ⟨as, has⟩ : ∃ (as : List Value), as0 = .ref b :: as := by
    cases as0 with
    | nil => cases hlen0
    | cons v as =>
      have hl2 : as.length = n := by simpa using hlen0
      have e : st.drop n = v :: rest := by
        rw [hst]
        simp only [List.reverse_cons, List.append_assoc, List.singleton_append]
        rw [List.drop_append_of_le_length (by simp; omega), List.drop_of_length_le (by simp; omega)]
        rfl
      rw [e] at hd2
      cases hd2
      exact ⟨as, rfl⟩
  subst has
  have hlen : as.length = n := by simpa using hlen0
  have hst : st = as.reverse ++ .ref b :: rest := by rw [hst]; simp
  obtain ⟨hmo, hMet⟩ := hC y _ P r _ hy hcf
  have hMt := hMet D A
  have hout : sw_out x = r.2 := by rcases hres with ⟨v, -, rfl⟩ | ⟨k, -, rfl⟩ <;> rfl
  refine ⟨by rw [hout]; exact hmo, fun hNE hKE hk h1 h2 ls H locs hl hP hS => ?_⟩
  rw [hout] at hNE hKE
  have hsum := sw_ok_sum hok
  have hST := hX.2.2.2.2.2.2.2.1
  obtain ⟨hAll, hRc, hRs, hfr, hlo⟩ := hX.2.2.2.2.2.2.2.2
  have hf : sw_nx P - N0 + (sw_nx r.2 - sw_nx P) ≤ R.cells ∧ sw_sl P - K0 + (sw_sl r.2 - sw_sl P) ≤ R.slots := by
    have := hmo.1; have := hmo.2
    rw [hRc, hRs]; omega
  have hfix : CallFix p m c cc nL s args lw_all own := ⟨hX.1, hX.2.1, hX.2.2.1, hX.2.2.2.1, hX.2.2.2.2.1⟩
  subst hst
  refine sw_after (len := 3) rfl (d2 := d) (y := y) (as := as) hX.2.2.2.2.2.2.1 hmo h1 h2 hl hS (vx_runU (As := as) (owner := owner) hfix hMt ⟨⟨rfl, rfl, sw_room_f hfr, sw_room_l hlo hM.2.2.2.2, sw_ws_pay hX.2.2.2.2.1 hM.1, List.mem_cons_self⟩, hX.2.2.2.2.1 _ hM.1, hX.2.2.2.2.1 _ hM.2.1, how, fun sig h => by have h2 := hM.2.2.2.1; rw [← hds, h] at h2; exact (Option.some.inj h2).symm, hX.2.2.2.2.1 _ hw, hX.2.2.2.2.1 _ hsame, by rw [hx9]; exact sw_decl (hX.2.2.2.2.1 _ hin) (hX.2.2.2.2.1 _ hM.1), hX.2.2.2.2.1 _ hsel, hX.2.2.2.2.1 _ hin⟩ (sw_pcv hST hAll hP hS hb hk71) rfl hlen hl.1 rfl (lv_room hsum) hd hf) (fun v hv => ?_) (fun k hk2 H1 locs1 q ce g1 g2 g3 g4 g5 => ?_)
  · rcases hres with ⟨v', hv', rfl⟩ | ⟨k, hk', rfl⟩
    · rw [hv] at hv'
      cases hv'
      exact hk
    · rw [hv] at hk'; cases hk'
  · rcases hres with ⟨v', hv', rfl⟩ | ⟨k', hk', rfl⟩
    · rw [hk2] at hv'; cases hv'
    · have hrf : r = rf := hk
      subst hrf
      rcases hQ with ⟨v, hv⟩ | hQ
      · rw [hv] at hk2; cases hk2
      · exact sw_thrown hQ hX.2.2.2.2.2.2.1 hk2 g1 g2 g3 g4 g5
theorem Sd_ireturn (hX : sw_X p l e R s m args below meth c D A own cc nL ret N0 K0 NE KE d) (hQ : sw_QR s args below Q D A N0 K0 NE KE rf) (hd : decode cc pc = .ok (.ireturn, 1)) (hr : ret = some .int) {pc2 : Nat} : sw_Sd (sw_J p l e R s m args below meth c Q D A nL N0 K0) cf bpc NE KE rf (sw_rv 0) pc (pc2) := by
  intro L st P x hx
  simp only [sw_rv] at hx
  split at hx
  · rename_i L' v P' heq
    cases heq
    split at hx
    · rename_i hf
      cases hx
      refine ⟨sw_mo.rf _, fun _ _ hk h1 h2 ls H locs hl hP hS => ?_⟩
      have hrf : rf = (.inl (some v), P) := Eq.symm hk
      obtain ⟨hQ1, hQ3, hQ4⟩ := hQ
      subst hrf
      subst hQ1
      have e1 : NE - N0 = sw_nx P - N0 := by rw [← hQ3]
      have e2 : KE - K0 = sw_sl P - K0 := by rw [← hQ4]
      rw [e1, e2]
      have hq : ∀ t : State, t.heap = H → s.WarmedH t.vm → sw_Qc D A (.inl (some v), P) args s (.returned (some v)) t := fun t ht _ => ⟨⟨_, rfl, rfl⟩, by rw [ht]; exact hP, hS.F ht⟩
      refine vx_ret ?_
      cases v with
      | int y => exact W.iret hX.1 hX.2.1 (by rw [hX.2.2.2.2.2.1]; exact hr) hq hS.2.2 hd hX.2.2.2.2.2.2.1
      | _ => cases hf
    · cases hx
  · cases hx
theorem Sd_zreturn (hX : sw_X p l e R s m args below meth c D A own cc nL ret N0 K0 NE KE d) (hQ : sw_QR s args below Q D A N0 K0 NE KE rf) (hd : decode cc pc = .ok (.ireturn, 1)) (hr : ret = some .boolean) {pc2 : Nat} : sw_Sd (sw_J p l e R s m args below meth c Q D A nL N0 K0) cf bpc NE KE rf (sw_rv 1) pc (pc2) := by
  intro L st P x hx
  simp only [sw_rv] at hx
  split at hx
  · rename_i L' v P' heq
    cases heq
    split at hx
    · rename_i hf
      cases hx
      refine ⟨sw_mo.rf _, fun _ _ hk h1 h2 ls H locs hl hP hS => ?_⟩
      have hrf : rf = (.inl (some v), P) := Eq.symm hk
      obtain ⟨hQ1, hQ3, hQ4⟩ := hQ
      subst hrf
      subst hQ1
      have e1 : NE - N0 = sw_nx P - N0 := by rw [← hQ3]
      have e2 : KE - K0 = sw_sl P - K0 := by rw [← hQ4]
      rw [e1, e2]
      have hq : ∀ t : State, t.heap = H → s.WarmedH t.vm → sw_Qc D A (.inl (some v), P) args s (.returned (some v)) t := fun t ht _ => ⟨⟨_, rfl, rfl⟩, by rw [ht]; exact hP, hS.F ht⟩
      refine vx_ret ?_
      cases v with
      | int y => exact W.zret hX.1 hX.2.1 (by rw [hX.2.2.2.2.2.1]; exact hr) (sw_fit_ty (ty := .boolean) (v := .int y) hf).1 hq hS.2.2 hd hX.2.2.2.2.2.2.1
      | _ => cases hf
    · cases hx
  · cases hx
theorem Sd_lreturn (hX : sw_X p l e R s m args below meth c D A own cc nL ret N0 K0 NE KE d) (hQ : sw_QR s args below Q D A N0 K0 NE KE rf) (hd : decode cc pc = .ok (.lreturn, 1)) (hr : ret = some .long) {pc2 : Nat} : sw_Sd (sw_J p l e R s m args below meth c Q D A nL N0 K0) cf bpc NE KE rf (sw_rv 3) pc (pc2) := by
  intro L st P x hx
  simp only [sw_rv] at hx
  split at hx
  · rename_i L' v P' heq
    cases heq
    split at hx
    · rename_i hf
      cases hx
      refine ⟨sw_mo.rf _, fun _ _ hk h1 h2 ls H locs hl hP hS => ?_⟩
      have hrf : rf = (.inl (some v), P) := Eq.symm hk
      obtain ⟨hQ1, hQ3, hQ4⟩ := hQ
      subst hrf
      subst hQ1
      have e1 : NE - N0 = sw_nx P - N0 := by rw [← hQ3]
      have e2 : KE - K0 = sw_sl P - K0 := by rw [← hQ4]
      rw [e1, e2]
      have hq : ∀ t : State, t.heap = H → s.WarmedH t.vm → sw_Qc D A (.inl (some v), P) args s (.returned (some v)) t := fun t ht _ => ⟨⟨_, rfl, rfl⟩, by rw [ht]; exact hP, hS.F ht⟩
      refine vx_ret ?_
      cases v with
      | long y => exact W.lret hX.1 hX.2.1 (by rw [hX.2.2.2.2.2.1]; exact hr) hq hS.2.2 hd hX.2.2.2.2.2.2.1
      | _ => cases hf
    · cases hx
  · cases hx
theorem Sd_dreturn (hX : sw_X p l e R s m args below meth c D A own cc nL ret N0 K0 NE KE d) (hQ : sw_QR s args below Q D A N0 K0 NE KE rf) (hd : decode cc pc = .ok (.dreturn, 1)) (hr : ret = some .double) {pc2 : Nat} : sw_Sd (sw_J p l e R s m args below meth c Q D A nL N0 K0) cf bpc NE KE rf (sw_rv 4) pc (pc2) := by
  intro L st P x hx
  simp only [sw_rv] at hx
  split at hx
  · rename_i L' v P' heq
    cases heq
    split at hx
    · rename_i hf
      cases hx
      refine ⟨sw_mo.rf _, fun _ _ hk h1 h2 ls H locs hl hP hS => ?_⟩
      have hrf : rf = (.inl (some v), P) := Eq.symm hk
      obtain ⟨hQ1, hQ3, hQ4⟩ := hQ
      subst hrf
      subst hQ1
      have e1 : NE - N0 = sw_nx P - N0 := by rw [← hQ3]
      have e2 : KE - K0 = sw_sl P - K0 := by rw [← hQ4]
      rw [e1, e2]
      have hq : ∀ t : State, t.heap = H → s.WarmedH t.vm → sw_Qc D A (.inl (some v), P) args s (.returned (some v)) t := fun t ht _ => ⟨⟨_, rfl, rfl⟩, by rw [ht]; exact hP, hS.F ht⟩
      refine vx_ret ?_
      cases v with
      | double y => exact W.dret hX.1 hX.2.1 (by rw [hX.2.2.2.2.2.1]; exact hr) hq hS.2.2 hd hX.2.2.2.2.2.2.1
      | _ => cases hf
    · cases hx
  · cases hx
theorem Sd_areturn (hX : sw_X p l e R s m args below meth c D A own cc nL ret N0 K0 NE KE d) (hQ : sw_QR s args below Q D A N0 K0 NE KE rf) (hd : decode cc pc = .ok (.areturn, 1)) {rt : FieldType} (hr : ret = some rt) (hrt : (∃ n, rt = .object n) ∨ ∃ t, rt = .array t) {pc2 : Nat} : sw_Sd (sw_J p l e R s m args below meth c Q D A nL N0 K0) cf bpc NE KE rf (sw_rv 2) pc (pc2) := by
  intro L st P x hx
  simp only [sw_rv] at hx
  split at hx
  · rename_i L' v P' heq
    cases heq
    split at hx
    · rename_i hf
      cases hx
      refine ⟨sw_mo.rf _, fun _ _ hk h1 h2 ls H locs hl hP hS => ?_⟩
      have hrf : rf = (.inl (some v), P) := Eq.symm hk
      obtain ⟨hQ1, hQ3, hQ4⟩ := hQ
      subst hrf
      subst hQ1
      have e1 : NE - N0 = sw_nx P - N0 := by rw [← hQ3]
      have e2 : KE - K0 = sw_sl P - K0 := by rw [← hQ4]
      rw [e1, e2]
      have hq : ∀ t : State, t.heap = H → s.WarmedH t.vm → sw_Qc D A (.inl (some v), P) args s (.returned (some v)) t := fun t ht _ => ⟨⟨_, rfl, rfl⟩, by rw [ht]; exact hP, hS.F ht⟩
      refine vx_ret ?_
      cases v with
      | ref y => exact W.aret hX.1 hX.2.1 (by rw [hX.2.2.2.2.2.1]; exact hr) hrt (Or.inr ⟨y, rfl⟩) hq hS.2.2 hd hX.2.2.2.2.2.2.1
      | null => exact W.aret hX.1 hX.2.1 (by rw [hX.2.2.2.2.2.1]; exact hr) hrt (Or.inl rfl) hq hS.2.2 hd hX.2.2.2.2.2.2.1
      | _ => cases hf
    · cases hx
  · cases hx
theorem Sd_return (hX : sw_X p l e R s m args below meth c D A own cc nL ret N0 K0 NE KE d) (hQ : sw_QR s args below Q D A N0 K0 NE KE rf) (hd : decode cc pc = .ok (.return_, 1)) (hr : ret = none) {pc2 : Nat} : sw_Sd (sw_J p l e R s m args below meth c Q D A nL N0 K0) cf bpc NE KE rf (sw_ret) pc (pc2) := by
  intro L st P x hx
  simp only [sw_ret] at hx
  split at hx
  · rename_i L' P' heq
    cases heq
    cases hx
    refine ⟨sw_mo.rf _, fun _ _ hk h1 h2 ls H locs hl hP hS => ?_⟩
    have hrf : rf = (.inl none, P) := Eq.symm hk
    obtain ⟨hQ1, hQ3, hQ4⟩ := hQ
    subst hrf
    subst hQ1
    have e1 : NE - N0 = sw_nx P - N0 := by rw [← hQ3]
    have e2 : KE - K0 = sw_sl P - K0 := by rw [← hQ4]
    rw [e1, e2]
    refine vx_ret ?_
    exact W.vret hX.1 hX.2.1 (by rw [hX.2.2.2.2.2.1]; exact hr) (fun t ht _ => ⟨⟨_, rfl, rfl⟩, by rw [ht]; exact hP, hS.F ht⟩) hS.2.2 hd hX.2.2.2.2.2.2.1
  · cases hx
end SWK
