/-! ===== the bridge: throws, inherited calls, handlers ===== -/
section SWT0
variable {p : Program} {l : Launch} {e : Env} {R : Room} {s : State} {m : MethodId} {args : Array Value} {below : List Frame} {meth : Method} {c : Code} {H : Heap} {locs : List Loc} {cells slots : Nat} {Q : State → Prop}
variable {mc ms : Nat} {free : Addr → Prop} {A0 A1 : Nat → Prop} {H0 : Heap} {a : Array Value} {ls : Array Slot} {st0 rest : List Value}
variable {Qc : Array Value → State → Outcome → State → Prop} {XC : String → State → State → Prop}
theorem sw_throw0 {cc : ByteArray} {pc : Nat} (hexec : p.tables.exec = Jvm.exec) (hb : c.code = cc) (hl : l.stackTraces = false) {own cls : String} {names : List String} {ik ic mc ms : Nat} {A : Nat → Prop}
    (hown : s.vm.findClass own = some m.cls) (hcls : Bundle.fit cls = true) (hnames : ∀ n ∈ names, Bundle.fit n = true)
    (hk : (Cond.classLink own ik cls).before args s = true) (hini : (Cond.initialized cls).before args s = true) (hat : ∀ w ∈ vx_at0 own ic cls names, w.before args s = true)
    (hgood : ∀ w ∈ Cond.classLink own ik cls :: Cond.initialized cls :: vx_at0 own ic cls names, vx_ot w = true)
    (hU : vx_Zq Bundle.tN "UNASSIGNED_STACK" Bundle.steD A s s.heap) (hN : vx_Zq Bundle.tN "SUPPRESSED_SENTINEL" Bundle.listD A s s.heap) (hS : va_S A s.heap H locs) (hsize : ls.size = c.maxLocals)
    (d0 : decode cc pc = .ok (.new ik, 3)) (d3 : decode cc (pc + 3) = .ok (.dup, 1)) (d4 : decode cc (pc + 4) = .ok (.invokespecial ic, 3)) (d7 : decode cc (pc + 7) = .ok (.athrow, 1))
    (hout : ∀ x ∈ c.exceptionTable.toList, covers x (pc + 7) = false)
    (hRframes : names.length + 3 < R.frames) (hRlocals : (rest.map fun v => v.category).sum + (13 * (names.length + 1) + 42) ≤ R.locals) (hRcells : cells + 1 ≤ R.cells) (hRslots : slots + 6 ≤ R.slots) (hlocks : meth.locks = false)
    (hx : ∀ t : State, s.vm.Alike t.vm → t.heap.size = H.size + 1 → (∀ q : Nat, q < H.size → t.heap[q]? = H[q]?) → XC cls s t)
    (hf : ∀ z ∈ locs, free z.base) (hc : cells + 1 ≤ mc) (hs : slots + 6 ≤ ms) :
    W p l e R s m args below meth c H locs cells slots (vx_MQ below Qc XC args s mc ms free) (F0 m pc ls rest) := by
  intro T hT X
  have htr : e.platform.stackTraces = false := (show e.platform.stackTraces = l.stackTraces by rw [X.admits.platform]).trans hl
  have Y := vx_rebase X (R' := { frames := R.frames, locals := R.locals, cells := 1, slots := 6 }) (Nat.le_refl _) (Nat.le_refl _) hRcells hRslots
  obtain ⟨s', hA⟩ : ∃ z, z = (T.setVm s.vm).setFrames (.invoking m args :: below) := ⟨_, rfl⟩
  rw [← hA] at Y
  have hvm : s'.vm = s.vm := by rw [hA]; rfl
  have hhp : s'.heap = H := by rw [hA]; exact hT
  have hW0 : s.WarmedH s'.vm := by rw [hvm]; exact State.WarmedH.refl s
  have hat' : ∀ w ∈ vx_at0 own ic cls names, w.before args s' = true := fun w hw => vx_ot_at hW0 hvm.symm (hgood w (List.mem_cons_of_mem _ (List.mem_cons_of_mem _ hw))) (hat w hw)
  have hk' : (Cond.classLink own ik cls).before args s' = true := vx_ot_at hW0 hvm.symm (hgood _ List.mem_cons_self) hk
  have hini' : (Cond.initialized cls).before args s' = true := vx_ot_at hW0 hvm.symm (hgood _ (List.mem_cons_of_mem _ List.mem_cons_self)) hini
  have hU' : vx_Zq Bundle.tN "UNASSIGNED_STACK" Bundle.steD A s' s'.heap := by rw [hhp]; exact vx_Zq.moved hW0.alike (hU.kept hS.2.1)
  have hN' : vx_Zq Bundle.tN "SUPPRESSED_SENTINEL" Bundle.listD A s' s'.heap := by rw [hhp]; exact vx_Zq.moved hW0.alike (hN.kept hS.2.1)
  have h : ∀ w ∈ Bundle.ownAtoms0 own ic cls names, w.before args s' = true := vx_own hat' (vx_isRefq hU'.1) (vx_isRefq hN'.1) hU'.2.word hN'.2.word
  have hown' : s'.vm.findClass own = some m.cls := by rw [hvm]; exact hown
  have hins : (Cond.instantiable cls 6).before args s' = true := h _ (by simp [Bundle.ownAtoms0])
  obtain ⟨vm₁, cX, kX, hfX, hkX, -, -, X₁, st1⟩ := Y.newCold hexec (own := own) (C := cls) (index := ik) (n := 6) hown' hk' hins hini'
    (g := F0 m pc ls rest) rfl (by rw [hb]; exact d0) (Nat.le_refl _) (Nat.le_refl _)
  generalize hT1 : (T.setVm vm₁).pushCell { cls := cX, slots := kX.instanceTypes.map defaultValue, vm := .none } = T1 at X₁ st1
  have hcat : (Value.ref T.heap.size).category = 1 := rfl
  have hcellA : T1.heap[T.heap.size]? = some (freshCell cX kX) := by rw [← hT1]; exact State.heap_pushCell_size _ _
  have d3' : decode c.code (pc + 3) = .ok (.dup, 1) := by rw [hb]; exact d3
  obtain ⟨U, hsteps, hrun, hend, hW, hsame, ce, hce, hO⟩ := X₁.ctorThrow0 hexec htr (own := own) (cls := cls) (names := names) (ic := ic) hown' hcls hnames h (fun x hx => nomatch hx) hfX hkX hcellA (by rw [hhp, hT]; exact Nat.le_refl _)
    (g := { method := m, pc := pc + 4, locals := ls, stack := .ref T.heap.size :: .ref T.heap.size :: rest, locked := none }) rfl hsize rfl rfl (rest := rest) rfl
    (by rw [hb]; exact d4) (by rw [hb]; exact d7) hout hRframes (by simp only [List.map_cons, List.sum_cons, hcat]; omega) hlocks
  obtain ⟨f1, f2⟩ := vx_frame hsame
  rw [hhp] at f1 f2
  have hWs : s.WarmedH U.vm := State.WarmedH.trans hW0 hW
  have f3 : U.heap.size = H.size + 1 := by
    have g1 : U.heap.size ≤ s'.heap.size + (0 + 1) := hsame.2.2.1
    have g2 : T.heap.size < U.heap.size := (Array.getElem?_eq_some_iff.mp hce).1
    rw [hhp] at g1
    rw [hT] at g2
    omega
  have hcl : s.vm.findClass cls = some ce.cls := by
    have h9 := hO.cls
    rw [hvm] at h9
    exact h9
  have hall : s.sameButNew ({ U with vm := s.vm } : State) locs mc ms := by
    subst hA
    obtain ⟨e1, e2⟩ := hsame
    rw [State.setFrames_setFrames] at e1
    have h2 : (T.setVm s.vm).sameButNew ({ U with vm := s.vm } : State) [] (0 + 1) (0 + 6) := ⟨e1, e2⟩
    have h3 := X.same.trans h2
    rw [List.append_nil] at h3
    exact h3.mono hc hs
  refine ⟨U, ?_, .threw T.heap.size, hrun, hend, Or.inr ⟨T.heap.size, rfl, cls, ce, locs, hx U hWs.alike f3 (fun q hq => f2 q hq (fun z hz => nomatch hz)), hce, hO.vm, hcl, hWs, hall, hf⟩⟩
  refine st1 _ ?_
  show Steps p.tables e below (T1.setTop { method := m, pc := pc + 3, locals := ls, stack := .ref T.heap.size :: rest, locked := none }) _
  jvm_step X₁.here [X₁.here.top, hexec, d3', Value.category]
  exact hsteps
end SWT0
section SWT
variable {p : Program} {l : Launch} {e : Env} {R : Room} {s : State} {m : MethodId} {args : Array Value} {below : List Frame} {meth : Method} {c : Code} {Q : State → Prop} {D : sw_D} {A : Nat → Prop} {nL N0 K0 NE KE d : Nat} {cf : sw_F} {bpc : Nat → Nat} {rf : sw_R} {own : String} {cc : ByteArray} {ret : Option FieldType} {pc : Nat}
theorem Sd_throw (hX : sw_X p l e R s m args below meth c D A own cc nL ret N0 K0 NE KE d) (hQ : sw_QM s args below c Q D A N0 K0 NE KE rf) {k ik ic : Nat} {cls : String} {names : List String} (hk3 : sw_exn k = cls) (hcls : Bundle.fit cls = true) (hnames : ∀ n ∈ names, Bundle.fit n = true) (hnl : names.length ≤ 3)
    (hw : Cond.classLink own ik cls ∈ lw_all) (hini : Cond.initialized cls ∈ lw_all) (hg1 : ∀ w ∈ (vx_at0 own ic cls names).filter goodWord, w ∈ lw_all) (hg2 : ∀ w ∈ (vx_at0 own ic cls names).filter (fun w => !goodWord w), w ∈ sw_wC) (hot : ∀ w ∈ Cond.classLink own ik cls :: Cond.initialized cls :: vx_at0 own ic cls names, vx_ot w = true)
    (d0 : decode cc pc = .ok (.new ik, 3)) (d3 : decode cc (pc + 3) = .ok (.dup, 1)) (d4 : decode cc (pc + 4) = .ok (.invokespecial ic, 3)) (d7 : decode cc (pc + 7) = .ok (.athrow, 1)) {pc2 : Nat} (hok : ∀ L st P x, sw_thx k cf (L, st, P) = some x → sw_ok st = true) : sw_Sd (sw_J p l e R s m args below meth c Q D A nL N0 K0) cf bpc NE KE rf (sw_thx k) pc pc2 := by
  intro L st P x hx
  have hsum := sw_ok_sum (hok L st P x hx)
  simp only [sw_thx] at hx
  split at hx
  · cases hx
    refine ⟨⟨Nat.le_succ _, Nat.le_add_right _ _⟩, fun hNE hKE hk h1 h2 ls H locs hl hP hS => ?_⟩
    have hST := hX.2.2.2.2.2.2.2.1
    obtain ⟨hAll, hRc, hRs, hfr, hlo⟩ := hX.2.2.2.2.2.2.2.2
    have hrf : rf = (.inr k, sw_bump P) := Eq.symm hk
    obtain ⟨⟨hQ1, hQ3, hQ4⟩, hQ2⟩ := hQ
    subst hrf
    subst hQ1
    have e1 : NE = sw_nx P + 1 := by rw [← hQ3]; rfl
    have e2 : KE = sw_sl P + 6 := by rw [← hQ4]; rfl
    subst hk3
    refine sw_throw0 (A := A) hX.1 hX.2.1 hST.2.2.2.2.2.2.2.2.2.2.2.2.2.2.2.2.2.2.2.2 hX.2.2.2.1 hcls hnames (hX.2.2.2.2.1 _ hw) (hX.2.2.2.2.1 _ hini) (fun w hw => ?_) hot hST.2.2.2.2.2.2.2.2.2.2.2.2.2.2.2.2.2.2.1 hST.2.2.2.2.2.2.2.2.2.2.2.2.2.2.2.2.2.2.2.1 hS (by rw [hX.2.2.1]; exact hl.1) d0 d3 d4 d7 (fun x hx => (hQ2 x hx).elim) (by omega) (by omega) (by rw [hRc]; omega) (by rw [hRs]; omega) hX.2.2.2.2.2.2.1 (fun t hvm hz hq => ⟨⟨k, rfl, rfl⟩, ⟨by rw [sw_nx_bump, hz, hP.1], hP.2.1, fun a o ha => ?_⟩, ⟨by rw [hz]; exact Nat.le_succ_of_le hS.1, fun q h3 h4 => ?_⟩⟩) hS.2.2 (by omega) (by omega)
    · by_cases g : goodWord w = true
      · exact hX.2.2.2.2.1 _ (hg1 w (List.mem_filter.mpr ⟨hw, g⟩))
      · have g' : (!goodWord w) = true := by simp [g]
        have hm := hg2 w (List.mem_filter.mpr ⟨hw, g'⟩)
        have hz := hST.2.2.2.2.2.2.2.2.2.2.2.2.2.1 w hm
        have hw2 := (List.mem_filter.mp hm).2
        split at hw2
        · exact va_Nw.use rfl hz
        · exact va_Nw.use rfl hz
        · cases hw2
    · obtain ⟨z1, z2, z3⟩ := hP.2.2 a o ha
      exact ⟨by rw [hz]; exact Nat.lt_succ_of_lt z1, z2.kept (hq a z1), z3⟩
    · rw [hq q (Nat.lt_of_lt_of_le h3 hS.1)]
      exact hS.2.1 q h3 h4
  · cases hx
end SWT
