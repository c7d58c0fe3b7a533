/-! ===== the bridge: arrays read and written, casts, constants, members of the library ===== -/
theorem sw_cat2 (v : Value) : v.category ≤ 2 := by cases v <;> simp [Value.category]
theorem sw_ok_sum {st : List Value} (h : sw_ok st = true) : (st.map fun v => v.category).sum ≤ 8 := by
  unfold sw_ok at h
  split at h
  · decide
  · rename_i a; have := sw_cat2 a; simp; omega
  · rename_i a b; have := sw_cat2 a; have := sw_cat2 b; simp; omega
  · rename_i a b c; have := sw_cat2 a; have := sw_cat2 b; have := sw_cat2 c; simp; omega
  · rename_i a b c d; have := sw_cat2 a; have := sw_cat2 b; have := sw_cat2 c; have := sw_cat2 d; simp; omega
  · exact of_decide_eq_true h
/-- the class' name of a kind -/
def sw_cn (t : Nat) : String := if t < 40 then ((sw_kl[t]?).map (·.1)).getD "" else if t = 40 then "SpillslotWorks$Kind" else if t = 41 then "java/lang/Integer" else if t = 70 then "[Ljava/lang/Object;" else "[" ++ (sw_ty t).toString
theorem sw_recv {l : Launch} {s : State} {D : sw_D} {A : Nat → Prop} {H : Heap} {locs : List Loc} {P : sw_P} {a t : Nat} {vs : List Value} (hST : sw_ST l D A s s.heap) (hS : va_S A s.heap H locs) (hP : sw_HP D A P H) (ha : sw_hp P a = some (t, vs)) (h71 : t ≠ 71) : ∃ cell : Cell, H[a]? = some cell ∧ cell.vm.isStatics = false ∧ s.vm.findClass (sw_cn t) = some cell.cls := by
  obtain ⟨-, hcell, -⟩ := hP.2.2 _ _ ha
  rcases hcell with ⟨h0, q, h1, h2, cell, q1, q2, q3, -⟩ | ⟨h0, j, hj, hja, -⟩ | ⟨h0, j, hj, hja, -⟩ | ⟨h0, hja, -⟩ | ⟨h0, -, -⟩ | ⟨h0, h1⟩ <;> simp only at h0
  · refine ⟨cell, q1, by rw [q3]; rfl, ?_⟩
    rw [q2]
    have h1' : sw_kl[t]? = some q := h1
    have := (hST.1.1 t q h1').2.1
    simp only [sw_cn, if_pos h0, h1', Option.map_some, Option.getD_some]
    exact this
  · subst h0
    obtain ⟨cell, g1, g2, g3, g4⟩ := (hST.2.1.1 j hj).2.1
    exact ⟨cell, by rw [hja, hS.2.1 _ (Array.getElem?_eq_some_iff.mp g1).1 g4]; exact g1, g2, g3⟩
  · subst h0
    obtain ⟨cell, g1, g2, g3, g4⟩ := hST.2.2.1.1 j hj
    exact ⟨cell, by rw [hja, hS.2.1 _ (Array.getElem?_eq_some_iff.mp g1).1 g4]; exact g1, g2, g3⟩
  · subst h0
    obtain ⟨cell, g1, g2, g3, g4⟩ := hST.2.2.2.2.2.1
    exact ⟨cell, by rw [hja, hS.2.1 _ (Array.getElem?_eq_some_iff.mp g1).1 g4]; exact g1, g2, g3⟩
  · exact absurd h0 h71
  · refine ⟨_, h1, rfl, ?_⟩
    have := (hST.1.2 t h0.1 h0.2).2.1
    have e : sw_cn t = "[" ++ (sw_ty t).toString := by
      unfold sw_cn
      rw [if_neg (by omega), if_neg (by omega), if_neg (by omega), if_neg (by omega)]
    rw [e]
    exact this
theorem sw_getD_set {vs : List Value} {i : Nat} {v : Value} (hi : i < vs.length) (j : Nat) : updV (vp_V vs) i v j = vp_V (vs.set i v) j := vp_updV_set hi v j
theorem sw_nn {z : Int32} (hz : ¬ z < 0) : z.toInt = (z.toNatClampNeg : Int) := by
  have hz0 : (0 : Int) ≤ z.toInt := by
    have := Int32.not_lt.mp hz
    simpa using Int32.le_iff_toInt_le.mp this
  show z.toInt = ((z.toInt.toNat : Nat) : Int)
  omega
section SWN
variable {p : Program} {l : Launch} {e : Env} {R : Room} {s : State} {m : MethodId} {args : Array Value} {below : List Frame} {meth : Method} {c : Code} {H : Heap} {locs : List Loc} {cells slots : Nat} {Q : State → Prop} {cc : ByteArray}
theorem sw_aastN0 {T : State} (X : Stand p l e R s m args below meth c T locs cells slots) (hexec : p.tables.exec = Jvm.exec) {a : Addr} {cell : Cell} {t : FieldType} {j : Int32} (hcell : T.heap[a]? = some cell) (harr : s.isArrayOf cell (.array t)) (hknown : cell.vm ≠ .unknown)
    (hin : ¬ (j < 0 ∨ cell.slots.size ≤ j.toNatClampNeg))
    {g : JFrame} (hg : g.method = m) {rest : List Value} (hstack : g.stack = .null :: .int j :: .ref a :: rest) (hdg : decode c.code g.pc = .ok (.aastore, 1)) :
    Stand p l e R s m args below meth c (T.setCell a (cell.setSlot j.toNatClampNeg .null)) (locs ++ [⟨a, j.toNatClampNeg⟩]) cells slots ∧
      ∀ target, Steps p.tables e below ((T.setCell a (cell.setSlot j.toNatClampNeg .null)).setTop { g with pc := g.pc + 1, stack := rest }) target → Steps p.tables e below (T.setTop g) target := by
  have hT := State.isArrayOf_alike X.warmed.alike harr
  have hfit : T.fitsSlot cell.cls cell.vm j.toNatClampNeg .null = true := by
    obtain ⟨hobj, k, hk, comp, hkind⟩ := hT
    cases hvm : cell.vm <;> first | exact absurd hvm (hobj _) | simp [State.fitsSlot, State.slotType?, hk, hkind, fits]
  refine ⟨X.stored hcell _ _, fun target hrest => ?_⟩
  subst hg
  jvm_step X.here [hexec, hdg]
  refine aastore.wp_of_null (c := cell) (t := .array t) X.here.top hstack hcell hT hin hknown (Nat.not_le.mp fun q => hin (Or.inr q)) hfit ?_
  intro acts
  rw [afterInstr_ok]
  exact hrest
theorem sw_WaastN (hexec : p.tables.exec = Jvm.exec) (hb : c.code = cc) {a : Addr} {cell : Cell} {t : FieldType} {j : Int32} (hcell : H[a]? = some cell) (harr : s.isArrayOf cell (.array t)) (hknown : cell.vm ≠ .unknown) (hin : ¬ (j < 0 ∨ cell.slots.size ≤ j.toNatClampNeg))
    {g : JFrame} (hg : g.method = m) {rest : List Value} (hstack : g.stack = .null :: .int j :: .ref a :: rest) (hdg : decode cc g.pc = .ok (.aastore, 1))
    (kk : ∀ H' : Heap, H'[a]? = some (cell.setSlot j.toNatClampNeg .null) → H'.size = H.size → (∀ q, q ≠ a → H'[q]? = H[q]?) → W p l e R s m args below meth c H' (locs ++ [⟨a, j.toNatClampNeg⟩]) cells slots Q { g with pc := g.pc + 1, stack := rest }) :
    W p l e R s m args below meth c H locs cells slots Q g := by
  intro T hT X
  have hT' : T.heap[a]? = some cell := by rw [hT]; exact hcell
  obtain ⟨X', st⟩ := sw_aastN0 X hexec hT' harr hknown hin hg hstack (by rw [hb]; exact hdg)
  have hlt : a < T.heap.size := (Array.getElem?_eq_some_iff.mp hT').1
  obtain ⟨t', a1, b1⟩ := kk _ (heapAt_setCell_self _ hlt) (by rw [size_setCell, hT]) (fun q hq => by rw [heapAt_setCell_ne _ (Ne.symm hq), hT]) (T.setCell a (cell.setSlot j.toNatClampNeg .null)) rfl X'
  exact ⟨t', st t' a1, b1⟩
end SWN
section SWA
variable {p : Program} {l : Launch} {e : Env} {R : Room} {s : State} {m : MethodId} {args : Array Value} {below : List Frame} {meth : Method} {c : Code} {Q : State → Prop} {D : sw_D} {A : Nat → Prop} {nL N0 K0 NE KE d : Nat} {cf : sw_F} {bpc : Nat → Nat} {rf : sw_R} {own : String} {cc : ByteArray} {ret : Option FieldType} {pc : Nat}
theorem Sd_alen (hX : sw_X p l e R s m args below meth c D A own cc nL ret N0 K0 NE KE d) (hd : decode cc pc = .ok (.arraylength, 1)) : sw_Sd (sw_J p l e R s m args below meth c Q D A nL N0 K0) cf bpc NE KE rf (sw_al) pc (pc + 1) := by
  intro L st P x hx
  simp only [sw_al] at hx
  split at hx
  · rename_i a st' P' heq
    cases heq
    split at hx
    · rename_i t vs ha
      split at hx
      · rename_i h64
        cases hx
        refine ⟨sw_mo.rf _, fun _ _ hk h1 h2 ls H locs hl hP hS => ?_⟩
        have hST := hX.2.2.2.2.2.2.2.1
        obtain ⟨-, hcell, -⟩ := hP.2.2 _ _ ha
        by_cases h9 : t ≤ 69
        · have hc := hcell.arr ⟨h64, h9⟩
          exact W.alen (n := Int32.ofNat vs.length) hX.1 hX.2.1 hc ((hST.1.2 t h64 h9).1 _ _) (by rw [arrV_size] <;> rfl) rfl rfl hd (hk h1 h2 ls H locs hl hP hS)
        · by_cases h70 : t = 70
          · subst h70
            obtain ⟨e1, e2⟩ := hcell.emp
            subst e1; subst e2
            obtain ⟨cell, g1, g2, g3, g4, g5, g6, g7⟩ := hST.2.2.2.2.1
            exact W.alen (n := Int32.ofNat 0) hX.1 hX.2.1 (by rw [hS.2.1 _ (Array.getElem?_eq_some_iff.mp g1).1 g7]; exact g1) g2 g5 rfl rfl hd (hk h1 h2 ls H locs hl hP hS)
          · by_cases h71 : t = 71
            · subst h71
              obtain ⟨e1, e2⟩ := hcell.cache
              subst e1; subst e2
              obtain ⟨cell, g1, g2, g3, g4, g5, g6, g7⟩ := hST.2.2.2.2.2.2.2.1
              have hk' := hk h1 h2 ls H locs hl hP hS
              simp only [List.length_map, List.length_range] at hk'
              exact W.alen (n := Int32.ofNat 256) hX.1 hX.2.1 (by rw [hS.2.1 _ (Array.getElem?_eq_some_iff.mp g1).1 g7]; exact g1) g2 g5 rfl rfl hd hk'
            · exfalso
              rcases hcell with ⟨h, _⟩ | ⟨h, _⟩ | ⟨h, _⟩ | ⟨h, _⟩ | ⟨h, _⟩ | ⟨⟨h, h'⟩, _⟩ <;> simp only at h <;> omega
      · cases hx
    · cases hx
  · cases hx
theorem Sd_iaload (hX : sw_X p l e R s m args below meth c D A own cc nL ret N0 K0 NE KE d) (hd : decode cc pc = .ok (.iaload, 1)) : sw_Sd (sw_J p l e R s m args below meth c Q D A nL N0 K0) cf bpc NE KE rf (sw_ald 64) pc (pc + 1) := by
  intro L st P x hx
  simp only [sw_ald] at hx
  split at hx
  · rename_i i a st' P' heq
    cases heq
    obtain ⟨vs, ha, hx⟩ := sw_op_inv hx
    split at hx
    · cases hx
    · rename_i hi
      obtain ⟨v, hv, hx⟩ := sw_bo_inv hx
      cases hx
      refine ⟨sw_mo.rf _, fun _ _ hk h1 h2 ls H locs hl hP hS => ?_⟩
      have hST := hX.2.2.2.2.2.2.2.1
      obtain ⟨-, hcell, -⟩ := hP.2.2 _ _ ha
      have hc := hcell.arr (t := 64) ⟨Nat.le_of_ble_eq_true rfl, Nat.le_of_ble_eq_true rfl⟩
      have hlt : i.toNatClampNeg < vs.length := (List.getElem?_eq_some_iff.mp hv).1
      refine W.iald (v := v) hX.1 hX.2.1 hc ((hST.1.2 64 (by decide) (by decide)).1 _ _) (fun q => by cases q) (fun q => q.elim hi (fun z => absurd z (by rw [arrV_size]; omega))) ?_ rfl rfl hd (hk h1 h2 ls H locs hl hP hS)
      rw [arrV_read _ _ hlt]
      simp [vp_V, hv]
  · cases hx
theorem Sd_baload (hX : sw_X p l e R s m args below meth c D A own cc nL ret N0 K0 NE KE d) (hd : decode cc pc = .ok (.baload, 1)) : sw_Sd (sw_J p l e R s m args below meth c Q D A nL N0 K0) cf bpc NE KE rf (sw_ald 65) pc (pc + 1) := by
  intro L st P x hx
  simp only [sw_ald] at hx
  split at hx
  · rename_i i a st' P' heq
    cases heq
    obtain ⟨vs, ha, hx⟩ := sw_op_inv hx
    split at hx
    · cases hx
    · rename_i hi
      obtain ⟨v, hv, hx⟩ := sw_bo_inv hx
      cases hx
      refine ⟨sw_mo.rf _, fun _ _ hk h1 h2 ls H locs hl hP hS => ?_⟩
      have hST := hX.2.2.2.2.2.2.2.1
      obtain ⟨-, hcell, -⟩ := hP.2.2 _ _ ha
      have hc := hcell.arr (t := 65) ⟨Nat.le_of_ble_eq_true rfl, Nat.le_of_ble_eq_true rfl⟩
      have hlt : i.toNatClampNeg < vs.length := (List.getElem?_eq_some_iff.mp hv).1
      refine W.zald (v := v) hX.1 hX.2.1 hc ((hST.1.2 65 (by decide) (by decide)).1 _ _) (fun q => by cases q) (fun q => q.elim hi (fun z => absurd z (by rw [arrV_size]; omega))) ?_ rfl rfl hd (hk h1 h2 ls H locs hl hP hS)
      rw [arrV_read _ _ hlt]
      simp [vp_V, hv]
  · cases hx
theorem Sd_laload (hX : sw_X p l e R s m args below meth c D A own cc nL ret N0 K0 NE KE d) (hd : decode cc pc = .ok (.laload, 1)) : sw_Sd (sw_J p l e R s m args below meth c Q D A nL N0 K0) cf bpc NE KE rf (sw_ald 66) pc (pc + 1) := by
  intro L st P x hx
  simp only [sw_ald] at hx
  split at hx
  · rename_i i a st' P' heq
    cases heq
    obtain ⟨vs, ha, hx⟩ := sw_op_inv hx
    split at hx
    · cases hx
    · rename_i hi
      obtain ⟨v, hv, hx⟩ := sw_bo_inv hx
      cases hx
      refine ⟨sw_mo.rf _, fun _ _ hk h1 h2 ls H locs hl hP hS => ?_⟩
      have hST := hX.2.2.2.2.2.2.2.1
      obtain ⟨-, hcell, -⟩ := hP.2.2 _ _ ha
      have hc := hcell.arr (t := 66) ⟨Nat.le_of_ble_eq_true rfl, Nat.le_of_ble_eq_true rfl⟩
      have hlt : i.toNatClampNeg < vs.length := (List.getElem?_eq_some_iff.mp hv).1
      refine W.lald (v := v) hX.1 hX.2.1 hc ((hST.1.2 66 (by decide) (by decide)).1 _ _) (fun q => by cases q) (fun q => q.elim hi (fun z => absurd z (by rw [arrV_size]; omega))) ?_ rfl rfl hd (hk h1 h2 ls H locs hl hP hS)
      rw [arrV_read _ _ hlt]
      simp [vp_V, hv]
  · cases hx
theorem Sd_aaload67 (hX : sw_X p l e R s m args below meth c D A own cc nL ret N0 K0 NE KE d) (hd : decode cc pc = .ok (.aaload, 1)) : sw_Sd (sw_J p l e R s m args below meth c Q D A nL N0 K0) cf bpc NE KE rf (sw_ald 67) pc (pc + 1) := by
  intro L st P x hx
  simp only [sw_ald] at hx
  split at hx
  · rename_i i a st' P' heq
    cases heq
    obtain ⟨vs, ha, hx⟩ := sw_op_inv hx
    split at hx
    · cases hx
    · rename_i hi
      obtain ⟨v, hv, hx⟩ := sw_bo_inv hx
      cases hx
      refine ⟨sw_mo.rf _, fun _ _ hk h1 h2 ls H locs hl hP hS => ?_⟩
      have hST := hX.2.2.2.2.2.2.2.1
      obtain ⟨-, hcell, -⟩ := hP.2.2 _ _ ha
      have hc := hcell.arr (t := 67) ⟨Nat.le_of_ble_eq_true rfl, Nat.le_of_ble_eq_true rfl⟩
      have hlt : i.toNatClampNeg < vs.length := (List.getElem?_eq_some_iff.mp hv).1
      refine W.aald (v := v) hX.1 hX.2.1 hc ((hST.1.2 67 (by decide) (by decide)).1 _ _) rfl (fun q => by cases q) (fun q => q.elim hi (fun z => absurd z (by rw [arrV_size]; omega))) ?_ rfl rfl hd (hk h1 h2 ls H locs hl hP hS)
      rw [arrV_read _ _ hlt]
      simp [vp_V, hv]
  · cases hx
theorem Sd_aaload68 (hX : sw_X p l e R s m args below meth c D A own cc nL ret N0 K0 NE KE d) (hd : decode cc pc = .ok (.aaload, 1)) : sw_Sd (sw_J p l e R s m args below meth c Q D A nL N0 K0) cf bpc NE KE rf (sw_ald 68) pc (pc + 1) := by
  intro L st P x hx
  simp only [sw_ald] at hx
  split at hx
  · rename_i i a st' P' heq
    cases heq
    obtain ⟨vs, ha, hx⟩ := sw_op_inv hx
    split at hx
    · cases hx
    · rename_i hi
      obtain ⟨v, hv, hx⟩ := sw_bo_inv hx
      cases hx
      refine ⟨sw_mo.rf _, fun _ _ hk h1 h2 ls H locs hl hP hS => ?_⟩
      have hST := hX.2.2.2.2.2.2.2.1
      obtain ⟨-, hcell, -⟩ := hP.2.2 _ _ ha
      have hc := hcell.arr (t := 68) ⟨Nat.le_of_ble_eq_true rfl, Nat.le_of_ble_eq_true rfl⟩
      have hlt : i.toNatClampNeg < vs.length := (List.getElem?_eq_some_iff.mp hv).1
      refine W.aald (v := v) hX.1 hX.2.1 hc ((hST.1.2 68 (by decide) (by decide)).1 _ _) rfl (fun q => by cases q) (fun q => q.elim hi (fun z => absurd z (by rw [arrV_size]; omega))) ?_ rfl rfl hd (hk h1 h2 ls H locs hl hP hS)
      rw [arrV_read _ _ hlt]
      simp [vp_V, hv]
  · cases hx
theorem Sd_aaload69 (hX : sw_X p l e R s m args below meth c D A own cc nL ret N0 K0 NE KE d) (hd : decode cc pc = .ok (.aaload, 1)) : sw_Sd (sw_J p l e R s m args below meth c Q D A nL N0 K0) cf bpc NE KE rf (sw_ald 69) pc (pc + 1) := by
  intro L st P x hx
  simp only [sw_ald] at hx
  split at hx
  · rename_i i a st' P' heq
    cases heq
    obtain ⟨vs, ha, hx⟩ := sw_op_inv hx
    split at hx
    · cases hx
    · rename_i hi
      obtain ⟨v, hv, hx⟩ := sw_bo_inv hx
      cases hx
      refine ⟨sw_mo.rf _, fun _ _ hk h1 h2 ls H locs hl hP hS => ?_⟩
      have hST := hX.2.2.2.2.2.2.2.1
      obtain ⟨-, hcell, -⟩ := hP.2.2 _ _ ha
      have hc := hcell.arr (t := 69) ⟨Nat.le_of_ble_eq_true rfl, Nat.le_of_ble_eq_true rfl⟩
      have hlt : i.toNatClampNeg < vs.length := (List.getElem?_eq_some_iff.mp hv).1
      refine W.aald (v := v) hX.1 hX.2.1 hc ((hST.1.2 69 (by decide) (by decide)).1 _ _) rfl (fun q => by cases q) (fun q => q.elim hi (fun z => absurd z (by rw [arrV_size]; omega))) ?_ rfl rfl hd (hk h1 h2 ls H locs hl hP hS)
      rw [arrV_read _ _ hlt]
      simp [vp_V, hv]
  · cases hx
theorem Sd_aaload71 (hX : sw_X p l e R s m args below meth c D A own cc nL ret N0 K0 NE KE d) (hd : decode cc pc = .ok (.aaload, 1)) : sw_Sd (sw_J p l e R s m args below meth c Q D A nL N0 K0) cf bpc NE KE rf (sw_ald 71) pc (pc + 1) := by
  intro L st P x hx
  simp only [sw_ald] at hx
  split at hx
  · rename_i i a st' P' heq
    cases heq
    obtain ⟨vs, ha, hx⟩ := sw_op_inv hx
    split at hx
    · cases hx
    · rename_i hi
      obtain ⟨v, hv, hx⟩ := sw_bo_inv hx
      cases hx
      refine ⟨sw_mo.rf _, fun _ _ hk h1 h2 ls H locs hl hP hS => ?_⟩
      have hST := hX.2.2.2.2.2.2.2.1
      obtain ⟨-, hcell, -⟩ := hP.2.2 _ _ ha
      obtain ⟨e1, e2⟩ := hcell.cache
      subst e1; subst e2
      obtain ⟨cell, g1, g2, g3, g4, g5, g6, g7⟩ := hST.2.2.2.2.2.2.2.1
      have hlt : i.toNatClampNeg < 256 := by
        have := (List.getElem?_eq_some_iff.mp hv).1
        simpa using this
      refine W.aald (v := v) hX.1 hX.2.1 (by rw [hS.2.1 _ (Array.getElem?_eq_some_iff.mp g1).1 g7]; exact g1) g2 rfl g3 (fun q => q.elim hi (fun z => absurd z (by omega))) ?_ rfl rfl hd (hk h1 h2 ls H locs hl hP hS)
      rw [g6 _ hlt]
      simp only [List.getElem?_map, List.getElem?_range hlt, Option.map_some] at hv
      exact hv
  · cases hx
theorem Sd_iastore (hX : sw_X p l e R s m args below meth c D A own cc nL ret N0 K0 NE KE d) (hd : decode cc pc = .ok (.iastore, 1)) : sw_Sd (sw_J p l e R s m args below meth c Q D A nL N0 K0) cf bpc NE KE rf (sw_ast 64) pc (pc + 1) := by
  intro L st P x hx
  simp only [sw_ast] at hx
  split at hx
  · rename_i v i a st' P' heq
    cases heq
    obtain ⟨vs, ha, hx⟩ := sw_op_inv hx
    split at hx
    · rename_i hc0
      cases hx
      refine ⟨sw_mo.rf _, fun _ _ hk h1 h2 ls H locs hl hP hS => ?_⟩
      have hST := hX.2.2.2.2.2.2.2.1
      obtain ⟨hsz, hcell, hmu⟩ := hP.2.2 _ _ ha
      have hc := hcell.arr (t := 64) ⟨Nat.le_of_ble_eq_true rfl, Nat.le_of_ble_eq_true rfl⟩
      have hA : A a := hmu (Or.inr ⟨Nat.le_of_ble_eq_true rfl, Nat.le_of_ble_eq_true rfl⟩)
      obtain ⟨hi0, hi1, hfit⟩ := hc0
      cases v with
      | int y =>
        refine W.iast hX.1 hX.2.1 hc ((hST.1.2 64 (by decide) (by decide)).1 _ _) (fun q => by cases q) (fun q => q.elim hi0 (fun z => absurd z (by rw [arrV_size]; omega))) rfl rfl hd fun H' e1 e2 e3 => ?_
        refine hk h1 h2 ls H' _ hl (hP.put ha (Or.inr (Or.inr (Or.inr (Or.inr (Or.inr ⟨⟨Nat.le_of_ble_eq_true rfl, Nat.le_of_ble_eq_true rfl⟩, ?_⟩))))) e2 e3) (sw_va_put hS e2 e3 hA)
        rw [e1, arrV_store]
        simp only [List.length_set]
        congr 1
        refine sw_arrV_eq fun j hj => ?_
        skip
        exact sw_getD_set hi1 j
      | _ => cases hfit
    · cases hx
  · cases hx
theorem Sd_lastore (hX : sw_X p l e R s m args below meth c D A own cc nL ret N0 K0 NE KE d) (hd : decode cc pc = .ok (.lastore, 1)) : sw_Sd (sw_J p l e R s m args below meth c Q D A nL N0 K0) cf bpc NE KE rf (sw_ast 66) pc (pc + 1) := by
  intro L st P x hx
  simp only [sw_ast] at hx
  split at hx
  · rename_i v i a st' P' heq
    cases heq
    obtain ⟨vs, ha, hx⟩ := sw_op_inv hx
    split at hx
    · rename_i hc0
      cases hx
      refine ⟨sw_mo.rf _, fun _ _ hk h1 h2 ls H locs hl hP hS => ?_⟩
      have hST := hX.2.2.2.2.2.2.2.1
      obtain ⟨hsz, hcell, hmu⟩ := hP.2.2 _ _ ha
      have hc := hcell.arr (t := 66) ⟨Nat.le_of_ble_eq_true rfl, Nat.le_of_ble_eq_true rfl⟩
      have hA : A a := hmu (Or.inr ⟨Nat.le_of_ble_eq_true rfl, Nat.le_of_ble_eq_true rfl⟩)
      obtain ⟨hi0, hi1, hfit⟩ := hc0
      cases v with
      | long y =>
        refine W.last hX.1 hX.2.1 hc ((hST.1.2 66 (by decide) (by decide)).1 _ _) (fun q => by cases q) (fun q => q.elim hi0 (fun z => absurd z (by rw [arrV_size]; omega))) rfl rfl hd fun H' e1 e2 e3 => ?_
        refine hk h1 h2 ls H' _ hl (hP.put ha (Or.inr (Or.inr (Or.inr (Or.inr (Or.inr ⟨⟨Nat.le_of_ble_eq_true rfl, Nat.le_of_ble_eq_true rfl⟩, ?_⟩))))) e2 e3) (sw_va_put hS e2 e3 hA)
        rw [e1, arrV_store]
        simp only [List.length_set]
        congr 1
        refine sw_arrV_eq fun j hj => ?_
        skip
        exact sw_getD_set hi1 j
      | _ => cases hfit
    · cases hx
  · cases hx
theorem Sd_bastore (hX : sw_X p l e R s m args below meth c D A own cc nL ret N0 K0 NE KE d) (hd : decode cc pc = .ok (.bastore, 1)) : sw_Sd (sw_J p l e R s m args below meth c Q D A nL N0 K0) cf bpc NE KE rf (sw_ast 65) pc (pc + 1) := by
  intro L st P x hx
  simp only [sw_ast] at hx
  split at hx
  · rename_i v i a st' P' heq
    cases heq
    obtain ⟨vs, ha, hx⟩ := sw_op_inv hx
    split at hx
    · rename_i hc0
      cases hx
      refine ⟨sw_mo.rf _, fun _ _ hk h1 h2 ls H locs hl hP hS => ?_⟩
      have hST := hX.2.2.2.2.2.2.2.1
      obtain ⟨hsz, hcell, hmu⟩ := hP.2.2 _ _ ha
      have hc := hcell.arr (t := 65) ⟨Nat.le_of_ble_eq_true rfl, Nat.le_of_ble_eq_true rfl⟩
      have hA : A a := hmu (Or.inr ⟨Nat.le_of_ble_eq_true rfl, Nat.le_of_ble_eq_true rfl⟩)
      obtain ⟨hi0, hi1, hfit⟩ := hc0
      cases v with
      | int y =>
        refine W.zast hX.1 hX.2.1 hc ((hST.1.2 65 (by decide) (by decide)).1 _ _) (fun q => by cases q) (fun q => q.elim hi0 (fun z => absurd z (by rw [arrV_size]; omega))) rfl rfl hd fun H' e1 e2 e3 => ?_
        refine hk h1 h2 ls H' _ hl (hP.put ha (Or.inr (Or.inr (Or.inr (Or.inr (Or.inr ⟨⟨Nat.le_of_ble_eq_true rfl, Nat.le_of_ble_eq_true rfl⟩, ?_⟩))))) e2 e3) (sw_va_put hS e2 e3 hA)
        rw [e1, arrV_store]
        simp only [List.length_set]
        congr 1
        refine sw_arrV_eq fun j hj => ?_
        have hn : narrow .boolean (.int y) = .int y := (sw_fit_ty (ty := .boolean) (v := .int y) hfit).1
        rw [hn]
        exact sw_getD_set hi1 j
      | _ => cases hfit
    · cases hx
  · cases hx
def sw_asgn (cs : List Nat) (nm : String) : Prop := ∀ t ∈ cs, t ≠ 71 ∧ (sw_cn t = nm ∨ Cond.castable (sw_cn t) nm ∈ sw_wC)
theorem sw_asg {l : Launch} {s : State} {D : sw_D} {A : Nat → Prop} {cs : List Nat} {nm : String} (hST : sw_ST l D A s s.heap) (h : sw_asgn cs nm) {t : Nat} (ht : t ∈ cs) {c0 comp : ClassId} (h0 : s.vm.findClass (sw_cn t) = some c0) (h1 : s.vm.findClass nm = some comp) : s.vm.assignable c0 comp = true := by
  rcases (h t ht).2 with e | e
  · rw [e, h1] at h0
    cases h0
    exact va_asg _ _
  · obtain ⟨c1, t1, f1, f2, f3⟩ := Cond.castable_spec (va_Nw.use (A := #[]) rfl (hST.2.2.2.2.2.2.2.2.2.2.2.2.2.1 _ e))
    cases h0.symm.trans f1
    cases h1.symm.trans f2
    exact f3
theorem Sd_aastore67 (hX : sw_X p l e R s m args below meth c D A own cc nL ret N0 K0 NE KE d) {cs : List Nat} (hcs : sw_asgn cs "java/lang/Object") (hd : decode cc pc = .ok (.aastore, 1)) : sw_Sd (sw_J p l e R s m args below meth c Q D A nL N0 K0) cf bpc NE KE rf (sw_asr 67 cs) pc (pc + 1) := by
  intro L st P x hx
  simp only [sw_asr] at hx
  split at hx
  · rename_i v i a st' P' heq
    cases heq
    obtain ⟨vs, ha, hx⟩ := sw_op_inv hx
    split at hx
    · rename_i hc0
      cases hx
      refine ⟨sw_mo.rf _, fun _ _ hk h1 h2 ls H locs hl hP hS => ?_⟩
      have hST := hX.2.2.2.2.2.2.2.1
      obtain ⟨hsz, hcell, hmu⟩ := hP.2.2 _ _ ha
      have hc := hcell.arr (t := 67) ⟨Nat.le_of_ble_eq_true rfl, Nat.le_of_ble_eq_true rfl⟩
      have hA : A a := hmu (Or.inr ⟨Nat.le_of_ble_eq_true rfl, Nat.le_of_ble_eq_true rfl⟩)
      obtain ⟨hi0, hi1, hfit⟩ := hc0
      obtain ⟨kA, comp, r1, r2, r3, r4⟩ := (hST.1.2 67 (by decide) (by decide)).2.2
      have hcomp : s.vm.findClass "java/lang/Object" = some comp := r3 _ rfl
      obtain ⟨kE, hkE, -⟩ := Vm.findClass_spec hcomp
      cases v with
      | ref b =>
        obtain ⟨t, ws, hb, ht⟩ := sw_kds_inv (hfit : sw_kds (sw_hp P b) cs = true)
        obtain ⟨cellV, g1, g2, g3⟩ := sw_recv hST hS hP hb (hcs t ht).1
        obtain ⟨kC, hkC, -⟩ := Vm.findClass_spec g3
        refine W.aast hX.1 hX.2.1 hc (fun q h => by cases h) (fun h => by cases h) r1 r2 rfl hkE ⟨hi0, by rw [arrV_size]; exact hi1⟩ g1 (fun q h => by rw [h] at g2; cases g2) hkC (sw_asg hST hcs ht g3 hcomp) rfl rfl hd fun H' e1 e2 e3 => ?_
        refine hk h1 h2 ls H' _ hl (hP.put ha (Or.inr (Or.inr (Or.inr (Or.inr (Or.inr ⟨⟨Nat.le_of_ble_eq_true rfl, Nat.le_of_ble_eq_true rfl⟩, ?_⟩))))) e2 e3) (sw_va_put hS e2 e3 hA)
        rw [e1, arrV_store]
        simp only [List.length_set]
        congr 1
        exact sw_arrV_eq fun j hj => sw_getD_set hi1 j
      | null =>
        refine va_WaastN (C := "java/lang/Object") hX.1 hX.2.1 hc ((hST.1.2 67 (by decide) (by decide)).1 _ _) (fun h => by cases h) (fun q => q.elim hi0 (fun z => absurd z (by rw [arrV_size]; omega))) rfl rfl hd fun H' e1 e2 e3 => ?_
        refine hk h1 h2 ls H' _ hl (hP.put ha (Or.inr (Or.inr (Or.inr (Or.inr (Or.inr ⟨⟨Nat.le_of_ble_eq_true rfl, Nat.le_of_ble_eq_true rfl⟩, ?_⟩))))) e2 e3) (sw_va_put hS e2 e3 hA)
        rw [e1, arrV_store]
        simp only [List.length_set]
        congr 1
        exact sw_arrV_eq fun j hj => sw_getD_set hi1 j
      | _ => cases hfit
    · cases hx
  · cases hx
theorem Sd_aastore68 (hX : sw_X p l e R s m args below meth c D A own cc nL ret N0 K0 NE KE d) {cs : List Nat} (hcs : sw_asgn cs "SpillslotWorksModel$Life") (hd : decode cc pc = .ok (.aastore, 1)) : sw_Sd (sw_J p l e R s m args below meth c Q D A nL N0 K0) cf bpc NE KE rf (sw_asr 68 cs) pc (pc + 1) := by
  intro L st P x hx
  simp only [sw_asr] at hx
  split at hx
  · rename_i v i a st' P' heq
    cases heq
    obtain ⟨vs, ha, hx⟩ := sw_op_inv hx
    split at hx
    · rename_i hc0
      cases hx
      refine ⟨sw_mo.rf _, fun _ _ hk h1 h2 ls H locs hl hP hS => ?_⟩
      have hST := hX.2.2.2.2.2.2.2.1
      obtain ⟨hsz, hcell, hmu⟩ := hP.2.2 _ _ ha
      have hc := hcell.arr (t := 68) ⟨Nat.le_of_ble_eq_true rfl, Nat.le_of_ble_eq_true rfl⟩
      have hA : A a := hmu (Or.inr ⟨Nat.le_of_ble_eq_true rfl, Nat.le_of_ble_eq_true rfl⟩)
      obtain ⟨hi0, hi1, hfit⟩ := hc0
      obtain ⟨kA, comp, r1, r2, r3, r4⟩ := (hST.1.2 68 (by decide) (by decide)).2.2
      have hcomp : s.vm.findClass "SpillslotWorksModel$Life" = some comp := r3 _ rfl
      obtain ⟨kE, hkE, -⟩ := Vm.findClass_spec hcomp
      cases v with
      | ref b =>
        obtain ⟨t, ws, hb, ht⟩ := sw_kds_inv (hfit : sw_kds (sw_hp P b) cs = true)
        obtain ⟨cellV, g1, g2, g3⟩ := sw_recv hST hS hP hb (hcs t ht).1
        obtain ⟨kC, hkC, -⟩ := Vm.findClass_spec g3
        refine W.aast hX.1 hX.2.1 hc (fun q h => by cases h) (fun h => by cases h) r1 r2 rfl hkE ⟨hi0, by rw [arrV_size]; exact hi1⟩ g1 (fun q h => by rw [h] at g2; cases g2) hkC (sw_asg hST hcs ht g3 hcomp) rfl rfl hd fun H' e1 e2 e3 => ?_
        refine hk h1 h2 ls H' _ hl (hP.put ha (Or.inr (Or.inr (Or.inr (Or.inr (Or.inr ⟨⟨Nat.le_of_ble_eq_true rfl, Nat.le_of_ble_eq_true rfl⟩, ?_⟩))))) e2 e3) (sw_va_put hS e2 e3 hA)
        rw [e1, arrV_store]
        simp only [List.length_set]
        congr 1
        exact sw_arrV_eq fun j hj => sw_getD_set hi1 j
      | null =>
        refine va_WaastN (C := "SpillslotWorksModel$Life") hX.1 hX.2.1 hc ((hST.1.2 68 (by decide) (by decide)).1 _ _) (fun h => by cases h) (fun q => q.elim hi0 (fun z => absurd z (by rw [arrV_size]; omega))) rfl rfl hd fun H' e1 e2 e3 => ?_
        refine hk h1 h2 ls H' _ hl (hP.put ha (Or.inr (Or.inr (Or.inr (Or.inr (Or.inr ⟨⟨Nat.le_of_ble_eq_true rfl, Nat.le_of_ble_eq_true rfl⟩, ?_⟩))))) e2 e3) (sw_va_put hS e2 e3 hA)
        rw [e1, arrV_store]
        simp only [List.length_set]
        congr 1
        exact sw_arrV_eq fun j hj => sw_getD_set hi1 j
      | _ => cases hfit
    · cases hx
  · cases hx
theorem Sd_aastore69 (hX : sw_X p l e R s m args below meth c D A own cc nL ret N0 K0 NE KE d) {cs : List Nat} (hcs : sw_asgn cs (FieldType.array .boolean).toString) (hd : decode cc pc = .ok (.aastore, 1)) : sw_Sd (sw_J p l e R s m args below meth c Q D A nL N0 K0) cf bpc NE KE rf (sw_asr 69 cs) pc (pc + 1) := by
  intro L st P x hx
  simp only [sw_asr] at hx
  split at hx
  · rename_i v i a st' P' heq
    cases heq
    obtain ⟨vs, ha, hx⟩ := sw_op_inv hx
    split at hx
    · rename_i hc0
      cases hx
      refine ⟨sw_mo.rf _, fun _ _ hk h1 h2 ls H locs hl hP hS => ?_⟩
      have hST := hX.2.2.2.2.2.2.2.1
      obtain ⟨hsz, hcell, hmu⟩ := hP.2.2 _ _ ha
      have hc := hcell.arr (t := 69) ⟨Nat.le_of_ble_eq_true rfl, Nat.le_of_ble_eq_true rfl⟩
      have hA : A a := hmu (Or.inr ⟨Nat.le_of_ble_eq_true rfl, Nat.le_of_ble_eq_true rfl⟩)
      obtain ⟨hi0, hi1, hfit⟩ := hc0
      obtain ⟨kA, comp, r1, r2, r3, r4⟩ := (hST.1.2 69 (by decide) (by decide)).2.2
      have hcomp : s.vm.findClass (FieldType.array .boolean).toString = some comp := r4 _ rfl
      obtain ⟨kE, hkE, -⟩ := Vm.findClass_spec hcomp
      cases v with
      | ref b =>
        obtain ⟨t, ws, hb, ht⟩ := sw_kds_inv (hfit : sw_kds (sw_hp P b) cs = true)
        obtain ⟨cellV, g1, g2, g3⟩ := sw_recv hST hS hP hb (hcs t ht).1
        obtain ⟨kC, hkC, -⟩ := Vm.findClass_spec g3
        refine W.aast hX.1 hX.2.1 hc (fun q h => by cases h) (fun h => by cases h) r1 r2 rfl hkE ⟨hi0, by rw [arrV_size]; exact hi1⟩ g1 (fun q h => by rw [h] at g2; cases g2) hkC (sw_asg hST hcs ht g3 hcomp) rfl rfl hd fun H' e1 e2 e3 => ?_
        refine hk h1 h2 ls H' _ hl (hP.put ha (Or.inr (Or.inr (Or.inr (Or.inr (Or.inr ⟨⟨Nat.le_of_ble_eq_true rfl, Nat.le_of_ble_eq_true rfl⟩, ?_⟩))))) e2 e3) (sw_va_put hS e2 e3 hA)
        rw [e1, arrV_store]
        simp only [List.length_set]
        congr 1
        exact sw_arrV_eq fun j hj => sw_getD_set hi1 j
      | null =>
        refine sw_WaastN (t := .boolean) hX.1 hX.2.1 hc ((hST.1.2 69 (by decide) (by decide)).1 _ _) (fun h => by cases h) (fun q => q.elim hi0 (fun z => absurd z (by rw [arrV_size]; omega))) rfl rfl hd fun H' e1 e2 e3 => ?_
        refine hk h1 h2 ls H' _ hl (hP.put ha (Or.inr (Or.inr (Or.inr (Or.inr (Or.inr ⟨⟨Nat.le_of_ble_eq_true rfl, Nat.le_of_ble_eq_true rfl⟩, ?_⟩))))) e2 e3) (sw_va_put hS e2 e3 hA)
        rw [e1, arrV_store]
        simp only [List.length_set]
        congr 1
        exact sw_arrV_eq fun j hj => sw_getD_set hi1 j
      | _ => cases hfit
    · cases hx
  · cases hx
theorem Sd_cast (hX : sw_X p l e R s m args below meth c D A own cc nL ret N0 K0 NE KE d) {cs : List Nat} {nm : String} {i : Nat} (hcs : sw_asgn cs nm) (hd : decode cc pc = .ok (.checkcast i, 3)) (hw : Cond.classLink own i nm ∈ lw_all) : sw_Sd (sw_J p l e R s m args below meth c Q D A nL N0 K0) cf bpc NE KE rf (sw_ct cs) pc (pc + 3) := by
  intro L st P x hx
  simp only [sw_ct] at hx
  split at hx
  · rename_i v st' P' heq
    cases heq
    split at hx
    · rename_i hfit
      cases hx
      refine ⟨sw_mo.rf _, fun _ _ hk h1 h2 ls H locs hl hP hS => ?_⟩
      have hST := hX.2.2.2.2.2.2.2.1
      cases v with
      | ref b =>
        obtain ⟨t, ws, hb, ht⟩ := sw_kds_inv (hfit : sw_kds (sw_hp P b) cs = true)
        obtain ⟨cellV, g1, g2, g3⟩ := sw_recv hST hS hP hb (hcs t ht).1
        obtain ⟨comp, hcomp, hasg⟩ : ∃ comp, s.vm.findClass nm = some comp ∧ s.vm.assignable cellV.cls comp = true := by
          rcases (hcs t ht).2 with e | e
          · exact ⟨cellV.cls, by rw [← e]; exact g3, va_asg _ _⟩
          · obtain ⟨c1, t1, f1, f2, f3⟩ := Cond.castable_spec (va_Nw.use (A := #[]) rfl (hST.2.2.2.2.2.2.2.2.2.2.2.2.2.1 _ e))
            cases g3.symm.trans f1
            exact ⟨t1, f2, f3⟩
        intro T hT XX
        obtain ⟨vm', X', st2⟩ := XX.checkcastYes hX.1 hX.2.2.2.1 (hX.2.2.2.2.1 _ hw) (by rw [hT]; exact g1) g2 hcomp hasg (g := F0 m pc ls (.ref b :: st')) rfl rfl (by rw [hX.2.1]; exact hd)
        obtain ⟨t2, a1, b1⟩ := hk h1 h2 ls H locs hl hP hS (T.setVm vm') hT X'
        exact ⟨t2, st2 t2 a1, b1⟩
      | null => exact lv_castN hX.1 hX.2.1 hd (hk h1 h2 ls H locs hl hP hS)
      | _ => cases hfit
    · cases hx
  · cases hx
theorem Sd_gsK (hX : sw_X p l e R s m args below meth c D A own cc nL ret N0 K0 NE KE d) {j i : Nat} {nm : String} (hj : j < 6) (hnm : sw_Kn.getD j "" = nm) (hd : decode cc pc = .ok (.getstatic i, 3)) (hw : Cond.fieldLink own i "SpillslotWorks$Kind" nm "LSpillslotWorks$Kind;" ∈ lw_all) : sw_Sd (sw_J p l e R s m args below meth c Q D A nL N0 K0) cf bpc NE KE rf (sw_gs j) pc (pc + 3) := by
  intro L st P x hx
  cases hx
  refine ⟨sw_mo.rf _, fun _ _ hk h1 h2 ls H locs hl hP hS => ?_⟩
  have hST := hX.2.2.2.2.2.2.2.1
  have hk' := hk h1 h2 ls H locs hl hP hS
  have e : (L, st, P).2.2 = P := rfl
  rw [e, hP.2.1] at hk'
  exact va_gets hX.1 hX.2.1 (C := "SpillslotWorks$Kind") (hnm ▸ (hST.2.1.1 j hj).1) hS hX.2.2.2.1 (hX.2.2.2.2.1 _ hw) (fun _ h => h) hd hk'
theorem Sd_gs10 (hX : sw_X p l e R s m args below meth c D A own cc nL ret N0 K0 NE KE d) {i : Nat} (hd : decode cc pc = .ok (.getstatic i, 3)) (hw : Cond.fieldLink own i "java/util/ArrayList" "DEFAULTCAPACITY_EMPTY_ELEMENTDATA" "[Ljava/lang/Object;" ∈ lw_all) : sw_Sd (sw_J p l e R s m args below meth c Q D A nL N0 K0) cf bpc NE KE rf (sw_gs 10) pc (pc + 3) := by
  intro L st P x hx
  cases hx
  refine ⟨sw_mo.rf _, fun _ _ hk h1 h2 ls H locs hl hP hS => ?_⟩
  have hST := hX.2.2.2.2.2.2.2.1
  have hk' := hk h1 h2 ls H locs hl hP hS
  have e : (L, st, P).2.2 = P := rfl
  rw [e, hP.2.1] at hk'
  exact va_gets hX.1 hX.2.1 hST.2.2.2.1 hS hX.2.2.2.1 (hX.2.2.2.2.1 _ hw) (fun _ h => h) hd hk'
theorem Sd_gs11 (hX : sw_X p l e R s m args below meth c D A own cc nL ret N0 K0 NE KE d) {i : Nat} (hd : decode cc pc = .ok (.getstatic i, 3)) (hw : Cond.fieldLink own i "java/lang/Integer$IntegerCache" "cache" "[Ljava/lang/Integer;" ∈ lw_all) : sw_Sd (sw_J p l e R s m args below meth c Q D A nL N0 K0) cf bpc NE KE rf (sw_gs 11) pc (pc + 3) := by
  intro L st P x hx
  cases hx
  refine ⟨sw_mo.rf _, fun _ _ hk h1 h2 ls H locs hl hP hS => ?_⟩
  have hST := hX.2.2.2.2.2.2.2.1
  have hk' := hk h1 h2 ls H locs hl hP hS
  have e : (L, st, P).2.2 = P := rfl
  rw [e, hP.2.1] at hk'
  exact va_gets hX.1 hX.2.1 hST.2.2.2.2.2.2.1 hS hX.2.2.2.1 (hX.2.2.2.2.1 _ hw) (fun _ h => h) hd hk'
theorem Sd_gsHigh (hX : sw_X p l e R s m args below meth c D A own cc nL ret N0 K0 NE KE d) {i : Nat} (hd : decode cc pc = .ok (.getstatic i, 3)) (hw : Cond.fieldLink own i "java/lang/Integer$IntegerCache" "high" "I" ∈ lw_all) : sw_Sd (sw_J p l e R s m args below meth c Q D A nL N0 K0) cf bpc NE KE rf (sw_push (.int 127)) pc (pc + 3) := by
  intro L st P x hx
  cases hx
  refine ⟨sw_mo.rf _, fun _ _ hk h1 h2 ls H locs hl hP hS => ?_⟩
  have hST := hX.2.2.2.2.2.2.2.1
  exact va_gets hX.1 hX.2.1 hST.2.2.2.2.2.2.2.2.1 hS hX.2.2.2.1 (hX.2.2.2.2.1 _ hw) (fun _ h => h) hd (hk h1 h2 ls H locs hl hP hS)
theorem Sd_ldcM (hX : sw_X p l e R s m args below meth c D A own cc nL ret N0 K0 NE KE d) {i : Nat} (hd : decode cc pc = .ok (.ldc i, 2)) (hw : Cond.classLink own i "[Ljava/lang/Object;" ∈ lw_all) : sw_Sd (sw_J p l e R s m args below meth c Q D A nL N0 K0) cf bpc NE KE rf (sw_gs 50) pc (pc + 2) := by
  intro L st P x hx
  cases hx
  refine ⟨sw_mo.rf _, fun _ _ hk h1 h2 ls H locs hl hP hS => ?_⟩
  have hST := hX.2.2.2.2.2.2.2.1
  have hk' := hk h1 h2 ls H locs hl hP hS
  have e : (L, st, P).2.2 = P := rfl
  rw [e, hP.2.1] at hk'
  exact va_ldcM hX.1 hX.2.1 hX.2.2.2.1 (hX.2.2.2.2.1 _ hw) hST.2.2.2.2.2.2.2.2.2.1 hd hk'
theorem Sd_getClass (hX : sw_X p l e R s m args below meth c D A own cc nL ret N0 K0 NE KE d) {i : Nat} (hd : decode cc pc = .ok (.invokevirtual i, 3)) (hw : Cond.methodLink own i ⟨"java/lang/Object", "getClass", "()Ljava/lang/Class;"⟩ ∈ lw_all) (hsel : Cond.selects "[Ljava/lang/Object;" ⟨"java/lang/Object", "getClass", "()Ljava/lang/Class;"⟩ ⟨"java/lang/Object", "getClass", "()Ljava/lang/Class;"⟩ ∈ lw_all) (hinst : Cond.instanceMethod ⟨"java/lang/Object", "getClass", "()Ljava/lang/Class;"⟩ ∈ lw_all) (hnat : Cond.native ⟨"java/lang/Object", "getClass", "()Ljava/lang/Class;"⟩ ∈ lw_all) : sw_Sd (sw_J p l e R s m args below meth c Q D A nL N0 K0) cf bpc NE KE rf (sw_gc 67) pc (pc + 3) := by
  intro L st P x hx
  simp only [sw_gc] at hx
  split at hx
  · rename_i a st' P' heq
    cases heq
    split at hx
    · rename_i hc
      cases hx
      refine ⟨sw_mo.rf _, fun _ _ hk h1 h2 ls H locs hl hP hS => ?_⟩
      have hST := hX.2.2.2.2.2.2.2.1
      have hk' := hk h1 h2 ls H locs hl hP hS
      obtain ⟨t, ws, hb, ht⟩ := sw_kds_inv hc.1
      have hsum := sw_ok_sum hc.2
      obtain ⟨-, -, -, hfr, hlo⟩ := hX.2.2.2.2.2.2.2.2
      have hr : ∃ cell : Cell, H[a]? = some cell ∧ cell.vm.isStatics = false ∧ s.vm.findClass "[Ljava/lang/Object;" = some cell.cls := by
        simp only [List.mem_cons, List.not_mem_nil, or_false] at ht
        rcases ht with rfl | rfl
        · exact sw_recv hST hS hP hb (by decide)
        · exact sw_recv hST hS hP hb (by decide)
      rw [hP.2.1] at hk'
      exact va_getC hX.1 hX.2.1 (by rw [hX.2.2.1]; exact hl.1.symm) hX.2.2.2.1 (hX.2.2.2.2.1 _ hw) (va_Dc.use hST.2.2.2.2.2.2.2.2.2.2.1) (hX.2.2.2.2.1 _ hsel) (hX.2.2.2.2.1 _ hinst) (hX.2.2.2.2.1 _ hnat) hST.2.2.2.2.2.2.2.2.2.1 hr (by omega) (by omega) hd hk'
    · cases hx
  · cases hx
theorem Sd_objInit (hX : sw_X p l e R s m args below meth c D A own cc nL ret N0 K0 NE KE d) {i : Nat} (hd : decode cc pc = .ok (.invokespecial i, 3)) (hw : Cond.methodLink own i Lib.objectInit ∈ lw_all) (hinst : Cond.instanceMethod Lib.objectInit ∈ lw_all) (hcode : Cond.code Lib.objectInit ⟨#[0xb1]⟩ 1 none ∈ lw_all) : sw_Sd (sw_J p l e R s m args below meth c Q D A nL N0 K0) cf bpc NE KE rf (sw_oin) pc (pc + 3) := by
  intro L st P x hx
  simp only [sw_oin] at hx
  split at hx
  · rename_i a st' P' heq
    cases heq
    split at hx
    · rename_i hc
      cases hx
      refine ⟨sw_mo.rf _, fun _ _ hk h1 h2 ls H locs hl hP hS => ?_⟩
      have hsum := sw_ok_sum hc
      obtain ⟨-, -, -, hfr, hlo⟩ := hX.2.2.2.2.2.2.2.2
      refine W.objInit hX.1 hX.2.1 hX.2.2.2.1 (hX.2.2.2.2.1 _ hw) (hX.2.2.2.2.1 _ hinst) (hX.2.2.2.2.1 _ hcode) rfl (by rw [hX.2.2.1]; exact hl.1) rfl hd (by omega) (by show 2 * 0 + _ + 12 ≤ _; omega) ?_
      exact hk h1 h2 ls H locs hl hP hS
    · cases hx
  · cases hx
theorem Sd_max (hX : sw_X p l e R s m args below meth c D A own cc nL ret N0 K0 NE KE d) {i : Nat} (hd : decode cc pc = .ok (.invokestatic i, 3)) (hw : Cond.methodLink own i Lib.Math.max.name ∈ lw_all) (hst : Cond.static Lib.Math.max.name ∈ lw_all) (hini : Cond.initialized "java/lang/Math" ∈ lw_all) (hcode : Cond.code Lib.Math.max.name Lib.Math.max.code 2 (some .int) ∈ lw_all) : sw_Sd (sw_J p l e R s m args below meth c Q D A nL N0 K0) cf bpc NE KE rf (sw_mm sw_max) pc (pc + 3) := by
  intro L st P x hx
  simp only [sw_mm] at hx
  split at hx
  · rename_i y z st' P' heq
    cases heq
    split at hx
    · rename_i hc
      cases hx
      refine ⟨sw_mo.rf _, fun hNE hKE hk h1 h2 ls H locs hl hP hS => ?_⟩
      have hsum := sw_ok_sum hc
      have hNE' : sw_nx P ≤ NE := hNE
      have hKE' : sw_sl P ≤ KE := hKE
      obtain ⟨-, hRc, hRs, hfr, hlo⟩ := hX.2.2.2.2.2.2.2.2
      exact va_mmax hX.1 hX.2.1 (by rw [hX.2.2.1]; exact hl.1.symm) hX.2.2.2.1 (hX.2.2.2.2.1 _ hw) (hX.2.2.2.2.1 _ hst) (hX.2.2.2.2.1 _ hini) (hX.2.2.2.2.1 _ hcode) (by omega) (by omega) (by rw [hRc]; omega) (by rw [hRs]; omega) hd (hk h1 h2 ls H locs hl hP hS)
    · cases hx
  · cases hx
theorem Sd_min (hX : sw_X p l e R s m args below meth c D A own cc nL ret N0 K0 NE KE d) {i : Nat} (hd : decode cc pc = .ok (.invokestatic i, 3)) (hw : Cond.methodLink own i Lib.Math.min.name ∈ lw_all) (hst : Cond.static Lib.Math.min.name ∈ lw_all) (hini : Cond.initialized "java/lang/Math" ∈ lw_all) (hcode : Cond.code Lib.Math.min.name Lib.Math.min.code 2 (some .int) ∈ lw_all) : sw_Sd (sw_J p l e R s m args below meth c Q D A nL N0 K0) cf bpc NE KE rf (sw_mm sw_min) pc (pc + 3) := by
  intro L st P x hx
  simp only [sw_mm] at hx
  split at hx
  · rename_i y z st' P' heq
    cases heq
    split at hx
    · rename_i hc
      cases hx
      refine ⟨sw_mo.rf _, fun hNE hKE hk h1 h2 ls H locs hl hP hS => ?_⟩
      have hsum := sw_ok_sum hc
      have hNE' : sw_nx P ≤ NE := hNE
      have hKE' : sw_sl P ≤ KE := hKE
      obtain ⟨-, hRc, hRs, hfr, hlo⟩ := hX.2.2.2.2.2.2.2.2
      exact va_mmin hX.1 hX.2.1 (by rw [hX.2.2.1]; exact hl.1.symm) hX.2.2.2.1 (hX.2.2.2.2.1 _ hw) (hX.2.2.2.2.1 _ hst) (hX.2.2.2.2.1 _ hini) (hX.2.2.2.2.1 _ hcode) (by omega) (by omega) (by rw [hRc]; omega) (by rw [hRs]; omega) hd (hk h1 h2 ls H locs hl hP hS)
    · cases hx
  · cases hx
theorem sw_cpy_len {vs ws : List Value} {sp dp n : Nat} (h1 : sp + n ≤ vs.length) (h2 : dp + n ≤ ws.length) : (sw_cpy vs ws sp dp n).length = ws.length := by
  unfold sw_cpy
  simp
  omega
theorem sw_cpy_at {vs ws : List Value} {sp dp n : Nat} (h1 : sp + n ≤ vs.length) (h2 : dp + n ≤ ws.length) (j : Nat) (hj : j < ws.length) : va_cpy (vp_V vs) (vp_V ws) sp dp n j = vp_V (sw_cpy vs ws sp dp n) j := by
  unfold va_cpy vp_V sw_cpy
  rw [List.getD_eq_getElem?_getD, List.getD_eq_getElem?_getD, List.getD_eq_getElem?_getD]
  by_cases hc : dp ≤ j ∧ j < dp + n
  · rw [if_pos hc, List.getElem?_append_right (by simp; omega), List.getElem?_append_left (by simp; omega)]
    rw [List.getElem?_take, if_pos (by simp; omega), List.getElem?_drop]
    congr 2
    simp; omega
  · rw [if_neg hc]
    by_cases hl : j < dp
    · rw [List.getElem?_append_left (by simp; omega), List.getElem?_take, if_pos hl]
    · rw [List.getElem?_append_right (by simp; omega), List.getElem?_append_right (by simp; omega), List.getElem?_drop]
      congr 2
      simp; omega
theorem Sd_copyI (hX : sw_X p l e R s m args below meth c D A own cc nL ret N0 K0 NE KE d) {i : Nat} (hd : decode cc pc = .ok (.invokestatic i, 3)) (hw : Cond.methodLink own i arraycopyName ∈ lw_all) (hnat : Cond.native arraycopyName ∈ lw_all) (hst : Cond.static arraycopyName ∈ lw_all) (hini : Cond.initialized "java/lang/System" ∈ lw_all)  : sw_Sd (sw_J p l e R s m args below meth c Q D A nL N0 K0) cf bpc NE KE rf (sw_cp 64) pc (pc + 3) := by
  intro L st P x hx
  simp only [sw_cp] at hx
  split at hx
  · rename_i n dp d sp a st' P' heq
    cases heq
    obtain ⟨ta, vs, ha, hta, hx⟩ := sw_oc_inv hx
    obtain ⟨ws, hdd, hx⟩ := sw_op_inv hx
    split at hx
    · rename_i hc0
      cases hx
      refine ⟨sw_mo.rf _, fun _ _ hk h1 h2 ls H locs hl hP hS => ?_⟩
      have hST := hX.2.2.2.2.2.2.2.1
      obtain ⟨hn, hsp, hdp, hlen1, hlen2, hok, hall⟩ := hc0
      have hn := Int32.not_lt.mpr hn
      have hsp := Int32.not_lt.mpr hsp
      have hdp := Int32.not_lt.mpr hdp
      have hsum := sw_ok_sum hok
      obtain ⟨-, hRc, hRs, hfr, hlo⟩ := hX.2.2.2.2.2.2.2.2
      obtain ⟨hsz, hcell, hmu⟩ := hP.2.2 _ _ hdd
      have hc := hcell.arr (t := 64) ⟨Nat.le_of_ble_eq_true rfl, Nat.le_of_ble_eq_true rfl⟩
      have hA : A d := hmu (Or.inr ⟨Nat.le_of_ble_eq_true rfl, Nat.le_of_ble_eq_true rfl⟩)
      obtain ⟨-, kd, hkd, dComp, hdk⟩ := (hST.1.2 64 (by decide) (by decide)).1 ws.length (vp_V ws)
      obtain ⟨csrc, hcsrc, hsobj, hskn, ks, hks, sComp, sType, hsk, htyE, hsize, hread⟩ : ∃ cs : Cell, H[a]? = some cs ∧ (∀ k, cs.vm ≠ .statics k) ∧ cs.vm ≠ .unknown ∧ ∃ ks : Class, s.vm.classes[cs.cls]? = some ks ∧ ∃ (sComp : ClassId) (sType : FieldType), ks.kind = .array sComp sType ∧ sType = sw_ty 64 ∧ vs.length ≤ cs.slots.size ∧ ∀ j, j < vs.length → cs.slots[j]? = some (vp_V vs j) := by
        obtain ⟨-, hcellA, -⟩ := hP.2.2 _ _ ha
        have h64 : ta = 64 := by
          rcases hta with h | ⟨h, _⟩
          · exact h
          · cases h
        subst h64
        have hca := hcellA.arr (t := 64) ⟨Nat.le_of_ble_eq_true rfl, Nat.le_of_ble_eq_true rfl⟩
        obtain ⟨-, ks, hks, sComp, hsk⟩ := (hST.1.2 64 (by decide) (by decide)).1 vs.length (vp_V vs)
        exact ⟨_, hca, (fun _ h => nomatch h), (fun h => nomatch h), ks, hks, sComp, _, hsk, rfl, Nat.le_of_eq (arrV_size _ _ _).symm, fun j hj => arrV_read _ _ hj⟩
      subst htyE
      intro T hT XX
      obtain ⟨vm', X', step⟩ := XX.arraycopy hX.1 hX.2.2.2.1 (hX.2.2.2.2.1 _ hw) (hX.2.2.2.2.1 _ hnat) (hX.2.2.2.2.1 _ hst) (hX.2.2.2.2.1 _ hini) (src := a) (dst := d) (cs := csrc) (cd := arrV (D.2.2.1 64) ws.length (vp_V ws)) (srcPos := sp) (destPos := dp) (n := n) (by rw [hT]; exact hcsrc) (by rw [hT]; exact hc)
        hsobj (fun _ h => by cases h) hskn (fun h => by cases h) hks hkd hsk hdk (by decide) hsp hdp hn
        (by rw [sw_nn hsp, sw_nn hn]; omega)
        (by rw [sw_nn hdp, sw_nn hn, arrV_size]; omega)
        (fun vm₁ hal j hj => by
          have hjv : sp.toNatClampNeg + j < vs.length := by omega
          have e : csrc.slots.getD (sp.toNatClampNeg + j) .null = vp_V vs (sp.toNatClampNeg + j) := by
            rw [Array.getD_eq_getD_getElem?, hread _ hjv]; rfl
          have hce : sw_ce P 64 (vp_V vs (sp.toNatClampNeg + j)) = true := by
            refine List.all_eq_true.mp hall _ ?_
            have hq : ((vs.drop sp.toNatClampNeg).take n.toNatClampNeg)[j]? = some (vp_V vs (sp.toNatClampNeg + j)) := by
              rw [List.getElem?_take, if_pos hj, List.getElem?_drop, List.getElem?_eq_getElem hjv]
              simp [vp_V, hjv]
            exact List.mem_of_getElem? hq
          rw [e]
          refine ⟨?_, ?_⟩
          · exact (sw_fit_ty (ty := .int) (v := vp_V vs (sp.toNatClampNeg + j)) hce).2
          · have : sw_fit 0 (vp_V vs (sp.toNatClampNeg + j)) = true := hce
            cases hv : vp_V vs (sp.toNatClampNeg + j) with
            | int y => exact trivial
            | _ => rw [hv] at this; cases this)
        (g := F0 m pc ls (.int n :: .int dp :: .ref d :: .int sp :: .ref a :: st')) rfl (by rw [hX.2.2.1]; exact hl.1) (rest := st') rfl (by rw [hX.2.1]; exact hd) (by omega) (by show 2 * 0 + _ + _ ≤ _; have hw : nativeFrameWords "java/lang/System" "arraycopy" 5 ≤ 12 := (by decide); omega)
      have e1 : copied csrc (arrV (D.2.2.1 64) ws.length (vp_V ws)) sp dp n = arrV (D.2.2.1 64) ws.length (fun j => va_cpy (vp_V vs) (vp_V ws) sp.toNatClampNeg dp.toNatClampNeg n.toNatClampNeg j) := va_copiedX (fun z : Value => z) csrc _ (vp_V vs) (vp_V ws) hread hlen1
      rw [e1] at X' step
      have hle : d < H.size := hsz
      have hheap : ((T.setVm vm').setCell d (arrV (D.2.2.1 64) ws.length (fun j => va_cpy (vp_V vs) (vp_V ws) sp.toNatClampNeg dp.toNatClampNeg n.toNatClampNeg j))).heap = H.setIfInBounds d (arrV (D.2.2.1 64) ws.length (fun j => va_cpy (vp_V vs) (vp_V ws) sp.toNatClampNeg dp.toNatClampNeg n.toNatClampNeg j)) := by rw [← hT]; rfl
      have oz : (H.setIfInBounds d (arrV (D.2.2.1 64) ws.length (fun j => va_cpy (vp_V vs) (vp_V ws) sp.toNatClampNeg dp.toNatClampNeg n.toNatClampNeg j))).size = H.size := by simp
      have oq : ∀ q : Nat, q ≠ d → (H.setIfInBounds d (arrV (D.2.2.1 64) ws.length (fun j => va_cpy (vp_V vs) (vp_V ws) sp.toNatClampNeg dp.toNatClampNeg n.toNatClampNeg j)))[q]? = H[q]? := fun q hq => by simp [Array.getElem?_setIfInBounds, Ne.symm hq]
      have hnew : sw_cell D d (64, sw_cpy vs ws sp.toNatClampNeg dp.toNatClampNeg n.toNatClampNeg) (H.setIfInBounds d (arrV (D.2.2.1 64) ws.length (fun j => va_cpy (vp_V vs) (vp_V ws) sp.toNatClampNeg dp.toNatClampNeg n.toNatClampNeg j))) := by
        refine Or.inr (Or.inr (Or.inr (Or.inr (Or.inr ⟨⟨Nat.le_of_ble_eq_true rfl, Nat.le_of_ble_eq_true rfl⟩, ?_⟩))))
        simp only [sw_cpy_len hlen1 hlen2]
        rw [Array.getElem?_setIfInBounds, if_pos rfl, if_pos hle]
        congr 1
        exact sw_arrV_eq fun j hj => sw_cpy_at hlen1 hlen2 j hj
      obtain ⟨t2, a1, b1⟩ := hk h1 h2 ls _ _ hl (hP.put hdd hnew oz oq) ⟨by rw [oz]; exact hS.1, fun q g1 g2 => by
          rw [oq q (fun e => g2 (by rw [e]; exact hA))]
          exact hS.2.1 q g1 g2, fun q hq => by
          rcases List.mem_append.mp hq with h | h
          · exact hS.2.2 q h
          · obtain ⟨z, -, hz⟩ := List.mem_map.mp h
            rw [← hz]
            exact hA⟩ _ hheap X'
      exact ⟨t2, step t2 a1, b1⟩
    · cases hx
  · cases hx
theorem Sd_copyO (hX : sw_X p l e R s m args below meth c D A own cc nL ret N0 K0 NE KE d) {i : Nat} (hd : decode cc pc = .ok (.invokestatic i, 3)) (hw : Cond.methodLink own i arraycopyName ∈ lw_all) (hnat : Cond.native arraycopyName ∈ lw_all) (hst : Cond.static arraycopyName ∈ lw_all) (hini : Cond.initialized "java/lang/System" ∈ lw_all) (hcs : sw_asgn sw_k67 "java/lang/Object") : sw_Sd (sw_J p l e R s m args below meth c Q D A nL N0 K0) cf bpc NE KE rf (sw_cp 67) pc (pc + 3) := by
  intro L st P x hx
  simp only [sw_cp] at hx
  split at hx
  · rename_i n dp d sp a st' P' heq
    cases heq
    obtain ⟨ta, vs, ha, hta, hx⟩ := sw_oc_inv hx
    obtain ⟨ws, hdd, hx⟩ := sw_op_inv hx
    split at hx
    · rename_i hc0
      cases hx
      refine ⟨sw_mo.rf _, fun _ _ hk h1 h2 ls H locs hl hP hS => ?_⟩
      have hST := hX.2.2.2.2.2.2.2.1
      obtain ⟨hn, hsp, hdp, hlen1, hlen2, hok, hall⟩ := hc0
      have hn := Int32.not_lt.mpr hn
      have hsp := Int32.not_lt.mpr hsp
      have hdp := Int32.not_lt.mpr hdp
      have hsum := sw_ok_sum hok
      obtain ⟨-, hRc, hRs, hfr, hlo⟩ := hX.2.2.2.2.2.2.2.2
      obtain ⟨hsz, hcell, hmu⟩ := hP.2.2 _ _ hdd
      have hc := hcell.arr (t := 67) ⟨Nat.le_of_ble_eq_true rfl, Nat.le_of_ble_eq_true rfl⟩
      have hA : A d := hmu (Or.inr ⟨Nat.le_of_ble_eq_true rfl, Nat.le_of_ble_eq_true rfl⟩)
      obtain ⟨-, kd, hkd, dComp, hdk⟩ := (hST.1.2 67 (by decide) (by decide)).1 ws.length (vp_V ws)
      obtain ⟨csrc, hcsrc, hsobj, hskn, ks, hks, sComp, sType, hsk, htyE, hsize, hread⟩ : ∃ cs : Cell, H[a]? = some cs ∧ (∀ k, cs.vm ≠ .statics k) ∧ cs.vm ≠ .unknown ∧ ∃ ks : Class, s.vm.classes[cs.cls]? = some ks ∧ ∃ (sComp : ClassId) (sType : FieldType), ks.kind = .array sComp sType ∧ sType = sw_ty 67 ∧ vs.length ≤ cs.slots.size ∧ ∀ j, j < vs.length → cs.slots[j]? = some (vp_V vs j) := by
        obtain ⟨-, hcellA, -⟩ := hP.2.2 _ _ ha
        rcases hta with rfl | ⟨-, rfl⟩
        · have hca := hcellA.arr (t := 67) ⟨Nat.le_of_ble_eq_true rfl, Nat.le_of_ble_eq_true rfl⟩
          obtain ⟨-, ks, hks, sComp, hsk⟩ := (hST.1.2 67 (by decide) (by decide)).1 vs.length (vp_V vs)
          exact ⟨_, hca, (fun _ h => nomatch h), (fun h => nomatch h), ks, hks, sComp, _, hsk, rfl, Nat.le_of_eq (arrV_size _ _ _).symm, fun j hj => arrV_read _ _ hj⟩
        · obtain ⟨e1, e2⟩ := hcellA.emp
          subst e1; subst e2
          obtain ⟨cell, g1, g2, g3, g4, g5, g6, g7⟩ := hST.2.2.2.2.1
          obtain ⟨hob, ks, hks, sComp, hsk⟩ := g2
          exact ⟨cell, by rw [hS.2.1 _ (Array.getElem?_eq_some_iff.mp g1).1 g7]; exact g1, hob, g3, ks, hks, sComp, _, hsk, rfl, Nat.zero_le _, fun j hj => absurd hj (Nat.not_lt_zero _)⟩
      subst htyE
      intro T hT XX
      obtain ⟨vm', X', step⟩ := XX.arraycopy hX.1 hX.2.2.2.1 (hX.2.2.2.2.1 _ hw) (hX.2.2.2.2.1 _ hnat) (hX.2.2.2.2.1 _ hst) (hX.2.2.2.2.1 _ hini) (src := a) (dst := d) (cs := csrc) (cd := arrV (D.2.2.1 67) ws.length (vp_V ws)) (srcPos := sp) (destPos := dp) (n := n) (by rw [hT]; exact hcsrc) (by rw [hT]; exact hc)
        hsobj (fun _ h => by cases h) hskn (fun h => by cases h) hks hkd hsk hdk (rfl) hsp hdp hn
        (by rw [sw_nn hsp, sw_nn hn]; omega)
        (by rw [sw_nn hdp, sw_nn hn, arrV_size]; omega)
        (fun vm₁ hal j hj => by
          have hjv : sp.toNatClampNeg + j < vs.length := by omega
          have e : csrc.slots.getD (sp.toNatClampNeg + j) .null = vp_V vs (sp.toNatClampNeg + j) := by
            rw [Array.getD_eq_getD_getElem?, hread _ hjv]; rfl
          have hce : sw_ce P 67 (vp_V vs (sp.toNatClampNeg + j)) = true := by
            refine List.all_eq_true.mp hall _ ?_
            have hq : ((vs.drop sp.toNatClampNeg).take n.toNatClampNeg)[j]? = some (vp_V vs (sp.toNatClampNeg + j)) := by
              rw [List.getElem?_take, if_pos hj, List.getElem?_drop, List.getElem?_eq_getElem hjv]
              simp [vp_V, hjv]
            exact List.mem_of_getElem? hq
          rw [e]
          obtain ⟨kA, comp, r1, r2, r3, -⟩ := (hST.1.2 67 (by decide) (by decide)).2.2
          have hcomp : s.vm.findClass "java/lang/Object" = some comp := r3 _ rfl
          cases hkd.symm.trans r1
          cases hdk.symm.trans r2
          cases hv : vp_V vs (sp.toNatClampNeg + j) with
          | null => exact ⟨rfl, trivial⟩
          | ref y =>
            rw [hv] at hce
            obtain ⟨t, zs, hb, ht⟩ := sw_kds_inv (hce : sw_kds (sw_hp P y) sw_k67 = true)
            obtain ⟨cellV, g1, g2, g3⟩ := sw_recv hST hS hP hb (hcs t ht).1
            obtain ⟨kC, hkC, -⟩ := Vm.findClass_spec g3
            obtain ⟨kE, hkE, -⟩ := Vm.findClass_spec hcomp
            obtain ⟨kC', hkC', -⟩ := hal.2.2 _ _ hkC
            obtain ⟨kE', hkE', -⟩ := hal.2.2 _ _ hkE
            refine ⟨rfl, cellV, (show T.heap[y]? = some cellV by rw [hT]; exact g1), (fun q h => by rw [h] at g2; cases g2), ⟨kC', hkC'⟩, ⟨kE', hkE'⟩, ?_⟩
            show vm₁.assignable _ _ = true
            rw [hal.assignable]
            exact sw_asg hST hcs ht g3 hcomp
          | _ => rw [hv] at hce; cases hce)
        (g := F0 m pc ls (.int n :: .int dp :: .ref d :: .int sp :: .ref a :: st')) rfl (by rw [hX.2.2.1]; exact hl.1) (rest := st') rfl (by rw [hX.2.1]; exact hd) (by omega) (by show 2 * 0 + _ + _ ≤ _; have hw : nativeFrameWords "java/lang/System" "arraycopy" 5 ≤ 12 := (by decide); omega)
      have e1 : copied csrc (arrV (D.2.2.1 67) ws.length (vp_V ws)) sp dp n = arrV (D.2.2.1 67) ws.length (fun j => va_cpy (vp_V vs) (vp_V ws) sp.toNatClampNeg dp.toNatClampNeg n.toNatClampNeg j) := va_copiedX (fun z : Value => z) csrc _ (vp_V vs) (vp_V ws) hread hlen1
      rw [e1] at X' step
      have hle : d < H.size := hsz
      have hheap : ((T.setVm vm').setCell d (arrV (D.2.2.1 67) ws.length (fun j => va_cpy (vp_V vs) (vp_V ws) sp.toNatClampNeg dp.toNatClampNeg n.toNatClampNeg j))).heap = H.setIfInBounds d (arrV (D.2.2.1 67) ws.length (fun j => va_cpy (vp_V vs) (vp_V ws) sp.toNatClampNeg dp.toNatClampNeg n.toNatClampNeg j)) := by rw [← hT]; rfl
      have oz : (H.setIfInBounds d (arrV (D.2.2.1 67) ws.length (fun j => va_cpy (vp_V vs) (vp_V ws) sp.toNatClampNeg dp.toNatClampNeg n.toNatClampNeg j))).size = H.size := by simp
      have oq : ∀ q : Nat, q ≠ d → (H.setIfInBounds d (arrV (D.2.2.1 67) ws.length (fun j => va_cpy (vp_V vs) (vp_V ws) sp.toNatClampNeg dp.toNatClampNeg n.toNatClampNeg j)))[q]? = H[q]? := fun q hq => by simp [Array.getElem?_setIfInBounds, Ne.symm hq]
      have hnew : sw_cell D d (67, sw_cpy vs ws sp.toNatClampNeg dp.toNatClampNeg n.toNatClampNeg) (H.setIfInBounds d (arrV (D.2.2.1 67) ws.length (fun j => va_cpy (vp_V vs) (vp_V ws) sp.toNatClampNeg dp.toNatClampNeg n.toNatClampNeg j))) := by
        refine Or.inr (Or.inr (Or.inr (Or.inr (Or.inr ⟨⟨Nat.le_of_ble_eq_true rfl, Nat.le_of_ble_eq_true rfl⟩, ?_⟩))))
        simp only [sw_cpy_len hlen1 hlen2]
        rw [Array.getElem?_setIfInBounds, if_pos rfl, if_pos hle]
        congr 1
        exact sw_arrV_eq fun j hj => sw_cpy_at hlen1 hlen2 j hj
      obtain ⟨t2, a1, b1⟩ := hk h1 h2 ls _ _ hl (hP.put hdd hnew oz oq) ⟨by rw [oz]; exact hS.1, fun q g1 g2 => by
          rw [oq q (fun e => g2 (by rw [e]; exact hA))]
          exact hS.2.1 q g1 g2, fun q hq => by
          rcases List.mem_append.mp hq with h | h
          · exact hS.2.2 q h
          · obtain ⟨z, -, hz⟩ := List.mem_map.mp h
            rw [← hz]
            exact hA⟩ _ hheap X'
      exact ⟨t2, step t2 a1, b1⟩
    · cases hx
  · cases hx
end SWA
