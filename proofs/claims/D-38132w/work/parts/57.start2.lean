/-! ===== what the Statement gives of the start: the constants ===== -/
def sw_nw1 : List Cond := flatC (Jvm.Cond.and given_1 narrow_1)
theorem sw_kinds {args : Array Value} {s : State} {A : Nat → Prop} (hts : ∀ w ∈ lw_tbl, w.before args s = true) (hn : ∀ w ∈ sw_nw1, w.before args s = true) (hA : ∀ a : Nat, a < s.heap.size → ¬ A a) : ∃ ad : Nat → Nat, va_En "SpillslotWorks$Kind" "LSpillslotWorks$Kind;" sw_Kn sw_KF ad A s s.heap := by
  have h1 : ∀ i, i < sw_Kn.length → Cond.laysStatic "SpillslotWorks$Kind" (sw_Kn.getD i "") "LSpillslotWorks$Kind;" ∈ lw_tbl := by decide +kernel
  have h2 : ∀ i, i < sw_Kn.length → Cond.exactly (.static "SpillslotWorks$Kind" (sw_Kn.getD i "") "LSpillslotWorks$Kind;") "SpillslotWorks$Kind" ∈ sw_nw1 := by decide +kernel
  have h3 : ∀ q ∈ sw_KF, ∀ i, i < sw_Kn.length → Cond.eq (.field (.static "SpillslotWorks$Kind" (sw_Kn.getD i "") "LSpillslotWorks$Kind;") q.1 q.2.1 q.2.2.1) (.int (q.2.2.2.getD i 0)) ∈ sw_nw1 := by decide +kernel
  have h4 : ∀ i, i < sw_Kn.length → ∀ j, j < sw_Kn.length → i ≠ j → Cond.not (.eq (.static "SpillslotWorks$Kind" (sw_Kn.getD i "") "LSpillslotWorks$Kind;") (.static "SpillslotWorks$Kind" (sw_Kn.getD j "") "LSpillslotWorks$Kind;")) ∈ sw_nw1 ∨ Cond.not (.eq (.static "SpillslotWorks$Kind" (sw_Kn.getD j "") "LSpillslotWorks$Kind;") (.static "SpillslotWorks$Kind" (sw_Kn.getD i "") "LSpillslotWorks$Kind;")) ∈ sw_nw1 := by decide +kernel
  have h5 : Cond.initialized "SpillslotWorks$Kind" ∈ lw_tbl := by decide +kernel
  exact va_Enof (fun i hi => hts _ (h1 i hi)) (hts _ h5) (fun i hi => hn _ (h2 i hi)) (fun q hq i hi => hn _ (h3 q hq i hi)) (fun i j hi hj hij => (h4 i hi j hj hij).imp (fun h => hn _ h) (fun h => hn _ h)) hA
theorem sw_ncc {args : Array Value} {s : State} (hn : ∀ w ∈ sw_nw1, w.before args s = true) : sw_NC s := by
  have h : ∀ q ∈ sw_NCl, Cond.not (.castable (sw_exn q.1) (sw_exn q.2)) ∈ sw_nw1 := by decide +kernel
  exact fun q hq => va_Nc.of (hn _ (h q hq))
theorem sw_stN {args : Array Value} {s : State} {A : Nat → Prop} (hts : ∀ w ∈ lw_tbl, w.before args s = true) (hn : ∀ w ∈ sw_nw1, w.before args s = true) (hA : ∀ a : Nat, a < s.heap.size → ¬ A a) :
    (∃ mi : Nat, va_Mi "[Ljava/lang/Object;" mi s) ∧ va_Dc s ∧ va_AO "java/lang/Object" s ∧ va_AO "SpillslotWorksModel$Life" s := by
  refine ⟨va_Mi.of (hn (Cond.isRef (.mirror "[Ljava/lang/Object;")) (by decide +kernel)), va_Dc.of (hts _ (by decide +kernel)), va_AO.of (A := args) ?_, va_AO.of (A := args) ?_⟩
  · exact hts _ (by decide +kernel)
  · exact hts _ (by decide +kernel)
