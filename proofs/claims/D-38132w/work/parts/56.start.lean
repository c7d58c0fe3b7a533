/-! ===== what is known of the start ===== -/
def sw_Kw (c : Nat) (s : State) : Prop := ∀ q, sw_kl[c]? = some q → ∃ x : ClassId × (Nat → Nat), u_Kn s q.1 q.2.1 q.2.2 x.1 x.2
theorem sw_kw {args : Array Value} {s : State} (hts : ∀ w ∈ lw_all, w.before args s = true) {t n k : Nat} {C : String} {T : u_T} {ty : Nat → FieldType} (h : sw_Cl t C T ty n) (hi : Cond.instantiable C k ∈ lw_all) : sw_Kw t s := by
  intro q hq
  have h2 := h.2.1
  rw [hq] at h2
  cases Option.some.inj h2
  obtain ⟨cC, iS, hK⟩ := u_known hts h.2.2.1 (hts _ hi)
  exact ⟨(cC, iS), hK⟩
theorem sw_kw_X1 {args : Array Value} {s : State} (hts : ∀ w ∈ lw_all, w.before args s = true) : sw_Kw 0 s := sw_kw hts cl_X1 q172
theorem sw_kw_X2 {args : Array Value} {s : State} (hts : ∀ w ∈ lw_all, w.before args s = true) : sw_Kw 1 s := sw_kw hts cl_X2 q180
theorem sw_kw_X3 {args : Array Value} {s : State} (hts : ∀ w ∈ lw_all, w.before args s = true) : sw_Kw 2 s := sw_kw hts cl_X3 q326
theorem sw_kw_X4 {args : Array Value} {s : State} (hts : ∀ w ∈ lw_all, w.before args s = true) : sw_Kw 3 s := sw_kw hts cl_X4 q362
theorem sw_kw_X5 {args : Array Value} {s : State} (hts : ∀ w ∈ lw_all, w.before args s = true) : sw_Kw 4 s := sw_kw hts cl_X5 q368
theorem sw_kw_X6 {args : Array Value} {s : State} (hts : ∀ w ∈ lw_all, w.before args s = true) : sw_Kw 5 s := sw_kw hts cl_X6 q501
theorem sw_kw_X7 {args : Array Value} {s : State} (hts : ∀ w ∈ lw_all, w.before args s = true) : sw_Kw 6 s := sw_kw hts cl_X7 q521
theorem sw_kw_X8 {args : Array Value} {s : State} (hts : ∀ w ∈ lw_all, w.before args s = true) : sw_Kw 7 s := sw_kw hts cl_X8 q649
theorem sw_kw_X9 {args : Array Value} {s : State} (hts : ∀ w ∈ lw_all, w.before args s = true) : sw_Kw 8 s := sw_kw hts cl_X9 q661
theorem sw_kw_X10 {args : Array Value} {s : State} (hts : ∀ w ∈ lw_all, w.before args s = true) : sw_Kw 9 s := sw_kw hts cl_X10 q1167
theorem sw_kw_X11 {args : Array Value} {s : State} (hts : ∀ w ∈ lw_all, w.before args s = true) : sw_Kw 10 s := sw_kw hts cl_X11 q1216
theorem sw_kw_X12 {args : Array Value} {s : State} (hts : ∀ w ∈ lw_all, w.before args s = true) : sw_Kw 11 s := sw_kw hts cl_X12 q1282
theorem sw_kw_X13 {args : Array Value} {s : State} (hts : ∀ w ∈ lw_all, w.before args s = true) : sw_Kw 12 s := sw_kw hts cl_X13 q1846
theorem sw_kw_X14 {args : Array Value} {s : State} (hts : ∀ w ∈ lw_all, w.before args s = true) : sw_Kw 13 s := sw_kw hts cl_X14 q1852
theorem sw_kw_X15 {args : Array Value} {s : State} (hts : ∀ w ∈ lw_all, w.before args s = true) : sw_Kw 14 s := sw_kw hts cl_X15 q1887
theorem sw_kw_X16 {args : Array Value} {s : State} (hts : ∀ w ∈ lw_all, w.before args s = true) : sw_Kw 15 s := sw_kw hts cl_X16 q1634
theorem sw_kw_X17 {args : Array Value} {s : State} (hts : ∀ w ∈ lw_all, w.before args s = true) : sw_Kw 16 s := sw_kw hts cl_X17 q1980
theorem sw_kw_X18 {args : Array Value} {s : State} (hts : ∀ w ∈ lw_all, w.before args s = true) : sw_Kw 17 s := sw_kw hts cl_X18 q1704
theorem sw_kw_X19 {args : Array Value} {s : State} (hts : ∀ w ∈ lw_all, w.before args s = true) : sw_Kw 18 s := sw_kw hts cl_X19 q2122
theorem sw_kw_X20 {args : Array Value} {s : State} (hts : ∀ w ∈ lw_all, w.before args s = true) : sw_Kw 19 s := sw_kw hts cl_X20 q2130
theorem sw_kw_X21 {args : Array Value} {s : State} (hts : ∀ w ∈ lw_all, w.before args s = true) : sw_Kw 20 s := sw_kw hts cl_X21 q2158
theorem sw_kw_X22 {args : Array Value} {s : State} (hts : ∀ w ∈ lw_all, w.before args s = true) : sw_Kw 21 s := sw_kw hts cl_X22 q2391
theorem sw_kw_X23 {args : Array Value} {s : State} (hts : ∀ w ∈ lw_all, w.before args s = true) : sw_Kw 22 s := sw_kw hts cl_X23 q2548
theorem sw_kw_X24 {args : Array Value} {s : State} (hts : ∀ w ∈ lw_all, w.before args s = true) : sw_Kw 23 s := sw_kw hts cl_X24 q2596
theorem sw_kw_J2 {args : Array Value} {s : State} (hts : ∀ w ∈ lw_all, w.before args s = true) : sw_Kw 24 s := sw_kw hts cl_J2 q186
theorem sw_kw_J23 {args : Array Value} {s : State} (hts : ∀ w ∈ lw_all, w.before args s = true) : sw_Kw 25 s := sw_kw hts cl_J23 q2032
theorem sw_kwAll {args : Array Value} {s : State} (hts : ∀ w ∈ lw_all, w.before args s = true) : ∀ c, sw_Kw c s := fun c => match c with
  | 0 => sw_kw_X1 hts
  | 1 => sw_kw_X2 hts
  | 2 => sw_kw_X3 hts
  | 3 => sw_kw_X4 hts
  | 4 => sw_kw_X5 hts
  | 5 => sw_kw_X6 hts
  | 6 => sw_kw_X7 hts
  | 7 => sw_kw_X8 hts
  | 8 => sw_kw_X9 hts
  | 9 => sw_kw_X10 hts
  | 10 => sw_kw_X11 hts
  | 11 => sw_kw_X12 hts
  | 12 => sw_kw_X13 hts
  | 13 => sw_kw_X14 hts
  | 14 => sw_kw_X15 hts
  | 15 => sw_kw_X16 hts
  | 16 => sw_kw_X17 hts
  | 17 => sw_kw_X18 hts
  | 18 => sw_kw_X19 hts
  | 19 => sw_kw_X20 hts
  | 20 => sw_kw_X21 hts
  | 21 => sw_kw_X22 hts
  | 22 => sw_kw_X23 hts
  | 23 => sw_kw_X24 hts
  | 24 => sw_kw_J2 hts
  | 25 => sw_kw_J23 hts
  | k + 26 => fun q hq => by rw [List.getElem?_eq_none (by show 26 ≤ k + 26; omega)] at hq; cases hq
theorem sw_kn_cl {args : Array Value} {s : State} (hts : ∀ w ∈ lw_all, w.before args s = true) : ∃ (dC : Nat → ClassId) (dI : Nat → Nat → Nat), ∀ (c : Nat) (q : vw_C), sw_kl[c]? = some q → u_Kn s q.1 q.2.1 q.2.2 (dC c) (dI c) := by
  have h0 : ∀ c : Nat, ∃ x : ClassId × (Nat → Nat), ∀ q, sw_kl[c]? = some q → u_Kn s q.1 q.2.1 q.2.2 x.1 x.2 := by
    intro c
    cases hq : sw_kl[c]? with
    | none => exact ⟨(0, fun _ => 0), fun q h => by cases h⟩
    | some q =>
      obtain ⟨x, hx⟩ := sw_kwAll hts c q hq
      exact ⟨x, fun q' h => by cases h; exact hx⟩
  obtain ⟨f, hf⟩ := Classical.axiomOfChoice h0
  exact ⟨fun c => (f c).1, fun c => (f c).2, fun c q hq => hf c q hq⟩
theorem sw_arrP {args : Array Value} {s : State} {ty : FieldType} (h : (Cond.arrayClass ty).before args s = true) (n1 : ∀ C, ty ≠ .object C) (n2 : ∀ t, ty ≠ .array t) : ∃ cA, ArrOfT s cA ty ∧ sw_RA s cA ty := by
  obtain ⟨cA, kA, comp, h1, h2, h3⟩ := Cond.arrayClass_spec h
  exact ⟨cA, fun n z => ⟨fun k h => (by cases h), kA, h2, comp, h3⟩, h1, kA, comp, h2, h3, fun C e => absurd e (n1 C), fun t e => absurd e (n2 t)⟩
theorem sw_arrO {args : Array Value} {s : State} {C : String} (h : (Cond.arrayOver (.object C)).before args s = true) : ∃ cA, ArrOfT s cA (.object C) ∧ sw_RA s cA (.object C) := by
  obtain ⟨comp, cA, kA, h1, -, h2, h3, h4⟩ := Cond.arrayOver_spec h
  exact ⟨cA, fun n z => ⟨fun k h => (by cases h), kA, h2, comp, h3⟩, h4, kA, comp, h2, h3, fun C' e => by cases e; exact h1, fun t e => by cases e⟩
theorem sw_arrA {args : Array Value} {s : State} {t : FieldType} (h : (Cond.arrayOver (.array t)).before args s = true) : ∃ cA, ArrOfT s cA (.array t) ∧ sw_RA s cA (.array t) := by
  obtain ⟨comp, cA, kA, h1, -, h2, h3, h4⟩ := arrayOverA_spec h
  exact ⟨cA, fun n z => ⟨fun k h => (by cases h), kA, h2, comp, h3⟩, h4, kA, comp, h2, h3, (fun _ e => nomatch e), (fun t' e => by cases e; exact h1)⟩
theorem sw_kn {args : Array Value} {s : State} (hts : ∀ w ∈ lw_tbl, w.before args s = true) : ∃ D0 : (Nat → ClassId) × (Nat → Nat → Nat) × (Nat → ClassId), ∀ ev, sw_KN (D0.1, D0.2.1, D0.2.2, ev) s := by
  obtain ⟨dC, dI, hC⟩ := sw_kn_cl (fun w hw => hts w (lw_all_tbl hw))
  obtain ⟨cI, hI⟩ := sw_arrP (ty := .int) (hts _ (by decide +kernel)) (fun _ e => by cases e) (fun _ e => by cases e)
  obtain ⟨cZ, hZ⟩ := sw_arrP (ty := .boolean) (hts _ (by decide +kernel)) (fun _ e => by cases e) (fun _ e => by cases e)
  obtain ⟨cJ, hJ⟩ := sw_arrP (ty := .long) (hts _ (by decide +kernel)) (fun _ e => by cases e) (fun _ e => by cases e)
  obtain ⟨cO, hO⟩ := sw_arrO (C := "java/lang/Object") (hts _ (by decide +kernel))
  obtain ⟨cL, hL⟩ := sw_arrO (C := "SpillslotWorksModel$Life") (hts _ (by decide +kernel))
  obtain ⟨cA, hA⟩ := sw_arrA (t := .boolean) (hts _ (by decide +kernel))
  refine ⟨(dC, dI, fun t => if t = 64 then cI else if t = 65 then cZ else if t = 66 then cJ else if t = 67 then cO else if t = 68 then cL else cA), fun ev => ⟨hC, fun t h1 h2 => ?_⟩⟩
  have : t = 64 ∨ t = 65 ∨ t = 66 ∨ t = 67 ∨ t = 68 ∨ t = 69 := by omega
  rcases this with rfl | rfl | rfl | rfl | rfl | rfl
  · exact hI
  · exact hZ
  · exact hJ
  · exact hO
  · exact hL
  · exact hA
theorem sw_nww {args : Array Value} {s : State} (hts : ∀ w ∈ lw_tbl, w.before args s = true) : (∀ w ∈ sw_wF, va_Nw w s) ∧ (∀ w ∈ sw_wM, va_Nw w s) ∧ (∀ w ∈ sw_wC, va_Nw w s) := by
  refine ⟨fun w hw => ?_, fun w hw => ?_, fun w hw => ?_⟩
  · obtain ⟨h1, h2⟩ := List.mem_filter.mp hw
    split at h2
    · exact va_Nw.of rfl (hts _ h1)
    · cases h2
  · obtain ⟨h1, h2⟩ := List.mem_filter.mp hw
    split at h2
    · exact va_Nw.of rfl (hts _ h1)
    · cases h2
  · obtain ⟨h1, h2⟩ := List.mem_filter.mp hw
    split at h2
    · exact va_Nw.of rfl (hts _ h1)
    · exact va_Nw.of rfl (hts _ h1)
    · cases h2
theorem sw_fw {args : Array Value} {s : State} (hts : ∀ w ∈ lw_tbl, w.before args s = true) : ∀ q ∈ sw_wI, va_Fw q.1 q.2.1 q.2.2 s := by
  intro q hq
  have h : ∀ q ∈ sw_wI, Cond.declares q.2.1 ∈ lw_tbl ∧ Cond.interfaceMethod q.2.1.cls q.2.1.cls q.2.1.name q.2.1.desc ∈ lw_tbl ∧ Cond.publicMethod q.2.2 ∈ lw_tbl ∧ Cond.unhidden q.1 q.2.1.name q.2.1.desc ∈ lw_tbl ∧ Cond.castable q.1 q.2.1.cls ∈ lw_tbl := by decide +kernel
  obtain ⟨h1, h2, h3, h4, h5⟩ := h q hq
  exact va_Fw.of (hts _ h1) (hts _ h2) (hts _ h3) (hts _ h4) (hts _ h5)
