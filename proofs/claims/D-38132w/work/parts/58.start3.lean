/-! ===== the start: the default array, the cache ===== -/
abbrev sw_tD : Term := .static "java/util/ArrayList" "DEFAULTCAPACITY_EMPTY_ELEMENTDATA" "[Ljava/lang/Object;"
abbrev sw_tC : Term := .static "java/lang/Integer$IntegerCache" "cache" "[Ljava/lang/Integer;"
theorem sw_dflt {args : Array Value} {s : State} {A : Nat → Prop} (hts : ∀ w ∈ lw_tbl, w.before args s = true) (hn : ∀ w ∈ sw_nw1, w.before args s = true) (hA : ∀ a : Nat, a < s.heap.size → ¬ A a) :
    ∃ t : Nat, va_Z "java/util/ArrayList" "DEFAULTCAPACITY_EMPTY_ELEMENTDATA" "[Ljava/lang/Object;" (.ref t) A s s.heap ∧ va_T (.object "java/lang/Object") t 0 (fun _ => .null) A s s.heap ∧ va_O "[Ljava/lang/Object;" t A s s.heap := by
  have hl := va_eqt (z := 0) (hn (Cond.eq (.length sw_tD) (.int 0)) (by decide +kernel))
  obtain ⟨t, h1, h2⟩ := va_Tof (tm := sw_tD) (ty := .object "java/lang/Object") (N := 0) (f := fun _ => .null) (by decide) (hn _ (by decide +kernel)) hl (fun j hj => absurd hj (Nat.not_lt_zero j)) hA
  exact ⟨t, va_Zref (hts _ (by decide +kernel)) (hts _ (by decide +kernel)) h1 hA, h2, va_Oof (hn (Cond.exactly sw_tD "[Ljava/lang/Object;") (by decide +kernel)) h1 hA⟩
theorem sw_cach {args : Array Value} {s : State} {A : Nat → Prop} (hts : ∀ w ∈ lw_tbl, w.before args s = true) (hn : ∀ w ∈ sw_nw1, w.before args s = true) (hA : ∀ a : Nat, a < s.heap.size → ¬ A a) :
    ∃ (t : Nat) (ad : Nat → Nat), vb_C ad A s s.heap ∧ va_Z "java/lang/Integer$IntegerCache" "cache" "[Ljava/lang/Integer;" (.ref t) A s s.heap ∧ va_T (.object "java/lang/Integer") t 256 (fun j => .ref (ad j)) A s s.heap ∧ va_Z "java/lang/Integer$IntegerCache" "high" "I" (.int 127) A s s.heap := by
  have hl := va_eqt (z := 256) (hn (Cond.eq (.length sw_tC) (.int 256)) (by decide +kernel))
  obtain ⟨ad, h1, h2⟩ := vb_Cof (st := sw_tC) rfl hl (hn _ (by decide +kernel)) hA
  obtain ⟨t, h3, h4⟩ := va_Tof (tm := sw_tC) (ty := .object "java/lang/Integer") (N := 256) (f := fun j => .ref (ad j)) (by decide) (hn _ (by decide +kernel)) hl h2 hA
  have hh := va_eqt (z := 127) (hn (Cond.eq (.static "java/lang/Integer$IntegerCache" "high" "I") (.int 127)) (by decide +kernel))
  exact ⟨t, ad, h1, va_Zref (hts _ (by decide +kernel)) (hts _ (by decide +kernel)) h3 hA, h4, va_Zof (hts _ (by decide +kernel)) (hts _ (by decide +kernel)) hh hA⟩
