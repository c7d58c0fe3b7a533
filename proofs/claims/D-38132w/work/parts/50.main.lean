/-! ===== the bridge, joined: what the small machine comes to, every method comes to ===== -/
theorem sw_wd_len : ∀ (as : List Value) (n : Nat), sw_wd n as = true → (lg_sl as).length ≤ n := by
  intro as
  induction as with
  | nil => intro n _; exact Nat.zero_le _
  | cons v vs ih =>
    intro n h
    by_cases hc : v.category = 2
    · simp only [sw_wd, hc, if_true, Bool.and_eq_true, decide_eq_true_eq] at h
      have := ih _ h.2
      simp only [lg_sl, List.flatMap_cons, hc, if_true, List.length_append, List.length_cons, List.length_nil] at this ⊢
      omega
    · simp only [sw_wd, hc, if_false, Bool.and_eq_true, decide_eq_true_eq] at h
      have := ih _ h.2
      simp only [lg_sl, List.flatMap_cons, hc, if_false, List.length_append, List.length_cons, List.length_nil] at this ⊢
      omega
theorem sw_gl_repl : ∀ (n k : Nat) (v : Value), sw_gl (List.replicate n none) k = some v → False := by
  intro n
  induction n with
  | zero => intro k v h; cases h
  | succ n ih =>
    intro k v h
    cases k with
    | zero => cases h
    | succ k => exact ih k v h
theorem sw_en_args : ∀ (as : List Value) (n i k : Nat) (v : Value), sw_gl (sw_enl as n) k = some v → (i + k, v) ∈ lv_args i as := by
  intro as
  induction as with
  | nil => intro n i k v h; exact (sw_gl_repl n k v h).elim
  | cons w vs ih =>
    intro n i k v h
    by_cases hc : w.category = 2
    · simp only [sw_enl, hc, if_true] at h
      simp only [lv_args, hc, if_true]
      match k, h with
      | 0, h => cases h; exact List.mem_cons_self
      | 1, h => cases h
      | k + 2, h =>
        have := ih _ (i + 2) k v h
        rw [show i + 2 + k = i + (k + 2) by omega] at this
        exact List.mem_cons_of_mem _ this
    · simp only [sw_enl, hc, if_false] at h
      simp only [lv_args, hc, if_false]
      match k, h with
      | 0, h => cases h; exact List.mem_cons_self
      | k + 1, h =>
        have := ih _ (i + 1) k v h
        rw [show i + 1 + k = i + (k + 1) by omega] at this
        exact List.mem_cons_of_mem _ this
theorem sw_lv_en {as : List Value} {n : Nat} (h : sw_wd n as = true) : sw_lv ((lg_sl as ++ List.replicate (n - (lg_sl as).length) Slot.unset).toArray) n (sw_en n as) := by
  have hl := lv_entry as (sw_wd_len as n h)
  refine ⟨hl.1, hl.2.1, fun k v hk => ?_⟩
  have := sw_en_args as n 0 k v hk
  rw [Nat.zero_add] at this
  exact hl.2.2 _ this
theorem sw_ofW {l : Launch} {y : MethodName} {ws ws' : List Cond} {rm : Room} {Pc : Array Value → State → Prop} {Qc : Array Value → State → Outcome → State → Prop} {XC : String → State → State → Prop} {mc ms : Nat} {free : Addr → Prop} {cc : ByteArray} {maxL : Nat} {ret : Option FieldType}
    (hy : plainFor y = true) (hw : ws = Cond.code y cc maxL ret :: ws')
    (body : ∀ p e s m args below meth c s₁, BodyLoose p l y (headSpec ws rm) cc maxL ret e s m args below meth c s₁ → c.maxLocals = maxL → (∀ x ∈ c.exceptionTable.toList, False) → Pc args s →
      W p l e (headSpec ws rm).room s m args below meth c s.heap [] 0 0 (vx_MQ below Qc XC args s mc ms free) (entryFrame m args maxL)) : vx_Met l y ws rm Pc Qc XC mc ms free := by
  refine MetFree.of_bodySF (code := cc) (maxLocals := maxL) (ret := ret) hy ?_ ?_
  · intro args s m h hn
    obtain ⟨meth, c, h1, h2, h3, h4, h5, h6, -, -⟩ := Cond.code_spec hn (atoms_spec (ws := ws) h _ (by rw [hw]; exact List.mem_cons_self))
    exact ⟨meth, c, h1, h2, h3, h4, h5, h6⟩
  · intro p e s m args below meth c s₁ B hml hP _
    have hh0 : s₁.heap = s.heap := by rw [B.state]; rfl
    have ht : ∀ x ∈ c.exceptionTable.toList, False := by
      obtain ⟨meth9, c9, h1, h2, -, -, -, -, h7, -⟩ := Cond.code_spec B.named (atoms_spec (ws := ws) B.pre _ (by rw [hw]; exact List.mem_cons_self))
      cases Option.some.inj (h1.symm.trans B.method)
      cases Option.some.inj (h2.symm.trans (Stand.of_body B).code)
      intro x hx
      rw [Array.isEmpty_iff.mp h7] at hx
      cases hx
    obtain ⟨t, a1, o, b1, b2, b3⟩ := body p e s m args below meth c s₁ B hml ht hP s₁ hh0 (Stand.of_body B)
    exact ⟨t, o, a1, b1, b2, b3⟩
/-- the code of a method of the small machine stands for the method's -/
def sw_Ok (l : Launch) (nm : sw_NM) (B : sw_B) (bp : Nat → Nat) : Prop :=
  plainFor nm.1 = true ∧ bp 0 = 0 ∧ Cond.code nm.1 nm.2.1 nm.2.2.1 nm.2.2.2 ∈ lw_all ∧
  ∀ (p : Program) (e : Env) (R : Room) (s : State) (m : MethodId) (args : Array Value) (below : List Frame) (meth : Method) (c : Code) (Q : State → Prop) (D : sw_D) (A : Nat → Prop) (N0 K0 NE KE d : Nat) (cf : sw_F) (rf : sw_R),
    sw_X p l e R s m args below meth c D A nm.1.cls nm.2.1 nm.2.2.1 nm.2.2.2 N0 K0 NE KE d → sw_Ct l sw_TN cf d → sw_QM s args below c Q D A N0 K0 NE KE rf → meth.name = nm.1.name →
    ∀ n, sw_Gd (sw_J p l e R s m args below meth c Q D A nm.2.2.1 N0 K0) cf bp NE KE rf (B n) (bp n)
theorem sw_body {l : Launch} {nm : sw_NM} {B : sw_B} {bp : Nat → Nat} (hk : sw_Ok l nm B bp) {p : Program} {e : Env} {R : Room} {s : State} {m : MethodId} {args : Array Value} {below : List Frame} {meth : Method} {c : Code} {D : sw_D} {A : Nat → Prop} {d : Nat} {cf : sw_F} {rf : sw_R} {as : List Value} {P : sw_P}
    (hX : sw_X p l e R s m args below meth c D A nm.1.cls nm.2.1 nm.2.2.1 nm.2.2.2 (sw_nx P) (sw_sl P) (sw_nx rf.2) (sw_sl rf.2) d) (hC : sw_Ct l sw_TN cf d) (ht : ∀ x ∈ c.exceptionTable.toList, False) (hm : meth.name = nm.1.name) (hrun : sw_at cf B 0 (sw_en nm.2.2.1 as) [] P = some rf) :
    sw_mo P rf.2 ∧ sw_J p l e R s m args below meth c (vx_MQ below (sw_Qc D A rf) (sw_XC D A rf) args s (sw_nx rf.2 - sw_nx P) (sw_sl rf.2 - sw_sl P) A) D A nm.2.2.1 (sw_nx P) (sw_sl P) 0 (sw_en nm.2.2.1 as) [] P := by
  obtain ⟨-, h0, -, hG⟩ := hk
  have hg := hG p e R s m args below meth c _ D A _ _ _ _ d cf rf hX hC ⟨⟨rfl, rfl, rfl⟩, ht⟩ hm
  obtain ⟨n, hn⟩ := sw_exC_iff.mp (show sw_exC cf B (B 0, sw_en nm.2.2.1 as, [], P) = some rf from hrun)
  have h := sw_sound hg rfl rfl n (B 0) (bp 0) _ _ _ (hg 0) hn
  rw [h0] at h
  exact h
/-- a state in which all words hold -/
def sw_Wit (l : Launch) : Prop := ∃ (p : Program) (e : Env) (s : State) (args : Array Value) (D : sw_D) (A : Nat → Prop), p.tables.exec = Jvm.exec ∧ (∀ w ∈ lw_all, w.before args s = true) ∧ sw_ST l D A s s.heap ∧ ∀ q : Nat, s.heap.size ≤ q → A q
theorem sw_noTable {c : Code} (h : c.exceptionTable.isEmpty = true) : ∀ x ∈ c.exceptionTable.toList, False := by
  intro x hx
  rw [Array.isEmpty_iff.mp h] at hx
  cases hx
theorem sw_main {l : Launch} (hW : sw_Wit l) (hall : ∀ y nm, sw_TN y = some nm → ∃ B bp, sw_T y = (nm.2.2.1, B) ∧ sw_Ok l nm B bp) : ∀ d, sw_Ct l sw_TN (sw_Z d) d := by
  intro d
  induction d with
  | zero => intro y as P r nm _ h; cases h
  | succ d ih =>
    intro y as P r nm hy h
    obtain ⟨B, bp, hT, hk⟩ := hall y nm hy
    have h' : (if sw_wd (sw_T y).1 as = true then sw_at (sw_Z d) (sw_T y).2 0 (sw_en (sw_T y).1 as) [] P else none) = some r := h
    rw [hT] at h'
    by_cases hwd : sw_wd nm.2.2.1 as = true
    · rw [if_pos hwd] at h'
      refine ⟨?_, fun D A => ?_⟩
      · obtain ⟨p, e, s, args, D, A, hexec, hts, hST, hA⟩ := hW
        obtain ⟨mk, hn⟩ := Cond.code_named (hts _ hk.2.2.1)
        obtain ⟨meth, c, h1, h2, h3, h4, h5, h6, h7, -⟩ := Cond.code_spec hn (hts _ hk.2.2.1)
        exact (sw_body (p := p) (e := e) (R := { frames := d + 9, cells := sw_nx r.2 - sw_nx P, slots := sw_sl r.2 - sw_sl P, locals := 48 * d + 448 }) (args := args) (below := []) hk ⟨hexec, h3, h4, findClass_of_methodNamed hn, hts, h5, h6, hST, hA, rfl, rfl, Nat.le_refl _, Nat.le_refl _⟩ ih (sw_noTable h7) (name_of_methodNamed hn h1).1 h').1
      · refine sw_ofW (ret := nm.2.2.2) hk.1 rfl (fun p e s m args below meth c s₁ B9 hml ht hP => ?_)
        obtain ⟨rfl, hHP, hST, hA⟩ := hP
        have hts : ∀ w ∈ lw_all, w.before as.toArray s = true := fun w hw => atoms_spec (ws := ws_ nm.1 nm.2.1 nm.2.2.1 nm.2.2.2) B9.pre w (List.mem_cons_of_mem _ hw)
        have hb := (sw_body (e := e) (below := below) (R := (headSpec (ws_ nm.1 nm.2.1 nm.2.2.1 nm.2.2.2) (sw_rm (d + 1) P r)).room) hk ⟨B9.exec, B9.bytes, hml, findClass_of_methodNamed B9.named, hts, B9.returns, B9.notSynchronized, hST, hA, rfl, rfl, Nat.le_of_eq (by show d + 9 = d + 1 + 8; omega), Nat.le_of_eq (Nat.add_assoc (48 * d) 48 400).symm⟩ ih ht (name_of_methodNamed B9.named B9.method).1 h').2 (Nat.le_refl _) (Nat.le_refl _) _ s.heap [] (sw_lv_en hwd) hHP va_S.rf
        rw [Nat.sub_self, Nat.sub_self] at hb
        rw [lg_entry_eq]
        exact hb
    · rw [if_neg hwd] at h'; cases h'
/-! the table -/
def sw_OkI (l : Launch) (y : Nat) (nm : sw_NM) : Prop := ∃ B bp, sw_T y = (nm.2.2.1, B) ∧ sw_Ok l nm B bp
def sw_Al (l : Launch) : Nat → List sw_NM → Prop
  | _, [] => True
  | i, nm :: r => sw_OkI l i nm ∧ sw_Al l (i + 1) r
theorem sw_Al_get {l : Launch} : ∀ (L : List sw_NM) (i y : Nat) (nm : sw_NM), sw_Al l i L → L[y]? = some nm → sw_OkI l (i + y) nm := by
  intro L
  induction L with
  | nil => intro i y nm _ h; cases h
  | cons n L ih =>
    intro i y nm hA h
    cases y with
    | zero => cases h; exact hA.1
    | succ y =>
      have := ih (i + 1) y nm hA.2 h
      rw [show i + 1 + y = i + (y + 1) by omega] at this
      exact this
theorem ok_J0_init {l : Launch} : sw_Ok l N_J0_init b_J0_init bp_J0_init := ⟨by decide +kernel, rfl, q195, fun _ _ _ _ _ _ _ _ _ _ _ _ _ _ _ _ _ _ _ hX hC hQ hm => gm_J0_init hX hC hQ hm⟩
theorem ok_J1_init {l : Launch} : sw_Ok l N_J1_init b_J1_init bp_J1_init := ⟨by decide +kernel, rfl, q192, fun _ _ _ _ _ _ _ _ _ _ _ _ _ _ _ _ _ _ _ hX hC hQ hm => gm_J1_init hX hC hQ hm⟩
theorem ok_J19_intValue {l : Launch} : sw_Ok l N_J19_intValue b_J19_intValue bp_J19_intValue := ⟨by decide +kernel, rfl, q2333, fun _ _ _ _ _ _ _ _ _ _ _ _ _ _ _ _ _ _ _ hX hC hQ hm => gm_J19_intValue hX hC hQ hm⟩
theorem ok_J19_valueOf {l : Launch} : sw_Ok l N_J19_valueOf b_J19_valueOf bp_J19_valueOf := ⟨by decide +kernel, rfl, q2460, fun _ _ _ _ _ _ _ _ _ _ _ _ _ _ _ _ _ _ _ hX hC hQ hm => gm_J19_valueOf hX hC hQ hm⟩
theorem ok_J19_bitCount {l : Launch} : sw_Ok l N_J19_bitCount b_J19_bitCount bp_J19_bitCount := ⟨by decide +kernel, rfl, q2783, fun _ _ _ _ _ _ _ _ _ _ _ _ _ _ _ _ _ _ _ hX hC hQ hm => gm_J19_bitCount hX hC hQ hm⟩
theorem ok_J2_init {l : Launch} : sw_Ok l N_J2_init b_J2_init bp_J2_init := ⟨by decide +kernel, rfl, q189, fun _ _ _ _ _ _ _ _ _ _ _ _ _ _ _ _ _ _ _ hX hC hQ hm => gm_J2_init hX hC hQ hm⟩
theorem ok_J2_add {l : Launch} : sw_Ok l N_J2_add b_J2_add bp_J2_add := ⟨by decide +kernel, rfl, q223, fun _ _ _ _ _ _ _ _ _ _ _ _ _ _ _ _ _ _ _ hX hC hQ hm => gm_J2_add hX hC hQ hm⟩
theorem ok_J2_add_2 {l : Launch} : sw_Ok l N_J2_add_2 b_J2_add_2 bp_J2_add_2 := ⟨by decide +kernel, rfl, q227, fun _ _ _ _ _ _ _ _ _ _ _ _ _ _ _ _ _ _ _ hX hC hQ hm => gm_J2_add_2 hX hC hQ hm⟩
theorem ok_J2_grow {l : Launch} : sw_Ok l N_J2_grow b_J2_grow bp_J2_grow := ⟨by decide +kernel, rfl, q231, fun _ _ _ _ _ _ _ _ _ _ _ _ _ _ _ _ _ _ _ hX hC hQ hm => gm_J2_grow hX hC hQ hm⟩
theorem ok_J2_grow_2 {l : Launch} : sw_Ok l N_J2_grow_2 b_J2_grow_2 bp_J2_grow_2 := ⟨by decide +kernel, rfl, q235, fun _ _ _ _ _ _ _ _ _ _ _ _ _ _ _ _ _ _ _ hX hC hQ hm => gm_J2_grow_2 hX hC hQ hm⟩
theorem ok_J2_size {l : Launch} : sw_Ok l N_J2_size b_J2_size bp_J2_size := ⟨by decide +kernel, rfl, q383, fun _ _ _ _ _ _ _ _ _ _ _ _ _ _ _ _ _ _ _ hX hC hQ hm => gm_J2_size hX hC hQ hm⟩
theorem ok_J2_get {l : Launch} : sw_Ok l N_J2_get b_J2_get bp_J2_get := ⟨by decide +kernel, rfl, q404, fun _ _ _ _ _ _ _ _ _ _ _ _ _ _ _ _ _ _ _ hX hC hQ hm => gm_J2_get hX hC hQ hm⟩
theorem ok_J2_elementData {l : Launch} : sw_Ok l N_J2_elementData b_J2_elementData bp_J2_elementData := ⟨by decide +kernel, rfl, q414, fun _ _ _ _ _ _ _ _ _ _ _ _ _ _ _ _ _ _ _ hX hC hQ hm => gm_J2_elementData hX hC hQ hm⟩
theorem ok_J2_add_3 {l : Launch} : sw_Ok l N_J2_add_3 b_J2_add_3 bp_J2_add_3 := ⟨by decide +kernel, rfl, q764, fun _ _ _ _ _ _ _ _ _ _ _ _ _ _ _ _ _ _ _ hX hC hQ hm => gm_J2_add_3 hX hC hQ hm⟩
theorem ok_J2_rangeCheckForAdd {l : Launch} : sw_Ok l N_J2_rangeCheckForAdd b_J2_rangeCheckForAdd bp_J2_rangeCheckForAdd := ⟨by decide +kernel, rfl, q768, fun _ _ _ _ _ _ _ _ _ _ _ _ _ _ _ _ _ _ _ hX hC hQ hm => gm_J2_rangeCheckForAdd hX hC hQ hm⟩
theorem ok_J2_isEmpty {l : Launch} : sw_Ok l N_J2_isEmpty b_J2_isEmpty bp_J2_isEmpty := ⟨by decide +kernel, rfl, q1736, fun _ _ _ _ _ _ _ _ _ _ _ _ _ _ _ _ _ _ _ hX hC hQ hm => gm_J2_isEmpty hX hC hQ hm⟩
theorem ok_J2_remove {l : Launch} : sw_Ok l N_J2_remove b_J2_remove bp_J2_remove := ⟨by decide +kernel, rfl, q1745, fun _ _ _ _ _ _ _ _ _ _ _ _ _ _ _ _ _ _ _ hX hC hQ hm => gm_J2_remove hX hC hQ hm⟩
theorem ok_J2_fastRemove {l : Launch} : sw_Ok l N_J2_fastRemove b_J2_fastRemove bp_J2_fastRemove := ⟨by decide +kernel, rfl, q1749, fun _ _ _ _ _ _ _ _ _ _ _ _ _ _ _ _ _ _ _ hX hC hQ hm => gm_J2_fastRemove hX hC hQ hm⟩
theorem ok_J2_iterator {l : Launch} : sw_Ok l N_J2_iterator b_J2_iterator bp_J2_iterator := ⟨by decide +kernel, rfl, q2030, fun _ _ _ _ _ _ _ _ _ _ _ _ _ _ _ _ _ _ _ hX hC hQ hm => gm_J2_iterator hX hC hQ hm⟩
theorem ok_J2_clear {l : Launch} : sw_Ok l N_J2_clear b_J2_clear bp_J2_clear := ⟨by decide +kernel, rfl, q2140, fun _ _ _ _ _ _ _ _ _ _ _ _ _ _ _ _ _ _ _ hX hC hQ hm => gm_J2_clear hX hC hQ hm⟩
theorem ok_J2_addAll {l : Launch} : sw_Ok l N_J2_addAll b_J2_addAll bp_J2_addAll := ⟨by decide +kernel, rfl, q2268, fun _ _ _ _ _ _ _ _ _ _ _ _ _ _ _ _ _ _ _ hX hC hQ hm => gm_J2_addAll hX hC hQ hm⟩
theorem ok_J2_toArray {l : Launch} : sw_Ok l N_J2_toArray b_J2_toArray bp_J2_toArray := ⟨by decide +kernel, rfl, q2278, fun _ _ _ _ _ _ _ _ _ _ _ _ _ _ _ _ _ _ _ hX hC hQ hm => gm_J2_toArray hX hC hQ hm⟩
theorem ok_J2_contains {l : Launch} : sw_Ok l N_J2_contains b_J2_contains bp_J2_contains := ⟨by decide +kernel, rfl, q2282, fun _ _ _ _ _ _ _ _ _ _ _ _ _ _ _ _ _ _ _ hX hC hQ hm => gm_J2_contains hX hC hQ hm⟩
theorem ok_J2_indexOf {l : Launch} : sw_Ok l N_J2_indexOf b_J2_indexOf bp_J2_indexOf := ⟨by decide +kernel, rfl, q2286, fun _ _ _ _ _ _ _ _ _ _ _ _ _ _ _ _ _ _ _ hX hC hQ hm => gm_J2_indexOf hX hC hQ hm⟩
theorem ok_J2_indexOfRange {l : Launch} : sw_Ok l N_J2_indexOfRange b_J2_indexOfRange bp_J2_indexOfRange := ⟨by decide +kernel, rfl, q2290, fun _ _ _ _ _ _ _ _ _ _ _ _ _ _ _ _ _ _ _ hX hC hQ hm => gm_J2_indexOfRange hX hC hQ hm⟩
theorem ok_J23_init {l : Launch} : sw_Ok l N_J23_init b_J23_init bp_J23_init := ⟨by decide +kernel, rfl, q2035, fun _ _ _ _ _ _ _ _ _ _ _ _ _ _ _ _ _ _ _ hX hC hQ hm => gm_J23_init hX hC hQ hm⟩
theorem ok_J23_hasNext {l : Launch} : sw_Ok l N_J23_hasNext b_J23_hasNext bp_J23_hasNext := ⟨by decide +kernel, rfl, q2059, fun _ _ _ _ _ _ _ _ _ _ _ _ _ _ _ _ _ _ _ hX hC hQ hm => gm_J23_hasNext hX hC hQ hm⟩
theorem ok_J23_next {l : Launch} : sw_Ok l N_J23_next b_J23_next bp_J23_next := ⟨by decide +kernel, rfl, q2068, fun _ _ _ _ _ _ _ _ _ _ _ _ _ _ _ _ _ _ _ hX hC hQ hm => gm_J23_next hX hC hQ hm⟩
theorem ok_J23_checkForComodification {l : Launch} : sw_Ok l N_J23_checkForComodification b_J23_checkForComodification bp_J23_checkForComodification := ⟨by decide +kernel, rfl, q2072, fun _ _ _ _ _ _ _ _ _ _ _ _ _ _ _ _ _ _ _ hX hC hQ hm => gm_J23_checkForComodification hX hC hQ hm⟩
theorem ok_J24_equals {l : Launch} : sw_Ok l N_J24_equals b_J24_equals bp_J24_equals := ⟨by decide +kernel, rfl, q2342, fun _ _ _ _ _ _ _ _ _ _ _ _ _ _ _ _ _ _ _ hX hC hQ hm => gm_J24_equals hX hC hQ hm⟩
theorem ok_J3_newLength {l : Launch} : sw_Ok l N_J3_newLength b_J3_newLength bp_J3_newLength := ⟨by decide +kernel, rfl, q238, fun _ _ _ _ _ _ _ _ _ _ _ _ _ _ _ _ _ _ _ hX hC hQ hm => gm_J3_newLength hX hC hQ hm⟩
theorem ok_J5_copyOf {l : Launch} : sw_Ok l N_J5_copyOf b_J5_copyOf bp_J5_copyOf := ⟨by decide +kernel, rfl, q248, fun _ _ _ _ _ _ _ _ _ _ _ _ _ _ _ _ _ _ _ hX hC hQ hm => gm_J5_copyOf hX hC hQ hm⟩
theorem ok_J5_copyOf_2 {l : Launch} : sw_Ok l N_J5_copyOf_2 b_J5_copyOf_2 bp_J5_copyOf_2 := ⟨by decide +kernel, rfl, q289, fun _ _ _ _ _ _ _ _ _ _ _ _ _ _ _ _ _ _ _ hX hC hQ hm => gm_J5_copyOf_2 hX hC hQ hm⟩
theorem ok_J6_checkIndex {l : Launch} : sw_Ok l N_J6_checkIndex b_J6_checkIndex bp_J6_checkIndex := ⟨by decide +kernel, rfl, q407, fun _ _ _ _ _ _ _ _ _ _ _ _ _ _ _ _ _ _ _ hX hC hQ hm => gm_J6_checkIndex hX hC hQ hm⟩
theorem ok_J7_checkIndex {l : Launch} : sw_Ok l N_J7_checkIndex b_J7_checkIndex bp_J7_checkIndex := ⟨by decide +kernel, rfl, q410, fun _ _ _ _ _ _ _ _ _ _ _ _ _ _ _ _ _ _ _ hX hC hQ hm => gm_J7_checkIndex hX hC hQ hm⟩
theorem ok_J8_ordinal {l : Launch} : sw_Ok l N_J8_ordinal b_J8_ordinal bp_J8_ordinal := ⟨by decide +kernel, rfl, q425, fun _ _ _ _ _ _ _ _ _ _ _ _ _ _ _ _ _ _ _ hX hC hQ hm => gm_J8_ordinal hX hC hQ hm⟩
theorem ok_X1_init {l : Launch} : sw_Ok l N_X1_init b_X1_init bp_X1_init := ⟨by decide +kernel, rfl, q175, fun _ _ _ _ _ _ _ _ _ _ _ _ _ _ _ _ _ _ _ hX hC hQ hm => gm_X1_init hX hC hQ hm⟩
theorem ok_X1_firstLatencies {l : Launch} : sw_Ok l N_X1_firstLatencies b_X1_firstLatencies bp_X1_firstLatencies := ⟨by decide +kernel, rfl, q329, fun _ _ _ _ _ _ _ _ _ _ _ _ _ _ _ _ _ _ _ hX hC hQ hm => gm_X1_firstLatencies hX hC hQ hm⟩
theorem ok_X1_has {l : Launch} : sw_Ok l N_X1_has b_X1_has bp_X1_has := ⟨by decide +kernel, rfl, q584, fun _ _ _ _ _ _ _ _ _ _ _ _ _ _ _ _ _ _ _ hX hC hQ hm => gm_X1_has hX hC hQ hm⟩
theorem ok_X1_callOf {l : Launch} : sw_Ok l N_X1_callOf b_X1_callOf bp_X1_callOf := ⟨by decide +kernel, rfl, q1365, fun _ _ _ _ _ _ _ _ _ _ _ _ _ _ _ _ _ _ _ hX hC hQ hm => gm_X1_callOf hX hC hQ hm⟩
theorem ok_X1_meanStall {l : Launch} : sw_Ok l N_X1_meanStall b_X1_meanStall bp_X1_meanStall := ⟨by decide +kernel, rfl, q1410, fun _ _ _ _ _ _ _ _ _ _ _ _ _ _ _ _ _ _ _ hX hC hQ hm => gm_X1_meanStall hX hC hQ hm⟩
theorem ok_X1_enough {l : Launch} : sw_Ok l N_X1_enough b_X1_enough bp_X1_enough := ⟨by decide +kernel, rfl, q1414, fun _ _ _ _ _ _ _ _ _ _ _ _ _ _ _ _ _ _ _ hX hC hQ hm => gm_X1_enough hX hC hQ hm⟩
theorem ok_X1_enoughNow {l : Launch} : sw_Ok l N_X1_enoughNow b_X1_enoughNow bp_X1_enoughNow := ⟨by decide +kernel, rfl, q1418, fun _ _ _ _ _ _ _ _ _ _ _ _ _ _ _ _ _ _ _ hX hC hQ hm => gm_X1_enoughNow hX hC hQ hm⟩
theorem ok_X1_buildWith {l : Launch} : sw_Ok l N_X1_buildWith b_X1_buildWith bp_X1_buildWith := ⟨by decide +kernel, rfl, q1428, fun _ _ _ _ _ _ _ _ _ _ _ _ _ _ _ _ _ _ _ hX hC hQ hm => gm_X1_buildWith hX hC hQ hm⟩
theorem ok_X1_count {l : Launch} : sw_Ok l N_X1_count b_X1_count bp_X1_count := ⟨by decide +kernel, rfl, q1446, fun _ _ _ _ _ _ _ _ _ _ _ _ _ _ _ _ _ _ _ hX hC hQ hm => gm_X1_count hX hC hQ hm⟩
theorem ok_X1_unordered {l : Launch} : sw_Ok l N_X1_unordered b_X1_unordered bp_X1_unordered := ⟨by decide +kernel, rfl, q1461, fun _ _ _ _ _ _ _ _ _ _ _ _ _ _ _ _ _ _ _ hX hC hQ hm => gm_X1_unordered hX hC hQ hm⟩
theorem ok_X1_unorderedNow {l : Launch} : sw_Ok l N_X1_unorderedNow b_X1_unorderedNow bp_X1_unorderedNow := ⟨by decide +kernel, rfl, q1465, fun _ _ _ _ _ _ _ _ _ _ _ _ _ _ _ _ _ _ _ hX hC hQ hm => gm_X1_unorderedNow hX hC hQ hm⟩
theorem ok_X1_digest {l : Launch} : sw_Ok l N_X1_digest b_X1_digest bp_X1_digest := ⟨by decide +kernel, rfl, q1469, fun _ _ _ _ _ _ _ _ _ _ _ _ _ _ _ _ _ _ _ hX hC hQ hm => gm_X1_digest hX hC hQ hm⟩
theorem ok_X1_manyNow {l : Launch} : sw_Ok l N_X1_manyNow b_X1_manyNow bp_X1_manyNow := ⟨by decide +kernel, rfl, q1474, fun _ _ _ _ _ _ _ _ _ _ _ _ _ _ _ _ _ _ _ hX hC hQ hm => gm_X1_manyNow hX hC hQ hm⟩
theorem ok_X1_freeNodes {l : Launch} : sw_Ok l N_X1_freeNodes b_X1_freeNodes bp_X1_freeNodes := ⟨by decide +kernel, rfl, q1480, fun _ _ _ _ _ _ _ _ _ _ _ _ _ _ _ _ _ _ _ hX hC hQ hm => gm_X1_freeNodes hX hC hQ hm⟩
theorem ok_X1_mix {l : Launch} : sw_Ok l N_X1_mix b_X1_mix bp_X1_mix := ⟨by decide +kernel, rfl, q1491, fun _ _ _ _ _ _ _ _ _ _ _ _ _ _ _ _ _ _ _ hX hC hQ hm => gm_X1_mix hX hC hQ hm⟩
theorem ok_X1_mixChosen {l : Launch} : sw_Ok l N_X1_mixChosen b_X1_mixChosen bp_X1_mixChosen := ⟨by decide +kernel, rfl, q1518, fun _ _ _ _ _ _ _ _ _ _ _ _ _ _ _ _ _ _ _ hX hC hQ hm => gm_X1_mixChosen hX hC hQ hm⟩
theorem ok_X1_chosenNow {l : Launch} : sw_Ok l N_X1_chosenNow b_X1_chosenNow bp_X1_chosenNow := ⟨by decide +kernel, rfl, q1522, fun _ _ _ _ _ _ _ _ _ _ _ _ _ _ _ _ _ _ _ hX hC hQ hm => gm_X1_chosenNow hX hC hQ hm⟩
theorem ok_X1_readAt {l : Launch} : sw_Ok l N_X1_readAt b_X1_readAt bp_X1_readAt := ⟨by decide +kernel, rfl, q1528, fun _ _ _ _ _ _ _ _ _ _ _ _ _ _ _ _ _ _ _ hX hC hQ hm => gm_X1_readAt hX hC hQ hm⟩
theorem ok_X1_mixValues {l : Launch} : sw_Ok l N_X1_mixValues b_X1_mixValues bp_X1_mixValues := ⟨by decide +kernel, rfl, q1532, fun _ _ _ _ _ _ _ _ _ _ _ _ _ _ _ _ _ _ _ hX hC hQ hm => gm_X1_mixValues hX hC hQ hm⟩
theorem ok_X1_lifeNow {l : Launch} : sw_Ok l N_X1_lifeNow b_X1_lifeNow bp_X1_lifeNow := ⟨by decide +kernel, rfl, q1537, fun _ _ _ _ _ _ _ _ _ _ _ _ _ _ _ _ _ _ _ hX hC hQ hm => gm_X1_lifeNow hX hC hQ hm⟩
theorem ok_X1_mixCode {l : Launch} : sw_Ok l N_X1_mixCode b_X1_mixCode bp_X1_mixCode := ⟨by decide +kernel, rfl, q1543, fun _ _ _ _ _ _ _ _ _ _ _ _ _ _ _ _ _ _ _ hX hC hQ hm => gm_X1_mixCode hX hC hQ hm⟩
theorem ok_X1_mapNow {l : Launch} : sw_Ok l N_X1_mapNow b_X1_mapNow bp_X1_mapNow := ⟨by decide +kernel, rfl, q1548, fun _ _ _ _ _ _ _ _ _ _ _ _ _ _ _ _ _ _ _ hX hC hQ hm => gm_X1_mapNow hX hC hQ hm⟩
theorem ok_X1_codeNow {l : Launch} : sw_Ok l N_X1_codeNow b_X1_codeNow bp_X1_codeNow := ⟨by decide +kernel, rfl, q1554, fun _ _ _ _ _ _ _ _ _ _ _ _ _ _ _ _ _ _ _ hX hC hQ hm => gm_X1_codeNow hX hC hQ hm⟩
theorem ok_X1_machine {l : Launch} : sw_Ok l N_X1_machine b_X1_machine bp_X1_machine := ⟨by decide +kernel, rfl, q1564, fun _ _ _ _ _ _ _ _ _ _ _ _ _ _ _ _ _ _ _ hX hC hQ hm => gm_X1_machine hX hC hQ hm⟩
theorem ok_X1_mustBeMachine {l : Launch} : sw_Ok l N_X1_mustBeMachine b_X1_mustBeMachine bp_X1_mustBeMachine := ⟨by decide +kernel, rfl, q1567, fun _ _ _ _ _ _ _ _ _ _ _ _ _ _ _ _ _ _ _ hX hC hQ hm => gm_X1_mustBeMachine hX hC hQ hm⟩
theorem ok_X1_mustBeIn {l : Launch} : sw_Ok l N_X1_mustBeIn b_X1_mustBeIn bp_X1_mustBeIn := ⟨by decide +kernel, rfl, q1570, fun _ _ _ _ _ _ _ _ _ _ _ _ _ _ _ _ _ _ _ hX hC hQ hm => gm_X1_mustBeIn hX hC hQ hm⟩
theorem ok_X1_must {l : Launch} : sw_Ok l N_X1_must b_X1_must bp_X1_must := ⟨by decide +kernel, rfl, q1573, fun _ _ _ _ _ _ _ _ _ _ _ _ _ _ _ _ _ _ _ hX hC hQ hm => gm_X1_must hX hC hQ hm⟩
theorem ok_X1_renew {l : Launch} : sw_Ok l N_X1_renew b_X1_renew bp_X1_renew := ⟨by decide +kernel, rfl, q1588, fun _ _ _ _ _ _ _ _ _ _ _ _ _ _ _ _ _ _ _ hX hC hQ hm => gm_X1_renew hX hC hQ hm⟩
theorem ok_X1_latency {l : Launch} : sw_Ok l N_X1_latency b_X1_latency bp_X1_latency := ⟨by decide +kernel, rfl, q1611, fun _ _ _ _ _ _ _ _ _ _ _ _ _ _ _ _ _ _ _ hX hC hQ hm => gm_X1_latency hX hC hQ hm⟩
theorem ok_X1_checkPlace {l : Launch} : sw_Ok l N_X1_checkPlace b_X1_checkPlace bp_X1_checkPlace := ⟨by decide +kernel, rfl, q1614, fun _ _ _ _ _ _ _ _ _ _ _ _ _ _ _ _ _ _ _ hX hC hQ hm => gm_X1_checkPlace hX hC hQ hm⟩
theorem ok_X1_node {l : Launch} : sw_Ok l N_X1_node b_X1_node bp_X1_node := ⟨by decide +kernel, rfl, q1632, fun _ _ _ _ _ _ _ _ _ _ _ _ _ _ _ _ _ _ _ hX hC hQ hm => gm_X1_node hX hC hQ hm⟩
theorem ok_X1_kindOf {l : Launch} : sw_Ok l N_X1_kindOf b_X1_kindOf bp_X1_kindOf := ⟨by decide +kernel, rfl, q1637, fun _ _ _ _ _ _ _ _ _ _ _ _ _ _ _ _ _ _ _ hX hC hQ hm => gm_X1_kindOf hX hC hQ hm⟩
theorem ok_X1_isFreeNode {l : Launch} : sw_Ok l N_X1_isFreeNode b_X1_isFreeNode bp_X1_isFreeNode := ⟨by decide +kernel, rfl, q1671, fun _ _ _ _ _ _ _ _ _ _ _ _ _ _ _ _ _ _ _ hX hC hQ hm => gm_X1_isFreeNode hX hC hQ hm⟩
theorem ok_X1_checkState {l : Launch} : sw_Ok l N_X1_checkState b_X1_checkState bp_X1_checkState := ⟨by decide +kernel, rfl, q1674, fun _ _ _ _ _ _ _ _ _ _ _ _ _ _ _ _ _ _ _ hX hC hQ hm => gm_X1_checkState hX hC hQ hm⟩
theorem ok_X1_statement {l : Launch} : sw_Ok l N_X1_statement b_X1_statement bp_X1_statement := ⟨by decide +kernel, rfl, q1698, fun _ _ _ _ _ _ _ _ _ _ _ _ _ _ _ _ _ _ _ hX hC hQ hm => gm_X1_statement hX hC hQ hm⟩
theorem ok_X1_checkBlock {l : Launch} : sw_Ok l N_X1_checkBlock b_X1_checkBlock bp_X1_checkBlock := ⟨by decide +kernel, rfl, q1701, fun _ _ _ _ _ _ _ _ _ _ _ _ _ _ _ _ _ _ _ hX hC hQ hm => gm_X1_checkBlock hX hC hQ hm⟩
theorem ok_X1_take {l : Launch} : sw_Ok l N_X1_take b_X1_take bp_X1_take := ⟨by decide +kernel, rfl, q1727, fun _ _ _ _ _ _ _ _ _ _ _ _ _ _ _ _ _ _ _ hX hC hQ hm => gm_X1_take hX hC hQ hm⟩
theorem ok_X1_times {l : Launch} : sw_Ok l N_X1_times b_X1_times bp_X1_times := ⟨by decide +kernel, rfl, q1756, fun _ _ _ _ _ _ _ _ _ _ _ _ _ _ _ _ _ _ _ hX hC hQ hm => gm_X1_times hX hC hQ hm⟩
theorem ok_X1_out {l : Launch} : sw_Ok l N_X1_out b_X1_out bp_X1_out := ⟨by decide +kernel, rfl, q1763, fun _ _ _ _ _ _ _ _ _ _ _ _ _ _ _ _ _ _ _ hX hC hQ hm => gm_X1_out hX hC hQ hm⟩
theorem ok_X1_meant {l : Launch} : sw_Ok l N_X1_meant b_X1_meant bp_X1_meant := ⟨by decide +kernel, rfl, q1770, fun _ _ _ _ _ _ _ _ _ _ _ _ _ _ _ _ _ _ _ hX hC hQ hm => gm_X1_meant hX hC hQ hm⟩
theorem ok_X1_chosen {l : Launch} : sw_Ok l N_X1_chosen b_X1_chosen bp_X1_chosen := ⟨by decide +kernel, rfl, q1777, fun _ _ _ _ _ _ _ _ _ _ _ _ _ _ _ _ _ _ _ hX hC hQ hm => gm_X1_chosen hX hC hQ hm⟩
theorem ok_X1_ofValue {l : Launch} : sw_Ok l N_X1_ofValue b_X1_ofValue bp_X1_ofValue := ⟨by decide +kernel, rfl, q1784, fun _ _ _ _ _ _ _ _ _ _ _ _ _ _ _ _ _ _ _ hX hC hQ hm => gm_X1_ofValue hX hC hQ hm⟩
theorem ok_X1_mapAt {l : Launch} : sw_Ok l N_X1_mapAt b_X1_mapAt bp_X1_mapAt := ⟨by decide +kernel, rfl, q1791, fun _ _ _ _ _ _ _ _ _ _ _ _ _ _ _ _ _ _ _ hX hC hQ hm => gm_X1_mapAt hX hC hQ hm⟩
theorem ok_X1_pointOf {l : Launch} : sw_Ok l N_X1_pointOf b_X1_pointOf bp_X1_pointOf := ⟨by decide +kernel, rfl, q1795, fun _ _ _ _ _ _ _ _ _ _ _ _ _ _ _ _ _ _ _ hX hC hQ hm => gm_X1_pointOf hX hC hQ hm⟩
theorem ok_X1_cost {l : Launch} : sw_Ok l N_X1_cost b_X1_cost bp_X1_cost := ⟨by decide +kernel, rfl, q1802, fun _ _ _ _ _ _ _ _ _ _ _ _ _ _ _ _ _ _ _ hX hC hQ hm => gm_X1_cost hX hC hQ hm⟩
theorem ok_X1_code {l : Launch} : sw_Ok l N_X1_code b_X1_code bp_X1_code := ⟨by decide +kernel, rfl, q1809, fun _ _ _ _ _ _ _ _ _ _ _ _ _ _ _ _ _ _ _ hX hC hQ hm => gm_X1_code hX hC hQ hm⟩
theorem ok_X1_begins {l : Launch} : sw_Ok l N_X1_begins b_X1_begins bp_X1_begins := ⟨by decide +kernel, rfl, q1816, fun _ _ _ _ _ _ _ _ _ _ _ _ _ _ _ _ _ _ _ hX hC hQ hm => gm_X1_begins hX hC hQ hm⟩
theorem ok_X1_answer {l : Launch} : sw_Ok l N_X1_answer b_X1_answer bp_X1_answer := ⟨by decide +kernel, rfl, q1823, fun _ _ _ _ _ _ _ _ _ _ _ _ _ _ _ _ _ _ _ hX hC hQ hm => gm_X1_answer hX hC hQ hm⟩
theorem ok_X1_many {l : Launch} : sw_Ok l N_X1_many b_X1_many bp_X1_many := ⟨by decide +kernel, rfl, q1830, fun _ _ _ _ _ _ _ _ _ _ _ _ _ _ _ _ _ _ _ hX hC hQ hm => gm_X1_many hX hC hQ hm⟩
theorem ok_X1_with {l : Launch} : sw_Ok l N_X1_with b_X1_with bp_X1_with := ⟨by decide +kernel, rfl, q1837, fun _ _ _ _ _ _ _ _ _ _ _ _ _ _ _ _ _ _ _ hX hC hQ hm => gm_X1_with hX hC hQ hm⟩
theorem ok_X1_cyclesWith {l : Launch} : sw_Ok l N_X1_cyclesWith b_X1_cyclesWith bp_X1_cyclesWith := ⟨by decide +kernel, rfl, q1844, fun _ _ _ _ _ _ _ _ _ _ _ _ _ _ _ _ _ _ _ hX hC hQ hm => gm_X1_cyclesWith hX hC hQ hm⟩
theorem ok_X10_init {l : Launch} : sw_Ok l N_X10_init b_X10_init bp_X10_init := ⟨by decide +kernel, rfl, q1170, fun _ _ _ _ _ _ _ _ _ _ _ _ _ _ _ _ _ _ _ hX hC hQ hm => gm_X10_init hX hC hQ hm⟩
theorem ok_X10_all {l : Launch} : sw_Ok l N_X10_all b_X10_all bp_X10_all := ⟨by decide +kernel, rfl, q1190, fun _ _ _ _ _ _ _ _ _ _ _ _ _ _ _ _ _ _ _ hX hC hQ hm => gm_X10_all hX hC hQ hm⟩
theorem ok_X10_writeCall {l : Launch} : sw_Ok l N_X10_writeCall b_X10_writeCall bp_X10_writeCall := ⟨by decide +kernel, rfl, q1201, fun _ _ _ _ _ _ _ _ _ _ _ _ _ _ _ _ _ _ _ hX hC hQ hm => gm_X10_writeCall hX hC hQ hm⟩
theorem ok_X10_move {l : Launch} : sw_Ok l N_X10_move b_X10_move bp_X10_move := ⟨by decide +kernel, rfl, q1206, fun _ _ _ _ _ _ _ _ _ _ _ _ _ _ _ _ _ _ _ hX hC hQ hm => gm_X10_move hX hC hQ hm⟩
theorem ok_X10_put {l : Launch} : sw_Ok l N_X10_put b_X10_put bp_X10_put := ⟨by decide +kernel, rfl, q1210, fun _ _ _ _ _ _ _ _ _ _ _ _ _ _ _ _ _ _ _ hX hC hQ hm => gm_X10_put hX hC hQ hm⟩
theorem ok_X10_put_2 {l : Launch} : sw_Ok l N_X10_put_2 b_X10_put_2 bp_X10_put_2 := ⟨by decide +kernel, rfl, q1214, fun _ _ _ _ _ _ _ _ _ _ _ _ _ _ _ _ _ _ _ hX hC hQ hm => gm_X10_put_2 hX hC hQ hm⟩
theorem ok_X10_bring {l : Launch} : sw_Ok l N_X10_bring b_X10_bring bp_X10_bring := ⟨by decide +kernel, rfl, q1255, fun _ _ _ _ _ _ _ _ _ _ _ _ _ _ _ _ _ _ _ hX hC hQ hm => gm_X10_bring hX hC hQ hm⟩
theorem ok_X10_writePlain {l : Launch} : sw_Ok l N_X10_writePlain b_X10_writePlain bp_X10_writePlain := ⟨by decide +kernel, rfl, q1260, fun _ _ _ _ _ _ _ _ _ _ _ _ _ _ _ _ _ _ _ hX hC hQ hm => gm_X10_writePlain hX hC hQ hm⟩
theorem ok_X10_readsOf {l : Launch} : sw_Ok l N_X10_readsOf b_X10_readsOf bp_X10_readsOf := ⟨by decide +kernel, rfl, q1264, fun _ _ _ _ _ _ _ _ _ _ _ _ _ _ _ _ _ _ _ hX hC hQ hm => gm_X10_readsOf hX hC hQ hm⟩
theorem ok_X10_writeTwo {l : Launch} : sw_Ok l N_X10_writeTwo b_X10_writeTwo bp_X10_writeTwo := ⟨by decide +kernel, rfl, q1268, fun _ _ _ _ _ _ _ _ _ _ _ _ _ _ _ _ _ _ _ hX hC hQ hm => gm_X10_writeTwo hX hC hQ hm⟩
theorem ok_X10_reckonIn {l : Launch} : sw_Ok l N_X10_reckonIn b_X10_reckonIn bp_X10_reckonIn := ⟨by decide +kernel, rfl, q1272, fun _ _ _ _ _ _ _ _ _ _ _ _ _ _ _ _ _ _ _ hX hC hQ hm => gm_X10_reckonIn hX hC hQ hm⟩
theorem ok_X10_reckon {l : Launch} : sw_Ok l N_X10_reckon b_X10_reckon bp_X10_reckon := ⟨by decide +kernel, rfl, q1276, fun _ _ _ _ _ _ _ _ _ _ _ _ _ _ _ _ _ _ _ hX hC hQ hm => gm_X10_reckon hX hC hQ hm⟩
theorem ok_X10_storeFrom {l : Launch} : sw_Ok l N_X10_storeFrom b_X10_storeFrom bp_X10_storeFrom := ⟨by decide +kernel, rfl, q1280, fun _ _ _ _ _ _ _ _ _ _ _ _ _ _ _ _ _ _ _ hX hC hQ hm => gm_X10_storeFrom hX hC hQ hm⟩
theorem ok_X11_init {l : Launch} : sw_Ok l N_X11_init b_X11_init bp_X11_init := ⟨by decide +kernel, rfl, q1219, fun _ _ _ _ _ _ _ _ _ _ _ _ _ _ _ _ _ _ _ hX hC hQ hm => gm_X11_init hX hC hQ hm⟩
theorem ok_X11_operand {l : Launch} : sw_Ok l N_X11_operand b_X11_operand bp_X11_operand := ⟨by decide +kernel, rfl, q1349, fun _ _ _ _ _ _ _ _ _ _ _ _ _ _ _ _ _ _ _ hX hC hQ hm => gm_X11_operand hX hC hQ hm⟩
theorem ok_X12_init {l : Launch} : sw_Ok l N_X12_init b_X12_init bp_X12_init := ⟨by decide +kernel, rfl, q1290, fun _ _ _ _ _ _ _ _ _ _ _ _ _ _ _ _ _ _ _ hX hC hQ hm => gm_X12_init hX hC hQ hm⟩
theorem ok_X12_run {l : Launch} : sw_Ok l N_X12_run b_X12_run bp_X12_run := ⟨by decide +kernel, rfl, q1328, fun _ _ _ _ _ _ _ _ _ _ _ _ _ _ _ _ _ _ _ hX hC hQ hm => gm_X12_run hX hC hQ hm⟩
theorem ok_X12_step {l : Launch} : sw_Ok l N_X12_step b_X12_step bp_X12_step := ⟨by decide +kernel, rfl, q1338, fun _ _ _ _ _ _ _ _ _ _ _ _ _ _ _ _ _ _ _ hX hC hQ hm => gm_X12_step hX hC hQ hm⟩
theorem ok_X12_firstRead {l : Launch} : sw_Ok l N_X12_firstRead b_X12_firstRead bp_X12_firstRead := ⟨by decide +kernel, rfl, q1342, fun _ _ _ _ _ _ _ _ _ _ _ _ _ _ _ _ _ _ _ hX hC hQ hm => gm_X12_firstRead hX hC hQ hm⟩
theorem ok_X12_lastRead {l : Launch} : sw_Ok l N_X12_lastRead b_X12_lastRead bp_X12_lastRead := ⟨by decide +kernel, rfl, q1345, fun _ _ _ _ _ _ _ _ _ _ _ _ _ _ _ _ _ _ _ hX hC hQ hm => gm_X12_lastRead hX hC hQ hm⟩
theorem ok_X12_act {l : Launch} : sw_Ok l N_X12_act b_X12_act bp_X12_act := ⟨by decide +kernel, rfl, q1354, fun _ _ _ _ _ _ _ _ _ _ _ _ _ _ _ _ _ _ _ hX hC hQ hm => gm_X12_act hX hC hQ hm⟩
theorem ok_X12_at {l : Launch} : sw_Ok l N_X12_at b_X12_at bp_X12_at := ⟨by decide +kernel, rfl, q1358, fun _ _ _ _ _ _ _ _ _ _ _ _ _ _ _ _ _ _ _ hX hC hQ hm => gm_X12_at hX hC hQ hm⟩
theorem ok_X12_call {l : Launch} : sw_Ok l N_X12_call b_X12_call bp_X12_call := ⟨by decide +kernel, rfl, q1362, fun _ _ _ _ _ _ _ _ _ _ _ _ _ _ _ _ _ _ _ hX hC hQ hm => gm_X12_call hX hC hQ hm⟩
theorem ok_X12_reckoned {l : Launch} : sw_Ok l N_X12_reckoned b_X12_reckoned bp_X12_reckoned := ⟨by decide +kernel, rfl, q1371, fun _ _ _ _ _ _ _ _ _ _ _ _ _ _ _ _ _ _ _ hX hC hQ hm => gm_X12_reckoned hX hC hQ hm⟩
theorem ok_X13_init {l : Launch} : sw_Ok l N_X13_init b_X13_init bp_X13_init := ⟨by decide +kernel, rfl, q1849, fun _ _ _ _ _ _ _ _ _ _ _ _ _ _ _ _ _ _ _ hX hC hQ hm => gm_X13_init hX hC hQ hm⟩
theorem ok_X13_thrown {l : Launch} : sw_Ok l N_X13_thrown b_X13_thrown bp_X13_thrown := ⟨by decide +kernel, rfl, q1931, fun _ _ _ _ _ _ _ _ _ _ _ _ _ _ _ _ _ _ _ hX hC hQ hm => gm_X13_thrown hX hC hQ hm⟩
theorem ok_X13_machine {l : Launch} : sw_Ok l N_X13_machine b_X13_machine bp_X13_machine := ⟨by decide +kernel, rfl, q1935, fun _ _ _ _ _ _ _ _ _ _ _ _ _ _ _ _ _ _ _ hX hC hQ hm => gm_X13_machine hX hC hQ hm⟩
theorem ok_X13_isNoMachine {l : Launch} : sw_Ok l N_X13_isNoMachine b_X13_isNoMachine bp_X13_isNoMachine := ⟨by decide +kernel, rfl, q1938, fun _ _ _ _ _ _ _ _ _ _ _ _ _ _ _ _ _ _ _ hX hC hQ hm => gm_X13_isNoMachine hX hC hQ hm⟩
theorem ok_X13_isIn {l : Launch} : sw_Ok l N_X13_isIn b_X13_isIn bp_X13_isIn := ⟨by decide +kernel, rfl, q1941, fun _ _ _ _ _ _ _ _ _ _ _ _ _ _ _ _ _ _ _ hX hC hQ hm => gm_X13_isIn hX hC hQ hm⟩
theorem ok_X13_start {l : Launch} : sw_Ok l N_X13_start b_X13_start bp_X13_start := ⟨by decide +kernel, rfl, q1945, fun _ _ _ _ _ _ _ _ _ _ _ _ _ _ _ _ _ _ _ hX hC hQ hm => gm_X13_start hX hC hQ hm⟩
theorem ok_X13_refuse {l : Launch} : sw_Ok l N_X13_refuse b_X13_refuse bp_X13_refuse := ⟨by decide +kernel, rfl, q1949, fun _ _ _ _ _ _ _ _ _ _ _ _ _ _ _ _ _ _ _ hX hC hQ hm => gm_X13_refuse hX hC hQ hm⟩
theorem ok_X13_latency {l : Launch} : sw_Ok l N_X13_latency b_X13_latency bp_X13_latency := ⟨by decide +kernel, rfl, q1953, fun _ _ _ _ _ _ _ _ _ _ _ _ _ _ _ _ _ _ _ hX hC hQ hm => gm_X13_latency hX hC hQ hm⟩
theorem ok_X13_isNoKind {l : Launch} : sw_Ok l N_X13_isNoKind b_X13_isNoKind bp_X13_isNoKind := ⟨by decide +kernel, rfl, q1956, fun _ _ _ _ _ _ _ _ _ _ _ _ _ _ _ _ _ _ _ hX hC hQ hm => gm_X13_isNoKind hX hC hQ hm⟩
theorem ok_X13_isNoLatency {l : Launch} : sw_Ok l N_X13_isNoLatency b_X13_isNoLatency bp_X13_isNoLatency := ⟨by decide +kernel, rfl, q1959, fun _ _ _ _ _ _ _ _ _ _ _ _ _ _ _ _ _ _ _ hX hC hQ hm => gm_X13_isNoLatency hX hC hQ hm⟩
theorem ok_X13_node {l : Launch} : sw_Ok l N_X13_node b_X13_node bp_X13_node := ⟨by decide +kernel, rfl, q1963, fun _ _ _ _ _ _ _ _ _ _ _ _ _ _ _ _ _ _ _ hX hC hQ hm => gm_X13_node hX hC hQ hm⟩
theorem ok_X13_isNode {l : Launch} : sw_Ok l N_X13_isNode b_X13_isNode bp_X13_isNode := ⟨by decide +kernel, rfl, q1967, fun _ _ _ _ _ _ _ _ _ _ _ _ _ _ _ _ _ _ _ hX hC hQ hm => gm_X13_isNode hX hC hQ hm⟩
theorem ok_X13_isFree {l : Launch} : sw_Ok l N_X13_isFree b_X13_isFree bp_X13_isFree := ⟨by decide +kernel, rfl, q1971, fun _ _ _ _ _ _ _ _ _ _ _ _ _ _ _ _ _ _ _ hX hC hQ hm => gm_X13_isFree hX hC hQ hm⟩
theorem ok_X13_statement {l : Launch} : sw_Ok l N_X13_statement b_X13_statement bp_X13_statement := ⟨by decide +kernel, rfl, q2012, fun _ _ _ _ _ _ _ _ _ _ _ _ _ _ _ _ _ _ _ hX hC hQ hm => gm_X13_statement hX hC hQ hm⟩
theorem ok_X13_isNoBlock {l : Launch} : sw_Ok l N_X13_isNoBlock b_X13_isNoBlock bp_X13_isNoBlock := ⟨by decide +kernel, rfl, q2015, fun _ _ _ _ _ _ _ _ _ _ _ _ _ _ _ _ _ _ _ hX hC hQ hm => gm_X13_isNoBlock hX hC hQ hm⟩
theorem ok_X13_isNoVariable {l : Launch} : sw_Ok l N_X13_isNoVariable b_X13_isNoVariable bp_X13_isNoVariable := ⟨by decide +kernel, rfl, q2018, fun _ _ _ _ _ _ _ _ _ _ _ _ _ _ _ _ _ _ _ hX hC hQ hm => gm_X13_isNoVariable hX hC hQ hm⟩
theorem ok_X13_isNoNode {l : Launch} : sw_Ok l N_X13_isNoNode b_X13_isNoNode bp_X13_isNoNode := ⟨by decide +kernel, rfl, q2022, fun _ _ _ _ _ _ _ _ _ _ _ _ _ _ _ _ _ _ _ hX hC hQ hm => gm_X13_isNoNode hX hC hQ hm⟩
theorem ok_X13_statements {l : Launch} : sw_Ok l N_X13_statements b_X13_statements bp_X13_statements := ⟨by decide +kernel, rfl, q2026, fun _ _ _ _ _ _ _ _ _ _ _ _ _ _ _ _ _ _ _ hX hC hQ hm => gm_X13_statements hX hC hQ hm⟩
theorem ok_X13_take {l : Launch} : sw_Ok l N_X13_take b_X13_take bp_X13_take := ⟨by decide +kernel, rfl, q2078, fun _ _ _ _ _ _ _ _ _ _ _ _ _ _ _ _ _ _ _ hX hC hQ hm => gm_X13_take hX hC hQ hm⟩
theorem ok_X13_times {l : Launch} : sw_Ok l N_X13_times b_X13_times bp_X13_times := ⟨by decide +kernel, rfl, q2085, fun _ _ _ _ _ _ _ _ _ _ _ _ _ _ _ _ _ _ _ hX hC hQ hm => gm_X13_times hX hC hQ hm⟩
theorem ok_X13_out {l : Launch} : sw_Ok l N_X13_out b_X13_out bp_X13_out := ⟨by decide +kernel, rfl, q2089, fun _ _ _ _ _ _ _ _ _ _ _ _ _ _ _ _ _ _ _ hX hC hQ hm => gm_X13_out hX hC hQ hm⟩
theorem ok_X13_meant {l : Launch} : sw_Ok l N_X13_meant b_X13_meant bp_X13_meant := ⟨by decide +kernel, rfl, q2093, fun _ _ _ _ _ _ _ _ _ _ _ _ _ _ _ _ _ _ _ hX hC hQ hm => gm_X13_meant hX hC hQ hm⟩
theorem ok_X13_chosen {l : Launch} : sw_Ok l N_X13_chosen b_X13_chosen bp_X13_chosen := ⟨by decide +kernel, rfl, q2112, fun _ _ _ _ _ _ _ _ _ _ _ _ _ _ _ _ _ _ _ hX hC hQ hm => gm_X13_chosen hX hC hQ hm⟩
theorem ok_X13_plan {l : Launch} : sw_Ok l N_X13_plan b_X13_plan bp_X13_plan := ⟨by decide +kernel, rfl, q2116, fun _ _ _ _ _ _ _ _ _ _ _ _ _ _ _ _ _ _ _ hX hC hQ hm => gm_X13_plan hX hC hQ hm⟩
theorem ok_X13_plan_2 {l : Launch} : sw_Ok l N_X13_plan_2 b_X13_plan_2 bp_X13_plan_2 := ⟨by decide +kernel, rfl, q2120, fun _ _ _ _ _ _ _ _ _ _ _ _ _ _ _ _ _ _ _ hX hC hQ hm => gm_X13_plan_2 hX hC hQ hm⟩
theorem ok_X13_has {l : Launch} : sw_Ok l N_X13_has b_X13_has bp_X13_has := ⟨by decide +kernel, rfl, q2358, fun _ _ _ _ _ _ _ _ _ _ _ _ _ _ _ _ _ _ _ hX hC hQ hm => gm_X13_has hX hC hQ hm⟩
theorem ok_X13_told {l : Launch} : sw_Ok l N_X13_told b_X13_told bp_X13_told := ⟨by decide +kernel, rfl, q2715, fun _ _ _ _ _ _ _ _ _ _ _ _ _ _ _ _ _ _ _ hX hC hQ hm => gm_X13_told hX hC hQ hm⟩
theorem ok_X13_ofValue {l : Launch} : sw_Ok l N_X13_ofValue b_X13_ofValue bp_X13_ofValue := ⟨by decide +kernel, rfl, q2720, fun _ _ _ _ _ _ _ _ _ _ _ _ _ _ _ _ _ _ _ hX hC hQ hm => gm_X13_ofValue hX hC hQ hm⟩
theorem ok_X13_told_2 {l : Launch} : sw_Ok l N_X13_told_2 b_X13_told_2 bp_X13_told_2 := ⟨by decide +kernel, rfl, q2724, fun _ _ _ _ _ _ _ _ _ _ _ _ _ _ _ _ _ _ _ hX hC hQ hm => gm_X13_told_2 hX hC hQ hm⟩
theorem ok_X13_mapAt {l : Launch} : sw_Ok l N_X13_mapAt b_X13_mapAt bp_X13_mapAt := ⟨by decide +kernel, rfl, q2729, fun _ _ _ _ _ _ _ _ _ _ _ _ _ _ _ _ _ _ _ hX hC hQ hm => gm_X13_mapAt hX hC hQ hm⟩
theorem ok_X13_mapOf {l : Launch} : sw_Ok l N_X13_mapOf b_X13_mapOf bp_X13_mapOf := ⟨by decide +kernel, rfl, q2732, fun _ _ _ _ _ _ _ _ _ _ _ _ _ _ _ _ _ _ _ hX hC hQ hm => gm_X13_mapOf hX hC hQ hm⟩
theorem ok_X13_cost {l : Launch} : sw_Ok l N_X13_cost b_X13_cost bp_X13_cost := ⟨by decide +kernel, rfl, q2740, fun _ _ _ _ _ _ _ _ _ _ _ _ _ _ _ _ _ _ _ hX hC hQ hm => gm_X13_cost hX hC hQ hm⟩
theorem ok_X13_code {l : Launch} : sw_Ok l N_X13_code b_X13_code bp_X13_code := ⟨by decide +kernel, rfl, q2747, fun _ _ _ _ _ _ _ _ _ _ _ _ _ _ _ _ _ _ _ hX hC hQ hm => gm_X13_code hX hC hQ hm⟩
theorem ok_X13_begins {l : Launch} : sw_Ok l N_X13_begins b_X13_begins bp_X13_begins := ⟨by decide +kernel, rfl, q2751, fun _ _ _ _ _ _ _ _ _ _ _ _ _ _ _ _ _ _ _ hX hC hQ hm => gm_X13_begins hX hC hQ hm⟩
theorem ok_X13_answer {l : Launch} : sw_Ok l N_X13_answer b_X13_answer bp_X13_answer := ⟨by decide +kernel, rfl, q2755, fun _ _ _ _ _ _ _ _ _ _ _ _ _ _ _ _ _ _ _ hX hC hQ hm => gm_X13_answer hX hC hQ hm⟩
theorem ok_X13_many {l : Launch} : sw_Ok l N_X13_many b_X13_many bp_X13_many := ⟨by decide +kernel, rfl, q2764, fun _ _ _ _ _ _ _ _ _ _ _ _ _ _ _ _ _ _ _ hX hC hQ hm => gm_X13_many hX hC hQ hm⟩
theorem ok_X13_count {l : Launch} : sw_Ok l N_X13_count b_X13_count bp_X13_count := ⟨by decide +kernel, rfl, q2768, fun _ _ _ _ _ _ _ _ _ _ _ _ _ _ _ _ _ _ _ hX hC hQ hm => gm_X13_count hX hC hQ hm⟩
theorem ok_X13_meanStall {l : Launch} : sw_Ok l N_X13_meanStall b_X13_meanStall bp_X13_meanStall := ⟨by decide +kernel, rfl, q2799, fun _ _ _ _ _ _ _ _ _ _ _ _ _ _ _ _ _ _ _ hX hC hQ hm => gm_X13_meanStall hX hC hQ hm⟩
theorem ok_X13_with {l : Launch} : sw_Ok l N_X13_with b_X13_with bp_X13_with := ⟨by decide +kernel, rfl, q2803, fun _ _ _ _ _ _ _ _ _ _ _ _ _ _ _ _ _ _ _ hX hC hQ hm => gm_X13_with hX hC hQ hm⟩
theorem ok_X13_withNow {l : Launch} : sw_Ok l N_X13_withNow b_X13_withNow bp_X13_withNow := ⟨by decide +kernel, rfl, q2807, fun _ _ _ _ _ _ _ _ _ _ _ _ _ _ _ _ _ _ _ hX hC hQ hm => gm_X13_withNow hX hC hQ hm⟩
theorem ok_X13_cyclesWith {l : Launch} : sw_Ok l N_X13_cyclesWith b_X13_cyclesWith bp_X13_cyclesWith := ⟨by decide +kernel, rfl, q2811, fun _ _ _ _ _ _ _ _ _ _ _ _ _ _ _ _ _ _ _ hX hC hQ hm => gm_X13_cyclesWith hX hC hQ hm⟩
theorem ok_X13_enough {l : Launch} : sw_Ok l N_X13_enough b_X13_enough bp_X13_enough := ⟨by decide +kernel, rfl, q2815, fun _ _ _ _ _ _ _ _ _ _ _ _ _ _ _ _ _ _ _ hX hC hQ hm => gm_X13_enough hX hC hQ hm⟩
theorem ok_X13_enoughNow {l : Launch} : sw_Ok l N_X13_enoughNow b_X13_enoughNow bp_X13_enoughNow := ⟨by decide +kernel, rfl, q2819, fun _ _ _ _ _ _ _ _ _ _ _ _ _ _ _ _ _ _ _ hX hC hQ hm => gm_X13_enoughNow hX hC hQ hm⟩
theorem ok_X13_unordered {l : Launch} : sw_Ok l N_X13_unordered b_X13_unordered bp_X13_unordered := ⟨by decide +kernel, rfl, q2823, fun _ _ _ _ _ _ _ _ _ _ _ _ _ _ _ _ _ _ _ hX hC hQ hm => gm_X13_unordered hX hC hQ hm⟩
theorem ok_X13_unorderedNow {l : Launch} : sw_Ok l N_X13_unorderedNow b_X13_unorderedNow bp_X13_unorderedNow := ⟨by decide +kernel, rfl, q2827, fun _ _ _ _ _ _ _ _ _ _ _ _ _ _ _ _ _ _ _ hX hC hQ hm => gm_X13_unorderedNow hX hC hQ hm⟩
theorem ok_X13_digest {l : Launch} : sw_Ok l N_X13_digest b_X13_digest bp_X13_digest := ⟨by decide +kernel, rfl, q2831, fun _ _ _ _ _ _ _ _ _ _ _ _ _ _ _ _ _ _ _ hX hC hQ hm => gm_X13_digest hX hC hQ hm⟩
theorem ok_X13_add {l : Launch} : sw_Ok l N_X13_add b_X13_add bp_X13_add := ⟨by decide +kernel, rfl, q2835, fun _ _ _ _ _ _ _ _ _ _ _ _ _ _ _ _ _ _ _ hX hC hQ hm => gm_X13_add hX hC hQ hm⟩
theorem ok_X14_init {l : Launch} : sw_Ok l N_X14_init b_X14_init bp_X14_init := ⟨by decide +kernel, rfl, q1855, fun _ _ _ _ _ _ _ _ _ _ _ _ _ _ _ _ _ _ _ hX hC hQ hm => gm_X14_init hX hC hQ hm⟩
theorem ok_X14_of {l : Launch} : sw_Ok l N_X14_of b_X14_of bp_X14_of := ⟨by decide +kernel, rfl, q1976, fun _ _ _ _ _ _ _ _ _ _ _ _ _ _ _ _ _ _ _ hX hC hQ hm => gm_X14_of hX hC hQ hm⟩
theorem ok_X14_meant {l : Launch} : sw_Ok l N_X14_meant b_X14_meant bp_X14_meant := ⟨by decide +kernel, rfl, q2097, fun _ _ _ _ _ _ _ _ _ _ _ _ _ _ _ _ _ _ _ hX hC hQ hm => gm_X14_meant hX hC hQ hm⟩
theorem ok_X14_meant_2 {l : Launch} : sw_Ok l N_X14_meant_2 b_X14_meant_2 bp_X14_meant_2 := ⟨by decide +kernel, rfl, q2107, fun _ _ _ _ _ _ _ _ _ _ _ _ _ _ _ _ _ _ _ hX hC hQ hm => gm_X14_meant_2 hX hC hQ hm⟩
theorem ok_X14_latency {l : Launch} : sw_Ok l N_X14_latency b_X14_latency bp_X14_latency := ⟨by decide +kernel, rfl, q2215, fun _ _ _ _ _ _ _ _ _ _ _ _ _ _ _ _ _ _ _ hX hC hQ hm => gm_X14_latency hX hC hQ hm⟩
theorem ok_X15_init {l : Launch} : sw_Ok l N_X15_init b_X15_init bp_X15_init := ⟨by decide +kernel, rfl, q1890, fun _ _ _ _ _ _ _ _ _ _ _ _ _ _ _ _ _ _ _ hX hC hQ hm => gm_X15_init hX hC hQ hm⟩
theorem ok_X15_scratch {l : Launch} : sw_Ok l N_X15_scratch b_X15_scratch bp_X15_scratch := ⟨by decide +kernel, rfl, q2516, fun _ _ _ _ _ _ _ _ _ _ _ _ _ _ _ _ _ _ _ hX hC hQ hm => gm_X15_scratch hX hC hQ hm⟩
theorem ok_X15_isKept {l : Launch} : sw_Ok l N_X15_isKept b_X15_isKept bp_X15_isKept := ⟨by decide +kernel, rfl, q2524, fun _ _ _ _ _ _ _ _ _ _ _ _ _ _ _ _ _ _ _ hX hC hQ hm => gm_X15_isKept hX hC hQ hm⟩
theorem ok_X16_isOfTwo {l : Launch} : sw_Ok l N_X16_isOfTwo b_X16_isOfTwo bp_X16_isOfTwo := ⟨by decide +kernel, rfl, q419, fun _ _ _ _ _ _ _ _ _ _ _ _ _ _ _ _ _ _ _ hX hC hQ hm => gm_X16_isOfTwo hX hC hQ hm⟩
theorem ok_X16_is {l : Launch} : sw_Ok l N_X16_is b_X16_is bp_X16_is := ⟨by decide +kernel, rfl, q433, fun _ _ _ _ _ _ _ _ _ _ _ _ _ _ _ _ _ _ _ hX hC hQ hm => gm_X16_is hX hC hQ hm⟩
theorem ok_X16_init {l : Launch} : sw_Ok l N_X16_init b_X16_init bp_X16_init := ⟨by decide +kernel, rfl, q1647, fun _ _ _ _ _ _ _ _ _ _ _ _ _ _ _ _ _ _ _ hX hC hQ hm => gm_X16_init hX hC hQ hm⟩
theorem ok_X17_init {l : Launch} : sw_Ok l N_X17_init b_X17_init bp_X17_init := ⟨by decide +kernel, rfl, q1983, fun _ _ _ _ _ _ _ _ _ _ _ _ _ _ _ _ _ _ _ hX hC hQ hm => gm_X17_init hX hC hQ hm⟩
theorem ok_X17_isOfTwo {l : Launch} : sw_Ok l N_X17_isOfTwo b_X17_isOfTwo bp_X17_isOfTwo := ⟨by decide +kernel, rfl, q2008, fun _ _ _ _ _ _ _ _ _ _ _ _ _ _ _ _ _ _ _ hX hC hQ hm => gm_X17_isOfTwo hX hC hQ hm⟩
theorem ok_X18_init {l : Launch} : sw_Ok l N_X18_init b_X18_init bp_X18_init := ⟨by decide +kernel, rfl, q1707, fun _ _ _ _ _ _ _ _ _ _ _ _ _ _ _ _ _ _ _ hX hC hQ hm => gm_X18_init hX hC hQ hm⟩
theorem ok_X19_init {l : Launch} : sw_Ok l N_X19_init b_X19_init bp_X19_init := ⟨by decide +kernel, rfl, q2125, fun _ _ _ _ _ _ _ _ _ _ _ _ _ _ _ _ _ _ _ hX hC hQ hm => gm_X19_init hX hC hQ hm⟩
theorem ok_X19_live {l : Launch} : sw_Ok l N_X19_live b_X19_live bp_X19_live := ⟨by decide +kernel, rfl, q2455, fun _ _ _ _ _ _ _ _ _ _ _ _ _ _ _ _ _ _ _ hX hC hQ hm => gm_X19_live hX hC hQ hm⟩
theorem ok_X19_timesOf {l : Launch} : sw_Ok l N_X19_timesOf b_X19_timesOf bp_X19_timesOf := ⟨by decide +kernel, rfl, q2481, fun _ _ _ _ _ _ _ _ _ _ _ _ _ _ _ _ _ _ _ hX hC hQ hm => gm_X19_timesOf hX hC hQ hm⟩
theorem ok_X19_touch {l : Launch} : sw_Ok l N_X19_touch b_X19_touch bp_X19_touch := ⟨by decide +kernel, rfl, q2485, fun _ _ _ _ _ _ _ _ _ _ _ _ _ _ _ _ _ _ _ hX hC hQ hm => gm_X19_touch hX hC hQ hm⟩
theorem ok_X19_note {l : Launch} : sw_Ok l N_X19_note b_X19_note bp_X19_note := ⟨by decide +kernel, rfl, q2489, fun _ _ _ _ _ _ _ _ _ _ _ _ _ _ _ _ _ _ _ hX hC hQ hm => gm_X19_note hX hC hQ hm⟩
theorem ok_X19_settle {l : Launch} : sw_Ok l N_X19_settle b_X19_settle bp_X19_settle := ⟨by decide +kernel, rfl, q2497, fun _ _ _ _ _ _ _ _ _ _ _ _ _ _ _ _ _ _ _ hX hC hQ hm => gm_X19_settle hX hC hQ hm⟩
theorem ok_X19_stretch {l : Launch} : sw_Ok l N_X19_stretch b_X19_stretch bp_X19_stretch := ⟨by decide +kernel, rfl, q2502, fun _ _ _ _ _ _ _ _ _ _ _ _ _ _ _ _ _ _ _ hX hC hQ hm => gm_X19_stretch hX hC hQ hm⟩
theorem ok_X19_give {l : Launch} : sw_Ok l N_X19_give b_X19_give bp_X19_give := ⟨by decide +kernel, rfl, q2512, fun _ _ _ _ _ _ _ _ _ _ _ _ _ _ _ _ _ _ _ hX hC hQ hm => gm_X19_give hX hC hQ hm⟩
theorem ok_X19_canHave {l : Launch} : sw_Ok l N_X19_canHave b_X19_canHave bp_X19_canHave := ⟨by decide +kernel, rfl, q2520, fun _ _ _ _ _ _ _ _ _ _ _ _ _ _ _ _ _ _ _ hX hC hQ hm => gm_X19_canHave hX hC hQ hm⟩
theorem ok_X19_yieldOne {l : Launch} : sw_Ok l N_X19_yieldOne b_X19_yieldOne bp_X19_yieldOne := ⟨by decide +kernel, rfl, q2529, fun _ _ _ _ _ _ _ _ _ _ _ _ _ _ _ _ _ _ _ hX hC hQ hm => gm_X19_yieldOne hX hC hQ hm⟩
theorem ok_X19_spill {l : Launch} : sw_Ok l N_X19_spill b_X19_spill bp_X19_spill := ⟨by decide +kernel, rfl, q2538, fun _ _ _ _ _ _ _ _ _ _ _ _ _ _ _ _ _ _ _ hX hC hQ hm => gm_X19_spill hX hC hQ hm⟩
theorem ok_X19_isTaken {l : Launch} : sw_Ok l N_X19_isTaken b_X19_isTaken bp_X19_isTaken := ⟨by decide +kernel, rfl, q2542, fun _ _ _ _ _ _ _ _ _ _ _ _ _ _ _ _ _ _ _ hX hC hQ hm => gm_X19_isTaken hX hC hQ hm⟩
theorem ok_X19_answer {l : Launch} : sw_Ok l N_X19_answer b_X19_answer bp_X19_answer := ⟨by decide +kernel, rfl, q2760, fun _ _ _ _ _ _ _ _ _ _ _ _ _ _ _ _ _ _ _ hX hC hQ hm => gm_X19_answer hX hC hQ hm⟩
theorem ok_X19_told {l : Launch} : sw_Ok l N_X19_told b_X19_told bp_X19_told := ⟨by decide +kernel, rfl, q2772, fun _ _ _ _ _ _ _ _ _ _ _ _ _ _ _ _ _ _ _ hX hC hQ hm => gm_X19_told hX hC hQ hm⟩
theorem ok_X19_spilled {l : Launch} : sw_Ok l N_X19_spilled b_X19_spilled bp_X19_spilled := ⟨by decide +kernel, rfl, q2776, fun _ _ _ _ _ _ _ _ _ _ _ _ _ _ _ _ _ _ _ hX hC hQ hm => gm_X19_spilled hX hC hQ hm⟩
theorem ok_X19_frame {l : Launch} : sw_Ok l N_X19_frame b_X19_frame bp_X19_frame := ⟨by decide +kernel, rfl, q2780, fun _ _ _ _ _ _ _ _ _ _ _ _ _ _ _ _ _ _ _ hX hC hQ hm => gm_X19_frame hX hC hQ hm⟩
theorem ok_X19_in {l : Launch} : sw_Ok l N_X19_in b_X19_in bp_X19_in := ⟨by decide +kernel, rfl, q2790, fun _ _ _ _ _ _ _ _ _ _ _ _ _ _ _ _ _ _ _ hX hC hQ hm => gm_X19_in hX hC hQ hm⟩
theorem ok_X19_most {l : Launch} : sw_Ok l N_X19_most b_X19_most bp_X19_most := ⟨by decide +kernel, rfl, q2795, fun _ _ _ _ _ _ _ _ _ _ _ _ _ _ _ _ _ _ _ hX hC hQ hm => gm_X19_most hX hC hQ hm⟩
theorem ok_X2_init {l : Launch} : sw_Ok l N_X2_init b_X2_init bp_X2_init := ⟨by decide +kernel, rfl, q183, fun _ _ _ _ _ _ _ _ _ _ _ _ _ _ _ _ _ _ _ hX hC hQ hm => gm_X2_init hX hC hQ hm⟩
theorem ok_X2_at {l : Launch} : sw_Ok l N_X2_at b_X2_at bp_X2_at := ⟨by decide +kernel, rfl, q395, fun _ _ _ _ _ _ _ _ _ _ _ _ _ _ _ _ _ _ _ hX hC hQ hm => gm_X2_at hX hC hQ hm⟩
theorem ok_X2_statements {l : Launch} : sw_Ok l N_X2_statements b_X2_statements bp_X2_statements := ⟨by decide +kernel, rfl, q1485, fun _ _ _ _ _ _ _ _ _ _ _ _ _ _ _ _ _ _ _ hX hC hQ hm => gm_X2_statements hX hC hQ hm⟩
theorem ok_X2_meant {l : Launch} : sw_Ok l N_X2_meant b_X2_meant bp_X2_meant := ⟨by decide +kernel, rfl, q1496, fun _ _ _ _ _ _ _ _ _ _ _ _ _ _ _ _ _ _ _ hX hC hQ hm => gm_X2_meant hX hC hQ hm⟩
theorem ok_X2_value {l : Launch} : sw_Ok l N_X2_value b_X2_value bp_X2_value := ⟨by decide +kernel, rfl, q1501, fun _ _ _ _ _ _ _ _ _ _ _ _ _ _ _ _ _ _ _ hX hC hQ hm => gm_X2_value hX hC hQ hm⟩
theorem ok_X20_init {l : Launch} : sw_Ok l N_X20_init b_X20_init bp_X20_init := ⟨by decide +kernel, rfl, q2133, fun _ _ _ _ _ _ _ _ _ _ _ _ _ _ _ _ _ _ _ hX hC hQ hm => gm_X20_init hX hC hQ hm⟩
theorem ok_X20_state {l : Launch} : sw_Ok l N_X20_state b_X20_state bp_X20_state := ⟨by decide +kernel, rfl, q2151, fun _ _ _ _ _ _ _ _ _ _ _ _ _ _ _ _ _ _ _ hX hC hQ hm => gm_X20_state hX hC hQ hm⟩
theorem ok_X20_add {l : Launch} : sw_Ok l N_X20_add b_X20_add bp_X20_add := ⟨by decide +kernel, rfl, q2156, fun _ _ _ _ _ _ _ _ _ _ _ _ _ _ _ _ _ _ _ hX hC hQ hm => gm_X20_add hX hC hQ hm⟩
theorem ok_X20_choose {l : Launch} : sw_Ok l N_X20_choose b_X20_choose bp_X20_choose := ⟨by decide +kernel, rfl, q2203, fun _ _ _ _ _ _ _ _ _ _ _ _ _ _ _ _ _ _ _ hX hC hQ hm => gm_X20_choose hX hC hQ hm⟩
theorem ok_X20_cost {l : Launch} : sw_Ok l N_X20_cost b_X20_cost bp_X20_cost := ⟨by decide +kernel, rfl, q2207, fun _ _ _ _ _ _ _ _ _ _ _ _ _ _ _ _ _ _ _ hX hC hQ hm => gm_X20_cost hX hC hQ hm⟩
theorem ok_X20_costNow {l : Launch} : sw_Ok l N_X20_costNow b_X20_costNow bp_X20_costNow := ⟨by decide +kernel, rfl, q2211, fun _ _ _ _ _ _ _ _ _ _ _ _ _ _ _ _ _ _ _ hX hC hQ hm => gm_X20_costNow hX hC hQ hm⟩
theorem ok_X20_plain {l : Launch} : sw_Ok l N_X20_plain b_X20_plain bp_X20_plain := ⟨by decide +kernel, rfl, q2219, fun _ _ _ _ _ _ _ _ _ _ _ _ _ _ _ _ _ _ _ hX hC hQ hm => gm_X20_plain hX hC hQ hm⟩
theorem ok_X20_smallCost {l : Launch} : sw_Ok l N_X20_smallCost b_X20_smallCost bp_X20_smallCost := ⟨by decide +kernel, rfl, q2223, fun _ _ _ _ _ _ _ _ _ _ _ _ _ _ _ _ _ _ _ hX hC hQ hm => gm_X20_smallCost hX hC hQ hm⟩
theorem ok_X20_small {l : Launch} : sw_Ok l N_X20_small b_X20_small bp_X20_small := ⟨by decide +kernel, rfl, q2227, fun _ _ _ _ _ _ _ _ _ _ _ _ _ _ _ _ _ _ _ hX hC hQ hm => gm_X20_small hX hC hQ hm⟩
theorem ok_X20_isSmall {l : Launch} : sw_Ok l N_X20_isSmall b_X20_isSmall bp_X20_isSmall := ⟨by decide +kernel, rfl, q2231, fun _ _ _ _ _ _ _ _ _ _ _ _ _ _ _ _ _ _ _ hX hC hQ hm => gm_X20_isSmall hX hC hQ hm⟩
theorem ok_X20_other {l : Launch} : sw_Ok l N_X20_other b_X20_other bp_X20_other := ⟨by decide +kernel, rfl, q2237, fun _ _ _ _ _ _ _ _ _ _ _ _ _ _ _ _ _ _ _ hX hC hQ hm => gm_X20_other hX hC hQ hm⟩
theorem ok_X20_fusedCost {l : Launch} : sw_Ok l N_X20_fusedCost b_X20_fusedCost bp_X20_fusedCost := ⟨by decide +kernel, rfl, q2241, fun _ _ _ _ _ _ _ _ _ _ _ _ _ _ _ _ _ _ _ hX hC hQ hm => gm_X20_fusedCost hX hC hQ hm⟩
theorem ok_X20_fused {l : Launch} : sw_Ok l N_X20_fused b_X20_fused bp_X20_fused := ⟨by decide +kernel, rfl, q2245, fun _ _ _ _ _ _ _ _ _ _ _ _ _ _ _ _ _ _ _ hX hC hQ hm => gm_X20_fused hX hC hQ hm⟩
theorem ok_X20_fuse {l : Launch} : sw_Ok l N_X20_fuse b_X20_fuse bp_X20_fuse := ⟨by decide +kernel, rfl, q2250, fun _ _ _ _ _ _ _ _ _ _ _ _ _ _ _ _ _ _ _ hX hC hQ hm => gm_X20_fuse hX hC hQ hm⟩
theorem ok_X20_order {l : Launch} : sw_Ok l N_X20_order b_X20_order bp_X20_order := ⟨by decide +kernel, rfl, q2254, fun _ _ _ _ _ _ _ _ _ _ _ _ _ _ _ _ _ _ _ hX hC hQ hm => gm_X20_order hX hC hQ hm⟩
theorem ok_X20_isReady {l : Launch} : sw_Ok l N_X20_isReady b_X20_isReady bp_X20_isReady := ⟨by decide +kernel, rfl, q2346, fun _ _ _ _ _ _ _ _ _ _ _ _ _ _ _ _ _ _ _ hX hC hQ hm => gm_X20_isReady hX hC hQ hm⟩
theorem ok_X20_enter {l : Launch} : sw_Ok l N_X20_enter b_X20_enter bp_X20_enter := ⟨by decide +kernel, rfl, q2350, fun _ _ _ _ _ _ _ _ _ _ _ _ _ _ _ _ _ _ _ hX hC hQ hm => gm_X20_enter hX hC hQ hm⟩
theorem ok_X20_look {l : Launch} : sw_Ok l N_X20_look b_X20_look bp_X20_look := ⟨by decide +kernel, rfl, q2354, fun _ _ _ _ _ _ _ _ _ _ _ _ _ _ _ _ _ _ _ hX hC hQ hm => gm_X20_look hX hC hQ hm⟩
theorem ok_X21_init {l : Launch} : sw_Ok l N_X21_init b_X21_init bp_X21_init := ⟨by decide +kernel, rfl, q2161, fun _ _ _ _ _ _ _ _ _ _ _ _ _ _ _ _ _ _ _ hX hC hQ hm => gm_X21_init hX hC hQ hm⟩
theorem ok_X21_needs {l : Launch} : sw_Ok l N_X21_needs b_X21_needs bp_X21_needs := ⟨by decide +kernel, rfl, q2259, fun _ _ _ _ _ _ _ _ _ _ _ _ _ _ _ _ _ _ _ hX hC hQ hm => gm_X21_needs hX hC hQ hm⟩
theorem ok_X21_reads {l : Launch} : sw_Ok l N_X21_reads b_X21_reads bp_X21_reads := ⟨by decide +kernel, rfl, q2263, fun _ _ _ _ _ _ _ _ _ _ _ _ _ _ _ _ _ _ _ hX hC hQ hm => gm_X21_reads hX hC hQ hm⟩
theorem ok_X22_init {l : Launch} : sw_Ok l N_X22_init b_X22_init bp_X22_init := ⟨by decide +kernel, rfl, q2394, fun _ _ _ _ _ _ _ _ _ _ _ _ _ _ _ _ _ _ _ hX hC hQ hm => gm_X22_init hX hC hQ hm⟩
theorem ok_X22_isIn {l : Launch} : sw_Ok l N_X22_isIn b_X22_isIn bp_X22_isIn := ⟨by decide +kernel, rfl, q2493, fun _ _ _ _ _ _ _ _ _ _ _ _ _ _ _ _ _ _ _ hX hC hQ hm => gm_X22_isIn hX hC hQ hm⟩
theorem ok_X22_goesOver {l : Launch} : sw_Ok l N_X22_goesOver b_X22_goesOver bp_X22_goesOver := ⟨by decide +kernel, rfl, q2508, fun _ _ _ _ _ _ _ _ _ _ _ _ _ _ _ _ _ _ _ hX hC hQ hm => gm_X22_goesOver hX hC hQ hm⟩
theorem ok_X22_isSpilled {l : Launch} : sw_Ok l N_X22_isSpilled b_X22_isSpilled bp_X22_isSpilled := ⟨by decide +kernel, rfl, q2533, fun _ _ _ _ _ _ _ _ _ _ _ _ _ _ _ _ _ _ _ hX hC hQ hm => gm_X22_isSpilled hX hC hQ hm⟩
theorem ok_X22_meets {l : Launch} : sw_Ok l N_X22_meets b_X22_meets bp_X22_meets := ⟨by decide +kernel, rfl, q2546, fun _ _ _ _ _ _ _ _ _ _ _ _ _ _ _ _ _ _ _ hX hC hQ hm => gm_X22_meets hX hC hQ hm⟩
theorem ok_X23_init {l : Launch} : sw_Ok l N_X23_init b_X23_init bp_X23_init := ⟨by decide +kernel, rfl, q2551, fun _ _ _ _ _ _ _ _ _ _ _ _ _ _ _ _ _ _ _ hX hC hQ hm => gm_X23_init hX hC hQ hm⟩
theorem ok_X23_lay {l : Launch} : sw_Ok l N_X23_lay b_X23_lay bp_X23_lay := ⟨by decide +kernel, rfl, q2568, fun _ _ _ _ _ _ _ _ _ _ _ _ _ _ _ _ _ _ _ hX hC hQ hm => gm_X23_lay hX hC hQ hm⟩
theorem ok_X23_layCall {l : Launch} : sw_Ok l N_X23_layCall b_X23_layCall bp_X23_layCall := ⟨by decide +kernel, rfl, q2572, fun _ _ _ _ _ _ _ _ _ _ _ _ _ _ _ _ _ _ _ hX hC hQ hm => gm_X23_layCall hX hC hQ hm⟩
theorem ok_X23_put {l : Launch} : sw_Ok l N_X23_put b_X23_put bp_X23_put := ⟨by decide +kernel, rfl, q2577, fun _ _ _ _ _ _ _ _ _ _ _ _ _ _ _ _ _ _ _ hX hC hQ hm => gm_X23_put hX hC hQ hm⟩
theorem ok_X23_bring {l : Launch} : sw_Ok l N_X23_bring b_X23_bring bp_X23_bring := ⟨by decide +kernel, rfl, q2582, fun _ _ _ _ _ _ _ _ _ _ _ _ _ _ _ _ _ _ _ hX hC hQ hm => gm_X23_bring hX hC hQ hm⟩
theorem ok_X23_store {l : Launch} : sw_Ok l N_X23_store b_X23_store bp_X23_store := ⟨by decide +kernel, rfl, q2586, fun _ _ _ _ _ _ _ _ _ _ _ _ _ _ _ _ _ _ _ hX hC hQ hm => gm_X23_store hX hC hQ hm⟩
theorem ok_X23_layTwo {l : Launch} : sw_Ok l N_X23_layTwo b_X23_layTwo bp_X23_layTwo := ⟨by decide +kernel, rfl, q2590, fun _ _ _ _ _ _ _ _ _ _ _ _ _ _ _ _ _ _ _ hX hC hQ hm => gm_X23_layTwo hX hC hQ hm⟩
theorem ok_X23_layOp {l : Launch} : sw_Ok l N_X23_layOp b_X23_layOp bp_X23_layOp := ⟨by decide +kernel, rfl, q2594, fun _ _ _ _ _ _ _ _ _ _ _ _ _ _ _ _ _ _ _ hX hC hQ hm => gm_X23_layOp hX hC hQ hm⟩
theorem ok_X24_init {l : Launch} : sw_Ok l N_X24_init b_X24_init bp_X24_init := ⟨by decide +kernel, rfl, q2599, fun _ _ _ _ _ _ _ _ _ _ _ _ _ _ _ _ _ _ _ hX hC hQ hm => gm_X24_init hX hC hQ hm⟩
theorem ok_X24_go {l : Launch} : sw_Ok l N_X24_go b_X24_go bp_X24_go := ⟨by decide +kernel, rfl, q2617, fun _ _ _ _ _ _ _ _ _ _ _ _ _ _ _ _ _ _ _ hX hC hQ hm => gm_X24_go hX hC hQ hm⟩
theorem ok_X24_pass {l : Launch} : sw_Ok l N_X24_pass b_X24_pass bp_X24_pass := ⟨by decide +kernel, rfl, q2622, fun _ _ _ _ _ _ _ _ _ _ _ _ _ _ _ _ _ _ _ hX hC hQ hm => gm_X24_pass hX hC hQ hm⟩
theorem ok_X24_step {l : Launch} : sw_Ok l N_X24_step b_X24_step bp_X24_step := ⟨by decide +kernel, rfl, q2629, fun _ _ _ _ _ _ _ _ _ _ _ _ _ _ _ _ _ _ _ hX hC hQ hm => gm_X24_step hX hC hQ hm⟩
theorem ok_X24_readyOf {l : Launch} : sw_Ok l N_X24_readyOf b_X24_readyOf bp_X24_readyOf := ⟨by decide +kernel, rfl, q2633, fun _ _ _ _ _ _ _ _ _ _ _ _ _ _ _ _ _ _ _ hX hC hQ hm => gm_X24_readyOf hX hC hQ hm⟩
theorem ok_X24_work {l : Launch} : sw_Ok l N_X24_work b_X24_work bp_X24_work := ⟨by decide +kernel, rfl, q2639, fun _ _ _ _ _ _ _ _ _ _ _ _ _ _ _ _ _ _ _ hX hC hQ hm => gm_X24_work hX hC hQ hm⟩
theorem ok_X24_lose {l : Launch} : sw_Ok l N_X24_lose b_X24_lose bp_X24_lose := ⟨by decide +kernel, rfl, q2643, fun _ _ _ _ _ _ _ _ _ _ _ _ _ _ _ _ _ _ _ hX hC hQ hm => gm_X24_lose hX hC hQ hm⟩
theorem ok_X3_init {l : Launch} : sw_Ok l N_X3_init b_X3_init bp_X3_init := ⟨by decide +kernel, rfl, q332, fun _ _ _ _ _ _ _ _ _ _ _ _ _ _ _ _ _ _ _ hX hC hQ hm => gm_X3_init hX hC hQ hm⟩
theorem ok_X3_latency {l : Launch} : sw_Ok l N_X3_latency b_X3_latency bp_X3_latency := ⟨by decide +kernel, rfl, q437, fun _ _ _ _ _ _ _ _ _ _ _ _ _ _ _ _ _ _ _ hX hC hQ hm => gm_X3_latency hX hC hQ hm⟩
theorem ok_X3_isSmall {l : Launch} : sw_Ok l N_X3_isSmall b_X3_isSmall bp_X3_isSmall := ⟨by decide +kernel, rfl, q465, fun _ _ _ _ _ _ _ _ _ _ _ _ _ _ _ _ _ _ _ hX hC hQ hm => gm_X3_isSmall hX hC hQ hm⟩
theorem ok_X3_isKept {l : Launch} : sw_Ok l N_X3_isKept b_X3_isKept bp_X3_isKept := ⟨by decide +kernel, rfl, q1113, fun _ _ _ _ _ _ _ _ _ _ _ _ _ _ _ _ _ _ _ hX hC hQ hm => gm_X3_isKept hX hC hQ hm⟩
theorem ok_X3_scratch {l : Launch} : sw_Ok l N_X3_scratch b_X3_scratch bp_X3_scratch := ⟨by decide +kernel, rfl, q1126, fun _ _ _ _ _ _ _ _ _ _ _ _ _ _ _ _ _ _ _ hX hC hQ hm => gm_X3_scratch hX hC hQ hm⟩
theorem ok_X3_with {l : Launch} : sw_Ok l N_X3_with b_X3_with bp_X3_with := ⟨by decide +kernel, rfl, q1422, fun _ _ _ _ _ _ _ _ _ _ _ _ _ _ _ _ _ _ _ hX hC hQ hm => gm_X3_with hX hC hQ hm⟩
theorem ok_X3_with_2 {l : Launch} : sw_Ok l N_X3_with_2 b_X3_with_2 bp_X3_with_2 := ⟨by decide +kernel, rfl, q1623, fun _ _ _ _ _ _ _ _ _ _ _ _ _ _ _ _ _ _ _ hX hC hQ hm => gm_X3_with_2 hX hC hQ hm⟩
theorem ok_X4_init {l : Launch} : sw_Ok l N_X4_init b_X4_init bp_X4_init := ⟨by decide +kernel, rfl, q365, fun _ _ _ _ _ _ _ _ _ _ _ _ _ _ _ _ _ _ _ hX hC hQ hm => gm_X4_init hX hC hQ hm⟩
theorem ok_X4_many {l : Launch} : sw_Ok l N_X4_many b_X4_many bp_X4_many := ⟨by decide +kernel, rfl, q1432, fun _ _ _ _ _ _ _ _ _ _ _ _ _ _ _ _ _ _ _ hX hC hQ hm => gm_X4_many hX hC hQ hm⟩
theorem ok_X4_codes {l : Launch} : sw_Ok l N_X4_codes b_X4_codes bp_X4_codes := ⟨by decide +kernel, rfl, q1450, fun _ _ _ _ _ _ _ _ _ _ _ _ _ _ _ _ _ _ _ hX hC hQ hm => gm_X4_codes hX hC hQ hm⟩
theorem ok_X4_answer {l : Launch} : sw_Ok l N_X4_answer b_X4_answer bp_X4_answer := ⟨by decide +kernel, rfl, q1512, fun _ _ _ _ _ _ _ _ _ _ _ _ _ _ _ _ _ _ _ hX hC hQ hm => gm_X4_answer hX hC hQ hm⟩
theorem ok_X5_init {l : Launch} : sw_Ok l N_X5_init b_X5_init bp_X5_init := ⟨by decide +kernel, rfl, q371, fun _ _ _ _ _ _ _ _ _ _ _ _ _ _ _ _ _ _ _ hX hC hQ hm => gm_X5_init hX hC hQ hm⟩
theorem ok_X5_costOf {l : Launch} : sw_Ok l N_X5_costOf b_X5_costOf bp_X5_costOf := ⟨by decide +kernel, rfl, q387, fun _ _ _ _ _ _ _ _ _ _ _ _ _ _ _ _ _ _ _ hX hC hQ hm => gm_X5_costOf hX hC hQ hm⟩
theorem ok_X5_at {l : Launch} : sw_Ok l N_X5_at b_X5_at bp_X5_at := ⟨by decide +kernel, rfl, q391, fun _ _ _ _ _ _ _ _ _ _ _ _ _ _ _ _ _ _ _ hX hC hQ hm => gm_X5_at hX hC hQ hm⟩
theorem ok_X5_plainCost {l : Launch} : sw_Ok l N_X5_plainCost b_X5_plainCost bp_X5_plainCost := ⟨by decide +kernel, rfl, q441, fun _ _ _ _ _ _ _ _ _ _ _ _ _ _ _ _ _ _ _ hX hC hQ hm => gm_X5_plainCost hX hC hQ hm⟩
theorem ok_X5_opOf {l : Launch} : sw_Ok l N_X5_opOf b_X5_opOf bp_X5_opOf := ⟨by decide +kernel, rfl, q444, fun _ _ _ _ _ _ _ _ _ _ _ _ _ _ _ _ _ _ _ hX hC hQ hm => gm_X5_opOf hX hC hQ hm⟩
theorem ok_X5_smallCost {l : Launch} : sw_Ok l N_X5_smallCost b_X5_smallCost bp_X5_smallCost := ⟨by decide +kernel, rfl, q453, fun _ _ _ _ _ _ _ _ _ _ _ _ _ _ _ _ _ _ _ hX hC hQ hm => gm_X5_smallCost hX hC hQ hm⟩
theorem ok_X5_small {l : Launch} : sw_Ok l N_X5_small b_X5_small bp_X5_small := ⟨by decide +kernel, rfl, q457, fun _ _ _ _ _ _ _ _ _ _ _ _ _ _ _ _ _ _ _ hX hC hQ hm => gm_X5_small hX hC hQ hm⟩
theorem ok_X5_isSmall {l : Launch} : sw_Ok l N_X5_isSmall b_X5_isSmall bp_X5_isSmall := ⟨by decide +kernel, rfl, q461, fun _ _ _ _ _ _ _ _ _ _ _ _ _ _ _ _ _ _ _ hX hC hQ hm => gm_X5_isSmall hX hC hQ hm⟩
theorem ok_X5_other {l : Launch} : sw_Ok l N_X5_other b_X5_other bp_X5_other := ⟨by decide +kernel, rfl, q469, fun _ _ _ _ _ _ _ _ _ _ _ _ _ _ _ _ _ _ _ hX hC hQ hm => gm_X5_other hX hC hQ hm⟩
theorem ok_X5_fusedCost {l : Launch} : sw_Ok l N_X5_fusedCost b_X5_fusedCost bp_X5_fusedCost := ⟨by decide +kernel, rfl, q473, fun _ _ _ _ _ _ _ _ _ _ _ _ _ _ _ _ _ _ _ hX hC hQ hm => gm_X5_fusedCost hX hC hQ hm⟩
theorem ok_X5_fused {l : Launch} : sw_Ok l N_X5_fused b_X5_fused bp_X5_fused := ⟨by decide +kernel, rfl, q477, fun _ _ _ _ _ _ _ _ _ _ _ _ _ _ _ _ _ _ _ hX hC hQ hm => gm_X5_fused hX hC hQ hm⟩
theorem ok_X5_all {l : Launch} : sw_Ok l N_X5_all b_X5_all bp_X5_all := ⟨by decide +kernel, rfl, q505, fun _ _ _ _ _ _ _ _ _ _ _ _ _ _ _ _ _ _ _ hX hC hQ hm => gm_X5_all hX hC hQ hm⟩
theorem ok_X5_emit {l : Launch} : sw_Ok l N_X5_emit b_X5_emit bp_X5_emit := ⟨by decide +kernel, rfl, q513, fun _ _ _ _ _ _ _ _ _ _ _ _ _ _ _ _ _ _ _ hX hC hQ hm => gm_X5_emit hX hC hQ hm⟩
theorem ok_X5_emit_2 {l : Launch} : sw_Ok l N_X5_emit_2 b_X5_emit_2 bp_X5_emit_2 := ⟨by decide +kernel, rfl, q519, fun _ _ _ _ _ _ _ _ _ _ _ _ _ _ _ _ _ _ _ hX hC hQ hm => gm_X5_emit_2 hX hC hQ hm⟩
theorem ok_X5_value {l : Launch} : sw_Ok l N_X5_value b_X5_value bp_X5_value := ⟨by decide +kernel, rfl, q569, fun _ _ _ _ _ _ _ _ _ _ _ _ _ _ _ _ _ _ _ hX hC hQ hm => gm_X5_value hX hC hQ hm⟩
theorem ok_X5_emitFused {l : Launch} : sw_Ok l N_X5_emitFused b_X5_emitFused bp_X5_emitFused := ⟨by decide +kernel, rfl, q573, fun _ _ _ _ _ _ _ _ _ _ _ _ _ _ _ _ _ _ _ hX hC hQ hm => gm_X5_emitFused hX hC hQ hm⟩
theorem ok_X5_entry {l : Launch} : sw_Ok l N_X5_entry b_X5_entry bp_X5_entry := ⟨by decide +kernel, rfl, q577, fun _ _ _ _ _ _ _ _ _ _ _ _ _ _ _ _ _ _ _ hX hC hQ hm => gm_X5_entry hX hC hQ hm⟩
theorem ok_X6_init {l : Launch} : sw_Ok l N_X6_init b_X6_init bp_X6_init := ⟨by decide +kernel, rfl, q587, fun _ _ _ _ _ _ _ _ _ _ _ _ _ _ _ _ _ _ _ hX hC hQ hm => gm_X6_init hX hC hQ hm⟩
theorem ok_X6_needsOf {l : Launch} : sw_Ok l N_X6_needsOf b_X6_needsOf bp_X6_needsOf := ⟨by decide +kernel, rfl, q598, fun _ _ _ _ _ _ _ _ _ _ _ _ _ _ _ _ _ _ _ hX hC hQ hm => gm_X6_needsOf hX hC hQ hm⟩
theorem ok_X6_heightOf {l : Launch} : sw_Ok l N_X6_heightOf b_X6_heightOf bp_X6_heightOf := ⟨by decide +kernel, rfl, q614, fun _ _ _ _ _ _ _ _ _ _ _ _ _ _ _ _ _ _ _ hX hC hQ hm => gm_X6_heightOf hX hC hQ hm⟩
theorem ok_X6_all {l : Launch} : sw_Ok l N_X6_all b_X6_all bp_X6_all := ⟨by decide +kernel, rfl, q637, fun _ _ _ _ _ _ _ _ _ _ _ _ _ _ _ _ _ _ _ hX hC hQ hm => gm_X6_all hX hC hQ hm⟩
theorem ok_X6_place {l : Launch} : sw_Ok l N_X6_place b_X6_place bp_X6_place := ⟨by decide +kernel, rfl, q641, fun _ _ _ _ _ _ _ _ _ _ _ _ _ _ _ _ _ _ _ hX hC hQ hm => gm_X6_place hX hC hQ hm⟩
theorem ok_X6_next {l : Launch} : sw_Ok l N_X6_next b_X6_next bp_X6_next := ⟨by decide +kernel, rfl, q647, fun _ _ _ _ _ _ _ _ _ _ _ _ _ _ _ _ _ _ _ hX hC hQ hm => gm_X6_next hX hC hQ hm⟩
theorem ok_X7_init {l : Launch} : sw_Ok l N_X7_init b_X7_init bp_X7_init := ⟨by decide +kernel, rfl, q524, fun _ _ _ _ _ _ _ _ _ _ _ _ _ _ _ _ _ _ _ hX hC hQ hm => gm_X7_init hX hC hQ hm⟩
theorem ok_X7_reads {l : Launch} : sw_Ok l N_X7_reads b_X7_reads bp_X7_reads := ⟨by decide +kernel, rfl, q581, fun _ _ _ _ _ _ _ _ _ _ _ _ _ _ _ _ _ _ _ hX hC hQ hm => gm_X7_reads hX hC hQ hm⟩
theorem ok_X7_needs {l : Launch} : sw_Ok l N_X7_needs b_X7_needs bp_X7_needs := ⟨by decide +kernel, rfl, q605, fun _ _ _ _ _ _ _ _ _ _ _ _ _ _ _ _ _ _ _ hX hC hQ hm => gm_X7_needs hX hC hQ hm⟩
theorem ok_X7_is {l : Launch} : sw_Ok l N_X7_is b_X7_is bp_X7_is := ⟨by decide +kernel, rfl, q610, fun _ _ _ _ _ _ _ _ _ _ _ _ _ _ _ _ _ _ _ hX hC hQ hm => gm_X7_is hX hC hQ hm⟩
theorem ok_X8_init {l : Launch} : sw_Ok l N_X8_init b_X8_init bp_X8_init := ⟨by decide +kernel, rfl, q652, fun _ _ _ _ _ _ _ _ _ _ _ _ _ _ _ _ _ _ _ hX hC hQ hm => gm_X8_init hX hC hQ hm⟩
theorem ok_X8_lifeOf {l : Launch} : sw_Ok l N_X8_lifeOf b_X8_lifeOf bp_X8_lifeOf := ⟨by decide +kernel, rfl, q659, fun _ _ _ _ _ _ _ _ _ _ _ _ _ _ _ _ _ _ _ hX hC hQ hm => gm_X8_lifeOf hX hC hQ hm⟩
theorem ok_X8_timesOf {l : Launch} : sw_Ok l N_X8_timesOf b_X8_timesOf bp_X8_timesOf := ⟨by decide +kernel, rfl, q732, fun _ _ _ _ _ _ _ _ _ _ _ _ _ _ _ _ _ _ _ hX hC hQ hm => gm_X8_timesOf hX hC hQ hm⟩
theorem ok_X8_stretch {l : Launch} : sw_Ok l N_X8_stretch b_X8_stretch bp_X8_stretch := ⟨by decide +kernel, rfl, q741, fun _ _ _ _ _ _ _ _ _ _ _ _ _ _ _ _ _ _ _ hX hC hQ hm => gm_X8_stretch hX hC hQ hm⟩
theorem ok_X8_edge {l : Launch} : sw_Ok l N_X8_edge b_X8_edge bp_X8_edge := ⟨by decide +kernel, rfl, q746, fun _ _ _ _ _ _ _ _ _ _ _ _ _ _ _ _ _ _ _ hX hC hQ hm => gm_X8_edge hX hC hQ hm⟩
theorem ok_X8_put {l : Launch} : sw_Ok l N_X8_put b_X8_put bp_X8_put := ⟨by decide +kernel, rfl, q755, fun _ _ _ _ _ _ _ _ _ _ _ _ _ _ _ _ _ _ _ hX hC hQ hm => gm_X8_put hX hC hQ hm⟩
theorem ok_X8_give {l : Launch} : sw_Ok l N_X8_give b_X8_give bp_X8_give := ⟨by decide +kernel, rfl, q1089, fun _ _ _ _ _ _ _ _ _ _ _ _ _ _ _ _ _ _ _ hX hC hQ hm => gm_X8_give hX hC hQ hm⟩
theorem ok_X8_hint {l : Launch} : sw_Ok l N_X8_hint b_X8_hint bp_X8_hint := ⟨by decide +kernel, rfl, q1093, fun _ _ _ _ _ _ _ _ _ _ _ _ _ _ _ _ _ _ _ hX hC hQ hm => gm_X8_hint hX hC hQ hm⟩
theorem ok_X8_of {l : Launch} : sw_Ok l N_X8_of b_X8_of bp_X8_of := ⟨by decide +kernel, rfl, q1097, fun _ _ _ _ _ _ _ _ _ _ _ _ _ _ _ _ _ _ _ hX hC hQ hm => gm_X8_of hX hC hQ hm⟩
theorem ok_X8_placeOf {l : Launch} : sw_Ok l N_X8_placeOf b_X8_placeOf bp_X8_placeOf := ⟨by decide +kernel, rfl, q1101, fun _ _ _ _ _ _ _ _ _ _ _ _ _ _ _ _ _ _ _ hX hC hQ hm => gm_X8_placeOf hX hC hQ hm⟩
theorem ok_X8_canTake {l : Launch} : sw_Ok l N_X8_canTake b_X8_canTake bp_X8_canTake := ⟨by decide +kernel, rfl, q1105, fun _ _ _ _ _ _ _ _ _ _ _ _ _ _ _ _ _ _ _ hX hC hQ hm => gm_X8_canTake hX hC hQ hm⟩
theorem ok_X8_canHave {l : Launch} : sw_Ok l N_X8_canHave b_X8_canHave bp_X8_canHave := ⟨by decide +kernel, rfl, q1109, fun _ _ _ _ _ _ _ _ _ _ _ _ _ _ _ _ _ _ _ hX hC hQ hm => gm_X8_canHave hX hC hQ hm⟩
theorem ok_X8_isFree {l : Launch} : sw_Ok l N_X8_isFree b_X8_isFree bp_X8_isFree := ⟨by decide +kernel, rfl, q1118, fun _ _ _ _ _ _ _ _ _ _ _ _ _ _ _ _ _ _ _ hX hC hQ hm => gm_X8_isFree hX hC hQ hm⟩
theorem ok_X8_isHeld {l : Launch} : sw_Ok l N_X8_isHeld b_X8_isHeld bp_X8_isHeld := ⟨by decide +kernel, rfl, q1122, fun _ _ _ _ _ _ _ _ _ _ _ _ _ _ _ _ _ _ _ hX hC hQ hm => gm_X8_isHeld hX hC hQ hm⟩
theorem ok_X8_isLess {l : Launch} : sw_Ok l N_X8_isLess b_X8_isLess bp_X8_isLess := ⟨by decide +kernel, rfl, q1129, fun _ _ _ _ _ _ _ _ _ _ _ _ _ _ _ _ _ _ _ hX hC hQ hm => gm_X8_isLess hX hC hQ hm⟩
theorem ok_X8_giveSlots {l : Launch} : sw_Ok l N_X8_giveSlots b_X8_giveSlots bp_X8_giveSlots := ⟨by decide +kernel, rfl, q1137, fun _ _ _ _ _ _ _ _ _ _ _ _ _ _ _ _ _ _ _ hX hC hQ hm => gm_X8_giveSlots hX hC hQ hm⟩
theorem ok_X8_freeSlot {l : Launch} : sw_Ok l N_X8_freeSlot b_X8_freeSlot bp_X8_freeSlot := ⟨by decide +kernel, rfl, q1146, fun _ _ _ _ _ _ _ _ _ _ _ _ _ _ _ _ _ _ _ hX hC hQ hm => gm_X8_freeSlot hX hC hQ hm⟩
theorem ok_X8_slots {l : Launch} : sw_Ok l N_X8_slots b_X8_slots bp_X8_slots := ⟨by decide +kernel, rfl, q1286, fun _ _ _ _ _ _ _ _ _ _ _ _ _ _ _ _ _ _ _ hX hC hQ hm => gm_X8_slots hX hC hQ hm⟩
theorem ok_X8_spilled {l : Launch} : sw_Ok l N_X8_spilled b_X8_spilled bp_X8_spilled := ⟨by decide +kernel, rfl, q1438, fun _ _ _ _ _ _ _ _ _ _ _ _ _ _ _ _ _ _ _ hX hC hQ hm => gm_X8_spilled hX hC hQ hm⟩
theorem ok_X8_frame {l : Launch} : sw_Ok l N_X8_frame b_X8_frame bp_X8_frame := ⟨by decide +kernel, rfl, q1442, fun _ _ _ _ _ _ _ _ _ _ _ _ _ _ _ _ _ _ _ hX hC hQ hm => gm_X8_frame hX hC hQ hm⟩
theorem ok_X8_most {l : Launch} : sw_Ok l N_X8_most b_X8_most bp_X8_most := ⟨by decide +kernel, rfl, q1457, fun _ _ _ _ _ _ _ _ _ _ _ _ _ _ _ _ _ _ _ hX hC hQ hm => gm_X8_most hX hC hQ hm⟩
theorem ok_X9_init {l : Launch} : sw_Ok l N_X9_init b_X9_init bp_X9_init := ⟨by decide +kernel, rfl, q664, fun _ _ _ _ _ _ _ _ _ _ _ _ _ _ _ _ _ _ _ hX hC hQ hm => gm_X9_init hX hC hQ hm⟩
theorem ok_X9_touch {l : Launch} : sw_Ok l N_X9_touch b_X9_touch bp_X9_touch := ⟨by decide +kernel, rfl, q736, fun _ _ _ _ _ _ _ _ _ _ _ _ _ _ _ _ _ _ _ hX hC hQ hm => gm_X9_touch hX hC hQ hm⟩
theorem ok_X9_crosses {l : Launch} : sw_Ok l N_X9_crosses b_X9_crosses bp_X9_crosses := ⟨by decide +kernel, rfl, q751, fun _ _ _ _ _ _ _ _ _ _ _ _ _ _ _ _ _ _ _ hX hC hQ hm => gm_X9_crosses hX hC hQ hm⟩
theorem ok_X9_weight {l : Launch} : sw_Ok l N_X9_weight b_X9_weight bp_X9_weight := ⟨by decide +kernel, rfl, q1133, fun _ _ _ _ _ _ _ _ _ _ _ _ _ _ _ _ _ _ _ hX hC hQ hm => gm_X9_weight hX hC hQ hm⟩
theorem ok_X9_isRemade {l : Launch} : sw_Ok l N_X9_isRemade b_X9_isRemade bp_X9_isRemade := ⟨by decide +kernel, rfl, q1141, fun _ _ _ _ _ _ _ _ _ _ _ _ _ _ _ _ _ _ _ hX hC hQ hm => gm_X9_isRemade hX hC hQ hm⟩
theorem ok_X9_meets {l : Launch} : sw_Ok l N_X9_meets b_X9_meets bp_X9_meets := ⟨by decide +kernel, rfl, q1150, fun _ _ _ _ _ _ _ _ _ _ _ _ _ _ _ _ _ _ _ hX hC hQ hm => gm_X9_meets hX hC hQ hm⟩
def sw_TL15 : List sw_NM := N_X9_meets :: []
theorem sw_Al15 {l : Launch} : sw_Al l 300 sw_TL15 := ⟨⟨_, _, rfl, ok_X9_meets⟩, trivial⟩
def sw_TL14 : List sw_NM := N_X8_give :: N_X8_hint :: N_X8_of :: N_X8_placeOf :: N_X8_canTake :: N_X8_canHave :: N_X8_isFree :: N_X8_isHeld :: N_X8_isLess :: N_X8_giveSlots :: N_X8_freeSlot :: N_X8_slots :: N_X8_spilled :: N_X8_frame :: N_X8_most :: N_X9_init :: N_X9_touch :: N_X9_crosses :: N_X9_weight :: N_X9_isRemade :: sw_TL15
theorem sw_Al14 {l : Launch} : sw_Al l 280 sw_TL14 := ⟨⟨_, _, rfl, ok_X8_give⟩, ⟨⟨_, _, rfl, ok_X8_hint⟩, ⟨⟨_, _, rfl, ok_X8_of⟩, ⟨⟨_, _, rfl, ok_X8_placeOf⟩, ⟨⟨_, _, rfl, ok_X8_canTake⟩, ⟨⟨_, _, rfl, ok_X8_canHave⟩, ⟨⟨_, _, rfl, ok_X8_isFree⟩, ⟨⟨_, _, rfl, ok_X8_isHeld⟩, ⟨⟨_, _, rfl, ok_X8_isLess⟩, ⟨⟨_, _, rfl, ok_X8_giveSlots⟩, ⟨⟨_, _, rfl, ok_X8_freeSlot⟩, ⟨⟨_, _, rfl, ok_X8_slots⟩, ⟨⟨_, _, rfl, ok_X8_spilled⟩, ⟨⟨_, _, rfl, ok_X8_frame⟩, ⟨⟨_, _, rfl, ok_X8_most⟩, ⟨⟨_, _, rfl, ok_X9_init⟩, ⟨⟨_, _, rfl, ok_X9_touch⟩, ⟨⟨_, _, rfl, ok_X9_crosses⟩, ⟨⟨_, _, rfl, ok_X9_weight⟩, ⟨⟨_, _, rfl, ok_X9_isRemade⟩, sw_Al15⟩⟩⟩⟩⟩⟩⟩⟩⟩⟩⟩⟩⟩⟩⟩⟩⟩⟩⟩⟩
def sw_TL13 : List sw_NM := N_X5_emit_2 :: N_X5_value :: N_X5_emitFused :: N_X5_entry :: N_X6_init :: N_X6_needsOf :: N_X6_heightOf :: N_X6_all :: N_X6_place :: N_X6_next :: N_X7_init :: N_X7_reads :: N_X7_needs :: N_X7_is :: N_X8_init :: N_X8_lifeOf :: N_X8_timesOf :: N_X8_stretch :: N_X8_edge :: N_X8_put :: sw_TL14
theorem sw_Al13 {l : Launch} : sw_Al l 260 sw_TL13 := ⟨⟨_, _, rfl, ok_X5_emit_2⟩, ⟨⟨_, _, rfl, ok_X5_value⟩, ⟨⟨_, _, rfl, ok_X5_emitFused⟩, ⟨⟨_, _, rfl, ok_X5_entry⟩, ⟨⟨_, _, rfl, ok_X6_init⟩, ⟨⟨_, _, rfl, ok_X6_needsOf⟩, ⟨⟨_, _, rfl, ok_X6_heightOf⟩, ⟨⟨_, _, rfl, ok_X6_all⟩, ⟨⟨_, _, rfl, ok_X6_place⟩, ⟨⟨_, _, rfl, ok_X6_next⟩, ⟨⟨_, _, rfl, ok_X7_init⟩, ⟨⟨_, _, rfl, ok_X7_reads⟩, ⟨⟨_, _, rfl, ok_X7_needs⟩, ⟨⟨_, _, rfl, ok_X7_is⟩, ⟨⟨_, _, rfl, ok_X8_init⟩, ⟨⟨_, _, rfl, ok_X8_lifeOf⟩, ⟨⟨_, _, rfl, ok_X8_timesOf⟩, ⟨⟨_, _, rfl, ok_X8_stretch⟩, ⟨⟨_, _, rfl, ok_X8_edge⟩, ⟨⟨_, _, rfl, ok_X8_put⟩, sw_Al14⟩⟩⟩⟩⟩⟩⟩⟩⟩⟩⟩⟩⟩⟩⟩⟩⟩⟩⟩⟩
def sw_TL12 : List sw_NM := N_X3_scratch :: N_X3_with :: N_X3_with_2 :: N_X4_init :: N_X4_many :: N_X4_codes :: N_X4_answer :: N_X5_init :: N_X5_costOf :: N_X5_at :: N_X5_plainCost :: N_X5_opOf :: N_X5_smallCost :: N_X5_small :: N_X5_isSmall :: N_X5_other :: N_X5_fusedCost :: N_X5_fused :: N_X5_all :: N_X5_emit :: sw_TL13
theorem sw_Al12 {l : Launch} : sw_Al l 240 sw_TL12 := ⟨⟨_, _, rfl, ok_X3_scratch⟩, ⟨⟨_, _, rfl, ok_X3_with⟩, ⟨⟨_, _, rfl, ok_X3_with_2⟩, ⟨⟨_, _, rfl, ok_X4_init⟩, ⟨⟨_, _, rfl, ok_X4_many⟩, ⟨⟨_, _, rfl, ok_X4_codes⟩, ⟨⟨_, _, rfl, ok_X4_answer⟩, ⟨⟨_, _, rfl, ok_X5_init⟩, ⟨⟨_, _, rfl, ok_X5_costOf⟩, ⟨⟨_, _, rfl, ok_X5_at⟩, ⟨⟨_, _, rfl, ok_X5_plainCost⟩, ⟨⟨_, _, rfl, ok_X5_opOf⟩, ⟨⟨_, _, rfl, ok_X5_smallCost⟩, ⟨⟨_, _, rfl, ok_X5_small⟩, ⟨⟨_, _, rfl, ok_X5_isSmall⟩, ⟨⟨_, _, rfl, ok_X5_other⟩, ⟨⟨_, _, rfl, ok_X5_fusedCost⟩, ⟨⟨_, _, rfl, ok_X5_fused⟩, ⟨⟨_, _, rfl, ok_X5_all⟩, ⟨⟨_, _, rfl, ok_X5_emit⟩, sw_Al13⟩⟩⟩⟩⟩⟩⟩⟩⟩⟩⟩⟩⟩⟩⟩⟩⟩⟩⟩⟩
def sw_TL11 : List sw_NM := N_X22_meets :: N_X23_init :: N_X23_lay :: N_X23_layCall :: N_X23_put :: N_X23_bring :: N_X23_store :: N_X23_layTwo :: N_X23_layOp :: N_X24_init :: N_X24_go :: N_X24_pass :: N_X24_step :: N_X24_readyOf :: N_X24_work :: N_X24_lose :: N_X3_init :: N_X3_latency :: N_X3_isSmall :: N_X3_isKept :: sw_TL12
theorem sw_Al11 {l : Launch} : sw_Al l 220 sw_TL11 := ⟨⟨_, _, rfl, ok_X22_meets⟩, ⟨⟨_, _, rfl, ok_X23_init⟩, ⟨⟨_, _, rfl, ok_X23_lay⟩, ⟨⟨_, _, rfl, ok_X23_layCall⟩, ⟨⟨_, _, rfl, ok_X23_put⟩, ⟨⟨_, _, rfl, ok_X23_bring⟩, ⟨⟨_, _, rfl, ok_X23_store⟩, ⟨⟨_, _, rfl, ok_X23_layTwo⟩, ⟨⟨_, _, rfl, ok_X23_layOp⟩, ⟨⟨_, _, rfl, ok_X24_init⟩, ⟨⟨_, _, rfl, ok_X24_go⟩, ⟨⟨_, _, rfl, ok_X24_pass⟩, ⟨⟨_, _, rfl, ok_X24_step⟩, ⟨⟨_, _, rfl, ok_X24_readyOf⟩, ⟨⟨_, _, rfl, ok_X24_work⟩, ⟨⟨_, _, rfl, ok_X24_lose⟩, ⟨⟨_, _, rfl, ok_X3_init⟩, ⟨⟨_, _, rfl, ok_X3_latency⟩, ⟨⟨_, _, rfl, ok_X3_isSmall⟩, ⟨⟨_, _, rfl, ok_X3_isKept⟩, sw_Al12⟩⟩⟩⟩⟩⟩⟩⟩⟩⟩⟩⟩⟩⟩⟩⟩⟩⟩⟩⟩
def sw_TL10 : List sw_NM := N_X20_costNow :: N_X20_plain :: N_X20_smallCost :: N_X20_small :: N_X20_isSmall :: N_X20_other :: N_X20_fusedCost :: N_X20_fused :: N_X20_fuse :: N_X20_order :: N_X20_isReady :: N_X20_enter :: N_X20_look :: N_X21_init :: N_X21_needs :: N_X21_reads :: N_X22_init :: N_X22_isIn :: N_X22_goesOver :: N_X22_isSpilled :: sw_TL11
theorem sw_Al10 {l : Launch} : sw_Al l 200 sw_TL10 := ⟨⟨_, _, rfl, ok_X20_costNow⟩, ⟨⟨_, _, rfl, ok_X20_plain⟩, ⟨⟨_, _, rfl, ok_X20_smallCost⟩, ⟨⟨_, _, rfl, ok_X20_small⟩, ⟨⟨_, _, rfl, ok_X20_isSmall⟩, ⟨⟨_, _, rfl, ok_X20_other⟩, ⟨⟨_, _, rfl, ok_X20_fusedCost⟩, ⟨⟨_, _, rfl, ok_X20_fused⟩, ⟨⟨_, _, rfl, ok_X20_fuse⟩, ⟨⟨_, _, rfl, ok_X20_order⟩, ⟨⟨_, _, rfl, ok_X20_isReady⟩, ⟨⟨_, _, rfl, ok_X20_enter⟩, ⟨⟨_, _, rfl, ok_X20_look⟩, ⟨⟨_, _, rfl, ok_X21_init⟩, ⟨⟨_, _, rfl, ok_X21_needs⟩, ⟨⟨_, _, rfl, ok_X21_reads⟩, ⟨⟨_, _, rfl, ok_X22_init⟩, ⟨⟨_, _, rfl, ok_X22_isIn⟩, ⟨⟨_, _, rfl, ok_X22_goesOver⟩, ⟨⟨_, _, rfl, ok_X22_isSpilled⟩, sw_Al11⟩⟩⟩⟩⟩⟩⟩⟩⟩⟩⟩⟩⟩⟩⟩⟩⟩⟩⟩⟩
def sw_TL9 : List sw_NM := N_X19_canHave :: N_X19_yieldOne :: N_X19_spill :: N_X19_isTaken :: N_X19_answer :: N_X19_told :: N_X19_spilled :: N_X19_frame :: N_X19_in :: N_X19_most :: N_X2_init :: N_X2_at :: N_X2_statements :: N_X2_meant :: N_X2_value :: N_X20_init :: N_X20_state :: N_X20_add :: N_X20_choose :: N_X20_cost :: sw_TL10
theorem sw_Al9 {l : Launch} : sw_Al l 180 sw_TL9 := ⟨⟨_, _, rfl, ok_X19_canHave⟩, ⟨⟨_, _, rfl, ok_X19_yieldOne⟩, ⟨⟨_, _, rfl, ok_X19_spill⟩, ⟨⟨_, _, rfl, ok_X19_isTaken⟩, ⟨⟨_, _, rfl, ok_X19_answer⟩, ⟨⟨_, _, rfl, ok_X19_told⟩, ⟨⟨_, _, rfl, ok_X19_spilled⟩, ⟨⟨_, _, rfl, ok_X19_frame⟩, ⟨⟨_, _, rfl, ok_X19_in⟩, ⟨⟨_, _, rfl, ok_X19_most⟩, ⟨⟨_, _, rfl, ok_X2_init⟩, ⟨⟨_, _, rfl, ok_X2_at⟩, ⟨⟨_, _, rfl, ok_X2_statements⟩, ⟨⟨_, _, rfl, ok_X2_meant⟩, ⟨⟨_, _, rfl, ok_X2_value⟩, ⟨⟨_, _, rfl, ok_X20_init⟩, ⟨⟨_, _, rfl, ok_X20_state⟩, ⟨⟨_, _, rfl, ok_X20_add⟩, ⟨⟨_, _, rfl, ok_X20_choose⟩, ⟨⟨_, _, rfl, ok_X20_cost⟩, sw_Al10⟩⟩⟩⟩⟩⟩⟩⟩⟩⟩⟩⟩⟩⟩⟩⟩⟩⟩⟩⟩
def sw_TL8 : List sw_NM := N_X14_meant :: N_X14_meant_2 :: N_X14_latency :: N_X15_init :: N_X15_scratch :: N_X15_isKept :: N_X16_isOfTwo :: N_X16_is :: N_X16_init :: N_X17_init :: N_X17_isOfTwo :: N_X18_init :: N_X19_init :: N_X19_live :: N_X19_timesOf :: N_X19_touch :: N_X19_note :: N_X19_settle :: N_X19_stretch :: N_X19_give :: sw_TL9
theorem sw_Al8 {l : Launch} : sw_Al l 160 sw_TL8 := ⟨⟨_, _, rfl, ok_X14_meant⟩, ⟨⟨_, _, rfl, ok_X14_meant_2⟩, ⟨⟨_, _, rfl, ok_X14_latency⟩, ⟨⟨_, _, rfl, ok_X15_init⟩, ⟨⟨_, _, rfl, ok_X15_scratch⟩, ⟨⟨_, _, rfl, ok_X15_isKept⟩, ⟨⟨_, _, rfl, ok_X16_isOfTwo⟩, ⟨⟨_, _, rfl, ok_X16_is⟩, ⟨⟨_, _, rfl, ok_X16_init⟩, ⟨⟨_, _, rfl, ok_X17_init⟩, ⟨⟨_, _, rfl, ok_X17_isOfTwo⟩, ⟨⟨_, _, rfl, ok_X18_init⟩, ⟨⟨_, _, rfl, ok_X19_init⟩, ⟨⟨_, _, rfl, ok_X19_live⟩, ⟨⟨_, _, rfl, ok_X19_timesOf⟩, ⟨⟨_, _, rfl, ok_X19_touch⟩, ⟨⟨_, _, rfl, ok_X19_note⟩, ⟨⟨_, _, rfl, ok_X19_settle⟩, ⟨⟨_, _, rfl, ok_X19_stretch⟩, ⟨⟨_, _, rfl, ok_X19_give⟩, sw_Al9⟩⟩⟩⟩⟩⟩⟩⟩⟩⟩⟩⟩⟩⟩⟩⟩⟩⟩⟩⟩
def sw_TL7 : List sw_NM := N_X13_mapAt :: N_X13_mapOf :: N_X13_cost :: N_X13_code :: N_X13_begins :: N_X13_answer :: N_X13_many :: N_X13_count :: N_X13_meanStall :: N_X13_with :: N_X13_withNow :: N_X13_cyclesWith :: N_X13_enough :: N_X13_enoughNow :: N_X13_unordered :: N_X13_unorderedNow :: N_X13_digest :: N_X13_add :: N_X14_init :: N_X14_of :: sw_TL8
theorem sw_Al7 {l : Launch} : sw_Al l 140 sw_TL7 := ⟨⟨_, _, rfl, ok_X13_mapAt⟩, ⟨⟨_, _, rfl, ok_X13_mapOf⟩, ⟨⟨_, _, rfl, ok_X13_cost⟩, ⟨⟨_, _, rfl, ok_X13_code⟩, ⟨⟨_, _, rfl, ok_X13_begins⟩, ⟨⟨_, _, rfl, ok_X13_answer⟩, ⟨⟨_, _, rfl, ok_X13_many⟩, ⟨⟨_, _, rfl, ok_X13_count⟩, ⟨⟨_, _, rfl, ok_X13_meanStall⟩, ⟨⟨_, _, rfl, ok_X13_with⟩, ⟨⟨_, _, rfl, ok_X13_withNow⟩, ⟨⟨_, _, rfl, ok_X13_cyclesWith⟩, ⟨⟨_, _, rfl, ok_X13_enough⟩, ⟨⟨_, _, rfl, ok_X13_enoughNow⟩, ⟨⟨_, _, rfl, ok_X13_unordered⟩, ⟨⟨_, _, rfl, ok_X13_unorderedNow⟩, ⟨⟨_, _, rfl, ok_X13_digest⟩, ⟨⟨_, _, rfl, ok_X13_add⟩, ⟨⟨_, _, rfl, ok_X14_init⟩, ⟨⟨_, _, rfl, ok_X14_of⟩, sw_Al8⟩⟩⟩⟩⟩⟩⟩⟩⟩⟩⟩⟩⟩⟩⟩⟩⟩⟩⟩⟩
def sw_TL6 : List sw_NM := N_X13_isNoLatency :: N_X13_node :: N_X13_isNode :: N_X13_isFree :: N_X13_statement :: N_X13_isNoBlock :: N_X13_isNoVariable :: N_X13_isNoNode :: N_X13_statements :: N_X13_take :: N_X13_times :: N_X13_out :: N_X13_meant :: N_X13_chosen :: N_X13_plan :: N_X13_plan_2 :: N_X13_has :: N_X13_told :: N_X13_ofValue :: N_X13_told_2 :: sw_TL7
theorem sw_Al6 {l : Launch} : sw_Al l 120 sw_TL6 := ⟨⟨_, _, rfl, ok_X13_isNoLatency⟩, ⟨⟨_, _, rfl, ok_X13_node⟩, ⟨⟨_, _, rfl, ok_X13_isNode⟩, ⟨⟨_, _, rfl, ok_X13_isFree⟩, ⟨⟨_, _, rfl, ok_X13_statement⟩, ⟨⟨_, _, rfl, ok_X13_isNoBlock⟩, ⟨⟨_, _, rfl, ok_X13_isNoVariable⟩, ⟨⟨_, _, rfl, ok_X13_isNoNode⟩, ⟨⟨_, _, rfl, ok_X13_statements⟩, ⟨⟨_, _, rfl, ok_X13_take⟩, ⟨⟨_, _, rfl, ok_X13_times⟩, ⟨⟨_, _, rfl, ok_X13_out⟩, ⟨⟨_, _, rfl, ok_X13_meant⟩, ⟨⟨_, _, rfl, ok_X13_chosen⟩, ⟨⟨_, _, rfl, ok_X13_plan⟩, ⟨⟨_, _, rfl, ok_X13_plan_2⟩, ⟨⟨_, _, rfl, ok_X13_has⟩, ⟨⟨_, _, rfl, ok_X13_told⟩, ⟨⟨_, _, rfl, ok_X13_ofValue⟩, ⟨⟨_, _, rfl, ok_X13_told_2⟩, sw_Al7⟩⟩⟩⟩⟩⟩⟩⟩⟩⟩⟩⟩⟩⟩⟩⟩⟩⟩⟩⟩
def sw_TL5 : List sw_NM := N_X11_init :: N_X11_operand :: N_X12_init :: N_X12_run :: N_X12_step :: N_X12_firstRead :: N_X12_lastRead :: N_X12_act :: N_X12_at :: N_X12_call :: N_X12_reckoned :: N_X13_init :: N_X13_thrown :: N_X13_machine :: N_X13_isNoMachine :: N_X13_isIn :: N_X13_start :: N_X13_refuse :: N_X13_latency :: N_X13_isNoKind :: sw_TL6
theorem sw_Al5 {l : Launch} : sw_Al l 100 sw_TL5 := ⟨⟨_, _, rfl, ok_X11_init⟩, ⟨⟨_, _, rfl, ok_X11_operand⟩, ⟨⟨_, _, rfl, ok_X12_init⟩, ⟨⟨_, _, rfl, ok_X12_run⟩, ⟨⟨_, _, rfl, ok_X12_step⟩, ⟨⟨_, _, rfl, ok_X12_firstRead⟩, ⟨⟨_, _, rfl, ok_X12_lastRead⟩, ⟨⟨_, _, rfl, ok_X12_act⟩, ⟨⟨_, _, rfl, ok_X12_at⟩, ⟨⟨_, _, rfl, ok_X12_call⟩, ⟨⟨_, _, rfl, ok_X12_reckoned⟩, ⟨⟨_, _, rfl, ok_X13_init⟩, ⟨⟨_, _, rfl, ok_X13_thrown⟩, ⟨⟨_, _, rfl, ok_X13_machine⟩, ⟨⟨_, _, rfl, ok_X13_isNoMachine⟩, ⟨⟨_, _, rfl, ok_X13_isIn⟩, ⟨⟨_, _, rfl, ok_X13_start⟩, ⟨⟨_, _, rfl, ok_X13_refuse⟩, ⟨⟨_, _, rfl, ok_X13_latency⟩, ⟨⟨_, _, rfl, ok_X13_isNoKind⟩, sw_Al6⟩⟩⟩⟩⟩⟩⟩⟩⟩⟩⟩⟩⟩⟩⟩⟩⟩⟩⟩⟩
def sw_TL4 : List sw_NM := N_X1_cost :: N_X1_code :: N_X1_begins :: N_X1_answer :: N_X1_many :: N_X1_with :: N_X1_cyclesWith :: N_X10_init :: N_X10_all :: N_X10_writeCall :: N_X10_move :: N_X10_put :: N_X10_put_2 :: N_X10_bring :: N_X10_writePlain :: N_X10_readsOf :: N_X10_writeTwo :: N_X10_reckonIn :: N_X10_reckon :: N_X10_storeFrom :: sw_TL5
theorem sw_Al4 {l : Launch} : sw_Al l 80 sw_TL4 := ⟨⟨_, _, rfl, ok_X1_cost⟩, ⟨⟨_, _, rfl, ok_X1_code⟩, ⟨⟨_, _, rfl, ok_X1_begins⟩, ⟨⟨_, _, rfl, ok_X1_answer⟩, ⟨⟨_, _, rfl, ok_X1_many⟩, ⟨⟨_, _, rfl, ok_X1_with⟩, ⟨⟨_, _, rfl, ok_X1_cyclesWith⟩, ⟨⟨_, _, rfl, ok_X10_init⟩, ⟨⟨_, _, rfl, ok_X10_all⟩, ⟨⟨_, _, rfl, ok_X10_writeCall⟩, ⟨⟨_, _, rfl, ok_X10_move⟩, ⟨⟨_, _, rfl, ok_X10_put⟩, ⟨⟨_, _, rfl, ok_X10_put_2⟩, ⟨⟨_, _, rfl, ok_X10_bring⟩, ⟨⟨_, _, rfl, ok_X10_writePlain⟩, ⟨⟨_, _, rfl, ok_X10_readsOf⟩, ⟨⟨_, _, rfl, ok_X10_writeTwo⟩, ⟨⟨_, _, rfl, ok_X10_reckonIn⟩, ⟨⟨_, _, rfl, ok_X10_reckon⟩, ⟨⟨_, _, rfl, ok_X10_storeFrom⟩, sw_Al5⟩⟩⟩⟩⟩⟩⟩⟩⟩⟩⟩⟩⟩⟩⟩⟩⟩⟩⟩⟩
def sw_TL3 : List sw_NM := N_X1_mustBeMachine :: N_X1_mustBeIn :: N_X1_must :: N_X1_renew :: N_X1_latency :: N_X1_checkPlace :: N_X1_node :: N_X1_kindOf :: N_X1_isFreeNode :: N_X1_checkState :: N_X1_statement :: N_X1_checkBlock :: N_X1_take :: N_X1_times :: N_X1_out :: N_X1_meant :: N_X1_chosen :: N_X1_ofValue :: N_X1_mapAt :: N_X1_pointOf :: sw_TL4
theorem sw_Al3 {l : Launch} : sw_Al l 60 sw_TL3 := ⟨⟨_, _, rfl, ok_X1_mustBeMachine⟩, ⟨⟨_, _, rfl, ok_X1_mustBeIn⟩, ⟨⟨_, _, rfl, ok_X1_must⟩, ⟨⟨_, _, rfl, ok_X1_renew⟩, ⟨⟨_, _, rfl, ok_X1_latency⟩, ⟨⟨_, _, rfl, ok_X1_checkPlace⟩, ⟨⟨_, _, rfl, ok_X1_node⟩, ⟨⟨_, _, rfl, ok_X1_kindOf⟩, ⟨⟨_, _, rfl, ok_X1_isFreeNode⟩, ⟨⟨_, _, rfl, ok_X1_checkState⟩, ⟨⟨_, _, rfl, ok_X1_statement⟩, ⟨⟨_, _, rfl, ok_X1_checkBlock⟩, ⟨⟨_, _, rfl, ok_X1_take⟩, ⟨⟨_, _, rfl, ok_X1_times⟩, ⟨⟨_, _, rfl, ok_X1_out⟩, ⟨⟨_, _, rfl, ok_X1_meant⟩, ⟨⟨_, _, rfl, ok_X1_chosen⟩, ⟨⟨_, _, rfl, ok_X1_ofValue⟩, ⟨⟨_, _, rfl, ok_X1_mapAt⟩, ⟨⟨_, _, rfl, ok_X1_pointOf⟩, sw_Al4⟩⟩⟩⟩⟩⟩⟩⟩⟩⟩⟩⟩⟩⟩⟩⟩⟩⟩⟩⟩
def sw_TL2 : List sw_NM := N_X1_meanStall :: N_X1_enough :: N_X1_enoughNow :: N_X1_buildWith :: N_X1_count :: N_X1_unordered :: N_X1_unorderedNow :: N_X1_digest :: N_X1_manyNow :: N_X1_freeNodes :: N_X1_mix :: N_X1_mixChosen :: N_X1_chosenNow :: N_X1_readAt :: N_X1_mixValues :: N_X1_lifeNow :: N_X1_mixCode :: N_X1_mapNow :: N_X1_codeNow :: N_X1_machine :: sw_TL3
theorem sw_Al2 {l : Launch} : sw_Al l 40 sw_TL2 := ⟨⟨_, _, rfl, ok_X1_meanStall⟩, ⟨⟨_, _, rfl, ok_X1_enough⟩, ⟨⟨_, _, rfl, ok_X1_enoughNow⟩, ⟨⟨_, _, rfl, ok_X1_buildWith⟩, ⟨⟨_, _, rfl, ok_X1_count⟩, ⟨⟨_, _, rfl, ok_X1_unordered⟩, ⟨⟨_, _, rfl, ok_X1_unorderedNow⟩, ⟨⟨_, _, rfl, ok_X1_digest⟩, ⟨⟨_, _, rfl, ok_X1_manyNow⟩, ⟨⟨_, _, rfl, ok_X1_freeNodes⟩, ⟨⟨_, _, rfl, ok_X1_mix⟩, ⟨⟨_, _, rfl, ok_X1_mixChosen⟩, ⟨⟨_, _, rfl, ok_X1_chosenNow⟩, ⟨⟨_, _, rfl, ok_X1_readAt⟩, ⟨⟨_, _, rfl, ok_X1_mixValues⟩, ⟨⟨_, _, rfl, ok_X1_lifeNow⟩, ⟨⟨_, _, rfl, ok_X1_mixCode⟩, ⟨⟨_, _, rfl, ok_X1_mapNow⟩, ⟨⟨_, _, rfl, ok_X1_codeNow⟩, ⟨⟨_, _, rfl, ok_X1_machine⟩, sw_Al3⟩⟩⟩⟩⟩⟩⟩⟩⟩⟩⟩⟩⟩⟩⟩⟩⟩⟩⟩⟩
def sw_TL1 : List sw_NM := N_J2_addAll :: N_J2_toArray :: N_J2_contains :: N_J2_indexOf :: N_J2_indexOfRange :: N_J23_init :: N_J23_hasNext :: N_J23_next :: N_J23_checkForComodification :: N_J24_equals :: N_J3_newLength :: N_J5_copyOf :: N_J5_copyOf_2 :: N_J6_checkIndex :: N_J7_checkIndex :: N_J8_ordinal :: N_X1_init :: N_X1_firstLatencies :: N_X1_has :: N_X1_callOf :: sw_TL2
theorem sw_Al1 {l : Launch} : sw_Al l 20 sw_TL1 := ⟨⟨_, _, rfl, ok_J2_addAll⟩, ⟨⟨_, _, rfl, ok_J2_toArray⟩, ⟨⟨_, _, rfl, ok_J2_contains⟩, ⟨⟨_, _, rfl, ok_J2_indexOf⟩, ⟨⟨_, _, rfl, ok_J2_indexOfRange⟩, ⟨⟨_, _, rfl, ok_J23_init⟩, ⟨⟨_, _, rfl, ok_J23_hasNext⟩, ⟨⟨_, _, rfl, ok_J23_next⟩, ⟨⟨_, _, rfl, ok_J23_checkForComodification⟩, ⟨⟨_, _, rfl, ok_J24_equals⟩, ⟨⟨_, _, rfl, ok_J3_newLength⟩, ⟨⟨_, _, rfl, ok_J5_copyOf⟩, ⟨⟨_, _, rfl, ok_J5_copyOf_2⟩, ⟨⟨_, _, rfl, ok_J6_checkIndex⟩, ⟨⟨_, _, rfl, ok_J7_checkIndex⟩, ⟨⟨_, _, rfl, ok_J8_ordinal⟩, ⟨⟨_, _, rfl, ok_X1_init⟩, ⟨⟨_, _, rfl, ok_X1_firstLatencies⟩, ⟨⟨_, _, rfl, ok_X1_has⟩, ⟨⟨_, _, rfl, ok_X1_callOf⟩, sw_Al2⟩⟩⟩⟩⟩⟩⟩⟩⟩⟩⟩⟩⟩⟩⟩⟩⟩⟩⟩⟩
def sw_TL0 : List sw_NM := N_J0_init :: N_J1_init :: N_J19_intValue :: N_J19_valueOf :: N_J19_bitCount :: N_J2_init :: N_J2_add :: N_J2_add_2 :: N_J2_grow :: N_J2_grow_2 :: N_J2_size :: N_J2_get :: N_J2_elementData :: N_J2_add_3 :: N_J2_rangeCheckForAdd :: N_J2_isEmpty :: N_J2_remove :: N_J2_fastRemove :: N_J2_iterator :: N_J2_clear :: sw_TL1
theorem sw_Al0 {l : Launch} : sw_Al l 0 sw_TL0 := ⟨⟨_, _, rfl, ok_J0_init⟩, ⟨⟨_, _, rfl, ok_J1_init⟩, ⟨⟨_, _, rfl, ok_J19_intValue⟩, ⟨⟨_, _, rfl, ok_J19_valueOf⟩, ⟨⟨_, _, rfl, ok_J19_bitCount⟩, ⟨⟨_, _, rfl, ok_J2_init⟩, ⟨⟨_, _, rfl, ok_J2_add⟩, ⟨⟨_, _, rfl, ok_J2_add_2⟩, ⟨⟨_, _, rfl, ok_J2_grow⟩, ⟨⟨_, _, rfl, ok_J2_grow_2⟩, ⟨⟨_, _, rfl, ok_J2_size⟩, ⟨⟨_, _, rfl, ok_J2_get⟩, ⟨⟨_, _, rfl, ok_J2_elementData⟩, ⟨⟨_, _, rfl, ok_J2_add_3⟩, ⟨⟨_, _, rfl, ok_J2_rangeCheckForAdd⟩, ⟨⟨_, _, rfl, ok_J2_isEmpty⟩, ⟨⟨_, _, rfl, ok_J2_remove⟩, ⟨⟨_, _, rfl, ok_J2_fastRemove⟩, ⟨⟨_, _, rfl, ok_J2_iterator⟩, ⟨⟨_, _, rfl, ok_J2_clear⟩, sw_Al1⟩⟩⟩⟩⟩⟩⟩⟩⟩⟩⟩⟩⟩⟩⟩⟩⟩⟩⟩⟩
theorem sw_TNl_eq : sw_TNl = sw_TL0 := rfl
theorem sw_bridge {l : Launch} (hW : sw_Wit l) (d : Nat) : sw_Ct l sw_TN (sw_Z d) d := sw_main hW (fun y nm hy => by
  have h : sw_TL0[y]? = some nm := by rw [← sw_TNl_eq]; exact hy
  have := sw_Al_get (l := l) sw_TL0 0 y nm sw_Al0 h
  rw [Nat.zero_add] at this
  exact this) d
