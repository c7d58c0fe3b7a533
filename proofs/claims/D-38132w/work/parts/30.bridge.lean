/-! ===== THE BRIDGE: what the small machine comes to, the JVM comes to ===== -/
/-- which class has which number (cl), which slot a field has, which class an array type has, the constants' addresses -/
abbrev sw_D : Type := (Nat → ClassId) × (Nat → Nat → Nat) × (Nat → ClassId) × (Nat → Nat)
abbrev sw_kl : List vw_C := [(RX1, TX1, 3), (RX2, TX2, 4), (RX3, TX3, 6), (RX4, TX4, 6), (RX5, TX5, 6), (RX6, TX6, 5), (RX7, TX7, 6), (RX8, TX8, 4), (RX9, TX9, 11), (RX10, TX10, 4), (RX11, TX11, 7), (RX12, TX12, 8), (RX13, TX13, 3), (RX14, TX14, 5), (RX15, TX15, 5), (RX16, TX16, 4), (RX17, TX17, 4), (RX18, TX18, 2), (RX19, TX19, 14), (RX20, TX20, 7), (RX21, TX21, 6), (RX22, TX22, 12), (RX23, TX23, 3), (RX24, TX24, 4), (RJ2, TJ2, 3), (RJ23, TJ23, 4)]
def sw_ty (t : Nat) : FieldType := if t = 64 then .int else if t = 65 then .boolean else if t = 66 then .long else if t = 68 then .object "SpillslotWorksModel$Life" else if t = 69 then .array .boolean else .object "java/lang/Object"
/-- an array class by its name, and its component's class -/
def sw_RA (U : State) (cA : ClassId) (ty : FieldType) : Prop := U.vm.findClass ("[" ++ ty.toString) = some cA ∧ ∃ (kA : Class) (comp : ClassId), U.vm.classes[cA]? = some kA ∧ kA.kind = .array comp ty ∧ (∀ C, ty = .object C → U.vm.findClass C = some comp) ∧ (∀ t, ty = .array t → U.vm.findClass ty.toString = some comp)
theorem sw_RA.moved {u U : State} (hvm : u.vm.Alike U.vm) {cA : ClassId} {ty : FieldType} (h : sw_RA u cA ty) : sw_RA U cA ty := by
  obtain ⟨h1, kA, comp, h2, h3, h4, h5⟩ := h
  obtain ⟨k', hk', he⟩ := hvm.2.2 _ _ h2
  exact ⟨by rw [hvm.findClass]; exact h1, k', comp, hk', by rw [he]; exact h3, fun C hC => by rw [hvm.findClass]; exact h4 C hC, fun t ht => by rw [hvm.findClass]; exact h5 t ht⟩
def sw_KN (D : sw_D) (U : State) : Prop := (∀ (c : Nat) (q : vw_C), sw_kl[c]? = some q → u_Kn U q.1 q.2.1 q.2.2 (D.1 c) (D.2.1 c)) ∧ ∀ t, 64 ≤ t → t ≤ 69 → ArrOfT U (D.2.2.1 t) (sw_ty t) ∧ sw_RA U (D.2.2.1 t) (sw_ty t)
theorem sw_KN.moved {D : sw_D} {u U : State} (hvm : u.vm.Alike U.vm) (h : sw_KN D u) : sw_KN D U := ⟨fun c q hq => u_Kn_moved hvm (h.1 c q hq), fun t h1 h2 => ⟨arrOfT_moved hvm (h.2 t h1 h2).1, (h.2 t h1 h2).2.moved hvm⟩⟩
/-- what stands at an address -/
def sw_cell (D : sw_D) (a : Nat) (o : sw_O) (H : Heap) : Prop :=
  (o.1 < 40 ∧ ∃ q : vw_C, sw_kl[o.1]? = some q ∧ o.2.length = q.2.2 ∧ t_OB a (D.1 o.1) q.2.2 (D.2.1 o.1) H (vp_V o.2)) ∨
  (o.1 = 40 ∧ ∃ j, j < 6 ∧ a = D.2.2.2 j ∧ o.2 = [.int (nI j)]) ∨
  (o.1 = 41 ∧ ∃ j, j < 256 ∧ a = D.2.2.2 (1000 + j) ∧ o.2 = [.int (vb_c j)]) ∨
  (o.1 = 70 ∧ a = D.2.2.2 10 ∧ o.2 = []) ∨
  (o.1 = 71 ∧ a = D.2.2.2 11 ∧ o.2 = (List.range 256).map fun j => .ref (D.2.2.2 (1000 + j))) ∨
  ((64 ≤ o.1 ∧ o.1 ≤ 69) ∧ H[a]? = some (arrV (D.2.2.1 o.1) o.2.length (vp_V o.2)))
def sw_mu (t : Nat) : Prop := t < 40 ∨ (64 ≤ t ∧ t ≤ 69)
/-- a heap of the small machine is held by the JVM's -/
def sw_HP (D : sw_D) (A : Nat → Prop) (P : sw_P) (H : Heap) : Prop := sw_nx P = H.size ∧ sw_ev P = D.2.2.2 ∧ ∀ (a : Nat) (o : sw_O), sw_hp P a = some o → a < H.size ∧ sw_cell D a o H ∧ (sw_mu o.1 → A a)
def sw_Kn : List String := ["NUMBER", "USE", "ADD", "SUB", "MUL", "CALL"]
def sw_KF : List (String × String × String × List Int32) := [("java/lang/Enum", "ordinal", "I", [0, 1, 2, 3, 4, 5])]
/-- the words of the tables that don't ride in the lists, by their kinds -/
def sw_wF : List Cond := lw_tbl.filter fun w => match w with | .fieldLinkNest .. => true | _ => false
def sw_wM : List Cond := lw_tbl.filter fun w => match w with | .methodLinkNest .. => true | _ => false
def sw_wC : List Cond := lw_tbl.filter fun w => match w with | .castable .. => true | .declares .. => true | _ => false
/-- the interface members that are called, with their receivers' classes -/
def sw_wI : List (String × MethodName × MethodName) := [("java/util/ArrayList", (⟨"java/util/Collection", "toArray", "()[Ljava/lang/Object;"⟩ : MethodName), yJ2_toArray), ("java/util/ArrayList", (⟨"java/util/List", "size", "()I"⟩ : MethodName), yJ2_size), ("java/util/ArrayList", (⟨"java/util/List", "get", "(I)Ljava/lang/Object;"⟩ : MethodName), yJ2_get), ("java/util/ArrayList", (⟨"java/util/List", "add", "(Ljava/lang/Object;)Z"⟩ : MethodName), yJ2_add), ("java/util/ArrayList", (⟨"java/util/List", "isEmpty", "()Z"⟩ : MethodName), yJ2_isEmpty), ("java/util/ArrayList", (⟨"java/util/List", "remove", "(I)Ljava/lang/Object;"⟩ : MethodName), yJ2_remove), ("java/util/ArrayList$Itr", (⟨"java/util/Iterator", "hasNext", "()Z"⟩ : MethodName), yJ23_hasNext), ("java/util/ArrayList$Itr", (⟨"java/util/Iterator", "next", "()Ljava/lang/Object;"⟩ : MethodName), yJ23_next), ("java/util/ArrayList", (⟨"java/util/List", "add", "(ILjava/lang/Object;)V"⟩ : MethodName), yJ2_add_3)]
theorem sw_wI_ok : ∀ q ∈ sw_wI, q.2.1.cls ≠ "java/lang/invoke/MethodHandle" ∧ q.2.1.cls ≠ "java/lang/invoke/VarHandle" := by decide +kernel
/-- what is known of a state, whatever the small machine's heap is -/
def sw_ST (l : Launch) (D : sw_D) (A : Nat → Prop) (U : State) (H : Heap) : Prop :=
  sw_KN D U ∧ va_En "SpillslotWorks$Kind" "LSpillslotWorks$Kind;" sw_Kn sw_KF D.2.2.2 A U H ∧ vb_C (fun j => D.2.2.2 (1000 + j)) A U H ∧
  va_Z "java/util/ArrayList" "DEFAULTCAPACITY_EMPTY_ELEMENTDATA" "[Ljava/lang/Object;" (.ref (D.2.2.2 10)) A U H ∧ va_T (.object "java/lang/Object") (D.2.2.2 10) 0 (fun _ => .null) A U H ∧ va_O "[Ljava/lang/Object;" (D.2.2.2 10) A U H ∧
  va_Z "java/lang/Integer$IntegerCache" "cache" "[Ljava/lang/Integer;" (.ref (D.2.2.2 11)) A U H ∧ va_T (.object "java/lang/Integer") (D.2.2.2 11) 256 (fun j => .ref (D.2.2.2 (1000 + j))) A U H ∧ va_Z "java/lang/Integer$IntegerCache" "high" "I" (.int 127) A U H ∧
  va_Mi "[Ljava/lang/Object;" (D.2.2.2 50) U ∧ va_Dc U ∧ (∀ w ∈ sw_wF, va_Nw w U) ∧ (∀ w ∈ sw_wM, va_Nw w U) ∧ (∀ w ∈ sw_wC, va_Nw w U) ∧ (∀ q ∈ sw_wI, va_Fw q.1 q.2.1 q.2.2 U) ∧ va_AO "java/lang/Object" U ∧ va_AO "SpillslotWorksModel$Life" U ∧ (Cond.arrayOver (.array .boolean)).before #[] U = true ∧
  vx_Zq Bundle.tN "UNASSIGNED_STACK" Bundle.steD A U H ∧ vx_Zq Bundle.tN "SUPPRESSED_SENTINEL" Bundle.listD A U H ∧ l.stackTraces = false
/-- the locals -/
def sw_lv (ls : Array Slot) (nL : Nat) (L : sw_L) : Prop := ls.size = nL ∧ lv_wf ls ∧ ∀ (k : Nat) (v : Value), sw_gl L k = some v → ls[k]? = some (.val v)
def sw_J (p : Program) (l : Launch) (e : Env) (R : Room) (s : State) (m : MethodId) (args : Array Value) (below : List Frame) (meth : Method) (c : Code) (Q : State → Prop) (D : sw_D) (A : Nat → Prop) (nL N0 K0 : Nat) (pc : Nat) (L : sw_L) (st : List Value) (P : sw_P) : Prop :=
  N0 ≤ sw_nx P → K0 ≤ sw_sl P → ∀ (ls : Array Slot) (H : Heap) (locs : List Loc), sw_lv ls nL L → sw_HP D A P H → va_S A s.heap H locs → W p l e R s m args below meth c H locs (sw_nx P - N0) (sw_sl P - K0) Q (F0 m pc ls st)
def sw_X (p : Program) (l : Launch) (e : Env) (R : Room) (s : State) (m : MethodId) (args : Array Value) (below : List Frame) (meth : Method) (c : Code) (D : sw_D) (A : Nat → Prop) (own : String) (cc : ByteArray) (nL : Nat) (ret : Option FieldType) (N0 K0 NE KE d : Nat) : Prop :=
  p.tables.exec = Jvm.exec ∧ c.code = cc ∧ c.maxLocals = nL ∧ s.vm.findClass own = some m.cls ∧ (∀ w ∈ lw_all, w.before args s = true) ∧ meth.sig.returnType = ret ∧ meth.locks = false ∧ sw_ST l D A s s.heap ∧ (∀ q, s.heap.size ≤ q → A q) ∧ R.cells = NE - N0 ∧ R.slots = KE - K0 ∧ d + 9 ≤ R.frames ∧ 48 * d + 448 ≤ R.locals
def sw_out (x : sw_N) : sw_P := match x with
  | .inl s => s.2.2
  | .inr (.inl (_, s)) => s.2.2
  | .inr (.inr o) => o.2
def sw_mo (P P' : sw_P) : Prop := sw_nx P ≤ sw_nx P' ∧ sw_sl P ≤ sw_sl P'
theorem sw_mo.rf (P : sw_P) : sw_mo P P := ⟨Nat.le_refl _, Nat.le_refl _⟩
theorem sw_mo.tr {P P' P'' : sw_P} (h : sw_mo P P') (h' : sw_mo P' P'') : sw_mo P P'' := ⟨Nat.le_trans h.1 h'.1, Nat.le_trans h.2 h'.2⟩
def sw_post (J : Nat → sw_L → List Value → sw_P → Prop) (bpc : Nat → Nat) (rf : sw_R) (pc' : Nat) (x : sw_N) : Prop := match x with
  | .inl s => J pc' s.1 s.2.1 s.2.2
  | .inr (.inl (n, s)) => J (bpc n) s.1 s.2.1 s.2.2
  | .inr (.inr o) => o = rf
/-- an instruction of the small machine stands for the JVM's from pc to pc' -/
def sw_Sd (J : Nat → sw_L → List Value → sw_P → Prop) (cf : sw_F) (bpc : Nat → Nat) (NE KE : Nat) (rf : sw_R) (i : sw_I) (pc pc' : Nat) : Prop := ∀ (L : sw_L) (st : List Value) (P : sw_P) (x : sw_N), i cf (L, st, P) = some x → sw_mo P (sw_out x) ∧ (sw_nx (sw_out x) ≤ NE → sw_sl (sw_out x) ≤ KE → sw_post J bpc rf pc' x → J pc L st P)
/-- a piece of code stands for the JVM's from pc on -/
def sw_Gd (J : Nat → sw_L → List Value → sw_P → Prop) (cf : sw_F) (bpc : Nat → Nat) (NE KE : Nat) (rf : sw_R) : List sw_I → Nat → Prop
  | [], _ => True
  | i :: r, pc => ∃ pc', sw_Sd J cf bpc NE KE rf i pc pc' ∧ sw_Gd J cf bpc NE KE rf r pc'
theorem sw_sound {J : Nat → sw_L → List Value → sw_P → Prop} {cf : sw_F} {B : sw_B} {bpc : Nat → Nat} {NE KE : Nat} {rf : sw_R} (hB : ∀ n, sw_Gd J cf bpc NE KE rf (B n) (bpc n)) (hN : sw_nx rf.2 = NE) (hK : sw_sl rf.2 = KE) :
    ∀ (n : Nat) (code : List sw_I) (pc : Nat) (L : sw_L) (st : List Value) (P : sw_P), sw_Gd J cf bpc NE KE rf code pc → sw_run cf B n (code, L, st, P) = some rf → sw_mo P rf.2 ∧ J pc L st P := by
  intro n
  induction n with
  | zero => intro code pc L st P _ h; cases h
  | succ n ih =>
    intro code pc L st P hg h
    cases code with
    | nil => rw [sw_run, sw_go] at h; cases h
    | cons i r =>
      obtain ⟨pc', hs, hr⟩ := hg
      rw [sw_run, sw_go] at h
      cases hx : i cf (L, st, P) with
      | none => rw [hx] at h; cases h
      | some x =>
        rw [hx] at h
        obtain ⟨h1, h2⟩ := hs L st P x hx
        rcases x with ⟨L', st', P'⟩ | ⟨k, L', st', P'⟩ | o
        · obtain ⟨h3, h4⟩ := ih r pc' L' st' P' hr h
          exact ⟨h1.tr h3, h2 (by rw [← hN]; exact h3.1) (by rw [← hK]; exact h3.2) h4⟩
        · obtain ⟨h3, h4⟩ := ih (B k) (bpc k) L' st' P' (hB k) h
          exact ⟨h1.tr h3, h2 (by rw [← hN]; exact h3.1) (by rw [← hK]; exact h3.2) h4⟩
        · have e : o = rf := Option.some.inj h
          subst e
          exact ⟨h1, h2 (Nat.le_of_eq hN) (Nat.le_of_eq hK) rfl⟩
/-! locals -/
theorem sw_gl_len {L : sw_L} {k : Nat} {v : Value} (h : sw_gl L k = some v) : k < L.length := by
  induction L generalizing k with
  | nil => cases h
  | cons x L ih =>
    cases k with
    | zero => simp
    | succ k => have := ih (k := k) h; simp; omega
theorem sw_gl_sl1 (L : sw_L) (i : Nat) (v : Value) (k : Nat) (w : Value) (h : sw_gl (sw_sl1 L i v) k = some w) : (k = i ∧ w = v) ∨ (k ≠ i ∧ sw_gl L k = some w ∧ (k + 1 = i → w.category ≠ 2)) := by
  induction L generalizing i k with
  | nil => cases h
  | cons x L ih =>
    cases i with
    | zero =>
      cases k with
      | zero => left; refine ⟨rfl, ?_⟩; have : some v = some w := h; cases this; rfl
      | succ k => right; exact ⟨by omega, h, by omega⟩
    | succ i =>
      cases k with
      | zero =>
        have h' : (if i = 0 then sw_fx x else x) = some w := h
        by_cases hi : i = 0
        · subst hi
          rw [if_pos rfl] at h'
          cases x with
          | none => cases h'
          | some y =>
            by_cases hc : y.category = 2
            · simp [sw_fx, hc] at h'
            · simp only [sw_fx, hc, if_false, Option.some.injEq] at h'
              subst h'
              right
              exact ⟨by omega, rfl, fun _ => hc⟩
        · rw [if_neg hi] at h'
          right
          exact ⟨by omega, h', by omega⟩
      | succ k =>
        rcases ih i k h with ⟨a, b⟩ | ⟨a, b, c⟩
        · left; exact ⟨by omega, b⟩
        · right; exact ⟨by omega, b, fun q => c (by omega)⟩
theorem sw_gl_no (L : sw_L) (i k : Nat) (w : Value) (h : sw_gl (sw_no L i) k = some w) : k ≠ i ∧ sw_gl L k = some w := by
  induction L generalizing i k with
  | nil => cases h
  | cons x L ih =>
    cases i with
    | zero =>
      cases k with
      | zero => cases h
      | succ k => exact ⟨by omega, h⟩
    | succ i =>
      cases k with
      | zero => exact ⟨by omega, h⟩
      | succ k => obtain ⟨a, b⟩ := ih i k h; exact ⟨by omega, b⟩
theorem sw_gl_mk (bs : List Bool) (L : sw_L) (k : Nat) (w : Value) (h : sw_gl (sw_mk bs L) k = some w) : sw_gl L k = some w := by
  induction bs generalizing L k with
  | nil => simp [sw_mk, sw_gl] at h
  | cons b bs ih =>
    cases L with
    | nil => simp [sw_mk, sw_gl] at h
    | cons x L =>
      cases k with
      | zero =>
        have h' : (if b = true then x else none) = some w := h
        cases b
        · cases h'
        · exact h'
      | succ k => exact ih L k h
def sw_as (L : sw_L) : List (Nat × Value) := (List.range L.length).filterMap fun k => (sw_gl L k).map fun v => (k, v)
theorem sw_as_mem {L : sw_L} {q : Nat × Value} : q ∈ sw_as L ↔ sw_gl L q.1 = some q.2 := by
  unfold sw_as
  rw [List.mem_filterMap]
  constructor
  · rintro ⟨k, -, h⟩
    cases hg : sw_gl L k with
    | none => rw [hg] at h; cases h
    | some v => rw [hg] at h; cases h; exact hg
  · intro h
    exact ⟨q.1, List.mem_range.mpr (sw_gl_len h), by rw [h]; rfl⟩
theorem sw_lv.has {ls : Array Slot} {nL : Nat} {L : sw_L} (h : sw_lv ls nL L) : lv_has ls nL (sw_as L) := ⟨h.1, h.2.1, fun q hq => h.2.2 q.1 q.2 (sw_as_mem.mp hq)⟩
theorem sw_lv.mask {ls : Array Slot} {nL : Nat} {L : sw_L} (h : sw_lv ls nL L) (bs : List Bool) : sw_lv ls nL (sw_mk bs L) := ⟨h.1, h.2.1, fun k v hk => h.2.2 k v (sw_gl_mk bs L k v hk)⟩
theorem sw_lv.st1 {ls' : Array Slot} {nL i : Nat} {L : sw_L} {v : Value} (h : lv_has ls' nL ((i, v) :: (sw_as L).filter (fun q => !(q.1 == i) && !(q.1 + 1 == i && q.2.category == 2)))) : sw_lv ls' nL (sw_sl1 L i v) := by
  refine ⟨h.1, h.2.1, fun k w hk => h.2.2 (k, w) ?_⟩
  rcases sw_gl_sl1 L i v k w hk with ⟨rfl, rfl⟩ | ⟨h1, h2, h3⟩
  · exact List.mem_cons_self
  · refine List.mem_cons_of_mem _ (List.mem_filter.mpr ⟨sw_as_mem.mpr h2, ?_⟩)
    simp only [Bool.and_eq_true, Bool.not_eq_true', beq_eq_false_iff_ne, ne_eq, Bool.and_eq_false_iff]
    refine ⟨h1, ?_⟩
    by_cases z : k + 1 = i
    · exact Or.inr (h3 z)
    · exact Or.inl z
theorem sw_lv.st2 {ls' : Array Slot} {nL i : Nat} {L : sw_L} {v : Value} (h : lv_has ls' nL ((i, v) :: (sw_as L).filter (fun q => !(q.1 == i) && (!(q.1 == i + 1) && !(q.1 + 1 == i && q.2.category == 2))))) : sw_lv ls' nL (sw_no (sw_sl1 L i v) (i + 1)) := by
  refine ⟨h.1, h.2.1, fun k w hk => h.2.2 (k, w) ?_⟩
  obtain ⟨h0, hk⟩ := sw_gl_no _ _ _ _ hk
  rcases sw_gl_sl1 L i v k w hk with ⟨rfl, rfl⟩ | ⟨h1, h2, h3⟩
  · exact List.mem_cons_self
  · refine List.mem_cons_of_mem _ (List.mem_filter.mpr ⟨sw_as_mem.mpr h2, ?_⟩)
    simp only [Bool.and_eq_true, Bool.not_eq_true', beq_eq_false_iff_ne, ne_eq, Bool.and_eq_false_iff]
    refine ⟨h1, h0, ?_⟩
    by_cases z : k + 1 = i
    · exact Or.inr (h3 z)
    · exact Or.inl z
section SWR
variable {p : Program} {l : Launch} {e : Env} {R : Room} {s : State} {m : MethodId} {args : Array Value} {below : List Frame} {meth : Method} {c : Code} {Q : State → Prop} {D : sw_D} {A : Nat → Prop} {nL N0 K0 NE KE d : Nat} {cf : sw_F} {bpc : Nat → Nat} {rf : sw_R} {own : String} {cc : ByteArray} {ret : Option FieldType} {pc : Nat}
theorem Sd_iconst (hX : sw_X p l e R s m args below meth c D A own cc nL ret N0 K0 NE KE d) {n : Int} {v : Int32} (hd : decode cc pc = .ok (.iconst n, 1)) (hv : Int32.ofInt n = v) : sw_Sd (sw_J p l e R s m args below meth c Q D A nL N0 K0) cf bpc NE KE rf (sw_push (.int v)) pc (pc + 1) := by
  intro L st P x hx
  cases hx
  refine ⟨sw_mo.rf _, fun _ _ hk h1 h2 ls H locs hl hP hS => ?_⟩
  exact lv_iconst hX.1 hX.2.1 hd hv (hk h1 h2 ls H locs hl hP hS)
theorem Sd_bipush (hX : sw_X p l e R s m args below meth c D A own cc nL ret N0 K0 NE KE d) {n : Int} {v : Int32} (hd : decode cc pc = .ok (.bipush n, 2)) (hv : (Int8.ofInt n).toInt32 = v) : sw_Sd (sw_J p l e R s m args below meth c Q D A nL N0 K0) cf bpc NE KE rf (sw_push (.int v)) pc (pc + 2) := by
  intro L st P x hx
  cases hx
  refine ⟨sw_mo.rf _, fun _ _ hk h1 h2 ls H locs hl hP hS => ?_⟩
  exact lv_bipush hX.1 hX.2.1 hd hv (hk h1 h2 ls H locs hl hP hS)
theorem Sd_sipush (hX : sw_X p l e R s m args below meth c D A own cc nL ret N0 K0 NE KE d) {n : Int} {v : Int32} (hd : decode cc pc = .ok (.sipush n, 3)) (hv : (Int16.ofInt n).toInt32 = v) : sw_Sd (sw_J p l e R s m args below meth c Q D A nL N0 K0) cf bpc NE KE rf (sw_push (.int v)) pc (pc + 3) := by
  intro L st P x hx
  cases hx
  refine ⟨sw_mo.rf _, fun _ _ hk h1 h2 ls H locs hl hP hS => ?_⟩
  exact lv_sipush hX.1 hX.2.1 hd hv (hk h1 h2 ls H locs hl hP hS)
theorem Sd_ldc (hX : sw_X p l e R s m args below meth c D A own cc nL ret N0 K0 NE KE d) {i : Nat} {v : Int32} (hd : decode cc pc = .ok (.ldc i, 2)) (hw : Cond.constant own i v ∈ lw_all) : sw_Sd (sw_J p l e R s m args below meth c Q D A nL N0 K0) cf bpc NE KE rf (sw_push (.int v)) pc (pc + 2) := by
  intro L st P x hx
  cases hx
  refine ⟨sw_mo.rf _, fun _ _ hk h1 h2 ls H locs hl hP hS => ?_⟩
  exact lv_ldc hX.1 hX.2.1 hX.2.2.2.1 (hX.2.2.2.2.1 _ hw) hd (hk h1 h2 ls H locs hl hP hS)
theorem Sd_ldc2 (hX : sw_X p l e R s m args below meth c D A own cc nL ret N0 K0 NE KE d) {i : Nat} {v : Int64} (hd : decode cc pc = .ok (.ldc2_w i, 3)) (hw : Cond.constantLong own i v ∈ lw_all) : sw_Sd (sw_J p l e R s m args below meth c Q D A nL N0 K0) cf bpc NE KE rf (sw_push (.long v)) pc (pc + 3) := by
  intro L st P x hx
  cases hx
  refine ⟨sw_mo.rf _, fun _ _ hk h1 h2 ls H locs hl hP hS => ?_⟩
  exact lv_ldc2 hX.1 hX.2.1 hX.2.2.2.1 (hX.2.2.2.2.1 _ hw) hd (hk h1 h2 ls H locs hl hP hS)
theorem Sd_null (hX : sw_X p l e R s m args below meth c D A own cc nL ret N0 K0 NE KE d) (hd : decode cc pc = .ok (.aconst_null, 1)) : sw_Sd (sw_J p l e R s m args below meth c Q D A nL N0 K0) cf bpc NE KE rf (sw_push (.null)) pc (pc + 1) := by
  intro L st P x hx
  cases hx
  refine ⟨sw_mo.rf _, fun _ _ hk h1 h2 ls H locs hl hP hS => ?_⟩
  exact lv_null hX.1 hX.2.1 hd (hk h1 h2 ls H locs hl hP hS)
theorem Sd_dconst0 (hX : sw_X p l e R s m args below meth c D A own cc nL ret N0 K0 NE KE d) (hd : decode cc pc = .ok (.dconst 0, 1)) : sw_Sd (sw_J p l e R s m args below meth c Q D A nL N0 K0) cf bpc NE KE rf (sw_push (.double FP.dconst0)) pc (pc + 1) := by
  intro L st P x hx
  cases hx
  refine ⟨sw_mo.rf _, fun _ _ hk h1 h2 ls H locs hl hP hS => ?_⟩
  exact lv_dconst0 hX.1 hX.2.1 hd (hk h1 h2 ls H locs hl hP hS)
theorem Sd_iload_n (hX : sw_X p l e R s m args below meth c D A own cc nL ret N0 K0 NE KE d) {k : Fin 4} {i : Nat} (hd : decode cc pc = .ok (.iload_n k, 1)) (hi : (k : Nat) = i) : sw_Sd (sw_J p l e R s m args below meth c Q D A nL N0 K0) cf bpc NE KE rf (sw_ld 0 i) pc (pc + 1) := by
  intro L st P x hx
  simp only [sw_ld] at hx
  split at hx
  · rename_i v hv
    split at hx
    · rename_i hf
      cases hx
      refine ⟨sw_mo.rf _, fun _ _ hk h1 h2 ls H locs hl hP hS => ?_⟩
      have hlv := hl.2.2 i v hv
      have hkk := hk h1 h2 ls H locs hl hP hS
      cases v with
      | int y => exact lv_iload_n hX.1 hX.2.1 hd hi hlv hkk
      | long y => cases hf
      | float y => cases hf
      | double y => cases hf
      | null  => cases hf
      | ref y => cases hf
      | retAddr y => cases hf
    · cases hx
  · cases hx
theorem Sd_iload (hX : sw_X p l e R s m args below meth c D A own cc nL ret N0 K0 NE KE d) {i : Nat} (hd : decode cc pc = .ok (.iload i, 2)) : sw_Sd (sw_J p l e R s m args below meth c Q D A nL N0 K0) cf bpc NE KE rf (sw_ld 0 i) pc (pc + 2) := by
  intro L st P x hx
  simp only [sw_ld] at hx
  split at hx
  · rename_i v hv
    split at hx
    · rename_i hf
      cases hx
      refine ⟨sw_mo.rf _, fun _ _ hk h1 h2 ls H locs hl hP hS => ?_⟩
      have hlv := hl.2.2 i v hv
      have hkk := hk h1 h2 ls H locs hl hP hS
      cases v with
      | int y => exact lv_iload hX.1 hX.2.1 hd hlv hkk
      | long y => cases hf
      | float y => cases hf
      | double y => cases hf
      | null  => cases hf
      | ref y => cases hf
      | retAddr y => cases hf
    · cases hx
  · cases hx
theorem Sd_lload_n (hX : sw_X p l e R s m args below meth c D A own cc nL ret N0 K0 NE KE d) {k : Fin 4} {i : Nat} (hd : decode cc pc = .ok (.lload_n k, 1)) (hi : (k : Nat) = i) : sw_Sd (sw_J p l e R s m args below meth c Q D A nL N0 K0) cf bpc NE KE rf (sw_ld 3 i) pc (pc + 1) := by
  intro L st P x hx
  simp only [sw_ld] at hx
  split at hx
  · rename_i v hv
    split at hx
    · rename_i hf
      cases hx
      refine ⟨sw_mo.rf _, fun _ _ hk h1 h2 ls H locs hl hP hS => ?_⟩
      have hlv := hl.2.2 i v hv
      have hkk := hk h1 h2 ls H locs hl hP hS
      cases v with
      | int y => cases hf
      | long y => exact lv_lload_n hX.1 hX.2.1 hd hi hlv hkk
      | float y => cases hf
      | double y => cases hf
      | null  => cases hf
      | ref y => cases hf
      | retAddr y => cases hf
    · cases hx
  · cases hx
theorem Sd_lload (hX : sw_X p l e R s m args below meth c D A own cc nL ret N0 K0 NE KE d) {i : Nat} (hd : decode cc pc = .ok (.lload i, 2)) : sw_Sd (sw_J p l e R s m args below meth c Q D A nL N0 K0) cf bpc NE KE rf (sw_ld 3 i) pc (pc + 2) := by
  intro L st P x hx
  simp only [sw_ld] at hx
  split at hx
  · rename_i v hv
    split at hx
    · rename_i hf
      cases hx
      refine ⟨sw_mo.rf _, fun _ _ hk h1 h2 ls H locs hl hP hS => ?_⟩
      have hlv := hl.2.2 i v hv
      have hkk := hk h1 h2 ls H locs hl hP hS
      cases v with
      | int y => cases hf
      | long y => exact lv_lload hX.1 hX.2.1 hd hlv hkk
      | float y => cases hf
      | double y => cases hf
      | null  => cases hf
      | ref y => cases hf
      | retAddr y => cases hf
    · cases hx
  · cases hx
theorem Sd_dload_n (hX : sw_X p l e R s m args below meth c D A own cc nL ret N0 K0 NE KE d) {k : Fin 4} {i : Nat} (hd : decode cc pc = .ok (.dload_n k, 1)) (hi : (k : Nat) = i) : sw_Sd (sw_J p l e R s m args below meth c Q D A nL N0 K0) cf bpc NE KE rf (sw_ld 4 i) pc (pc + 1) := by
  intro L st P x hx
  simp only [sw_ld] at hx
  split at hx
  · rename_i v hv
    split at hx
    · rename_i hf
      cases hx
      refine ⟨sw_mo.rf _, fun _ _ hk h1 h2 ls H locs hl hP hS => ?_⟩
      have hlv := hl.2.2 i v hv
      have hkk := hk h1 h2 ls H locs hl hP hS
      cases v with
      | int y => cases hf
      | long y => cases hf
      | float y => cases hf
      | double y => exact lv_dload_n hX.1 hX.2.1 hd hi hlv hkk
      | null  => cases hf
      | ref y => cases hf
      | retAddr y => cases hf
    · cases hx
  · cases hx
theorem Sd_dload (hX : sw_X p l e R s m args below meth c D A own cc nL ret N0 K0 NE KE d) {i : Nat} (hd : decode cc pc = .ok (.dload i, 2)) : sw_Sd (sw_J p l e R s m args below meth c Q D A nL N0 K0) cf bpc NE KE rf (sw_ld 4 i) pc (pc + 2) := by
  intro L st P x hx
  simp only [sw_ld] at hx
  split at hx
  · rename_i v hv
    split at hx
    · rename_i hf
      cases hx
      refine ⟨sw_mo.rf _, fun _ _ hk h1 h2 ls H locs hl hP hS => ?_⟩
      have hlv := hl.2.2 i v hv
      have hkk := hk h1 h2 ls H locs hl hP hS
      cases v with
      | int y => cases hf
      | long y => cases hf
      | float y => cases hf
      | double y => exact lv_dload hX.1 hX.2.1 hd hlv hkk
      | null  => cases hf
      | ref y => cases hf
      | retAddr y => cases hf
    · cases hx
  · cases hx
theorem Sd_aload_n (hX : sw_X p l e R s m args below meth c D A own cc nL ret N0 K0 NE KE d) {k : Fin 4} {i : Nat} (hd : decode cc pc = .ok (.aload_n k, 1)) (hi : (k : Nat) = i) : sw_Sd (sw_J p l e R s m args below meth c Q D A nL N0 K0) cf bpc NE KE rf (sw_ld 2 i) pc (pc + 1) := by
  intro L st P x hx
  simp only [sw_ld] at hx
  split at hx
  · rename_i v hv
    split at hx
    · rename_i hf
      cases hx
      refine ⟨sw_mo.rf _, fun _ _ hk h1 h2 ls H locs hl hP hS => ?_⟩
      have hlv := hl.2.2 i v hv
      have hkk := hk h1 h2 ls H locs hl hP hS
      cases v with
      | int y => cases hf
      | long y => cases hf
      | float y => cases hf
      | double y => cases hf
      | null  => exact lv_aload_nN hX.1 hX.2.1 hd hi hlv hkk
      | ref y => exact lv_aload_n hX.1 hX.2.1 hd hi hlv hkk
      | retAddr y => cases hf
    · cases hx
  · cases hx
theorem Sd_aload (hX : sw_X p l e R s m args below meth c D A own cc nL ret N0 K0 NE KE d) {i : Nat} (hd : decode cc pc = .ok (.aload i, 2)) : sw_Sd (sw_J p l e R s m args below meth c Q D A nL N0 K0) cf bpc NE KE rf (sw_ld 2 i) pc (pc + 2) := by
  intro L st P x hx
  simp only [sw_ld] at hx
  split at hx
  · rename_i v hv
    split at hx
    · rename_i hf
      cases hx
      refine ⟨sw_mo.rf _, fun _ _ hk h1 h2 ls H locs hl hP hS => ?_⟩
      have hlv := hl.2.2 i v hv
      have hkk := hk h1 h2 ls H locs hl hP hS
      cases v with
      | int y => cases hf
      | long y => cases hf
      | float y => cases hf
      | double y => cases hf
      | null  => exact lv_aloadN hX.1 hX.2.1 hd hlv hkk
      | ref y => exact lv_aload hX.1 hX.2.1 hd hlv hkk
      | retAddr y => cases hf
    · cases hx
  · cases hx
theorem Sd_istore_n (hX : sw_X p l e R s m args below meth c D A own cc nL ret N0 K0 NE KE d) {k : Fin 4} {i : Nat} (hd : decode cc pc = .ok (.istore_n k, 1)) (hi : (k : Nat) = i) (hn : i < nL) : sw_Sd (sw_J p l e R s m args below meth c Q D A nL N0 K0) cf bpc NE KE rf (sw_sti i) pc (pc + 1) := by
  intro L st P x hx
  simp only [sw_sti] at hx
  split at hx
  · rename_i heq
    cases heq
    cases hx
    refine ⟨sw_mo.rf _, fun _ _ hk h1 h2 ls H locs hl hP hS => ?_⟩
    exact lv_istore_n hX.1 hX.2.1 hd hi hl.has hn rfl (fun ls' hl' => hk h1 h2 ls' H locs (sw_lv.st1 hl') hP hS)
  · cases hx
theorem Sd_istore (hX : sw_X p l e R s m args below meth c D A own cc nL ret N0 K0 NE KE d) {i : Nat} (hd : decode cc pc = .ok (.istore i, 2)) (hn : i < nL) : sw_Sd (sw_J p l e R s m args below meth c Q D A nL N0 K0) cf bpc NE KE rf (sw_sti i) pc (pc + 2) := by
  intro L st P x hx
  simp only [sw_sti] at hx
  split at hx
  · rename_i heq
    cases heq
    cases hx
    refine ⟨sw_mo.rf _, fun _ _ hk h1 h2 ls H locs hl hP hS => ?_⟩
    exact lv_istore hX.1 hX.2.1 hd hl.has hn rfl (fun ls' hl' => hk h1 h2 ls' H locs (sw_lv.st1 hl') hP hS)
  · cases hx
theorem Sd_astore_n (hX : sw_X p l e R s m args below meth c D A own cc nL ret N0 K0 NE KE d) {k : Fin 4} {i : Nat} (hd : decode cc pc = .ok (.astore_n k, 1)) (hi : (k : Nat) = i) (hn : i < nL) : sw_Sd (sw_J p l e R s m args below meth c Q D A nL N0 K0) cf bpc NE KE rf (sw_sta i) pc (pc + 1) := by
  intro L st P x hx
  simp only [sw_sta] at hx
  split at hx
  · rename_i heq
    cases heq
    cases hx
    refine ⟨sw_mo.rf _, fun _ _ hk h1 h2 ls H locs hl hP hS => ?_⟩
    exact lv_astore_n hX.1 hX.2.1 hd hi hl.has hn rfl (fun ls' hl' => hk h1 h2 ls' H locs (sw_lv.st1 hl') hP hS)
  · rename_i heq
    cases heq
    cases hx
    refine ⟨sw_mo.rf _, fun _ _ hk h1 h2 ls H locs hl hP hS => ?_⟩
    exact lv_astore_nN hX.1 hX.2.1 hd hi hl.has hn rfl (fun ls' hl' => hk h1 h2 ls' H locs (sw_lv.st1 hl') hP hS)
  · cases hx
theorem Sd_astore (hX : sw_X p l e R s m args below meth c D A own cc nL ret N0 K0 NE KE d) {i : Nat} (hd : decode cc pc = .ok (.astore i, 2)) (hn : i < nL) : sw_Sd (sw_J p l e R s m args below meth c Q D A nL N0 K0) cf bpc NE KE rf (sw_sta i) pc (pc + 2) := by
  intro L st P x hx
  simp only [sw_sta] at hx
  split at hx
  · rename_i heq
    cases heq
    cases hx
    refine ⟨sw_mo.rf _, fun _ _ hk h1 h2 ls H locs hl hP hS => ?_⟩
    exact lv_astore hX.1 hX.2.1 hd hl.has hn rfl (fun ls' hl' => hk h1 h2 ls' H locs (sw_lv.st1 hl') hP hS)
  · rename_i heq
    cases heq
    cases hx
    refine ⟨sw_mo.rf _, fun _ _ hk h1 h2 ls H locs hl hP hS => ?_⟩
    exact lv_astoreN hX.1 hX.2.1 hd hl.has hn rfl (fun ls' hl' => hk h1 h2 ls' H locs (sw_lv.st1 hl') hP hS)
  · cases hx
theorem Sd_lstore_n (hX : sw_X p l e R s m args below meth c D A own cc nL ret N0 K0 NE KE d) {k : Fin 4} {i : Nat} (hd : decode cc pc = .ok (.lstore_n k, 1)) (hi : (k : Nat) = i) (hn : i + 1 < nL) : sw_Sd (sw_J p l e R s m args below meth c Q D A nL N0 K0) cf bpc NE KE rf (sw_stl i) pc (pc + 1) := by
  intro L st P x hx
  simp only [sw_stl] at hx
  split at hx
  · rename_i heq
    cases heq
    cases hx
    refine ⟨sw_mo.rf _, fun _ _ hk h1 h2 ls H locs hl hP hS => ?_⟩
    exact lv_lstore_n hX.1 hX.2.1 hd hi hl.has hn rfl (fun ls' hl' => hk h1 h2 ls' H locs (sw_lv.st2 hl') hP hS)
  · cases hx
theorem Sd_lstore (hX : sw_X p l e R s m args below meth c D A own cc nL ret N0 K0 NE KE d) {i : Nat} (hd : decode cc pc = .ok (.lstore i, 2)) (hn : i + 1 < nL) : sw_Sd (sw_J p l e R s m args below meth c Q D A nL N0 K0) cf bpc NE KE rf (sw_stl i) pc (pc + 2) := by
  intro L st P x hx
  simp only [sw_stl] at hx
  split at hx
  · rename_i heq
    cases heq
    cases hx
    refine ⟨sw_mo.rf _, fun _ _ hk h1 h2 ls H locs hl hP hS => ?_⟩
    exact lv_lstore hX.1 hX.2.1 hd hl.has hn rfl (fun ls' hl' => hk h1 h2 ls' H locs (sw_lv.st2 hl') hP hS)
  · cases hx
theorem Sd_dstore (hX : sw_X p l e R s m args below meth c D A own cc nL ret N0 K0 NE KE d) {i : Nat} (hd : decode cc pc = .ok (.dstore i, 2)) (hn : i + 1 < nL) : sw_Sd (sw_J p l e R s m args below meth c Q D A nL N0 K0) cf bpc NE KE rf (sw_std i) pc (pc + 2) := by
  intro L st P x hx
  simp only [sw_std] at hx
  split at hx
  · rename_i heq
    cases heq
    cases hx
    refine ⟨sw_mo.rf _, fun _ _ hk h1 h2 ls H locs hl hP hS => ?_⟩
    exact lv_dstore hX.1 hX.2.1 hd hl.has hn rfl (fun ls' hl' => hk h1 h2 ls' H locs (sw_lv.st2 hl') hP hS)
  · cases hx
theorem Sd_dstore_n (hX : sw_X p l e R s m args below meth c D A own cc nL ret N0 K0 NE KE d) {k : Fin 4} {i : Nat} (hd : decode cc pc = .ok (.dstore_n k, 1)) (hi : (k : Nat) = i) (hn : i + 1 < nL) : sw_Sd (sw_J p l e R s m args below meth c Q D A nL N0 K0) cf bpc NE KE rf (sw_std i) pc (pc + 1) := by
  intro L st P x hx
  simp only [sw_std] at hx
  split at hx
  · rename_i heq
    cases heq
    cases hx
    refine ⟨sw_mo.rf _, fun _ _ hk h1 h2 ls H locs hl hP hS => ?_⟩
    exact lv_dstore_n hX.1 hX.2.1 hd hi hl.has hn rfl (fun ls' hl' => hk h1 h2 ls' H locs (sw_lv.st2 hl') hP hS)
  · cases hx
theorem Sd_iinc (hX : sw_X p l e R s m args below meth c D A own cc nL ret N0 K0 NE KE d) {i : Nat} {n : Int} {v : Int32} (hd : decode cc pc = .ok (.iinc i n, 3)) (hv : Int32.ofInt n = v) (hn : i < nL) : sw_Sd (sw_J p l e R s m args below meth c Q D A nL N0 K0) cf bpc NE KE rf (sw_inc i v) pc (pc + 3) := by
  intro L st P x hx
  simp only [sw_inc] at hx
  split at hx
  · rename_i y hy
    cases hx
    refine ⟨sw_mo.rf _, fun _ _ hk h1 h2 ls H locs hl hP hS => ?_⟩
    have hh : lv_has ls nL ((i, .int y) :: sw_as L) := ⟨hl.1, hl.2.1, fun q hq => by
      rcases List.mem_cons.mp hq with rfl | hq
      · exact hl.2.2 _ _ hy
      · exact hl.has.2.2 q hq⟩
    refine lv_iinc (k := 0) (v := y + v) hX.1 hX.2.1 hd hh rfl (by rw [hv]) hn rfl (fun ls' hl' => hk h1 h2 ls' H locs (sw_lv.st1 ⟨hl'.1, hl'.2.1, fun q hq => hl'.2.2 q ?_⟩) hP hS)
    rcases List.mem_cons.mp hq with rfl | hq
    · exact List.mem_cons_self
    · obtain ⟨z1, z2⟩ := List.mem_filter.mp hq
      exact List.mem_cons_of_mem _ (List.mem_filter.mpr ⟨List.mem_cons_of_mem _ z1, z2⟩)
  · cases hx
theorem Sd_pop (hX : sw_X p l e R s m args below meth c D A own cc nL ret N0 K0 NE KE d) (hd : decode cc pc = .ok (.pop, 1)) : sw_Sd (sw_J p l e R s m args below meth c Q D A nL N0 K0) cf bpc NE KE rf (sw_pop) pc (pc + 1) := by
  intro L st P x hx
  simp only [sw_pop] at hx
  split at hx
  · rename_i heq
    cases heq
    split at hx
    · rename_i hc
      cases hx
      refine ⟨sw_mo.rf _, fun _ _ hk h1 h2 ls H locs hl hP hS => ?_⟩
      exact lv_pop hX.1 hX.2.1 hd hc (hk h1 h2 ls H locs hl hP hS)
    · cases hx
  · cases hx
theorem Sd_dup (hX : sw_X p l e R s m args below meth c D A own cc nL ret N0 K0 NE KE d) (hd : decode cc pc = .ok (.dup, 1)) : sw_Sd (sw_J p l e R s m args below meth c Q D A nL N0 K0) cf bpc NE KE rf (sw_dup) pc (pc + 1) := by
  intro L st P x hx
  simp only [sw_dup] at hx
  split at hx
  · rename_i heq
    cases heq
    split at hx
    · rename_i hc
      cases hx
      refine ⟨sw_mo.rf _, fun _ _ hk h1 h2 ls H locs hl hP hS => ?_⟩
      exact lv_dup hX.1 hX.2.1 hd hc (hk h1 h2 ls H locs hl hP hS)
    · cases hx
  · cases hx
theorem Sd_dup_x1 (hX : sw_X p l e R s m args below meth c D A own cc nL ret N0 K0 NE KE d) (hd : decode cc pc = .ok (.dup_x1, 1)) : sw_Sd (sw_J p l e R s m args below meth c Q D A nL N0 K0) cf bpc NE KE rf (sw_dx1) pc (pc + 1) := by
  intro L st P x hx
  simp only [sw_dx1] at hx
  split at hx
  · rename_i heq
    cases heq
    split at hx
    · rename_i hc
      cases hx
      refine ⟨sw_mo.rf _, fun _ _ hk h1 h2 ls H locs hl hP hS => ?_⟩
      exact lv_dup_x1 hX.1 hX.2.1 hd hc.1 hc.2 (hk h1 h2 ls H locs hl hP hS)
    · cases hx
  · cases hx
theorem Sd_dup2 (hX : sw_X p l e R s m args below meth c D A own cc nL ret N0 K0 NE KE d) (hd : decode cc pc = .ok (.dup2, 1)) : sw_Sd (sw_J p l e R s m args below meth c Q D A nL N0 K0) cf bpc NE KE rf (sw_du2) pc (pc + 1) := by
  intro L st P x hx
  simp only [sw_du2] at hx
  split at hx
  · rename_i heq
    cases heq
    split at hx
    · rename_i hc
      cases hx
      refine ⟨sw_mo.rf _, fun _ _ hk h1 h2 ls H locs hl hP hS => ?_⟩
      exact lv_dup2_11 hX.1 hX.2.1 hd hc.1 hc.2 (hk h1 h2 ls H locs hl hP hS)
    · cases hx
  · cases hx
theorem Sd_iadd (hX : sw_X p l e R s m args below meth c D A own cc nL ret N0 K0 NE KE d) (hd : decode cc pc = .ok (.iadd, 1)) : sw_Sd (sw_J p l e R s m args below meth c Q D A nL N0 K0) cf bpc NE KE rf (sw_ii (fun x y => x + y)) pc (pc + 1) := by
  intro L st P x hx
  simp only [sw_ii] at hx
  split at hx
  · rename_i heq
    cases heq
    cases hx
    refine ⟨sw_mo.rf _, fun _ _ hk h1 h2 ls H locs hl hP hS => ?_⟩
    exact lv_iadd hX.1 hX.2.1 hd (hk h1 h2 ls H locs hl hP hS)
  · cases hx
theorem Sd_isub (hX : sw_X p l e R s m args below meth c D A own cc nL ret N0 K0 NE KE d) (hd : decode cc pc = .ok (.isub, 1)) : sw_Sd (sw_J p l e R s m args below meth c Q D A nL N0 K0) cf bpc NE KE rf (sw_ii (fun x y => x - y)) pc (pc + 1) := by
  intro L st P x hx
  simp only [sw_ii] at hx
  split at hx
  · rename_i heq
    cases heq
    cases hx
    refine ⟨sw_mo.rf _, fun _ _ hk h1 h2 ls H locs hl hP hS => ?_⟩
    exact lv_isub hX.1 hX.2.1 hd (hk h1 h2 ls H locs hl hP hS)
  · cases hx
theorem Sd_imul (hX : sw_X p l e R s m args below meth c D A own cc nL ret N0 K0 NE KE d) (hd : decode cc pc = .ok (.imul, 1)) : sw_Sd (sw_J p l e R s m args below meth c Q D A nL N0 K0) cf bpc NE KE rf (sw_ii (fun x y => x * y)) pc (pc + 1) := by
  intro L st P x hx
  simp only [sw_ii] at hx
  split at hx
  · rename_i heq
    cases heq
    cases hx
    refine ⟨sw_mo.rf _, fun _ _ hk h1 h2 ls H locs hl hP hS => ?_⟩
    exact lv_imul hX.1 hX.2.1 hd (hk h1 h2 ls H locs hl hP hS)
  · cases hx
theorem Sd_iand (hX : sw_X p l e R s m args below meth c D A own cc nL ret N0 K0 NE KE d) (hd : decode cc pc = .ok (.iand, 1)) : sw_Sd (sw_J p l e R s m args below meth c Q D A nL N0 K0) cf bpc NE KE rf (sw_ii (fun x y => x &&& y)) pc (pc + 1) := by
  intro L st P x hx
  simp only [sw_ii] at hx
  split at hx
  · rename_i heq
    cases heq
    cases hx
    refine ⟨sw_mo.rf _, fun _ _ hk h1 h2 ls H locs hl hP hS => ?_⟩
    exact lv_iand hX.1 hX.2.1 hd (hk h1 h2 ls H locs hl hP hS)
  · cases hx
theorem Sd_ior (hX : sw_X p l e R s m args below meth c D A own cc nL ret N0 K0 NE KE d) (hd : decode cc pc = .ok (.ior, 1)) : sw_Sd (sw_J p l e R s m args below meth c Q D A nL N0 K0) cf bpc NE KE rf (sw_ii (fun x y => x ||| y)) pc (pc + 1) := by
  intro L st P x hx
  simp only [sw_ii] at hx
  split at hx
  · rename_i heq
    cases heq
    cases hx
    refine ⟨sw_mo.rf _, fun _ _ hk h1 h2 ls H locs hl hP hS => ?_⟩
    exact lv_ior hX.1 hX.2.1 hd (hk h1 h2 ls H locs hl hP hS)
  · cases hx
theorem Sd_ixor (hX : sw_X p l e R s m args below meth c D A own cc nL ret N0 K0 NE KE d) (hd : decode cc pc = .ok (.ixor, 1)) : sw_Sd (sw_J p l e R s m args below meth c Q D A nL N0 K0) cf bpc NE KE rf (sw_ii (fun x y => x ^^^ y)) pc (pc + 1) := by
  intro L st P x hx
  simp only [sw_ii] at hx
  split at hx
  · rename_i heq
    cases heq
    cases hx
    refine ⟨sw_mo.rf _, fun _ _ hk h1 h2 ls H locs hl hP hS => ?_⟩
    exact lv_ixor hX.1 hX.2.1 hd (hk h1 h2 ls H locs hl hP hS)
  · cases hx
theorem Sd_ishl (hX : sw_X p l e R s m args below meth c D A own cc nL ret N0 K0 NE KE d) (hd : decode cc pc = .ok (.ishl, 1)) : sw_Sd (sw_J p l e R s m args below meth c Q D A nL N0 K0) cf bpc NE KE rf (sw_ii (fun x y => x <<< (y &&& 31))) pc (pc + 1) := by
  intro L st P x hx
  simp only [sw_ii] at hx
  split at hx
  · rename_i heq
    cases heq
    cases hx
    refine ⟨sw_mo.rf _, fun _ _ hk h1 h2 ls H locs hl hP hS => ?_⟩
    exact lv_ishl hX.1 hX.2.1 hd (hk h1 h2 ls H locs hl hP hS)
  · cases hx
theorem Sd_ishr (hX : sw_X p l e R s m args below meth c D A own cc nL ret N0 K0 NE KE d) (hd : decode cc pc = .ok (.ishr, 1)) : sw_Sd (sw_J p l e R s m args below meth c Q D A nL N0 K0) cf bpc NE KE rf (sw_ii (fun x y => x >>> (y &&& 31))) pc (pc + 1) := by
  intro L st P x hx
  simp only [sw_ii] at hx
  split at hx
  · rename_i heq
    cases heq
    cases hx
    refine ⟨sw_mo.rf _, fun _ _ hk h1 h2 ls H locs hl hP hS => ?_⟩
    exact lv_ishr hX.1 hX.2.1 hd (hk h1 h2 ls H locs hl hP hS)
  · cases hx
theorem Sd_iushr (hX : sw_X p l e R s m args below meth c D A own cc nL ret N0 K0 NE KE d) (hd : decode cc pc = .ok (.iushr, 1)) : sw_Sd (sw_J p l e R s m args below meth c Q D A nL N0 K0) cf bpc NE KE rf (sw_ii (fun x y => (x.toUInt32 >>> (y.toUInt32 &&& Int32.toUInt32 31)).toInt32)) pc (pc + 1) := by
  intro L st P x hx
  simp only [sw_ii] at hx
  split at hx
  · rename_i heq
    cases heq
    cases hx
    refine ⟨sw_mo.rf _, fun _ _ hk h1 h2 ls H locs hl hP hS => ?_⟩
    exact lv_iushr hX.1 hX.2.1 hd rfl (hk h1 h2 ls H locs hl hP hS)
  · cases hx
theorem Sd_idiv (hX : sw_X p l e R s m args below meth c D A own cc nL ret N0 K0 NE KE d) (hd : decode cc pc = .ok (.idiv, 1)) : sw_Sd (sw_J p l e R s m args below meth c Q D A nL N0 K0) cf bpc NE KE rf (sw_dvi (fun x y => x / y)) pc (pc + 1) := by
  intro L st P x hx
  simp only [sw_dvi] at hx
  split at hx
  · rename_i heq
    cases heq
    split at hx
    · cases hx
    · rename_i hc
      cases hx
      refine ⟨sw_mo.rf _, fun _ _ hk h1 h2 ls H locs hl hP hS => ?_⟩
      exact lv_idiv hX.1 hX.2.1 hd hc (hk h1 h2 ls H locs hl hP hS)
  · cases hx
theorem Sd_irem (hX : sw_X p l e R s m args below meth c D A own cc nL ret N0 K0 NE KE d) (hd : decode cc pc = .ok (.irem, 1)) : sw_Sd (sw_J p l e R s m args below meth c Q D A nL N0 K0) cf bpc NE KE rf (sw_dvi (fun x y => x - x / y * y)) pc (pc + 1) := by
  intro L st P x hx
  simp only [sw_dvi] at hx
  split at hx
  · rename_i heq
    cases heq
    split at hx
    · cases hx
    · rename_i hc
      cases hx
      refine ⟨sw_mo.rf _, fun _ _ hk h1 h2 ls H locs hl hP hS => ?_⟩
      exact lv_irem hX.1 hX.2.1 hd hc (hk h1 h2 ls H locs hl hP hS)
  · cases hx
theorem Sd_ineg (hX : sw_X p l e R s m args below meth c D A own cc nL ret N0 K0 NE KE d) (hd : decode cc pc = .ok (.ineg, 1)) : sw_Sd (sw_J p l e R s m args below meth c Q D A nL N0 K0) cf bpc NE KE rf (sw_in (fun x => -x)) pc (pc + 1) := by
  intro L st P x hx
  simp only [sw_in] at hx
  split at hx
  · rename_i heq
    cases heq
    cases hx
    refine ⟨sw_mo.rf _, fun _ _ hk h1 h2 ls H locs hl hP hS => ?_⟩
    exact lv_ineg hX.1 hX.2.1 hd (hk h1 h2 ls H locs hl hP hS)
  · cases hx
theorem Sd_i2l (hX : sw_X p l e R s m args below meth c D A own cc nL ret N0 K0 NE KE d) (hd : decode cc pc = .ok (.i2l, 1)) : sw_Sd (sw_J p l e R s m args below meth c Q D A nL N0 K0) cf bpc NE KE rf (sw_i2l) pc (pc + 1) := by
  intro L st P x hx
  simp only [sw_i2l] at hx
  split at hx
  · rename_i heq
    cases heq
    cases hx
    refine ⟨sw_mo.rf _, fun _ _ hk h1 h2 ls H locs hl hP hS => ?_⟩
    exact lv_i2l hX.1 hX.2.1 hd rfl (hk h1 h2 ls H locs hl hP hS)
  · cases hx
theorem Sd_i2d (hX : sw_X p l e R s m args below meth c D A own cc nL ret N0 K0 NE KE d) (hd : decode cc pc = .ok (.i2d, 1)) : sw_Sd (sw_J p l e R s m args below meth c Q D A nL N0 K0) cf bpc NE KE rf (sw_i2d) pc (pc + 1) := by
  intro L st P x hx
  simp only [sw_i2d] at hx
  split at hx
  · rename_i heq
    cases heq
    cases hx
    refine ⟨sw_mo.rf _, fun _ _ hk h1 h2 ls H locs hl hP hS => ?_⟩
    exact lv_i2d hX.1 hX.2.1 hd (hk h1 h2 ls H locs hl hP hS)
  · cases hx
theorem Sd_ladd (hX : sw_X p l e R s m args below meth c D A own cc nL ret N0 K0 NE KE d) (hd : decode cc pc = .ok (.ladd, 1)) : sw_Sd (sw_J p l e R s m args below meth c Q D A nL N0 K0) cf bpc NE KE rf (sw_ll (fun x y => x + y)) pc (pc + 1) := by
  intro L st P x hx
  simp only [sw_ll] at hx
  split at hx
  · rename_i heq
    cases heq
    cases hx
    refine ⟨sw_mo.rf _, fun _ _ hk h1 h2 ls H locs hl hP hS => ?_⟩
    exact lv_ladd hX.1 hX.2.1 hd (hk h1 h2 ls H locs hl hP hS)
  · cases hx
theorem Sd_lmul (hX : sw_X p l e R s m args below meth c D A own cc nL ret N0 K0 NE KE d) (hd : decode cc pc = .ok (.lmul, 1)) : sw_Sd (sw_J p l e R s m args below meth c Q D A nL N0 K0) cf bpc NE KE rf (sw_ll (fun x y => x * y)) pc (pc + 1) := by
  intro L st P x hx
  simp only [sw_ll] at hx
  split at hx
  · rename_i heq
    cases heq
    cases hx
    refine ⟨sw_mo.rf _, fun _ _ hk h1 h2 ls H locs hl hP hS => ?_⟩
    exact lv_lmul hX.1 hX.2.1 hd (hk h1 h2 ls H locs hl hP hS)
  · cases hx
theorem Sd_lcmp (hX : sw_X p l e R s m args below meth c D A own cc nL ret N0 K0 NE KE d) (hd : decode cc pc = .ok (.lcmp, 1)) : sw_Sd (sw_J p l e R s m args below meth c Q D A nL N0 K0) cf bpc NE KE rf (sw_lc) pc (pc + 1) := by
  intro L st P x hx
  simp only [sw_lc] at hx
  split at hx
  · rename_i heq
    cases heq
    cases hx
    refine ⟨sw_mo.rf _, fun _ _ hk h1 h2 ls H locs hl hP hS => ?_⟩
    exact W.lcmp hX.1 hX.2.1 hd (hk h1 h2 ls H locs hl hP hS)
  · cases hx
theorem Sd_dcmp (hX : sw_X p l e R s m args below meth c D A own cc nL ret N0 K0 NE KE d) {op : CmpOp} (hd : decode cc pc = .ok (.dcmp op, 1)) : sw_Sd (sw_J p l e R s m args below meth c Q D A nL N0 K0) cf bpc NE KE rf (sw_dc op) pc (pc + 1) := by
  intro L st P x hx
  simp only [sw_dc] at hx
  split at hx
  · rename_i heq
    cases heq
    cases hx
    refine ⟨sw_mo.rf _, fun _ _ hk h1 h2 ls H locs hl hP hS => ?_⟩
    exact lv_dcmp hX.1 hX.2.1 hd (hk h1 h2 ls H locs hl hP hS)
  · cases hx
theorem Sd_ddiv (hX : sw_X p l e R s m args below meth c D A own cc nL ret N0 K0 NE KE d) (hd : decode cc pc = .ok (.ddiv, 1)) : sw_Sd (sw_J p l e R s m args below meth c Q D A nL N0 K0) cf bpc NE KE rf (sw_dd) pc (pc + 1) := by
  intro L st P x hx
  simp only [sw_dd] at hx
  split at hx
  · rename_i heq
    cases heq
    split at hx
    · rename_i hc
      cases hx
      refine ⟨sw_mo.rf _, fun _ _ hk h1 h2 ls H locs hl hP hS => ?_⟩
      exact lv_ddiv hX.1 hX.2.1 hd hc (hk h1 h2 ls H locs hl hP hS)
    · cases hx
  · cases hx
theorem Sd_if_eq (hX : sw_X p l e R s m args below meth c D A own cc nL ret N0 K0 NE KE d) {off : Int} {tgt n : Nat} {bs : List Bool} (hd : decode cc pc = .ok (.ifCond .eq off, 3)) (ho : (pc : Int) + off = (tgt : Int)) (ht : bpc n = tgt) : sw_Sd (sw_J p l e R s m args below meth c Q D A nL N0 K0) cf bpc NE KE rf (sw_iz 0 n bs) pc (pc + 3) := by
  intro L st P x hx
  simp only [sw_iz] at hx
  split at hx
  · rename_i heq
    cases heq
    split at hx
    · rename_i hc
      cases hx
      refine ⟨sw_mo.rf _, fun _ _ hk h1 h2 ls H locs hl hP hS => ?_⟩
      subst ht
      exact lv_if_eq hX.1 hX.2.1 hd ho (fun _ => (hk h1 h2 ls H locs (hl.mask bs) hP hS)) (fun z => by first | exact absurd ((sw_rel_0 _ _).mp hc) z | exact absurd z ((sw_rel_0 _ _).mp hc))
    · rename_i hc
      cases hx
      refine ⟨sw_mo.rf _, fun _ _ hk h1 h2 ls H locs hl hP hS => ?_⟩
      exact lv_if_eq hX.1 hX.2.1 hd ho (fun z => absurd ((sw_rel_0 _ _).mpr z) hc) (fun _ => (hk h1 h2 ls H locs hl hP hS))
  · cases hx
theorem Sd_icmp_eq (hX : sw_X p l e R s m args below meth c D A own cc nL ret N0 K0 NE KE d) {off : Int} {tgt n : Nat} {bs : List Bool} (hd : decode cc pc = .ok (.if_icmp .eq off, 3)) (ho : (pc : Int) + off = (tgt : Int)) (ht : bpc n = tgt) : sw_Sd (sw_J p l e R s m args below meth c Q D A nL N0 K0) cf bpc NE KE rf (sw_ic 0 n bs) pc (pc + 3) := by
  intro L st P x hx
  simp only [sw_ic] at hx
  split at hx
  · rename_i heq
    cases heq
    split at hx
    · rename_i hc
      cases hx
      refine ⟨sw_mo.rf _, fun _ _ hk h1 h2 ls H locs hl hP hS => ?_⟩
      subst ht
      exact lv_icmp_eq hX.1 hX.2.1 hd ho (fun _ => (hk h1 h2 ls H locs (hl.mask bs) hP hS)) (fun z => by first | exact absurd ((sw_rel_0 _ _).mp hc) z | exact absurd z ((sw_rel_0 _ _).mp hc))
    · rename_i hc
      cases hx
      refine ⟨sw_mo.rf _, fun _ _ hk h1 h2 ls H locs hl hP hS => ?_⟩
      exact lv_icmp_eq hX.1 hX.2.1 hd ho (fun z => absurd ((sw_rel_0 _ _).mpr z) hc) (fun _ => (hk h1 h2 ls H locs hl hP hS))
  · cases hx
theorem Sd_if_ne (hX : sw_X p l e R s m args below meth c D A own cc nL ret N0 K0 NE KE d) {off : Int} {tgt n : Nat} {bs : List Bool} (hd : decode cc pc = .ok (.ifCond .ne off, 3)) (ho : (pc : Int) + off = (tgt : Int)) (ht : bpc n = tgt) : sw_Sd (sw_J p l e R s m args below meth c Q D A nL N0 K0) cf bpc NE KE rf (sw_iz 1 n bs) pc (pc + 3) := by
  intro L st P x hx
  simp only [sw_iz] at hx
  split at hx
  · rename_i heq
    cases heq
    split at hx
    · rename_i hc
      cases hx
      refine ⟨sw_mo.rf _, fun _ _ hk h1 h2 ls H locs hl hP hS => ?_⟩
      subst ht
      exact lv_if_ne hX.1 hX.2.1 hd ho (fun _ => (hk h1 h2 ls H locs (hl.mask bs) hP hS)) (fun z => by first | exact absurd ((sw_rel_1 _ _).mp hc) z | exact absurd z ((sw_rel_1 _ _).mp hc))
    · rename_i hc
      cases hx
      refine ⟨sw_mo.rf _, fun _ _ hk h1 h2 ls H locs hl hP hS => ?_⟩
      exact lv_if_ne hX.1 hX.2.1 hd ho (fun z => absurd ((sw_rel_1 _ _).mpr z) hc) (fun _ => (hk h1 h2 ls H locs hl hP hS))
  · cases hx
theorem Sd_icmp_ne (hX : sw_X p l e R s m args below meth c D A own cc nL ret N0 K0 NE KE d) {off : Int} {tgt n : Nat} {bs : List Bool} (hd : decode cc pc = .ok (.if_icmp .ne off, 3)) (ho : (pc : Int) + off = (tgt : Int)) (ht : bpc n = tgt) : sw_Sd (sw_J p l e R s m args below meth c Q D A nL N0 K0) cf bpc NE KE rf (sw_ic 1 n bs) pc (pc + 3) := by
  intro L st P x hx
  simp only [sw_ic] at hx
  split at hx
  · rename_i heq
    cases heq
    split at hx
    · rename_i hc
      cases hx
      refine ⟨sw_mo.rf _, fun _ _ hk h1 h2 ls H locs hl hP hS => ?_⟩
      subst ht
      exact lv_icmp_ne hX.1 hX.2.1 hd ho (fun _ => (hk h1 h2 ls H locs (hl.mask bs) hP hS)) (fun z => by first | exact absurd ((sw_rel_1 _ _).mp hc) z | exact absurd z ((sw_rel_1 _ _).mp hc))
    · rename_i hc
      cases hx
      refine ⟨sw_mo.rf _, fun _ _ hk h1 h2 ls H locs hl hP hS => ?_⟩
      exact lv_icmp_ne hX.1 hX.2.1 hd ho (fun z => absurd ((sw_rel_1 _ _).mpr z) hc) (fun _ => (hk h1 h2 ls H locs hl hP hS))
  · cases hx
theorem Sd_if_lt (hX : sw_X p l e R s m args below meth c D A own cc nL ret N0 K0 NE KE d) {off : Int} {tgt n : Nat} {bs : List Bool} (hd : decode cc pc = .ok (.ifCond .lt off, 3)) (ho : (pc : Int) + off = (tgt : Int)) (ht : bpc n = tgt) : sw_Sd (sw_J p l e R s m args below meth c Q D A nL N0 K0) cf bpc NE KE rf (sw_iz 2 n bs) pc (pc + 3) := by
  intro L st P x hx
  simp only [sw_iz] at hx
  split at hx
  · rename_i heq
    cases heq
    split at hx
    · rename_i hc
      cases hx
      refine ⟨sw_mo.rf _, fun _ _ hk h1 h2 ls H locs hl hP hS => ?_⟩
      subst ht
      exact lv_if_lt hX.1 hX.2.1 hd ho (fun _ => (hk h1 h2 ls H locs (hl.mask bs) hP hS)) (fun z => by first | exact absurd ((sw_rel_2 _ _).mp hc) z | exact absurd z ((sw_rel_2 _ _).mp hc))
    · rename_i hc
      cases hx
      refine ⟨sw_mo.rf _, fun _ _ hk h1 h2 ls H locs hl hP hS => ?_⟩
      exact lv_if_lt hX.1 hX.2.1 hd ho (fun z => absurd ((sw_rel_2 _ _).mpr z) hc) (fun _ => (hk h1 h2 ls H locs hl hP hS))
  · cases hx
theorem Sd_icmp_lt (hX : sw_X p l e R s m args below meth c D A own cc nL ret N0 K0 NE KE d) {off : Int} {tgt n : Nat} {bs : List Bool} (hd : decode cc pc = .ok (.if_icmp .lt off, 3)) (ho : (pc : Int) + off = (tgt : Int)) (ht : bpc n = tgt) : sw_Sd (sw_J p l e R s m args below meth c Q D A nL N0 K0) cf bpc NE KE rf (sw_ic 2 n bs) pc (pc + 3) := by
  intro L st P x hx
  simp only [sw_ic] at hx
  split at hx
  · rename_i heq
    cases heq
    split at hx
    · rename_i hc
      cases hx
      refine ⟨sw_mo.rf _, fun _ _ hk h1 h2 ls H locs hl hP hS => ?_⟩
      subst ht
      exact lv_icmp_lt hX.1 hX.2.1 hd ho (fun _ => (hk h1 h2 ls H locs (hl.mask bs) hP hS)) (fun z => by first | exact absurd ((sw_rel_2 _ _).mp hc) z | exact absurd z ((sw_rel_2 _ _).mp hc))
    · rename_i hc
      cases hx
      refine ⟨sw_mo.rf _, fun _ _ hk h1 h2 ls H locs hl hP hS => ?_⟩
      exact lv_icmp_lt hX.1 hX.2.1 hd ho (fun z => absurd ((sw_rel_2 _ _).mpr z) hc) (fun _ => (hk h1 h2 ls H locs hl hP hS))
  · cases hx
theorem Sd_if_ge (hX : sw_X p l e R s m args below meth c D A own cc nL ret N0 K0 NE KE d) {off : Int} {tgt n : Nat} {bs : List Bool} (hd : decode cc pc = .ok (.ifCond .ge off, 3)) (ho : (pc : Int) + off = (tgt : Int)) (ht : bpc n = tgt) : sw_Sd (sw_J p l e R s m args below meth c Q D A nL N0 K0) cf bpc NE KE rf (sw_iz 3 n bs) pc (pc + 3) := by
  intro L st P x hx
  simp only [sw_iz] at hx
  split at hx
  · rename_i heq
    cases heq
    split at hx
    · rename_i hc
      cases hx
      refine ⟨sw_mo.rf _, fun _ _ hk h1 h2 ls H locs hl hP hS => ?_⟩
      subst ht
      exact lv_if_ge hX.1 hX.2.1 hd ho (fun _ => (hk h1 h2 ls H locs (hl.mask bs) hP hS)) (fun z => by first | exact absurd ((sw_rel_3 _ _).mp hc) z | exact absurd z ((sw_rel_3 _ _).mp hc))
    · rename_i hc
      cases hx
      refine ⟨sw_mo.rf _, fun _ _ hk h1 h2 ls H locs hl hP hS => ?_⟩
      exact lv_if_ge hX.1 hX.2.1 hd ho (fun z => absurd ((sw_rel_3 _ _).mpr z) hc) (fun _ => (hk h1 h2 ls H locs hl hP hS))
  · cases hx
theorem Sd_icmp_ge (hX : sw_X p l e R s m args below meth c D A own cc nL ret N0 K0 NE KE d) {off : Int} {tgt n : Nat} {bs : List Bool} (hd : decode cc pc = .ok (.if_icmp .ge off, 3)) (ho : (pc : Int) + off = (tgt : Int)) (ht : bpc n = tgt) : sw_Sd (sw_J p l e R s m args below meth c Q D A nL N0 K0) cf bpc NE KE rf (sw_ic 3 n bs) pc (pc + 3) := by
  intro L st P x hx
  simp only [sw_ic] at hx
  split at hx
  · rename_i heq
    cases heq
    split at hx
    · rename_i hc
      cases hx
      refine ⟨sw_mo.rf _, fun _ _ hk h1 h2 ls H locs hl hP hS => ?_⟩
      subst ht
      exact lv_icmp_ge hX.1 hX.2.1 hd ho (fun _ => (hk h1 h2 ls H locs (hl.mask bs) hP hS)) (fun z => by first | exact absurd ((sw_rel_3 _ _).mp hc) z | exact absurd z ((sw_rel_3 _ _).mp hc))
    · rename_i hc
      cases hx
      refine ⟨sw_mo.rf _, fun _ _ hk h1 h2 ls H locs hl hP hS => ?_⟩
      exact lv_icmp_ge hX.1 hX.2.1 hd ho (fun z => absurd ((sw_rel_3 _ _).mpr z) hc) (fun _ => (hk h1 h2 ls H locs hl hP hS))
  · cases hx
theorem Sd_if_gt (hX : sw_X p l e R s m args below meth c D A own cc nL ret N0 K0 NE KE d) {off : Int} {tgt n : Nat} {bs : List Bool} (hd : decode cc pc = .ok (.ifCond .gt off, 3)) (ho : (pc : Int) + off = (tgt : Int)) (ht : bpc n = tgt) : sw_Sd (sw_J p l e R s m args below meth c Q D A nL N0 K0) cf bpc NE KE rf (sw_iz 4 n bs) pc (pc + 3) := by
  intro L st P x hx
  simp only [sw_iz] at hx
  split at hx
  · rename_i heq
    cases heq
    split at hx
    · rename_i hc
      cases hx
      refine ⟨sw_mo.rf _, fun _ _ hk h1 h2 ls H locs hl hP hS => ?_⟩
      subst ht
      exact lv_if_gt hX.1 hX.2.1 hd ho (fun _ => (hk h1 h2 ls H locs (hl.mask bs) hP hS)) (fun z => by first | exact absurd ((sw_rel_4 _ _).mp hc) z | exact absurd z ((sw_rel_4 _ _).mp hc))
    · rename_i hc
      cases hx
      refine ⟨sw_mo.rf _, fun _ _ hk h1 h2 ls H locs hl hP hS => ?_⟩
      exact lv_if_gt hX.1 hX.2.1 hd ho (fun z => absurd ((sw_rel_4 _ _).mpr z) hc) (fun _ => (hk h1 h2 ls H locs hl hP hS))
  · cases hx
theorem Sd_icmp_gt (hX : sw_X p l e R s m args below meth c D A own cc nL ret N0 K0 NE KE d) {off : Int} {tgt n : Nat} {bs : List Bool} (hd : decode cc pc = .ok (.if_icmp .gt off, 3)) (ho : (pc : Int) + off = (tgt : Int)) (ht : bpc n = tgt) : sw_Sd (sw_J p l e R s m args below meth c Q D A nL N0 K0) cf bpc NE KE rf (sw_ic 4 n bs) pc (pc + 3) := by
  intro L st P x hx
  simp only [sw_ic] at hx
  split at hx
  · rename_i heq
    cases heq
    split at hx
    · rename_i hc
      cases hx
      refine ⟨sw_mo.rf _, fun _ _ hk h1 h2 ls H locs hl hP hS => ?_⟩
      subst ht
      exact lv_icmp_gt hX.1 hX.2.1 hd ho (fun _ => (hk h1 h2 ls H locs (hl.mask bs) hP hS)) (fun z => by first | exact absurd ((sw_rel_4 _ _).mp hc) z | exact absurd z ((sw_rel_4 _ _).mp hc))
    · rename_i hc
      cases hx
      refine ⟨sw_mo.rf _, fun _ _ hk h1 h2 ls H locs hl hP hS => ?_⟩
      exact lv_icmp_gt hX.1 hX.2.1 hd ho (fun z => absurd ((sw_rel_4 _ _).mpr z) hc) (fun _ => (hk h1 h2 ls H locs hl hP hS))
  · cases hx
theorem Sd_if_le (hX : sw_X p l e R s m args below meth c D A own cc nL ret N0 K0 NE KE d) {off : Int} {tgt n : Nat} {bs : List Bool} (hd : decode cc pc = .ok (.ifCond .le off, 3)) (ho : (pc : Int) + off = (tgt : Int)) (ht : bpc n = tgt) : sw_Sd (sw_J p l e R s m args below meth c Q D A nL N0 K0) cf bpc NE KE rf (sw_iz 5 n bs) pc (pc + 3) := by
  intro L st P x hx
  simp only [sw_iz] at hx
  split at hx
  · rename_i heq
    cases heq
    split at hx
    · rename_i hc
      cases hx
      refine ⟨sw_mo.rf _, fun _ _ hk h1 h2 ls H locs hl hP hS => ?_⟩
      subst ht
      exact lv_if_le hX.1 hX.2.1 hd ho (fun _ => (hk h1 h2 ls H locs (hl.mask bs) hP hS)) (fun z => by first | exact absurd ((sw_rel_5 _ _).mp hc) z | exact absurd z ((sw_rel_5 _ _).mp hc))
    · rename_i hc
      cases hx
      refine ⟨sw_mo.rf _, fun _ _ hk h1 h2 ls H locs hl hP hS => ?_⟩
      exact lv_if_le hX.1 hX.2.1 hd ho (fun z => absurd ((sw_rel_5 _ _).mpr z) hc) (fun _ => (hk h1 h2 ls H locs hl hP hS))
  · cases hx
theorem Sd_icmp_le (hX : sw_X p l e R s m args below meth c D A own cc nL ret N0 K0 NE KE d) {off : Int} {tgt n : Nat} {bs : List Bool} (hd : decode cc pc = .ok (.if_icmp .le off, 3)) (ho : (pc : Int) + off = (tgt : Int)) (ht : bpc n = tgt) : sw_Sd (sw_J p l e R s m args below meth c Q D A nL N0 K0) cf bpc NE KE rf (sw_ic 5 n bs) pc (pc + 3) := by
  intro L st P x hx
  simp only [sw_ic] at hx
  split at hx
  · rename_i heq
    cases heq
    split at hx
    · rename_i hc
      cases hx
      refine ⟨sw_mo.rf _, fun _ _ hk h1 h2 ls H locs hl hP hS => ?_⟩
      subst ht
      exact lv_icmp_le hX.1 hX.2.1 hd ho (fun _ => (hk h1 h2 ls H locs (hl.mask bs) hP hS)) (fun z => by first | exact absurd ((sw_rel_5 _ _).mp hc) z | exact absurd z ((sw_rel_5 _ _).mp hc))
    · rename_i hc
      cases hx
      refine ⟨sw_mo.rf _, fun _ _ hk h1 h2 ls H locs hl hP hS => ?_⟩
      exact lv_icmp_le hX.1 hX.2.1 hd ho (fun z => absurd ((sw_rel_5 _ _).mpr z) hc) (fun _ => (hk h1 h2 ls H locs hl hP hS))
  · cases hx
theorem Sd_goto (hX : sw_X p l e R s m args below meth c D A own cc nL ret N0 K0 NE KE d) {off : Int} {tgt n pc2 : Nat} {bs : List Bool} (hd : decode cc pc = .ok (.goto off, 3)) (ho : (pc : Int) + off = (tgt : Int)) (ht : bpc n = tgt) : sw_Sd (sw_J p l e R s m args below meth c Q D A nL N0 K0) cf bpc NE KE rf (sw_goto n bs) pc (pc2) := by
  intro L st P x hx
  cases hx
  refine ⟨sw_mo.rf _, fun _ _ hk h1 h2 ls H locs hl hP hS => ?_⟩
  subst ht
  exact lv_goto hX.1 hX.2.1 hd ho (hk h1 h2 ls H locs (hl.mask bs) hP hS)
theorem Sd_fall {n pc2 : Nat} {bs : List Bool} (ht : bpc n = pc) : sw_Sd (sw_J p l e R s m args below meth c Q D A nL N0 K0) cf bpc NE KE rf (sw_goto n bs) pc pc2 := by
  intro L st P x hx
  cases hx
  refine ⟨sw_mo.rf _, fun _ _ hk h1 h2 ls H locs hl hP hS => ?_⟩
  subst ht
  exact hk h1 h2 ls H locs (hl.mask bs) hP hS
theorem Sd_stop {pc2 : Nat} : sw_Sd (sw_J p l e R s m args below meth c Q D A nL N0 K0) cf bpc NE KE rf sw_stop pc pc2 := by
  intro L st P x hx
  cases hx
theorem Sd_ifnull (hX : sw_X p l e R s m args below meth c D A own cc nL ret N0 K0 NE KE d) {off : Int} {tgt n : Nat} {bs : List Bool} (hd : decode cc pc = .ok (.ifnull off, 3)) (ho : (pc : Int) + off = (tgt : Int)) (ht : bpc n = tgt) : sw_Sd (sw_J p l e R s m args below meth c Q D A nL N0 K0) cf bpc NE KE rf (sw_inl true n bs) pc (pc + 3) := by
  intro L st P x hx
  simp only [sw_inl] at hx
  split at hx
  · rename_i heq
    cases heq
    simp only [Bool.false_eq_true, ↓reduceIte] at hx
    cases hx
    refine ⟨sw_mo.rf _, fun _ _ hk h1 h2 ls H locs hl hP hS => ?_⟩
    subst ht
    exact lv_ifnullN hX.1 hX.2.1 hd ho (hk h1 h2 ls H locs (hl.mask bs) hP hS)
  · rename_i heq
    cases heq
    simp only [Bool.false_eq_true, ↓reduceIte] at hx
    cases hx
    refine ⟨sw_mo.rf _, fun _ _ hk h1 h2 ls H locs hl hP hS => ?_⟩
    subst ht
    exact lv_ifnull hX.1 hX.2.1 hd (hk h1 h2 ls H locs hl hP hS)
  · cases hx
theorem Sd_ifnonnull (hX : sw_X p l e R s m args below meth c D A own cc nL ret N0 K0 NE KE d) {off : Int} {tgt n : Nat} {bs : List Bool} (hd : decode cc pc = .ok (.ifnonnull off, 3)) (ho : (pc : Int) + off = (tgt : Int)) (ht : bpc n = tgt) : sw_Sd (sw_J p l e R s m args below meth c Q D A nL N0 K0) cf bpc NE KE rf (sw_inl false n bs) pc (pc + 3) := by
  intro L st P x hx
  simp only [sw_inl] at hx
  split at hx
  · rename_i heq
    cases heq
    simp only [Bool.false_eq_true, ↓reduceIte] at hx
    cases hx
    refine ⟨sw_mo.rf _, fun _ _ hk h1 h2 ls H locs hl hP hS => ?_⟩
    subst ht
    exact lv_ifnonnullN hX.1 hX.2.1 hd (hk h1 h2 ls H locs hl hP hS)
  · rename_i heq
    cases heq
    simp only [Bool.false_eq_true, ↓reduceIte] at hx
    cases hx
    refine ⟨sw_mo.rf _, fun _ _ hk h1 h2 ls H locs hl hP hS => ?_⟩
    subst ht
    exact lv_ifnonnull hX.1 hX.2.1 hd ho (hk h1 h2 ls H locs (hl.mask bs) hP hS)
  · cases hx
theorem Sd_acmp_eq (hX : sw_X p l e R s m args below meth c D A own cc nL ret N0 K0 NE KE d) {off : Int} {tgt n : Nat} {bs : List Bool} (hd : decode cc pc = .ok (.if_acmp .eq off, 3)) (ho : (pc : Int) + off = (tgt : Int)) (ht : bpc n = tgt) : sw_Sd (sw_J p l e R s m args below meth c Q D A nL N0 K0) cf bpc NE KE rf (sw_iac true n bs) pc (pc + 3) := by
  intro L st P x hx
  simp only [sw_iac] at hx
  split at hx
  · rename_i heq
    cases heq
    split at hx
    · rename_i hc
      cases hx
      refine ⟨sw_mo.rf _, fun _ _ hk h1 h2 ls H locs hl hP hS => ?_⟩
      subst ht
      refine lv_acmp_eq (rx := some _) (ry := some _) hX.1 hX.2.1 hd ho (fun z => ?_) (fun z => ?_)
      · first | exact hk h1 h2 ls H locs (hl.mask bs) hP hS | exact absurd (Option.some.inj z) (of_decide_eq_false hc) | exact absurd (congrArg some (of_decide_eq_true hc)) z
      · first | exact hk h1 h2 ls H locs (hl.mask bs) hP hS | exact absurd (Option.some.inj z) (of_decide_eq_false hc) | exact absurd (congrArg some (of_decide_eq_true hc)) z
    · rename_i hc
      cases hx
      refine ⟨sw_mo.rf _, fun _ _ hk h1 h2 ls H locs hl hP hS => ?_⟩
      refine lv_acmp_eq (rx := some _) (ry := some _) hX.1 hX.2.1 hd ho (fun z => ?_) (fun z => ?_)
      · first | exact hk h1 h2 ls H locs hl hP hS | exact absurd (decide_eq_true (Option.some.inj z)) hc | exact absurd (decide_eq_false (fun q => z (congrArg some q))) hc
      · first | exact hk h1 h2 ls H locs hl hP hS | exact absurd (decide_eq_true (Option.some.inj z)) hc | exact absurd (decide_eq_false (fun q => z (congrArg some q))) hc
  · cases hx
theorem Sd_acmp_ne (hX : sw_X p l e R s m args below meth c D A own cc nL ret N0 K0 NE KE d) {off : Int} {tgt n : Nat} {bs : List Bool} (hd : decode cc pc = .ok (.if_acmp .ne off, 3)) (ho : (pc : Int) + off = (tgt : Int)) (ht : bpc n = tgt) : sw_Sd (sw_J p l e R s m args below meth c Q D A nL N0 K0) cf bpc NE KE rf (sw_iac false n bs) pc (pc + 3) := by
  intro L st P x hx
  simp only [sw_iac] at hx
  split at hx
  · rename_i heq
    cases heq
    split at hx
    · rename_i hc
      cases hx
      refine ⟨sw_mo.rf _, fun _ _ hk h1 h2 ls H locs hl hP hS => ?_⟩
      subst ht
      refine lv_acmp_ne (rx := some _) (ry := some _) hX.1 hX.2.1 hd ho (fun z => ?_) (fun z => ?_)
      · first | exact hk h1 h2 ls H locs (hl.mask bs) hP hS | exact absurd (Option.some.inj z) (of_decide_eq_false hc) | exact absurd (congrArg some (of_decide_eq_true hc)) z
      · first | exact hk h1 h2 ls H locs (hl.mask bs) hP hS | exact absurd (Option.some.inj z) (of_decide_eq_false hc) | exact absurd (congrArg some (of_decide_eq_true hc)) z
    · rename_i hc
      cases hx
      refine ⟨sw_mo.rf _, fun _ _ hk h1 h2 ls H locs hl hP hS => ?_⟩
      refine lv_acmp_ne (rx := some _) (ry := some _) hX.1 hX.2.1 hd ho (fun z => ?_) (fun z => ?_)
      · first | exact hk h1 h2 ls H locs hl hP hS | exact absurd (decide_eq_true (Option.some.inj z)) hc | exact absurd (decide_eq_false (fun q => z (congrArg some q))) hc
      · first | exact hk h1 h2 ls H locs hl hP hS | exact absurd (decide_eq_true (Option.some.inj z)) hc | exact absurd (decide_eq_false (fun q => z (congrArg some q))) hc
  · cases hx
end SWR
