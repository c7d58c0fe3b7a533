/-! ===== THE SMALL MACHINE: what a method does, as a function. A heap is a function of the address; an object is a number for its kind (a class below 64, an array type from 64 on) and the list of its cells. Nothing here speaks of the JVM model but its values. ===== -/
abbrev sw_O : Type := Nat × List Value
/-- heap, next address, slots spent, addresses of constants -/
abbrev sw_P : Type := (Nat → Option sw_O) × Nat × Nat × (Nat → Nat)
def sw_hp (P : sw_P) (a : Nat) : Option sw_O := P.1 a
def sw_nx (P : sw_P) : Nat := P.2.1
def sw_sl (P : sw_P) : Nat := P.2.2.1
def sw_ev (P : sw_P) : Nat → Nat := P.2.2.2
def sw_set (P : sw_P) (a : Nat) (o : sw_O) : sw_P := (fun b => if b = a then some o else P.1 b, P.2)
def sw_new (P : sw_P) (o : sw_O) : sw_P := (fun b => if b = P.2.1 then some o else P.1 b, P.2.1 + 1, P.2.2.1 + o.2.length, P.2.2.2)
theorem sw_hp_set (P : sw_P) (a : Nat) (o : sw_O) (b : Nat) : sw_hp (sw_set P a o) b = if b = a then some o else sw_hp P b := rfl
theorem sw_nx_set (P : sw_P) (a : Nat) (o : sw_O) : sw_nx (sw_set P a o) = sw_nx P := rfl
theorem sw_sl_set (P : sw_P) (a : Nat) (o : sw_O) : sw_sl (sw_set P a o) = sw_sl P := rfl
theorem sw_ev_set (P : sw_P) (a : Nat) (o : sw_O) : sw_ev (sw_set P a o) = sw_ev P := rfl
theorem sw_hp_new (P : sw_P) (o : sw_O) (b : Nat) : sw_hp (sw_new P o) b = if b = sw_nx P then some o else sw_hp P b := rfl
theorem sw_nx_new (P : sw_P) (o : sw_O) : sw_nx (sw_new P o) = sw_nx P + 1 := rfl
theorem sw_sl_new (P : sw_P) (o : sw_O) : sw_sl (sw_new P o) = sw_sl P + o.2.length := rfl
theorem sw_ev_new (P : sw_P) (o : sw_O) : sw_ev (sw_new P o) = sw_ev P := rfl
/-- a result: a value or none, or the number of a class of exceptions; and the heap -/
abbrev sw_R : Type := (Option Value ⊕ Nat) × sw_P
abbrev sw_F : Type := Nat → List Value → sw_P → Option sw_R
abbrev sw_L : Type := List (Option Value)
abbrev sw_S : Type := sw_L × List Value × sw_P
abbrev sw_N : Type := sw_S ⊕ ((Nat × sw_S) ⊕ sw_R)
abbrev sw_I : Type := sw_F → sw_S → Option sw_N
abbrev sw_B : Type := Nat → List sw_I
/-! locals -/
def sw_gl : sw_L → Nat → Option Value
  | [], _ => none
  | x :: _, 0 => x
  | _ :: l, k + 1 => sw_gl l k
theorem sw_gl_0 (x : Option Value) (l : sw_L) : sw_gl (x :: l) 0 = x := rfl
theorem sw_gl_s (x : Option Value) (l : sw_L) (k : Nat) : sw_gl (x :: l) (k + 1) = sw_gl l k := rfl
def sw_fx : Option Value → Option Value
  | some v => if v.category = 2 then none else some v
  | none => none
theorem sw_fx_n : sw_fx none = none := rfl
theorem sw_fx_i (x : Int32) : sw_fx (some (.int x)) = some (.int x) := rfl
theorem sw_fx_r (a : Nat) : sw_fx (some (.ref a)) = some (.ref a) := rfl
theorem sw_fx_0 : sw_fx (some .null) = some .null := rfl
theorem sw_fx_l (x : Int64) : sw_fx (some (.long x)) = none := rfl
theorem sw_fx_d (x : UInt64) : sw_fx (some (.double x)) = none := rfl
def sw_sl1 : sw_L → Nat → Value → sw_L
  | [], _, _ => []
  | _ :: l, 0, v => some v :: l
  | x :: l, k + 1, v => (if k = 0 then sw_fx x else x) :: sw_sl1 l k v
theorem sw_sl1_0 (x : Option Value) (l : sw_L) (v : Value) : sw_sl1 (x :: l) 0 v = some v :: l := rfl
theorem sw_sl1_1 (x : Option Value) (l : sw_L) (v : Value) : sw_sl1 (x :: l) 1 v = sw_fx x :: sw_sl1 l 0 v := rfl
theorem sw_sl1_s (x : Option Value) (l : sw_L) (k : Nat) (v : Value) : sw_sl1 (x :: l) (k + 2) v = x :: sw_sl1 l (k + 1) v := rfl
def sw_no : sw_L → Nat → sw_L
  | [], _ => []
  | _ :: l, 0 => none :: l
  | x :: l, k + 1 => x :: sw_no l k
theorem sw_no_0 (x : Option Value) (l : sw_L) : sw_no (x :: l) 0 = none :: l := rfl
theorem sw_no_s (x : Option Value) (l : sw_L) (k : Nat) : sw_no (x :: l) (k + 1) = x :: sw_no l k := rfl
theorem sw_no_e (k : Nat) : sw_no [] k = [] := rfl
def sw_mk : List Bool → sw_L → sw_L
  | b :: bs, x :: l => (if b = true then x else none) :: sw_mk bs l
  | _, _ => []
theorem sw_mk_t (bs : List Bool) (x : Option Value) (l : sw_L) : sw_mk (true :: bs) (x :: l) = x :: sw_mk bs l := rfl
theorem sw_mk_f (bs : List Bool) (x : Option Value) (l : sw_L) : sw_mk (false :: bs) (x :: l) = none :: sw_mk bs l := rfl
theorem sw_mk_e : sw_mk [] [] = [] := rfl
/-- the locals at a method's entry -/
def sw_enl : List Value → Nat → sw_L
  | [], n => List.replicate n none
  | v :: vs, n => if v.category = 2 then some v :: none :: sw_enl vs (n - 2) else some v :: sw_enl vs (n - 1)
def sw_en (n : Nat) (as : List Value) : sw_L := sw_enl as n
theorem sw_en_0 : sw_en 0 [] = [] := rfl
theorem sw_en_n (n : Nat) : sw_en (n + 1) [] = none :: sw_en n [] := rfl
theorem sw_en_i (n : Nat) (x : Int32) (vs : List Value) : sw_en (n + 1) (.int x :: vs) = some (.int x) :: sw_en n vs := rfl
theorem sw_en_r (n : Nat) (x : Nat) (vs : List Value) : sw_en (n + 1) (.ref x :: vs) = some (.ref x) :: sw_en n vs := rfl
theorem sw_en_z (n : Nat) (vs : List Value) : sw_en (n + 1) (.null :: vs) = some .null :: sw_en n vs := rfl
theorem sw_en_l (n : Nat) (x : Int64) (vs : List Value) : sw_en (n + 2) (.long x :: vs) = some (.long x) :: none :: sw_en n vs := rfl
theorem sw_en_d (n : Nat) (x : UInt64) (vs : List Value) : sw_en (n + 2) (.double x :: vs) = some (.double x) :: none :: sw_en n vs := rfl
/-- what lies under a call's arguments is at most eight words -/
def sw_ok : List Value → Bool
  | [] => true
  | [_] => true
  | [_, _] => true
  | [_, _, _] => true
  | [_, _, _, _] => true
  | st => decide ((st.map Value.category).sum ≤ 8)
theorem sw_ok_0 : sw_ok [] = true := rfl
theorem sw_ok_1 (a : Value) : sw_ok [a] = true := rfl
theorem sw_ok_2 (a b : Value) : sw_ok [a, b] = true := rfl
theorem sw_ok_3 (a b c : Value) : sw_ok [a, b, c] = true := rfl
theorem sw_ok_4 (a b c d : Value) : sw_ok [a, b, c, d] = true := rfl
/-! one step, many steps, the whole -/
abbrev sw_C : Type := List sw_I × sw_S
def sw_go (cf : sw_F) (B : sw_B) : sw_C → Option (sw_C ⊕ sw_R)
  | ([], _) => none
  | (i :: r, s) => match i cf s with
    | none => none
    | some (.inl s') => some (.inl (r, s'))
    | some (.inr (.inl (n, s'))) => some (.inl (B n, s'))
    | some (.inr (.inr o)) => some (.inr o)
def sw_run (cf : sw_F) (B : sw_B) : Nat → sw_C → Option sw_R
  | 0, _ => none
  | n + 1, c => match sw_go cf B c with
    | none => none
    | some (.inl c') => sw_run cf B n c'
    | some (.inr o) => some o
theorem sw_run_more {cf : sw_F} {B : sw_B} : ∀ (n : Nat) (c : sw_C) (r : sw_R), sw_run cf B n c = some r → sw_run cf B (n + 1) c = some r := by
  intro n
  induction n with
  | zero => intro c r h; cases h
  | succ n ih =>
    intro c r h
    rw [sw_run] at h ⊢
    cases hg : sw_go cf B c with
    | none => rw [hg] at h; cases h
    | some x =>
      rw [hg] at h
      cases x with
      | inl c' => exact ih c' r h
      | inr o => exact h
theorem sw_run_le {cf : sw_F} {B : sw_B} {c : sw_C} {r : sw_R} {n m : Nat} (hnm : n ≤ m) (h : sw_run cf B n c = some r) : sw_run cf B m c = some r := by
  induction hnm with
  | refl => exact h
  | step _ ih => exact sw_run_more _ _ _ ih
theorem sw_run_det {cf : sw_F} {B : sw_B} {c : sw_C} {r r' : sw_R} {n m : Nat} (h : sw_run cf B n c = some r) (h' : sw_run cf B m c = some r') : r = r' := by
  have h1 := sw_run_le (Nat.le_max_left n m) h
  have h2 := sw_run_le (Nat.le_max_right n m) h'
  rw [h1] at h2
  exact Option.some.inj h2
noncomputable def sw_exC (cf : sw_F) (B : sw_B) (c : sw_C) : Option sw_R := by
  classical exact if h : ∃ r n, sw_run cf B n c = some r then some h.choose else none
theorem sw_exC_iff {cf : sw_F} {B : sw_B} {c : sw_C} {r : sw_R} : sw_exC cf B c = some r ↔ ∃ n, sw_run cf B n c = some r := by
  unfold sw_exC
  by_cases h : ∃ r n, sw_run cf B n c = some r
  · rw [dif_pos h]
    constructor
    · intro e
      cases e
      exact h.choose_spec
    · rintro ⟨n, e⟩
      obtain ⟨m, e'⟩ := h.choose_spec
      rw [sw_run_det e' e]
  · rw [dif_neg h]
    constructor
    · intro e; cases e
    · rintro ⟨n, e⟩
      exact absurd ⟨r, n, e⟩ h
theorem sw_exC_go (cf : sw_F) (B : sw_B) (c : sw_C) : sw_exC cf B c = match sw_go cf B c with
    | none => none
    | some (.inl c') => sw_exC cf B c'
    | some (.inr o) => some o := by
  apply Option.ext
  intro r
  rw [sw_exC_iff]
  cases hg : sw_go cf B c with
  | none =>
    constructor
    · rintro ⟨n, e⟩
      cases n with
      | zero => cases e
      | succ n => rw [sw_run, hg] at e; cases e
    · intro e; cases e
  | some x =>
    cases x with
    | inl c' =>
      show _ ↔ sw_exC cf B c' = some r
      rw [sw_exC_iff]
      constructor
      · rintro ⟨n, e⟩
        cases n with
        | zero => cases e
        | succ n => rw [sw_run, hg] at e; exact ⟨n, e⟩
      · rintro ⟨n, e⟩
        exact ⟨n + 1, by rw [sw_run, hg]; exact e⟩
    | inr o =>
      show _ ↔ some o = some r
      constructor
      · rintro ⟨n, e⟩
        cases n with
        | zero => cases e
        | succ n => rw [sw_run, hg] at e; exact e
      · intro e
        exact ⟨1, by rw [sw_run, hg]; exact e⟩
/-- what a piece of code comes to -/
noncomputable def sw_ex (cf : sw_F) (B : sw_B) (code : List sw_I) (l : sw_L) (st : List Value) (P : sw_P) : Option sw_R := sw_exC cf B (code, l, st, P)
/-- at the head of a block -/
noncomputable def sw_at (cf : sw_F) (B : sw_B) (n : Nat) (l : sw_L) (st : List Value) (P : sw_P) : Option sw_R := sw_ex cf B (B n) l st P
theorem sw_ex_cons (cf : sw_F) (B : sw_B) (i : sw_I) (r : List sw_I) (l : sw_L) (st : List Value) (P : sw_P) : sw_ex cf B (i :: r) l st P = match i cf (l, st, P) with
    | none => none
    | some (.inl s) => sw_ex cf B r s.1 s.2.1 s.2.2
    | some (.inr (.inl (n, s))) => sw_at cf B n s.1 s.2.1 s.2.2
    | some (.inr (.inr o)) => some o := by
  unfold sw_ex
  rw [sw_exC_go]
  rw [sw_go]
  cases i cf (l, st, P) with
  | none => rfl
  | some x =>
    rcases x with s | ⟨n, s⟩ | o
    · rfl
    · rfl
    · rfl
theorem sw_next {cf : sw_F} {B : sw_B} {i : sw_I} {r : List sw_I} {l l' : sw_L} {st st' : List Value} {P P' : sw_P} (h : i cf (l, st, P) = some (.inl (l', st', P'))) : sw_ex cf B (i :: r) l st P = sw_ex cf B r l' st' P' := by
  rw [sw_ex_cons, h]
theorem sw_jump {cf : sw_F} {B : sw_B} {i : sw_I} {r : List sw_I} {l l' : sw_L} {st st' : List Value} {P P' : sw_P} {n : Nat} (h : i cf (l, st, P) = some (.inr (.inl (n, l', st', P')))) : sw_ex cf B (i :: r) l st P = sw_at cf B n l' st' P' := by
  rw [sw_ex_cons, h]
theorem sw_fin {cf : sw_F} {B : sw_B} {i : sw_I} {r : List sw_I} {l : sw_L} {st : List Value} {P : sw_P} {o : sw_R} (h : i cf (l, st, P) = some (.inr (.inr o))) : sw_ex cf B (i :: r) l st P = some o := by
  rw [sw_ex_cons, h]
theorem sw_stuck {cf : sw_F} {B : sw_B} {i : sw_I} {r : List sw_I} {l : sw_L} {st : List Value} {P : sw_P} (h : i cf (l, st, P) = none) : sw_ex cf B (i :: r) l st P = none := by
  rw [sw_ex_cons, h]
/-- the arguments lie within the method's locals -/
def sw_wd : Nat → List Value → Bool
  | _, [] => true
  | n, v :: vs => if v.category = 2 then decide (2 ≤ n) && sw_wd (n - 2) vs else decide (1 ≤ n) && sw_wd (n - 1) vs
theorem sw_wd_0 (n : Nat) : sw_wd n [] = true := by cases n <;> rfl
theorem sw_wd_i (n : Nat) (x : Int32) (vs : List Value) : sw_wd (n + 1) (.int x :: vs) = sw_wd n vs := by simp [sw_wd, Value.category]
theorem sw_wd_r (n : Nat) (x : Nat) (vs : List Value) : sw_wd (n + 1) (.ref x :: vs) = sw_wd n vs := by simp [sw_wd, Value.category]
theorem sw_wd_z (n : Nat) (vs : List Value) : sw_wd (n + 1) (.null :: vs) = sw_wd n vs := by simp [sw_wd, Value.category]
theorem sw_wd_l (n : Nat) (x : Int64) (vs : List Value) : sw_wd (n + 2) (.long x :: vs) = sw_wd n vs := by simp [sw_wd, Value.category]
theorem sw_wd_d (n : Nat) (x : UInt64) (vs : List Value) : sw_wd (n + 2) (.double x :: vs) = sw_wd n vs := by simp [sw_wd, Value.category]
/-- what all methods come to: the number bounds the depth of calls -/
noncomputable def sw_M (T : Nat → Nat × sw_B) : Nat → sw_F
  | 0 => fun _ _ _ => none
  | d + 1 => fun y as P => if sw_wd (T y).1 as = true then sw_at (sw_M T d) (T y).2 0 (sw_en (T y).1 as) [] P else none
