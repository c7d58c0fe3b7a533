/-! ===== the small machine's instructions, each with its equation ===== -/
def sw_bo {α β : Type} (o : Option α) (f : α → Option β) : Option β := match o with
  | some v => f v
  | none => none
theorem sw_bo_s {α β : Type} (v : α) (f : α → Option β) : sw_bo (some v) f = f v := rfl
def sw_cl (o : Option sw_R) (f : Option Value → sw_P → Option sw_R) : Option sw_R := match o with
  | none => none
  | some (.inl v, P) => f v P
  | some (.inr e, P) => some (.inr e, P)
theorem sw_cl_s (v : Option Value) (P : sw_P) (f : Option Value → sw_P → Option sw_R) : sw_cl (some (.inl v, P)) f = f v P := rfl
theorem sw_cl_x (e : Nat) (P : sw_P) (f : Option Value → sw_P → Option sw_R) : sw_cl (some (.inr e, P)) f = some (.inr e, P) := rfl
def sw_psh (v : Option Value) (st : List Value) : List Value := v.toList ++ st
theorem sw_psh_s (v : Value) (st : List Value) : sw_psh (some v) st = v :: st := rfl
theorem sw_psh_n (st : List Value) : sw_psh none st = st := rfl
/-- the object at an address is of a kind -/
def sw_kd (o : Option sw_O) (c : Nat) : Bool := match o with
  | some (t, _) => t == c
  | none => false
theorem sw_kd_s (t c : Nat) (vs : List Value) : sw_kd (some (t, vs)) c = (t == c) := rfl
def sw_kds (o : Option sw_O) (cs : List Nat) : Bool := match o with
  | some (t, _) => cs.contains t
  | none => false
theorem sw_kds_s (t : Nat) (cs : List Nat) (vs : List Value) : sw_kds (some (t, vs)) cs = cs.contains t := rfl
/-- the cells of an object of a kind -/
def sw_op {β : Type} (o : Option sw_O) (c : Nat) (f : List Value → Option β) : Option β := match o with
  | some (t, vs) => if t = c then f vs else none
  | none => none
theorem sw_op_s {β : Type} (c : Nat) (vs : List Value) (f : List Value → Option β) : sw_op (some (c, vs)) c f = f vs := if_pos rfl
/-- a value's type: 0 int, 1 boolean, 2 reference, 3 long, 4 double -/
def sw_fit : Nat → Value → Bool
  | 0, .int _ => true
  | 1, .int x => x == 0 || x == 1
  | 2, .ref _ => true
  | 2, .null => true
  | 3, .long _ => true
  | 4, .double _ => true
  | _, _ => false
theorem sw_fit_i (x : Int32) : sw_fit 0 (.int x) = true := rfl
theorem sw_fit_r (x : Nat) : sw_fit 2 (.ref x) = true := rfl
theorem sw_fit_n : sw_fit 2 .null = true := rfl
theorem sw_fit_l (x : Int64) : sw_fit 3 (.long x) = true := rfl
theorem sw_fit_d (x : UInt64) : sw_fit 4 (.double x) = true := rfl
def sw_b (c : Bool) : Int32 := if c = true then 1 else 0
theorem sw_b_t : sw_b true = 1 := rfl
theorem sw_b_f : sw_b false = 0 := rfl
theorem sw_fit_b (c : Bool) : sw_fit 1 (.int (sw_b c)) = true := by cases c <;> decide
theorem sw_fit_0 : sw_fit 1 (.int 0) = true := by decide
theorem sw_fit_1 : sw_fit 1 (.int 1) = true := by decide
theorem sw_b_0 (c : Bool) : (sw_b c = 0) = (c = false) := by cases c <;> simp [sw_b]
theorem sw_b_1 (c : Bool) : (sw_b c = 1) = (c = true) := by cases c <;> simp [sw_b]
/-- the cells of a new array -/
def sw_dv (t : Nat) : Value := if t ≤ 65 then .int 0 else if t = 66 then .long 0 else .null
/-- the value type of an array's cells -/
def sw_vt (t : Nat) : Nat := if t = 64 then 0 else if t = 65 then 1 else if t = 66 then 3 else 2
def sw_rel : Nat → Int32 → Int32 → Bool
  | 0, x, y => decide (x = y)
  | 1, x, y => decide (¬ x = y)
  | 2, x, y => decide (x < y)
  | 3, x, y => decide (y ≤ x)
  | 4, x, y => decide (y < x)
  | _, x, y => decide (x ≤ y)
def sw_lk (x : Int32) : List (Int32 × Nat × List Bool) → Nat × List Bool → Nat × List Bool
  | [], d => d
  | (k, n) :: t, d => if x = k then n else sw_lk x t d
theorem sw_lk_e (x : Int32) (d : Nat × List Bool) : sw_lk x [] d = d := rfl
theorem sw_lk_c (x k : Int32) (n d : Nat × List Bool) (t : List (Int32 × Nat × List Bool)) : sw_lk x ((k, n) :: t) d = if x = k then n else sw_lk x t d := rfl
def sw_cpy (s d : List Value) (sp dp n : Nat) : List Value := d.take dp ++ ((s.drop sp).take n ++ d.drop (dp + n))
section SWI
variable {cf : sw_F} {B : sw_B} {r : List sw_I} {l : sw_L} {st : List Value} {P : sw_P}
def sw_push (v : Value) : sw_I := fun _ s => some (.inl (s.1, v :: s.2.1, s.2.2))
theorem ex_push (v : Value) : sw_ex cf B (sw_push v :: r) l st P = sw_ex cf B r l (v :: st) P := sw_next rfl
def sw_ld (t k : Nat) : sw_I := fun _ s => match sw_gl s.1 k with
  | some v => if sw_fit t v = true then some (.inl (s.1, v :: s.2.1, s.2.2)) else none
  | none => none
theorem ex_ld (t k : Nat) : sw_ex cf B (sw_ld t k :: r) l st P = sw_bo (sw_gl l k) fun v => if sw_fit t v = true then sw_ex cf B r l (v :: st) P else none := by
  cases h : sw_gl l k with
  | none => exact sw_stuck (by simp [sw_ld, h])
  | some v =>
    show _ = if sw_fit t v = true then sw_ex cf B r l (v :: st) P else none
    by_cases h2 : sw_fit t v = true
    · rw [if_pos h2]; exact sw_next (by simp [sw_ld, h, h2])
    · rw [if_neg h2]; exact sw_stuck (by simp [sw_ld, h, h2])
def sw_sti (k : Nat) : sw_I := fun _ s => match s with
  | (l, .int x :: st, P) => some (.inl (sw_sl1 l k (.int x), st, P))
  | _ => none
theorem ex_sti (k : Nat) (x : Int32) : sw_ex cf B (sw_sti k :: r) l (.int x :: st) P = sw_ex cf B r (sw_sl1 l k (.int x)) st P := sw_next rfl
def sw_sta (k : Nat) : sw_I := fun _ s => match s with
  | (l, .ref x :: st, P) => some (.inl (sw_sl1 l k (.ref x), st, P))
  | (l, .null :: st, P) => some (.inl (sw_sl1 l k .null, st, P))
  | _ => none
theorem ex_sta (k : Nat) (x : Nat) : sw_ex cf B (sw_sta k :: r) l (.ref x :: st) P = sw_ex cf B r (sw_sl1 l k (.ref x)) st P := sw_next rfl
theorem ex_sta_n (k : Nat) : sw_ex cf B (sw_sta k :: r) l (.null :: st) P = sw_ex cf B r (sw_sl1 l k .null) st P := sw_next rfl
def sw_stl (k : Nat) : sw_I := fun _ s => match s with
  | (l, .long x :: st, P) => some (.inl (sw_no (sw_sl1 l k (.long x)) (k + 1), st, P))
  | _ => none
theorem ex_stl (k : Nat) (x : Int64) : sw_ex cf B (sw_stl k :: r) l (.long x :: st) P = sw_ex cf B r (sw_no (sw_sl1 l k (.long x)) (k + 1)) st P := sw_next rfl
def sw_std (k : Nat) : sw_I := fun _ s => match s with
  | (l, .double x :: st, P) => some (.inl (sw_no (sw_sl1 l k (.double x)) (k + 1), st, P))
  | _ => none
theorem ex_std (k : Nat) (x : UInt64) : sw_ex cf B (sw_std k :: r) l (.double x :: st) P = sw_ex cf B r (sw_no (sw_sl1 l k (.double x)) (k + 1)) st P := sw_next rfl
def sw_inc (k : Nat) (c : Int32) : sw_I := fun _ s => match sw_gl s.1 k with
  | some (.int x) => some (.inl (sw_sl1 s.1 k (.int (x + c)), s.2.1, s.2.2))
  | _ => none
def sw_oi {β : Type} (o : Option Value) (f : Int32 → Option β) : Option β := match o with
  | some (.int x) => f x
  | _ => none
theorem sw_oi_s {β : Type} (x : Int32) (f : Int32 → Option β) : sw_oi (some (.int x)) f = f x := rfl
theorem ex_inc (k : Nat) (c : Int32) : sw_ex cf B (sw_inc k c :: r) l st P = sw_oi (sw_gl l k) fun x => sw_ex cf B r (sw_sl1 l k (.int (x + c))) st P := by
  cases h : sw_gl l k with
  | none => exact sw_stuck (by simp [sw_inc, h])
  | some v => cases v <;> first | exact sw_next (by simp [sw_inc, h]) | exact sw_stuck (by simp [sw_inc, h])
def sw_pop : sw_I := fun _ s => match s with
  | (l, v :: st, P) => if v.category = 1 then some (.inl (l, st, P)) else none
  | _ => none
theorem ex_pop_i (x : Int32) : sw_ex cf B (sw_pop :: r) l (.int x :: st) P = sw_ex cf B r l st P := sw_next rfl
theorem ex_pop_r (x : Nat) : sw_ex cf B (sw_pop :: r) l (.ref x :: st) P = sw_ex cf B r l st P := sw_next rfl
theorem ex_pop_n : sw_ex cf B (sw_pop :: r) l (.null :: st) P = sw_ex cf B r l st P := sw_next rfl
def sw_dup : sw_I := fun _ s => match s with
  | (l, v :: st, P) => if v.category = 1 then some (.inl (l, v :: v :: st, P)) else none
  | _ => none
theorem ex_dup_i (x : Int32) : sw_ex cf B (sw_dup :: r) l (.int x :: st) P = sw_ex cf B r l (.int x :: .int x :: st) P := sw_next rfl
theorem ex_dup_r (x : Nat) : sw_ex cf B (sw_dup :: r) l (.ref x :: st) P = sw_ex cf B r l (.ref x :: .ref x :: st) P := sw_next rfl
theorem ex_dup_n : sw_ex cf B (sw_dup :: r) l (.null :: st) P = sw_ex cf B r l (.null :: .null :: st) P := sw_next rfl
def sw_dx1 : sw_I := fun _ s => match s with
  | (l, a :: b :: st, P) => if a.category = 1 ∧ b.category = 1 then some (.inl (l, a :: b :: a :: st, P)) else none
  | _ => none
theorem ex_dx1_ir (x : Int32) (y : Nat) : sw_ex cf B (sw_dx1 :: r) l (.int x :: .ref y :: st) P = sw_ex cf B r l (.int x :: .ref y :: .int x :: st) P := sw_next rfl
theorem ex_dx1_rr (x y : Nat) : sw_ex cf B (sw_dx1 :: r) l (.ref x :: .ref y :: st) P = sw_ex cf B r l (.ref x :: .ref y :: .ref x :: st) P := sw_next rfl
def sw_du2 : sw_I := fun _ s => match s with
  | (l, a :: b :: st, P) => if a.category = 1 ∧ b.category = 1 then some (.inl (l, a :: b :: a :: b :: st, P)) else none
  | _ => none
theorem ex_du2 (x : Int32) (y : Nat) : sw_ex cf B (sw_du2 :: r) l (.int x :: .ref y :: st) P = sw_ex cf B r l (.int x :: .ref y :: .int x :: .ref y :: st) P := sw_next rfl
def sw_ii (f : Int32 → Int32 → Int32) : sw_I := fun _ s => match s with
  | (l, .int y :: .int x :: st, P) => some (.inl (l, .int (f x y) :: st, P))
  | _ => none
theorem ex_ii (f : Int32 → Int32 → Int32) (x y : Int32) : sw_ex cf B (sw_ii f :: r) l (.int y :: .int x :: st) P = sw_ex cf B r l (.int (f x y) :: st) P := sw_next rfl
def sw_dvi (f : Int32 → Int32 → Int32) : sw_I := fun _ s => match s with
  | (l, .int y :: .int x :: st, P) => if y = 0 then none else some (.inl (l, .int (f x y) :: st, P))
  | _ => none
theorem ex_dvi (f : Int32 → Int32 → Int32) (x y : Int32) : sw_ex cf B (sw_dvi f :: r) l (.int y :: .int x :: st) P = if y = 0 then none else sw_ex cf B r l (.int (f x y) :: st) P := by
  by_cases h : y = 0
  · rw [if_pos h]; exact sw_stuck (by simp [sw_dvi, h])
  · rw [if_neg h]; exact sw_next (by simp [sw_dvi, h])
def sw_in (f : Int32 → Int32) : sw_I := fun _ s => match s with
  | (l, .int x :: st, P) => some (.inl (l, .int (f x) :: st, P))
  | _ => none
theorem ex_in (f : Int32 → Int32) (x : Int32) : sw_ex cf B (sw_in f :: r) l (.int x :: st) P = sw_ex cf B r l (.int (f x) :: st) P := sw_next rfl
def sw_i2l : sw_I := fun _ s => match s with
  | (l, .int x :: st, P) => some (.inl (l, .long x.toInt64 :: st, P))
  | _ => none
theorem ex_i2l (x : Int32) : sw_ex cf B (sw_i2l :: r) l (.int x :: st) P = sw_ex cf B r l (.long x.toInt64 :: st) P := sw_next rfl
def sw_i2d : sw_I := fun _ s => match s with
  | (l, .int x :: st, P) => some (.inl (l, .double (FP.i2d x) :: st, P))
  | _ => none
theorem ex_i2d (x : Int32) : sw_ex cf B (sw_i2d :: r) l (.int x :: st) P = sw_ex cf B r l (.double (FP.i2d x) :: st) P := sw_next rfl
def sw_ll (f : Int64 → Int64 → Int64) : sw_I := fun _ s => match s with
  | (l, .long y :: .long x :: st, P) => some (.inl (l, .long (f x y) :: st, P))
  | _ => none
theorem ex_ll (f : Int64 → Int64 → Int64) (x y : Int64) : sw_ex cf B (sw_ll f :: r) l (.long y :: .long x :: st) P = sw_ex cf B r l (.long (f x y) :: st) P := sw_next rfl
def sw_lc : sw_I := fun _ s => match s with
  | (l, .long y :: .long x :: st, P) => some (.inl (l, .int (lg_cmp x y) :: st, P))
  | _ => none
theorem ex_lc (x y : Int64) : sw_ex cf B (sw_lc :: r) l (.long y :: .long x :: st) P = sw_ex cf B r l (.int (lg_cmp x y) :: st) P := sw_next rfl
noncomputable def sw_dd : sw_I := fun _ s => match s with
  | (l, .double y :: .double x :: st, P) => by classical exact if vf_n64 (FP.ddiv x y) then some (.inl (l, .double (FP.ddiv x y) :: st, P)) else none
  | _ => none
theorem ex_dd (x y : UInt64) (h : vf_n64 (FP.ddiv x y)) : sw_ex cf B (sw_dd :: r) l (.double y :: .double x :: st) P = sw_ex cf B r l (.double (FP.ddiv x y) :: st) P := sw_next (by simp [sw_dd, h])
def sw_dc (op : CmpOp) : sw_I := fun _ s => match s with
  | (l, .double y :: .double x :: st, P) => some (.inl (l, .int (Op.cmpValue (FP.dcmp x y) op) :: st, P))
  | _ => none
theorem ex_dc (op : CmpOp) (x y : UInt64) : sw_ex cf B (sw_dc op :: r) l (.double y :: .double x :: st) P = sw_ex cf B r l (.int (Op.cmpValue (FP.dcmp x y) op) :: st) P := sw_next rfl
def sw_iz (k n : Nat) (bs : List Bool) : sw_I := fun _ s => match s with
  | (l, .int x :: st, P) => if sw_rel k x 0 = true then some (.inr (.inl (n, sw_mk bs l, st, P))) else some (.inl (l, st, P))
  | _ => none
def sw_ic (k n : Nat) (bs : List Bool) : sw_I := fun _ s => match s with
  | (l, .int y :: .int x :: st, P) => if sw_rel k x y = true then some (.inr (.inl (n, sw_mk bs l, st, P))) else some (.inl (l, st, P))
  | _ => none
theorem ex_iz (k n : Nat) (bs : List Bool) (x : Int32) : sw_ex cf B (sw_iz k n bs :: r) l (.int x :: st) P = if sw_rel k x 0 = true then sw_at cf B n (sw_mk bs l) st P else sw_ex cf B r l st P := by
  by_cases h : sw_rel k x 0 = true
  · rw [if_pos h]; exact sw_jump (by simp [sw_iz, h])
  · rw [if_neg h]; exact sw_next (by simp [sw_iz, h])
theorem ex_ic (k n : Nat) (bs : List Bool) (x y : Int32) : sw_ex cf B (sw_ic k n bs :: r) l (.int y :: .int x :: st) P = if sw_rel k x y = true then sw_at cf B n (sw_mk bs l) st P else sw_ex cf B r l st P := by
  by_cases h : sw_rel k x y = true
  · rw [if_pos h]; exact sw_jump (by simp [sw_ic, h])
  · rw [if_neg h]; exact sw_next (by simp [sw_ic, h])
theorem sw_rel_0 (x y : Int32) : (sw_rel 0 x y = true) = (x = y) := by simp [sw_rel]
theorem sw_rel_1 (x y : Int32) : (sw_rel 1 x y = true) = (¬ x = y) := by simp [sw_rel]
theorem sw_rel_2 (x y : Int32) : (sw_rel 2 x y = true) = (x < y) := by simp [sw_rel]
theorem sw_rel_3 (x y : Int32) : (sw_rel 3 x y = true) = (y ≤ x) := by simp [sw_rel]
theorem sw_rel_4 (x y : Int32) : (sw_rel 4 x y = true) = (y < x) := by simp [sw_rel]
theorem sw_rel_5 (x y : Int32) : (sw_rel 5 x y = true) = (x ≤ y) := by simp [sw_rel]
def sw_goto (n : Nat) (bs : List Bool) : sw_I := fun _ s => some (.inr (.inl (n, sw_mk bs s.1, s.2)))
theorem ex_goto (n : Nat) (bs : List Bool) : sw_ex cf B (sw_goto n bs :: r) l st P = sw_at cf B n (sw_mk bs l) st P := sw_jump rfl
/-- ifnull (true), ifnonnull (false) -/
def sw_inl (b : Bool) (n : Nat) (bs : List Bool) : sw_I := fun _ s => match s with
  | (l, .null :: st, P) => if b = true then some (.inr (.inl (n, sw_mk bs l, st, P))) else some (.inl (l, st, P))
  | (l, .ref _ :: st, P) => if b = true then some (.inl (l, st, P)) else some (.inr (.inl (n, sw_mk bs l, st, P)))
  | _ => none
theorem ex_inl_tn (n : Nat) (bs : List Bool) : sw_ex cf B (sw_inl true n bs :: r) l (.null :: st) P = sw_at cf B n (sw_mk bs l) st P := sw_jump rfl
theorem ex_inl_tr (n x : Nat) (bs : List Bool) : sw_ex cf B (sw_inl true n bs :: r) l (.ref x :: st) P = sw_ex cf B r l st P := sw_next rfl
theorem ex_inl_fn (n : Nat) (bs : List Bool) : sw_ex cf B (sw_inl false n bs :: r) l (.null :: st) P = sw_ex cf B r l st P := sw_next rfl
theorem ex_inl_fr (n x : Nat) (bs : List Bool) : sw_ex cf B (sw_inl false n bs :: r) l (.ref x :: st) P = sw_at cf B n (sw_mk bs l) st P := sw_jump rfl
/-- if_acmpeq (true), if_acmpne (false), of two references that aren't null -/
def sw_iac (b : Bool) (n : Nat) (bs : List Bool) : sw_I := fun _ s => match s with
  | (l, .ref y :: .ref x :: st, P) => if decide (x = y) = b then some (.inr (.inl (n, sw_mk bs l, st, P))) else some (.inl (l, st, P))
  | _ => none
theorem ex_iac_t (n x y : Nat) (bs : List Bool) : sw_ex cf B (sw_iac true n bs :: r) l (.ref y :: .ref x :: st) P = if x = y then sw_at cf B n (sw_mk bs l) st P else sw_ex cf B r l st P := by
  by_cases h : x = y
  · rw [if_pos h]; exact sw_jump (by simp [sw_iac, h])
  · rw [if_neg h]; exact sw_next (by simp [sw_iac, h])
theorem ex_iac_f (n x y : Nat) (bs : List Bool) : sw_ex cf B (sw_iac false n bs :: r) l (.ref y :: .ref x :: st) P = if x = y then sw_ex cf B r l st P else sw_at cf B n (sw_mk bs l) st P := by
  by_cases h : x = y
  · rw [if_pos h]; exact sw_next (by simp [sw_iac, h])
  · rw [if_neg h]; exact sw_jump (by simp [sw_iac, h])
def sw_sw (t : List (Int32 × Nat × List Bool)) (d : Nat × List Bool) : sw_I := fun _ s => match s with
  | (l, .int x :: st, P) => some (.inr (.inl ((sw_lk x t d).1, sw_mk (sw_lk x t d).2 l, st, P)))
  | _ => none
theorem ex_sw (t : List (Int32 × Nat × List Bool)) (d : Nat × List Bool) (x : Int32) : sw_ex cf B (sw_sw t d :: r) l (.int x :: st) P = sw_at cf B (sw_lk x t d).1 (sw_mk (sw_lk x t d).2 l) st P := sw_jump rfl
def sw_gf (c k : Nat) : sw_I := fun _ s => match s with
  | (l, .ref a :: st, P) => sw_op (sw_hp P a) c fun vs => sw_bo vs[k]? fun v => some (.inl (l, v :: st, P))
  | _ => none
theorem ex_gf (c k a : Nat) : sw_ex cf B (sw_gf c k :: r) l (.ref a :: st) P = sw_op (sw_hp P a) c fun vs => sw_bo vs[k]? fun v => sw_ex cf B r l (v :: st) P := by
  rw [sw_ex_cons]
  simp only [sw_gf]
  cases sw_hp P a with
  | none => rfl
  | some o =>
    obtain ⟨t, vs⟩ := o
    simp only [sw_op]
    by_cases h : t = c
    · rw [if_pos h, if_pos h]
      cases vs[k]? <;> rfl
    · rw [if_neg h, if_neg h]
def sw_pf (c k t : Nat) : sw_I := fun _ s => match s with
  | (l, v :: .ref a :: st, P) => sw_op (sw_hp P a) c fun vs => if sw_fit t v = true ∧ k < vs.length then some (.inl (l, st, sw_set P a (c, vs.set k v))) else none
  | _ => none
theorem ex_pf (c k t a : Nat) (v : Value) : sw_ex cf B (sw_pf c k t :: r) l (v :: .ref a :: st) P = sw_op (sw_hp P a) c fun vs => if sw_fit t v = true ∧ k < vs.length then sw_ex cf B r l st (sw_set P a (c, vs.set k v)) else none := by
  rw [sw_ex_cons]
  simp only [sw_pf]
  cases sw_hp P a with
  | none => rfl
  | some o =>
    obtain ⟨t', vs⟩ := o
    simp only [sw_op]
    by_cases h : t' = c
    · rw [if_pos h, if_pos h]
      by_cases h2 : sw_fit t v = true ∧ k < vs.length
      · rw [if_pos h2, if_pos h2]
      · rw [if_neg h2, if_neg h2]
    · rw [if_neg h, if_neg h]
def sw_nw (c : Nat) (dv : List Value) : sw_I := fun _ s => some (.inl (s.1, .ref (sw_nx s.2.2) :: s.2.1, sw_new s.2.2 (c, dv)))
theorem ex_nw (c : Nat) (dv : List Value) : sw_ex cf B (sw_nw c dv :: r) l st P = sw_ex cf B r l (.ref (sw_nx P) :: st) (sw_new P (c, dv)) := sw_next rfl
def sw_na (t : Nat) : sw_I := fun _ s => match s with
  | (l, .int n :: st, P) => if 0 ≤ n ∧ n.toNatClampNeg ≤ 1048576 then some (.inl (l, .ref (sw_nx P) :: st, sw_new P (t, List.replicate n.toNatClampNeg (sw_dv t)))) else none
  | _ => none
theorem ex_na (t : Nat) (n : Int32) : sw_ex cf B (sw_na t :: r) l (.int n :: st) P = if 0 ≤ n ∧ n.toNatClampNeg ≤ 1048576 then sw_ex cf B r l (.ref (sw_nx P) :: st) (sw_new P (t, List.replicate n.toNatClampNeg (sw_dv t))) else none := by
  by_cases h : 0 ≤ n ∧ n.toNatClampNeg ≤ 1048576
  · rw [if_pos h]; exact sw_next (by simp only [sw_na]; rw [if_pos h])
  · rw [if_neg h]; exact sw_stuck (by simp only [sw_na]; rw [if_neg h])
def sw_al : sw_I := fun _ s => match s with
  | (l, .ref a :: st, P) => match sw_hp P a with
    | some (t, vs) => if 64 ≤ t then some (.inl (l, .int (Int32.ofNat vs.length) :: st, P)) else none
    | none => none
  | _ => none
def sw_oa {β : Type} (o : Option sw_O) (f : List Value → Option β) : Option β := match o with
  | some (t, vs) => if 64 ≤ t then f vs else none
  | none => none
theorem sw_oa_s {β : Type} (t : Nat) (vs : List Value) (f : List Value → Option β) : sw_oa (some (t, vs)) f = if 64 ≤ t then f vs else none := rfl
theorem ex_al (a : Nat) : sw_ex cf B (sw_al :: r) l (.ref a :: st) P = sw_oa (sw_hp P a) fun vs => sw_ex cf B r l (.int (Int32.ofNat vs.length) :: st) P := by
  rw [sw_ex_cons]
  simp only [sw_al]
  cases sw_hp P a with
  | none => rfl
  | some o =>
    obtain ⟨t, vs⟩ := o
    simp only [sw_oa]
    by_cases h : 64 ≤ t
    · rw [if_pos h, if_pos h]
    · rw [if_neg h, if_neg h]
def sw_ald (t : Nat) : sw_I := fun _ s => match s with
  | (l, .int i :: .ref a :: st, P) => sw_op (sw_hp P a) t fun vs => if i < 0 then none else sw_bo vs[i.toNatClampNeg]? fun v => some (.inl (l, v :: st, P))
  | _ => none
theorem ex_ald (t a : Nat) (i : Int32) : sw_ex cf B (sw_ald t :: r) l (.int i :: .ref a :: st) P = sw_op (sw_hp P a) t fun vs => if i < 0 then none else sw_bo vs[i.toNatClampNeg]? fun v => sw_ex cf B r l (v :: st) P := by
  rw [sw_ex_cons]
  simp only [sw_ald]
  cases sw_hp P a with
  | none => rfl
  | some o =>
    obtain ⟨t', vs⟩ := o
    simp only [sw_op]
    by_cases h : t' = t
    · rw [if_pos h, if_pos h]
      by_cases h2 : i < 0
      · rw [if_pos h2, if_pos h2]
      · rw [if_neg h2, if_neg h2]
        cases vs[i.toNatClampNeg]? <;> rfl
    · rw [if_neg h, if_neg h]
/-- a store into an array of numbers -/
def sw_ast (t : Nat) : sw_I := fun _ s => match s with
  | (l, v :: .int i :: .ref a :: st, P) => sw_op (sw_hp P a) t fun vs => if ¬ i < 0 ∧ i.toNatClampNeg < vs.length ∧ sw_fit (sw_vt t) v = true then some (.inl (l, st, sw_set P a (t, vs.set i.toNatClampNeg v))) else none
  | _ => none
theorem ex_ast (t a : Nat) (i : Int32) (v : Value) : sw_ex cf B (sw_ast t :: r) l (v :: .int i :: .ref a :: st) P = sw_op (sw_hp P a) t fun vs => if ¬ i < 0 ∧ i.toNatClampNeg < vs.length ∧ sw_fit (sw_vt t) v = true then sw_ex cf B r l st (sw_set P a (t, vs.set i.toNatClampNeg v)) else none := by
  rw [sw_ex_cons]
  simp only [sw_ast]
  cases sw_hp P a with
  | none => rfl
  | some o =>
    obtain ⟨t', vs⟩ := o
    simp only [sw_op]
    by_cases h : t' = t
    · rw [if_pos h, if_pos h]
      by_cases h2 : ¬ i < 0 ∧ i.toNatClampNeg < vs.length ∧ sw_fit (sw_vt t) v = true
      · rw [if_pos h2, if_pos h2]
      · rw [if_neg h2, if_neg h2]
    · rw [if_neg h, if_neg h]
/-- a store into an array of references: what may lie there, by its kind -/
def sw_el (P : sw_P) (cs : List Nat) : Value → Bool
  | .null => true
  | .ref b => sw_kds (sw_hp P b) cs
  | _ => false
theorem sw_el_n (P : sw_P) (cs : List Nat) : sw_el P cs .null = true := rfl
theorem sw_el_r (P : sw_P) (cs : List Nat) (b : Nat) : sw_el P cs (.ref b) = sw_kds (sw_hp P b) cs := rfl
/-- what may lie in an array of objects: the kinds that the tables say are castable -/
def sw_k67 : List Nat := [15, 17, 24, 6, 8, 10, 16, 20, 21, 41, 64]
def sw_ce (P : sw_P) (t : Nat) (v : Value) : Bool := if t = 67 then sw_el P sw_k67 v else sw_fit (sw_vt t) v
def sw_asr (t : Nat) (cs : List Nat) : sw_I := fun _ s => match s with
  | (l, v :: .int i :: .ref a :: st, P) => sw_op (sw_hp P a) t fun vs => if ¬ i < 0 ∧ i.toNatClampNeg < vs.length ∧ sw_el P cs v = true then some (.inl (l, st, sw_set P a (t, vs.set i.toNatClampNeg v))) else none
  | _ => none
theorem ex_asr (t a : Nat) (cs : List Nat) (i : Int32) (v : Value) : sw_ex cf B (sw_asr t cs :: r) l (v :: .int i :: .ref a :: st) P = sw_op (sw_hp P a) t fun vs => if ¬ i < 0 ∧ i.toNatClampNeg < vs.length ∧ sw_el P cs v = true then sw_ex cf B r l st (sw_set P a (t, vs.set i.toNatClampNeg v)) else none := by
  rw [sw_ex_cons]
  simp only [sw_asr]
  cases sw_hp P a with
  | none => rfl
  | some o =>
    obtain ⟨t', vs⟩ := o
    simp only [sw_op]
    by_cases h : t' = t
    · rw [if_pos h, if_pos h]
      by_cases h2 : ¬ i < 0 ∧ i.toNatClampNeg < vs.length ∧ sw_el P cs v = true
      · rw [if_pos h2, if_pos h2]
      · rw [if_neg h2, if_neg h2]
    · rw [if_neg h, if_neg h]
/-- the cells of an array of type t; the empty array 70 counts for 67 -/
def sw_oc {β : Type} (o : Option sw_O) (c : Nat) (f : List Value → Option β) : Option β := match o with
  | some (t, vs) => if t = c ∨ (c = 67 ∧ t = 70) then f vs else none
  | none => none
theorem sw_oc_s {β : Type} (c : Nat) (vs : List Value) (f : List Value → Option β) : sw_oc (some (c, vs)) c f = f vs := if_pos (Or.inl rfl)
theorem sw_oc_e {β : Type} (vs : List Value) (f : List Value → Option β) : sw_oc (some (70, vs)) 67 f = f vs := by simp [sw_oc]
/-- System.arraycopy within one type of arrays -/
def sw_cp (t : Nat) : sw_I := fun _ s => match s with
  | (l, .int n :: .int dp :: .ref d :: .int sp :: .ref a :: st, P) => sw_oc (sw_hp P a) t fun vs => sw_op (sw_hp P d) t fun ws =>
    if 0 ≤ n ∧ 0 ≤ sp ∧ 0 ≤ dp ∧ sp.toNatClampNeg + n.toNatClampNeg ≤ vs.length ∧ dp.toNatClampNeg + n.toNatClampNeg ≤ ws.length ∧ sw_ok st = true ∧ ((vs.drop sp.toNatClampNeg).take n.toNatClampNeg).all (sw_ce P t) = true then some (.inl (l, st, sw_set P d (t, sw_cpy vs ws sp.toNatClampNeg dp.toNatClampNeg n.toNatClampNeg))) else none
  | _ => none
theorem ex_cp (t a d : Nat) (n sp dp : Int32) : sw_ex cf B (sw_cp t :: r) l (.int n :: .int dp :: .ref d :: .int sp :: .ref a :: st) P = sw_oc (sw_hp P a) t fun vs => sw_op (sw_hp P d) t fun ws =>
    if 0 ≤ n ∧ 0 ≤ sp ∧ 0 ≤ dp ∧ sp.toNatClampNeg + n.toNatClampNeg ≤ vs.length ∧ dp.toNatClampNeg + n.toNatClampNeg ≤ ws.length ∧ sw_ok st = true ∧ ((vs.drop sp.toNatClampNeg).take n.toNatClampNeg).all (sw_ce P t) = true then sw_ex cf B r l st (sw_set P d (t, sw_cpy vs ws sp.toNatClampNeg dp.toNatClampNeg n.toNatClampNeg)) else none := by
  rw [sw_ex_cons]
  simp only [sw_cp]
  cases sw_hp P a with
  | none => rfl
  | some o =>
    obtain ⟨t', vs⟩ := o
    simp only [sw_op, sw_oc]
    by_cases h : t' = t ∨ (t = 67 ∧ t' = 70)
    · rw [if_pos h, if_pos h]
      cases sw_hp P d with
      | none => rfl
      | some o2 =>
        obtain ⟨t2, ws⟩ := o2
        dsimp only
        by_cases h3 : t2 = t
        · rw [if_pos h3, if_pos h3]
          by_cases h2 : 0 ≤ n ∧ 0 ≤ sp ∧ 0 ≤ dp ∧ sp.toNatClampNeg + n.toNatClampNeg ≤ vs.length ∧ dp.toNatClampNeg + n.toNatClampNeg ≤ ws.length ∧ sw_ok st = true ∧ ((vs.drop sp.toNatClampNeg).take n.toNatClampNeg).all (sw_ce P t) = true
          · rw [if_pos h2, if_pos h2]
          · rw [if_neg h2, if_neg h2]
        · rw [if_neg h3, if_neg h3]
    · rw [if_neg h, if_neg h]
def sw_ct (cs : List Nat) : sw_I := fun _ s => match s with
  | (l, v :: st, P) => if sw_el P cs v = true then some (.inl (l, v :: st, P)) else none
  | _ => none
theorem ex_ct (cs : List Nat) (v : Value) : sw_ex cf B (sw_ct cs :: r) l (v :: st) P = if sw_el P cs v = true then sw_ex cf B r l (v :: st) P else none := by
  by_cases h : sw_el P cs v = true
  · rw [if_pos h]; exact sw_next (by simp only [sw_ct]; rw [if_pos h])
  · rw [if_neg h]; exact sw_stuck (by simp only [sw_ct]; rw [if_neg h])
/-- a constant's address -/
def sw_gs (j : Nat) : sw_I := fun _ s => some (.inl (s.1, .ref (sw_ev s.2.2 j) :: s.2.1, s.2.2))
theorem ex_gs (j : Nat) : sw_ex cf B (sw_gs j :: r) l st P = sw_ex cf B r l (.ref (sw_ev P j) :: st) P := sw_next rfl
/-- getClass() of an array of objects: the constant 50 -/
def sw_gc (t : Nat) : sw_I := fun _ s => match s with
  | (l, .ref a :: st, P) => if sw_kds (sw_hp P a) [t, 70] = true ∧ sw_ok st = true then some (.inl (l, .ref (sw_ev P 50) :: st, P)) else none
  | _ => none
theorem ex_gc (t a : Nat) : sw_ex cf B (sw_gc t :: r) l (.ref a :: st) P = if sw_kds (sw_hp P a) [t, 70] = true ∧ sw_ok st = true then sw_ex cf B r l (.ref (sw_ev P 50) :: st) P else none := by
  by_cases h : sw_kds (sw_hp P a) [t, 70] = true ∧ sw_ok st = true
  · rw [if_pos h]; exact sw_next (by simp only [sw_gc]; rw [if_pos h])
  · rw [if_neg h]; exact sw_stuck (by simp only [sw_gc]; rw [if_neg h])
/-- Object.<init> -/
def sw_oin : sw_I := fun _ s => match s with
  | (l, .ref _ :: st, P) => if sw_ok st = true then some (.inl (l, st, P)) else none
  | _ => none
theorem ex_oin (a : Nat) : sw_ex cf B (sw_oin :: r) l (.ref a :: st) P = if sw_ok st = true then sw_ex cf B r l st P else none := by
  by_cases h : sw_ok st = true
  · rw [if_pos h]; exact sw_next (by simp only [sw_oin]; rw [if_pos h])
  · rw [if_neg h]; exact sw_stuck (by simp only [sw_oin]; rw [if_neg h])
/-- Math.max, Math.min -/
def sw_mm (f : Int32 → Int32 → Int32) : sw_I := fun _ s => match s with
  | (l, .int y :: .int x :: st, P) => if sw_ok st = true then some (.inl (l, .int (f x y) :: st, P)) else none
  | _ => none
theorem ex_mm (f : Int32 → Int32 → Int32) (x y : Int32) : sw_ex cf B (sw_mm f :: r) l (.int y :: .int x :: st) P = if sw_ok st = true then sw_ex cf B r l (.int (f x y) :: st) P else none := by
  by_cases h : sw_ok st = true
  · rw [if_pos h]; exact sw_next (by simp only [sw_mm]; rw [if_pos h])
  · rw [if_neg h]; exact sw_stuck (by simp only [sw_mm]; rw [if_neg h])
def sw_max (x y : Int32) : Int32 := if x < y then y else x
def sw_min (x y : Int32) : Int32 := if y < x then y else x
/-- a call of a static method, or of a constructor -/
def sw_cs (y n : Nat) : sw_I := fun cf s => if n ≤ s.2.1.length ∧ sw_ok (s.2.1.drop n) = true then match cf y (s.2.1.take n).reverse s.2.2 with
    | none => none
    | some (.inl v, P') => some (.inl (s.1, sw_psh v (s.2.1.drop n), P'))
    | some (.inr e, P') => some (.inr (.inr (.inr e, P'))) else none
theorem ex_cs (y n : Nat) (as : List Value) (st0 : List Value) (h1 : st0.take n = as) (h2 : n ≤ st0.length) (h3 : st0.drop n = st) : sw_ex cf B (sw_cs y n :: r) l st0 P = if sw_ok st = true then sw_cl (cf y as.reverse P) (fun v P' => sw_ex cf B r l (sw_psh v st) P') else none := by
  subst h1
  subst h3
  by_cases h : sw_ok (st0.drop n) = true
  · rw [if_pos h]
    cases hc : cf y (st0.take n).reverse P with
    | none => exact sw_stuck (by simp only [sw_cs]; rw [if_pos ⟨h2, h⟩, hc])
    | some x =>
      obtain ⟨v | e, P'⟩ := x
      · exact sw_next (by simp only [sw_cs]; rw [if_pos ⟨h2, h⟩, hc])
      · exact sw_fin (by simp only [sw_cs]; rw [if_pos ⟨h2, h⟩, hc])
  · rw [if_neg h]; exact sw_stuck (by simp only [sw_cs]; rw [if_neg (fun q => h q.2)])
/-- a constructor's call: the receiver is a reference -/
def sw_ci (y n : Nat) : sw_I := fun cf s => match s.2.1.drop n with
  | .ref _ :: _ => sw_cs y (n + 1) cf s
  | _ => none
/-- a call by the receiver's kind -/
def sw_cv (c y n : Nat) : sw_I := fun cf s => match s.2.1.drop n with
  | .ref a :: _ => if sw_kd (sw_hp s.2.2 a) c = true then sw_cs y (n + 1) cf s else none
  | _ => none
theorem ex_cv (c y n a : Nat) (as : List Value) (st0 : List Value) (h1 : st0.take n = as) (h2 : n ≤ st0.length) (h3 : st0.drop n = .ref a :: st) : sw_ex cf B (sw_cv c y n :: r) l st0 P = if sw_ok st = true ∧ sw_kd (sw_hp P a) c = true then sw_cl (cf y (.ref a :: as.reverse) P) (fun v P' => sw_ex cf B r l (sw_psh v st) P') else none := by
  have e1 : st0.take (n + 1) = as ++ [.ref a] := by
    rw [← List.take_append_drop n st0, h1, h3]
    have : as.length = n := by rw [← h1]; simp; omega
    rw [List.take_append, this]
    simp [List.take_of_length_le (show as.length ≤ n + 1 by omega)]
  have e2 : st0.drop (n + 1) = st := by
    rw [← List.drop_drop, h3]; rfl
  have e3 : n + 1 ≤ st0.length := by
    have h := congrArg List.length h3
    simp at h
    omega
  by_cases hk : sw_kd (sw_hp P a) c = true
  · have h := ex_cs (cf := cf) (B := B) (r := r) (l := l) (P := P) y (n + 1) _ st0 e1 e3 e2
    rw [sw_ex_cons] at h ⊢
    have e : sw_cv c y n cf (l, st0, P) = sw_cs y (n + 1) cf (l, st0, P) := by
      simp only [sw_cv]
      rw [h3]
      simp only []
      rw [if_pos hk]
    rw [e, h]
    simp [hk]
  · rw [if_neg (fun q => hk q.2)]
    exact sw_stuck (by simp only [sw_cv]; rw [h3]; simp only []; rw [if_neg hk])
theorem ex_ci (y n a : Nat) (as : List Value) (st0 : List Value) (h1 : st0.take n = as) (h2 : n ≤ st0.length) (h3 : st0.drop n = .ref a :: st) : sw_ex cf B (sw_ci y n :: r) l st0 P = if sw_ok st = true then sw_cl (cf y (.ref a :: as.reverse) P) (fun v P' => sw_ex cf B r l (sw_psh v st) P') else none := by
  have e1 : st0.take (n + 1) = as ++ [.ref a] := by
    rw [← List.take_append_drop n st0, h1, h3]
    have : as.length = n := by rw [← h1]; simp; omega
    rw [List.take_append, this]
    simp [List.take_of_length_le (show as.length ≤ n + 1 by omega)]
  have e2 : st0.drop (n + 1) = st := by
    rw [← List.drop_drop, h3]; rfl
  have e3 : n + 1 ≤ st0.length := by
    have h := congrArg List.length h3
    simp at h
    omega
  have h := ex_cs (cf := cf) (B := B) (r := r) (l := l) (P := P) y (n + 1) _ st0 e1 e3 e2
  rw [sw_ex_cons] at h ⊢
  have e : sw_ci y n cf (l, st0, P) = sw_cs y (n + 1) cf (l, st0, P) := by
    simp only [sw_ci]
    rw [h3]
  rw [e, h]
  simp
theorem ex_cs0 (y : Nat) : sw_ex cf B (sw_cs y 0 :: r) l (st) P = if sw_ok st = true then sw_cl (cf y [] P) (fun v P' => sw_ex cf B r l (sw_psh v st) P') else none := ex_cs y 0 _ _ rfl (by simp) rfl
theorem ex_cs1 (y : Nat) (v1 : Value) : sw_ex cf B (sw_cs y 1 :: r) l (v1 :: st) P = if sw_ok st = true then sw_cl (cf y [v1] P) (fun v P' => sw_ex cf B r l (sw_psh v st) P') else none := ex_cs y 1 _ _ rfl (by simp) rfl
theorem ex_cs2 (y : Nat) (v1 : Value) (v2 : Value) : sw_ex cf B (sw_cs y 2 :: r) l (v2 :: v1 :: st) P = if sw_ok st = true then sw_cl (cf y [v1, v2] P) (fun v P' => sw_ex cf B r l (sw_psh v st) P') else none := ex_cs y 2 _ _ rfl (by simp) rfl
theorem ex_cs3 (y : Nat) (v1 : Value) (v2 : Value) (v3 : Value) : sw_ex cf B (sw_cs y 3 :: r) l (v3 :: v2 :: v1 :: st) P = if sw_ok st = true then sw_cl (cf y [v1, v2, v3] P) (fun v P' => sw_ex cf B r l (sw_psh v st) P') else none := ex_cs y 3 _ _ rfl (by simp) rfl
theorem ex_cs4 (y : Nat) (v1 : Value) (v2 : Value) (v3 : Value) (v4 : Value) : sw_ex cf B (sw_cs y 4 :: r) l (v4 :: v3 :: v2 :: v1 :: st) P = if sw_ok st = true then sw_cl (cf y [v1, v2, v3, v4] P) (fun v P' => sw_ex cf B r l (sw_psh v st) P') else none := ex_cs y 4 _ _ rfl (by simp) rfl
theorem ex_cs5 (y : Nat) (v1 : Value) (v2 : Value) (v3 : Value) (v4 : Value) (v5 : Value) : sw_ex cf B (sw_cs y 5 :: r) l (v5 :: v4 :: v3 :: v2 :: v1 :: st) P = if sw_ok st = true then sw_cl (cf y [v1, v2, v3, v4, v5] P) (fun v P' => sw_ex cf B r l (sw_psh v st) P') else none := ex_cs y 5 _ _ rfl (by simp) rfl
theorem ex_cs6 (y : Nat) (v1 : Value) (v2 : Value) (v3 : Value) (v4 : Value) (v5 : Value) (v6 : Value) : sw_ex cf B (sw_cs y 6 :: r) l (v6 :: v5 :: v4 :: v3 :: v2 :: v1 :: st) P = if sw_ok st = true then sw_cl (cf y [v1, v2, v3, v4, v5, v6] P) (fun v P' => sw_ex cf B r l (sw_psh v st) P') else none := ex_cs y 6 _ _ rfl (by simp) rfl
theorem ex_cs7 (y : Nat) (v1 : Value) (v2 : Value) (v3 : Value) (v4 : Value) (v5 : Value) (v6 : Value) (v7 : Value) : sw_ex cf B (sw_cs y 7 :: r) l (v7 :: v6 :: v5 :: v4 :: v3 :: v2 :: v1 :: st) P = if sw_ok st = true then sw_cl (cf y [v1, v2, v3, v4, v5, v6, v7] P) (fun v P' => sw_ex cf B r l (sw_psh v st) P') else none := ex_cs y 7 _ _ rfl (by simp) rfl
theorem ex_ci0 (y a : Nat) : sw_ex cf B (sw_ci y 0 :: r) l (.ref a :: st) P = if sw_ok st = true then sw_cl (cf y [.ref a] P) (fun v P' => sw_ex cf B r l (sw_psh v st) P') else none := ex_ci y 0 a _ _ rfl (by simp) rfl
theorem ex_ci1 (y a : Nat) (v1 : Value) : sw_ex cf B (sw_ci y 1 :: r) l (v1 :: .ref a :: st) P = if sw_ok st = true then sw_cl (cf y [.ref a, v1] P) (fun v P' => sw_ex cf B r l (sw_psh v st) P') else none := ex_ci y 1 a _ _ rfl (by simp) rfl
theorem ex_ci2 (y a : Nat) (v1 : Value) (v2 : Value) : sw_ex cf B (sw_ci y 2 :: r) l (v2 :: v1 :: .ref a :: st) P = if sw_ok st = true then sw_cl (cf y [.ref a, v1, v2] P) (fun v P' => sw_ex cf B r l (sw_psh v st) P') else none := ex_ci y 2 a _ _ rfl (by simp) rfl
theorem ex_ci3 (y a : Nat) (v1 : Value) (v2 : Value) (v3 : Value) : sw_ex cf B (sw_ci y 3 :: r) l (v3 :: v2 :: v1 :: .ref a :: st) P = if sw_ok st = true then sw_cl (cf y [.ref a, v1, v2, v3] P) (fun v P' => sw_ex cf B r l (sw_psh v st) P') else none := ex_ci y 3 a _ _ rfl (by simp) rfl
theorem ex_ci4 (y a : Nat) (v1 : Value) (v2 : Value) (v3 : Value) (v4 : Value) : sw_ex cf B (sw_ci y 4 :: r) l (v4 :: v3 :: v2 :: v1 :: .ref a :: st) P = if sw_ok st = true then sw_cl (cf y [.ref a, v1, v2, v3, v4] P) (fun v P' => sw_ex cf B r l (sw_psh v st) P') else none := ex_ci y 4 a _ _ rfl (by simp) rfl
theorem ex_ci5 (y a : Nat) (v1 : Value) (v2 : Value) (v3 : Value) (v4 : Value) (v5 : Value) : sw_ex cf B (sw_ci y 5 :: r) l (v5 :: v4 :: v3 :: v2 :: v1 :: .ref a :: st) P = if sw_ok st = true then sw_cl (cf y [.ref a, v1, v2, v3, v4, v5] P) (fun v P' => sw_ex cf B r l (sw_psh v st) P') else none := ex_ci y 5 a _ _ rfl (by simp) rfl
theorem ex_ci6 (y a : Nat) (v1 : Value) (v2 : Value) (v3 : Value) (v4 : Value) (v5 : Value) (v6 : Value) : sw_ex cf B (sw_ci y 6 :: r) l (v6 :: v5 :: v4 :: v3 :: v2 :: v1 :: .ref a :: st) P = if sw_ok st = true then sw_cl (cf y [.ref a, v1, v2, v3, v4, v5, v6] P) (fun v P' => sw_ex cf B r l (sw_psh v st) P') else none := ex_ci y 6 a _ _ rfl (by simp) rfl
theorem ex_cv0 (c y a : Nat) : sw_ex cf B (sw_cv c y 0 :: r) l (.ref a :: st) P = if sw_ok st = true ∧ sw_kd (sw_hp P a) c = true then sw_cl (cf y [.ref a] P) (fun v P' => sw_ex cf B r l (sw_psh v st) P') else none := ex_cv c y 0 a _ _ rfl (by simp) rfl
theorem ex_cv1 (c y a : Nat) (v1 : Value) : sw_ex cf B (sw_cv c y 1 :: r) l (v1 :: .ref a :: st) P = if sw_ok st = true ∧ sw_kd (sw_hp P a) c = true then sw_cl (cf y [.ref a, v1] P) (fun v P' => sw_ex cf B r l (sw_psh v st) P') else none := ex_cv c y 1 a _ _ rfl (by simp) rfl
theorem ex_cv2 (c y a : Nat) (v1 : Value) (v2 : Value) : sw_ex cf B (sw_cv c y 2 :: r) l (v2 :: v1 :: .ref a :: st) P = if sw_ok st = true ∧ sw_kd (sw_hp P a) c = true then sw_cl (cf y [.ref a, v1, v2] P) (fun v P' => sw_ex cf B r l (sw_psh v st) P') else none := ex_cv c y 2 a _ _ rfl (by simp) rfl
theorem ex_cv3 (c y a : Nat) (v1 : Value) (v2 : Value) (v3 : Value) : sw_ex cf B (sw_cv c y 3 :: r) l (v3 :: v2 :: v1 :: .ref a :: st) P = if sw_ok st = true ∧ sw_kd (sw_hp P a) c = true then sw_cl (cf y [.ref a, v1, v2, v3] P) (fun v P' => sw_ex cf B r l (sw_psh v st) P') else none := ex_cv c y 3 a _ _ rfl (by simp) rfl
theorem ex_cv4 (c y a : Nat) (v1 : Value) (v2 : Value) (v3 : Value) (v4 : Value) : sw_ex cf B (sw_cv c y 4 :: r) l (v4 :: v3 :: v2 :: v1 :: .ref a :: st) P = if sw_ok st = true ∧ sw_kd (sw_hp P a) c = true then sw_cl (cf y [.ref a, v1, v2, v3, v4] P) (fun v P' => sw_ex cf B r l (sw_psh v st) P') else none := ex_cv c y 4 a _ _ rfl (by simp) rfl
theorem ex_cv5 (c y a : Nat) (v1 : Value) (v2 : Value) (v3 : Value) (v4 : Value) (v5 : Value) : sw_ex cf B (sw_cv c y 5 :: r) l (v5 :: v4 :: v3 :: v2 :: v1 :: .ref a :: st) P = if sw_ok st = true ∧ sw_kd (sw_hp P a) c = true then sw_cl (cf y [.ref a, v1, v2, v3, v4, v5] P) (fun v P' => sw_ex cf B r l (sw_psh v st) P') else none := ex_cv c y 5 a _ _ rfl (by simp) rfl
theorem ex_cv6 (c y a : Nat) (v1 : Value) (v2 : Value) (v3 : Value) (v4 : Value) (v5 : Value) (v6 : Value) : sw_ex cf B (sw_cv c y 6 :: r) l (v6 :: v5 :: v4 :: v3 :: v2 :: v1 :: .ref a :: st) P = if sw_ok st = true ∧ sw_kd (sw_hp P a) c = true then sw_cl (cf y [.ref a, v1, v2, v3, v4, v5, v6] P) (fun v P' => sw_ex cf B r l (sw_psh v st) P') else none := ex_cv c y 6 a _ _ rfl (by simp) rfl
def sw_ret : sw_I := fun _ s => match s with
  | (_, [], P) => some (.inr (.inr (.inl none, P)))
  | _ => none
theorem ex_ret : sw_ex cf B (sw_ret :: r) l [] P = some (.inl none, P) := sw_fin rfl
def sw_rv (t : Nat) : sw_I := fun _ s => match s with
  | (_, [v], P) => if sw_fit t v = true then some (.inr (.inr (.inl (some v), P))) else none
  | _ => none
theorem ex_rv (t : Nat) (v : Value) : sw_ex cf B (sw_rv t :: r) l [v] P = if sw_fit t v = true then some (.inl (some v), P) else none := by
  by_cases h : sw_fit t v = true
  · rw [if_pos h]; exact sw_fin (by simp only [sw_rv]; rw [if_pos h])
  · rw [if_neg h]; exact sw_stuck (by simp only [sw_rv]; rw [if_neg h])
/-- nothing is said of what comes here -/
def sw_stop : sw_I := fun _ _ => none
theorem ex_stop : sw_ex cf B (sw_stop :: r) l st P = none := sw_stuck rfl
/-- an exception is made and thrown -/
def sw_bump (P : sw_P) : sw_P := (P.1, P.2.1 + 1, P.2.2.1 + 6, P.2.2.2)
theorem sw_hp_bump (P : sw_P) (b : Nat) : sw_hp (sw_bump P) b = sw_hp P b := rfl
theorem sw_nx_bump (P : sw_P) : sw_nx (sw_bump P) = sw_nx P + 1 := rfl
theorem sw_sl_bump (P : sw_P) : sw_sl (sw_bump P) = sw_sl P + 6 := rfl
theorem sw_ev_bump (P : sw_P) : sw_ev (sw_bump P) = sw_ev P := rfl
def sw_thx (e : Nat) : sw_I := fun _ s => if sw_ok s.2.1 = true then some (.inr (.inr (.inr e, sw_bump s.2.2))) else none
theorem ex_thx (e : Nat) : sw_ex cf B (sw_thx e :: r) l st P = if sw_ok st = true then some (.inr e, sw_bump P) else none := by
  by_cases h : sw_ok st = true
  · rw [if_pos h]; exact sw_fin (by simp only [sw_thx]; rw [if_pos h])
  · rw [if_neg h]; exact sw_stuck (by simp only [sw_thx]; rw [if_neg h])
def sw_th (e : Nat) : sw_I := fun _ s => some (.inr (.inr (.inr e, sw_bump s.2.2)))
theorem ex_th (e : Nat) : sw_ex cf B (sw_th e :: r) l st P = some (.inr e, sw_bump P) := sw_fin rfl
/-- a call by the receiver's kind, in a method with handlers: the class of the exception gives the block -/
def sw_ck (e : Nat) : List (Nat × Nat × List Bool) → Option (Nat × List Bool)
  | [] => none
  | (k, n) :: t => if e = k then some n else sw_ck e t
theorem sw_ck_e (e : Nat) : sw_ck e [] = none := rfl
theorem sw_ck_c (e k : Nat) (n : Nat × List Bool) (t : List (Nat × Nat × List Bool)) : sw_ck e ((k, n) :: t) = if e = k then some n else sw_ck e t := rfl
def sw_cvx (c y n : Nat) (t : List (Nat × Nat × List Bool)) : sw_I := fun cf s => match sw_cv c y n cf s with
  | some (.inr (.inr (.inr e, P'))) => (sw_ck e t).bind fun j => some (.inr (.inl (j.1, sw_mk j.2 s.1, [.ref (sw_nx P' - 1)], P')))
  | x => x
end SWI
/-- a chain of equal results -/
theorem sw_chain {α : Sort _} (f : Nat → α) (n : Nat) (h : ∀ i, i < n → f i = f (i + 1)) : f 0 = f n := by
  induction n with
  | zero => rfl
  | succ n ih => exact (ih fun i hi => h i (Nat.lt_succ_of_lt hi)).trans (h n (Nat.lt_succ_self n))
theorem sw_chainFrom {α : Sort _} (f : Nat → α) (m n : Nat) (hmn : m ≤ n) (h : ∀ i, m ≤ i → i < n → f i = f (i + 1)) : f m = f n := by
  induction hmn with
  | refl => rfl
  | step hk ih => exact (ih fun i h1 h2 => h i h1 (Nat.lt_succ_of_lt h2)).trans (h _ hk (Nat.lt_succ_self _))
/-- the same with a state of which only an invariant is known -/
theorem sw_loop {σ : Type} {α : Sort _} (g : σ → α) (I : Nat → σ → Prop) (n : Nat) (h : ∀ i s, i < n → I i s → ∃ s', I (i + 1) s' ∧ g s = g s') : ∀ k, k ≤ n → ∀ s, I k s → ∃ s', I n s' ∧ g s = g s' := by
  intro k hk
  induction hd : n - k generalizing k with
  | zero =>
    intro s hs
    have : k = n := by omega
    subst this
    exact ⟨s, hs, rfl⟩
  | succ d ih =>
    intro s hs
    obtain ⟨s1, h1, e1⟩ := h k s (by omega) hs
    obtain ⟨s2, h2, e2⟩ := ih (k + 1) (by omega) (by omega) s1 h1
    exact ⟨s2, h2, e1.trans e2⟩
