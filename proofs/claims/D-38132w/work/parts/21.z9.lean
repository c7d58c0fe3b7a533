/-! ===== one call with nine words under its arguments ===== -/
def sw_ok9 (st : List Value) : Bool := decide ((st.map Value.category).sum ≤ 9)
/-- a call of one argument by the receiver's kind -/
def sw_cv9 (c y : Nat) : sw_I := fun cf s => match s with
  | (l, v :: .ref a :: st, P) => if sw_ok9 st = true ∧ sw_kd (sw_hp P a) c = true then match cf y [.ref a, v] P with
    | none => none
    | some (.inl w, P') => some (.inl (l, sw_psh w st, P'))
    | some (.inr e, P') => some (.inr (.inr (.inr e, P'))) else none
  | _ => none
theorem ex_cv9 {cf : sw_F} {B : sw_B} {r : List sw_I} {l : sw_L} {st : List Value} {P : sw_P} (c y a : Nat) (v : Value) : sw_ex cf B (sw_cv9 c y :: r) l (v :: .ref a :: st) P = if sw_ok9 st = true ∧ sw_kd (sw_hp P a) c = true then sw_cl (cf y [.ref a, v] P) (fun v P' => sw_ex cf B r l (sw_psh v st) P') else none := by
  by_cases h : sw_ok9 st = true ∧ sw_kd (sw_hp P a) c = true
  · rw [if_pos h]
    cases hc : cf y [.ref a, v] P with
    | none => exact sw_stuck (by simp only [sw_cv9]; rw [if_pos h, hc])
    | some x =>
      obtain ⟨w | e, P'⟩ := x
      · exact sw_next (by simp only [sw_cv9]; rw [if_pos h, hc])
      · exact sw_fin (by simp only [sw_cv9]; rw [if_pos h, hc])
  · rw [if_neg h]; exact sw_stuck (by simp only [sw_cv9]; rw [if_neg h])
