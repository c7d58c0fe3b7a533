/-! ===== the first n assertions in another order ===== -/
def sl_sel (n : Nat) (is : List Nat) (l : List sl_A) : List sl_A := (is.map fun i => l.getD i (sl_lp True)) ++ l.drop n
theorem sl_take_range (l : List sl_A) (n : Nat) (h : n ≤ l.length) : l.take n = (List.range n).map fun i => l.getD i (sl_lp True) := by
  apply List.ext_getElem?
  intro j
  rw [List.getElem?_take, List.getElem?_map]
  by_cases hj : j < n
  · rw [if_pos hj, List.getElem?_range hj, List.getElem?_eq_getElem (by omega)]
    show _ = some (l.getD j _)
    rw [sp_getD (List.getElem?_eq_getElem (show j < l.length by omega))]
  · rw [if_neg hj, List.getElem?_eq_none (by simp; omega)]; rfl
theorem sl_st.pp {ev : Nat → Nat} {c s : Nat} {P : sw_P} {l : List sl_A} (h : sl_st ev c s P l) (n : Nat) (is : List Nat) (hp : is.isPerm (List.range n) = true := by decide) (hl : Nat.ble n l.length = true := by rfl) : sl_st ev c s P (sl_sel n is l) := by
  refine h.perm ?_
  have e : l = ((List.range n).map fun i => l.getD i (sl_lp True)) ++ l.drop n := by rw [← sl_take_range l n (Nat.le_of_ble_eq_true hl), List.take_append_drop]
  unfold sl_sel
  have p := ((List.isPerm_iff.mp hp).symm.map fun i => l.getD i (sl_lp True)).append_right (l.drop n)
  exact (List.Perm.of_eq e).trans p
