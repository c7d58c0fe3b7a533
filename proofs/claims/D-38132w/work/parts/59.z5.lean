/-! ===== the start's heap in the small machine ===== -/
noncomputable def sw_hp0 (ev : Nat → Nat) (a : Nat) : Option sw_O :=
  haveI := fun p => Classical.propDecidable p
  if h : ∃ j, j < 6 ∧ a = ev j then some (40, [.int (nI h.choose)])
  else if h : ∃ j, j < 256 ∧ a = ev (1000 + j) then some (41, [.int (vb_c h.choose)])
  else if a = ev 10 then some (70, [])
  else if a = ev 11 then some (71, (List.range 256).map fun j => .ref (ev (1000 + j)))
  else none
noncomputable def sw_P0 (ev : Nat → Nat) (n : Nat) : sw_P := (sw_hp0 ev, n, 0, ev)
theorem sw_hp0_k {ev : Nat → Nat} (hinj : ∀ i j, i < 6 → j < 6 → ev i = ev j → i = j) (j : Nat) (hj : j < 6) : sw_hp0 ev (ev j) = some (40, [.int (nI j)]) := by
  have h : ∃ i, i < 6 ∧ ev j = ev i := ⟨j, hj, rfl⟩
  unfold sw_hp0
  rw [dif_pos h]
  obtain ⟨h1, h2⟩ := h.choose_spec
  rw [← hinj j _ hj h1 h2]
theorem sw_HP0 {l : Launch} {D : sw_D} {s : State} (h : sw_ST l D (fun q => s.heap.size ≤ q) s s.heap) : sw_HP D (fun q => s.heap.size ≤ q) (sw_P0 D.2.2.2 s.heap.size) s.heap := by
  refine ⟨rfl, rfl, fun a o ha => ?_⟩
  have ha : sw_hp0 D.2.2.2 a = some o := ha
  obtain ⟨-, h2, h3, -, h5, -, -, h8, -⟩ := h
  unfold sw_hp0 at ha
  split at ha
  · rename_i hk
    obtain ⟨g1, g2⟩ := hk.choose_spec
    cases ha
    obtain ⟨-, ⟨cell, c1, -⟩, -⟩ := h2.1 _ g1
    rw [← g2] at c1
    exact ⟨(Array.getElem?_eq_some_iff.mp c1).1, Or.inr (Or.inl ⟨rfl, _, g1, g2, rfl⟩), fun q => by rcases q with q | q <;> simp at q⟩
  · split at ha
    · rename_i hk
      obtain ⟨g1, g2⟩ := hk.choose_spec
      cases ha
      obtain ⟨cell, c1, -⟩ := h3.1 _ g1
      have c1 : s.heap[D.2.2.2 (1000 + hk.choose)]? = some cell := c1
      rw [← g2] at c1
      exact ⟨(Array.getElem?_eq_some_iff.mp c1).1, Or.inr (Or.inr (Or.inl ⟨rfl, _, g1, g2, rfl⟩)), fun q => by rcases q with q | q <;> simp at q⟩
    · split at ha
      · rename_i hk
        cases ha
        obtain ⟨cell, c1, -⟩ := h5
        subst hk
        exact ⟨(Array.getElem?_eq_some_iff.mp c1).1, Or.inr (Or.inr (Or.inr (Or.inl ⟨rfl, rfl, rfl⟩))), fun q => by rcases q with q | q <;> simp at q⟩
      · split at ha
        · rename_i hk
          cases ha
          obtain ⟨cell, c1, -⟩ := h8
          subst hk
          exact ⟨(Array.getElem?_eq_some_iff.mp c1).1, Or.inr (Or.inr (Or.inr (Or.inr (Or.inl ⟨rfl, rfl, rfl⟩)))), fun q => by rcases q with q | q <;> simp at q⟩
        · cases ha
