theorem sw_O_ne {E E' : String} {t t' : Nat} {A : Nat → Prop} {U : State} {H : Heap} (hE : E ≠ E') (h : va_O E t A U H) (h' : va_O E' t' A U H) : t ≠ t' := by
  intro e
  subst e
  obtain ⟨c, h1, -, h2, -⟩ := h
  obtain ⟨c', h1', -, h2', -⟩ := h'
  cases Option.some.inj (h1.symm.trans h1')
  obtain ⟨k, k1, k2⟩ := Vm.findClass_spec h2
  obtain ⟨k', k1', k2'⟩ := Vm.findClass_spec h2'
  cases Option.some.inj (k1.symm.trans k1')
  exact hE (k2.symm.trans k2')
theorem sw_OF_eq {o n d : String} {v v' : Value} {t : Nat} {A : Nat → Prop} {U : State} {H : Heap} (h : va_OF o n d v t A U H) (h' : va_OF o n d v' t A U H) : v = v' := by
  obtain ⟨cf, k, i, f, cell, h1, -, h2, -, h3, -⟩ := h
  obtain ⟨cf', k', i', f', cell', h1', -, h2', -, h3', -⟩ := h'
  cases Option.some.inj (h1.symm.trans h1')
  cases Option.some.inj (h2.symm.trans h2')
  exact Option.some.inj (h3.symm.trans h3')
theorem sw_hp0_i {l : Launch} {D : sw_D} {s : State} {A : Nat → Prop} (h : sw_ST l D A s s.heap) (j : Nat) (hj : j < 256) : sw_hp0 D.2.2.2 (D.2.2.2 (1000 + j)) = some (41, [.int (vb_c j)]) := by
  obtain ⟨-, h2, h3, -⟩ := h
  have hk : ∃ i, i < 256 ∧ D.2.2.2 (1000 + j) = D.2.2.2 (1000 + i) := ⟨j, hj, rfl⟩
  unfold sw_hp0
  rw [dif_neg (fun ⟨i, g1, g2⟩ => sw_O_ne (by decide) (h3.1 j hj) (h2.1 i g1).2.1 g2), dif_pos hk]
  obtain ⟨g1, g2⟩ := hk.choose_spec
  have e1 : va_OF "java/lang/Integer" "value" "I" (.int (vb_c j)) (D.2.2.2 (1000 + j)) A s s.heap := h3.2 j hj
  have e2 : va_OF "java/lang/Integer" "value" "I" (.int (vb_c hk.choose)) (D.2.2.2 (1000 + hk.choose)) A s s.heap := h3.2 _ g1
  rw [← g2] at e2
  rw [sw_OF_eq e1 e2]
theorem sw_hp0_d {l : Launch} {D : sw_D} {s : State} {A : Nat → Prop} (h : sw_ST l D A s s.heap) : sw_hp0 D.2.2.2 (D.2.2.2 10) = some (70, []) := by
  obtain ⟨-, h2, h3, -, -, h6, -⟩ := h
  unfold sw_hp0
  rw [dif_neg (fun ⟨i, g1, g2⟩ => sw_O_ne (by decide) h6 (h2.1 i g1).2.1 g2), dif_neg (fun ⟨i, g1, g2⟩ => sw_O_ne (by decide) h6 (h3.1 i g1) g2), if_pos rfl]
