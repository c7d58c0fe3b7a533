/-! ===== the component's lives: what holds of the row ===== -/
def sp_ins (Rs : List sp_Life) (x : sp_Life) : List sp_Life := Rs.take (sp_pp Rs x.2.1 Rs.length) ++ x :: Rs.drop (sp_pp Rs x.2.1 Rs.length)
def sp_rowF (os : List sp_Op) (T : List Int32) (out : Int32) (v : Nat) (Rs : List sp_Life) : List sp_Life := match sp_lf os T (nI v) os.length with
  | none => Rs
  | some z => sp_ins Rs (sp_str os T out z)
def sp_row0 (os : List sp_Op) (T : List Int32) (out : Int32) : Nat → List sp_Life := sw_it (sp_rowF os T out) []
def sp_gvs (m : sp_Mach) (os : List sp_Op) (Rs : List sp_Life) : Nat → List sp_Life := sw_it (sp_give m os) Rs
def sp_lives (m : sp_Mach) (os : List sp_Op) (T : List Int32) (out : Int32) (nv : Nat) : List sp_Life := sp_gs os (sp_gvs m os (sp_row0 os T out nv) (sp_row0 os T out nv).length) (sp_row0 os T out nv).length
/-- what a life of n instructions has -/
def sp_lok (n : Nat) (y : sp_Life) : Prop := y.2.2.2.2.2.2.2.2.2.2 < n ∧ (∃ p, p < n ∧ y.2.1 = nI p) ∧ (∃ p, p ≤ n ∧ y.2.2.1 = nI p) ∧ ¬ y.2.2.1 - y.2.1 + 1 = 0
theorem sp_edge_t (os : List sp_Op) (b : Int32) (q : Nat) (hq : (os.getD q sp_oz).2.2.2.2.1 = b) : ∀ k, q < k → ∃ e, sp_edge os b true k = nI e ∧ q < e ∧ e ≤ k := by
  intro k
  induction k with
  | zero => intro h; omega
  | succ k ih =>
    intro h
    have hst : sp_edge os b true (k + 1) = if (os.getD k sp_oz).2.2.2.2.1 = b then nI (k + 1) else sp_edge os b true k := by
      show (if (os.getD k sp_oz).2.2.2.2.1 = b then (if true = true then nI (k + 1) else _) else _) = _
      rw [if_pos rfl]; rfl
    rw [hst]
    by_cases c : (os.getD k sp_oz).2.2.2.2.1 = b
    · rw [if_pos c]; exact ⟨k + 1, rfl, h, Nat.le_refl _⟩
    · rw [if_neg c]
      have : q ≠ k := fun e => c (e ▸ hq)
      obtain ⟨e, h1, h2, h3⟩ := ih (by omega)
      exact ⟨e, h1, h2, by omega⟩
theorem sp_span {p e : Nat} (h : p ≤ e) (he : e < 1000) : ¬ nI e - nI p + 1 = 0 := by
  rw [pk_sub h, nI_1]
  exact nI_ne0 (by omega) (by omega)
theorem sp_str_ok {os : List sp_Op} {T : List Int32} {out v : Int32} {z : sp_Life} (hn : os.length < 200) (h : sp_lfok v os.length z) : sp_lok os.length (sp_str os T out z) ∧ (sp_str os T out z).1 = v := by
  obtain ⟨h1, ⟨p, q, h2, h3, h4, h5, h6⟩, -⟩ := h
  refine ⟨⟨?_, ⟨p, by omega, h4⟩, ?_⟩, h1⟩
  · show z.2.2.2.2.2.2.2.2.2.2 < _
    rw [h5]; omega
  · show (∃ r, r ≤ os.length ∧ sp_stT os T out z = nI r) ∧ ¬ sp_stT os T out z - z.2.1 + 1 = 0
    have key : ∃ r, r ≤ os.length ∧ p ≤ r ∧ sp_stT os T out z = nI r := by
      unfold sp_stT
      have eq : z.2.2.1.toNatClampNeg = q := by rw [h6]; exact nI_clamp (by omega)
      rw [eq]
      split
      · exact ⟨os.length, Nat.le_refl _, by omega, rfl⟩
      · split
        · obtain ⟨e, g1, g2, g3⟩ := sp_edge_t os (os.getD q sp_oz).2.2.2.2.1 q rfl os.length h3
          exact ⟨e, g3, by omega, g1⟩
        · exact ⟨q, by omega, h2, h6⟩
    obtain ⟨r, k1, k2, k3⟩ := key
    refine ⟨⟨r, k1, k3⟩, ?_⟩
    rw [k3, h4]
    exact sp_span k2 (by omega)
theorem sp_ins_mem (Rs : List sp_Life) (x y : sp_Life) : y ∈ sp_ins Rs x ↔ y = x ∨ y ∈ Rs := by
  unfold sp_ins
  rw [List.mem_append, List.mem_cons]
  constructor
  · rintro (h | h | h)
    · exact Or.inr (List.mem_of_mem_take h)
    · exact Or.inl h
    · exact Or.inr (List.mem_of_mem_drop h)
  · rintro (h | h)
    · exact Or.inr (Or.inl h)
    · rw [← List.take_append_drop (sp_pp Rs x.2.1 Rs.length) Rs] at h
      rcases List.mem_append.mp h with q | q
      · exact Or.inl q
      · exact Or.inr (Or.inr q)
theorem sp_ins_len (Rs : List sp_Life) (x : sp_Life) : (sp_ins Rs x).length = Rs.length + 1 := by
  unfold sp_ins
  have := sp_pp_le Rs x.2.1 Rs.length
  simp; omega
theorem sp_row0_ok {os : List sp_Op} {T : List Int32} {out : Int32} (hn : os.length < 200) : ∀ k, (sp_row0 os T out k).length ≤ k ∧ ∀ y ∈ sp_row0 os T out k, sp_lok os.length y := by
  intro k
  induction k with
  | zero => exact ⟨Nat.le_refl _, fun y hy => by cases hy⟩
  | succ k ih =>
    have hst : sp_row0 os T out (k + 1) = sp_rowF os T out k (sp_row0 os T out k) := rfl
    rw [hst]
    unfold sp_rowF
    cases hz : sp_lf os T (nI k) os.length with
    | none => exact ⟨Nat.le_succ_of_le ih.1, ih.2⟩
    | some z =>
      refine ⟨by show (sp_ins _ _).length ≤ _; rw [sp_ins_len]; omega, fun y hy => ?_⟩
      rcases (sp_ins_mem _ _ _).mp hy with e | e
      · rw [e]; exact (sp_str_ok hn (sp_lf_ok _ _ hz)).1
      · exact ih.2 y e
theorem sp_cnt_nI (rs : List Int32) (v : Int32) : sp_cnt rs v = nI (rs.countP fun r => decide (r = v)) := by
  unfold sp_cnt
  have : ∀ (l : List Int32) (n : Nat), l.foldl (fun n r => n + (if r = v then 1 else 0)) (nI n) = nI (n + l.countP fun r => decide (r = v)) := by
    intro l
    induction l with
    | nil => intro n; rfl
    | cons r l ih =>
      intro n
      rw [List.foldl_cons, List.countP_cons]
      by_cases h : r = v
      · rw [if_pos h, nI_1, ih, if_pos (decide_eq_true h)]
        congr 1; omega
      · rw [if_neg h, Int32.add_zero, ih, if_neg (by simp [h])]
        rfl
  have := this rs 0
  rw [Nat.zero_add] at this
  exact this
theorem sp_cnt_pos {rs : List Int32} {v : Int32} (hl : rs.length < 1000) : 0 < sp_cnt rs v ↔ v ∈ rs := by
  rw [sp_cnt_nI]
  have hle := List.countP_le_length (p := fun r => decide (r = v)) (l := rs)
  constructor
  · intro h
    have h2 : 0 < rs.countP fun r => decide (r = v) := by
      rcases Nat.eq_zero_or_pos (rs.countP fun r => decide (r = v)) with q | q
      · rw [q] at h; exact absurd h (by decide)
      · exact q
    obtain ⟨a, h3, h4⟩ := List.countP_pos_iff.mp h2
    exact of_decide_eq_true h4 ▸ h3
  · intro h
    have h2 : 0 < rs.countP fun r => decide (r = v) := List.countP_pos_iff.mpr ⟨v, h, decide_eq_true rfl⟩
    exact nI_lt (a := 0) h2 (by omega)
/-- what an instruction touches has a life -/
theorem sp_lf_some {os : List sp_Op} {T : List Int32} {v : Int32} {p : Nat} (h : (os.getD p sp_oz).2.1 = v ∨ 0 < sp_cnt (os.getD p sp_oz).2.2.1 v) : ∀ k, p < k → ∃ z, sp_lf os T v k = some z := by
  intro k
  induction k with
  | zero => intro h; omega
  | succ k ih =>
    intro hk
    have hst : sp_lf os T v (k + 1) = sp_lfF os T v k (sp_lf os T v k) := rfl
    rw [hst]
    unfold sp_lfF
    by_cases c : (os.getD k sp_oz).2.1 = v ∨ 0 < sp_cnt (os.getD k sp_oz).2.2.1 v
    · rw [if_pos c]; exact ⟨_, rfl⟩
    · rw [if_neg c]
      have : p ≠ k := fun e => c (e ▸ h)
      exact ih (by omega)
theorem sp_row0_has {os : List sp_Op} {T : List Int32} {out : Int32} {u : Nat} (hn : os.length < 200) (h : ∃ z, sp_lf os T (nI u) os.length = some z) : ∀ k, u < k → ∃ y ∈ sp_row0 os T out k, y.1 = nI u := by
  intro k
  induction k with
  | zero => intro h; omega
  | succ k ih =>
    intro hk
    have hst : sp_row0 os T out (k + 1) = sp_rowF os T out k (sp_row0 os T out k) := rfl
    rw [hst]
    unfold sp_rowF
    by_cases e : u = k
    · subst e
      obtain ⟨z, hz⟩ := h
      rw [hz]
      exact ⟨_, (sp_ins_mem _ _ _).mpr (Or.inl rfl), (sp_str_ok hn (sp_lf_ok _ _ hz)).2⟩
    · obtain ⟨y, h1, h2⟩ := ih (by omega)
      cases hz : sp_lf os T (nI k) os.length with
      | none => exact ⟨y, h1, h2⟩
      | some z => exact ⟨y, (sp_ins_mem _ _ _).mpr (Or.inr h1), h2⟩
theorem sp_plc_some {Rs : List sp_Life} {v : Int32} : ∀ k i, i < k → (Rs.getD i sp_lz).1 = v → ∃ q, sp_plc Rs v k = some q := by
  intro k
  induction k with
  | zero => intro i h; omega
  | succ k ih =>
    intro i h1 h2
    unfold sp_plc
    by_cases c : (Rs.getD k sp_lz).1 = v
    · rw [if_pos c]; exact ⟨_, rfl⟩
    · rw [if_neg c]
      have : i ≠ k := fun e => c (e ▸ h2)
      exact ih i (by omega) h2
/-- what giving does not change -/
def sp_key (y : sp_Life) : Int32 × Int32 × Int32 × Nat := (y.1, y.2.1, y.2.2.1, y.2.2.2.2.2.2.2.2.2.2)
theorem sp_key_set (Rs : List sp_Life) (k : Nat) (y : sp_Life) (h : sp_key y = sp_key (Rs.getD k sp_lz)) : (Rs.set k y).map sp_key = Rs.map sp_key := by
  rw [List.map_set]
  apply List.ext_getElem?
  intro j
  rw [List.getElem?_set]
  split
  · rename_i e; subst e
    by_cases hk : k < Rs.length
    · rw [if_pos (by rw [List.length_map]; exact hk), List.getElem?_map, List.getElem?_eq_getElem hk, h, sp_getD (List.getElem?_eq_getElem hk)]; rfl
    · rw [if_neg (by rw [List.length_map]; exact hk), List.getElem?_eq_none (by rw [List.length_map]; omega)]
  · rfl
theorem sp_getD_set_ne {Rs : List sp_Life} {j k : Nat} {y : sp_Life} (h : j ≠ k) : (Rs.set j y).getD k sp_lz = Rs.getD k sp_lz := by
  rw [List.getD_eq_getElem?_getD, List.getD_eq_getElem?_getD, List.getElem?_set_ne h]
theorem sp_give_key (m : sp_Mach) (os : List sp_Op) (k : Nat) (Rs : List sp_Life) : (sp_give m os k Rs).map sp_key = Rs.map sp_key := by
  unfold sp_give
  split
  · exact sp_key_set _ _ _ rfl
  · split
    · exact sp_key_set _ _ _ rfl
    · split
      · exact sp_key_set _ _ _ rfl
      · rename_i h
        rw [sp_key_set _ _ _ (by rw [sp_getD_set_ne h]; rfl)]
        exact sp_key_set _ _ _ rfl
theorem sp_gvs_key (m : sp_Mach) (os : List sp_Op) (Rs : List sp_Life) (k : Nat) : (sp_gvs m os Rs k).map sp_key = Rs.map sp_key := by
  induction k with
  | zero => rfl
  | succ k ih => exact (sp_give_key m os k _).trans ih
theorem sp_key_len {R R' : List sp_Life} (h : R.map sp_key = R'.map sp_key) : R.length = R'.length := by
  have := congrArg List.length h
  simpa using this
theorem sp_key_at {R R' : List sp_Life} (h : R.map sp_key = R'.map sp_key) {i : Nat} (hi : i < R.length) : sp_key (R.getD i sp_lz) = sp_key (R'.getD i sp_lz) := by
  have hl := sp_key_len h
  have e := congrArg (fun q : List (Int32 × Int32 × Int32 × Nat) => q[i]?) h
  simp only [List.getElem?_map, List.getElem?_eq_getElem hi, List.getElem?_eq_getElem (show i < R'.length by omega), Option.map_some] at e
  rw [sp_getD (List.getElem?_eq_getElem hi), sp_getD (List.getElem?_eq_getElem (show i < R'.length by omega))]
  exact Option.some.inj e
theorem sp_key_lok {R R' : List sp_Life} {n : Nat} (h : R.map sp_key = R'.map sp_key) (hR : ∀ y ∈ R', sp_lok n y) : ∀ y ∈ R, sp_lok n y := by
  intro y hy
  obtain ⟨i, hi, rfl⟩ := List.mem_iff_getElem.mp hy
  have e := sp_key_at h hi
  have hl := sp_key_len h
  rw [sp_getD (List.getElem?_eq_getElem hi), sp_getD (List.getElem?_eq_getElem (show i < R'.length by omega))] at e
  have h1 := hR _ (List.getElem_mem (show i < R'.length by omega))
  unfold sp_key at e
  injection e with e1 e
  injection e with e2 e
  injection e with e3 e4
  unfold sp_lok
  rw [e2, e3, e4]
  exact h1
