/-! ===== the bridge: fields, arrays, new objects ===== -/
theorem sw_op_inv {β : Type} {o : Option sw_O} {c : Nat} {f : List Value → Option β} {x : β} (h : sw_op o c f = some x) : ∃ vs, o = some (c, vs) ∧ f vs = some x := by
  cases o with
  | none => cases h
  | some q =>
    obtain ⟨t, vs⟩ := q
    simp only [sw_op] at h
    by_cases ht : t = c
    · subst ht; rw [if_pos rfl] at h; exact ⟨vs, rfl, h⟩
    · rw [if_neg ht] at h; cases h
theorem sw_oc_inv {β : Type} {o : Option sw_O} {c : Nat} {f : List Value → Option β} {x : β} (h : sw_oc o c f = some x) : ∃ t vs, o = some (t, vs) ∧ (t = c ∨ (c = 67 ∧ t = 70)) ∧ f vs = some x := by
  cases o with
  | none => cases h
  | some q =>
    obtain ⟨t, vs⟩ := q
    simp only [sw_oc] at h
    by_cases ht : t = c ∨ (c = 67 ∧ t = 70)
    · rw [if_pos ht] at h; exact ⟨t, vs, rfl, ht, h⟩
    · rw [if_neg ht] at h; cases h
theorem sw_bo_inv {α β : Type} {o : Option α} {f : α → Option β} {x : β} (h : sw_bo o f = some x) : ∃ v, o = some v ∧ f v = some x := by
  cases o with
  | none => cases h
  | some v => exact ⟨v, rfl, h⟩
theorem sw_kds_inv {o : Option sw_O} {cs : List Nat} (h : sw_kds o cs = true) : ∃ t vs, o = some (t, vs) ∧ t ∈ cs := by
  cases o with
  | none => cases h
  | some q => exact ⟨q.1, q.2, rfl, by simpa [sw_kds] using h⟩
theorem sw_kd_inv {o : Option sw_O} {c : Nat} (h : sw_kd o c = true) : ∃ vs, o = some (c, vs) := by
  cases o with
  | none => cases h
  | some q =>
    obtain ⟨t, vs⟩ := q
    have : t = c := by simpa [sw_kd] using h
    exact ⟨vs, by rw [this]⟩
theorem sw_cell.kept {D : sw_D} {a : Nat} {o : sw_O} {H H1 : Heap} (h : sw_cell D a o H) (hq : H1[a]? = H[a]?) : sw_cell D a o H1 := by
  rcases h with ⟨h0, q, h1, h2, h3⟩ | h | h | h | h | ⟨h0, h1⟩
  · exact Or.inl ⟨h0, q, h1, h2, h3.kept hq⟩
  · exact Or.inr (Or.inl h)
  · exact Or.inr (Or.inr (Or.inl h))
  · exact Or.inr (Or.inr (Or.inr (Or.inl h)))
  · exact Or.inr (Or.inr (Or.inr (Or.inr (Or.inl h))))
  · exact Or.inr (Or.inr (Or.inr (Or.inr (Or.inr ⟨h0, by rw [hq]; exact h1⟩))))
theorem sw_cell.obj {D : sw_D} {a t : Nat} {vs : List Value} {H : Heap} (h : sw_cell D a (t, vs) H) (ht : t < 40) : ∃ q : vw_C, sw_kl[t]? = some q ∧ vs.length = q.2.2 ∧ t_OB a (D.1 t) q.2.2 (D.2.1 t) H (vp_V vs) := by
  rcases h with ⟨_, h⟩ | ⟨h, _⟩ | ⟨h, _⟩ | ⟨h, _⟩ | ⟨h, _⟩ | ⟨⟨h, _⟩, _⟩ <;> simp only at h
  · exact h
  all_goals omega
theorem sw_cell.arr {D : sw_D} {a t : Nat} {vs : List Value} {H : Heap} (h : sw_cell D a (t, vs) H) (ht : 64 ≤ t ∧ t ≤ 69) : H[a]? = some (arrV (D.2.2.1 t) vs.length (vp_V vs)) := by
  rcases h with ⟨h, _⟩ | ⟨h, _⟩ | ⟨h, _⟩ | ⟨h, _⟩ | ⟨h, _⟩ | ⟨_, h⟩ <;> simp only at h
  iterate 5 omega
  exact h
theorem sw_cell.kind {D : sw_D} {a : Nat} {vs : List Value} {H : Heap} (h : sw_cell D a (40, vs) H) : ∃ j, j < 6 ∧ a = D.2.2.2 j ∧ vs = [.int (nI j)] := by
  rcases h with ⟨h, _⟩ | ⟨_, h⟩ | ⟨h, _⟩ | ⟨h, _⟩ | ⟨h, _⟩ | ⟨⟨h, _⟩, _⟩ <;> simp only at h
  · omega
  · exact h
  all_goals omega
theorem sw_cell.box {D : sw_D} {a : Nat} {vs : List Value} {H : Heap} (h : sw_cell D a (41, vs) H) : ∃ j, j < 256 ∧ a = D.2.2.2 (1000 + j) ∧ vs = [.int (vb_c j)] := by
  rcases h with ⟨h, _⟩ | ⟨h, _⟩ | ⟨_, h⟩ | ⟨h, _⟩ | ⟨h, _⟩ | ⟨⟨h, _⟩, _⟩ <;> simp only at h
  · omega
  · omega
  · exact h
  all_goals omega
theorem sw_cell.emp {D : sw_D} {a : Nat} {vs : List Value} {H : Heap} (h : sw_cell D a (70, vs) H) : a = D.2.2.2 10 ∧ vs = [] := by
  rcases h with ⟨h, _⟩ | ⟨h, _⟩ | ⟨h, _⟩ | ⟨_, h⟩ | ⟨h, _⟩ | ⟨⟨_, h⟩, _⟩ <;> simp only at h
  · omega
  · omega
  · omega
  · exact h
  all_goals omega
theorem sw_cell.cache {D : sw_D} {a : Nat} {vs : List Value} {H : Heap} (h : sw_cell D a (71, vs) H) : a = D.2.2.2 11 ∧ vs = (List.range 256).map fun j => .ref (D.2.2.2 (1000 + j)) := by
  rcases h with ⟨h, _⟩ | ⟨h, _⟩ | ⟨h, _⟩ | ⟨h, _⟩ | ⟨_, h⟩ | ⟨⟨_, h⟩, _⟩ <;> simp only at h
  iterate 4 omega
  · exact h
  · omega
theorem sw_HP.put {D : sw_D} {A : Nat → Prop} {P : sw_P} {H H1 : Heap} {a t : Nat} {vs vs' : List Value} (h : sw_HP D A P H) (ha : sw_hp P a = some (t, vs)) (hc : sw_cell D a (t, vs') H1) (hz : H1.size = H.size) (hq : ∀ q, q ≠ a → H1[q]? = H[q]?) : sw_HP D A (sw_set P a (t, vs')) H1 := by
  obtain ⟨h1, h2, h3⟩ := h
  refine ⟨by rw [sw_nx_set, hz]; exact h1, h2, fun b o hb => ?_⟩
  rw [sw_hp_set] at hb
  by_cases hba : b = a
  · rw [if_pos hba] at hb
    cases hb
    subst hba
    obtain ⟨g1, g2, g3⟩ := h3 b _ ha
    exact ⟨by rw [hz]; exact g1, hc, g3⟩
  · rw [if_neg hba] at hb
    obtain ⟨g1, g2, g3⟩ := h3 b o hb
    exact ⟨by rw [hz]; exact g1, g2.kept (hq b hba), g3⟩
theorem sw_HP.grow {D : sw_D} {A : Nat → Prop} {P : sw_P} {H H1 : Heap} {o : sw_O} (h : sw_HP D A P H) (hc : sw_cell D H.size o H1) (hA : A H.size) (hz : H1.size = H.size + 1) (hq : ∀ q, q < H.size → H1[q]? = H[q]?) : sw_HP D A (sw_new P o) H1 := by
  obtain ⟨h1, h2, h3⟩ := h
  refine ⟨by rw [sw_nx_new, hz, h1], h2, fun b o' hb => ?_⟩
  rw [sw_hp_new] at hb
  by_cases hba : b = sw_nx P
  · rw [if_pos hba] at hb
    cases hb
    rw [hba, h1]
    exact ⟨by omega, hc, fun _ => hA⟩
  · rw [if_neg hba] at hb
    obtain ⟨g1, g2, g3⟩ := h3 b o' hb
    exact ⟨by omega, g2.kept (hq b g1), g3⟩
theorem sw_va_put {A : Nat → Prop} {H0 H H1 : Heap} {locs : List Loc} {a i : Nat} (hS : va_S A H0 H locs) (hz : H1.size = H.size) (hq : ∀ q, q ≠ a → H1[q]? = H[q]?) (hA : A a) : va_S A H0 H1 (locs ++ [⟨a, i⟩]) := hS.put hz hq hA
theorem sw_va_grow {A : Nat → Prop} {H0 H H1 : Heap} {locs : List Loc} (hS : va_S A H0 H locs) (hz : H1.size = H.size + 1) (hq : ∀ q, q < H.size → H1[q]? = H[q]?) : va_S A H0 H1 locs :=
  ⟨Nat.le_trans hS.1 (by omega), fun x h1 h2 => (hq x (Nat.lt_of_lt_of_le h1 hS.1)).trans (hS.2.1 x h1 h2), hS.2.2⟩
/-- a class with its number, its fields and what the tables say of them -/
def sw_Cl (t : Nat) (C : String) (T : u_T) (ty : Nat → FieldType) (N : Nat) : Prop := t < 40 ∧ sw_kl[t]? = some (C, T, N) ∧ (∀ w ∈ u_ws C T N, w ∈ lw_all) ∧ (∀ k, k < N → parseFieldDescriptor (T k).2.2.1 = some (ty k)) ∧ (∀ a, a < N → ∀ b, b < N → a ≠ b → (T a).2.1 ≠ (T b).2.1)
def sw_vty : FieldType → Nat
  | .int => 0
  | .boolean => 1
  | .object _ => 2
  | .array _ => 2
  | .long => 3
  | .double => 4
  | _ => 9
theorem sw_fit_ty {ty : FieldType} {v : Value} (h : sw_fit (sw_vty ty) v = true) : narrow ty v = v ∧ fits ty v = true := by
  cases ty with
  | int => cases v <;> first | exact ⟨rfl, rfl⟩ | cases h
  | long => cases v <;> first | exact ⟨rfl, rfl⟩ | cases h
  | double => cases v <;> first | exact ⟨rfl, rfl⟩ | cases h
  | object C => cases v <;> first | exact ⟨rfl, rfl⟩ | cases h
  | array t => cases v <;> first | exact ⟨rfl, rfl⟩ | cases h
  | boolean =>
    cases v with
    | int x =>
      have hx : x = 0 ∨ x = 1 := by simpa [sw_vty, sw_fit] using h
      rcases hx with rfl | rfl <;> exact ⟨by decide, by decide⟩
    | _ => cases h
  | _ => cases v <;> cases h
theorem sw_over_use {A : Array Value} {U : State} (h : (Cond.arrayOver (.array .boolean)).before #[] U = true) : (Cond.arrayOver (.array .boolean)).before A U = true := h
section SWH
variable {p : Program} {l : Launch} {e : Env} {R : Room} {s : State} {m : MethodId} {args : Array Value} {below : List Frame} {meth : Method} {c : Code} {Q : State → Prop} {D : sw_D} {A : Nat → Prop} {nL N0 K0 NE KE d : Nat} {cf : sw_F} {bpc : Nat → Nat} {rf : sw_R} {own : String} {cc : ByteArray} {ret : Option FieldType} {pc : Nat}
theorem Sd_getf (hX : sw_X p l e R s m args below meth c D A own cc nL ret N0 K0 NE KE d) {t k N i : Nat} {C : String} {T : u_T} {ty : Nat → FieldType} {ref : String} (hC : sw_Cl t C T ty N) (hkN : k < N) (hd : decode cc pc = .ok (.getfield i, 3)) (hw : Cond.fieldLink own i ref (T k).2.1 (T k).2.2.1 ∈ lw_all) (hs : ∀ x, s.fieldFound? (T k).1 (T k).2.1 (T k).2.2.1 = some x → s.fieldFound? ref (T k).2.1 (T k).2.2.1 = some x) : sw_Sd (sw_J p l e R s m args below meth c Q D A nL N0 K0) cf bpc NE KE rf (sw_gf t k) pc (pc + 3) := by
  intro L st P x hx
  simp only [sw_gf] at hx
  split at hx
  · rename_i a st' P' heq
    cases heq
    obtain ⟨vs, ha, hx⟩ := sw_op_inv hx
    obtain ⟨v, hv, hx⟩ := sw_bo_inv hx
    cases hx
    refine ⟨sw_mo.rf _, fun _ _ hk h1 h2 ls H locs hl hP hS => ?_⟩
    obtain ⟨h40, hkl, hin, hty, hnm⟩ := hC
    obtain ⟨-, hcell, -⟩ := hP.2.2 _ _ ha
    obtain ⟨q, g1, -, cell, q1, q2, q3, q4⟩ := hcell.obj h40
    cases g1.symm.trans hkl
    have hST := hX.2.2.2.2.2.2.2.1
    obtain ⟨hSl, hfc, kC, hkC, hkind⟩ := hST.1.1 t _ hkl
    obtain ⟨cf', kf, fi, f, hi, hsl⟩ := hSl k hkN
    refine W.getf hX.1 hX.2.1 hX.2.2.2.1 (hX.2.2.2.2.1 _ hw) (hs _ hi) (u_facts hfc hkC (u_lays hX.2.2.2.2.1 hin hkN) hi).1 q1 (by rw [q3]; exact fun h => by cases h) (v := v) ?_ rfl rfl hd (hk h1 h2 ls H locs hl hP hS)
    rw [hsl, q4 k hkN]
    simp [vp_V, hv]
  · cases hx
theorem Sd_getfN (hX : sw_X p l e R s m args below meth c D A own cc nL ret N0 K0 NE KE d) {t k N i : Nat} {C : String} {T : u_T} {ty : Nat → FieldType} {ref host : String} (hC : sw_Cl t C T ty N) (hkN : k < N) (hd : decode cc pc = .ok (.getfield i, 3)) (hw : Cond.fieldLinkNest own i ref (T k).2.1 (T k).2.2.1 host ∈ sw_wF) (hs : ∀ x, s.fieldFound? (T k).1 (T k).2.1 (T k).2.2.1 = some x → s.fieldFound? ref (T k).2.1 (T k).2.2.1 = some x) : sw_Sd (sw_J p l e R s m args below meth c Q D A nL N0 K0) cf bpc NE KE rf (sw_gf t k) pc (pc + 3) := by
  intro L st P x hx
  simp only [sw_gf] at hx
  split at hx
  · rename_i a st' P' heq
    cases heq
    obtain ⟨vs, ha, hx⟩ := sw_op_inv hx
    obtain ⟨v, hv, hx⟩ := sw_bo_inv hx
    cases hx
    refine ⟨sw_mo.rf _, fun _ _ hk h1 h2 ls H locs hl hP hS => ?_⟩
    obtain ⟨h40, hkl, hin, hty, hnm⟩ := hC
    obtain ⟨-, hcell, -⟩ := hP.2.2 _ _ ha
    obtain ⟨q, g1, -, cell, q1, q2, q3, q4⟩ := hcell.obj h40
    cases g1.symm.trans hkl
    have hST := hX.2.2.2.2.2.2.2.1
    obtain ⟨hSl, hfc, kC, hkC, hkind⟩ := hST.1.1 t _ hkl
    obtain ⟨cf', kf, fi, f, hi, hsl⟩ := hSl k hkN
    refine va_Wgetf hX.1 hX.2.1 hX.2.2.2.1 (va_Nw.use rfl (hST.2.2.2.2.2.2.2.2.2.2.2.1 _ hw)) (hs _ hi) (u_facts hfc hkC (u_lays hX.2.2.2.2.1 hin hkN) hi).1 q1 (by rw [q3]; exact fun h => by cases h) (v := v) ?_ rfl rfl hd (hk h1 h2 ls H locs hl hP hS)
    rw [hsl, q4 k hkN]
    simp [vp_V, hv]
  · cases hx
theorem Sd_getK (hX : sw_X p l e R s m args below meth c D A own cc nL ret N0 K0 NE KE d) {i : Nat} (hd : decode cc pc = .ok (.getfield i, 3)) (hw : Cond.fieldLink own i "java/lang/Enum" "ordinal" "I" ∈ lw_all) : sw_Sd (sw_J p l e R s m args below meth c Q D A nL N0 K0) cf bpc NE KE rf (sw_gf 40 0) pc (pc + 3) := by
  intro L st P x hx
  simp only [sw_gf] at hx
  split at hx
  · rename_i a st' P' heq
    cases heq
    obtain ⟨vs, ha, hx⟩ := sw_op_inv hx
    obtain ⟨v, hv, hx⟩ := sw_bo_inv hx
    cases hx
    refine ⟨sw_mo.rf _, fun _ _ hk h1 h2 ls H locs hl hP hS => ?_⟩
    obtain ⟨-, hcell, -⟩ := hP.2.2 _ _ ha
    obtain ⟨j, hj, hja, hjv⟩ := hcell.kind
    subst hjv
    have hST := hX.2.2.2.2.2.2.2.1
    obtain ⟨cf', kf, fi, f, cell, g1, g2, g3, g4, g5, g6⟩ := (hST.2.1.1 j hj).2.2 _ List.mem_cons_self
    have hv2 : v = .int (([0, 1, 2, 3, 4, 5] : List Int32).getD j 0) := by
      have hv1 : Value.int (nI j) = v := Option.some.inj hv
      rw [← hv1]
      rcases j with _ | _ | _ | _ | _ | _ | j <;> first | rfl | omega
    subst hja
    refine W.getf hX.1 hX.2.1 hX.2.2.2.1 (hX.2.2.2.2.1 _ hw) g1 g2 (a := D.2.2.2 j) (cell := cell) ?_ g4 (v := v) ?_ rfl rfl hd (hk h1 h2 ls H locs hl hP hS)
    · rw [hS.2.1 _ (Array.getElem?_eq_some_iff.mp g3).1 g6]; exact g3
    · rw [hv2]; exact g5
  · cases hx
theorem Sd_getI (hX : sw_X p l e R s m args below meth c D A own cc nL ret N0 K0 NE KE d) {i : Nat} (hd : decode cc pc = .ok (.getfield i, 3)) (hw : Cond.fieldLink own i "java/lang/Integer" "value" "I" ∈ lw_all) : sw_Sd (sw_J p l e R s m args below meth c Q D A nL N0 K0) cf bpc NE KE rf (sw_gf 41 0) pc (pc + 3) := by
  intro L st P x hx
  simp only [sw_gf] at hx
  split at hx
  · rename_i a st' P' heq
    cases heq
    obtain ⟨vs, ha, hx⟩ := sw_op_inv hx
    obtain ⟨v, hv, hx⟩ := sw_bo_inv hx
    cases hx
    refine ⟨sw_mo.rf _, fun _ _ hk h1 h2 ls H locs hl hP hS => ?_⟩
    obtain ⟨-, hcell, -⟩ := hP.2.2 _ _ ha
    obtain ⟨j, hj, hja, hjv⟩ := hcell.box
    subst hjv
    have hST := hX.2.2.2.2.2.2.2.1
    obtain ⟨cf', kf, fi, f, cell, g1, g2, g3, g4, g5, g6⟩ := hST.2.2.1.2 j hj
    have hv2 : v = .int (vb_c j) := (Option.some.inj hv).symm
    subst hja
    refine W.getf hX.1 hX.2.1 hX.2.2.2.1 (hX.2.2.2.2.1 _ hw) g1 g2 (a := D.2.2.2 (1000 + j)) (cell := cell) ?_ g4 (v := v) ?_ rfl rfl hd (hk h1 h2 ls H locs hl hP hS)
    · rw [hS.2.1 _ (Array.getElem?_eq_some_iff.mp g3).1 g6]; exact g3
    · rw [hv2]; exact g5
  · cases hx
theorem Sd_putf (hX : sw_X p l e R s m args below meth c D A own cc nL ret N0 K0 NE KE d) {t k N i vt : Nat} {C : String} {T : u_T} {ty : Nat → FieldType} {ref : String} (hC : sw_Cl t C T ty N) (hkN : k < N) (hvt : sw_vty (ty k) = vt) (hd : decode cc pc = .ok (.putfield i, 3)) (hw : Cond.fieldLink own i ref (T k).2.1 (T k).2.2.1 ∈ lw_all) (hfin : (T k).2.2.2 = false) (hs : ∀ x, s.fieldFound? (T k).1 (T k).2.1 (T k).2.2.1 = some x → s.fieldFound? ref (T k).2.1 (T k).2.2.1 = some x) : sw_Sd (sw_J p l e R s m args below meth c Q D A nL N0 K0) cf bpc NE KE rf (sw_pf t k vt) pc (pc + 3) := by
  intro L st P x hx
  simp only [sw_pf] at hx
  split at hx
  · rename_i v a st' P' heq
    cases heq
    obtain ⟨vs, ha, hx⟩ := sw_op_inv hx
    split at hx
    · rename_i hc
      cases hx
      refine ⟨sw_mo.rf _, fun _ _ hk h1 h2 ls H locs hl hP hS => ?_⟩
      subst hvt
      obtain ⟨hn, hfit⟩ := sw_fit_ty hc.1
      have hC0 := hC
      obtain ⟨h40, hkl, hin, hty, hnm⟩ := hC
      obtain ⟨hsz, hcell, hmu⟩ := hP.2.2 _ _ ha
      obtain ⟨q, g1, glen, cell, q1, q2, q3, q4⟩ := hcell.obj h40
      cases g1.symm.trans hkl
      have hST := hX.2.2.2.2.2.2.2.1
      have hap := va_apart (D := (D.1, D.2.1)) (cl := sw_kl) (tys := []) (own := own) hX.2.2.2.2.1 hin ty hty hnm ⟨hST.1.1, fun k q h => by cases h⟩ hkl
      obtain ⟨hSl, hfc, kC, hkC, hkind⟩ := hST.1.1 t _ hkl
      obtain ⟨cf', kf, fi, f, hi, hsl⟩ := hSl k hkN
      have hst := (u_facts hfc hkC (u_lays hX.2.2.2.2.1 hin hkN) hi).1
      have hlay := hX.2.2.2.2.1 _ (hin _ (u_in_lay hkN))
      unfold u_lay at hlay
      rw [if_neg (by rw [hfin]; decide)] at hlay
      have h6 := u_store hfc hkC hkind hlay hi (hty k hkN) hn hfit
      refine W.putK hX.1 hX.2.1 (f := f) ⟨hX.2.2.2.1, hX.2.2.2.2.1 _ hw, ⟨_, _, _, hs _ hi⟩, hst⟩ (by rw [q2]; exact h6) q1 q3 (by rw [hsl]; exact k2_hasslot (q4 k hkN)) rfl rfl hd fun H' e1 e2 e3 => ?_
      · rw [hsl] at e1 ⊢
        have hA : A a := hmu (Or.inl h40)
        refine hk h1 h2 ls H' _ hl (hP.put ha (Or.inl ⟨h40, _, hkl, by simpa using glen, t_OB.to (V := updV (vp_V vs) k v) ⟨_, e1, q2, q3, t_set q4 hap hkN v⟩ (fun j _ => vp_updV_set hc.2 v j)⟩) e2 e3) (sw_va_put hS e2 e3 hA)
    · cases hx
  · cases hx
theorem Sd_putfN (hX : sw_X p l e R s m args below meth c D A own cc nL ret N0 K0 NE KE d) {t k N i vt : Nat} {C : String} {T : u_T} {ty : Nat → FieldType} {ref host : String} (hC : sw_Cl t C T ty N) (hkN : k < N) (hvt : sw_vty (ty k) = vt) (hd : decode cc pc = .ok (.putfield i, 3)) (hw : Cond.fieldLinkNest own i ref (T k).2.1 (T k).2.2.1 host ∈ sw_wF) (hfin : (T k).2.2.2 = false) (hs : ∀ x, s.fieldFound? (T k).1 (T k).2.1 (T k).2.2.1 = some x → s.fieldFound? ref (T k).2.1 (T k).2.2.1 = some x) : sw_Sd (sw_J p l e R s m args below meth c Q D A nL N0 K0) cf bpc NE KE rf (sw_pf t k vt) pc (pc + 3) := by
  intro L st P x hx
  simp only [sw_pf] at hx
  split at hx
  · rename_i v a st' P' heq
    cases heq
    obtain ⟨vs, ha, hx⟩ := sw_op_inv hx
    split at hx
    · rename_i hc
      cases hx
      refine ⟨sw_mo.rf _, fun _ _ hk h1 h2 ls H locs hl hP hS => ?_⟩
      subst hvt
      obtain ⟨hn, hfit⟩ := sw_fit_ty hc.1
      have hC0 := hC
      obtain ⟨h40, hkl, hin, hty, hnm⟩ := hC
      obtain ⟨hsz, hcell, hmu⟩ := hP.2.2 _ _ ha
      obtain ⟨q, g1, glen, cell, q1, q2, q3, q4⟩ := hcell.obj h40
      cases g1.symm.trans hkl
      have hST := hX.2.2.2.2.2.2.2.1
      have hap := va_apart (D := (D.1, D.2.1)) (cl := sw_kl) (tys := []) (own := own) hX.2.2.2.2.1 hin ty hty hnm ⟨hST.1.1, fun k q h => by cases h⟩ hkl
      obtain ⟨hSl, hfc, kC, hkC, hkind⟩ := hST.1.1 t _ hkl
      obtain ⟨cf', kf, fi, f, hi, hsl⟩ := hSl k hkN
      have hst := (u_facts hfc hkC (u_lays hX.2.2.2.2.1 hin hkN) hi).1
      have hlay := hX.2.2.2.2.1 _ (hin _ (u_in_lay hkN))
      unfold u_lay at hlay
      rw [if_neg (by rw [hfin]; decide)] at hlay
      have h6 := u_store hfc hkC hkind hlay hi (hty k hkN) hn hfit
      refine va_WputK hX.1 hX.2.1 (f := f) hX.2.2.2.1 (va_Nw.use rfl (hST.2.2.2.2.2.2.2.2.2.2.2.1 _ hw)) (hs _ hi) hst (by rw [q2]; exact h6) q1 q3 (by rw [hsl]; exact k2_hasslot (q4 k hkN)) rfl rfl hd fun H' e1 e2 e3 => ?_
      · rw [hsl] at e1 ⊢
        have hA : A a := hmu (Or.inl h40)
        refine hk h1 h2 ls H' _ hl (hP.put ha (Or.inl ⟨h40, _, hkl, by simpa using glen, t_OB.to (V := updV (vp_V vs) k v) ⟨_, e1, q2, q3, t_set q4 hap hkN v⟩ (fun j _ => vp_updV_set hc.2 v j)⟩) e2 e3) (sw_va_put hS e2 e3 hA)
    · cases hx
  · cases hx
theorem Sd_putfF (hX : sw_X p l e R s m args below meth c D A own cc nL ret N0 K0 NE KE d) {t k N i vt : Nat} {C : String} {T : u_T} {ty : Nat → FieldType} {ref : String} (hC : sw_Cl t C T ty N) (hkN : k < N) (hvt : sw_vty (ty k) = vt) (hd : decode cc pc = .ok (.putfield i, 3)) (hw : Cond.fieldLink own i ref (T k).2.1 (T k).2.2.1 ∈ lw_all) (hfin : (T k).2.2.2 = true) (hini : meth.name = "<init>") (hdecl : (T k).1 = own) (hs : ∀ x, s.fieldFound? (T k).1 (T k).2.1 (T k).2.2.1 = some x → s.fieldFound? ref (T k).2.1 (T k).2.2.1 = some x) : sw_Sd (sw_J p l e R s m args below meth c Q D A nL N0 K0) cf bpc NE KE rf (sw_pf t k vt) pc (pc + 3) := by
  intro L st P x hx
  simp only [sw_pf] at hx
  split at hx
  · rename_i v a st' P' heq
    cases heq
    obtain ⟨vs, ha, hx⟩ := sw_op_inv hx
    split at hx
    · rename_i hc
      cases hx
      refine ⟨sw_mo.rf _, fun _ _ hk h1 h2 ls H locs hl hP hS => ?_⟩
      subst hvt
      obtain ⟨hn, hfit⟩ := sw_fit_ty hc.1
      have hC0 := hC
      obtain ⟨h40, hkl, hin, hty, hnm⟩ := hC
      obtain ⟨hsz, hcell, hmu⟩ := hP.2.2 _ _ ha
      obtain ⟨q, g1, glen, cell, q1, q2, q3, q4⟩ := hcell.obj h40
      cases g1.symm.trans hkl
      have hST := hX.2.2.2.2.2.2.2.1
      have hap := va_apart (D := (D.1, D.2.1)) (cl := sw_kl) (tys := []) (own := own) hX.2.2.2.2.1 hin ty hty hnm ⟨hST.1.1, fun k q h => by cases h⟩ hkl
      obtain ⟨hSl, hfc, kC, hkC, hkind⟩ := hST.1.1 t _ hkl
      obtain ⟨cf', kf, fi, f, hi, hsl⟩ := hSl k hkN
      have hst := (u_facts hfc hkC (u_lays hX.2.2.2.2.1 hin hkN) hi).1
      have hlay := hX.2.2.2.2.1 _ (hin _ (u_in_lay hkN))
      unfold u_lay at hlay
      rw [if_pos hfin] at hlay
      have hcf : m.cls = cf' := by
        obtain ⟨_, _, c', _, _, _, -, -, hf', -, -, -, hown2, -⟩ := Cond.laysFinal_spec hlay
        have e1 : c' = cf' := by have := hi.symm.trans hf'; simp at this; exact this.1.symm
        rw [hdecl] at hown2
        rw [← e1]; exact Option.some.inj (hX.2.2.2.1.symm.trans hown2)
      have h6 := u_fits hfc hkC hkind (Or.inr hlay) hi (hty k hkN) hn hfit
      refine W.putFinK hX.1 hX.2.1 hX.2.2.2.1 (hX.2.2.2.2.1 _ hw) (hs _ hi) hst hcf hini (by rw [q2]; exact h6) q1 q3 (by rw [hsl]; exact k2_hasslot (q4 k hkN)) rfl rfl hd fun H' e1 e2 e3 => ?_
      · rw [hsl] at e1 ⊢
        have hA : A a := hmu (Or.inl h40)
        refine hk h1 h2 ls H' _ hl (hP.put ha (Or.inl ⟨h40, _, hkl, by simpa using glen, t_OB.to (V := updV (vp_V vs) k v) ⟨_, e1, q2, q3, t_set q4 hap hkN v⟩ (fun j _ => vp_updV_set hc.2 v j)⟩) e2 e3) (sw_va_put hS e2 e3 hA)
    · cases hx
  · cases hx
theorem Sd_new (hX : sw_X p l e R s m args below meth c D A own cc nL ret N0 K0 NE KE d) {t N i : Nat} {C : String} {T : u_T} {ty : Nat → FieldType} {dv : List Value} (hC : sw_Cl t C T ty N) (hd : decode cc pc = .ok (.new i, 3)) (hw : Cond.classLink own i C ∈ lw_all) (hin2 : Cond.instantiable C N ∈ lw_all) (hini : Cond.initialized C ∈ lw_all) (hdv : dv = (List.range N).map fun j => defaultValue (ty j)) : sw_Sd (sw_J p l e R s m args below meth c Q D A nL N0 K0) cf bpc NE KE rf (sw_nw t dv) pc (pc + 3) := by
  intro L st P x hx
  cases hx
  have hlen : dv.length = N := by rw [hdv]; simp
  refine ⟨⟨Nat.le_succ _, Nat.le_add_right _ _⟩, fun hNE hKE hk h1 h2 ls H locs hl hP hS => ?_⟩
  obtain ⟨h40, hkl, hin, hty, hnm⟩ := hC
  have hST := hX.2.2.2.2.2.2.2.1
  obtain ⟨hAll, hRc, hRs, -⟩ := hX.2.2.2.2.2.2.2.2
  have hKn := hST.1.1 t _ hkl
  have hN1 : sw_nx P + 1 ≤ NE := hNE
  have hN2 : sw_sl P + N ≤ KE := by rw [← hlen]; exact hKE
  refine W.newcK hX.1 hX.2.1 hX.2.2.2.1 (hX.2.2.2.2.1 _ hw) (hX.2.2.2.2.1 _ hin2) (hX.2.2.2.2.1 _ hini) rfl hd (by rw [hRc]; omega) (by rw [hRs]; omega) hKn.2.1 rfl fun H1 kC hkC e1 z1 o1 => ?_
  have hk' := hk (Nat.le_trans h1 (Nat.le_succ _)) (Nat.le_trans h2 (Nat.le_add_right _ _)) ls H1 locs hl (hP.grow (o := (t, dv)) (Or.inl ⟨h40, _, hkl, hlen, (u_born ty hX.2.2.2.2.1 hin hKn hkC e1 hty).to (fun j hj => by rw [hdv]; simp [vp_V, hj])⟩) (hAll _ hS.1) z1 o1) (sw_va_grow hS z1 o1)
  have e3 : sw_nx (sw_new P (t, dv)) - N0 = sw_nx P - N0 + 1 := by rw [sw_nx_new]; omega
  have e4 : sw_sl (sw_new P (t, dv)) - K0 = sw_sl P - K0 + N := by rw [sw_sl_new]; show sw_sl P + dv.length - K0 = _; omega
  rw [← e3, ← e4, ← hP.1]
  exact hk'
theorem sw_arrV_eq {cA : ClassId} {n : Nat} {f g : Nat → Value} (h : ∀ j, j < n → f j = g j) : arrV cA n f = arrV cA n g := by
  unfold arrV
  congr 1
  apply Array.ext
  · simp
  · intro i h1 h2
    simp only [Array.size_ofFn] at h1
    simp [h i h1]
theorem Sd_newarr_int (hX : sw_X p l e R s m args below meth c D A own cc nL ret N0 K0 NE KE d) (hd : decode cc pc = .ok (.newarray .int, 2)) (hw : Cond.arrayClass .int ∈ lw_all) : sw_Sd (sw_J p l e R s m args below meth c Q D A nL N0 K0) cf bpc NE KE rf (sw_na 64) pc (pc + 2) := by
  intro L st P x hx
  simp only [sw_na] at hx
  split at hx
  · rename_i n st' P' heq
    cases heq
    split at hx
    · rename_i hc
      cases hx
      have hlen : (List.replicate n.toNatClampNeg (sw_dv 64)).length = n.toNatClampNeg := List.length_replicate
      refine ⟨⟨Nat.le_succ _, Nat.le_add_right _ _⟩, fun hNE hKE hk h1 h2 ls H locs hl hP hS => ?_⟩
      have hST := hX.2.2.2.2.2.2.2.1
      obtain ⟨hAll, hRc, hRs, -⟩ := hX.2.2.2.2.2.2.2.2
      have hN1 : sw_nx P + 1 ≤ NE := hNE
      have hN2 : sw_sl P + n.toNatClampNeg ≤ KE := by rw [← hlen]; exact hKE
      refine va_newaK hX.1 hX.2.1 (atype := .int) (hX.2.2.2.2.1 _ hw) rfl hd rfl (Int32.not_lt.mpr hc.1) rfl (by have := hc.2; show _ * 4 ≤ _; omega) (by rw [hRc]; omega) (by rw [hRs]; omega) rfl fun H1 cA e1 z1 o1 hAr hNm => ?_
      have hcA : cA = D.2.2.1 64 := Option.some.inj (hNm.symm.trans (hST.1.2 64 (by decide) (by decide)).2.1)
      subst hcA
      have hcell : sw_cell D H.size (64, List.replicate n.toNatClampNeg (sw_dv 64)) H1 := by
        refine Or.inr (Or.inr (Or.inr (Or.inr (Or.inr ⟨⟨Nat.le_of_ble_eq_true rfl, Nat.le_of_ble_eq_true rfl⟩, ?_⟩))))
        rw [e1]
        simp only [hlen]
        congr 1
        refine sw_arrV_eq fun j hj => ?_
        simp [vp_V, hj, sw_dv]
        rfl
      have hk' := hk (Nat.le_trans h1 (Nat.le_succ _)) (Nat.le_trans h2 (Nat.le_add_right _ _)) ls H1 locs hl (hP.grow hcell (hAll _ hS.1) z1 o1) (sw_va_grow hS z1 o1)
      have e3 : sw_nx (sw_new P (64, List.replicate n.toNatClampNeg (sw_dv 64))) - N0 = sw_nx P - N0 + 1 := by rw [sw_nx_new]; omega
      have e4 : sw_sl (sw_new P (64, List.replicate n.toNatClampNeg (sw_dv 64))) - K0 = sw_sl P - K0 + n.toNatClampNeg := by rw [sw_sl_new]; simp only [hlen]; omega
      rw [← e3, ← e4, ← hP.1]
      exact hk'
    · cases hx
  · cases hx
theorem Sd_newarr_boolean (hX : sw_X p l e R s m args below meth c D A own cc nL ret N0 K0 NE KE d) (hd : decode cc pc = .ok (.newarray .boolean, 2)) (hw : Cond.arrayClass .boolean ∈ lw_all) : sw_Sd (sw_J p l e R s m args below meth c Q D A nL N0 K0) cf bpc NE KE rf (sw_na 65) pc (pc + 2) := by
  intro L st P x hx
  simp only [sw_na] at hx
  split at hx
  · rename_i n st' P' heq
    cases heq
    split at hx
    · rename_i hc
      cases hx
      have hlen : (List.replicate n.toNatClampNeg (sw_dv 65)).length = n.toNatClampNeg := List.length_replicate
      refine ⟨⟨Nat.le_succ _, Nat.le_add_right _ _⟩, fun hNE hKE hk h1 h2 ls H locs hl hP hS => ?_⟩
      have hST := hX.2.2.2.2.2.2.2.1
      obtain ⟨hAll, hRc, hRs, -⟩ := hX.2.2.2.2.2.2.2.2
      have hN1 : sw_nx P + 1 ≤ NE := hNE
      have hN2 : sw_sl P + n.toNatClampNeg ≤ KE := by rw [← hlen]; exact hKE
      refine va_newaK hX.1 hX.2.1 (atype := .boolean) (hX.2.2.2.2.1 _ hw) rfl hd rfl (Int32.not_lt.mpr hc.1) rfl (by have := hc.2; show _ * 1 ≤ _; omega) (by rw [hRc]; omega) (by rw [hRs]; omega) rfl fun H1 cA e1 z1 o1 hAr hNm => ?_
      have hcA : cA = D.2.2.1 65 := Option.some.inj (hNm.symm.trans (hST.1.2 65 (by decide) (by decide)).2.1)
      subst hcA
      have hcell : sw_cell D H.size (65, List.replicate n.toNatClampNeg (sw_dv 65)) H1 := by
        refine Or.inr (Or.inr (Or.inr (Or.inr (Or.inr ⟨⟨Nat.le_of_ble_eq_true rfl, Nat.le_of_ble_eq_true rfl⟩, ?_⟩))))
        rw [e1]
        simp only [hlen]
        congr 1
        refine sw_arrV_eq fun j hj => ?_
        simp [vp_V, hj, sw_dv]
        rfl
      have hk' := hk (Nat.le_trans h1 (Nat.le_succ _)) (Nat.le_trans h2 (Nat.le_add_right _ _)) ls H1 locs hl (hP.grow hcell (hAll _ hS.1) z1 o1) (sw_va_grow hS z1 o1)
      have e3 : sw_nx (sw_new P (65, List.replicate n.toNatClampNeg (sw_dv 65))) - N0 = sw_nx P - N0 + 1 := by rw [sw_nx_new]; omega
      have e4 : sw_sl (sw_new P (65, List.replicate n.toNatClampNeg (sw_dv 65))) - K0 = sw_sl P - K0 + n.toNatClampNeg := by rw [sw_sl_new]; simp only [hlen]; omega
      rw [← e3, ← e4, ← hP.1]
      exact hk'
    · cases hx
  · cases hx
theorem Sd_newarr_long (hX : sw_X p l e R s m args below meth c D A own cc nL ret N0 K0 NE KE d) (hd : decode cc pc = .ok (.newarray .long, 2)) (hw : Cond.arrayClass .long ∈ lw_all) : sw_Sd (sw_J p l e R s m args below meth c Q D A nL N0 K0) cf bpc NE KE rf (sw_na 66) pc (pc + 2) := by
  intro L st P x hx
  simp only [sw_na] at hx
  split at hx
  · rename_i n st' P' heq
    cases heq
    split at hx
    · rename_i hc
      cases hx
      have hlen : (List.replicate n.toNatClampNeg (sw_dv 66)).length = n.toNatClampNeg := List.length_replicate
      refine ⟨⟨Nat.le_succ _, Nat.le_add_right _ _⟩, fun hNE hKE hk h1 h2 ls H locs hl hP hS => ?_⟩
      have hST := hX.2.2.2.2.2.2.2.1
      obtain ⟨hAll, hRc, hRs, -⟩ := hX.2.2.2.2.2.2.2.2
      have hN1 : sw_nx P + 1 ≤ NE := hNE
      have hN2 : sw_sl P + n.toNatClampNeg ≤ KE := by rw [← hlen]; exact hKE
      refine va_newaK hX.1 hX.2.1 (atype := .long) (hX.2.2.2.2.1 _ hw) rfl hd rfl (Int32.not_lt.mpr hc.1) rfl (by have := hc.2; show _ * 8 ≤ _; omega) (by rw [hRc]; omega) (by rw [hRs]; omega) rfl fun H1 cA e1 z1 o1 hAr hNm => ?_
      have hcA : cA = D.2.2.1 66 := Option.some.inj (hNm.symm.trans (hST.1.2 66 (by decide) (by decide)).2.1)
      subst hcA
      have hcell : sw_cell D H.size (66, List.replicate n.toNatClampNeg (sw_dv 66)) H1 := by
        refine Or.inr (Or.inr (Or.inr (Or.inr (Or.inr ⟨⟨Nat.le_of_ble_eq_true rfl, Nat.le_of_ble_eq_true rfl⟩, ?_⟩))))
        rw [e1]
        simp only [hlen]
        congr 1
        refine sw_arrV_eq fun j hj => ?_
        simp [vp_V, hj, sw_dv]
        rfl
      have hk' := hk (Nat.le_trans h1 (Nat.le_succ _)) (Nat.le_trans h2 (Nat.le_add_right _ _)) ls H1 locs hl (hP.grow hcell (hAll _ hS.1) z1 o1) (sw_va_grow hS z1 o1)
      have e3 : sw_nx (sw_new P (66, List.replicate n.toNatClampNeg (sw_dv 66))) - N0 = sw_nx P - N0 + 1 := by rw [sw_nx_new]; omega
      have e4 : sw_sl (sw_new P (66, List.replicate n.toNatClampNeg (sw_dv 66))) - K0 = sw_sl P - K0 + n.toNatClampNeg := by rw [sw_sl_new]; simp only [hlen]; omega
      rw [← e3, ← e4, ← hP.1]
      exact hk'
    · cases hx
  · cases hx
theorem Sd_anewO (hX : sw_X p l e R s m args below meth c D A own cc nL ret N0 K0 NE KE d) {i : Nat} (hd : decode cc pc = .ok (.anewarray i, 3)) (hw : Cond.classLink own i "java/lang/Object" ∈ lw_all) : sw_Sd (sw_J p l e R s m args below meth c Q D A nL N0 K0) cf bpc NE KE rf (sw_na 67) pc (pc + 3) := by
  intro L st P x hx
  simp only [sw_na] at hx
  split at hx
  · rename_i n st' P' heq
    cases heq
    split at hx
    · rename_i hc
      cases hx
      have hlen : (List.replicate n.toNatClampNeg (sw_dv 67)).length = n.toNatClampNeg := List.length_replicate
      refine ⟨⟨Nat.le_succ _, Nat.le_add_right _ _⟩, fun hNE hKE hk h1 h2 ls H locs hl hP hS => ?_⟩
      have hST := hX.2.2.2.2.2.2.2.1
      obtain ⟨hAll, hRc, hRs, -⟩ := hX.2.2.2.2.2.2.2.2
      have hN1 : sw_nx P + 1 ≤ NE := hNE
      have hN2 : sw_sl P + n.toNatClampNeg ≤ KE := by rw [← hlen]; exact hKE
      refine W.anew (C := "java/lang/Object") hX.1 hX.2.1 hX.2.2.2.1 (hX.2.2.2.2.1 _ hw) (va_AO.use (hST.2.2.2.2.2.2.2.2.2.2.2.2.2.2.2.1)) rfl hd rfl (Int32.not_lt.mpr hc.1) (by have := hc.2; omega) (by rw [hRc]; omega) (by rw [hRs]; omega) fun cA kA comp g1 g2 g3 g4 => ?_
      have hcA : cA = D.2.2.1 67 := Option.some.inj (g1.symm.trans (hST.1.2 67 (by decide) (by decide)).2.1)
      subst hcA
      have z1 : (H.push ({ cls := D.2.2.1 67, slots := Array.replicate n.toNatClampNeg .null, vm := .none } : Cell)).size = H.size + 1 := by simp
      have o1 : ∀ q, q < H.size → (H.push ({ cls := D.2.2.1 67, slots := Array.replicate n.toNatClampNeg .null, vm := .none } : Cell))[q]? = H[q]? := fun q hq => by rw [Array.getElem?_push, if_neg (Nat.ne_of_lt hq)]
      have hcell : sw_cell D H.size (67, List.replicate n.toNatClampNeg (sw_dv 67)) (H.push ({ cls := D.2.2.1 67, slots := Array.replicate n.toNatClampNeg .null, vm := .none } : Cell)) := by
        refine Or.inr (Or.inr (Or.inr (Or.inr (Or.inr ⟨⟨Nat.le_of_ble_eq_true rfl, Nat.le_of_ble_eq_true rfl⟩, ?_⟩))))
        simp only [hlen]
        rw [Array.getElem?_push, if_pos rfl]
        congr 1
        unfold arrV
        congr 1
        apply Array.ext
        · simp
        · intro i h1 h2
          simp only [Array.size_replicate] at h1
          simp [vp_V, h1, sw_dv]
      have hk' := hk (Nat.le_trans h1 (Nat.le_succ _)) (Nat.le_trans h2 (Nat.le_add_right _ _)) ls _ locs hl (hP.grow hcell (hAll _ hS.1) z1 o1) (sw_va_grow hS z1 o1)
      have e3 : sw_nx (sw_new P (67, List.replicate n.toNatClampNeg (sw_dv 67))) - N0 = sw_nx P - N0 + 1 := by rw [sw_nx_new]; omega
      have e4 : sw_sl (sw_new P (67, List.replicate n.toNatClampNeg (sw_dv 67))) - K0 = sw_sl P - K0 + n.toNatClampNeg := by rw [sw_sl_new]; simp only [hlen]; omega
      rw [← e3, ← e4, ← hP.1]
      exact hk'
    · cases hx
  · cases hx
theorem Sd_anewL (hX : sw_X p l e R s m args below meth c D A own cc nL ret N0 K0 NE KE d) {i : Nat} (hd : decode cc pc = .ok (.anewarray i, 3)) (hw : Cond.classLink own i "SpillslotWorksModel$Life" ∈ lw_all) : sw_Sd (sw_J p l e R s m args below meth c Q D A nL N0 K0) cf bpc NE KE rf (sw_na 68) pc (pc + 3) := by
  intro L st P x hx
  simp only [sw_na] at hx
  split at hx
  · rename_i n st' P' heq
    cases heq
    split at hx
    · rename_i hc
      cases hx
      have hlen : (List.replicate n.toNatClampNeg (sw_dv 68)).length = n.toNatClampNeg := List.length_replicate
      refine ⟨⟨Nat.le_succ _, Nat.le_add_right _ _⟩, fun hNE hKE hk h1 h2 ls H locs hl hP hS => ?_⟩
      have hST := hX.2.2.2.2.2.2.2.1
      obtain ⟨hAll, hRc, hRs, -⟩ := hX.2.2.2.2.2.2.2.2
      have hN1 : sw_nx P + 1 ≤ NE := hNE
      have hN2 : sw_sl P + n.toNatClampNeg ≤ KE := by rw [← hlen]; exact hKE
      refine W.anew (C := "SpillslotWorksModel$Life") hX.1 hX.2.1 hX.2.2.2.1 (hX.2.2.2.2.1 _ hw) (va_AO.use (hST.2.2.2.2.2.2.2.2.2.2.2.2.2.2.2.2.1)) rfl hd rfl (Int32.not_lt.mpr hc.1) (by have := hc.2; omega) (by rw [hRc]; omega) (by rw [hRs]; omega) fun cA kA comp g1 g2 g3 g4 => ?_
      have hcA : cA = D.2.2.1 68 := Option.some.inj (g1.symm.trans (hST.1.2 68 (by decide) (by decide)).2.1)
      subst hcA
      have z1 : (H.push ({ cls := D.2.2.1 68, slots := Array.replicate n.toNatClampNeg .null, vm := .none } : Cell)).size = H.size + 1 := by simp
      have o1 : ∀ q, q < H.size → (H.push ({ cls := D.2.2.1 68, slots := Array.replicate n.toNatClampNeg .null, vm := .none } : Cell))[q]? = H[q]? := fun q hq => by rw [Array.getElem?_push, if_neg (Nat.ne_of_lt hq)]
      have hcell : sw_cell D H.size (68, List.replicate n.toNatClampNeg (sw_dv 68)) (H.push ({ cls := D.2.2.1 68, slots := Array.replicate n.toNatClampNeg .null, vm := .none } : Cell)) := by
        refine Or.inr (Or.inr (Or.inr (Or.inr (Or.inr ⟨⟨Nat.le_of_ble_eq_true rfl, Nat.le_of_ble_eq_true rfl⟩, ?_⟩))))
        simp only [hlen]
        rw [Array.getElem?_push, if_pos rfl]
        congr 1
        unfold arrV
        congr 1
        apply Array.ext
        · simp
        · intro i h1 h2
          simp only [Array.size_replicate] at h1
          simp [vp_V, h1, sw_dv]
      have hk' := hk (Nat.le_trans h1 (Nat.le_succ _)) (Nat.le_trans h2 (Nat.le_add_right _ _)) ls _ locs hl (hP.grow hcell (hAll _ hS.1) z1 o1) (sw_va_grow hS z1 o1)
      have e3 : sw_nx (sw_new P (68, List.replicate n.toNatClampNeg (sw_dv 68))) - N0 = sw_nx P - N0 + 1 := by rw [sw_nx_new]; omega
      have e4 : sw_sl (sw_new P (68, List.replicate n.toNatClampNeg (sw_dv 68))) - K0 = sw_sl P - K0 + n.toNatClampNeg := by rw [sw_sl_new]; simp only [hlen]; omega
      rw [← e3, ← e4, ← hP.1]
      exact hk'
    · cases hx
  · cases hx
theorem Sd_anewZ (hX : sw_X p l e R s m args below meth c D A own cc nL ret N0 K0 NE KE d) {i : Nat} (hd : decode cc pc = .ok (.anewarray i, 3)) (hw : Cond.classLink own i (FieldType.array .boolean).toString ∈ lw_all) : sw_Sd (sw_J p l e R s m args below meth c Q D A nL N0 K0) cf bpc NE KE rf (sw_na 69) pc (pc + 3) := by
  intro L st P x hx
  simp only [sw_na] at hx
  split at hx
  · rename_i n st' P' heq
    cases heq
    split at hx
    · rename_i hc
      cases hx
      have hlen : (List.replicate n.toNatClampNeg (sw_dv 69)).length = n.toNatClampNeg := List.length_replicate
      refine ⟨⟨Nat.le_succ _, Nat.le_add_right _ _⟩, fun hNE hKE hk h1 h2 ls H locs hl hP hS => ?_⟩
      have hST := hX.2.2.2.2.2.2.2.1
      obtain ⟨hAll, hRc, hRs, -⟩ := hX.2.2.2.2.2.2.2.2
      have hN1 : sw_nx P + 1 ≤ NE := hNE
      have hN2 : sw_sl P + n.toNatClampNeg ≤ KE := by rw [← hlen]; exact hKE
      refine W.anewA (t := .boolean) hX.1 hX.2.1 hX.2.2.2.1 (hX.2.2.2.2.1 _ hw) (sw_over_use (hST.2.2.2.2.2.2.2.2.2.2.2.2.2.2.2.2.2.1)) rfl hd rfl (Int32.not_lt.mpr hc.1) (by have := hc.2; omega) (by rw [hRc]; omega) (by rw [hRs]; omega) fun cA kA comp g1 g2 g3 g4 => ?_
      have hcA : cA = D.2.2.1 69 := Option.some.inj (g1.symm.trans (hST.1.2 69 (by decide) (by decide)).2.1)
      subst hcA
      have z1 : (H.push ({ cls := D.2.2.1 69, slots := Array.replicate n.toNatClampNeg .null, vm := .none } : Cell)).size = H.size + 1 := by simp
      have o1 : ∀ q, q < H.size → (H.push ({ cls := D.2.2.1 69, slots := Array.replicate n.toNatClampNeg .null, vm := .none } : Cell))[q]? = H[q]? := fun q hq => by rw [Array.getElem?_push, if_neg (Nat.ne_of_lt hq)]
      have hcell : sw_cell D H.size (69, List.replicate n.toNatClampNeg (sw_dv 69)) (H.push ({ cls := D.2.2.1 69, slots := Array.replicate n.toNatClampNeg .null, vm := .none } : Cell)) := by
        refine Or.inr (Or.inr (Or.inr (Or.inr (Or.inr ⟨⟨Nat.le_of_ble_eq_true rfl, Nat.le_of_ble_eq_true rfl⟩, ?_⟩))))
        simp only [hlen]
        rw [Array.getElem?_push, if_pos rfl]
        congr 1
        unfold arrV
        congr 1
        apply Array.ext
        · simp
        · intro i h1 h2
          simp only [Array.size_replicate] at h1
          simp [vp_V, h1, sw_dv]
      have hk' := hk (Nat.le_trans h1 (Nat.le_succ _)) (Nat.le_trans h2 (Nat.le_add_right _ _)) ls _ locs hl (hP.grow hcell (hAll _ hS.1) z1 o1) (sw_va_grow hS z1 o1)
      have e3 : sw_nx (sw_new P (69, List.replicate n.toNatClampNeg (sw_dv 69))) - N0 = sw_nx P - N0 + 1 := by rw [sw_nx_new]; omega
      have e4 : sw_sl (sw_new P (69, List.replicate n.toNatClampNeg (sw_dv 69))) - K0 = sw_sl P - K0 + n.toNatClampNeg := by rw [sw_sl_new]; simp only [hlen]; omega
      rw [← e3, ← e4, ← hP.1]
      exact hk'
    · cases hx
  · cases hx
end SWH
