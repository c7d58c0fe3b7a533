/-! ===== assertions about disjoint parts of a heap, as lists ===== -/
abbrev sl_H : Type := Nat → Option sw_O
abbrev sl_A : Type := sl_H → Prop
def sl_in (f : Nat → Bool) (H : sl_H) : sl_H := fun a => cond (f a) (H a) none
def sl_out (f : Nat → Bool) (H : sl_H) : sl_H := fun a => cond (f a) none (H a)
def sl_sep : sl_H → List sl_A → Prop
  | _, [] => True
  | H, A :: As => ∃ f : Nat → Bool, A (sl_in f H) ∧ sl_sep (sl_out f H) As
def sl_all (As : List sl_A) : sl_A := fun h => sl_sep h As
def sl_lp (p : Prop) : sl_A := fun _ => p
def sl_ex {α : Type} (A : α → sl_A) : sl_A := fun h => ∃ x, A x h
def sl_pt (a : Nat) (o : sw_O) : sl_A := fun h => h a = some o
def sl_up (H : sl_H) (a : Nat) (o : sw_O) : sl_H := fun b => if b = a then some o else H b
theorem sl_swap {A B : sl_A} {As : List sl_A} {H : sl_H} (h : sl_sep H (A :: B :: As)) : sl_sep H (B :: A :: As) := by
  obtain ⟨f, hA, g, hB, hr⟩ := h
  have e1 : sl_in (fun a => g a && !f a) H = sl_in g (sl_out f H) := by
    funext a; simp only [sl_in, sl_out]; cases f a <;> cases g a <;> rfl
  have e2 : sl_in f (sl_out (fun a => g a && !f a) H) = sl_in f H := by
    funext a; simp only [sl_in, sl_out]; cases f a <;> cases g a <;> rfl
  have e3 : sl_out f (sl_out (fun a => g a && !f a) H) = sl_out g (sl_out f H) := by
    funext a; simp only [sl_out]; cases f a <;> cases g a <;> rfl
  exact ⟨_, e1.symm ▸ hB, f, e2.symm ▸ hA, e3.symm ▸ hr⟩
theorem sl_perm {As Bs : List sl_A} (p : As.Perm Bs) : ∀ {H : sl_H}, sl_sep H As → sl_sep H Bs := by
  induction p with
  | nil => exact fun h => h
  | cons A _ ih => exact fun ⟨f, h1, h2⟩ => ⟨f, h1, ih h2⟩
  | swap A B l => exact fun h => sl_swap h
  | trans _ _ ih1 ih2 => exact fun h => ih2 (ih1 h)
theorem sl_wide {f : Nat → Bool} : ∀ (As : List sl_A) {H : sl_H}, sl_sep (sl_out f H) As → sl_sep H As := by
  intro As
  induction As with
  | nil => exact fun _ => trivial
  | cons A As ih =>
    intro H h
    obtain ⟨g, hA, hr⟩ := h
    have e1 : sl_in (fun a => g a && !f a) H = sl_in g (sl_out f H) := by
      funext a; simp only [sl_in, sl_out]; cases f a <;> cases g a <;> rfl
    have e3 : sl_out f (sl_out (fun a => g a && !f a) H) = sl_out g (sl_out f H) := by
      funext a; simp only [sl_out]; cases f a <;> cases g a <;> rfl
    exact ⟨_, e1.symm ▸ hA, ih (e3.symm ▸ hr)⟩
theorem sl_drop {A : sl_A} {As : List sl_A} {H : sl_H} (h : sl_sep H (A :: As)) : sl_sep H As := sl_wide As h.choose_spec.2
theorem sl_all_out {Bs : List sl_A} : ∀ (As : List sl_A) {H : sl_H} {f : Nat → Bool}, sl_sep (sl_in f H) As → sl_sep (sl_out f H) Bs → sl_sep H (As ++ Bs) := by
  intro As
  induction As with
  | nil => exact fun _ h => sl_wide Bs h
  | cons A As ih =>
    intro H f ⟨g, hA, hr⟩ hB
    have e1 : sl_in (fun a => g a && f a) H = sl_in g (sl_in f H) := by
      funext a; simp only [sl_in]; cases f a <;> cases g a <;> rfl
    have e2 : sl_in f (sl_out (fun a => g a && f a) H) = sl_out g (sl_in f H) := by
      funext a; simp only [sl_in, sl_out]; cases f a <;> cases g a <;> rfl
    have e3 : sl_out f (sl_out (fun a => g a && f a) H) = sl_out f H := by
      funext a; simp only [sl_out]; cases f a <;> cases g a <;> rfl
    exact ⟨_, e1.symm ▸ hA, ih (e2.symm ▸ hr) (e3.symm ▸ hB)⟩
theorem sl_all_in {Bs : List sl_A} : ∀ (As : List sl_A) {H : sl_H}, sl_sep H (As ++ Bs) → sl_sep H (sl_all As :: Bs) := by
  intro As
  induction As with
  | nil =>
    intro H h
    refine ⟨fun _ => false, trivial, ?_⟩
    have e : sl_out (fun _ => false) H = H := by funext a; rfl
    exact e.symm ▸ h
  | cons A As ih =>
    intro H ⟨g, hA, hr⟩
    obtain ⟨f, h1, h2⟩ := ih hr
    have e1 : sl_in g (sl_in (fun a => g a || f a) H) = sl_in g H := by
      funext a; simp only [sl_in]; cases f a <;> cases g a <;> rfl
    have e2 : sl_out g (sl_in (fun a => g a || f a) H) = sl_in f (sl_out g H) := by
      funext a; simp only [sl_in, sl_out]; cases f a <;> cases g a <;> rfl
    have e3 : sl_out (fun a => g a || f a) H = sl_out f (sl_out g H) := by
      funext a; simp only [sl_out]; cases f a <;> cases g a <;> rfl
    exact ⟨fun a => g a || f a, ⟨g, e1.symm ▸ hA, e2.symm ▸ h1⟩, e3.symm ▸ h2⟩
theorem sl_all_iff {As Bs : List sl_A} {H : sl_H} : sl_sep H (sl_all As :: Bs) ↔ sl_sep H (As ++ Bs) := ⟨fun ⟨_, h1, h2⟩ => sl_all_out As h1 h2, sl_all_in As⟩
theorem sl_ex_iff {α : Type} {A : α → sl_A} {As : List sl_A} {H : sl_H} : sl_sep H (sl_ex A :: As) ↔ ∃ x, sl_sep H (A x :: As) :=
  ⟨fun ⟨f, ⟨x, h1⟩, h2⟩ => ⟨x, f, h1, h2⟩, fun ⟨x, f, h1, h2⟩ => ⟨f, ⟨x, h1⟩, h2⟩⟩
theorem sl_lp_iff {p : Prop} {As : List sl_A} {H : sl_H} : sl_sep H (sl_lp p :: As) ↔ p ∧ sl_sep H As := by
  constructor
  · exact fun h => ⟨h.choose_spec.1, sl_drop h⟩
  · rintro ⟨hp, h⟩
    refine ⟨fun _ => false, hp, ?_⟩
    have e : sl_out (fun _ => false) H = H := by funext a; rfl
    exact e.symm ▸ h
theorem sl_get {a : Nat} {o : sw_O} {As : List sl_A} {H : sl_H} (h : sl_sep H (sl_pt a o :: As)) : H a = some o := by
  obtain ⟨f, h1, -⟩ := h
  have h1 : cond (f a) (H a) none = some o := h1
  cases hf : f a with
  | true => rw [hf] at h1; exact h1
  | false => rw [hf] at h1; cases h1
theorem sl_put {a : Nat} {o o' : sw_O} {As : List sl_A} {H : sl_H} (h : sl_sep H (sl_pt a o :: As)) : sl_sep (sl_up H a o') (sl_pt a o' :: As) := by
  obtain ⟨f, h1, h2⟩ := h
  have h1 : cond (f a) (H a) none = some o := h1
  have hf : f a = true := by
    cases hf : f a
    · rw [hf] at h1; cases h1
    · rfl
  refine ⟨f, ?_, ?_⟩
  · show cond (f a) (if a = a then some o' else H a) none = some o'
    rw [hf, if_pos rfl]; rfl
  · have e : sl_out f (sl_up H a o') = sl_out f H := by
      funext b
      simp only [sl_out, sl_up]
      by_cases hb : b = a
      · subst hb; rw [hf]; rfl
      · rw [if_neg hb]
    exact e.symm ▸ h2
theorem sl_mk {a : Nat} {o : sw_O} {As : List sl_A} {H : sl_H} (h : sl_sep H As) (hn : H a = none) : sl_sep (sl_up H a o) (sl_pt a o :: As) := by
  refine ⟨fun b => decide (b = a), ?_, ?_⟩
  · show cond (decide (a = a)) (if a = a then some o else H a) none = some o
    rw [decide_eq_true rfl, if_pos rfl]; rfl
  · have e : sl_out (fun b => decide (b = a)) (sl_up H a o) = H := by
      funext b
      simp only [sl_out, sl_up]
      by_cases hb : b = a
      · subst hb; simp [hn]
      · simp [hb]
    exact e.symm ▸ h
/-- what an assertion tells a reader -/
def sl_rd (H : sl_H) (A : sl_A) : Prop := ∃ f, A (sl_in f H)
def sl_rds (H : sl_H) : List sl_A → Prop
  | [] => True
  | A :: As => sl_rd H A ∧ sl_rds H As
theorem sl_in_in (f g : Nat → Bool) (H : sl_H) : sl_in f (sl_in g H) = sl_in (fun a => f a && g a) H := by
  funext a; simp only [sl_in]; cases f a <;> cases g a <;> rfl
theorem sl_in_out (f g : Nat → Bool) (H : sl_H) : sl_in f (sl_out g H) = sl_in (fun a => f a && !g a) H := by
  funext a; simp only [sl_in, sl_out]; cases f a <;> cases g a <;> rfl
theorem sl_rd_in {f : Nat → Bool} {H : sl_H} {A : sl_A} : sl_rd (sl_in f H) A → sl_rd H A := fun ⟨g, h⟩ => ⟨_, sl_in_in g f H ▸ h⟩
theorem sl_rd_out {f : Nat → Bool} {H : sl_H} {A : sl_A} : sl_rd (sl_out f H) A → sl_rd H A := fun ⟨g, h⟩ => ⟨_, sl_in_out g f H ▸ h⟩
theorem sl_rds_in {f : Nat → Bool} {H : sl_H} : ∀ {As : List sl_A}, sl_rds (sl_in f H) As → sl_rds H As
  | [], _ => trivial
  | _ :: _, ⟨h1, h2⟩ => ⟨sl_rd_in h1, sl_rds_in h2⟩
theorem sl_rds_out {f : Nat → Bool} {H : sl_H} : ∀ {As : List sl_A}, sl_rds (sl_out f H) As → sl_rds H As
  | [], _ => trivial
  | _ :: _, ⟨h1, h2⟩ => ⟨sl_rd_out h1, sl_rds_out h2⟩
theorem sl_sep_rds : ∀ {As : List sl_A} {H : sl_H}, sl_sep H As → sl_rds H As
  | [], _, _ => trivial
  | _ :: _, _, ⟨f, h1, h2⟩ => ⟨⟨f, h1⟩, sl_rds_out (sl_sep_rds h2)⟩
theorem sl_rds_mem {H : sl_H} : ∀ {As : List sl_A}, sl_rds H As → ∀ A ∈ As, sl_rd H A
  | _ :: _, ⟨h1, h2⟩, A, hA => by
    cases hA with
    | head => exact h1
    | tail _ h => exact sl_rds_mem h2 A h
theorem sl_rd_pt {H : sl_H} {a : Nat} {o : sw_O} : sl_rd H (sl_pt a o) ↔ H a = some o := by
  constructor
  · rintro ⟨f, h⟩
    have h : cond (f a) (H a) none = some o := h
    cases hf : f a with
    | true => rw [hf] at h; exact h
    | false => rw [hf] at h; cases h
  · exact fun h => ⟨fun _ => true, h⟩
theorem sl_rd_lp {H : sl_H} {p : Prop} : sl_rd H (sl_lp p) ↔ p := ⟨fun ⟨_, h⟩ => h, fun h => ⟨fun _ => true, h⟩⟩
theorem sl_rd_ex {H : sl_H} {α : Type} {A : α → sl_A} : sl_rd H (sl_ex A) ↔ ∃ x, sl_rd H (A x) := ⟨fun ⟨f, x, h⟩ => ⟨x, f, h⟩, fun ⟨x, f, h⟩ => ⟨f, x, h⟩⟩
theorem sl_rd_all {H : sl_H} {As : List sl_A} : sl_rd H (sl_all As) → sl_rds H As := fun ⟨_, h⟩ => sl_rds_in (sl_sep_rds h)
theorem sl_rds_append {H : sl_H} : ∀ {As Bs : List sl_A}, sl_rds H (As ++ Bs) ↔ sl_rds H As ∧ sl_rds H Bs
  | [], _ => ⟨fun h => ⟨trivial, h⟩, fun h => h.2⟩
  | _ :: _, _ => ⟨fun ⟨h1, h2⟩ => ⟨⟨h1, (sl_rds_append.mp h2).1⟩, (sl_rds_append.mp h2).2⟩, fun ⟨⟨h1, h2⟩, h3⟩ => ⟨h1, sl_rds_append.mpr ⟨h2, h3⟩⟩⟩
/-! one of many -/
theorem sl_pick {α : Type} : ∀ (l : List α) (i : Nat) (x : α), l[i]? = some x → l.Perm (x :: l.eraseIdx i)
  | [], _, _, h => by cases h
  | y :: l, 0, x, h => by
    cases h
    exact List.Perm.refl _
  | y :: l, i + 1, x, h => ((sl_pick l i x h).cons y).trans (List.Perm.swap x y _)
theorem sl_pickS {α : Type} : ∀ (l : List α) (i : Nat) (x y : α), l[i]? = some x → (y :: l.eraseIdx i).Perm (l.set i y)
  | [], _, _, _, h => by cases h
  | z :: l, 0, x, y, h => List.Perm.refl _
  | z :: l, i + 1, x, y, h => (List.Perm.swap z y _).trans ((sl_pickS l i x y h).cons z)
/-- positions to the front, in this order -/
def sl_pkN {α : Type} : Nat → List Nat → List α → List α
  | n + 1, i :: is, l => match l[i]? with
    | some x => x :: sl_pkN n (is.map fun j => if i < j then j - 1 else j) (l.eraseIdx i)
    | none => l
  | _, _, l => l
def sl_pk {α : Type} (is : List Nat) (l : List α) : List α := sl_pkN is.length is l
theorem sl_pkN_perm {α : Type} : ∀ (n : Nat) (is : List Nat) (l : List α), l.Perm (sl_pkN n is l)
  | 0, _, l => List.Perm.refl _
  | n + 1, [], l => List.Perm.refl _
  | n + 1, i :: is, l => by
    unfold sl_pkN
    cases h : l[i]? with
    | some x => exact (sl_pick l i x h).trans ((sl_pkN_perm n _ _).cons x)
    | none => exact List.Perm.refl _
theorem sl_pk_perm {α : Type} (is : List Nat) (l : List α) : l.Perm (sl_pk is l) := sl_pkN_perm _ _ _
/-! ===== the state of a run: the constants' heap, what is spent at most, and assertions ===== -/
def sl_gl (ev : Nat → Nat) : sl_A := fun h => h (ev 10) = some (70, []) ∧ h (ev 11) = some (71, (List.range 256).map fun j => .ref (ev (1000 + j))) ∧ (∀ j, j < 6 → h (ev j) = some (40, [.int (nI j)])) ∧ ∀ j, j < 256 → h (ev (1000 + j)) = some (41, [.int (vb_c j)])
def sl_st (ev : Nat → Nat) (c s : Nat) (P : sw_P) (As : List sl_A) : Prop := sw_ev P = ev ∧ sw_nx P ≤ c ∧ sw_sl P ≤ s ∧ (∀ a, sw_nx P ≤ a → sw_hp P a = none) ∧ sl_sep (sw_hp P) (sl_gl ev :: As)
theorem sl_st.rd {ev : Nat → Nat} {c s : Nat} {P : sw_P} {As : List sl_A} (h : sl_st ev c s P As) : sl_rds (sw_hp P) As := (sl_sep_rds h.2.2.2.2).2
theorem sl_st.ev {ev : Nat → Nat} {c s : Nat} {P : sw_P} {As : List sl_A} (h : sl_st ev c s P As) : sw_ev P = ev := h.1
theorem sl_st.gl {ev : Nat → Nat} {c s : Nat} {P : sw_P} {As : List sl_A} (h : sl_st ev c s P As) : sw_hp P (ev 10) = some (70, []) ∧ sw_hp P (ev 11) = some (71, (List.range 256).map fun j => .ref (ev (1000 + j))) ∧ (∀ j, j < 6 → sw_hp P (ev j) = some (40, [.int (nI j)])) ∧ ∀ j, j < 256 → sw_hp P (ev (1000 + j)) = some (41, [.int (vb_c j)]) := by
  obtain ⟨f, h1, h2, h3, h4⟩ := (sl_sep_rds h.2.2.2.2).1
  have hh : ∀ {a o}, sl_in f (sw_hp P) a = some o → sw_hp P a = some o := by
    intro a o h
    have h : cond (f a) (sw_hp P a) none = some o := h
    cases hf : f a with
    | true => rw [hf] at h; exact h
    | false => rw [hf] at h; cases h
  exact ⟨hh h1, hh h2, fun j hj => hh (h3 j hj), fun j hj => hh (h4 j hj)⟩
theorem sl_st.perm {ev : Nat → Nat} {c s : Nat} {P : sw_P} {As Bs : List sl_A} (h : sl_st ev c s P As) (p : As.Perm Bs) : sl_st ev c s P Bs := ⟨h.1, h.2.1, h.2.2.1, h.2.2.2.1, sl_perm (p.cons _) h.2.2.2.2⟩
theorem sl_st.pk {ev : Nat → Nat} {c s : Nat} {P : sw_P} {As : List sl_A} (h : sl_st ev c s P As) (is : List Nat) : sl_st ev c s P (sl_pk is As) := h.perm (sl_pk_perm is As)
theorem sl_st.wk {ev : Nat → Nat} {c s c' s' : Nat} {P : sw_P} {As : List sl_A} (h : sl_st ev c s P As) (hc : c ≤ c') (hs : s ≤ s') : sl_st ev c' s' P As := ⟨h.1, Nat.le_trans h.2.1 hc, Nat.le_trans h.2.2.1 hs, h.2.2.2⟩
theorem sl_st.under {ev : Nat → Nat} {c s : Nat} {P : sw_P} {A : sl_A} {As Bs : List sl_A} (h : sl_st ev c s P As) (hh : ∀ {H}, sl_sep H As → sl_sep H Bs) : sl_st ev c s P Bs := ⟨h.1, h.2.1, h.2.2.1, h.2.2.2.1, h.2.2.2.2.imp fun _ q => ⟨q.1, hh q.2⟩⟩
theorem sl_st.drop {ev : Nat → Nat} {c s : Nat} {P : sw_P} {A : sl_A} {As : List sl_A} (h : sl_st ev c s P (A :: As)) : sl_st ev c s P As := h.under (A := A) fun q => sl_drop q
theorem sl_st.flat {ev : Nat → Nat} {c s : Nat} {P : sw_P} {As Bs : List sl_A} : sl_st ev c s P (sl_all As :: Bs) ↔ sl_st ev c s P (As ++ Bs) := ⟨fun h => h.under (A := sl_all As) sl_all_iff.mp, fun h => h.under (A := sl_all As) sl_all_iff.mpr⟩
theorem sl_st.exs {ev : Nat → Nat} {c s : Nat} {P : sw_P} {α : Type} {A : α → sl_A} {Bs : List sl_A} (h : sl_st ev c s P (sl_ex A :: Bs)) : ∃ x, sl_st ev c s P (A x :: Bs) := by
  obtain ⟨h1, h2, h3, h4, f, hg, hr⟩ := h
  obtain ⟨x, hx⟩ := sl_ex_iff.mp hr
  exact ⟨x, h1, h2, h3, h4, f, hg, hx⟩
theorem sl_st.ofex {ev : Nat → Nat} {c s : Nat} {P : sw_P} {α : Type} {A : α → sl_A} {Bs : List sl_A} (x : α) (h : sl_st ev c s P (A x :: Bs)) : sl_st ev c s P (sl_ex A :: Bs) := h.under (A := A x) fun q => sl_ex_iff.mpr ⟨x, q⟩
theorem sl_st.lps {ev : Nat → Nat} {c s : Nat} {P : sw_P} {p : Prop} {Bs : List sl_A} : sl_st ev c s P (sl_lp p :: Bs) ↔ p ∧ sl_st ev c s P Bs := by
  constructor
  · intro h
    exact ⟨sl_rd_lp.mp h.rd.1, h.drop⟩
  · rintro ⟨hp, h⟩
    exact h.under (A := sl_lp p) fun q => sl_lp_iff.mpr ⟨hp, q⟩
theorem sl_st.set0 {ev : Nat → Nat} {c s : Nat} {P : sw_P} {a : Nat} {o : sw_O} {As : List sl_A} (h : sl_st ev c s P (sl_pt a o :: As)) (o' : sw_O) : sl_st ev c s (sw_set P a o') (sl_pt a o' :: As) := by
  obtain ⟨h1, h2, h3, h4, h5⟩ := h
  have hn : a < sw_nx P := by
    rcases Nat.lt_or_ge a (sw_nx P) with q | q
    · exact q
    · have := sl_get (sl_swap h5)
      rw [h4 a q] at this
      cases this
  refine ⟨h1, h2, h3, fun b hb => ?_, sl_swap (sl_put (sl_swap h5))⟩
  show (if b = a then some o' else sw_hp P b) = none
  have hb : sw_nx P ≤ b := hb
  rw [if_neg (by omega)]
  exact h4 b hb
theorem sl_st.set {ev : Nat → Nat} {c s : Nat} {P : sw_P} {a : Nat} {o : sw_O} {As : List sl_A} (h : sl_st ev c s P As) (i : Nat) (o' : sw_O) (hi : As[i]? = some (sl_pt a o)) : sl_st ev c s (sw_set P a o') (As.set i (sl_pt a o')) :=
  ((h.perm (sl_pick As i _ hi)).set0 o').perm (sl_pickS As i _ _ hi)
theorem sl_st.new {ev : Nat → Nat} {c s : Nat} {P : sw_P} {As : List sl_A} (h : sl_st ev c s P As) (o : sw_O) : sl_st ev (c + 1) (s + o.2.length) (sw_new P o) (sl_pt (sw_nx P) o :: As) := by
  obtain ⟨h1, h2, h3, h4, h5⟩ := h
  refine ⟨h1, Nat.succ_le_succ h2, Nat.add_le_add_right h3 _, fun b hb => ?_, sl_swap (sl_mk h5 (h4 _ (Nat.le_refl _)))⟩
  have hb : sw_nx P + 1 ≤ b := hb
  show (if b = sw_nx P then some o else sw_hp P b) = none
  rw [if_neg (by omega)]
  exact h4 b (by omega)
theorem sl_st.bump {ev : Nat → Nat} {c s : Nat} {P : sw_P} {As : List sl_A} (h : sl_st ev c s P As) : sl_st ev (c + 1) (s + 6) (sw_bump P) As := by
  obtain ⟨h1, h2, h3, h4, h5⟩ := h
  exact ⟨h1, Nat.succ_le_succ h2, Nat.add_le_add_right h3 _, fun b hb => h4 b (Nat.le_of_succ_le hb), h5⟩
theorem sl_st.get {ev : Nat → Nat} {c s : Nat} {P : sw_P} {a : Nat} {o : sw_O} {As : List sl_A} (h : sl_st ev c s P As) (i : Nat) (hi : As[i]? = some (sl_pt a o)) : sw_hp P a = some o := sl_rd_pt.mp (sl_rds_mem h.rd _ (List.mem_of_getElem? hi))
theorem sl_st.at {ev : Nat → Nat} {c s : Nat} {P : sw_P} {A : sl_A} {As : List sl_A} (h : sl_st ev c s P As) (i : Nat) (hi : As[i]? = some A) : sl_rd (sw_hp P) A := sl_rds_mem h.rd _ (List.mem_of_getElem? hi)
/-! equations of heaps -/
theorem sw_set_set (P : sw_P) (a : Nat) (o o' : sw_O) : sw_set (sw_set P a o) a o' = sw_set P a o' := by
  unfold sw_set
  refine Prod.ext (funext fun b => ?_) rfl
  show (if b = a then some o' else if b = a then some o else P.1 b) = if b = a then some o' else P.1 b
  by_cases hb : b = a
  · rw [if_pos hb, if_pos hb]
  · rw [if_neg hb, if_neg hb, if_neg hb]
theorem sw_set_new (P : sw_P) (t t' : Nat) (vs vs' : List Value) (h : vs'.length = vs.length) : sw_set (sw_new P (t, vs)) (sw_nx P) (t', vs') = sw_new P (t', vs') := by
  unfold sw_set sw_new
  refine Prod.ext (funext fun b => ?_) ?_
  · show (if b = P.2.1 then some (t', vs') else if b = P.2.1 then some (t, vs) else P.1 b) = if b = P.2.1 then some (t', vs') else P.1 b
    by_cases hb : b = P.2.1
    · rw [if_pos hb, if_pos hb]
    · rw [if_neg hb, if_neg hb, if_neg hb]
  · show ((P.2.1 + 1, P.2.2.1 + vs.length, P.2.2.2) : Nat × Nat × (Nat → Nat)) = (P.2.1 + 1, P.2.2.1 + vs'.length, P.2.2.2)
    rw [h]
/-- a depth that is left -/
theorem sw_dep {D k : Nat} (h : k + 1 ≤ D) : ∃ d, D = d + 1 ∧ k ≤ d := ⟨D - 1, by omega, by omega⟩
/-- a loop's state after i rounds -/
def sw_it {σ : Type} (f : Nat → σ → σ) (s : σ) : Nat → σ
  | 0 => s
  | n + 1 => f n (sw_it f s n)
