/-! ===== calls in methods with handlers ===== -/
def sw_jf (e : Nat) : List (Nat × Nat) → Option Nat
  | [] => none
  | (k, j) :: t => if e = k then some j else sw_jf e t
theorem sw_jf_e (e : Nat) : sw_jf e [] = none := rfl
theorem sw_jf_c (e k j : Nat) (t : List (Nat × Nat)) : sw_jf e ((k, j) :: t) = if e = k then some j else sw_jf e t := rfl
/-- a call by the receiver's kind, in a method with handlers, none of which reads a local: the class of the exception gives the block, behind the handler's store -/
def sw_cvh (c y n : Nat) (t : List (Nat × Nat)) : sw_I := fun cf s => match sw_cv c y n cf s with
  | some (.inr (.inr (.inr e, P'))) => (sw_jf e t).bind fun j => some (.inr (.inl (j, [], [], P')))
  | x => x
theorem sw_lv.nil {ls : Array Slot} {nL : Nat} {L : sw_L} (h : sw_lv ls nL L) : sw_lv ls nL [] := ⟨h.1, h.2.1, fun k v hk => by cases hk⟩
/-- the handler that takes an exception of class k, thrown at pc, and the block behind its store -/
def sw_Hnd (own : String) (cc : ByteArray) (nL : Nat) (s : State) (tb : List ExceptionTableEntry) (pc k tgt : Nat) : Prop := ∃ (pre suf : List ExceptionTableEntry) (x : ExceptionTableEntry), tb = pre ++ x :: suf ∧
  (∀ z ∈ pre, covers z pc = false ∨ (z.catchType ≠ 0 ∧ ∃ nm : String, Cond.classLink own z.catchType nm ∈ lw_all ∧ va_Nc (sw_exn k) nm s)) ∧ covers x pc = true ∧ x.catchType ≠ 0 ∧ Cond.classLink own x.catchType (sw_exn k) ∈ lw_all ∧ Cond.castable (sw_exn k) (sw_exn k) ∈ sw_wC ∧
  ((∃ i, decode cc x.handlerPc = .ok (.astore i, 2) ∧ i < nL ∧ tgt = x.handlerPc + 2) ∨ ∃ i : Fin 4, decode cc x.handlerPc = .ok (.astore_n i, 1) ∧ (i : Nat) < nL ∧ tgt = x.handlerPc + 1)
section SWV
variable {p : Program} {l : Launch} {e : Env} {R : Room} {s : State} {m : MethodId} {args : Array Value} {below : List Frame} {meth : Method} {c : Code} {Q : State → Prop} {D : sw_D} {A : Nat → Prop} {nL N0 K0 NE KE d : Nat} {cf : sw_F} {bpc : Nat → Nat} {rf : sw_R} {own : String} {cc : ByteArray} {ret : Option FieldType} {pc : Nat} {TN : Nat → Option sw_NM}
theorem sw_caught (hX : sw_X p l e R s m args below meth c D A own cc nL ret N0 K0 NE KE d) {tb : List ExceptionTableEntry} (htb : c.exceptionTable.toList = tb) {k j : Nat} (hH : sw_Hnd own cc nL s tb pc k (bpc j)) {P : sw_P} (hk : sw_J p l e R s m args below meth c Q D A nL N0 K0 (bpc j) [] [] P) (h1 : N0 ≤ sw_nx P) (h2 : K0 ≤ sw_sl P) {L : sw_L} {ls : Array Slot} {rest : List Value} (hl : sw_lv ls nL L) {H1 : Heap} {locs1 : List Loc} {q : Addr} {ce : Cell} (hP : sw_HP D A P H1) (hS : va_S A s.heap H1 locs1) (g3 : H1[q]? = some ce) (g4 : ce.vm = .none) (g5 : s.vm.findClass (sw_exn k) = some ce.cls) :
    vx_W p l e R s m args below meth c H1 locs1 (sw_nx P - N0) (sw_sl P - K0) Q (F0 m pc ls rest) q := by
  obtain ⟨pre, suf, x, e1, e2, e3, e4, e5, e6, e7⟩ := hH
  have hST := hX.2.2.2.2.2.2.2.1
  have hz := hST.2.2.2.2.2.2.2.2.2.2.2.2.2.1 _ e6
  refine vx_catch hX.2.2.2.1 pre x suf (htb.trans e1) (fun z hz => ?_) e3 e4 (hX.2.2.2.2.1 _ e5) (va_Nw.use rfl hz) g3 g4 g5 ?_
  · rcases e2 z hz with h | ⟨h, nm, h', h''⟩
    · exact Or.inl h
    · exact Or.inr ⟨h, nm, hX.2.2.2.2.1 _ h', h''⟩
  · rcases e7 with ⟨i, d1, d2, d3⟩ | ⟨i, d1, d2, d3⟩
    · rw [d3] at hk
      exact lv_astore hX.1 hX.2.1 d1 hl.has d2 rfl (fun ls' hl' => hk h1 h2 ls' H1 locs1 (sw_lv.st1 hl').nil hP hS)
    · rw [d3] at hk
      exact lv_astore_n hX.1 hX.2.1 d1 rfl hl.has d2 rfl (fun ls' hl' => hk h1 h2 ls' H1 locs1 (sw_lv.st1 hl').nil hP hS)
theorem Sd_cvh (hX : sw_X p l e R s m args below meth c D A own cc nL ret N0 K0 NE KE d) (hC : sw_Ct l TN cf d) (hv : ∃ v, rf.1 = .inl v) {tb : List ExceptionTableEntry} (htb : c.exceptionTable.toList = tb) {t : List (Nat × Nat)} (hH : ∀ k j, sw_jf k t = some j → sw_Hnd own cc nL s tb pc k (bpc j)) {y n i : Nat} {nm : sw_NM} (hy : TN y = some nm) {k : Nat} (hk71 : k ≠ 71) (hM : sw_Mf nm n) (hd : decode cc pc = .ok (.invokevirtual i, 3)) (hw : Cond.methodLink own i nm.1 ∈ lw_all) (hin : Cond.instanceMethod nm.1 ∈ lw_all) (hsel : Cond.selects (sw_cn k) nm.1 nm.1 ∈ lw_all) : sw_Sd (sw_J p l e R s m args below meth c Q D A nL N0 K0) cf bpc NE KE rf (sw_cvh k y n t) pc (pc + 3) := by
  intro L st P x9 hx9
  have old := fun x => Sd_virtual (Q := Q) (bpc := bpc) hX hC (Or.inl hv) hy hk71 hM hd hw hin hsel L st P x
  simp only [sw_cvh] at hx9
  split at hx9
  · rename_i ek P' hx
    cases hj : sw_jf ek t with
    | none => rw [hj] at hx9; cases hx9
    | some j =>
      rw [hj] at hx9
      cases hx9
      clear old
      have hx0 := hx
      obtain ⟨b, tl, vsb, hd2, hb⟩ : ∃ b tl vs, st.drop n = .ref b :: tl ∧ sw_hp P b = some (k, vs) := by
        simp only [sw_cv] at hx0
        split at hx0
        · rename_i b tl heq
          split at hx0
          · rename_i hk
            obtain ⟨vs, hvs⟩ := sw_kd_inv hk
            exact ⟨b, tl, vs, heq, hvs⟩
          · cases hx0
        · cases hx0
      have hx : sw_cs y (n + 1) cf (L, st, P) = some (.inr (.inr (.inr ek, P'))) := by
        simp only [sw_cv] at hx
        split at hx
        · split at hx
          · exact hx
          · cases hx
        · cases hx
      obtain ⟨as0, rest, r, hst, hlen0, hok, hcf, hres⟩ := sw_cs_inv hx
      obtain ⟨as, has⟩ : ∃ (as : List Value), as0 = .ref b :: as := by
        cases as0 with
        | nil => cases hlen0
        | cons v as =>
          have hl2 : as.length = n := by simpa using hlen0
          have e : st.drop n = v :: rest := by
            rw [hst]
            simp only [List.reverse_cons, List.append_assoc, List.singleton_append]
            rw [List.drop_append_of_le_length (by simp; omega), List.drop_of_length_le (by simp; omega)]
            rfl
          rw [e] at hd2
          cases hd2
          exact ⟨as, rfl⟩
      subst has
      have hlen : as.length = n := by simpa using hlen0
      have hst : st = as.reverse ++ .ref b :: rest := by rw [hst]; simp
      obtain ⟨hmo, hMet⟩ := hC y _ P r _ hy hcf
      have hMt := hMet D A
      have hr : r = (.inr ek, P') := by
        rcases hres with ⟨v, -, e9⟩ | ⟨k9, -, e9⟩
        · cases e9
        · cases e9; rfl
      subst hr
      refine ⟨hmo, fun hNE hKE hk h1 h2 ls H locs hl hP hS => ?_⟩
      have hNE : sw_nx P' ≤ NE := hNE
      have hKE : sw_sl P' ≤ KE := hKE
      have hsum := sw_ok_sum hok
      have hST := hX.2.2.2.2.2.2.2.1
      obtain ⟨hAll, hRc, hRs, hfr, hlo⟩ := hX.2.2.2.2.2.2.2.2
      have hf : sw_nx P - N0 + (sw_nx P' - sw_nx P) ≤ R.cells ∧ sw_sl P - K0 + (sw_sl P' - sw_sl P) ≤ R.slots := by
        have h3 : sw_nx P ≤ sw_nx P' := hmo.1
        have h4 : sw_sl P ≤ sw_sl P' := hmo.2
        rw [hRc, hRs]; omega
      have hfix : CallFix p m c cc nL s args lw_all own := ⟨hX.1, hX.2.1, hX.2.2.1, hX.2.2.2.1, hX.2.2.2.2.1⟩
      subst hst
      refine sw_after (len := 3) rfl (d2 := d) (y := y) (as := as) hX.2.2.2.2.2.2.1 hmo h1 h2 hl hS (vx_runV (As := as) hfix hMt ⟨sw_cb hX hM hw, hX.2.2.2.2.1 _ hin, hX.2.2.2.2.1 _ hsel⟩ (sw_pcv hST hAll hP hS hb hk71) rfl hlen hl.1 rfl (lv_room hsum) hd hf) (fun v hv => by cases hv) (fun k2 hk2 H1 locs1 q ce g1 g2 g3 g4 g5 => ?_)
      cases hk2
      exact sw_caught hX htb (hH ek j hj) hk (Nat.le_trans h1 hmo.1) (Nat.le_trans h2 hmo.2) hl g1 g2 g3 g4 g5
  · exact old _ hx9
end SWV
