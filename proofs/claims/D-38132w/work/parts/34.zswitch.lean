/-! ===== the bridge: switches ===== -/
def sw_tc (pc : Nat) (bpc : Nat → Nat) : Int → List Int → List (Int32 × Nat × List Bool) → Bool
  | _, [], [] => true
  | lo, o :: os, (k, n, _) :: t => decide (k.toInt = lo) && (decide ((pc : Int) + o = (bpc n : Int)) && sw_tc pc bpc (lo + 1) os t)
  | _, _, _ => false
theorem sw_tc_out {pc : Nat} {bpc : Nat → Nat} {x : Int32} {d : Nat × List Bool} : ∀ (os : List Int) (t : List (Int32 × Nat × List Bool)) (lo : Int), sw_tc pc bpc lo os t = true → (x.toInt < lo ∨ lo + os.length ≤ x.toInt) → sw_lk x t d = d := by
  intro os
  induction os with
  | nil =>
    intro t lo h _
    cases t with
    | nil => rfl
    | cons q t => cases h
  | cons o os ih =>
    intro t lo h hx
    cases t with
    | nil => cases h
    | cons q t =>
      obtain ⟨k, n, b⟩ := q
      simp only [sw_tc, Bool.and_eq_true, decide_eq_true_eq] at h
      rw [sw_lk_c, if_neg, ih t (lo + 1) h.2.2]
      · simp only [List.length_cons] at hx
        omega
      · intro e
        rw [e] at hx
        simp only [List.length_cons] at hx
        omega
theorem sw_tc_in {pc : Nat} {bpc : Nat → Nat} {x : Int32} {d : Nat × List Bool} : ∀ (os : List Int) (t : List (Int32 × Nat × List Bool)) (lo : Int), sw_tc pc bpc lo os t = true → lo ≤ x.toInt → x.toInt < lo + os.length → ∃ off, os[(x.toInt - lo).toNat]? = some off ∧ (pc : Int) + off = (bpc (sw_lk x t d).1 : Int) := by
  intro os
  induction os with
  | nil => intro t lo h h1 h2; simp only [List.length_nil] at h2; omega
  | cons o os ih =>
    intro t lo h h1 h2
    cases t with
    | nil => cases h
    | cons q t =>
      obtain ⟨k, n, b⟩ := q
      simp only [sw_tc, Bool.and_eq_true, decide_eq_true_eq] at h
      by_cases hk : x = k
      · rw [sw_lk_c, if_pos hk]
        refine ⟨o, ?_, h.2.1⟩
        have : (x.toInt - lo).toNat = 0 := by rw [hk, h.1]; omega
        rw [this]
        rfl
      · have hne : x.toInt ≠ lo := fun e => hk (Int32.toInt_inj.mp (by rw [h.1]; exact e))
        simp only [List.length_cons] at h2
        obtain ⟨off, e1, e2⟩ := ih t (lo + 1) h.2.2 (by omega) (by omega)
        refine ⟨off, ?_, ?_⟩
        · have : (x.toInt - lo).toNat = (x.toInt - (lo + 1)).toNat + 1 := by omega
          rw [this]
          exact e1
        · rw [sw_lk_c, if_neg hk]
          exact e2
def sw_lkc (pc : Nat) (bpc : Nat → Nat) : List (Int × Int) → List (Int32 × Nat × List Bool) → Bool
  | [], [] => true
  | (a, o) :: os, (k, n, _) :: t => decide (k.toInt = a) && (decide ((pc : Int) + o = (bpc n : Int)) && sw_lkc pc bpc os t)
  | _, _ => false
theorem sw_lkc_ok {pc : Nat} {bpc : Nat → Nat} {x : Int32} {d : Nat × List Bool} {df : Int} (hd : (pc : Int) + df = (bpc d.1 : Int)) : ∀ (os : List (Int × Int)) (t : List (Int32 × Nat × List Bool)), sw_lkc pc bpc os t = true → (pc : Int) + Op.lookupswitch.offset os df x.toInt = (bpc (sw_lk x t d).1 : Int) := by
  intro os
  induction os with
  | nil =>
    intro t h
    cases t with
    | nil => rw [Op.lookupswitch.offset_nil]; exact hd
    | cons q t => cases h
  | cons o os ih =>
    intro t h
    obtain ⟨a, o⟩ := o
    cases t with
    | nil => cases h
    | cons q t =>
      obtain ⟨k, n, b⟩ := q
      simp only [sw_lkc, Bool.and_eq_true, decide_eq_true_eq] at h
      by_cases hk : x = k
      · rw [sw_lk_c, if_pos hk, Op.lookupswitch.offset_cons, if_pos (by rw [hk]; exact h.1.symm)]
        exact h.2.1
      · rw [sw_lk_c, if_neg hk, lv_osw hk h.1]
        exact ih t h.2.2
section SWW
variable {p : Program} {l : Launch} {e : Env} {R : Room} {s : State} {m : MethodId} {args : Array Value} {below : List Frame} {meth : Method} {c : Code} {Q : State → Prop} {D : sw_D} {A : Nat → Prop} {nL N0 K0 NE KE d : Nat} {cf : sw_F} {bpc : Nat → Nat} {rf : sw_R} {own : String} {cc : ByteArray} {ret : Option FieldType} {pc : Nat}
theorem Sd_tableswitch (hX : sw_X p l e R s m args below meth c D A own cc nL ret N0 K0 NE KE d) {dflt lo hi : Int} {offs : Array Int} {len pc2 : Nat} {t : List (Int32 × Nat × List Bool)} {dd : Nat × List Bool} (hd : decode cc pc = .ok (.tableswitch dflt lo hi offs, len)) (hD : (pc : Int) + dflt = (bpc dd.1 : Int)) (ht : (sw_tc pc bpc lo offs.toList t && decide (lo + offs.toList.length = hi + 1)) = true) : sw_Sd (sw_J p l e R s m args below meth c Q D A nL N0 K0) cf bpc NE KE rf (sw_sw t dd) pc pc2 := by
  intro L st P x hx
  simp only [sw_sw] at hx
  split at hx
  · rename_i l' v st' P' heq
    cases heq
    cases hx
    refine ⟨sw_mo.rf _, fun _ _ hk h1 h2 ls H locs hl hP hS => ?_⟩
    simp only [Bool.and_eq_true, decide_eq_true_eq] at ht
    have hkk := hk h1 h2 ls H locs (hl.mask _) hP hS
    by_cases c1 : v.toInt < lo
    · have hkk' := hkk
      simp only [sw_tc_out (x := v) (d := dd) _ _ _ ht.1 (Or.inl c1)] at hkk'
      exact lv_tableOut hX.1 hX.2.1 hd (Or.inl c1) hD hkk'
    · by_cases c2 : hi < v.toInt
      · have hkk' := hkk
        simp only [sw_tc_out (x := v) (d := dd) _ _ _ ht.1 (Or.inr (by omega))] at hkk'
        exact lv_tableOut hX.1 hX.2.1 hd (Or.inr c2) hD hkk'
      · obtain ⟨off, e1, e2⟩ := sw_tc_in (d := dd) _ _ _ ht.1 (by omega) (x := v) (by omega)
        rw [Array.getElem?_toList] at e1
        exact lv_tableIn hX.1 hX.2.1 hd c1 c2 e1 e2 hkk
  · cases hx
theorem Sd_lookupswitch (hX : sw_X p l e R s m args below meth c D A own cc nL ret N0 K0 NE KE d) {dflt : Int} {ps : Array (Int × Int)} {len pc2 : Nat} {t : List (Int32 × Nat × List Bool)} {dd : Nat × List Bool} (hd : decode cc pc = .ok (.lookupswitch dflt ps, len)) (hp : (ps.toList.zip (ps.toList.drop 1)).all (fun (a, next) => a.1 < next.1) = true) (hD : (pc : Int) + dflt = (bpc dd.1 : Int)) (ht : sw_lkc pc bpc ps.toList t = true) : sw_Sd (sw_J p l e R s m args below meth c Q D A nL N0 K0) cf bpc NE KE rf (sw_sw t dd) pc pc2 := by
  intro L st P x hx
  simp only [sw_sw] at hx
  split at hx
  · rename_i l' v st' P' heq
    cases heq
    cases hx
    refine ⟨sw_mo.rf _, fun _ _ hk h1 h2 ls H locs hl hP hS => ?_⟩
    exact lv_lookup hX.1 hX.2.1 hd hp rfl (sw_lkc_ok hD _ _ ht) (hk h1 h2 ls H locs (hl.mask _) hP hS)
  · cases hx
theorem Sd_ldcw (hX : sw_X p l e R s m args below meth c D A own cc nL ret N0 K0 NE KE d) {i : Nat} {v : Int32} (hd : decode cc pc = .ok (.ldc_w i, 3)) (hw : Cond.constant own i v ∈ lw_all) : sw_Sd (sw_J p l e R s m args below meth c Q D A nL N0 K0) cf bpc NE KE rf (sw_push (.int v)) pc (pc + 3) := by
  intro L st P x hx
  cases hx
  refine ⟨sw_mo.rf _, fun _ _ hk h1 h2 ls H locs hl hP hS => ?_⟩
  exact lv_ldcw hX.1 hX.2.1 hX.2.2.2.1 (hX.2.2.2.2.1 _ hw) hd (hk h1 h2 ls H locs hl hP hS)
end SWW
