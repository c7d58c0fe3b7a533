/-! ===== rows for the law's own body ===== -/
theorem sw_soundL {J : Nat → sw_L → List Value → sw_P → Prop} {cf : sw_F} {B : sw_B} {bpc : Nat → Nat} {NE KE : Nat} {rf : sw_R} (hB : ∀ n, sw_Gd J cf bpc NE KE rf (B n) (bpc n)) (hN : sw_nx rf.2 ≤ NE) (hK : sw_sl rf.2 ≤ KE) :
    ∀ (n : Nat) (code : List sw_I) (pc : Nat) (L : sw_L) (st : List Value) (P : sw_P), sw_Gd J cf bpc NE KE rf code pc → sw_run cf B n (code, L, st, P) = some rf → sw_mo P rf.2 ∧ J pc L st P := by
  intro n
  induction n with
  | zero => intro code pc L st P _ h; cases h
  | succ n ih =>
    intro code pc L st P hg h
    cases code with
    | nil => rw [sw_run, sw_go] at h; cases h
    | cons i r =>
      obtain ⟨pc', hs, hr⟩ := hg
      rw [sw_run, sw_go] at h
      cases hx : i cf (L, st, P) with
      | none => rw [hx] at h; cases h
      | some x =>
        rw [hx] at h
        obtain ⟨h1, h2⟩ := hs L st P x hx
        rcases x with ⟨L', st', P'⟩ | ⟨k, L', st', P'⟩ | o
        · obtain ⟨h3, h4⟩ := ih r pc' L' st' P' hr h
          exact ⟨h1.tr h3, h2 (Nat.le_trans h3.1 hN) (Nat.le_trans h3.2 hK) h4⟩
        · obtain ⟨h3, h4⟩ := ih (B k) (bpc k) L' st' P' (hB k) h
          exact ⟨h1.tr h3, h2 (Nat.le_trans h3.1 hN) (Nat.le_trans h3.2 hK) h4⟩
        · have e : o = rf := Option.some.inj h
          subst e
          exact ⟨h1, h2 hN hK rfl⟩
/-- the script: a load, the length, the law's end, a call of a helper -/
def sw_scl : sw_I := fun _ s => match s with
  | (l, .int i :: .ref a :: st, P) => if a = sw_ev P 12 ∧ ¬ (i < 0 ∨ sw_ev P 60 ≤ i.toNatClampNeg) then some (.inl (l, .int (Int32.ofNat (sw_ev P (2000 + i.toNatClampNeg))) :: st, P)) else none
  | _ => none
def sw_sca : sw_I := fun _ s => match s with
  | (l, .ref a :: st, P) => if a = sw_ev P 12 then some (.inl (l, .int (Int32.ofNat (sw_ev P 60)) :: st, P)) else none
  | _ => none
def sw_lret : sw_I := fun _ s => match s with
  | (_, [v], P) => some (.inr (.inr (.inl (some v), P)))
  | _ => none
def sw_csf (f : List Value → sw_P → Option sw_R) (n : Nat) : sw_I := fun _ s => sw_cs 0 n (fun _ => f) s
section SWLB
variable {p : Program} {l : Launch} {e : Env} {R : Room} {s : State} {m : MethodId} {args : Array Value} {below : List Frame} {meth : Method} {c : Code} {Q : State → Prop} {D : sw_D} {A : Nat → Prop} {nL N0 K0 NE KE d : Nat} {cf : sw_F} {bpc : Nat → Nat} {rf : sw_R} {own : String} {cc : ByteArray} {ret : Option FieldType} {pc : Nat}
def sw_Scr (D : sw_D) (A : Nat → Prop) (s : State) : Prop := va_X (D.2.2.2 12) (D.2.2.2 60) (fun j => Int32.ofNat (D.2.2.2 (2000 + j))) s s.heap ∧ D.2.2.2 12 < s.heap.size ∧ ¬ A (D.2.2.2 12)
theorem Sd_scl (hX : sw_X p l e R s m args below meth c D A own cc nL ret N0 K0 NE KE d) (hs : sw_Scr D A s) (hd : decode cc pc = .ok (.iaload, 1)) : sw_Sd (sw_J p l e R s m args below meth c Q D A nL N0 K0) cf bpc NE KE rf sw_scl pc (pc + 1) := by
  intro L st P x hx
  simp only [sw_scl] at hx
  split at hx
  · rename_i i a st' P' heq
    cases heq
    split at hx
    · rename_i hc
      cases hx
      refine ⟨sw_mo.rf _, fun _ _ hk h1 h2 ls H locs hl hP hS => ?_⟩
      obtain ⟨hc1, hc2⟩ := hc
      rw [hP.2.1] at hc1 hc2
      subst hc1
      have hkk := hk h1 h2 ls H locs hl hP hS
      rw [hP.2.1] at hkk
      exact va_sld hX.1 hX.2.1 hs.1 hs.2.1 hs.2.2 hS hc2 hd hkk
    · cases hx
  · cases hx
theorem Sd_sca (hX : sw_X p l e R s m args below meth c D A own cc nL ret N0 K0 NE KE d) (hs : sw_Scr D A s) (hd : decode cc pc = .ok (.arraylength, 1)) : sw_Sd (sw_J p l e R s m args below meth c Q D A nL N0 K0) cf bpc NE KE rf sw_sca pc (pc + 1) := by
  intro L st P x hx
  simp only [sw_sca] at hx
  split at hx
  · rename_i a st' P' heq
    cases heq
    split at hx
    · rename_i hc
      cases hx
      refine ⟨sw_mo.rf _, fun _ _ hk h1 h2 ls H locs hl hP hS => ?_⟩
      rw [hP.2.1] at hc
      subst hc
      have hkk := hk h1 h2 ls H locs hl hP hS
      rw [hP.2.1] at hkk
      exact va_slen hX.1 hX.2.1 hs.1 hs.2.1 hs.2.2 hS hd hkk
    · cases hx
  · cases hx
/-- a call of a helper with handlers -/
theorem Sd_help (hX : sw_X p l e R s m args below meth c D A own cc nL ret N0 K0 NE KE d) (hN : sw_NC s) {nm : sw_NH} {f : List Value → sw_P → Option sw_R} (hC : ∀ as P r, f as P = some r → sw_MtH l nm d as P r ∧ ∃ v, r.1 = .inl v) {n i : Nat} (hcode : Cond.codeWith nm.1 nm.2.1 nm.2.2.1 (some .int) nm.2.2.2 ∈ lw_all) (hini : Cond.initialized nm.1.cls ∈ lw_all) (hcls : nm.1.cls ≠ "java/lang/invoke/MethodHandle" ∧ nm.1.cls ≠ "java/lang/invoke/VarHandle") (hlen9 : (parseMethodDescriptor nm.1.desc).map (fun d => d.parameters.length) = some n) (hmL : nm.2.2.1 ≤ 29) (hd : decode cc pc = .ok (.invokestatic i, 3)) (hw : Cond.methodLink own i nm.1 ∈ lw_all) (hst0 : Cond.static nm.1 ∈ lw_all) : sw_Sd (sw_J p l e R s m args below meth c Q D A nL N0 K0) cf bpc NE KE rf (sw_csf f n) pc (pc + 3) := by
  intro L st P x hx
  obtain ⟨as, rest, r, hst, hlen, hok, hcf, hres⟩ := sw_cs_inv (show sw_cs 0 n (fun _ => f) (L, st, P) = some x from hx)
  obtain ⟨⟨hmo, hMet⟩, v9, hv9⟩ := hC _ P r hcf
  have hMt := hMet D A
  obtain ⟨v, hv, rfl⟩ : ∃ v, r.1 = .inl v ∧ x = .inl (L, sw_psh v rest, r.2) := by
    rcases hres with h | ⟨k, hk, -⟩
    · exact h
    · rw [hv9] at hk; cases hk
  refine ⟨hmo, fun hNE hKE hk h1 h2 ls H locs hl hP hS => ?_⟩
  have hNE : sw_nx r.2 ≤ NE := hNE
  have hKE : sw_sl r.2 ≤ KE := hKE
  have hsum := sw_ok_sum hok
  have hST := hX.2.2.2.2.2.2.2.1
  obtain ⟨hAll, hRc, hRs, hfr, hlo⟩ := hX.2.2.2.2.2.2.2.2
  have hf : sw_nx P - N0 + (sw_nx r.2 - sw_nx P) ≤ R.cells ∧ sw_sl P - K0 + (sw_sl r.2 - sw_sl P) ≤ R.slots := by
    have := hmo.1; have := hmo.2
    rw [hRc, hRs]; omega
  have hfix : CallFix p m c cc nL s args lw_all own := ⟨hX.1, hX.2.1, hX.2.2.1, hX.2.2.2.1, hX.2.2.2.2.1⟩
  subst hst
  have hpay : ∀ w ∈ Cond.codeWith nm.1 nm.2.1 nm.2.2.1 (some .int) nm.2.2.2 :: lw_all, ∀ (a' : Array Value) (U : State), s.WarmedH U.vm → w.before a' U = true := by
    refine pay_in hX.2.2.2.2.1 (fun w hw9 => ?_)
    rcases List.mem_cons.mp hw9 with rfl | h
    · exact lw_self _ hcode
    · exact lw_self _ h
  have hp : PreS s H (va_Pc as (sw_B1 l D A P)) as := by
    obtain ⟨-, hz⟩ := sw_pcs (as := as) hST hAll hP hS
    refine ⟨sw_blind1, fun U hU hW => ?_⟩
    obtain ⟨z1, z2⟩ := hz U hU hW
    exact ⟨z1, z2, hN.moved hW.alike⟩
  refine sw_after (len := 3) rfl (d2 := d) (y := 0) (as := as) hX.2.2.2.2.2.2.1 hmo h1 h2 hl hS (vx_runSX (As := as) (n := n) hfix hMt ⟨⟨rfl, rfl, sw_room_f hfr, sw_room_l hlo hmL, hpay, List.mem_cons_self⟩, hX.2.2.2.2.1 _ hcode, hX.2.2.2.2.1 _ hini, hcls, fun sig h => by rw [h] at hlen9; exact (Option.some.inj hlen9).symm, hX.2.2.2.2.1 _ hw, hX.2.2.2.2.1 _ hst0⟩ hp rfl hlen hl.1 rfl (lv_room hsum) hd hf) (fun v' hv' => ?_) (fun k hk2 H1 locs1 q ce g1 g2 g3 g4 g5 => ?_)
  · rw [hv] at hv'
    cases hv'
    exact hk
  · rw [hv] at hk2; cases hk2
end SWLB
