/-! ===== the bridge: one call with nine words under its arguments ===== -/
section Runs9
variable {p : Program} {l : Launch} {e : Env} {R : Room} {s : State} {m : MethodId} {args : Array Value} {below : List Frame} {meth : Method} {c : Code} {H : Heap} {locs : List Loc} {cells slots : Nat}
variable {y : MethodName} {bytes cc : ByteArray} {maxL nL mc ms n index : Nat} {ret : Option FieldType} {ws : List Cond} {rm : Room} {Pc : Array Value → State → Prop} {Qc : Array Value → State → Outcome → State → Prop} {XC : String → State → State → Prop} {free : Addr → Prop} {Ts : List Cond} {own C : String} {b : Addr} {As rest : List Value} {g : JFrame}
theorem vx_runV9 (S : CallFix p m c cc nL s args Ts own) (hM : vx_Met l y ws rm Pc Qc XC mc ms free) (cw : CallW R s args own C index y bytes maxL ret ws rm mc ms n) (h9 : 9 + (maxL + 11) + rm.locals ≤ R.locals) (hp : PreV s H C b Pc As)
    (hg : g.method = m) (hn : As.length = n) (hsize : g.locals.size = nL) (hstack : g.stack = As.reverse ++ .ref b :: rest) (hW : 2 * g.monitorRoom + (rest.map fun v => v.category).sum ≤ 9) (hdg : decode cc g.pc = .ok (.invokevirtual index, 3)) (hf : cells + mc ≤ R.cells ∧ slots + ms ≤ R.slots) :
    vx_Run p l e R s m args below meth c H locs cells slots mc ms g rest (Qc (Value.ref b :: As).toArray) XC free := by
  have hK : vx_Back l R p e below s args y 3 9 (PreOf R mc ms Pc) (PostOf Qc mc ms free) (vx_Post XC mc ms free) := by
    obtain ⟨hrc, hrs, hfr, -, hws, hcw, -, hini, -⟩ := cw.1
    exact vx_back (bytes := bytes) (maxL := maxL) (ret := ret) hM hp.1 hrc hrs hfr h9 hws hcw (fun a' U hW => word_at hW (Or.inl (by first | rfl | simp [Cond.onTables, Cond.keeps, Cond.steady])) hini)
  obtain ⟨⟨-, -, -, -, -, -, hcode, -, hy, hlen, hl⟩, hin, hse⟩ := cw
  obtain ⟨hx, hb, hml, ho, -⟩ := S
  obtain ⟨-, ⟨cellB, hcB, hoB, hclB⟩, hPc⟩ := hp
  intro T hT X
  rcases vx_callV X hx (C := C) (bytes := bytes) (maxL := maxL) (ret := ret) ho hl hin hse hcode hy hK (by rw [hT]; exact hcB) hoB hclB hg (hsize.trans hml.symm) (argsL := As) (rest := rest) (fun sig h => hn.trans (hlen sig h)) hstack hW (by rw [hb]; exact hdg)
    (fun vm₁ hW₁ => ⟨hf.1, hf.2, hPc (T.setVm vm₁) hT hW₁⟩) with ⟨v, vm₁, ⟨U', l2, c2, s2⟩, hW₁, X', ⟨g', mk, t, L, e1, e2, hq, h1, hL, h2, h3⟩, st⟩ | ⟨q, vm₁, ⟨U', l2, c2, s2⟩, hW₁, X', ⟨g', mk, t, L, E, ce, e1, e2, hq, hce, hcv, hcl, h1, hL, h2, h3⟩, st⟩
  · dsimp only [Pt.U, Pt.locs, Pt.cells, Pt.slots] at X' e1 e2 h1 h2 h3 st
    subst h1; subst h2; subst h3
    exact Or.inl ⟨v, (T.setVm vm₁).calling g' mk (Value.ref b :: As).toArray, t, U', L, hT, X', hL, e1, e2, hq, st⟩
  · dsimp only [Pt.U, Pt.locs, Pt.cells, Pt.slots] at X' e1 e2 h1 h2 h3 st hcl
    subst h1; subst h2; subst h3
    exact Or.inr ⟨q, (T.setVm vm₁).calling g' mk (Value.ref b :: As).toArray, t, U', L, E, ce, hT, X', hL, e1, e2, hq, hce, hcv, vx_cls hW₁ hcl, st⟩
end Runs9
theorem sw_room_l9 {mL d X : Nat} (h : 48 * d + 448 ≤ X) (hm : mL ≤ 28) : 9 + (mL + 11) + (48 * d + 400) ≤ X := by
  have h1 : 9 + (mL + 11) ≤ 48 := by omega
  exact Nat.le_trans (Nat.add_le_add_right h1 _) (by rw [Nat.add_comm, Nat.add_assoc]; exact h)
section SWK
variable {p : Program} {l : Launch} {e : Env} {R : Room} {s : State} {m : MethodId} {args : Array Value} {below : List Frame} {meth : Method} {c : Code} {Q : State → Prop} {D : sw_D} {A : Nat → Prop} {nL N0 K0 NE KE d : Nat} {cf : sw_F} {bpc : Nat → Nat} {rf : sw_R} {own : String} {cc : ByteArray} {ret : Option FieldType} {pc : Nat}
variable {TN : Nat → Option sw_NM}
theorem Sd_virtual9 (hX : sw_X p l e R s m args below meth c D A own cc nL ret N0 K0 NE KE d) (hC : sw_Ct l TN cf d) (hQ : (∃ v, rf.1 = .inl v) ∨ sw_QM s args below c Q D A N0 K0 NE KE rf) {y i : Nat} {nm : sw_NM} (hy : TN y = some nm) {k : Nat} (hk71 : k ≠ 71) (h28 : nm.2.2.1 ≤ 28) (hM : sw_Mf nm 1) (hd : decode cc pc = .ok (.invokevirtual i, 3)) (hw : Cond.methodLink own i nm.1 ∈ lw_all) (hin : Cond.instanceMethod nm.1 ∈ lw_all) (hsel : Cond.selects (sw_cn k) nm.1 nm.1 ∈ lw_all) : sw_Sd (sw_J p l e R s m args below meth c Q D A nL N0 K0) cf bpc NE KE rf (sw_cv9 k y) pc (pc + 3) := by
  intro L st P x hx
  obtain ⟨b, v, rest, vsb, r, hst, hb, hok, hcf, hres⟩ : ∃ b v rest vs r, st = v :: .ref b :: rest ∧ sw_hp P b = some (k, vs) ∧ sw_ok9 rest = true ∧ cf y [.ref b, v] P = some r ∧ ((∃ w, r.1 = .inl w ∧ x = .inl (L, sw_psh w rest, r.2)) ∨ (∃ q, r.1 = .inr q ∧ x = .inr (.inr r))) := by
    simp only [sw_cv9] at hx
    split at hx
    · rename_i l' v b rest P' heq
      cases heq
      split at hx
      · rename_i hc
        obtain ⟨vs, hvs⟩ := sw_kd_inv hc.2
        split at hx
        · cases hx
        · rename_i w P' hcf
          exact ⟨b, v, rest, vs, _, rfl, hvs, hc.1, hcf, Or.inl ⟨w, rfl, (Option.some.inj hx).symm⟩⟩
        · rename_i q P' hcf
          exact ⟨b, v, rest, vs, _, rfl, hvs, hc.1, hcf, Or.inr ⟨q, rfl, (Option.some.inj hx).symm⟩⟩
      · cases hx
    · cases hx
  obtain ⟨as, has⟩ : ∃ as : List Value, as = [v] := ⟨_, rfl⟩
  have hlen : as.length = 1 := by rw [has]; rfl
  have hst : st = as.reverse ++ .ref b :: rest := by rw [hst, has]; rfl
  have hcf : cf y (.ref b :: as) P = some r := by rw [has]; exact hcf

  obtain ⟨hmo, hMet⟩ := hC y _ P r _ hy hcf
  have hMt := hMet D A
  have hout : sw_out x = r.2 := by rcases hres with ⟨v, -, rfl⟩ | ⟨k, -, rfl⟩ <;> rfl
  refine ⟨by rw [hout]; exact hmo, fun hNE hKE hk h1 h2 ls H locs hl hP hS => ?_⟩
  rw [hout] at hNE hKE
  have hsum : (rest.map fun v => v.category).sum ≤ 9 := of_decide_eq_true hok
  have hST := hX.2.2.2.2.2.2.2.1
  obtain ⟨hAll, hRc, hRs, hfr, hlo⟩ := hX.2.2.2.2.2.2.2.2
  have hf : sw_nx P - N0 + (sw_nx r.2 - sw_nx P) ≤ R.cells ∧ sw_sl P - K0 + (sw_sl r.2 - sw_sl P) ≤ R.slots := by
    have := hmo.1; have := hmo.2
    rw [hRc, hRs]; omega
  have hfix : CallFix p m c cc nL s args lw_all own := ⟨hX.1, hX.2.1, hX.2.2.1, hX.2.2.2.1, hX.2.2.2.2.1⟩
  subst hst
  refine sw_after (len := 3) rfl (d2 := d) (y := y) (as := as) hX.2.2.2.2.2.2.1 hmo h1 h2 hl hS (vx_runV9 (As := as) hfix hMt ⟨sw_cb hX hM hw, hX.2.2.2.2.1 _ hin, hX.2.2.2.2.1 _ hsel⟩ (sw_room_l9 hlo h28) (sw_pcv hST hAll hP hS hb hk71) rfl hlen hl.1 rfl (by show 2 * 0 + _ ≤ 9; omega) hd hf) (fun v hv => ?_) (fun k hk2 H1 locs1 q ce g1 g2 g3 g4 g5 => ?_)
  · rcases hres with ⟨v', hv', rfl⟩ | ⟨k, hk', rfl⟩
    · rw [hv] at hv'
      cases hv'
      exact hk
    · rw [hv] at hk'; cases hk'
  · rcases hres with ⟨v', hv', rfl⟩ | ⟨k', hk', rfl⟩
    · rw [hk2] at hv'; cases hv'
    · have hrf : r = rf := hk
      subst hrf
      rcases hQ with ⟨v, hv⟩ | hQ
      · rw [hv] at hk2; cases hk2
      · exact sw_thrown hQ hX.2.2.2.2.2.2.1 hk2 g1 g2 g3 g4 g5
end SWK
