/-! ===== from an equation of the small machine to the law's walk ===== -/
theorem sw_whole {p : Program} {l : Launch} {e : Env} {s : State} {m : MethodId} {args : Array Value} {below : List Frame} {meth : Method} {c : Code} {Q : State → Prop} {D : sw_D} {d b : Nat} (hx : p.tables.exec = Jvm.exec) (hb : c.code = cL_law) (hml : c.maxLocals = 9) (hown : s.vm.findClass "SpillslotWorksLaw" = some m.cls)
    (hts : ∀ w ∈ lw_all, w.before args s = true) (hret : meth.sig.returnType = some .boolean) (hlocks : meth.locks = false) (hST : sw_ST l D (fun q => s.heap.size ≤ q) s s.heap) (hN : sw_NC s) (hs : sw_Scr D (fun q => s.heap.size ≤ q) s)
    {P0 P' : sw_P} (hP : sw_HP D (fun q => s.heap.size ≤ q) P0 s.heap) (hrun : sw_at (sw_Z (d + 1)) (b_L_law d) 0 (sw_en 9 [.ref b]) [] P0 = some (.inl (some (.int 1)), P')) (hd : d ≤ 2000) (hn : sw_nx P' ≤ sw_nx P0 + 647784) (hk : sw_sl P' ≤ sw_sl P0 + 7102063)
    (hEnd : ∀ (pc : Nat) (H : Heap) (ls : Array Slot), decode cL_law pc = .ok (.ireturn, 1) → W p l e room_1 s m args below meth c H [] 647784 7102063 Q (F0 m pc ls [.int 1])) :
    W p l e room_1 s m args below meth c s.heap [] 0 0 Q (entryFrame m ([Value.ref b] : List Value).toArray 9) := by
  have hW : sw_WitH l := ⟨p, e, s, args, D, _, hx, hts, hST, fun q h => h, hN⟩
  have hX : sw_X p l e room_1 s m args below meth c D (fun q => s.heap.size ≤ q) "SpillslotWorksLaw" cL_law 9 (some .boolean) (sw_nx P0) (sw_sl P0) (sw_nx P0 + 647784) (sw_sl P0 + 7102063) (d + 1) :=
    ⟨hx, hb, hml, hown, hts, hret, hlocks, hST, fun q h => h, (Nat.add_sub_cancel_left _ _).symm, (Nat.add_sub_cancel_left _ _).symm, Nat.le_trans (Nat.add_le_add_right (Nat.succ_le_succ hd) 9) (Nat.le_of_ble_eq_true rfl), Nat.le_trans (Nat.add_le_add_right (Nat.mul_le_mul_left 48 (Nat.succ_le_succ hd)) 448) (Nat.le_of_ble_eq_true rfl)⟩
  have hg := gm_L_law (Q := Q) (rf := (.inl (some (.int 1)), P')) hX (sw_bridge hW.wit (d + 1)) ⟨_, rfl⟩ rfl hW hN hs (fun pc hdg H ls locs cells slots hc hs9 hS => by
    rw [Nat.add_sub_cancel_left] at hc hs9
    exact va_forget (fun q hq => hS.2.2 q hq) (W.widen hc hs9 (hEnd pc H ls hdg)))
  obtain ⟨n, hn9⟩ := sw_exC_iff.mp (show sw_exC (sw_Z (d + 1)) (b_L_law d) (b_L_law d 0, sw_en 9 [.ref b], [], P0) = some (.inl (some (.int 1)), P') from hrun)
  have h := (sw_soundL hg hn hk n (b_L_law d 0) 0 _ _ _ (hg 0) hn9).2 (Nat.le_refl _) (Nat.le_refl _) _ s.heap [] (sw_lv_en (as := [.ref b]) (n := 9) (by rw [sw_wd_r, sw_wd_0])) hP va_S.rf
  rw [Nat.sub_self, Nat.sub_self] at h
  rw [lg_entry_eq]
  exact h
