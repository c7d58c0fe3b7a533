/-! ===== the start: all together ===== -/
theorem sw_En_congr {E d : String} {nm : List String} {F : List (String × String × String × List Int32)} {ad ad' : Nat → Nat} {A : Nat → Prop} {U : State} {H : Heap} (h : va_En E d nm F ad A U H) (e : ∀ i, i < nm.length → ad' i = ad i) : va_En E d nm F ad' A U H := by
  refine ⟨fun i hi => ?_, fun i j hi hj hij => h.2 i j hi hj (by rw [← e i hi, ← e j hj]; exact hij)⟩
  rw [e i hi]
  exact h.1 i hi
def sw_evf (kd : Nat → Nat) (tD tC b mi L : Nat) (ad : Nat → Nat) (xs : Nat → Int32) (n : Nat) : Nat := if n < 6 then kd n else if n = 10 then tD else if n = 11 then tC else if n = 12 then b else if n = 50 then mi else if n = 60 then L else if n < 2000 then ad (n - 1000) else (xs (n - 2000)).toUInt32.toNat
theorem sw_evf_k (kd : Nat → Nat) (tD tC b mi L : Nat) (ad : Nat → Nat) (xs : Nat → Int32) (i : Nat) (h : i < 6) : sw_evf kd tD tC b mi L ad xs i = kd i := if_pos h
set_option maxRecDepth 4000 in
theorem sw_evf_a (kd : Nat → Nat) (tD tC b mi L : Nat) (ad : Nat → Nat) (xs : Nat → Int32) (j : Nat) (h : j < 256) : sw_evf kd tD tC b mi L ad xs (1000 + j) = ad j := by
  unfold sw_evf
  rw [if_neg (by omega), if_neg (by omega), if_neg (by omega), if_neg (by omega), if_neg (by omega), if_neg (by omega), if_pos (by omega), Nat.add_sub_cancel_left]
set_option maxRecDepth 4000 in
theorem sw_evf_x (kd : Nat → Nat) (tD tC b mi L : Nat) (ad : Nat → Nat) (xs : Nat → Int32) (j : Nat) : Int32.ofNat (sw_evf kd tD tC b mi L ad xs (2000 + j)) = xs j := by
  unfold sw_evf
  rw [if_neg (by omega), if_neg (by omega), if_neg (by omega), if_neg (by omega), if_neg (by omega), if_neg (by omega), if_neg (by omega), Nat.add_sub_cancel_left]
  show (⟨UInt32.ofNat (xs j).toUInt32.toNat⟩ : Int32) = xs j
  rw [UInt32.ofNat_toNat]
set_option maxRecDepth 4000 in
theorem sw_stAll {l : Launch} {args : Array Value} {s : State} (hst : l.stackTraces = false) (hts : ∀ w ∈ lw_tbl, w.before args s = true) (hn : ∀ w ∈ sw_nw1, w.before args s = true) {b L : Nat} {xs : Nat → Int32} (hX : va_X b L xs s s.heap) (hbl : b < s.heap.size) :
    ∃ D : sw_D, D.2.2.2 12 = b ∧ D.2.2.2 60 = L ∧ (∀ j, Int32.ofNat (D.2.2.2 (2000 + j)) = xs j) ∧ sw_ST l D (fun q => s.heap.size ≤ q) s s.heap ∧ sw_Scr D (fun q => s.heap.size ≤ q) s := by
  have hA : ∀ a : Nat, a < s.heap.size → ¬ (fun q => s.heap.size ≤ q) a := fun a h => Nat.not_le.mpr h
  obtain ⟨D0, hK⟩ := sw_kn hts
  obtain ⟨kd, hE⟩ := sw_kinds hts hn hA
  obtain ⟨tD, d1, d2, d3⟩ := sw_dflt hts hn hA
  obtain ⟨tC, ad, c1, c2, c3, c4⟩ := sw_cach hts hn hA
  obtain ⟨⟨mi, m1⟩, m2, m3, m4⟩ := sw_stN hts hn hA
  obtain ⟨w1, w2, w3⟩ := sw_nww hts
  refine ⟨(D0.1, D0.2.1, D0.2.2, sw_evf kd tD tC b mi L ad xs), rfl, rfl, fun j => sw_evf_x .., ⟨hK _, sw_En_congr hE (fun i hi => sw_evf_k _ _ _ _ _ _ _ _ i hi), ⟨fun k hk => ?_, fun k hk => ?_⟩, d1, d2, d3, c2, ?_, c4, m1, m2, w1, w2, w3, sw_fw hts, m3, m4, ?_, vx_Zqof (hts _ (by decide +kernel)) (hts _ (by decide +kernel)) (hn _ (by decide +kernel)) hA, vx_Zqof (hts _ (by decide +kernel)) (hts _ (by decide +kernel)) (hn _ (by decide +kernel)) hA, hst⟩, ?_, hbl, hA _ hbl⟩
  · show va_O _ (sw_evf kd tD tC b mi L ad xs (1000 + k)) _ _ _
    rw [sw_evf_a _ _ _ _ _ _ _ _ _ hk]
    exact c1.1 k hk
  · show va_OF _ _ _ _ (sw_evf kd tD tC b mi L ad xs (1000 + k)) _ _ _
    rw [sw_evf_a _ _ _ _ _ _ _ _ _ hk]
    exact c1.2 k hk
  · obtain ⟨cell, h1, h2, h3, h4, h5, h6, h7⟩ := c3
    refine ⟨cell, h1, h2, h3, h4, h5, fun j hj => ?_, h7⟩
    show cell.slots[j]? = some (.ref (sw_evf kd tD tC b mi L ad xs (1000 + j)))
    rw [sw_evf_a _ _ _ _ _ _ _ _ _ hj]
    exact h6 j hj
  · exact hts (Cond.arrayOver (.array .boolean)) (by decide +kernel)
  · obtain ⟨scr, h1, h2, h3, h4, h5⟩ := hX
    refine ⟨scr, h1, h2, h3, h4, fun j hj => ?_⟩
    show scr.slots[j]? = some (.int (Int32.ofNat (sw_evf kd tD tC b mi L ad xs (2000 + j))))
    rw [sw_evf_x]
    exact h5 j hj
