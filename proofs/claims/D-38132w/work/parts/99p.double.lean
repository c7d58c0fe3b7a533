/-! ===== the quotient of two ints as doubles is a number; the mean stall ===== -/
theorem sd_tails : FP.Core.b64.tails = 4503599627370496 := by decide
theorem sd_exps : FP.Core.b64.exps = 2048 := by decide
theorem sd_asm (s : Bool) {e t : Nat} (he : e < 2048) (ht : t < 4503599627370496) : FP.Core.assemble FP.Core.b64 s e t < 2 ^ 64 ∧ FP.Core.fieldE FP.Core.b64 (FP.Core.assemble FP.Core.b64 s e t) = e ∧ FP.Core.fieldT FP.Core.b64 (FP.Core.assemble FP.Core.b64 s e t) = t ∧ FP.Core.assemble FP.Core.b64 s e t % 2 ^ 63 = e * 4503599627370496 + t := by
  unfold FP.Core.fieldE FP.Core.fieldT FP.Core.assemble
  rw [sd_tails, sd_exps]
  have hs : s.toNat ≤ 1 := Bool.toNat_le s
  generalize s.toNat = k at hs
  omega
theorem sd_n64 (s : Bool) {e t : Nat} (he : e < 2048) (ht : t < 4503599627370496) (h : e ≤ 2046 ∨ t = 0) : vf_n64 (UInt64.ofNat (FP.Core.assemble FP.Core.b64 s e t)) := by
  obtain ⟨h1, -, -, h4⟩ := sd_asm s he ht
  unfold vf_n64
  rw [UInt64.le_iff_toNat_le, UInt64.toNat_and, UInt64.toNat_ofNat_of_lt' h1]
  have e1 : (0x7fffffffffffffff : UInt64).toNat = 2 ^ 63 - 1 := by decide
  have e2 : (0x7ff0000000000000 : UInt64).toNat = 9218868437227405312 := by decide
  rw [e1, e2, Nat.and_two_pow_sub_one_eq_mod, h4]
  omega
theorem sd_encode (s : Bool) {c : Nat} {q : Int} (hc : c < 9007199254740992) (hq : q ≤ 971) : ∃ e t, FP.Core.encode FP.Core.b64 (.fin s c q) = FP.Core.assemble FP.Core.b64 s e t ∧ e ≤ 2046 ∧ t < 4503599627370496 ∧ (0 < c → 0 < e ∨ 0 < t) := by
  have qm : FP.Core.b64.qmin = -1074 := by decide
  show ∃ e t, (if c < FP.Core.b64.tails then _ else _) = _ ∧ _
  rw [sd_tails]
  split
  · exact ⟨0, c, rfl, by omega, by omega, fun h => Or.inr h⟩
  · refine ⟨(q - FP.Core.b64.qmin).toNat + 1, c - 4503599627370496, ?_, ?_, by omega, fun _ => Or.inl (by omega)⟩
    · rfl
    · rw [qm]; omega
theorem sd_decode (s : Bool) {e t : Nat} (he : e ≤ 2046) (ht : t < 4503599627370496) : ∃ s' c q, FP.Core.decode FP.Core.b64 (UInt64.ofNat (FP.Core.assemble FP.Core.b64 s e t)).toNat = .fin s' c q ∧ (0 < e ∨ 0 < t → 0 < c) := by
  obtain ⟨h1, h2, h3, -⟩ := sd_asm s (e := e) (by omega) ht
  rw [UInt64.toNat_ofNat_of_lt' h1]
  unfold FP.Core.decode
  rw [h2, h3, sd_exps, if_neg (by omega)]
  by_cases c : e = 0
  · rw [if_pos c]
    exact ⟨_, _, _, rfl, fun h => by omega⟩
  · rw [if_neg c]
    refine ⟨_, _, _, rfl, fun _ => ?_⟩
    rw [sd_tails]; omega
theorem sd_bound (s : Bool) {c : Nat} {q : Int} (hc : c < 9007199254740992) : (∃ c' q', FP.Core.bound FP.Core.b64 s c q = .fin s c' q' ∧ c' = c ∧ q' ≤ 971) ∨ FP.Core.bound FP.Core.b64 s c q = .inf s := by
  unfold FP.Core.bound
  have qm : FP.Core.b64.qmax = 971 := by decide
  rw [qm]
  by_cases h : q ≤ 971
  · exact Or.inl ⟨c, q, if_pos h, rfl, h⟩
  · exact Or.inr (if_neg h)
theorem sd_settle (s : Bool) (c : Nat) (q : Int) : (∃ c' q', FP.Core.settle FP.Core.b64 s c q = .fin s c' q' ∧ c' < 9007199254740992 ∧ q' ≤ 971 ∧ (0 < c → 0 < c')) ∨ (FP.Core.settle FP.Core.b64 s c q = .inf s ∧ 970 < q) := by
  have p : 2 ^ FP.Core.b64.p = 9007199254740992 := by decide
  have qm : FP.Core.b64.qmax = 971 := by decide
  unfold FP.Core.settle FP.Core.bound
  rw [p, qm, sd_tails]
  by_cases h : c < 9007199254740992
  · rw [if_pos h]
    by_cases h2 : q ≤ 971
    · exact Or.inl ⟨c, q, if_pos h2, h, h2, fun g => g⟩
    · exact Or.inr ⟨if_neg h2, by omega⟩
  · rw [if_neg h]
    by_cases h2 : q + 1 ≤ 971
    · exact Or.inl ⟨4503599627370496, q + 1, if_pos h2, by omega, h2, fun _ => by omega⟩
    · exact Or.inr ⟨if_neg h2, by omega⟩
theorem sd_quantum {c : Nat} (hc : c ≤ 2 ^ 31) : FP.Core.quantum FP.Core.b64 c 1 0 ≤ 0 := by
  unfold FP.Core.quantum FP.Core.leading
  have q : FP.Core.b64.qmin ≤ 0 := by decide
  have p : (FP.Core.b64.p : Int) = 53 := by decide
  have hl : c.log2 ≤ 31 := by
    rcases Nat.lt_or_ge 31 c.log2 with g | g
    · have h0 : c ≠ 0 := fun e => by rw [e, Nat.log2_zero] at g; omega
      have := Nat.log2_self_le h0
      have h3 : 2 ^ 32 ≤ 2 ^ c.log2 := Nat.pow_le_pow_right (by decide) g
      omega
    · exact g
  have h1 : Nat.log2 1 = 0 := by decide
  rw [h1, p]
  refine Int.max_le.mpr ⟨q, ?_⟩
  dsimp only
  split <;> omega
theorem sd_nearest (a b : Nat) (hb : 0 < b) (h : b ≤ a) : 1 ≤ FP.Core.nearest a b := by
  have h1 : 1 ≤ a / b := (Nat.one_le_div_iff hb).mpr h
  unfold FP.Core.nearest
  split
  · exact h1
  · split <;> omega
/-- an int, as a double: a number, and not zero where the int isn't -/
theorem sd_i2d (a : Int32) : ∃ s c q, FP.Core.decode FP.Core.b64 (FP.i2d a).toNat = .fin s c q ∧ (a ≠ 0 → 0 < c) := by
  have hi : a.toInt.natAbs ≤ 2 ^ 31 := by
    have h1 := a.toInt_lt
    have h2 := a.le_toInt
    omega
  have h0 : a ≠ 0 → 0 < a.toInt.natAbs := fun h => Int.natAbs_pos.mpr (fun e => h (Int32.toInt_inj.mp e))
  show ∃ s c q, FP.Core.decode FP.Core.b64 (UInt64.ofNat (FP.Core.encode FP.Core.b64 (FP.Core.roundRatio FP.Core.b64 (decide (a.toInt < 0)) a.toInt.natAbs 1 0))).toNat = .fin s c q ∧ _
  generalize decide (a.toInt < 0) = s0
  generalize a.toInt.natAbs = n at hi h0
  have main : ∀ (s : Bool) (c : Nat) (q : Int), c < 9007199254740992 → q ≤ 971 → (a ≠ 0 → 0 < c) → ∃ s' c' q', FP.Core.decode FP.Core.b64 (UInt64.ofNat (FP.Core.encode FP.Core.b64 (.fin s c q))).toNat = .fin s' c' q' ∧ (a ≠ 0 → 0 < c') := by
    intro s c q hc hq h
    obtain ⟨e, t, e1, e2, e3, e4⟩ := sd_encode s hc hq
    obtain ⟨s', c', q', d1, d2⟩ := sd_decode s e2 e3
    rw [e1]
    exact ⟨s', c', q', d1, fun g => d2 (e4 (h g))⟩
  unfold FP.Core.roundRatio
  by_cases hn : n = 0
  · rw [if_pos hn]
    exact main _ _ _ (by decide) (by decide) (fun g => by have := h0 g; omega)
  · rw [if_neg hn]
    have hq := sd_quantum hi
    generalize FP.Core.quantum FP.Core.b64 n 1 0 = q at hq
    unfold FP.Core.roundAt
    have hnr : 1 ≤ FP.Core.nearest (FP.Core.unitsNum n 0 q) (FP.Core.unitsDen 1 0 q) := by
      unfold FP.Core.unitsNum FP.Core.unitsDen
      have e : (q - 0).toNat = 0 := by omega
      rw [e]
      have h5 : 1 ≤ n * 2 ^ (0 - q).toNat := Nat.mul_pos (by omega) (Nat.two_pow_pos _)
      exact sd_nearest _ _ (by decide) h5
    rcases sd_settle s0 (FP.Core.nearest (FP.Core.unitsNum n 0 q) (FP.Core.unitsDen 1 0 q)) q with ⟨c', q', g1, g2, g3, g4⟩ | ⟨-, g2⟩
    · rw [g1]
      exact main _ _ _ g2 g3 (fun _ => g4 hnr)
    · omega
theorem sd_div (a b : Int32) (hb : b ≠ 0) : vf_n64 (FP.ddiv (FP.i2d a) (FP.i2d b)) := by
  obtain ⟨s, c, q, e1, -⟩ := sd_i2d a
  obtain ⟨t, d, r, e2, h2⟩ := sd_i2d b
  have hd := h2 hb
  show vf_n64 (UInt64.ofNat (FP.Core.encode FP.Core.b64 (FP.Core.quotient FP.Core.b64 (FP.Core.decode FP.Core.b64 (FP.i2d a).toNat) (FP.Core.decode FP.Core.b64 (FP.i2d b).toNat))))
  rw [e1, e2]
  show vf_n64 (UInt64.ofNat (FP.Core.encode FP.Core.b64 (if d = 0 then _ else FP.Core.roundRatio FP.Core.b64 (s != t) c d (q - r))))
  rw [if_neg (by omega)]
  have fin : ∀ (s : Bool) (c : Nat) (q : Int), c < 9007199254740992 → q ≤ 971 → vf_n64 (UInt64.ofNat (FP.Core.encode FP.Core.b64 (.fin s c q))) := by
    intro s c q hc hq
    obtain ⟨e, t, e1, e2, e3, e4⟩ := sd_encode s hc hq
    rw [e1]
    exact sd_n64 s (by omega) e3 (Or.inl e2)
  unfold FP.Core.roundRatio
  by_cases hn : c = 0
  · rw [if_pos hn]
    exact fin _ _ _ (by decide) (by decide)
  · rw [if_neg hn]
    unfold FP.Core.roundAt
    rcases sd_settle (s != t) (FP.Core.nearest (FP.Core.unitsNum c (q - r) (FP.Core.quantum FP.Core.b64 c d (q - r))) (FP.Core.unitsDen d (q - r) (FP.Core.quantum FP.Core.b64 c d (q - r)))) (FP.Core.quantum FP.Core.b64 c d (q - r)) with ⟨c', q', g1, g2, g3, g4⟩ | ⟨g1, -⟩
    · rw [g1]
      exact fin _ _ _ g2 g3
    · rw [g1]
      exact sd_n64 (s != t) (e := 2047) (t := 0) (by decide) (by decide) (Or.inr rfl)
def sp_mean (b : sp_Bd) : UInt64 := if b.2.2.2.1.2.2.2.1 = 0 then 0 else FP.ddiv (FP.i2d b.2.2.2.1.2.2.2.2.2.1) (FP.i2d b.2.2.2.1.2.2.2.1)
section
variable {ev : Nat → Nat} {x bd mach l D d c s : Nat} {pa : sp_PA} {N : List (Nat × sp_Node)} {B : List sp_Blk} {T L : List Int32} {out : Int32} {m : sp_Mach} {b : sp_Bd} {F : List sl_A} {P : sw_P}
theorem jc_X1_meanStall (hD : 1 ≤ D) (h : sl_st ev c s P (sl_cs ev x bd mach l pa N B T out m L b ++ F)) : sw_Z D m_X1_meanStall [.ref x] P = some (.inl (some (.double (sp_mean b))), P) := by
  obtain ⟨d, hDe, hDn⟩ := sw_dep hD; subst hDe; replace hD := hDn; clear hDn
  obtain ⟨hx, hm, hp, ol, lv, cl, rn, ca, rq, ra, rb, rs, M, Rw, K, hF⟩ := sl_cs_rd h
  have q1 := hF.2.2.2.1
  have q2 := hF.2.2.2.2.2.1
  unfold sp_bdC at q1
  unfold sp_rnC at q2
  unfold sp_mean
  by_cases c1 : b.2.2.2.1.2.2.2.1 = 0
  · rw [if_pos c1]
    rw [M_X1_meanStall _ _ _ rfl]; simp only [at_X1_meanStall_0, at_X1_meanStall_1, at_X1_meanStall_2, ey_ld, sk_ld_s, ey_gf, sk_gf_s, sk_v_s, ex_iz, ex_push, ex_goto, ex_i2d, ex_rv, sw_gl_0, sw_gl_s, sw_fx_n, sw_fx_i, sw_fx_r, sw_fx_0, sw_fx_l, sw_fx_d, sw_sl1_0, sw_sl1_1, sw_sl1_s, sw_no_0, sw_no_s, sw_no_e, sw_mk_t, sw_mk_f, sw_mk_e, sw_en_0, sw_en_n, sw_en_i, sw_en_r, sw_en_z, sw_en_l, sw_en_d, sw_ok_0, sw_ok_1, sw_ok_2, sw_ok_3, sw_ok_4, sw_bo_s, sw_oi_s, sw_cl_s, sw_cl_x, sw_psh_s, sw_psh_n, sw_kd_s, sw_op_s, sw_oc_s, sw_oc_e, sw_oa_s, sw_el_n, sw_el_r, sl_kds_1, sl_kds_67, sw_fit_i, sw_fit_r, sw_fit_n, sw_fit_l, sw_fit_d, sw_fit_b, sw_fit_0, sw_fit_1, sw_rel_0, sw_rel_1, sw_rel_2, sw_rel_3, sw_rel_4, sw_rel_5, sw_hp_set, sw_nx_set, sw_sl_set, sw_ev_set, sw_hp_new, sw_nx_new, sw_sl_new, sw_ev_new, List.getElem?_cons_zero, List.getElem?_cons_succ, List.set_cons_zero, List.set_cons_succ, List.length_cons, List.length_nil, Nat.reduceAdd, Nat.reduceSub, Nat.reduceLT, Nat.reduceLeDiff, Nat.zero_lt_succ, Nat.zero_add, beq_self_eq_true, Bool.true_and, and_true, true_and, and_self, not_true_eq_false, not_false_eq_true, ↓reduceIte, Nat.reduceBEq, eq_self, sw_b_0, sw_b_1, decide_eq_false_iff_not, decide_eq_true_eq, sl_n10, sl_n01, Decidable.not_not, sl_ct, sl_cats_0, sl_cats_i, sl_cats_r, sl_cats_n, sl_cats_l, sl_ok_5, sl_ok9, decide_true, sp_machC, sp_nodeC, sp_opC, sl_z0, sl_z1, sl_z2, sl_z3, sl_z4, sl_z5, sl_z6, sl_z7, sl_c0, sl_c1, sl_c2, sl_c3, sl_c4, sl_c5, sl_c6, sl_c7, List.length_map, sp_lifeC, sp_inC, sp_rnC, hx, sp_xC, q1, q2, eq_true c1]
  · rw [if_neg c1]
    have e := fun {cf : sw_F} {B : sw_B} {r : List sw_I} {l : sw_L} {st : List Value} {P : sw_P} => ex_dd (cf := cf) (B := B) (r := r) (l := l) (st := st) (P := P) (FP.i2d b.2.2.2.1.2.2.2.2.2.1) (FP.i2d b.2.2.2.1.2.2.2.1) (sd_div _ _ c1)
    rw [M_X1_meanStall _ _ _ rfl]; simp only [at_X1_meanStall_0, at_X1_meanStall_1, at_X1_meanStall_2, ey_ld, sk_ld_s, ey_gf, sk_gf_s, sk_v_s, ex_iz, ex_push, ex_goto, ex_i2d, ex_rv, sw_gl_0, sw_gl_s, sw_fx_n, sw_fx_i, sw_fx_r, sw_fx_0, sw_fx_l, sw_fx_d, sw_sl1_0, sw_sl1_1, sw_sl1_s, sw_no_0, sw_no_s, sw_no_e, sw_mk_t, sw_mk_f, sw_mk_e, sw_en_0, sw_en_n, sw_en_i, sw_en_r, sw_en_z, sw_en_l, sw_en_d, sw_ok_0, sw_ok_1, sw_ok_2, sw_ok_3, sw_ok_4, sw_bo_s, sw_oi_s, sw_cl_s, sw_cl_x, sw_psh_s, sw_psh_n, sw_kd_s, sw_op_s, sw_oc_s, sw_oc_e, sw_oa_s, sw_el_n, sw_el_r, sl_kds_1, sl_kds_67, sw_fit_i, sw_fit_r, sw_fit_n, sw_fit_l, sw_fit_d, sw_fit_b, sw_fit_0, sw_fit_1, sw_rel_0, sw_rel_1, sw_rel_2, sw_rel_3, sw_rel_4, sw_rel_5, sw_hp_set, sw_nx_set, sw_sl_set, sw_ev_set, sw_hp_new, sw_nx_new, sw_sl_new, sw_ev_new, List.getElem?_cons_zero, List.getElem?_cons_succ, List.set_cons_zero, List.set_cons_succ, List.length_cons, List.length_nil, Nat.reduceAdd, Nat.reduceSub, Nat.reduceLT, Nat.reduceLeDiff, Nat.zero_lt_succ, Nat.zero_add, beq_self_eq_true, Bool.true_and, and_true, true_and, and_self, not_true_eq_false, not_false_eq_true, ↓reduceIte, Nat.reduceBEq, eq_self, sw_b_0, sw_b_1, decide_eq_false_iff_not, decide_eq_true_eq, sl_n10, sl_n01, Decidable.not_not, sl_ct, sl_cats_0, sl_cats_i, sl_cats_r, sl_cats_n, sl_cats_l, sl_ok_5, sl_ok9, decide_true, sp_machC, sp_nodeC, sp_opC, sl_z0, sl_z1, sl_z2, sl_z3, sl_z4, sl_z5, sl_z6, sl_z7, sl_c0, sl_c1, sl_c2, sl_c3, sl_c4, sl_c5, sl_c6, sl_c7, List.length_map, sp_lifeC, sp_inC, sp_rnC, hx, sp_xC, q1, q2, eq_false c1, e]
end
