/-! ===== the instructions' equations again, with what follows kept shut until its value is known ===== -/
section SKI
variable {cf : sw_F} {B : sw_B} {r : List sw_I} {l : sw_L} {st : List Value} {P : sw_P}
noncomputable def sk_ld (cf : sw_F) (B : sw_B) (r : List sw_I) (l : sw_L) (st : List Value) (P : sw_P) (t : Nat) : Value → Option sw_R := fun v => if sw_fit t v = true then sw_ex cf B r l (v :: st) P else none
theorem sk_ld_s (t : Nat) (v : Value) : sk_ld cf B r l st P t v = if sw_fit t v = true then sw_ex cf B r l (v :: st) P else none := rfl
theorem ey_ld (t k : Nat) : sw_ex cf B (sw_ld t k :: r) l st P = sw_bo (sw_gl l k) (sk_ld cf B r l st P t) := ex_ld t k
noncomputable def sk_inc (cf : sw_F) (B : sw_B) (r : List sw_I) (l : sw_L) (st : List Value) (P : sw_P) (k : Nat) (c : Int32) : Int32 → Option sw_R := fun x => sw_ex cf B r (sw_sl1 l k (.int (x + c))) st P
theorem sk_inc_s (k : Nat) (c : Int32) (x : Int32) : sk_inc cf B r l st P k c x = sw_ex cf B r (sw_sl1 l k (.int (x + c))) st P := rfl
theorem ey_inc (k : Nat) (c : Int32) : sw_ex cf B (sw_inc k c :: r) l st P = sw_oi (sw_gl l k) (sk_inc cf B r l st P k c) := ex_inc k c
noncomputable def sk_v (cf : sw_F) (B : sw_B) (r : List sw_I) (l : sw_L) (st : List Value) (P : sw_P)  : Value → Option sw_R := fun v => sw_ex cf B r l (v :: st) P
theorem sk_v_s  (v : Value) : sk_v cf B r l st P  v = sw_ex cf B r l (v :: st) P := rfl
noncomputable def sk_gf (cf : sw_F) (B : sw_B) (r : List sw_I) (l : sw_L) (st : List Value) (P : sw_P) (k : Nat) : List Value → Option sw_R := fun vs => sw_bo vs[k]? (sk_v cf B r l st P)
theorem sk_gf_s (k : Nat) (vs : List Value) : sk_gf cf B r l st P k vs = sw_bo vs[k]? (sk_v cf B r l st P) := rfl
theorem ey_gf (c k a : Nat) : sw_ex cf B (sw_gf c k :: r) l (.ref a :: st) P = sw_op (sw_hp P a) c (sk_gf cf B r l st P k) := ex_gf c k a
noncomputable def sk_pf (cf : sw_F) (B : sw_B) (r : List sw_I) (l : sw_L) (st : List Value) (P : sw_P) (c k t a : Nat) (v : Value) : List Value → Option sw_R := fun vs => if sw_fit t v = true ∧ k < vs.length then sw_ex cf B r l st (sw_set P a (c, vs.set k v)) else none
theorem sk_pf_s (c k t a : Nat) (v : Value) (vs : List Value) : sk_pf cf B r l st P c k t a v vs = if sw_fit t v = true ∧ k < vs.length then sw_ex cf B r l st (sw_set P a (c, vs.set k v)) else none := rfl
theorem ey_pf (c k t a : Nat) (v : Value) : sw_ex cf B (sw_pf c k t :: r) l (v :: .ref a :: st) P = sw_op (sw_hp P a) c (sk_pf cf B r l st P c k t a v) := ex_pf c k t a v
noncomputable def sk_al (cf : sw_F) (B : sw_B) (r : List sw_I) (l : sw_L) (st : List Value) (P : sw_P)  : List Value → Option sw_R := fun vs => sw_ex cf B r l (.int (Int32.ofNat vs.length) :: st) P
theorem sk_al_s  (vs : List Value) : sk_al cf B r l st P  vs = sw_ex cf B r l (.int (Int32.ofNat vs.length) :: st) P := rfl
theorem ey_al (a : Nat) : sw_ex cf B (sw_al :: r) l (.ref a :: st) P = sw_oa (sw_hp P a) (sk_al cf B r l st P) := ex_al a
noncomputable def sk_ald (cf : sw_F) (B : sw_B) (r : List sw_I) (l : sw_L) (st : List Value) (P : sw_P) (i : Int32) : List Value → Option sw_R := fun vs => if i < 0 then none else sw_bo vs[i.toNatClampNeg]? (sk_v cf B r l st P)
theorem sk_ald_s (i : Int32) (vs : List Value) : sk_ald cf B r l st P i vs = if i < 0 then none else sw_bo vs[i.toNatClampNeg]? (sk_v cf B r l st P) := rfl
theorem ey_ald (t a : Nat) (i : Int32) : sw_ex cf B (sw_ald t :: r) l (.int i :: .ref a :: st) P = sw_op (sw_hp P a) t (sk_ald cf B r l st P i) := ex_ald t a i
noncomputable def sk_ast (cf : sw_F) (B : sw_B) (r : List sw_I) (l : sw_L) (st : List Value) (P : sw_P) (t a : Nat) (i : Int32) (v : Value) : List Value → Option sw_R := fun vs => if ¬ i < 0 ∧ i.toNatClampNeg < vs.length ∧ sw_fit (sw_vt t) v = true then sw_ex cf B r l st (sw_set P a (t, vs.set i.toNatClampNeg v)) else none
theorem sk_ast_s (t a : Nat) (i : Int32) (v : Value) (vs : List Value) : sk_ast cf B r l st P t a i v vs = if ¬ i < 0 ∧ i.toNatClampNeg < vs.length ∧ sw_fit (sw_vt t) v = true then sw_ex cf B r l st (sw_set P a (t, vs.set i.toNatClampNeg v)) else none := rfl
theorem ey_ast (t a : Nat) (i : Int32) (v : Value) : sw_ex cf B (sw_ast t :: r) l (v :: .int i :: .ref a :: st) P = sw_op (sw_hp P a) t (sk_ast cf B r l st P t a i v) := ex_ast t a i v
noncomputable def sk_asr (cf : sw_F) (B : sw_B) (r : List sw_I) (l : sw_L) (st : List Value) (P : sw_P) (t a : Nat) (cs : List Nat) (i : Int32) (v : Value) : List Value → Option sw_R := fun vs => if ¬ i < 0 ∧ i.toNatClampNeg < vs.length ∧ sw_el P cs v = true then sw_ex cf B r l st (sw_set P a (t, vs.set i.toNatClampNeg v)) else none
theorem sk_asr_s (t a : Nat) (cs : List Nat) (i : Int32) (v : Value) (vs : List Value) : sk_asr cf B r l st P t a cs i v vs = if ¬ i < 0 ∧ i.toNatClampNeg < vs.length ∧ sw_el P cs v = true then sw_ex cf B r l st (sw_set P a (t, vs.set i.toNatClampNeg v)) else none := rfl
theorem ey_asr (t a : Nat) (cs : List Nat) (i : Int32) (v : Value) : sw_ex cf B (sw_asr t cs :: r) l (v :: .int i :: .ref a :: st) P = sw_op (sw_hp P a) t (sk_asr cf B r l st P t a cs i v) := ex_asr t a cs i v
noncomputable def sk_cp2 (cf : sw_F) (B : sw_B) (r : List sw_I) (l : sw_L) (st : List Value) (P : sw_P) (t d : Nat) (n sp dp : Int32) (vs : List Value) : List Value → Option sw_R := fun ws => if 0 ≤ n ∧ 0 ≤ sp ∧ 0 ≤ dp ∧ sp.toNatClampNeg + n.toNatClampNeg ≤ vs.length ∧ dp.toNatClampNeg + n.toNatClampNeg ≤ ws.length ∧ sw_ok st = true ∧ ((vs.drop sp.toNatClampNeg).take n.toNatClampNeg).all (sw_ce P t) = true then sw_ex cf B r l st (sw_set P d (t, sw_cpy vs ws sp.toNatClampNeg dp.toNatClampNeg n.toNatClampNeg)) else none
theorem sk_cp2_s (t d : Nat) (n sp dp : Int32) (vs : List Value) (ws : List Value) : sk_cp2 cf B r l st P t d n sp dp vs ws = if 0 ≤ n ∧ 0 ≤ sp ∧ 0 ≤ dp ∧ sp.toNatClampNeg + n.toNatClampNeg ≤ vs.length ∧ dp.toNatClampNeg + n.toNatClampNeg ≤ ws.length ∧ sw_ok st = true ∧ ((vs.drop sp.toNatClampNeg).take n.toNatClampNeg).all (sw_ce P t) = true then sw_ex cf B r l st (sw_set P d (t, sw_cpy vs ws sp.toNatClampNeg dp.toNatClampNeg n.toNatClampNeg)) else none := rfl
noncomputable def sk_cp1 (cf : sw_F) (B : sw_B) (r : List sw_I) (l : sw_L) (st : List Value) (P : sw_P) (t d : Nat) (n sp dp : Int32) : List Value → Option sw_R := fun vs => sw_op (sw_hp P d) t (sk_cp2 cf B r l st P t d n sp dp vs)
theorem sk_cp1_s (t d : Nat) (n sp dp : Int32) (vs : List Value) : sk_cp1 cf B r l st P t d n sp dp vs = sw_op (sw_hp P d) t (sk_cp2 cf B r l st P t d n sp dp vs) := rfl
theorem ey_cp (t a d : Nat) (n sp dp : Int32) : sw_ex cf B (sw_cp t :: r) l (.int n :: .int dp :: .ref d :: .int sp :: .ref a :: st) P = sw_oc (sw_hp P a) t (sk_cp1 cf B r l st P t d n sp dp) := ex_cp t a d n sp dp
noncomputable def sk_c (cf : sw_F) (B : sw_B) (r : List sw_I) (l : sw_L) (st : List Value) : Option Value → sw_P → Option sw_R := fun v P' => sw_ex cf B r l (sw_psh v st) P'
theorem sk_c_s (v : Option Value) (P' : sw_P) : sk_c cf B r l st v P' = sw_ex cf B r l (sw_psh v st) P' := rfl
theorem ey_cs0 (y : Nat)  : sw_ex cf B (sw_cs y 0 :: r) l (st) P = if sw_ok st = true then sw_cl (cf y [] P) (sk_c cf B r l st) else none := ex_cs0 y 
theorem ey_cs1 (y : Nat) (v1 : Value) : sw_ex cf B (sw_cs y 1 :: r) l (v1 :: st) P = if sw_ok st = true then sw_cl (cf y [v1] P) (sk_c cf B r l st) else none := ex_cs1 y v1
theorem ey_cs2 (y : Nat) (v1 : Value) (v2 : Value) : sw_ex cf B (sw_cs y 2 :: r) l (v2 :: v1 :: st) P = if sw_ok st = true then sw_cl (cf y [v1, v2] P) (sk_c cf B r l st) else none := ex_cs2 y v1 v2
theorem ey_cs3 (y : Nat) (v1 : Value) (v2 : Value) (v3 : Value) : sw_ex cf B (sw_cs y 3 :: r) l (v3 :: v2 :: v1 :: st) P = if sw_ok st = true then sw_cl (cf y [v1, v2, v3] P) (sk_c cf B r l st) else none := ex_cs3 y v1 v2 v3
theorem ey_cs4 (y : Nat) (v1 : Value) (v2 : Value) (v3 : Value) (v4 : Value) : sw_ex cf B (sw_cs y 4 :: r) l (v4 :: v3 :: v2 :: v1 :: st) P = if sw_ok st = true then sw_cl (cf y [v1, v2, v3, v4] P) (sk_c cf B r l st) else none := ex_cs4 y v1 v2 v3 v4
theorem ey_cs5 (y : Nat) (v1 : Value) (v2 : Value) (v3 : Value) (v4 : Value) (v5 : Value) : sw_ex cf B (sw_cs y 5 :: r) l (v5 :: v4 :: v3 :: v2 :: v1 :: st) P = if sw_ok st = true then sw_cl (cf y [v1, v2, v3, v4, v5] P) (sk_c cf B r l st) else none := ex_cs5 y v1 v2 v3 v4 v5
theorem ey_cs6 (y : Nat) (v1 : Value) (v2 : Value) (v3 : Value) (v4 : Value) (v5 : Value) (v6 : Value) : sw_ex cf B (sw_cs y 6 :: r) l (v6 :: v5 :: v4 :: v3 :: v2 :: v1 :: st) P = if sw_ok st = true then sw_cl (cf y [v1, v2, v3, v4, v5, v6] P) (sk_c cf B r l st) else none := ex_cs6 y v1 v2 v3 v4 v5 v6
theorem ey_cs7 (y : Nat) (v1 : Value) (v2 : Value) (v3 : Value) (v4 : Value) (v5 : Value) (v6 : Value) (v7 : Value) : sw_ex cf B (sw_cs y 7 :: r) l (v7 :: v6 :: v5 :: v4 :: v3 :: v2 :: v1 :: st) P = if sw_ok st = true then sw_cl (cf y [v1, v2, v3, v4, v5, v6, v7] P) (sk_c cf B r l st) else none := ex_cs7 y v1 v2 v3 v4 v5 v6 v7
theorem ey_ci0 (y a : Nat)  : sw_ex cf B (sw_ci y 0 :: r) l (.ref a :: st) P = if sw_ok st = true then sw_cl (cf y [.ref a] P) (sk_c cf B r l st) else none := ex_ci0 y a 
theorem ey_cv0 (c y a : Nat)  : sw_ex cf B (sw_cv c y 0 :: r) l (.ref a :: st) P = if sw_ok st = true ∧ sw_kd (sw_hp P a) c = true then sw_cl (cf y [.ref a] P) (sk_c cf B r l st) else none := ex_cv0 c y a 
theorem ey_ci1 (y a : Nat) (v1 : Value) : sw_ex cf B (sw_ci y 1 :: r) l (v1 :: .ref a :: st) P = if sw_ok st = true then sw_cl (cf y [.ref a, v1] P) (sk_c cf B r l st) else none := ex_ci1 y a v1
theorem ey_cv1 (c y a : Nat) (v1 : Value) : sw_ex cf B (sw_cv c y 1 :: r) l (v1 :: .ref a :: st) P = if sw_ok st = true ∧ sw_kd (sw_hp P a) c = true then sw_cl (cf y [.ref a, v1] P) (sk_c cf B r l st) else none := ex_cv1 c y a v1
theorem ey_ci2 (y a : Nat) (v1 : Value) (v2 : Value) : sw_ex cf B (sw_ci y 2 :: r) l (v2 :: v1 :: .ref a :: st) P = if sw_ok st = true then sw_cl (cf y [.ref a, v1, v2] P) (sk_c cf B r l st) else none := ex_ci2 y a v1 v2
theorem ey_cv2 (c y a : Nat) (v1 : Value) (v2 : Value) : sw_ex cf B (sw_cv c y 2 :: r) l (v2 :: v1 :: .ref a :: st) P = if sw_ok st = true ∧ sw_kd (sw_hp P a) c = true then sw_cl (cf y [.ref a, v1, v2] P) (sk_c cf B r l st) else none := ex_cv2 c y a v1 v2
theorem ey_ci3 (y a : Nat) (v1 : Value) (v2 : Value) (v3 : Value) : sw_ex cf B (sw_ci y 3 :: r) l (v3 :: v2 :: v1 :: .ref a :: st) P = if sw_ok st = true then sw_cl (cf y [.ref a, v1, v2, v3] P) (sk_c cf B r l st) else none := ex_ci3 y a v1 v2 v3
theorem ey_cv3 (c y a : Nat) (v1 : Value) (v2 : Value) (v3 : Value) : sw_ex cf B (sw_cv c y 3 :: r) l (v3 :: v2 :: v1 :: .ref a :: st) P = if sw_ok st = true ∧ sw_kd (sw_hp P a) c = true then sw_cl (cf y [.ref a, v1, v2, v3] P) (sk_c cf B r l st) else none := ex_cv3 c y a v1 v2 v3
theorem ey_ci4 (y a : Nat) (v1 : Value) (v2 : Value) (v3 : Value) (v4 : Value) : sw_ex cf B (sw_ci y 4 :: r) l (v4 :: v3 :: v2 :: v1 :: .ref a :: st) P = if sw_ok st = true then sw_cl (cf y [.ref a, v1, v2, v3, v4] P) (sk_c cf B r l st) else none := ex_ci4 y a v1 v2 v3 v4
theorem ey_cv4 (c y a : Nat) (v1 : Value) (v2 : Value) (v3 : Value) (v4 : Value) : sw_ex cf B (sw_cv c y 4 :: r) l (v4 :: v3 :: v2 :: v1 :: .ref a :: st) P = if sw_ok st = true ∧ sw_kd (sw_hp P a) c = true then sw_cl (cf y [.ref a, v1, v2, v3, v4] P) (sk_c cf B r l st) else none := ex_cv4 c y a v1 v2 v3 v4
theorem ey_ci5 (y a : Nat) (v1 : Value) (v2 : Value) (v3 : Value) (v4 : Value) (v5 : Value) : sw_ex cf B (sw_ci y 5 :: r) l (v5 :: v4 :: v3 :: v2 :: v1 :: .ref a :: st) P = if sw_ok st = true then sw_cl (cf y [.ref a, v1, v2, v3, v4, v5] P) (sk_c cf B r l st) else none := ex_ci5 y a v1 v2 v3 v4 v5
theorem ey_cv5 (c y a : Nat) (v1 : Value) (v2 : Value) (v3 : Value) (v4 : Value) (v5 : Value) : sw_ex cf B (sw_cv c y 5 :: r) l (v5 :: v4 :: v3 :: v2 :: v1 :: .ref a :: st) P = if sw_ok st = true ∧ sw_kd (sw_hp P a) c = true then sw_cl (cf y [.ref a, v1, v2, v3, v4, v5] P) (sk_c cf B r l st) else none := ex_cv5 c y a v1 v2 v3 v4 v5
theorem ey_ci6 (y a : Nat) (v1 : Value) (v2 : Value) (v3 : Value) (v4 : Value) (v5 : Value) (v6 : Value) : sw_ex cf B (sw_ci y 6 :: r) l (v6 :: v5 :: v4 :: v3 :: v2 :: v1 :: .ref a :: st) P = if sw_ok st = true then sw_cl (cf y [.ref a, v1, v2, v3, v4, v5, v6] P) (sk_c cf B r l st) else none := ex_ci6 y a v1 v2 v3 v4 v5 v6
theorem ey_cv6 (c y a : Nat) (v1 : Value) (v2 : Value) (v3 : Value) (v4 : Value) (v5 : Value) (v6 : Value) : sw_ex cf B (sw_cv c y 6 :: r) l (v6 :: v5 :: v4 :: v3 :: v2 :: v1 :: .ref a :: st) P = if sw_ok st = true ∧ sw_kd (sw_hp P a) c = true then sw_cl (cf y [.ref a, v1, v2, v3, v4, v5, v6] P) (sk_c cf B r l st) else none := ex_cv6 c y a v1 v2 v3 v4 v5 v6
theorem ey_cv9 (c y a : Nat) (v : Value) : sw_ex cf B (sw_cv9 c y :: r) l (v :: .ref a :: st) P = if sw_ok9 st = true ∧ sw_kd (sw_hp P a) c = true then sw_cl (cf y [.ref a, v] P) (sk_c cf B r l st) else none := ex_cv9 c y a v
end SKI
/-! many words -/
def sl_cats (st : List Value) : Nat := (st.map Value.category).sum
theorem sl_cats_0 : sl_cats [] = 0 := rfl
theorem sl_cats_i (x : Int32) (st : List Value) : sl_cats (.int x :: st) = 1 + sl_cats st := rfl
theorem sl_cats_r (x : Nat) (st : List Value) : sl_cats (.ref x :: st) = 1 + sl_cats st := rfl
theorem sl_cats_n (st : List Value) : sl_cats (.null :: st) = 1 + sl_cats st := rfl
theorem sl_cats_l (x : Int64) (st : List Value) : sl_cats (.long x :: st) = 2 + sl_cats st := rfl
theorem sl_ok_5 (a b c d e : Value) (st : List Value) : sw_ok (a :: b :: c :: d :: e :: st) = decide (sl_cats (a :: b :: c :: d :: e :: st) ≤ 8) := rfl
theorem sl_ok9 (st : List Value) : sw_ok9 st = decide (sl_cats st ≤ 9) := rfl
