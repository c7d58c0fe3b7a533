/-! ===== the component's state; a build, as one thing ===== -/
abbrev sp_Q : Type := List sp_Node × List (List sp_Stm) × List Int32 × Int32 × sp_Mach × List Int32
abbrev sp_Bd : Type := List sp_Op × List sp_Life × List sp_In × sp_Rn × Nat × List Int32
def sl_bld (ev : Nat → Nat) (bd mach : Nat) (pa : sp_PA) (b : sp_Bd) : sl_A :=
  sl_ex fun ol : Nat => sl_ex fun lv : Nat => sl_ex fun cl : Nat => sl_ex fun rn : Nat => sl_ex fun ca : Nat => sl_ex fun rq : Nat => sl_ex fun ra : Nat => sl_ex fun rb : Nat => sl_ex fun rs : Nat => sl_ex fun M : List (Nat × sp_Op) => sl_ex fun Rw : sp_LR => sl_ex fun K : List (Nat × sp_In) =>
    sl_all (sl_lp (M.map (·.2) = b.1 ∧ Rw.map (·.2) = b.2.1 ∧ K.map (·.2) = b.2.2.1) :: (sl_rnA ev rn mach ra rb rs b.2.2.2.1 cl K ol M ++ [sl_pt bd (sp_bdC ol lv cl rn ca (nI b.2.2.2.2.1)), sl_pt lv (sp_lvC ol pa.1 mach rq), sl_ls ev rq (Rw.map fun x => .ref x.1), sl_all (Rw.map (sl_lifeA (M.map (·.1)))), sl_pt ca (64, b.2.2.2.2.2.map .int)]))
/-- what a reader knows of a build -/
def sp_bdF (ev : Nat → Nat) (H : sl_H) (bd mach : Nat) (pa : sp_PA) (m : sp_Mach) (L T : List Int32) (out : Int32) (b : sp_Bd) (ol lv cl rn ca rq ra rb rs : Nat) (M : List (Nat × sp_Op)) (Rw : sp_LR) (K : List (Nat × sp_In)) : Prop :=
  M.map (·.2) = b.1 ∧ Rw.map (·.2) = b.2.1 ∧ K.map (·.2) = b.2.2.1 ∧ H bd = some (sp_bdC ol lv cl rn ca (nI b.2.2.2.2.1)) ∧ sp_lvF ev H lv ol pa.1 mach rq pa.2.1 pa.2.2.1 pa.2.2.2 M Rw m L T out ∧ H rn = some (sp_rnC mach ra rb rs b.2.2.2.1) ∧ H ra = some (64, b.2.2.2.1.1.map .int) ∧ H rs = some (64, b.2.2.2.1.2.2.1.map .int) ∧ sl_rd H (sl_ls ev cl (K.map fun x => .ref x.1)) ∧ sl_rd H (sl_all (K.map sl_inA)) ∧ H ca = some (64, b.2.2.2.2.2.map .int)
theorem sp_bd_rd {ev : Nat → Nat} {H : sl_H} {bd mach : Nat} {pa : sp_PA} {N : List (Nat × sp_Node)} {B : List sp_Blk} {T L : List Int32} {out : Int32} {m : sp_Mach} {b : sp_Bd} (hm : sp_mach H mach m L) (hp : sl_rds H (sl_prog ev pa N B T out)) (h : sl_rd H (sl_bld ev bd mach pa b)) :
    ∃ ol lv cl rn ca rq ra rb rs M Rw K, sp_bdF ev H bd mach pa m L T out b ol lv cl rn ca rq ra rb rs M Rw K := by
  simp only [sl_bld, sl_rd_ex] at h
  obtain ⟨ol, lv, cl, rn, ca, rq, ra, rb, rs, M, Rw, K, h⟩ := h
  have h' := sl_rd_all h
  obtain ⟨e1, e2, e3⟩ := sl_rd_lp.mp (sl_rds_at h' 0 rfl)
  exact ⟨ol, lv, cl, rn, ca, rq, ra, rb, rs, M, Rw, K, e1, e2, e3, sl_rd_pt.mp (sl_rds_at h' 9 rfl), ⟨sl_rd_pt.mp (sl_rds_at h' 10 rfl), sl_rds_at h' 7 rfl, sl_rds_at h' 8 rfl, sl_rds_at h' 11 rfl, sl_rds_at h' 12 rfl, hm, sl_rd_pt.mp (sl_rds_at hp 0 rfl), sl_rd_pt.mp (sl_rds_at hp 5 rfl)⟩, sl_rd_pt.mp (sl_rds_at h' 1 rfl), sl_rd_pt.mp (sl_rds_at h' 2 rfl), sl_rd_pt.mp (sl_rds_at h' 4 rfl), sl_rds_at h' 5 rfl, sl_rds_at h' 6 rfl, sl_rd_pt.mp (sl_rds_at h' 13 rfl)⟩
def sp_lvp (os : List sp_Op) (Rs : List sp_Life) (T : List Int32) : Prop := ∀ (M : List (Nat × sp_Op)) (Rw : sp_LR), M.map (·.2) = os → Rw.map (·.2) = Rs → sp_lvok M Rw T ∧ sp_vok M Rw
/-- the variables that are asked for have places -/
def sp_aok (out : Int32) (b : sp_Bd) : Prop := ∀ v, v < 8 → sp_has out (nI v) = true → (∃ k, sp_plc b.2.1 (nI v) b.2.1.length = some k) ∧ ((sp_lifeV b.2.1 (nI v)).2.2.2.2.2.2.2.2.1 = true → sp_lt b.2.2.2.1.2.2.1.length (sp_lifeV b.2.1 (nI v)).2.2.2.2.2.2.2.2.2.1) ∧ (sp_rem b.1 (sp_lifeV b.2.1 (nI v)) = false → (sp_lifeV b.2.1 (nI v)).2.2.2.2.2.2.2.2.1 = false → sp_lt 11 (sp_lifeV b.2.1 (nI v)).2.2.2.2.2.2.2.1)
def sp_bok (T : List Int32) (out : Int32) (b : sp_Bd) : Prop := sp_lvp b.1 b.2.1 T ∧ sp_g8 b.2.1 ∧ b.2.2.1.length < 1000 ∧ sp_rok b.2.2.2.1.2.2.1.length b.2.2.2.1 ∧ b.2.2.2.1.2.2.1.length < 1000 ∧ sp_aok out b ∧ b.2.2.2.2.1 < 190
/-- b is the build of a state -/
def sp_fit (q : sp_Q) (t : Int32) (b : sp_Bd) : Prop := ∃ (A : List sp_Op) (x y : List Nat × List Int32) (Ks : List sp_In) (ns : Nat),
  sp_good q.1 q.2.2.2.2.1 q.2.2.2.2.2 (sp_costs q.1 q.2.2.2.2.1 q.2.2.2.2.2 q.1.length) ∧ sp_okB q.1.length q.2.1 ∧ (sp_chosen q.1 q.2.2.2.2.1 q.2.2.2.2.2 (sp_costs q.1 q.2.2.2.2.1 q.2.2.2.2.2 q.1.length) q.2.1).1.length < 900 ∧ (∀ o ∈ (sp_chosen q.1 q.2.2.2.2.1 q.2.2.2.2.2 (sp_costs q.1 q.2.2.2.2.1 q.2.2.2.2.2 q.1.length) q.2.1).1, o.2.2.1.length < 100) ∧
  A = sp_allOps q.1 q.2.2.2.2.1 q.2.2.2.2.2 (sp_costs q.1 q.2.2.2.2.1 q.2.2.2.2.2 q.1.length) q.2.1 q.2.2.2.1 ∧ A.length < 130 ∧ (∀ o ∈ A, o.2.2.1.length < 100) ∧
  x = sp_pre (sp_nd2 A) (sp_os q.2.2.2.2.2 A) A.length 0 ([], sp_wsk (sp_nd2 A) A.length A.length) ∧ sp_lps (sp_nd2 A) (sp_os q.2.2.2.2.2 A) (A.length + 1) 4 x = some y ∧ y.1.Perm (List.range A.length) ∧ b.1 = sp_plan q.2.2.2.2.2 A t y.1 ∧
  (sp_chosen q.1 q.2.2.2.2.1 q.2.2.2.2.2 (sp_costs q.1 q.2.2.2.2.1 q.2.2.2.2.2 q.1.length) q.2.1).2 = nI b.2.2.2.2.1 ∧ b.2.2.2.2.1 < 190 ∧ q.2.2.1.length = 4 ∧ (∀ k, k < 4 → ∃ n, n < 100000 ∧ q.2.2.1.getD k 0 = nI n) ∧ (∀ o ∈ b.1, o.2.2.1.length < 100 ∧ (o.2.2.2.2.1 = -1 ∨ ∃ k, k < 4 ∧ o.2.2.2.2.1 = nI k)) ∧ (5 ≤ q.2.2.2.2.1.1.toNatClampNeg ∧ q.2.2.2.2.1.1.toNatClampNeg ≤ 11 ∧ q.2.2.2.2.1.1 = nI q.2.2.2.2.1.1.toNatClampNeg) ∧ sp_wok q.2.2.2.2.1 b.1 b.2.2.2.2.1 ∧
  b.2.1 = sp_lives q.2.2.2.2.1 b.1 q.2.2.1 q.2.2.2.1 b.2.2.2.2.1 ∧ Ks = sp_code q.2.2.2.2.1 b.1 b.2.1 b.1.length ∧ sp_slots b.2.1 b.2.1.length = nI ns ∧ ns < 1000 ∧ sp_cok b.1.length ns Ks ∧ Ks.length < 1000 ∧
  b.2.2.2.1 = (sp_runT q.2.2.2.2.1 q.2.2.2.2.2 b.1 q.2.2.1 (sp_run q.2.2.2.2.1 q.2.2.2.2.2 b.1 (-1) (sp_rn0 ns, Ks) Ks.length) 4).1 ∧ b.2.2.1 = (sp_runT q.2.2.2.2.1 q.2.2.2.2.2 b.1 q.2.2.1 (sp_run q.2.2.2.2.1 q.2.2.2.2.2 b.1 (-1) (sp_rn0 ns, Ks) Ks.length) 4).2 ∧ b.2.2.2.2.2 = sp_costs q.1 q.2.2.2.2.1 q.2.2.2.2.2 q.1.length ∧ sp_bok q.2.2.1 q.2.2.2.1 b ∧ b.2.2.1.length = Ks.length ∧ b.2.2.2.1.2.2.1.length = ns ∧ b.1.length = A.length
def sp_kA (b : sp_Bd) : Nat := 16 + (4 * b.1.length + 3 * sl_GA b.1.length) + (b.2.2.2.2.1 + sl_GA b.2.1.length) + (b.2.2.1.length + sl_GA b.2.2.1.length)
def sp_kS (n : Nat) (b : sp_Bd) : Nat := 64 + n + (14 * b.1.length + 3 * sl_GS b.1.length) + sl_tri b.1.length + (11 * b.2.2.2.2.1 + sl_GS b.2.1.length) + (7 * b.2.2.1.length + sl_GS b.2.2.1.length) + b.2.2.2.1.2.2.1.length
theorem sl_st.takeL {ev : Nat → Nat} {c s : Nat} {P : sw_P} {As : List sl_A} : ∀ {Bs : List sl_A}, sl_st ev c s P (As ++ Bs) → sl_st ev c s P As := by
  intro Bs
  induction Bs with
  | nil => intro h; rw [List.append_nil] at h; exact h
  | cons X Bs ih => intro h; exact ih (h.perm List.perm_middle).drop
section
variable {ev : Nat → Nat} {bd mach l D c s : Nat} {pa : sp_PA} {N : List (Nat × sp_Node)} {B : List sp_Blk} {T L : List Int32} {out t : Int32} {m : sp_Mach} {b : sp_Bd} {F : List sl_A} {P : sw_P}
theorem jc_bd (hD : 263 ≤ D) (ht : t = 0 ∨ t = 1) (hf : sp_fit (N.map (·.2), B.map (fun y => y.2.map (·.2)), T, out, m, L) t b) (h : sl_st ev c s P (sl_pt bd (3, [.null, .null, .null, .null, .null, .int 0]) :: sl_pt mach (sp_machC m l) :: sl_pt l (64, L.map .int) :: (sl_prog ev pa N B T out ++ F))) :
    ∃ P', sw_Z D m_X4_init [.ref bd, .ref pa.1, .ref mach, .int t] P = some (.inl none, P') ∧ sl_st ev (c + sp_kA b) (s + sp_kS N.length b) P' (sl_bld ev bd mach pa b :: sl_pt mach (sp_machC m l) :: sl_pt l (64, L.map .int) :: (sl_prog ev pa N B T out ++ F)) := by
  obtain ⟨A, x, y, Ks, ns, f1, f2, f3, f4, f5, f6, f7, f8, f9, f10, f11, f12, f13, f14, f15, f16, f17, f18, f19, f20, f21, f22, f23, f24, f25, f26, f27, f28, f29, f30, f31⟩ := hf
  simp only [List.length_map] at f1 f2 f3 f4 f5 f12 f27
  obtain ⟨P', o2, lv, cl, rn, ca, rq, ra, rb, rs, M, Rw, G1, G, r1, e1, e2, hs, hca⟩ := jc_X4_init hD f1 f2 f3 f4 f5 f6 f7 ht f8 f9 f10 f11 f12 f13 f14 f15 f16 f17 f18 f19 f20 f28.1 f21 f22 f23 f24 h
  obtain ⟨K, e3, hs⟩ := hs
  rw [← f25] at hs
  rw [← f26] at e3
  refine ⟨P', r1, ?_⟩
  obtain ⟨s1, s2, hG⟩ := List.append_of_mem hca
  rw [hG, ← f27] at hs
  have p1 : ((s1 ++ sl_pt ca (64, b.2.2.2.2.2.map .int) :: s2) ++ (F ++ G)).Perm (sl_pt ca (64, b.2.2.2.2.2.map .int) :: (F ++ ((s1 ++ s2) ++ G))) :=
    (List.perm_middle.append_right _).trans (List.Perm.cons _ (List.perm_append_comm_assoc _ _ _))
  have hs1 : sl_st ev _ _ P' ((sl_rnA ev rn mach ra rb rs b.2.2.2.1 cl K o2 M ++ (sl_pt bd (sp_bdC o2 lv cl rn ca (nI b.2.2.2.2.1)) :: sl_pt lv (sp_lvC o2 pa.1 mach rq) :: sl_ls ev rq (Rw.map fun x => .ref x.1) :: sl_all (Rw.map (sl_lifeA (M.map (·.1)))) :: sl_pt mach (sp_machC m l) :: sl_pt l (64, L.map .int) :: sl_prog ev pa N B T out)) ++ ((s1 ++ sl_pt ca (64, b.2.2.2.2.2.map .int) :: s2) ++ (F ++ G))) := hs.pp 20 [0, 1, 2, 3, 4, 5, 6, 7, 10, 17, 18, 19, 8, 9, 11, 12, 13, 14, 15, 16]
  have hs2 := hs1.perm (List.Perm.append_left _ p1)
  have hs3 : sl_st ev _ _ P' ((sl_rnA ev rn mach ra rb rs b.2.2.2.1 cl K o2 M ++ [sl_pt bd (sp_bdC o2 lv cl rn ca (nI b.2.2.2.2.1)), sl_pt lv (sp_lvC o2 pa.1 mach rq), sl_ls ev rq (Rw.map fun x => .ref x.1), sl_all (Rw.map (sl_lifeA (M.map (·.1)))), sl_pt ca (64, b.2.2.2.2.2.map .int)]) ++ (sl_pt mach (sp_machC m l) :: sl_pt l (64, L.map .int) :: (sl_prog ev pa N B T out ++ (F ++ ((s1 ++ s2) ++ G))))) := hs2.pp 21 [0, 1, 2, 3, 4, 5, 6, 7, 8, 9, 10, 11, 20, 12, 13, 14, 15, 16, 17, 18, 19]
  have hs35 : sl_st ev _ _ P' ((sl_lp (M.map (·.2) = b.1 ∧ Rw.map (·.2) = b.2.1 ∧ K.map (·.2) = b.2.2.1) :: (sl_rnA ev rn mach ra rb rs b.2.2.2.1 cl K o2 M ++ [sl_pt bd (sp_bdC o2 lv cl rn ca (nI b.2.2.2.2.1)), sl_pt lv (sp_lvC o2 pa.1 mach rq), sl_ls ev rq (Rw.map fun x => .ref x.1), sl_all (Rw.map (sl_lifeA (M.map (·.1)))), sl_pt ca (64, b.2.2.2.2.2.map .int)])) ++ (sl_pt mach (sp_machC m l) :: sl_pt l (64, L.map .int) :: (sl_prog ev pa N B T out ++ (F ++ ((s1 ++ s2) ++ G))))) := sl_st.lps.mpr ⟨⟨e1, e2, e3⟩, hs3⟩
  have hs4 := sl_st.flat.mpr hs35
  have hs5 : sl_st ev _ _ P' (sl_bld ev bd mach pa b :: (sl_pt mach (sp_machC m l) :: sl_pt l (64, L.map .int) :: (sl_prog ev pa N B T out ++ (F ++ ((s1 ++ s2) ++ G))))) := sl_st.ofex o2 (sl_st.ofex lv (sl_st.ofex cl (sl_st.ofex rn (sl_st.ofex ca (sl_st.ofex rq (sl_st.ofex ra (sl_st.ofex rb (sl_st.ofex rs (sl_st.ofex M (sl_st.ofex Rw (sl_st.ofex K hs4)))))))))))
  have hs6 : sl_st ev _ _ P' ((sl_bld ev bd mach pa b :: (sl_pt mach (sp_machC m l) :: sl_pt l (64, L.map .int) :: (sl_prog ev pa N B T out ++ F))) ++ ((s1 ++ s2) ++ G)) := hs5
  refine hs6.takeL.wk ?_ ?_
  · show c + 16 + _ + _ + _ ≤ c + (16 + _ + _ + _)
    rw [f29, f31]; omega
  · show s + 64 + _ + _ + _ + _ + _ + _ ≤ s + (64 + _ + _ + _ + _ + _ + _)
    rw [f29, f30, f31]; omega
end
