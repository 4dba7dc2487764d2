section
/-! ===== MutantLab: the methods as the law calls them ===== -/
theorem ml_lt1 {x : Int32} (h : ¬ x = 0) (h0 : ¬ x < 0) : ¬ x < 1 := by
  obtain ⟨j, hj, rfl⟩ := nI_of h0
  have hj0 : j ≠ 0 := fun e => h (by rw [e]; exact nI_0)
  exact nI_nlt (a := j) (b := 1) (by omega) hj
theorem ml_n7 {x : Int32} (h : ¬ 7 < x) : x ≤ 7 := by
  rw [Int32.lt_iff_toInt_lt] at h
  rw [Int32.le_iff_toInt_le]
  omega
theorem ml_g7 {x : Int32} (h : 7 < x) : ¬ x ≤ 7 := by
  rw [Int32.lt_iff_toInt_lt] at h
  rw [Int32.le_iff_toInt_le]
  omega
section
variable {sz ts mu rd mp mo mn : Int32} {a1 a2 a3 a4 a5 a6 a7 a8 a9 a10 a11 a12 a13 a14 a15 a16 a17 a18 a19 a20 : Nat → Int32}
/-- prepare with no test -/
theorem ml_prep0 {post : St2 → Prop} (H : ∀ r, post (sz, 0, mu, r, mp, mo, mn, a1, a2, a3, a4, a5, a6, a7, a8, a9, a10, a11, a12, a13, a14, a15, a16, a17, a18, a19, a20)) : wpX_prepare post (sz, 0, mu, rd, mp, mo, mn, a1, a2, a3, a4, a5, a6, a7, a8, a9, a10, a11, a12, a13, a14, a15, a16, a17, a18, a19, a20) := by
  unfold wpX_prepare
  exact br_c (fun _ => ⟨0 + 1, br_t (by decide) (H 1)⟩) (fun _ => H rd)
/-- emit into an empty program -/
theorem ml_emit {post : Int32 → St2 → Prop} {o c : Int32} (h0 : ¬ o < 0) (h7 : o ≤ 7) (H : ∀ b1 b2 b3, post 0 (1, ts, mu, 0, mp, mo, mn, b1, b2, b3, a4, a5, a6, a7, a8, a9, a10, a11, a12, a13, a14, a15, a16, a17, a18, a19, a20)) : wpX_emit post (0, ts, mu, rd, mp, mo, mn, a1, a2, a3, a4, a5, a6, a7, a8, a9, a10, a11, a12, a13, a14, a15, a16, a17, a18, a19, a20) o 0 c := by
  unfold wpX_emit
  exact br_f h0 (br_t h7 (br_t (by decide) ⟨pk_in 0 12 (by omega), nm_e ⟨pk_in 0 12 (by omega), nm_e ⟨pk_in 0 12 (by omega), nm_e (nm_r (show (0 : Int32) + 1 = 1 from rfl) (H _ _ _))⟩⟩⟩))
theorem ml_emitL {post : Int32 → St2 → Prop} {o r c : Int32} (h0 : o < 0) (H : post (-1) (sz, ts, mu, rd, mp, mo, mn, a1, a2, a3, a4, a5, a6, a7, a8, a9, a10, a11, a12, a13, a14, a15, a16, a17, a18, a19, a20)) : wpX_emit post (sz, ts, mu, rd, mp, mo, mn, a1, a2, a3, a4, a5, a6, a7, a8, a9, a10, a11, a12, a13, a14, a15, a16, a17, a18, a19, a20) o r c := by
  unfold wpX_emit
  exact br_t h0 H
theorem ml_emitG {post : Int32 → St2 → Prop} {o r c : Int32} (h0 : ¬ o < 0) (h7 : ¬ o ≤ 7) (H : post (-1) (sz, ts, mu, rd, mp, mo, mn, a1, a2, a3, a4, a5, a6, a7, a8, a9, a10, a11, a12, a13, a14, a15, a16, a17, a18, a19, a20)) : wpX_emit post (sz, ts, mu, rd, mp, mo, mn, a1, a2, a3, a4, a5, a6, a7, a8, a9, a10, a11, a12, a13, a14, a15, a16, a17, a18, a19, a20) o r c := by
  unfold wpX_emit
  exact br_f h0 (br_f h7 H)
/-- mutateOp: no such place -/
theorem ml_mutP {post : Int32 → St2 → Prop} {p o : Int32} (h : p < 0 ∨ ¬ p < sz) (H : post (-3) (sz, ts, mu, rd, mp, mo, mn, a1, a2, a3, a4, a5, a6, a7, a8, a9, a10, a11, a12, a13, a14, a15, a16, a17, a18, a19, a20)) : wpX_mutateOp post (sz, ts, mu, rd, mp, mo, mn, a1, a2, a3, a4, a5, a6, a7, a8, a9, a10, a11, a12, a13, a14, a15, a16, a17, a18, a19, a20) p o := by
  unfold wpX_mutateOp
  exact br_c (fun _ => H) (fun g => br_f (h.resolve_left g) H)
/-- mutateOp: the place 0 of a program of one instruction -/
theorem ml_mutL {post : Int32 → St2 → Prop} {o : Int32} (h0 : o < 0) (H : post (-1) (1, ts, mu, rd, mp, mo, mn, a1, a2, a3, a4, a5, a6, a7, a8, a9, a10, a11, a12, a13, a14, a15, a16, a17, a18, a19, a20)) : wpX_mutateOp post (1, ts, mu, rd, mp, mo, mn, a1, a2, a3, a4, a5, a6, a7, a8, a9, a10, a11, a12, a13, a14, a15, a16, a17, a18, a19, a20) 0 o := by
  unfold wpX_mutateOp
  exact br_f (by decide) (br_t (by decide) (br_t h0 H))
theorem ml_mutG {post : Int32 → St2 → Prop} {o : Int32} (h0 : ¬ o < 0) (h7 : ¬ o ≤ 7) (H : post (-1) (1, ts, mu, rd, mp, mo, mn, a1, a2, a3, a4, a5, a6, a7, a8, a9, a10, a11, a12, a13, a14, a15, a16, a17, a18, a19, a20)) : wpX_mutateOp post (1, ts, mu, rd, mp, mo, mn, a1, a2, a3, a4, a5, a6, a7, a8, a9, a10, a11, a12, a13, a14, a15, a16, a17, a18, a19, a20) 0 o := by
  unfold wpX_mutateOp
  exact br_f (by decide) (br_t (by decide) (br_f h0 (br_f h7 H)))
theorem ml_add {post : Int32 → St2 → Prop} {p k o : Int32} (H : ∀ b8 b9 b10, post 0 (sz, ts, 1, 0, mp, mo, mn, a1, a2, a3, a4, a5, a6, a7, b8, b9, b10, a11, a12, a13, a14, a15, a16, a17, a18, a19, a20)) : wpX_addMutant post (sz, ts, 0, rd, mp, mo, mn, a1, a2, a3, a4, a5, a6, a7, a8, a9, a10, a11, a12, a13, a14, a15, a16, a17, a18, a19, a20) p k o := by
  unfold wpX_addMutant
  exact br_t (by decide) ⟨pk_in 0 24 (by omega), nm_e ⟨pk_in 0 24 (by omega), nm_e ⟨pk_in 0 24 (by omega), nm_e (nm_r (show (0 : Int32) + 1 = 1 from rfl) (H _ _ _))⟩⟩⟩
theorem ml_mut {post : Int32 → St2 → Prop} {o : Int32} (h0 : ¬ o < 0) (h7 : o ≤ 7) (H : ∀ b8 b9 b10, post 0 (1, ts, 1, 0, mp, mo, mn, a1, a2, a3, a4, a5, a6, a7, b8, b9, b10, a11, a12, a13, a14, a15, a16, a17, a18, a19, a20)) : wpX_mutateOp post (1, ts, 0, rd, mp, mo, mn, a1, a2, a3, a4, a5, a6, a7, a8, a9, a10, a11, a12, a13, a14, a15, a16, a17, a18, a19, a20) 0 o := by
  unfold wpX_mutateOp
  exact br_f (by decide) (br_t (by decide) (br_f h0 (br_t h7 (ml_add H))))
/-- killers(0): no mutant -/
theorem ml_kill0 {post : Int32 → St2 → Prop} (H : post (-4) (sz, ts, 0, rd, mp, mo, mn, a1, a2, a3, a4, a5, a6, a7, a8, a9, a10, a11, a12, a13, a14, a15, a16, a17, a18, a19, a20)) : wpX_killers post (sz, ts, 0, rd, mp, mo, mn, a1, a2, a3, a4, a5, a6, a7, a8, a9, a10, a11, a12, a13, a14, a15, a16, a17, a18, a19, a20) 0 := by
  unfold wpX_killers
  exact br_f (by decide) (br_f (by decide) (br_f (by decide) H))
/-- the gathering of kills with one mutant and no test -/
theorem ml_gk6 {post : St2 → Prop} (H : ∀ b, post (sz, 0, 1, rd, mp, mo, mn, a1, a2, a3, a4, a5, a6, a7, a8, a9, a10, a11, a12, a13, a14, a15, a16, a17, b, a19, a20)) : ∃ n, wX_gatherKills_6 post sz 0 1 rd mp mo mn n 0 a1 a2 a3 a4 a5 a6 a7 a8 a9 a10 a11 a12 a13 a14 a15 a16 a17 a18 a19 a20 :=
  pk_loop (fun n i s => wX_gatherKills_6 post sz 0 1 rd mp mo mn n (nI i) a1 a2 a3 a4 a5 a6 a7 a8 a9 a10 a11 a12 a13 a14 a15 a16 a17 s a19 a20) (fun _ _ => True) 6 0 a18 (by omega) trivial
    (fun n s _ => pk_le 6 6 (fun _ => H s) (fun z => absurd z (by omega)))
    (fun n i s hi _ hw => pk_le 6 i (fun z => absurd z (by omega)) (fun _ => ⟨pk_in i 6 hi, nm_e ⟨0 + 1, br_f (by decide) (br_t (nI_pos' (by omega)) (nm_r (nI_1 i) (hw _ trivial)))⟩⟩))
theorem ml_gath {post : St2 → Prop} (H : ∀ r b, post (sz, 0, 1, r, mp, mo, mn, a1, a2, a3, a4, a5, a6, a7, a8, a9, a10, a11, a12, a13, a14, a15, a16, a17, b, a19, a20)) : wpX_gatherKills post (sz, 0, 1, rd, mp, mo, mn, a1, a2, a3, a4, a5, a6, a7, a8, a9, a10, a11, a12, a13, a14, a15, a16, a17, a18, a19, a20) := by
  unfold wpX_gatherKills
  exact ml_prep0 (fun r => ml_gk6 (H r))
theorem ml_kill1 {post : Int32 → St2 → Prop} (H : ∀ r b, post 0 (sz, 0, 1, r, mp, mo, mn, a1, a2, a3, a4, a5, a6, a7, a8, a9, a10, a11, a12, a13, a14, a15, a16, a17, b, a19, a20)) : wpX_killers post (sz, 0, 1, rd, mp, mo, mn, a1, a2, a3, a4, a5, a6, a7, a8, a9, a10, a11, a12, a13, a14, a15, a16, a17, a18, a19, a20) 0 := by
  unfold wpX_killers
  exact br_f (by decide) (br_t (by decide) (br_t rfl (ml_gath (fun r b => ⟨0 + 1, br_t (by decide) (H r b)⟩))))
/-- same(): with no test every mutant is like the program -/
theorem ml_same0 {post : Int32 → St2 → Prop} (H : ∀ r, post 0 (sz, 0, 0, r, mp, mo, mn, a1, a2, a3, a4, a5, a6, a7, a8, a9, a10, a11, a12, a13, a14, a15, a16, a17, a18, a19, a20)) : wpX_same post (sz, 0, 0, rd, mp, mo, mn, a1, a2, a3, a4, a5, a6, a7, a8, a9, a10, a11, a12, a13, a14, a15, a16, a17, a18, a19, a20) := by
  unfold wpX_same
  exact ml_prep0 (fun r => ⟨0 + 1, br_t (by decide) (H r)⟩)
theorem ml_same1 {post : Int32 → St2 → Prop} (H : ∀ r, post 1 (sz, 0, 1, r, mp, mo, mn, a1, a2, a3, a4, a5, a6, a7, a8, a9, a10, a11, a12, a13, a14, a15, a16, a17, a18, a19, a20)) : wpX_same post (sz, 0, 1, rd, mp, mo, mn, a1, a2, a3, a4, a5, a6, a7, a8, a9, a10, a11, a12, a13, a14, a15, a16, a17, a18, a19, a20) := by
  unfold wpX_same
  exact ml_prep0 (fun r => ⟨0 + 1 + 1, br_f (by decide) ⟨0 + 1, br_t (by decide) (br_f (by decide) (nm_r (show (0 : Int32) + 1 = 1 from rfl) (nm_r (show (0 : Int32) + 1 = 1 from rfl) (br_t (by decide) (H r)))))⟩⟩)
/-- length(x, x) with no test -/
theorem ml_len0 {post : Int32 → St2 → Prop} {x : Int32} (H : post (-4) (sz, ts, 0, rd, mp, mo, mn, a1, a2, a3, a4, a5, a6, a7, a8, a9, a10, a11, a12, a13, a14, a15, a16, a17, a18, a19, a20)) : wpX_length post (sz, ts, 0, rd, mp, mo, mn, a1, a2, a3, a4, a5, a6, a7, a8, a9, a10, a11, a12, a13, a14, a15, a16, a17, a18, a19, a20) x x := by
  unfold wpX_length
  exact br_c (fun _ => br_f (by decide) H) (fun h => br_f h (br_f (by decide) H))
theorem ml_lenZ {post : Int32 → St2 → Prop} (H : post (-5) (sz, 0, 1, rd, mp, mo, mn, a1, a2, a3, a4, a5, a6, a7, a8, a9, a10, a11, a12, a13, a14, a15, a16, a17, a18, a19, a20)) : wpX_length post (sz, 0, 1, rd, mp, mo, mn, a1, a2, a3, a4, a5, a6, a7, a8, a9, a10, a11, a12, a13, a14, a15, a16, a17, a18, a19, a20) 0 0 := by
  unfold wpX_length
  exact br_f (by decide) (br_t (by decide) (br_t rfl (br_f (by decide) (br_f (by decide) H))))
theorem ml_lenN {post : Int32 → St2 → Prop} {x : Int32} (hx : ¬ x = 0) (H : post (-4) (sz, ts, 1, rd, mp, mo, mn, a1, a2, a3, a4, a5, a6, a7, a8, a9, a10, a11, a12, a13, a14, a15, a16, a17, a18, a19, a20)) : wpX_length post (sz, ts, 1, rd, mp, mo, mn, a1, a2, a3, a4, a5, a6, a7, a8, a9, a10, a11, a12, a13, a14, a15, a16, a17, a18, a19, a20) x x := by
  unfold wpX_length
  exact br_c (fun _ => br_f (by decide) H) (fun h => br_f (ml_lt1 hx h) (br_f (by decide) H))
/-- the first test -/
theorem ml_test {post : Int32 → St2 → Prop} {x y e : Int32} (H : post 0 (sz, 1, mu, 0, mp, mo, mn, a1, a2, a3, upd a4 0 x, upd a5 0 y, upd a6 0 1, upd a7 0 e, a8, a9, a10, a11, a12, a13, a14, a15, a16, a17, a18, a19, a20)) : wpX_test post (sz, 0, mu, rd, mp, mo, mn, a1, a2, a3, a4, a5, a6, a7, a8, a9, a10, a11, a12, a13, a14, a15, a16, a17, a18, a19, a20) x y e := by
  unfold wpX_test wpX_addTest
  exact br_t (by decide) ⟨pk_in 0 6 (by omega), nm_e ⟨pk_in 0 6 (by omega), nm_e ⟨pk_in 0 6 (by omega), nm_r (show upd a6 (0 : Int32).toNatClampNeg (vp_nar .boolean 1) = upd a6 0 1 from rfl) ⟨pk_in 0 6 (by omega), nm_e (nm_r (show (0 : Int32) + 1 = 1 from rfl) H)⟩⟩⟩⟩
/-- passes(1), output(1, 0) with one test -/
theorem ml_pass1 {post : Int32 → St2 → Prop} (H : post 0 (sz, 1, mu, rd, mp, mo, mn, a1, a2, a3, a4, a5, a6, a7, a8, a9, a10, a11, a12, a13, a14, a15, a16, a17, a18, a19, a20)) : wpX_passes post (sz, 1, mu, rd, mp, mo, mn, a1, a2, a3, a4, a5, a6, a7, a8, a9, a10, a11, a12, a13, a14, a15, a16, a17, a18, a19, a20) 1 := by
  unfold wpX_passes
  exact br_f (by decide) (br_f (by decide) H)
theorem ml_out {post : Int32 → St2 → Prop} {t : Int32} (hm : mu = 0 ∨ mu = 1) (H : post 0 (sz, ts, mu, rd, mp, mo, mn, a1, a2, a3, a4, a5, a6, a7, a8, a9, a10, a11, a12, a13, a14, a15, a16, a17, a18, a19, a20)) : wpX_output post (sz, ts, mu, rd, mp, mo, mn, a1, a2, a3, a4, a5, a6, a7, a8, a9, a10, a11, a12, a13, a14, a15, a16, a17, a18, a19, a20) 1 t := by
  have h : ¬ (1 : Int32) < mu := by
    rcases hm with e | e
    · rw [e]; decide
    · rw [e]; decide
  unfold wpX_output
  exact br_f (by decide) (br_f h (br_f (by decide) H))
/-- a run of the empty program, no mutant -/
theorem ml_run {post : St2 → Prop} (H : ∀ b13 b17, post (0, ts, 0, rd, mp, mo, mn, a1, a2, a3, a4, a5, a6, a7, a8, a9, a10, upd a11 0 1, upd a12 0 (a4 0), b13, a14, a15, a16, b17, a18, a19, a20)) : wpX_runTest post (0, ts, 0, rd, mp, mo, mn, a1, a2, a3, a4, a5, a6, a7, a8, a9, a10, a11, a12, a13, a14, a15, a16, a17, a18, a19, a20) 0 := by
  unfold wpX_runTest
  refine ⟨pk_in 0 6 (by omega), nm_e ⟨pk_in 0 6 (by omega), nm_e (nm_e (nm_e ⟨0 + 1, br_f (by decide) (br_f (by decide) (br_t (by decide) ?_))⟩))⟩⟩
  unfold wX_runTest_111 wX_runTest_128 wX_runTest_133 wX_runTest_158
  refine br_f (by decide) (br_f (by decide) ⟨pk_in 0 6 (by omega), nm_r (show upd a11 (0 : Int32).toNatClampNeg (vp_nar .boolean 1) = upd a11 0 1 from rfl) ⟨pk_in 0 6 (by omega), br_f (show ¬ (1 : Int32) = 0 by decide) ⟨pk_in 0 6 (by omega), nm_r (show _ = upd a12 0 (a4 0) from rfl) ⟨pk_in 0 6 (by omega), nm_e ⟨0 + 1, br_t (by decide) (H _ _)⟩⟩⟩⟩⟩)
theorem ml_prep1 {post : St2 → Prop} (H : ∀ b13 b17, post (0, 1, 0, 1, mp, mo, mn, a1, a2, a3, a4, a5, a6, a7, a8, a9, a10, upd a11 0 1, upd a12 0 (a4 0), b13, a14, a15, a16, b17, a18, a19, a20)) : wpX_prepare post (0, 1, 0, 0, mp, mo, mn, a1, a2, a3, a4, a5, a6, a7, a8, a9, a10, a11, a12, a13, a14, a15, a16, a17, a18, a19, a20) := by
  unfold wpX_prepare
  exact br_t rfl ⟨0 + 1 + 1, br_f (by decide) (ml_run (fun b13 b17 => nm_r (show (0 : Int32) + 1 = 1 from rfl) (br_t (by decide) (H b13 b17))))⟩
theorem ml_pass0 {post : Int32 → St2 → Prop} (h6 : a6 0 = 1) (h7 : a4 0 = a7 0) (H : ∀ b13 b17, post 1 (0, 1, 0, 1, mp, mo, mn, a1, a2, a3, a4, a5, a6, a7, a8, a9, a10, upd a11 0 1, upd a12 0 (a4 0), b13, a14, a15, a16, b17, a18, a19, a20)) : wpX_passes post (0, 1, 0, 0, mp, mo, mn, a1, a2, a3, a4, a5, a6, a7, a8, a9, a10, a11, a12, a13, a14, a15, a16, a17, a18, a19, a20) 0 := by
  unfold wpX_passes
  exact br_f (by decide) (br_t (by decide) (ml_prep1 (fun b13 b17 => ⟨pk_in 0 6 (by omega), pk_in 0 6 (by omega), br_t (show (1 : Int32) = a6 0 from h6.symm) ⟨pk_in 0 6 (by omega), br_f (show ¬ (1 : Int32) = 0 by decide) ⟨pk_in 0 6 (by omega), pk_in 0 6 (by omega), br_t (show a4 0 = a7 0 from h7) (H b13 b17)⟩⟩⟩)))
end
end
section
/-! ===== MutantLabLaw: the law, from its end ===== -/
section
variable {post : Int32 → St0 → Prop} {mc ms kc ks : Nat} {x0 x1 x2 x3 x4 x6 z0 z1 : Int32} {sz ts mu rd mp mo mn : Int32} {a1 a2 a3 a4 a5 a6 a7 a8 a9 a10 a11 a12 a13 a14 a15 a16 a17 a18 a19 a20 : Nat → Int32}
/-- the last checks: 'ok' false only with an empty program and no mutant -/
theorem ml_190 (hp : post 1 ()) (hz : z1 = z0) (hm : mu = 0 ∨ mu = 1) (h6 : x6 = 0 → sz = 0 ∧ mu = 0) : wL_lawOf_190 post mc ms x1 x4 x6 z0 z1 kc ks sz 0 mu rd mp mo mn a1 a2 a3 a4 a5 a6 a7 a8 a9 a10 a11 a12 a13 a14 a15 a16 a17 a18 a19 a20 := by
  unfold wL_lawOf_190
  refine br_t hz (ml_test (br_t rfl (ml_pass1 (br_t rfl (ml_out hm (br_t rfl (br_c (fun e => ?_) (fun _ => hp))))))))
  obtain ⟨e1, e2⟩ := h6 e
  subst e1 e2
  exact ml_pass0 rfl rfl (fun _ _ => br_f (by decide) hp)
theorem ml_188 (hp : post 1 ()) (hz : z0 = -4) (hm : mu = 0 ∨ mu = 1) (h6 : x6 = 0 → sz = 0 ∧ mu = 0) : wL_lawOf_188 post mc ms x1 x4 x6 z0 kc ks sz 0 mu rd mp mo mn a1 a2 a3 a4 a5 a6 a7 a8 a9 a10 a11 a12 a13 a14 a15 a16 a17 a18 a19 a20 := by
  unfold wL_lawOf_188
  exact ml_190 hp hz hm h6
/-- no mutant -/
theorem ml_159n (hp : post 1 ()) (h6 : x6 = 0 → sz = 0) : wL_lawOf_159 post mc ms x1 x4 x6 0 0 0 kc ks sz 0 0 rd mp mo mn a1 a2 a3 a4 a5 a6 a7 a8 a9 a10 a11 a12 a13 a14 a15 a16 a17 a18 a19 a20 := by
  unfold wL_lawOf_159
  exact br_t rfl (ml_len0 (br_t rfl (ml_188 hp rfl (Or.inl rfl) (fun e => ⟨h6 e, rfl⟩))))
theorem ml_141n (hp : post 1 ()) (h6 : x6 = 0 → sz = 0) : wL_lawOf_141 post mc ms x1 x4 x6 0 (-4) (-4) kc ks sz 0 0 rd mp mo mn a1 a2 a3 a4 a5 a6 a7 a8 a9 a10 a11 a12 a13 a14 a15 a16 a17 a18 a19 a20 := by
  unfold wL_lawOf_141
  exact br_t rfl (ml_same0 (fun _ => br_t rfl (ml_159n hp h6)))
theorem ml_122n (hp : post 1 ()) (h6 : x6 = 0 → sz = 0) : wL_lawOf_122 post mc ms x1 x4 x6 0 kc ks sz 0 0 rd mp mo mn a1 a2 a3 a4 a5 a6 a7 a8 a9 a10 a11 a12 a13 a14 a15 a16 a17 a18 a19 a20 := by
  unfold wL_lawOf_122
  exact ml_kill0 (br_t rfl (ml_141n hp h6))
theorem ml_121 (hp : post 1 ()) (h6 : x6 = 0 → sz = 0) : wL_lawOf_121 post mc ms x1 x4 x6 kc ks sz 0 0 rd mp mo mn a1 a2 a3 a4 a5 a6 a7 a8 a9 a10 a11 a12 a13 a14 a15 a16 a17 a18 a19 a20 := by
  unfold wL_lawOf_121
  exact ml_122n hp h6
/-- one mutant: then 'ok' is true -/
theorem ml_159o (hp : post 1 ()) (h6 : ¬ x6 = 0) : wL_lawOf_159 post mc ms x1 x4 x6 1 1 1 kc ks sz 0 1 rd mp mo mn a1 a2 a3 a4 a5 a6 a7 a8 a9 a10 a11 a12 a13 a14 a15 a16 a17 a18 a19 a20 := by
  unfold wL_lawOf_159
  refine br_t rfl ?_
  by_cases h : x4 = 0
  · subst h
    exact ml_lenZ (br_f (by decide) (br_t rfl (ml_190 hp rfl (Or.inr rfl) (fun e => absurd e h6))))
  · exact ml_lenN h (br_f (by decide) (br_f h (ml_188 hp rfl (Or.inr rfl) (fun e => absurd e h6))))
theorem ml_141o (hp : post 1 ()) (h6 : ¬ x6 = 0) : wL_lawOf_141 post mc ms x1 x4 x6 1 0 0 kc ks sz 0 1 rd mp mo mn a1 a2 a3 a4 a5 a6 a7 a8 a9 a10 a11 a12 a13 a14 a15 a16 a17 a18 a19 a20 := by
  unfold wL_lawOf_141
  exact br_t rfl (ml_same1 (fun _ => br_f (by decide) (ml_159o hp h6)))
theorem ml_122o (hp : post 1 ()) (h6 : ¬ x6 = 0) : wL_lawOf_122 post mc ms x1 x4 x6 1 kc ks sz 0 1 rd mp mo mn a1 a2 a3 a4 a5 a6 a7 a8 a9 a10 a11 a12 a13 a14 a15 a16 a17 a18 a19 a20 := by
  unfold wL_lawOf_122
  exact ml_kill1 (fun _ _ => br_f (by decide) (ml_141o hp h6))
/-- 'one' is asked: no place; a place but a bad op; a mutant -/
theorem ml_97p (hp : post 1 ()) (h6 : x6 = 0 → sz = 0) : wL_lawOf_97 post mc ms x1 x3 x4 x6 0 (-3) (-3) kc ks sz 0 0 rd mp mo mn a1 a2 a3 a4 a5 a6 a7 a8 a9 a10 a11 a12 a13 a14 a15 a16 a17 a18 a19 a20 := by
  unfold wL_lawOf_97
  exact br_t rfl (br_t rfl (ml_121 hp h6))
theorem ml_87 (hp : post 1 ()) (h6 : ¬ x6 = 0) (h3 : x3 < 0 ∨ 7 < x3) : wL_lawOf_87 post mc ms x1 x3 x4 x6 1 (-1) kc ks sz 0 0 rd mp mo mn a1 a2 a3 a4 a5 a6 a7 a8 a9 a10 a11 a12 a13 a14 a15 a16 a17 a18 a19 a20 := by
  unfold wL_lawOf_87 wL_lawOf_97
  have h : x6 = 0 → sz = 0 := fun e => absurd e h6
  exact br_t rfl (br_f (by decide) (br_c (fun _ => ml_121 hp h) (fun g => br_t (h3.resolve_left g) (ml_121 hp h))))
theorem ml_97o (hp : post 1 ()) (h6 : ¬ x6 = 0) (h0 : ¬ x3 < 0) (h7 : ¬ 7 < x3) : wL_lawOf_97 post mc ms x1 x3 x4 x6 1 0 0 kc ks sz 0 1 rd mp mo mn a1 a2 a3 a4 a5 a6 a7 a8 a9 a10 a11 a12 a13 a14 a15 a16 a17 a18 a19 a20 := by
  unfold wL_lawOf_97
  exact br_t rfl (br_f (by decide) (br_f h0 (br_f h7 (ml_122o hp h6))))
/-- mutateOp is called -/
theorem ml_62 (hp : post 1 ()) (h6 : x6 = 0 → sz = 0) (h2 : x2 < 0 ∨ ¬ x2 < sz) : wL_lawOf_62 post mc ms x1 x2 x3 x4 x6 kc ks sz 0 0 rd mp mo mn a1 a2 a3 a4 a5 a6 a7 a8 a9 a10 a11 a12 a13 a14 a15 a16 a17 a18 a19 a20 := by
  unfold wL_lawOf_62 wL_lawOf_63
  exact ml_mutP h2 (br_t rfl (ml_97p hp h6))
theorem ml_63 (hp : post 1 ()) (h6 : ¬ x6 = 0) : wL_lawOf_63 post mc ms x1 0 x3 x4 x6 1 kc ks 1 0 0 rd mp mo mn a1 a2 a3 a4 a5 a6 a7 a8 a9 a10 a11 a12 a13 a14 a15 a16 a17 a18 a19 a20 := by
  unfold wL_lawOf_63
  by_cases h0 : x3 < 0
  · exact ml_mutL h0 (br_f (by decide) (br_t h0 (ml_87 hp h6 (Or.inl h0))))
  · by_cases h7 : 7 < x3
    · exact ml_mutG h0 (ml_g7 h7) (br_f (by decide) (br_f h0 (br_f (ml_g7 h7) (ml_87 hp h6 (Or.inr h7)))))
    · exact ml_mut h0 (ml_n7 h7) (fun _ _ _ => br_f (by decide) (br_f h0 (br_t (ml_n7 h7) (ml_97o hp h6 h0 h7))))
/-- emit has answered -/
theorem ml_44n (hp : post 1 ()) : wL_lawOf_44 post mc ms x1 x2 x3 x4 0 (-1) (-1) kc ks 0 0 0 rd mp mo mn a1 a2 a3 a4 a5 a6 a7 a8 a9 a10 a11 a12 a13 a14 a15 a16 a17 a18 a19 a20 := by
  unfold wL_lawOf_44
  exact br_t rfl (br_t rfl (ml_62 hp (fun _ => rfl) (Classical.em _)))
theorem ml_44o (hp : post 1 ()) : wL_lawOf_44 post mc ms x1 x2 x3 x4 1 0 0 kc ks 1 0 0 rd mp mo mn a1 a2 a3 a4 a5 a6 a7 a8 a9 a10 a11 a12 a13 a14 a15 a16 a17 a18 a19 a20 := by
  unfold wL_lawOf_44
  have h6 : ¬ (1 : Int32) = 0 := by decide
  refine br_t rfl (br_f h6 ?_)
  by_cases h : x2 = 0
  · subst h
    exact br_t rfl (ml_63 hp h6)
  · refine br_f h (ml_62 hp (fun e => absurd e h6) ?_)
    by_cases g : x2 < 0
    · exact Or.inl g
    · exact Or.inr (ml_lt1 h g)
theorem ml_23 (hp : post 1 ()) (h : x0 < 0 ∨ 7 < x0) : wL_lawOf_23 post mc ms x0 x1 x2 x3 x4 kc ks 0 0 0 rd mp mo mn a1 a2 a3 a4 a5 a6 a7 a8 a9 a10 a11 a12 a13 a14 a15 a16 a17 a18 a19 a20 := by
  unfold wL_lawOf_23 wL_lawOf_24
  by_cases h0 : x0 < 0
  · exact ml_emitL h0 (br_t rfl (ml_44n hp))
  · exact ml_emitG h0 (ml_g7 (h.resolve_left h0)) (br_t rfl (ml_44n hp))
theorem ml_24 (hp : post 1 ()) (h0 : ¬ x0 < 0) (h7 : ¬ 7 < x0) : wL_lawOf_24 post mc ms x0 x1 x2 x3 x4 1 kc ks 0 0 0 rd mp mo mn a1 a2 a3 a4 a5 a6 a7 a8 a9 a10 a11 a12 a13 a14 a15 a16 a17 a18 a19 a20 := by
  unfold wL_lawOf_24
  exact ml_emit h0 (ml_n7 h7) (fun _ _ _ => br_f (by decide) (ml_44o hp))
end
theorem ml_lawOf {post : Int32 → St0 → Prop} {x0 x1 x2 x3 x4 : Int32} (hp : post 1 ()) : wpL_lawOf post 21 639 () x0 x1 x2 x3 x4 := by
  unfold wpL_lawOf
  refine ⟨by decide, by decide, 20, 612, by decide, by decide, ?_⟩
  unfold wpX_init
  refine ⟨by decide, by decide, by decide, by decide, by decide, by decide, by decide, by decide, by decide, by decide, by decide, by decide, by decide, by decide, by decide, by decide, by decide, by decide, by decide, by decide, by decide, by decide, by decide, by decide, by decide, by decide, by decide, by decide, by decide, by decide, by decide, by decide, by decide, by decide, by decide, by decide, by decide, by decide, by decide, by decide, ?_⟩
  exact br_c (fun h => ml_23 hp (Or.inl h)) (fun h => br_c (fun g => ml_23 hp (Or.inr g)) (fun g => ml_24 hp h g))
theorem ml_cell {post : Int32 → Prop} {L : Nat} {xs : Nat → Int32} {k : Nat} (hL : L ≤ 5) (hk : k < 5) (H : ∀ r, post r) : wpL_cellAt post L xs () (nI k) := by
  unfold wpL_cellAt
  exact pk_le L k (fun _ => H 0) (fun h => ⟨vp_in_nI h (by omega), H _⟩)
theorem i_vc (xs : Nat → Int32) (L : Nat) (hL : L ≤ 5) : wpL_law (fun r => r = 1) L xs := by
  unfold wpL_law
  exact ml_cell (k := 0) hL (by decide) (fun _ => ml_cell (k := 1) hL (by decide) (fun _ => ml_cell (k := 2) hL (by decide) (fun _ => ml_cell (k := 3) hL (by decide) (fun _ => ml_cell (k := 4) hL (by decide) (fun _ => ⟨21, 639, by decide, by decide, ml_lawOf rfl⟩)))))
end
