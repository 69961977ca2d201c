section
/-- what one instruction leaves in its register: op o over x, y and the constant c -/
def ml_R (o x y c : Int32) : Int32 := if o = 0 then c else if o = 1 then x + y else if o = 2 then x - y else if o = 3 then x * y else if o = 4 then (if y ≤ x then y else x) else if o = 7 then x + c else x
theorem ml_R0 (x y c : Int32) : ml_R 0 x y c = c := by
  unfold ml_R
  rw [if_pos rfl]
theorem ml_R1 (x y c : Int32) : ml_R 1 x y c = x + y := by
  unfold ml_R
  rw [if_neg (by decide), if_pos rfl]
theorem ml_R2 (x y c : Int32) : ml_R 2 x y c = x - y := by
  unfold ml_R
  rw [if_neg (by decide), if_neg (by decide), if_pos rfl]
theorem ml_R3 (x y c : Int32) : ml_R 3 x y c = x * y := by
  unfold ml_R
  rw [if_neg (by decide), if_neg (by decide), if_neg (by decide), if_pos rfl]
theorem ml_R4 (x y c : Int32) : ml_R 4 x y c = if y ≤ x then y else x := by
  unfold ml_R
  rw [if_neg (by decide), if_neg (by decide), if_neg (by decide), if_neg (by decide), if_pos rfl]
theorem ml_R5 (x y c : Int32) : ml_R 5 x y c = x := by
  unfold ml_R
  rw [if_neg (by decide), if_neg (by decide), if_neg (by decide), if_neg (by decide), if_neg (by decide), if_neg (by decide)]
theorem ml_R6 (x y c : Int32) : ml_R 6 x y c = x := by
  unfold ml_R
  rw [if_neg (by decide), if_neg (by decide), if_neg (by decide), if_neg (by decide), if_neg (by decide), if_neg (by decide)]
theorem ml_R7 (x y c : Int32) : ml_R 7 x y c = x + c := by
  unfold ml_R
  rw [if_neg (by decide), if_neg (by decide), if_neg (by decide), if_neg (by decide), if_neg (by decide), if_pos rfl]
/-- the law's own 'result' -/
theorem ml_result {post : Int32 → Prop} {u : St0} {o x y c : Int32} (h : post (ml_R o x y c)) : wpL_result post u o x y c := by
  unfold wpL_result
  unfold ml_R at h
  refine br_c (fun e => ?_) (fun e => br_c (fun e1 => ?_) (fun e1 => br_c (fun e2 => ?_) (fun e2 => br_c (fun e3 => ?_) (fun e3 => br_c (fun e4 => br_c (fun g => ?_) (fun g => ?_)) (fun e4 => br_c (fun e7 => ?_) (fun e7 => ?_))))))
  · rw [if_pos e] at h; exact h
  · rw [if_neg e, if_pos e1] at h; exact h
  · rw [if_neg e, if_neg e1, if_pos e2] at h; exact h
  · rw [if_neg e, if_neg e1, if_neg e2, if_pos e3] at h; exact h
  · rw [if_neg e, if_neg e1, if_neg e2, if_neg e3, if_pos e4, if_pos g] at h; exact h
  · rw [if_neg e, if_neg e1, if_neg e2, if_neg e3, if_pos e4, if_neg g] at h; exact h
  · rw [if_neg e, if_neg e1, if_neg e2, if_neg e3, if_neg e4, if_pos e7] at h; exact h
  · rw [if_neg e, if_neg e1, if_neg e2, if_neg e3, if_neg e4, if_neg e7] at h; exact h
/-- an op of the machine -/
def ml_op (o : Int32) : Prop := o = 0 ∨ o = 1 ∨ o = 2 ∨ o = 3 ∨ o = 4 ∨ o = 5 ∨ o = 6 ∨ o = 7
theorem ml_op7 (x : Int32) : ml_op (x &&& 7) := by
  obtain ⟨j, hj, e⟩ := pk_andE x (m := 7) 3 (by decide)
  rw [e]
  have hj' : j < 8 := hj
  have k : j = 0 ∨ j = 1 ∨ j = 2 ∨ j = 3 ∨ j = 4 ∨ j = 5 ∨ j = 6 ∨ j = 7 := by omega
  unfold ml_op
  rcases k with rfl | rfl | rfl | rfl | rfl | rfl | rfl | rfl <;> decide
theorem ml_op_in {o : Int32} (h : ml_op o) : ¬ o < 0 ∧ o ≤ 7 := by
  rcases h with rfl | rfl | rfl | rfl | rfl | rfl | rfl | rfl <;> decide
/-- a place outside of a program of one instruction -/
def ml_pc (c : Int32) : Prop := c < 0 ∨ (¬ c < 0 ∧ 1 ≤ c)
theorem ml_pc1 : ml_pc ((0 : Int32) + 1) := Or.inr (by decide)
theorem ml_or1 (x : Int32) : ¬ (x ||| 1) = 0 := by
  intro h
  have h1 : (x.toBitVec ||| 1#32).getLsbD 0 = (0#32).getLsbD 0 := congrArg (fun z : Int32 => z.toBitVec.getLsbD 0) h
  rw [BitVec.getLsbD_or] at h1
  revert h1
  cases x.toBitVec.getLsbD 0 <;> decide
theorem ml_pc_or (x : Int32) : ml_pc (x ||| 1) := by
  have h := ml_or1 x
  by_cases g : (x ||| 1) < 0
  · exact Or.inl g
  · refine Or.inr ⟨g, ?_⟩
    obtain ⟨j, hj, e⟩ := nI_of g
    rw [e]
    rw [e] at h
    have hp : 1 ≤ j := by
      rcases Nat.eq_zero_or_pos j with z | z
      · rw [z] at h
        exact absurd nI_0 h
      · exact z
    exact nI_le hp hj
theorem ml_out {c : Int32} {A B : Prop} (h : ml_pc c) (a : A) : (c < 0 → A) ∧ (¬ c < 0 → ((1 ≤ c → A) ∧ (¬ 1 ≤ c → B))) :=
  ⟨fun _ => a, fun g => ⟨fun _ => a, fun z => h.elim (fun y => absurd y g) (fun y => absurd y.2 z)⟩⟩
theorem ml_end {c : Int32} {A B : Prop} (h : ml_pc c) (a : A) : (c < 0 → A) ∧ (¬ c < 0 → ((c < 1 → B) ∧ (¬ c < 1 → A))) :=
  ⟨fun _ => a, fun g => ⟨fun z => h.elim (fun y => absurd y g) (fun y => absurd z (Int32.not_lt.mpr y.2)), fun _ => a⟩⟩
theorem ml_i0 {n : Nat} (h : 0 < n) (hn : n < 2 ^ 31) : vp_in 0 n := pk_in 0 n h rfl hn
theorem ml_i1 {n : Nat} (h : 1 < n) (hn : n < 2 ^ 31) : vp_in 1 n := pk_in 1 n h rfl hn
theorem ml_z24 (m : Int32) : (0 : Int32) * 24 + m = m := by
  rw [show (0 : Int32) * 24 = 0 by decide, Int32.zero_add]
/-- one instruction at place 0, over the registers b and b + 1 -/
theorem ml_carry {post : Int32 → St2 → Prop} {f1 f2 f3 f4 f5 f6 f7 : Int32} {a1 a2 a3 a4 a5 a6 a7 a8 a9 a10 a11 a12 a13 a14 a15 a16 a17 a18 a19 a20 : Nat → Int32} {b o c : Int32} {k : Nat} (hk : b.toNatClampNeg = k) (hk1 : (b + 1).toNatClampNeg = k + 1) (i0 : vp_in b 8) (i1 : vp_in (b + 1) 8) (ho : ml_op o) (hc : ml_pc c) (h2 : a2 0 = 4)
    (H : ∀ (pc : Int32) (a : Nat → Int32), ml_pc pc → a k = ml_R o (a17 k) (a17 (k + 1)) c → (∀ j, j ≠ k → a j = a17 j) → post pc (f1, f2, f3, f4, f5, f6, f7, a1, a2, a3, a4, a5, a6, a7, a8, a9, a10, a11, a12, a13, a14, a15, a16, a, a18, a19, a20)) :
    wpX_carryOut post (f1, f2, f3, f4, f5, f6, f7, a1, a2, a3, a4, a5, a6, a7, a8, a9, a10, a11, a12, a13, a14, a15, a16, a17, a18, a19, a20) b 0 o c := by
  have e5 : b + (a2 (0 : Int32).toNatClampNeg &&& 3) = b := by
    rw [sb_cl0, h2, show (4 : Int32) &&& 3 = 0 by decide, Int32.add_zero]
  have e6 : b + (a2 (0 : Int32).toNatClampNeg >>> ((2 : Int32) &&& 31)) = b + 1 := by
    rw [sb_cl0, h2, show (4 : Int32) >>> ((2 : Int32) &&& 31) = 1 by decide]
  have U : ∀ v : Int32, v = ml_R o (a17 b.toNatClampNeg) (a17 (b + 1).toNatClampNeg) c → post (0 + 1) (f1, f2, f3, f4, f5, f6, f7, a1, a2, a3, a4, a5, a6, a7, a8, a9, a10, a11, a12, a13, a14, a15, a16, upd a17 b.toNatClampNeg v, a18, a19, a20) := by
    intro v hv
    rw [hk, hk1] at hv
    rw [hk]
    exact H _ _ ml_pc1 (by rw [pk_us]; exact hv) (fun j hj => pk_un hj)
  have V : ∀ pc : Int32, ml_pc pc → a17 k = ml_R o (a17 k) (a17 (k + 1)) c → post pc (f1, f2, f3, f4, f5, f6, f7, a1, a2, a3, a4, a5, a6, a7, a8, a9, a10, a11, a12, a13, a14, a15, a16, a17, a18, a19, a20) := fun pc h1 h3 => H pc a17 h1 h3 (fun _ _ => rfl)
  unfold wpX_carryOut
  refine ⟨ml_i0 (by decide) (by decide), nm_r e5 ⟨ml_i0 (by decide) (by decide), nm_r e6 ?_⟩⟩
  rcases ho with rfl | rfl | rfl | rfl | rfl | rfl | rfl | rfl
  · exact br_f (by decide) (br_f (by decide) (br_t rfl ⟨i0, nm_e (U _ (ml_R0 _ _ _).symm)⟩))
  · exact br_f (by decide) (br_f (by decide) (br_f (by decide) (br_t rfl ⟨i0, i1, i0, nm_e (U _ (ml_R1 _ _ _).symm)⟩)))
  · exact br_f (by decide) (br_f (by decide) (br_f (by decide) (br_f (by decide) (br_t rfl ⟨i0, i1, i0, nm_e (U _ (ml_R2 _ _ _).symm)⟩))))
  · exact br_f (by decide) (br_f (by decide) (br_f (by decide) (br_f (by decide) (br_f (by decide) (br_t rfl ⟨i0, i1, i0, nm_e (U _ (ml_R3 _ _ _).symm)⟩)))))
  · exact br_f (by decide) (br_f (by decide) (br_f (by decide) (br_f (by decide) (br_f (by decide) (br_f (by decide) (br_t rfl ⟨i0, i1, br_c (fun g => ⟨i1, i0, nm_e (U _ (by rw [ml_R4, if_pos g]))⟩) (fun g => ⟨i0, i0, nm_e (U _ (by rw [ml_R4, if_neg g]))⟩)⟩))))))
  · exact br_f (by decide) (br_f (by decide) (br_f (by decide) (br_f (by decide) (br_f (by decide) (br_f (by decide) (br_f (by decide) (br_t rfl ⟨i0, i1, br_c (fun _ => V _ ml_pc1 (ml_R5 _ _ _).symm) (fun _ => V _ hc (ml_R5 _ _ _).symm)⟩)))))))
  · exact br_f (by decide) (br_f (by decide) (br_f (by decide) (br_f (by decide) (br_f (by decide) (br_f (by decide) (br_f (by decide) (br_f (by decide) (br_t rfl ⟨i0, br_c (fun _ => V _ hc (ml_R6 _ _ _).symm) (fun _ => V _ ml_pc1 (ml_R6 _ _ _).symm)⟩))))))))
  · exact br_f (by decide) (br_t (by decide) ⟨i0, i0, nm_e (U _ (ml_R7 _ _ _).symm)⟩)
/-- the same over the registers of the program's run, and over those of a mutant -/
theorem ml_carry0 {post : Int32 → St2 → Prop} {f1 f2 f3 f4 f5 f6 f7 : Int32} {a1 a2 a3 a4 a5 a6 a7 a8 a9 a10 a11 a12 a13 a14 a15 a16 a17 a18 a19 a20 : Nat → Int32} {o c : Int32} (ho : ml_op o) (hc : ml_pc c) (h2 : a2 0 = 4)
    (H : ∀ (pc : Int32) (a : Nat → Int32), ml_pc pc → a 0 = ml_R o (a17 0) (a17 1) c → (∀ j, j ≠ 0 → a j = a17 j) → post pc (f1, f2, f3, f4, f5, f6, f7, a1, a2, a3, a4, a5, a6, a7, a8, a9, a10, a11, a12, a13, a14, a15, a16, a, a18, a19, a20)) :
    wpX_carryOut post (f1, f2, f3, f4, f5, f6, f7, a1, a2, a3, a4, a5, a6, a7, a8, a9, a10, a11, a12, a13, a14, a15, a16, a17, a18, a19, a20) 0 0 o c :=
  ml_carry (k := 0) (by decide) (by decide) (ml_i0 (by decide) (by decide)) (ml_i1 (by decide) (by decide)) ho hc h2 H
theorem ml_carry4 {post : Int32 → St2 → Prop} {f1 f2 f3 f4 f5 f6 f7 : Int32} {a1 a2 a3 a4 a5 a6 a7 a8 a9 a10 a11 a12 a13 a14 a15 a16 a17 a18 a19 a20 : Nat → Int32} {o c : Int32} (ho : ml_op o) (hc : ml_pc c) (h2 : a2 0 = 4)
    (H : ∀ (pc : Int32) (a : Nat → Int32), ml_pc pc → a 4 = ml_R o (a17 4) (a17 5) c → (∀ j, j ≠ 4 → a j = a17 j) → post pc (f1, f2, f3, f4, f5, f6, f7, a1, a2, a3, a4, a5, a6, a7, a8, a9, a10, a11, a12, a13, a14, a15, a16, a, a18, a19, a20)) :
    wpX_carryOut post (f1, f2, f3, f4, f5, f6, f7, a1, a2, a3, a4, a5, a6, a7, a8, a9, a10, a11, a12, a13, a14, a15, a16, a17, a18, a19, a20) 4 0 o c :=
  ml_carry (k := 4) (by decide) (by decide) (pk_in 4 8 (by decide)) (pk_in 5 8 (by decide)) ho hc h2 H
/-- making the program: one instruction -/
theorem ml_emit {post : Int32 → St2 → Prop} {f2 f3 f4 f5 f6 f7 : Int32} {a1 a2 a3 a4 a5 a6 a7 a8 a9 a10 a11 a12 a13 a14 a15 a16 a17 a18 a19 a20 : Nat → Int32} {o c : Int32} (ho : ml_op o) (H : post 0 (1, f2, f3, 0, f5, f6, f7, upd a1 0 o, upd a2 0 4, upd a3 0 c, a4, a5, a6, a7, a8, a9, a10, a11, a12, a13, a14, a15, a16, a17, a18, a19, a20)) :
    wpX_emit post (0, f2, f3, f4, f5, f6, f7, a1, a2, a3, a4, a5, a6, a7, a8, a9, a10, a11, a12, a13, a14, a15, a16, a17, a18, a19, a20) o 4 c := by
  unfold wpX_emit
  have i : vp_in 0 12 := ml_i0 (by decide) (by decide)
  exact br_f (ml_op_in ho).1 (br_t (ml_op_in ho).2 (br_t (by decide) ⟨i, nm_r (e' := upd a1 0 o) rfl ⟨i, nm_r (e' := upd a2 0 4) rfl ⟨i, nm_r (e' := upd a3 0 c) rfl (nm_r (e' := (1 : Int32)) (by decide) H)⟩⟩⟩))
/-- the first test -/
theorem ml_addTest {post : Int32 → St2 → Prop} {f1 f3 f4 f5 f6 f7 : Int32} {a1 a2 a3 a4 a5 a6 a7 a8 a9 a10 a11 a12 a13 a14 a15 a16 a17 a18 a19 a20 : Nat → Int32} {x y w : Int32} (H : post 0 (f1, 1, f3, 0, f5, f6, f7, a1, a2, a3, upd a4 0 x, upd a5 0 y, upd a6 0 1, upd a7 0 w, a8, a9, a10, a11, a12, a13, a14, a15, a16, a17, a18, a19, a20)) :
    wpX_addTest post (f1, 0, f3, f4, f5, f6, f7, a1, a2, a3, a4, a5, a6, a7, a8, a9, a10, a11, a12, a13, a14, a15, a16, a17, a18, a19, a20) x y 1 w := by
  unfold wpX_addTest
  have i : vp_in 0 6 := ml_i0 (by decide) (by decide)
  exact br_t (by decide) ⟨i, nm_r (e' := upd a4 0 x) rfl ⟨i, nm_r (e' := upd a5 0 y) rfl ⟨i, nm_r (e' := upd a6 0 1) rfl ⟨i, nm_r (e' := upd a7 0 w) rfl (nm_r (e' := (1 : Int32)) (by decide) H)⟩⟩⟩⟩
theorem ml_snap {post : Int32 → St2 → Prop} {f3 f4 f5 f6 f7 : Int32} {a1 a2 a3 a4 a5 a6 a7 a8 a9 a10 a11 a12 a13 a14 a15 a16 a17 a18 a19 a20 : Nat → Int32} {x y : Int32} (ho : ml_op (a1 0)) (hc : ml_pc (a3 0)) (h2 : a2 0 = 4)
    (H : ∀ a : Nat → Int32, post 0 (1, 1, f3, 0, f5, f6, f7, a1, a2, a3, upd a4 0 x, upd a5 0 y, upd a6 0 1, upd a7 0 (ml_R (a1 0) x y (a3 0)), a8, a9, a10, a11, a12, a13, a14, a15, a16, a, a18, a19, a20)) :
    wpX_snapshotTest post (1, 0, f3, f4, f5, f6, f7, a1, a2, a3, a4, a5, a6, a7, a8, a9, a10, a11, a12, a13, a14, a15, a16, a17, a18, a19, a20) x y := by
  unfold wpX_snapshotTest
  have i : vp_in 0 12 := ml_i0 (by decide) (by decide)
  refine br_t (by decide) (nm_e (nm_e (nm_e (nm_e ⟨2, ?_⟩))))
  refine br_f (by decide) (br_f (by decide) (br_f (by decide) ⟨i, i, ?_⟩))
  refine ml_carry0 ho hc h2 (fun pc a hpc ha _ => ?_)
  refine nm_r (e' := (1 : Int32)) (by decide) (br_f (by decide) (ml_out hpc (ml_end hpc ?_)))
  unfold wX_snapshotTest_101 wX_snapshotTest_106
  have ha' : a 0 = ml_R (a1 0) x y (a3 0) := ha
  rw [ha']
  exact ml_addTest (H a)
theorem ml_addMutant0 {post : Int32 → St2 → Prop} {f1 f2 f4 f5 f6 f7 : Int32} {a1 a2 a3 a4 a5 a6 a7 a8 a9 a10 a11 a12 a13 a14 a15 a16 a17 a18 a19 a20 : Nat → Int32} {q : Int32} (H : post 0 (f1, f2, 1, 0, f5, f6, f7, a1, a2, a3, a4, a5, a6, a7, upd a8 0 0, upd a9 0 1, upd a10 0 q, a11, a12, a13, a14, a15, a16, a17, a18, a19, a20)) :
    wpX_addMutant post (f1, f2, 0, f4, f5, f6, f7, a1, a2, a3, a4, a5, a6, a7, a8, a9, a10, a11, a12, a13, a14, a15, a16, a17, a18, a19, a20) 0 1 q := by
  unfold wpX_addMutant
  have i : vp_in 0 24 := ml_i0 (by decide) (by decide)
  exact br_t (by decide) ⟨i, nm_r (e' := upd a8 0 0) rfl ⟨i, nm_r (e' := upd a9 0 1) rfl ⟨i, nm_r (e' := upd a10 0 q) rfl (nm_r (e' := (1 : Int32)) (by decide) H)⟩⟩⟩
theorem ml_addMutant1 {post : Int32 → St2 → Prop} {f1 f2 f4 f5 f6 f7 : Int32} {a1 a2 a3 a4 a5 a6 a7 a8 a9 a10 a11 a12 a13 a14 a15 a16 a17 a18 a19 a20 : Nat → Int32} {q : Int32} (H : post 1 (f1, f2, 2, 0, f5, f6, f7, a1, a2, a3, a4, a5, a6, a7, upd a8 1 0, upd a9 1 0, upd a10 1 q, a11, a12, a13, a14, a15, a16, a17, a18, a19, a20)) :
    wpX_addMutant post (f1, f2, 1, f4, f5, f6, f7, a1, a2, a3, a4, a5, a6, a7, a8, a9, a10, a11, a12, a13, a14, a15, a16, a17, a18, a19, a20) 0 0 q := by
  unfold wpX_addMutant
  have i : vp_in 1 24 := ml_i1 (by decide) (by decide)
  exact br_t (by decide) ⟨i, nm_r (e' := upd a8 1 0) rfl ⟨i, nm_r (e' := upd a9 1 0) rfl ⟨i, nm_r (e' := upd a10 1 q) rfl (nm_r (e' := (2 : Int32)) (by decide) H)⟩⟩⟩
theorem ml_mutateOp {post : Int32 → St2 → Prop} {f2 f4 f5 f6 f7 : Int32} {a1 a2 a3 a4 a5 a6 a7 a8 a9 a10 a11 a12 a13 a14 a15 a16 a17 a18 a19 a20 : Nat → Int32} {q : Int32} (ho : ml_op q) (H : post 0 (1, f2, 1, 0, f5, f6, f7, a1, a2, a3, a4, a5, a6, a7, upd a8 0 0, upd a9 0 1, upd a10 0 q, a11, a12, a13, a14, a15, a16, a17, a18, a19, a20)) :
    wpX_mutateOp post (1, f2, 0, f4, f5, f6, f7, a1, a2, a3, a4, a5, a6, a7, a8, a9, a10, a11, a12, a13, a14, a15, a16, a17, a18, a19, a20) 0 q := by
  unfold wpX_mutateOp
  exact br_f (by decide) (br_t (by decide) (br_f (ml_op_in ho).1 (br_t (ml_op_in ho).2 (ml_addMutant0 H))))
theorem ml_mutateC {post : Int32 → St2 → Prop} {f2 f4 f5 f6 f7 : Int32} {a1 a2 a3 a4 a5 a6 a7 a8 a9 a10 a11 a12 a13 a14 a15 a16 a17 a18 a19 a20 : Nat → Int32} {q : Int32} (H : post 1 (1, f2, 2, 0, f5, f6, f7, a1, a2, a3, a4, a5, a6, a7, upd a8 1 0, upd a9 1 0, upd a10 1 q, a11, a12, a13, a14, a15, a16, a17, a18, a19, a20)) :
    wpX_mutateC post (1, f2, 1, f4, f5, f6, f7, a1, a2, a3, a4, a5, a6, a7, a8, a9, a10, a11, a12, a13, a14, a15, a16, a17, a18, a19, a20) 0 q := by
  unfold wpX_mutateC
  exact br_f (by decide) (br_t (by decide) (ml_addMutant1 H))
end
section
/-- the end of a mutant's run -/
theorem ml_s153 {post : St2 → Prop} {f2 f3 f4 f5 f6 f7 : Int32} {a1 a2 a3 a4 a5 a6 a7 a8 a9 a10 a11 a12 a13 a14 a15 a16 a17 a18 a19 a20 : Nat → Int32} {m pc : Int32} (i144 : vp_in m 144) (hpc : ml_pc pc)
    (H : post (1, f2, f3, f4, f5, f6, f7, a1, a2, a3, a4, a5, a6, a7, a8, a9, a10, a11, a12, a13, upd a14 m.toNatClampNeg 1, upd a15 m.toNatClampNeg (a17 4), upd a16 m.toNatClampNeg 1, a17, a18, a19, a20)) :
    wX_split_153 post 0 m pc 1 1 f2 f3 f4 f5 f6 f7 a1 a2 a3 a4 a5 a6 a7 a8 a9 a10 a11 a12 a13 a14 a15 a16 a17 a18 a19 a20 := by
  unfold wX_split_153
  refine nm_r (e' := m) (ml_z24 m) (ml_end hpc ?_)
  unfold wX_split_181 wX_split_186
  exact ⟨i144, nm_r (e' := upd a14 m.toNatClampNeg 1) rfl ⟨i144, br_f (by rw [pk_us]; decide) ⟨i144, nm_e ⟨i144, nm_e H⟩⟩⟩⟩
/-- a mutant's run: its one instruction -/
theorem ml_s118 {post : St2 → Prop} {f2 f3 f4 f6 f7 : Int32} {a1 a2 a3 a4 a5 a6 a7 a8 a9 a10 a11 a12 a13 a14 a15 a16 a17 a18 a19 a20 : Nat → Int32} {m : Int32} (i144 : vp_in m 144) (ho : ml_op f6) (hc : ml_pc f7) (h2 : a2 0 = 4)
    (H : ∀ a : Nat → Int32, a 4 = ml_R f6 (a17 4) (a17 5) f7 → (∀ j, j ≠ 4 → a j = a17 j) → post (1, f2, f3, f4, 0, f6, f7, a1, a2, a3, a4, a5, a6, a7, a8, a9, a10, a11, a12, a13, upd a14 m.toNatClampNeg 1, upd a15 m.toNatClampNeg (a 4), upd a16 m.toNatClampNeg 1, a, a18, a19, a20)) :
    wX_split_118 post 0 m 2 0 0 1 f2 f3 f4 0 f6 f7 a1 a2 a3 a4 a5 a6 a7 a8 a9 a10 a11 a12 a13 a14 a15 a16 a17 a18 a19 a20 := by
  refine br_f (by decide) (br_f (by decide) (br_f (by decide) ?_))
  unfold wpX_stepMutant
  refine br_t rfl (ml_carry4 ho hc h2 (fun pc a hpc ha hb => ?_))
  exact nm_r (e' := (1 : Int32)) (by decide) (br_f (by decide) (ml_out hpc (ml_s153 i144 hpc (H a ha hb))))
theorem ml_s104 {post : St2 → Prop} {f2 f3 f4 f6 f7 : Int32} {a1 a2 a3 a4 a5 a6 a7 a8 a9 a10 a11 a12 a13 a14 a15 a16 a17 a18 a19 a20 : Nat → Int32} {m z : Int32} (i24 : vp_in m 24) (i144 : vp_in m 144) (ho : ml_op f6) (hc : ml_pc z) (h2 : a2 0 = 4) (h8 : a8 m.toNatClampNeg = 0)
    (H : ∀ a : Nat → Int32, a 4 = ml_R f6 (a17 4) (a17 5) z → (∀ j, j ≠ 4 → a j = a17 j) → post (1, f2, f3, f4, 0, f6, z, a1, a2, a3, a4, a5, a6, a7, a8, a9, a10, a11, a12, a13, upd a14 m.toNatClampNeg 1, upd a15 m.toNatClampNeg (a 4), upd a16 m.toNatClampNeg 1, a, a18, a19, a20)) :
    wX_split_104 post 0 m 0 z 1 f2 f3 f4 0 f6 f7 a1 a2 a3 a4 a5 a6 a7 a8 a9 a10 a11 a12 a13 a14 a15 a16 a17 a18 a19 a20 := by
  unfold wX_split_104
  exact ⟨i24, nm_r h8 ⟨2, ml_s118 i144 ho hc h2 H⟩⟩
/-- the choice of the mutant's constant -/
theorem ml_s71 {post : St2 → Prop} {f2 f3 f4 f6 f7 : Int32} {a1 a2 a3 a4 a5 a6 a7 a8 a9 a10 a11 a12 a13 a14 a15 a16 a17 a18 a19 a20 : Nat → Int32} {m z c : Int32} (i24 : vp_in m 24) (i144 : vp_in m 144) (ho : ml_op z) (hc : ml_pc c) (h2 : a2 0 = 4) (h8 : a8 m.toNatClampNeg = 0)
    (hz : (a9 m.toNatClampNeg = 0 ∧ a10 m.toNatClampNeg = c) ∨ (¬ a9 m.toNatClampNeg = 0 ∧ a3 0 = c))
    (H : ∀ (g : Int32) (a : Nat → Int32), a 4 = ml_R z (a17 4) (a17 5) c → (∀ j, j ≠ 4 → a j = a17 j) → post (1, f2, f3, f4, 0, z, g, a1, a2, a3, a4, a5, a6, a7, a8, a9, a10, a11, a12, a13, upd a14 m.toNatClampNeg 1, upd a15 m.toNatClampNeg (a 4), upd a16 m.toNatClampNeg 1, a, a18, a19, a20)) :
    wX_split_71 post 0 m 0 z 1 f2 f3 f4 0 f6 f7 a1 a2 a3 a4 a5 a6 a7 a8 a9 a10 a11 a12 a13 a14 a15 a16 a17 a18 a19 a20 := by
  unfold wX_split_71
  refine ⟨i24, ?_⟩
  rcases hz with ⟨h9, hh⟩ | ⟨h9, hh⟩
  · subst hh
    exact br_t h9 ⟨i24, ml_s104 i24 i144 ho hc h2 h8 (H _)⟩
  · subst hh
    have e : a3 (a8 m.toNatClampNeg).toNatClampNeg = a3 0 := by rw [h8, sb_cl0]
    refine br_f h9 ⟨i24, by rw [h8]; exact ml_i0 (by decide) (by decide), ?_⟩
    rw [e]
    exact ml_s104 i24 i144 ho hc h2 h8 (H _)
/-- a mutant splits off at place 0 -/
theorem ml_split {post : St2 → Prop} {f2 f3 f4 f5 f6 f7 : Int32} {a1 a2 a3 a4 a5 a6 a7 a8 a9 a10 a11 a12 a13 a14 a15 a16 a17 a18 a19 a20 : Nat → Int32} {m o c : Int32} (i24 : vp_in m 24) (i144 : vp_in m 144) (ho : ml_op o) (hc : ml_pc c) (h2 : a2 0 = 4) (h8 : a8 m.toNatClampNeg = 0)
    (hz : (a9 m.toNatClampNeg = 0 ∧ a1 0 = o ∧ a10 m.toNatClampNeg = c) ∨ (¬ a9 m.toNatClampNeg = 0 ∧ a10 m.toNatClampNeg = o ∧ a3 0 = c))
    (H : ∀ (g5 g6 g7 : Int32) (a : Nat → Int32), (∀ j, j < 4 → a j = a17 j) → post (1, f2, f3, f4, g5, g6, g7, a1, a2, a3, a4, a5, a6, a7, a8, a9, a10, a11, a12, a13, upd a14 m.toNatClampNeg 1, upd a15 m.toNatClampNeg (ml_R o (a17 0) (a17 1) c), upd a16 m.toNatClampNeg 1, a, a18, a19, a20)) :
    wpX_split post (1, f2, f3, f4, f5, f6, f7, a1, a2, a3, a4, a5, a6, a7, a8, a9, a10, a11, a12, a13, a14, a15, a16, a17, a18, a19, a20) 0 m 0 := by
  have K : ∀ (b a : Nat → Int32) (g6 g7 : Int32), b = upd (upd (upd (upd a17 4 (a17 0)) 5 (a17 1)) 6 (a17 2)) 7 (a17 3) → a 4 = ml_R o (b 4) (b 5) c → (∀ j, j ≠ 4 → a j = b j) → post (1, f2, f3, f4, 0, g6, g7, a1, a2, a3, a4, a5, a6, a7, a8, a9, a10, a11, a12, a13, upd a14 m.toNatClampNeg 1, upd a15 m.toNatClampNeg (a 4), upd a16 m.toNatClampNeg 1, a, a18, a19, a20) := by
    intro b a g6 g7 hb h4 hj
    have e4 : b 4 = a17 0 := by rw [hb]; rfl
    have e5 : b 5 = a17 1 := by rw [hb]; rfl
    rw [e4, e5] at h4
    rw [h4]
    refine H 0 g6 g7 a (fun j hl => ?_)
    rw [hj j (by omega), hb, pk_un (by omega), pk_un (by omega), pk_un (by omega), pk_un (by omega)]
  unfold wpX_split
  refine ⟨5, ?_⟩
  refine br_f (by decide) ⟨pk_in 0 8 (by decide), pk_in 4 8 (by decide), nm_r (e' := upd a17 4 (a17 0)) rfl (nm_r (e' := (1 : Int32)) (by decide) ?_)⟩
  refine br_f (by decide) ⟨pk_in 1 8 (by decide), pk_in 5 8 (by decide), nm_r (e' := upd (upd a17 4 (a17 0)) 5 (a17 1)) rfl (nm_r (e' := (2 : Int32)) (by decide) ?_)⟩
  refine br_f (by decide) ⟨pk_in 2 8 (by decide), pk_in 6 8 (by decide), nm_r (e' := upd (upd (upd a17 4 (a17 0)) 5 (a17 1)) 6 (a17 2)) rfl (nm_r (e' := (3 : Int32)) (by decide) ?_)⟩
  refine br_f (by decide) ⟨pk_in 3 8 (by decide), pk_in 7 8 (by decide), nm_r (e' := upd (upd (upd (upd a17 4 (a17 0)) 5 (a17 1)) 6 (a17 2)) 7 (a17 3)) rfl (nm_r (e' := (4 : Int32)) (by decide) ?_)⟩
  refine br_t (by decide) ⟨i24, nm_r (e' := (0 : Int32)) h8 ⟨i24, ?_⟩⟩
  rcases hz with ⟨h9, hh, hh'⟩ | ⟨h9, hh, hh'⟩
  · have e : a1 (a8 m.toNatClampNeg).toNatClampNeg = o := by rw [h8, sb_cl0, hh]
    refine br_t h9 ⟨i24, by rw [h8]; exact ml_i0 (by decide) (by decide), ?_⟩
    rw [e]
    exact ml_s71 i24 i144 ho hc h2 h8 (Or.inl ⟨h9, hh'⟩) (fun g a => K _ a o g rfl)
  · refine br_f h9 ⟨i24, ?_⟩
    rw [hh]
    exact ml_s71 i24 i144 ho hc h2 h8 (Or.inr ⟨h9, hh'⟩) (fun g a => K _ a o g rfl)
/-- the arrays of the program and of the two mutants: program (p, t), mutant 0 (q, t), mutant 1 (p, d) -/
def ml_Z (p q t d : Int32) (a1 a2 a3 a8 a9 a10 : Nat → Int32) : Prop := ml_op p ∧ ml_op q ∧ ml_pc t ∧ ml_pc d ∧ a1 0 = p ∧ a2 0 = 4 ∧ a3 0 = t ∧ a8 0 = 0 ∧ a8 1 = 0 ∧ a9 0 = 1 ∧ a9 1 = 0 ∧ a10 0 = q ∧ a10 1 = d
theorem ml_splitAll {post : St2 → Prop} {f2 f4 f5 f6 f7 : Int32} {a1 a2 a3 a4 a5 a6 a7 a8 a9 a10 a11 a12 a13 a14 a15 a16 a17 a18 a19 a20 : Nat → Int32} {p q t d : Int32} (hZ : ml_Z p q t d a1 a2 a3 a8 a9 a10)
    (H : ∀ (g5 g6 g7 : Int32) (a : Nat → Int32), (∀ j, j < 4 → a j = a17 j) → post (1, f2, 2, f4, g5, g6, g7, a1, a2, a3, a4, a5, a6, a7, a8, a9, a10, a11, a12, a13, upd (upd a14 0 1) 1 1, upd (upd a15 0 (ml_R q (a17 0) (a17 1) t)) 1 (ml_R p (a17 0) (a17 1) d), upd (upd a16 0 1) 1 1, a, a18, a19, a20)) :
    wpX_splitAll post (1, f2, 2, f4, f5, f6, f7, a1, a2, a3, a4, a5, a6, a7, a8, a9, a10, a11, a12, a13, a14, a15, a16, a17, a18, a19, a20) 0 0 0 := by
  obtain ⟨hp, hq, ht, hd, z1, z2, z3, z80, z81, z90, z91, z100, z101⟩ := hZ
  unfold wpX_splitAll
  refine ⟨3, ?_⟩
  refine br_f (by decide) ⟨ml_i0 (by decide) (by decide), br_t z80 ?_⟩
  refine ml_split (m := 0) (o := q) (c := t) (ml_i0 (by decide) (by decide)) (ml_i0 (by decide) (by decide)) hq ht z2 z80 (Or.inr ⟨fun z => absurd (z90.symm.trans z) (by decide), z100, z3⟩) (fun g5 g6 g7 a ha => ?_)
  refine nm_r (e' := (1 : Int32)) (by decide) (br_f (by decide) ⟨ml_i1 (by decide) (by decide), br_t z81 ?_⟩)
  refine ml_split (m := 1) (o := p) (c := d) (ml_i1 (by decide) (by decide)) (ml_i1 (by decide) (by decide)) hp hd z2 z81 (Or.inl ⟨z91, z1, z101⟩) (fun g5' g6' g7' a' ha' => ?_)
  refine nm_r (e' := (2 : Int32)) (by decide) (br_t (by decide) ?_)
  rw [ha 0 (by omega), ha 1 (by omega)]
  exact H g5' g6' g7' a' (fun j hj => (ha' j hj).trans (ha j hj))
/-- the end of a test's run: no mutant shares its outcome -/
theorem ml_r111 {post : St2 → Prop} {f2 f4 f5 f6 f7 : Int32} {a1 a2 a3 a4 a5 a6 a7 a8 a9 a10 a11 a12 a13 a14 a15 a16 a17 a18 a19 a20 : Nat → Int32} {pc : Int32} (hpc : ml_pc pc) (h80 : a8 0 = 0) (h81 : a8 1 = 0)
    (H : post (1, f2, 2, f4, f5, f6, f7, a1, a2, a3, a4, a5, a6, a7, a8, a9, a10, upd a11 0 1, upd a12 0 (a17 0), upd a13 0 1, a14, a15, a16, a17, a18, a19, a20)) :
    wX_runTest_111 post 0 1 pc 1 1 f2 2 f4 f5 f6 f7 a1 a2 a3 a4 a5 a6 a7 a8 a9 a10 a11 a12 a13 a14 a15 a16 a17 a18 a19 a20 := by
  have i : vp_in 0 6 := ml_i0 (by decide) (by decide)
  have b0 : ¬ ((1 : Int32) >>> (a8 (0 : Int32).toNatClampNeg &&& 31)) &&& 1 = 0 := by
    rw [show a8 (0 : Int32).toNatClampNeg = 0 from h80]
    decide
  have b1 : ¬ ((1 : Int32) >>> (a8 (1 : Int32).toNatClampNeg &&& 31)) &&& 1 = 0 := by
    rw [show a8 (1 : Int32).toNatClampNeg = 0 from h81]
    decide
  unfold wX_runTest_111
  refine ml_end hpc ?_
  unfold wX_runTest_128 wX_runTest_133
  refine ⟨i, nm_r (e' := upd a11 0 1) rfl ⟨i, br_f (show ¬ (1 : Int32) = 0 by decide) ?_⟩⟩
  unfold wX_runTest_158
  refine ⟨i, nm_r (e' := upd a12 0 (a17 0)) rfl ⟨i, nm_r (e' := upd a13 0 1) rfl ⟨3, ?_⟩⟩⟩
  refine br_f (by decide) ⟨ml_i0 (by decide) (by decide), br_f b0 (nm_r (e' := (1 : Int32)) (by decide) ?_)⟩
  refine br_f (by decide) ⟨ml_i1 (by decide) (by decide), br_f b1 (nm_r (e' := (2 : Int32)) (by decide) ?_)⟩
  exact br_t (by decide) H
theorem ml_runTest {post : St2 → Prop} {f2 f4 f5 f6 f7 : Int32} {a1 a2 a3 a4 a5 a6 a7 a8 a9 a10 a11 a12 a13 a14 a15 a16 a17 a18 a19 a20 : Nat → Int32} {p q t d x y : Int32} (hZ : ml_Z p q t d a1 a2 a3 a8 a9 a10) (h4 : a4 0 = x) (h5 : a5 0 = y)
    (H : ∀ (g5 g6 g7 : Int32) (a : Nat → Int32), post (1, f2, 2, f4, g5, g6, g7, a1, a2, a3, a4, a5, a6, a7, a8, a9, a10, upd a11 0 1, upd a12 0 (ml_R p x y t), upd a13 0 1, upd (upd a14 0 1) 1 1, upd (upd a15 0 (ml_R q x y t)) 1 (ml_R p x y d), upd (upd a16 0 1) 1 1, a, a18, a19, a20)) :
    wpX_runTest post (1, f2, 2, f4, f5, f6, f7, a1, a2, a3, a4, a5, a6, a7, a8, a9, a10, a11, a12, a13, a14, a15, a16, a17, a18, a19, a20) 0 := by
  have hZ' := hZ
  obtain ⟨hp, hq, ht, hd, z1, z2, z3, z80, z81, z90, z91, z100, z101⟩ := hZ'
  have i : vp_in 0 6 := ml_i0 (by decide) (by decide)
  have j : vp_in 0 12 := ml_i0 (by decide) (by decide)
  subst h4 h5
  unfold wpX_runTest
  refine ⟨i, nm_r (e' := upd a17 0 (a4 0)) rfl ⟨i, nm_r (e' := upd (upd a17 0 (a4 0)) 1 (a5 0)) rfl (nm_e (nm_e ⟨2, ?_⟩))⟩⟩
  refine br_f (by decide) (br_f (by decide) (br_f (by decide) (br_t (by decide) ?_)))
  refine ml_splitAll hZ (fun g5 g6 g7 a ha => ?_)
  unfold wX_runTest_80
  refine nm_r (e' := (1 : Int32)) (by decide) ⟨j, j, ?_⟩
  have ho' : ml_op (a1 0) := by rw [z1]; exact hp
  have hc' : ml_pc (a3 0) := by rw [z3]; exact ht
  refine ml_carry0 ho' hc' z2 (fun pc b hpc hb _ => ?_)
  refine nm_r (e' := (1 : Int32)) (by decide) (br_f (by decide) (ml_out hpc (ml_r111 hpc z80 z81 ?_)))
  have e0 : a 0 = a4 0 := (ha 0 (by omega)).trans rfl
  have e1 : a 1 = a5 0 := (ha 1 (by omega)).trans rfl
  have hb' : b 0 = ml_R (a1 0) (a 0) (a 1) (a3 0) := hb
  rw [e0, e1, z1, z3] at hb'
  rw [hb']
  exact H g5 g6 g7 b
/-- the picture behind 'prepare': e1 the program's outcome, e2 and e3 the mutants' -/
def ml_P (e1 e2 e3 : Int32) (u : St2) : Prop := match u with
  | (f1, f2, f3, f4, f5, f6, f7, a1, a2, a3, a4, a5, a6, a7, a8, a9, a10, a11, a12, a13, a14, a15, a16, a17, a18, a19, a20) => f1 = 1 ∧ f2 = 1 ∧ f3 = 2 ∧ f4 = 1 ∧ a6 0 = 1 ∧ a7 0 = e1 ∧ a11 0 = 1 ∧ a12 0 = e1 ∧ a14 0 = 1 ∧ a14 1 = 1 ∧ a15 0 = e2 ∧ a15 1 = e3 ∧ a16 0 = 1
theorem ml_prepare0 {post : St2 → Prop} {f5 f6 f7 : Int32} {a1 a2 a3 a4 a5 a6 a7 a8 a9 a10 a11 a12 a13 a14 a15 a16 a17 a18 a19 a20 : Nat → Int32} {p q t d x y : Int32} (hZ : ml_Z p q t d a1 a2 a3 a8 a9 a10) (h4 : a4 0 = x) (h5 : a5 0 = y) (h6 : a6 0 = 1) (h7 : a7 0 = ml_R p x y t)
    (H : ∀ u : St2, ml_P (ml_R p x y t) (ml_R q x y t) (ml_R p x y d) u → post u) :
    wpX_prepare post (1, 1, 2, 0, f5, f6, f7, a1, a2, a3, a4, a5, a6, a7, a8, a9, a10, a11, a12, a13, a14, a15, a16, a17, a18, a19, a20) := by
  unfold wpX_prepare
  refine br_t rfl ⟨2, br_f (by decide) ?_⟩
  refine ml_runTest hZ h4 h5 (fun g5 g6 g7 a => ?_)
  refine nm_r (e' := (1 : Int32)) (by decide) (br_t (by decide) (H _ ?_))
  exact ⟨rfl, rfl, rfl, rfl, h6, h7, rfl, rfl, rfl, rfl, rfl, rfl, rfl⟩
theorem ml_prepare1 {post : St2 → Prop} {e1 e2 e3 : Int32} {u : St2} (hP : ml_P e1 e2 e3 u) (H : post u) : wpX_prepare post u := by
  obtain ⟨f1, f2, f3, f4, f5, f6, f7, a1, a2, a3, a4, a5, a6, a7, a8, a9, a10, a11, a12, a13, a14, a15, a16, a17, a18, a19, a20⟩ := u
  have hr : ¬ f4 = 0 := by
    rw [hP.2.2.2.1]
    decide
  unfold wpX_prepare
  exact br_f hr H
end
section
theorem ml_passes0 {post : Int32 → St2 → Prop} {f5 f6 f7 : Int32} {a1 a2 a3 a4 a5 a6 a7 a8 a9 a10 a11 a12 a13 a14 a15 a16 a17 a18 a19 a20 : Nat → Int32} {p q t d x y : Int32} (hZ : ml_Z p q t d a1 a2 a3 a8 a9 a10) (h4 : a4 0 = x) (h5 : a5 0 = y) (h6 : a6 0 = 1) (h7 : a7 0 = ml_R p x y t)
    (H : ∀ u : St2, ml_P (ml_R p x y t) (ml_R q x y t) (ml_R p x y d) u → post 1 u) :
    wpX_passes post (1, 1, 2, 0, f5, f6, f7, a1, a2, a3, a4, a5, a6, a7, a8, a9, a10, a11, a12, a13, a14, a15, a16, a17, a18, a19, a20) 0 := by
  have i : vp_in 0 6 := ml_i0 (by decide) (by decide)
  unfold wpX_passes
  refine br_f (by decide) (br_t (by decide) (ml_prepare0 hZ h4 h5 h6 h7 (fun u hu => ?_)))
  obtain ⟨f1, f2, f3, f4, f5, f6, f7, a1, a2, a3, a4, a5, a6, a7, a8, a9, a10, a11, a12, a13, a14, a15, a16, a17, a18, a19, a20⟩ := u
  have hu' := hu
  obtain ⟨_, _, _, _, k6, k7, k11, k12, _⟩ := hu'
  exact ⟨i, i, br_t (k11.trans k6.symm) ⟨i, br_f (fun z => absurd (k11.symm.trans z) (by decide)) ⟨i, i, br_t (k12.trans k7.symm) (H _ hu)⟩⟩⟩
theorem ml_output0 {post : Int32 → St2 → Prop} {e1 e2 e3 : Int32} {u : St2} (hP : ml_P e1 e2 e3 u) (H : post e2 u) : wpX_output post u 0 0 := by
  obtain ⟨f1, f2, f3, f4, f5, f6, f7, a1, a2, a3, a4, a5, a6, a7, a8, a9, a10, a11, a12, a13, a14, a15, a16, a17, a18, a19, a20⟩ := u
  have hP' := hP
  obtain ⟨rfl, rfl, rfl, rfl, k6, k7, k11, k12, k140, k141, k150, k151, k160⟩ := hP'
  unfold wpX_output wpX_noMutant
  refine br_f (by decide) (br_t (by decide) (br_t rfl (br_f (by decide) (br_t (by decide) (ml_prepare1 hP ⟨pk_in 0 144 (by decide), ?_⟩)))))
  have e : a15 ((0 : Int32) * 24 + 0).toNatClampNeg = e2 := k150
  rw [e]
  exact H
theorem ml_output1 {post : Int32 → St2 → Prop} {e1 e2 e3 : Int32} {u : St2} (hP : ml_P e1 e2 e3 u) (H : post e3 u) : wpX_output post u 1 0 := by
  obtain ⟨f1, f2, f3, f4, f5, f6, f7, a1, a2, a3, a4, a5, a6, a7, a8, a9, a10, a11, a12, a13, a14, a15, a16, a17, a18, a19, a20⟩ := u
  have hP' := hP
  obtain ⟨rfl, rfl, rfl, rfl, k6, k7, k11, k12, k140, k141, k150, k151, k160⟩ := hP'
  unfold wpX_output wpX_noMutant
  refine br_f (by decide) (br_t (by decide) (br_t rfl (br_f (by decide) (br_t (by decide) (ml_prepare1 hP ⟨pk_in 1 144 (by decide), ?_⟩)))))
  have e : a15 ((0 : Int32) * 24 + 1).toNatClampNeg = e3 := k151
  rw [e]
  exact H
theorem ml_length {post : Int32 → St2 → Prop} {e1 e2 e3 : Int32} {u : St2} (hP : ml_P e1 e2 e3 u) (H : post 1 u) : wpX_length post u 0 0 := by
  obtain ⟨f1, f2, f3, f4, f5, f6, f7, a1, a2, a3, a4, a5, a6, a7, a8, a9, a10, a11, a12, a13, a14, a15, a16, a17, a18, a19, a20⟩ := u
  have hP' := hP
  obtain ⟨rfl, rfl, rfl, rfl, k6, k7, k11, k12, k140, k141, k150, k151, k160⟩ := hP'
  unfold wpX_length wpX_noMutant
  refine br_f (by decide) (br_t (by decide) (br_t rfl (br_f (by decide) (br_t (by decide) (ml_prepare1 hP ⟨pk_in 0 144 (by decide), ?_⟩)))))
  have e : a16 ((0 : Int32) * 24 + 0).toNatClampNeg = 1 := k160
  rw [e]
  exact H
/-- w if the outcomes e and e1 differ -/
def ml_b (e e1 w : Int32) : Int32 := if e = e1 then 0 else w
/-- 1 if they are the same -/
def ml_s (e e1 : Int32) : Int32 := if e = e1 then 1 else 0
theorem ml_two (e e1 : Int32) : ((∀ w, ml_b e e1 w = 0) ∧ ml_s e e1 = 1) ∨ ((∀ w, ml_b e e1 w = w) ∧ ml_s e e1 = 0) := by
  by_cases h : e = e1
  · exact Or.inl ⟨fun w => if_pos h, if_pos h⟩
  · exact Or.inr ⟨fun w => if_neg h, if_neg h⟩
theorem ml_killsIt {post : Int32 → Prop} {f1 f2 f3 f4 f5 f6 f7 : Int32} {a1 a2 a3 a4 a5 a6 a7 a8 a9 a10 a11 a12 a13 a14 a15 a16 a17 a18 a19 a20 : Nat → Int32} {m : Int32} (i : vp_in m 144) (h6 : a6 0 = 1) (h14 : a14 m.toNatClampNeg = 1) (H0 : a15 m.toNatClampNeg = a7 0 → post 0) (H1 : ¬ a15 m.toNatClampNeg = a7 0 → post 1) : wpX_killsIt post (f1, f2, f3, f4, f5, f6, f7, a1, a2, a3, a4, a5, a6, a7, a8, a9, a10, a11, a12, a13, a14, a15, a16, a17, a18, a19, a20) 0 m := by
  have j : vp_in 0 6 := ml_i0 (by decide) (by decide)
  unfold wpX_killsIt
  exact nm_r (e' := m) (ml_z24 m) ⟨i, j, br_t (h14.trans h6.symm) ⟨i, br_f (fun z => absurd (h14.symm.trans z) (by decide)) ⟨i, j, br_c H0 H1⟩⟩⟩
/-- one mutant in the row of test 0 -/
theorem ml_gk_in {post : St2 → Prop} {J : Int32 → (Nat → Int32) → (Nat → Int32) → (Nat → Int32) → (Nat → Int32) → (Nat → Int32) → (Nat → Int32) → (Nat → Int32) → (Nat → Int32) → (Nat → Int32) → (Nat → Int32) → (Nat → Int32) → (Nat → Int32) → (Nat → Int32) → (Nat → Int32) → (Nat → Int32) → (Nat → Int32) → (Nat → Int32) → (Nat → Int32) → (Nat → Int32) → (Nat → Int32) → Prop} {f1 f4 f5 f6 f7 : Int32} {a1 a2 a3 a4 a5 a6 a7 a8 a9 a10 a11 a12 a13 a14 a15 a16 a17 a18 a19 a20 : Nat → Int32} {n : Nat} {m m' w e e1 : Int32} (hm : ¬ (2 : Int32) ≤ m) (i : vp_in m 144) (hw : (1 : Int32) <<< (m &&& 31) = w) (hs : m + 1 = m')
    (h6 : a6 0 = 1) (h14 : a14 m.toNatClampNeg = 1) (h7 : a7 0 = e1) (h15 : a15 m.toNatClampNeg = e)
    (H : ∀ a : Nat → Int32, a 0 = a18 0 ||| ml_b e e1 w → wX_gatherKills_21 post J 0 f1 1 2 f4 f5 f6 f7 n m' a1 a2 a3 a4 a5 a6 a7 a8 a9 a10 a11 a12 a13 a14 a15 a16 a17 a a19 a20) :
    wX_gatherKills_21 post J 0 f1 1 2 f4 f5 f6 f7 (n + 1) m a1 a2 a3 a4 a5 a6 a7 a8 a9 a10 a11 a12 a13 a14 a15 a16 a17 a18 a19 a20 := by
  have j : vp_in 0 6 := ml_i0 (by decide) (by decide)
  refine br_f hm (br_f (by decide) (ml_killsIt i h6 h14 (fun g => ?_) (fun g => ?_)))
  · rw [h15, h7] at g
    exact br_t rfl (nm_r hs (H a18 (by unfold ml_b; rw [if_pos g, Int32.or_zero])))
  · rw [h15, h7] at g
    refine br_f (by decide) ⟨j, j, nm_r (e' := upd a18 0 (a18 0 ||| w)) (by rw [← hw]; rfl) (nm_r hs (H _ ?_))⟩
    unfold ml_b
    rw [if_neg g, pk_us]
/-- a row without a test -/
theorem ml_gk_skip {post : St2 → Prop} {f1 f4 f5 f6 f7 : Int32} {a1 a2 a3 a4 a5 a6 a7 a8 a9 a10 a11 a12 a13 a14 a15 a16 a17 a18 a19 a20 : Nat → Int32} {n : Nat} {t t' : Int32} (ht : ¬ (6 : Int32) ≤ t) (i : vp_in t 6) (h1 : (1 : Int32) ≤ t) (hs : t + 1 = t') (hn : (0 : Nat) ≠ t.toNatClampNeg)
    (H : ∀ a : Nat → Int32, a 0 = a18 0 → wX_gatherKills_6 post f1 1 2 f4 f5 f6 f7 n t' a1 a2 a3 a4 a5 a6 a7 a8 a9 a10 a11 a12 a13 a14 a15 a16 a17 a a19 a20) :
    wX_gatherKills_6 post f1 1 2 f4 f5 f6 f7 (n + 1) t a1 a2 a3 a4 a5 a6 a7 a8 a9 a10 a11 a12 a13 a14 a15 a16 a17 a18 a19 a20 := by
  refine br_f ht ⟨i, nm_e ⟨1, ?_⟩⟩
  exact br_f (by decide) (br_t h1 (nm_r hs (H _ (pk_un hn))))
/-- the row of the one test -/
theorem ml_gk_0 {post : St2 → Prop} {f1 f4 f5 f6 f7 : Int32} {a1 a2 a3 a4 a5 a6 a7 a8 a9 a10 a11 a12 a13 a14 a15 a16 a17 a18 a19 a20 : Nat → Int32} {n : Nat} {e1 e2 e3 : Int32} (k6 : a6 0 = 1) (k7 : a7 0 = e1) (k140 : a14 0 = 1) (k141 : a14 1 = 1) (k150 : a15 0 = e2) (k151 : a15 1 = e3)
    (H : ∀ a : Nat → Int32, a 0 = ml_b e2 e1 1 ||| ml_b e3 e1 2 → wX_gatherKills_6 post f1 1 2 f4 f5 f6 f7 n 1 a1 a2 a3 a4 a5 a6 a7 a8 a9 a10 a11 a12 a13 a14 a15 a16 a17 a a19 a20) :
    wX_gatherKills_6 post f1 1 2 f4 f5 f6 f7 (n + 1) 0 a1 a2 a3 a4 a5 a6 a7 a8 a9 a10 a11 a12 a13 a14 a15 a16 a17 a18 a19 a20 := by
  refine br_f (by decide) ⟨ml_i0 (by decide) (by decide), nm_r (e' := upd a18 0 0) rfl ⟨2 + 1, ?_⟩⟩
  refine ml_gk_in (n := 1 + 1) (m := 0) (m' := 1) (w := 1) (e := e2) (e1 := e1) (by decide) (ml_i0 (by decide) (by decide)) (by decide) (by decide) k6 k140 k7 k150 (fun b hb => ?_)
  refine ml_gk_in (n := 0 + 1) (m := 1) (m' := 2) (w := 2) (e := e3) (e1 := e1) (by decide) (ml_i1 (by decide) (by decide)) (by decide) (by decide) k6 k141 k7 k151 (fun c hc => ?_)
  refine br_t (by decide) (nm_r (e' := (1 : Int32)) (by decide) (H c ?_))
  have hb' : b 0 = 0 ||| ml_b e2 e1 1 := hb
  rw [hc, hb', Int32.zero_or]
theorem ml_gk_end {post : St2 → Prop} {f1 f2 f3 f4 f5 f6 f7 : Int32} {a1 a2 a3 a4 a5 a6 a7 a8 a9 a10 a11 a12 a13 a14 a15 a16 a17 a18 a19 a20 : Nat → Int32} {n : Nat} (H : post (f1, f2, f3, f4, f5, f6, f7, a1, a2, a3, a4, a5, a6, a7, a8, a9, a10, a11, a12, a13, a14, a15, a16, a17, a18, a19, a20)) : wX_gatherKills_6 post f1 f2 f3 f4 f5 f6 f7 (n + 1) 6 a1 a2 a3 a4 a5 a6 a7 a8 a9 a10 a11 a12 a13 a14 a15 a16 a17 a18 a19 a20 := br_t (by decide) H
def ml_K (k : Int32) (u : St2) : Prop := match u with
  | (f1, f2, f3, f4, f5, f6, f7, a1, a2, a3, a4, a5, a6, a7, a8, a9, a10, a11, a12, a13, a14, a15, a16, a17, a18, a19, a20) => a18 0 = k
theorem ml_gather {post : St2 → Prop} {e1 e2 e3 : Int32} {u : St2} (hP : ml_P e1 e2 e3 u) (H : ∀ u' : St2, ml_P e1 e2 e3 u' → ml_K (ml_b e2 e1 1 ||| ml_b e3 e1 2) u' → post u') : wpX_gatherKills post u := by
  obtain ⟨f1, f2, f3, f4, f5, f6, f7, a1, a2, a3, a4, a5, a6, a7, a8, a9, a10, a11, a12, a13, a14, a15, a16, a17, a18, a19, a20⟩ := u
  have hP' := hP
  obtain ⟨rfl, rfl, rfl, rfl, k6, k7, k11, k12, k140, k141, k150, k151, k160⟩ := hP'
  unfold wpX_gatherKills
  refine ml_prepare1 hP ⟨6 + 1, ?_⟩
  refine ml_gk_0 (n := 5 + 1) (e1 := e1) (e2 := e2) (e3 := e3) k6 k7 k140 k141 k150 k151 (fun c hc => ?_)
  refine ml_gk_skip (n := 4 + 1) (t := 1) (t' := 2) (by decide) (pk_in 1 6 (by decide)) (by decide) (by decide) (by decide) (fun c1 h1 => ?_)
  refine ml_gk_skip (n := 3 + 1) (t := 2) (t' := 3) (by decide) (pk_in 2 6 (by decide)) (by decide) (by decide) (by decide) (fun c2 h2 => ?_)
  refine ml_gk_skip (n := 2 + 1) (t := 3) (t' := 4) (by decide) (pk_in 3 6 (by decide)) (by decide) (by decide) (by decide) (fun c3 h3 => ?_)
  refine ml_gk_skip (n := 1 + 1) (t := 4) (t' := 5) (by decide) (pk_in 4 6 (by decide)) (by decide) (by decide) (by decide) (fun c4 h4 => ?_)
  refine ml_gk_skip (n := 0 + 1) (t := 5) (t' := 6) (by decide) (pk_in 5 6 (by decide)) (by decide) (by decide) (by decide) (fun c5 h5 => ?_)
  refine ml_gk_end (H _ ⟨rfl, rfl, rfl, rfl, k6, k7, k11, k12, k140, k141, k150, k151, k160⟩ ?_)
  have k : c5 0 = ml_b e2 e1 1 ||| ml_b e3 e1 2 := by
    rw [h5, h4, h3, h2, h1, hc]
  exact k
/-- how many of the first n bits are set -/
def ml_cnt (s : Int32) : Nat → Int32
  | 0 => 0
  | n + 1 => ml_cnt s n + ((s >>> (nI n &&& 31)) &&& 1)
theorem ml_c0 : ml_cnt 0 24 = 0 := by decide +kernel
theorem ml_c1 : ml_cnt 1 24 = 1 := by decide +kernel
theorem ml_c2 : ml_cnt 2 24 = 1 := by decide +kernel
theorem ml_c3 : ml_cnt 3 24 = 2 := by decide +kernel
theorem ml_ones {post : Int32 → Prop} {u : St0} {s v : Int32} (hv : ml_cnt s 24 = v) (H : post v) : wpX_ones post u s := by
  subst hv
  unfold wpX_ones
  exact pk_loop (σ := Unit) (fun n i _ => wX_ones_4 post s n (ml_cnt s i) (nI i)) (fun _ _ => True) 24 0 () (by omega) trivial
    (fun n _ _ => pk_le 24 24 (fun _ => H) (fun z => absurd z (by omega)))
    (fun n i _ hi _ hw => pk_le 24 i (fun z => absurd z (by omega)) (fun _ => nm_e (nm_r (nI_1 i) (hw () trivial))))
theorem ml_killed {post : Int32 → St2 → Prop} {e1 e2 e3 v : Int32} {u : St2} (hP : ml_P e1 e2 e3 u) (hv : ml_cnt (ml_b e2 e1 1 ||| ml_b e3 e1 2) 24 = v) (H : ∀ u' : St2, ml_P e1 e2 e3 u' → post v u') : wpX_killed post u 1 := by
  obtain ⟨f1, f2, f3, f4, f5, f6, f7, a1, a2, a3, a4, a5, a6, a7, a8, a9, a10, a11, a12, a13, a14, a15, a16, a17, a18, a19, a20⟩ := u
  unfold wpX_killed
  refine ml_gather hP (fun u hu hk => ?_)
  obtain ⟨f1, f2, f3, f4, f5, f6, f7, a1, a2, a3, a4, a5, a6, a7, a8, a9, a10, a11, a12, a13, a14, a15, a16, a17, a18, a19, a20⟩ := u
  have hk' : a18 0 = ml_b e2 e1 1 ||| ml_b e3 e1 2 := hk
  refine ⟨7, br_f (by decide) (br_t (by decide) ⟨ml_i0 (by decide) (by decide), nm_r (e' := ml_b e2 e1 1 ||| ml_b e3 e1 2) (by rw [Int32.zero_or]; exact hk') (nm_r (e' := (1 : Int32)) (by decide) ?_)⟩)⟩
  refine br_f (by decide) (br_f (by decide) (nm_r (e' := (2 : Int32)) (by decide) ?_))
  refine br_f (by decide) (br_f (by decide) (nm_r (e' := (3 : Int32)) (by decide) ?_))
  refine br_f (by decide) (br_f (by decide) (nm_r (e' := (4 : Int32)) (by decide) ?_))
  refine br_f (by decide) (br_f (by decide) (nm_r (e' := (5 : Int32)) (by decide) ?_))
  refine br_f (by decide) (br_f (by decide) (nm_r (e' := (6 : Int32)) (by decide) ?_))
  exact br_t (by decide) (ml_ones hv (H _ hu))
theorem ml_alike {post : Int32 → Prop} {f1 f3 f4 f5 f6 f7 : Int32} {a1 a2 a3 a4 a5 a6 a7 a8 a9 a10 a11 a12 a13 a14 a15 a16 a17 a18 a19 a20 : Nat → Int32} {m : Int32} (i : vp_in m 144) (h : a14 m.toNatClampNeg = a11 0) (H1 : a15 m.toNatClampNeg = a12 0 → post 1) (H0 : ¬ a15 m.toNatClampNeg = a12 0 → post 0) : wpX_alike post (f1, 1, f3, f4, f5, f6, f7, a1, a2, a3, a4, a5, a6, a7, a8, a9, a10, a11, a12, a13, a14, a15, a16, a17, a18, a19, a20) m := by
  have j : vp_in 0 6 := ml_i0 (by decide) (by decide)
  unfold wpX_alike
  refine ⟨2, br_f (by decide) (nm_r (e' := m) (ml_z24 m) ⟨i, j, br_t h ⟨i, j, br_c (fun g => nm_r (e' := (1 : Int32)) (by decide) ?_) H0⟩⟩)⟩
  exact br_t (by decide) (H1 g)
theorem ml_same_in {post : Int32 → St2 → Prop} {f1 f4 f5 f6 f7 : Int32} {a1 a2 a3 a4 a5 a6 a7 a8 a9 a10 a11 a12 a13 a14 a15 a16 a17 a18 a19 a20 : Nat → Int32} {n : Nat} {z m m' e e1 : Int32} (hm : ¬ (2 : Int32) ≤ m) (i : vp_in m 144) (hs : m + 1 = m') (h : a14 m.toNatClampNeg = a11 0) (h15 : a15 m.toNatClampNeg = e) (h12 : a12 0 = e1)
    (H : wX_same_8 post f1 1 2 f4 f5 f6 f7 a1 a2 a3 a4 a5 a6 a7 a8 a9 a10 a11 a12 a13 a14 a15 a16 a17 a18 a19 a20 n (z + ml_s e e1) m') : wX_same_8 post f1 1 2 f4 f5 f6 f7 a1 a2 a3 a4 a5 a6 a7 a8 a9 a10 a11 a12 a13 a14 a15 a16 a17 a18 a19 a20 (n + 1) z m := by
  refine br_f hm (ml_alike i h (fun g => ?_) (fun g => ?_))
  · rw [h15, h12] at g
    exact br_f (by decide) (nm_r (e' := z + ml_s e e1) (by unfold ml_s; rw [if_pos g]) (nm_r hs H))
  · rw [h15, h12] at g
    have k : z + ml_s e e1 = z := by
      unfold ml_s
      rw [if_neg g, Int32.add_zero]
    rw [k] at H
    exact br_t rfl (nm_r hs H)
theorem ml_same {post : Int32 → St2 → Prop} {e1 e2 e3 : Int32} {u : St2} (hP : ml_P e1 e2 e3 u) (H : post (0 + ml_s e2 e1 + ml_s e3 e1) u) : wpX_same post u := by
  obtain ⟨f1, f2, f3, f4, f5, f6, f7, a1, a2, a3, a4, a5, a6, a7, a8, a9, a10, a11, a12, a13, a14, a15, a16, a17, a18, a19, a20⟩ := u
  have hP' := hP
  obtain ⟨rfl, rfl, rfl, rfl, k6, k7, k11, k12, k140, k141, k150, k151, k160⟩ := hP'
  unfold wpX_same
  refine ml_prepare1 hP ⟨3, ?_⟩
  refine ml_same_in (m := 0) (m' := 1) (e := e2) (e1 := e1) (by decide) (ml_i0 (by decide) (by decide)) (by decide) (k140.trans k11.symm) k150 k12 ?_
  refine ml_same_in (m := 1) (m' := 2) (e := e3) (e1 := e1) (by decide) (ml_i1 (by decide) (by decide)) (by decide) (k141.trans k11.symm) k151 k12 ?_
  exact br_t (by decide) H
theorem ml_killersOf {post : Int32 → Prop} {f1 f3 f4 f5 f6 f7 : Int32} {a1 a2 a3 a4 a5 a6 a7 a8 a9 a10 a11 a12 a13 a14 a15 a16 a17 a18 a19 a20 : Nat → Int32} {m v : Int32} (hv : (0 : Int32) ||| (((a18 0 >>> (m &&& 31)) &&& 1) <<< ((0 : Int32) &&& 31)) = v) (H : post v) : wpX_killersOf post (f1, 1, f3, f4, f5, f6, f7, a1, a2, a3, a4, a5, a6, a7, a8, a9, a10, a11, a12, a13, a14, a15, a16, a17, a18, a19, a20) m := by
  unfold wpX_killersOf
  refine ⟨2, br_f (by decide) ⟨ml_i0 (by decide) (by decide), nm_r (e' := v) hv (nm_r (e' := (1 : Int32)) (by decide) ?_)⟩⟩
  exact br_t (by decide) H
theorem ml_choices0 {post : Int32 → Prop} {f1 f4 f5 f6 f7 : Int32} {a1 a2 a3 a4 a5 a6 a7 a8 a9 a10 a11 a12 a13 a14 a15 a16 a17 a18 a19 a20 : Nat → Int32} (H : post 0) : wpX_choices post (f1, 1, 2, f4, f5, f6, f7, a1, a2, a3, a4, a5, a6, a7, a8, a9, a10, a11, a12, a13, a14, a15, a16, a17, a18, a19, a20) 0 := by
  unfold wpX_choices
  refine ⟨3, br_f (by decide) (br_f (by decide) (nm_r (e' := (1 : Int32)) (by decide) ?_))⟩
  refine br_f (by decide) (br_f (by decide) (nm_r (e' := (2 : Int32)) (by decide) ?_))
  exact br_t (by decide) H
theorem ml_choices1 {post : Int32 → Prop} {f1 f4 f5 f6 f7 : Int32} {a1 a2 a3 a4 a5 a6 a7 a8 a9 a10 a11 a12 a13 a14 a15 a16 a17 a18 a19 a20 : Nat → Int32} {K : Int32} (hK : K = 1 ∨ K = 2 ∨ K = 3) (h18 : a18 0 = K) (H : post 1) : wpX_choices post (f1, 1, 2, f4, f5, f6, f7, a1, a2, a3, a4, a5, a6, a7, a8, a9, a10, a11, a12, a13, a14, a15, a16, a17, a18, a19, a20) K := by
  unfold wpX_choices
  rcases hK with rfl | rfl | rfl
  · refine ⟨3, br_f (by decide) (br_t (by decide) (ml_killersOf (v := 1) (by rw [h18]; decide) (ml_ones ml_c1 (br_f (by decide) (nm_r (e' := (1 : Int32)) (by decide) ?_)))))⟩
    refine br_f (by decide) (br_f (by decide) (nm_r (e' := (2 : Int32)) (by decide) ?_))
    exact br_t (by decide) H
  · refine ⟨3, br_f (by decide) (br_f (by decide) (nm_r (e' := (1 : Int32)) (by decide) ?_))⟩
    refine br_f (by decide) (br_t (by decide) (ml_killersOf (v := 1) (by rw [h18]; decide) (ml_ones ml_c1 (br_f (by decide) (nm_r (e' := (2 : Int32)) (by decide) ?_)))))
    exact br_t (by decide) H
  · refine ⟨3, br_f (by decide) (br_t (by decide) (ml_killersOf (v := 1) (by rw [h18]; decide) (ml_ones ml_c1 (br_f (by decide) (nm_r (e' := (1 : Int32)) (by decide) ?_)))))⟩
    refine br_f (by decide) (br_t (by decide) (ml_killersOf (v := 1) (by rw [h18]; decide) (ml_ones ml_c1 (br_t (by decide) (nm_r (e' := (2 : Int32)) (by decide) ?_)))))
    exact br_t (by decide) H
theorem ml_killsOf {post : Int32 → Prop} {f1 f2 f3 f4 f5 f6 f7 : Int32} {a1 a2 a3 a4 a5 a6 a7 a8 a9 a10 a11 a12 a13 a14 a15 a16 a17 a18 a19 a20 : Nat → Int32} (H : post (a18 0)) : wpX_killsOf post (f1, f2, f3, f4, f5, f6, f7, a1, a2, a3, a4, a5, a6, a7, a8, a9, a10, a11, a12, a13, a14, a15, a16, a17, a18, a19, a20) 1 := by
  unfold wpX_killsOf
  exact ⟨1, br_f (by decide) (br_t (by decide) ⟨ml_i0 (by decide) (by decide), H⟩)⟩
theorem ml_smallest0 {post : Int32 → St2 → Prop} {f1 f4 f5 f6 f7 : Int32} {a1 a2 a3 a4 a5 a6 a7 a8 a9 a10 a11 a12 a13 a14 a15 a16 a17 a18 a19 a20 : Nat → Int32} (H : ∀ b c : Nat → Int32, post 0 (f1, 1, 2, f4, f5, f6, f7, a1, a2, a3, a4, a5, a6, a7, a8, a9, a10, a11, a12, a13, a14, a15, a16, a17, a18, b, c)) : wpX_smallest post (f1, 1, 2, f4, f5, f6, f7, a1, a2, a3, a4, a5, a6, a7, a8, a9, a10, a11, a12, a13, a14, a15, a16, a17, a18, a19, a20) 0 := by
  have i0 : vp_in 0 8 := ml_i0 (by decide) (by decide)
  unfold wpX_smallest
  refine nm_e (ml_choices0 (nm_e ⟨2, ?_⟩))
  refine br_f (by decide) (br_f (by decide) ⟨i0, br_t rfl (br_f (by decide) ?_)⟩)
  unfold wX_smallest_54
  refine ⟨i0, br_t rfl (nm_r (e' := (-1 : Int32)) (by decide) (nm_r (e' := (1 : Int32)) (by decide) ?_))⟩
  exact br_f (by decide) (br_t (by decide) (H _ _))
theorem ml_smallest1 {post : Int32 → St2 → Prop} {f1 f4 f5 f6 f7 : Int32} {a1 a2 a3 a4 a5 a6 a7 a8 a9 a10 a11 a12 a13 a14 a15 a16 a17 a18 a19 a20 : Nat → Int32} {K : Int32} (hK : K = 1 ∨ K = 2 ∨ K = 3) (h18 : a18 0 = K) (H : ∀ b c : Nat → Int32, post 1 (f1, 1, 2, f4, f5, f6, f7, a1, a2, a3, a4, a5, a6, a7, a8, a9, a10, a11, a12, a13, a14, a15, a16, a17, a18, b, c)) : wpX_smallest post (f1, 1, 2, f4, f5, f6, f7, a1, a2, a3, a4, a5, a6, a7, a8, a9, a10, a11, a12, a13, a14, a15, a16, a17, a18, a19, a20) K := by
  have hK0 : ¬ K = 0 := by
    rcases hK with rfl | rfl | rfl <;> decide
  have hKx : K &&& (a18 0 ^^^ (-1)) = 0 := by
    rw [h18]
    rcases hK with rfl | rfl | rfl <;> decide
  have h10 : ¬ (1 : Int32) = 0 := by decide
  have i0 : vp_in 0 8 := ml_i0 (by decide) (by decide)
  have i1 : vp_in 1 8 := ml_i1 (by decide) (by decide)
  have x1 : (1 : Int32) &&& (-(1 : Int32)) = 1 := by decide
  have u1 : upd (upd a20 0 1) 0 ((1 : Int32) - 1) = upd (upd a20 0 1) 0 0 := by rw [show (1 : Int32) - 1 = 0 by decide]
  unfold wpX_smallest
  refine nm_e (ml_choices1 hK h18 (nm_r (e' := upd a20 0 1) rfl ⟨4, ?_⟩))
  refine br_f (by decide) (br_f (by decide) ⟨i0, br_f hK0 ?_⟩)
  unfold wX_smallest_54
  refine ⟨i0, br_f hK0 (br_f (by decide) ⟨i0, br_f h10 ⟨i0, i0, nm_r (e' := (1 : Int32)) x1 ⟨i0, i0, nm_r (e' := upd (upd a20 0 1) 0 0) u1 ⟨i0, ml_killsOf ?_⟩⟩⟩⟩)⟩
  refine nm_r (e' := (0 : Int32)) hKx (nm_r (e' := (1 : Int32)) (by decide) ⟨i1, nm_r (e' := upd (upd a19 0 K) 1 0) rfl (ml_choices0 ⟨i1, nm_r (e' := upd (upd (upd a20 0 1) 0 0) 1 0) rfl (nm_r (e' := (1 : Int32)) (by decide) ?_)⟩)⟩)
  refine br_f (by decide) (br_f (by decide) ⟨i1, br_t rfl (br_f (by decide) ?_)⟩)
  unfold wX_smallest_54
  refine ⟨i1, br_t rfl (nm_r (e' := (0 : Int32)) (by decide) (nm_r (e' := (2 : Int32)) (by decide) ?_))⟩
  refine br_f (by decide) (br_f (by decide) ⟨i0, br_f hK0 ?_⟩)
  unfold wX_smallest_54
  refine ⟨i0, br_f hK0 (br_t (by decide) (nm_r (e' := (-1 : Int32)) (by decide) (nm_r (e' := (3 : Int32)) (by decide) ?_)))⟩
  exact br_f (by decide) (br_t (by decide) (H _ _))
theorem ml_smallest {post : Int32 → St2 → Prop} {f1 f4 f5 f6 f7 : Int32} {a1 a2 a3 a4 a5 a6 a7 a8 a9 a10 a11 a12 a13 a14 a15 a16 a17 a18 a19 a20 : Nat → Int32} {K v : Int32} (hK : (K = 0 ∧ v = 0) ∨ ((K = 1 ∨ K = 2 ∨ K = 3) ∧ v = 1)) (h18 : a18 0 = K) (H : ∀ u : St2, post v u) : wpX_smallest post (f1, 1, 2, f4, f5, f6, f7, a1, a2, a3, a4, a5, a6, a7, a8, a9, a10, a11, a12, a13, a14, a15, a16, a17, a18, a19, a20) K := by
  rcases hK with ⟨rfl, rfl⟩ | ⟨hK, rfl⟩
  · exact ml_smallest0 (fun b c => H _)
  · exact ml_smallest1 hK h18 (fun b c => H _)
theorem ml_enough {post : Int32 → St2 → Prop} {e1 e2 e3 K v : Int32} {u : St2} (hP : ml_P e1 e2 e3 u) (hk : ml_b e2 e1 1 ||| ml_b e3 e1 2 = K) (hK : (K = 0 ∧ v = 0) ∨ ((K = 1 ∨ K = 2 ∨ K = 3) ∧ v = 1)) (H : ∀ u' : St2, post v u') : wpX_enough post u := by
  obtain ⟨f1, f2, f3, f4, f5, f6, f7, a1, a2, a3, a4, a5, a6, a7, a8, a9, a10, a11, a12, a13, a14, a15, a16, a17, a18, a19, a20⟩ := u
  unfold wpX_enough
  refine ml_gather hP (fun u hu hk' => ?_)
  obtain ⟨f1, f2, f3, f4, f5, f6, f7, a1, a2, a3, a4, a5, a6, a7, a8, a9, a10, a11, a12, a13, a14, a15, a16, a17, a18, a19, a20⟩ := u
  have k : a18 0 = K := Eq.trans hk' hk
  obtain ⟨rfl, rfl, rfl, rfl, _⟩ := hu
  refine ⟨2, br_f (by decide) ⟨ml_i0 (by decide) (by decide), nm_r (e' := K) (by rw [Int32.zero_or]; exact k) (nm_r (e' := (1 : Int32)) (by decide) ?_)⟩⟩
  refine br_t (by decide) (ml_smallest hK k (fun u => ?_))
  obtain ⟨f1, f2, f3, f4, f5, f6, f7, a1, a2, a3, a4, a5, a6, a7, a8, a9, a10, a11, a12, a13, a14, a15, a16, a17, a18, a19, a20⟩ := u
  exact H _
end
section
theorem ml_171 {post : Int32 → St0 → Prop} {mc ms kc ks : Nat} {e1 e2 e3 : Int32} {f1 f2 f3 f4 f5 f6 f7 : Int32} {a1 a2 a3 a4 a5 a6 a7 a8 a9 a10 a11 a12 a13 a14 a15 a16 a17 a18 a19 a20 : Nat → Int32} (hP : ml_P e1 e2 e3 (f1, f2, f3, f4, f5, f6, f7, a1, a2, a3, a4, a5, a6, a7, a8, a9, a10, a11, a12, a13, a14, a15, a16, a17, a18, a19, a20)) (H : post 1 ()) : wL_lawOf_171 post mc ms (ml_b e3 e1 1) (ml_b e2 e1 1) kc ks f1 f2 f3 f4 f5 f6 f7 a1 a2 a3 a4 a5 a6 a7 a8 a9 a10 a11 a12 a13 a14 a15 a16 a17 a18 a19 a20 := by
  have main : ∀ v w : Int32, ml_b e2 e1 1 + ml_b e3 e1 1 = v → ml_cnt (ml_b e2 e1 1 ||| ml_b e3 e1 2) 24 = v → 0 + ml_s e2 e1 + ml_s e3 e1 = 2 - v → ((v = 0 ∧ w = 0) ∨ (¬ v ≤ 0 ∧ w = 1)) → (∃ K : Int32, ml_b e2 e1 1 ||| ml_b e3 e1 2 = K ∧ ((K = 0 ∧ w = 0) ∨ ((K = 1 ∨ K = 2 ∨ K = 3) ∧ w = 1))) → wL_lawOf_171 post mc ms (ml_b e3 e1 1) (ml_b e2 e1 1) kc ks f1 f2 f3 f4 f5 f6 f7 a1 a2 a3 a4 a5 a6 a7 a8 a9 a10 a11 a12 a13 a14 a15 a16 a17 a18 a19 a20 := by
    intro v w hs hv hm hw hK
    obtain ⟨K, hk, hK⟩ := hK
    unfold wL_lawOf_171
    refine nm_r hs (ml_killed hP hv (fun u hu => ?_))
    obtain ⟨f1, f2, f3, f4, f5, f6, f7, a1, a2, a3, a4, a5, a6, a7, a8, a9, a10, a11, a12, a13, a14, a15, a16, a17, a18, a19, a20⟩ := u
    refine br_t rfl (ml_same hu (br_t hm (ml_enough hu hk hK (fun u => ?_))))
    obtain ⟨f1, f2, f3, f4, f5, f6, f7, a1, a2, a3, a4, a5, a6, a7, a8, a9, a10, a11, a12, a13, a14, a15, a16, a17, a18, a19, a20⟩ := u
    rcases hw with ⟨rfl, rfl⟩ | ⟨hn, rfl⟩
    · exact br_t (by decide) (br_t rfl H)
    · exact br_f hn (br_t rfl H)
  rcases ml_two e2 e1 with ⟨b2, s2⟩ | ⟨b2, s2⟩ <;> rcases ml_two e3 e1 with ⟨b3, s3⟩ | ⟨b3, s3⟩
  · exact main 0 0 (by rw [b2, b3]; decide) (by rw [b2, b3]; decide +kernel) (by rw [s2, s3]; decide) (Or.inl ⟨rfl, rfl⟩) ⟨0, by rw [b2, b3]; decide, Or.inl ⟨rfl, rfl⟩⟩
  · exact main 1 1 (by rw [b2, b3]; decide) (by rw [b2, b3]; decide +kernel) (by rw [s2, s3]; decide) (Or.inr ⟨by decide, rfl⟩) ⟨2, by rw [b2, b3]; decide, Or.inr ⟨Or.inr (Or.inl rfl), rfl⟩⟩
  · exact main 1 1 (by rw [b2, b3]; decide) (by rw [b2, b3]; decide +kernel) (by rw [s2, s3]; decide) (Or.inr ⟨by decide, rfl⟩) ⟨1, by rw [b2, b3]; decide, Or.inr ⟨Or.inl rfl, rfl⟩⟩
  · exact main 2 1 (by rw [b2, b3]; decide) (by rw [b2, b3]; decide +kernel) (by rw [s2, s3]; decide) (Or.inr ⟨by decide, rfl⟩) ⟨3, by rw [b2, b3]; decide, Or.inr ⟨Or.inr (Or.inr rfl), rfl⟩⟩
theorem ml_159 {post : Int32 → St0 → Prop} {mc ms kc ks : Nat} {e1 e2 e3 : Int32} {f1 f2 f3 f4 f5 f6 f7 : Int32} {a1 a2 a3 a4 a5 a6 a7 a8 a9 a10 a11 a12 a13 a14 a15 a16 a17 a18 a19 a20 : Nat → Int32} (hP : ml_P e1 e2 e3 (f1, f2, f3, f4, f5, f6, f7, a1, a2, a3, a4, a5, a6, a7, a8, a9, a10, a11, a12, a13, a14, a15, a16, a17, a18, a19, a20)) (H : post 1 ()) : wL_lawOf_159 post mc ms e1 e3 (ml_b e2 e1 1) kc ks f1 f2 f3 f4 f5 f6 f7 a1 a2 a3 a4 a5 a6 a7 a8 a9 a10 a11 a12 a13 a14 a15 a16 a17 a18 a19 a20 := by
  have k := ml_171 (mc := mc) (ms := ms) (kc := kc) (ks := ks) hP H
  unfold wL_lawOf_159
  refine br_c (fun g => ?_) (fun g => ?_)
  · rw [show ml_b e3 e1 1 = 0 from if_pos g] at k
    exact k
  · rw [show ml_b e3 e1 1 = 1 from if_neg g] at k
    exact k
theorem ml_138 {post : Int32 → St0 → Prop} {mc ms kc ks : Nat} {e1 e2 e3 : Int32} {f1 f2 f3 f4 f5 f6 f7 : Int32} {a1 a2 a3 a4 a5 a6 a7 a8 a9 a10 a11 a12 a13 a14 a15 a16 a17 a18 a19 a20 : Nat → Int32} (hP : ml_P e1 e2 e3 (f1, f2, f3, f4, f5, f6, f7, a1, a2, a3, a4, a5, a6, a7, a8, a9, a10, a11, a12, a13, a14, a15, a16, a17, a18, a19, a20)) (H : post 1 ()) : (e2 = e1 → wL_lawOf_159 post mc ms e1 e3 0 kc ks f1 f2 f3 f4 f5 f6 f7 a1 a2 a3 a4 a5 a6 a7 a8 a9 a10 a11 a12 a13 a14 a15 a16 a17 a18 a19 a20) ∧ (¬ e2 = e1 → wL_lawOf_159 post mc ms e1 e3 1 kc ks f1 f2 f3 f4 f5 f6 f7 a1 a2 a3 a4 a5 a6 a7 a8 a9 a10 a11 a12 a13 a14 a15 a16 a17 a18 a19 a20) := by
  have k := ml_159 (mc := mc) (ms := ms) (kc := kc) (ks := ks) hP H
  refine br_c (fun g => ?_) (fun g => ?_)
  · rw [show ml_b e2 e1 1 = 0 from if_pos g] at k
    exact k
  · rw [show ml_b e2 e1 1 = 1 from if_neg g] at k
    exact k
theorem ml_lawOf {post : Int32 → St0 → Prop} {u : St0} (v1 v2 v3 v4 v5 v6 : Int32) (H : post 1 ()) : wpL_lawOf post 294 4704 u v1 v2 v3 v4 v5 v6 := by
  unfold wpL_lawOf
  refine ⟨by decide, by decide, 20, 612, by decide, by decide, ?_⟩
  unfold wpX_init
  iterate 40 (refine ⟨by decide, ?_⟩)
  refine nm_e (nm_e (nm_e (ml_emit (ml_op7 v1) ?_)))
  refine ml_snap (ml_op7 v1) (ml_pc_or v5) rfl (fun a => ?_)
  refine ml_mutateOp (ml_op7 v2) ?_
  refine ml_mutateC ?_
  refine ml_result (ml_result (ml_result ?_))
  refine ml_passes0 (p := v1 &&& 7) (q := v2 &&& 7) (t := v5 ||| 1) (d := v6 ||| 1) (x := v3) (y := v4) ⟨ml_op7 v1, ml_op7 v2, ml_pc_or v5, ml_pc_or v6, rfl, rfl, rfl, rfl, rfl, rfl, rfl, rfl, rfl⟩ rfl rfl rfl rfl (fun u hu => ?_)
  obtain ⟨f1, f2, f3, f4, f5, f6, f7, a1, a2, a3, a4, a5, a6, a7, a8, a9, a10, a11, a12, a13, a14, a15, a16, a17, a18, a19, a20⟩ := u
  exact br_f (by decide) (ml_output0 hu (br_t rfl (ml_output1 hu (br_t rfl (ml_length hu (br_t rfl (ml_138 hu H)))))))
theorem ml_cell {post : Int32 → Prop} {L : Nat} {xs : Nat → Int32} {u : St0} {x : Int32} (i : Nat) (hL : L ≤ 6) (hi : i < 6) (hx : x = nI i) (H : ∀ v, post v) : wpL_cellAt post L xs u x := by
  unfold wpL_cellAt
  exact pk_le L i (fun _ => H _) (fun h => ⟨pk_in i L h hx (by omega), H _⟩) rfl hx (by omega) (by omega)
theorem i_vc (xs : Nat → Int32) (L : Nat) (hL : L ≤ 6) : wpL_law (fun r => r = 1) L xs := by
  unfold wpL_law
  refine ml_cell 0 hL (by decide) rfl (fun v1 => ?_)
  refine ml_cell 1 hL (by decide) rfl (fun v2 => ?_)
  refine ml_cell 2 hL (by decide) rfl (fun v3 => ?_)
  refine ml_cell 3 hL (by decide) rfl (fun v4 => ?_)
  refine ml_cell 4 hL (by decide) rfl (fun v5 => ?_)
  refine ml_cell 5 hL (by decide) rfl (fun v6 => ?_)
  exact ⟨294, 4704, by decide, by decide, ml_lawOf v1 v2 v3 v4 v5 v6 rfl⟩
end
