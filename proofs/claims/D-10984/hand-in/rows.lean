section
section
variable {f_vx f_vy f_bt f_pc f_nd f_op f_dx f_dy f_sk : Int32} {b5 b10 b11 b12 b13 b14 b15 b16 b17 : Nat → Int32} {b6 b7 b8 b9 : Nat → Int64}
variable {a1 a2 a3 a4 : Nat → Int32}
/-- a coordinate that the class takes -/
def wb_g (x : Int32) : Prop := ¬ x < (-14) ∧ ¬ 14 < x ∧ (x &&& 1) = 0
/-- the four coordinates that make a wall -/
def wb_ok (x y z v : Int32) : Prop := wb_g x ∧ wb_g y ∧ wb_g z ∧ wb_g v ∧ ¬ (x = z ∧ y = v)
/-- what coordinate(0, k) answers where the wall stands -/
def wb_due (x y z v k : Int32) : Int32 := if k = 0 then x else if k = 1 then y else if k = 2 then z else if k = 3 then v else (-100)
theorem wb_in0 : vp_in (0 : Int32) 10 := pk_in 0 10 (by decide)
theorem wb_in1 : vp_in (1 : Int32) 10 := pk_in 1 10 (by decide)
theorem wb_c0 : (0 : Int32).toNatClampNeg = 0 := by decide
theorem wb_c1 : (1 : Int32).toNatClampNeg = 1 := by decide
theorem wb_swap {x y z v : Int32} (h : wb_ok x y z v) : wb_ok z v x y :=
  ⟨h.2.2.1, h.2.2.2.1, h.1, h.2.1, fun e => h.2.2.2.2 ⟨e.1.symm, e.2.symm⟩⟩
theorem wb_swapN {x y z v : Int32} (h : ¬ wb_ok x y z v) : ¬ wb_ok z v x y := fun g => h (wb_swap g)
theorem wb_cell {post : Int32 → Prop} {L : Nat} {xs : Nat → Int32} {u : St0} (i : Nat) (hi : i < 5) (hL : L ≤ 5) {p : Int32} (hp : p = nI i) (H : ∀ r, post r) : wpL_cellAt post L xs u p := by
  subst hp
  exact pk_le L i (fun _ => H _) (fun z => ⟨vp_in_nI z (by omega), H _⟩)
theorem wb_even {post : Int32 → Prop} {c p : Int32} (h0 : wb_g p → post 0) (h1 : ¬ wb_g p → post 1) : wpX_badEven post (c, f_vx, f_vy, f_bt, f_pc, f_nd, f_op, f_dx, f_dy, f_sk, a1, a2, a3, a4, b5, b6, b7, b8, b9, b10, b11, b12, b13, b14, b15, b16, b17) p :=
  br_c (fun h => h1 (fun g => g.1 h)) (fun h => br_c (fun k => h1 (fun g => g.2.1 k)) (fun k => br_c (fun e => h0 ⟨h, k, e⟩) (fun e => h1 (fun g => e g.2.2))))
theorem wb_good {post : Int32 → Prop} {u : St0} {p : Int32} (h0 : wb_g p → post 1) (h1 : ¬ wb_g p → post 0) : wpL_good post u p :=
  br_c (fun h => h1 (fun g => g.1 h)) (fun h => br_c (fun k => h1 (fun g => g.2.1 k)) (fun k => br_c (fun e => h0 ⟨h, k, e⟩) (fun e => h1 (fun g => e g.2.2))))
theorem wb_betw {post : Int32 → Prop} {c p q : Int32} (H : post 1) : wpX_between post (c, f_vx, f_vy, f_bt, f_pc, f_nd, f_op, f_dx, f_dy, f_sk, a1, a2, a3, a4, b5, b6, b7, b8, b9, b10, b11, b12, b13, b14, b15, b16, b17) p q q :=
  br_c (fun h => br_f (Int32.lt_irrefl) (br_f (fun k => Int32.lt_irrefl (Int32.lt_trans h k)) H)) (fun _ => br_t (Int32.le_refl q) H)
theorem wb_zero (a b c d : Int32) : (a - b) * (c - d) - (c - d) * (a - b) = 0 := by
  rw [Int32.mul_comm (a - b) (c - d), Int32.sub_self]
theorem wb_touch {post : Int32 → Prop} {c p : Int32} (hi : vp_in p 10) (H : post 1) : wpX_touches post (c, f_vx, f_vy, f_bt, f_pc, f_nd, f_op, f_dx, f_dy, f_sk, a1, a2, a3, a4, b5, b6, b7, b8, b9, b10, b11, b12, b13, b14, b15, b16, b17) p (a3 p.toNatClampNeg) (a4 p.toNatClampNeg) :=
  ⟨hi, hi, hi, hi, hi, hi, br_t (wb_zero _ _ _ _) ⟨hi, hi, wb_betw (br_f (by decide) ⟨hi, hi, wb_betw (br_f (by decide) H)⟩)⟩⟩
theorem wb_meet {post : Int32 → Prop} {c p q : Int32} (hp : vp_in p 10) (hq : vp_in q 10) (e1 : a1 q.toNatClampNeg = a3 p.toNatClampNeg) (e2 : a2 q.toNatClampNeg = a4 p.toNatClampNeg) (H : post 1) : wpX_meet post (c, f_vx, f_vy, f_bt, f_pc, f_nd, f_op, f_dx, f_dy, f_sk, a1, a2, a3, a4, b5, b6, b7, b8, b9, b10, b11, b12, b13, b14, b15, b16, b17) p q := by
  refine ⟨hq, hq, ?_⟩
  rw [e1, e2]
  exact wb_touch hp (br_f (by decide) H)
theorem wb_wall {post : Int32 → St2 → Prop} {c x y z v : Int32} (h : ¬ wb_ok x y z v → post (-1) (c, f_vx, f_vy, f_bt, f_pc, f_nd, f_op, f_dx, f_dy, f_sk, a1, a2, a3, a4, b5, b6, b7, b8, b9, b10, b11, b12, b13, b14, b15, b16, b17)) (H : wb_ok x y z v → wX_wall_48 post x y z v c f_vx f_vy f_bt f_pc f_nd f_op f_dx f_dy f_sk a1 a2 a3 a4 b5 b6 b7 b8 b9 b10 b11 b12 b13 b14 b15 b16 b17) : wpX_wall post (c, f_vx, f_vy, f_bt, f_pc, f_nd, f_op, f_dx, f_dy, f_sk, a1, a2, a3, a4, b5, b6, b7, b8, b9, b10, b11, b12, b13, b14, b15, b16, b17) x y z v := by
  unfold wpX_wall
  exact wb_even (fun gx => br_t rfl (wb_even (fun gy => br_t rfl (wb_even (fun gz => br_t rfl (wb_even (fun gv => br_t rfl
    (br_c (fun e => br_c (fun k => h (fun g => g.2.2.2.2 ⟨e, k⟩)) (fun k => H ⟨gx, gy, gz, gv, fun t => k t.2⟩)) (fun e => H ⟨gx, gy, gz, gv, fun t => e t.1⟩)))
    (fun n => br_f (by decide) (h (fun g => n g.2.2.2.1))))) (fun n => br_f (by decide) (h (fun g => n g.2.2.1))))) (fun n => br_f (by decide) (h (fun g => n g.2.1))))) (fun n => br_f (by decide) (h (fun g => n g.1)))
theorem wb_first {post : Int32 → St2 → Prop} {x y z v : Int32} (H : post 0 (1, f_vx, f_vy, 0, f_pc, f_nd, f_op, f_dx, f_dy, f_sk, upd a1 0 x, upd a2 0 y, upd a3 0 z, upd a4 0 v, b5, b6, b7, b8, b9, b10, b11, b12, b13, b14, b15, b16, b17)) : wX_wall_48 post x y z v 0 f_vx f_vy f_bt f_pc f_nd f_op f_dx f_dy f_sk a1 a2 a3 a4 b5 b6 b7 b8 b9 b10 b11 b12 b13 b14 b15 b16 b17 := by
  refine br_f (by decide) ⟨wb_in0, nm_r (e' := upd a1 0 x) (by rw [wb_c0]) ⟨wb_in0, nm_r (e' := upd a2 0 y) (by rw [wb_c0]) ⟨wb_in0, nm_r (e' := upd a3 0 z) (by rw [wb_c0]) ⟨wb_in0, nm_r (e' := upd a4 0 v) (by rw [wb_c0]) ⟨1, br_t (by decide) (nm_r (show (0 : Int32) + 1 = 1 by decide) ?_)⟩⟩⟩⟩⟩
  rw [show (1 : Int32) - 1 = 0 by decide]
  exact H
theorem wb_second {post : Int32 → St2 → Prop} {x y z v : Int32} (e1 : x = a3 0) (e2 : y = a4 0) (H : ∀ d1 d2 d3 d4, post (-3) (1, f_vx, f_vy, f_bt, f_pc, f_nd, f_op, f_dx, f_dy, f_sk, d1, d2, d3, d4, b5, b6, b7, b8, b9, b10, b11, b12, b13, b14, b15, b16, b17)) : wX_wall_48 post x y z v 1 f_vx f_vy f_bt f_pc f_nd f_op f_dx f_dy f_sk a1 a2 a3 a4 b5 b6 b7 b8 b9 b10 b11 b12 b13 b14 b15 b16 b17 := by
  refine br_f (by decide) ⟨wb_in1, nm_r (e' := upd a1 1 x) (by rw [wb_c1]) ⟨wb_in1, nm_r (e' := upd a2 1 y) (by rw [wb_c1]) ⟨wb_in1, nm_r (e' := upd a3 1 z) (by rw [wb_c1]) ⟨wb_in1, nm_r (e' := upd a4 1 v) (by rw [wb_c1]) ⟨1, br_f (by decide) (wb_meet wb_in0 wb_in1 ?_ ?_ (br_f (by decide) (H _ _ _ _)))⟩⟩⟩⟩⟩
  · rw [wb_c0, wb_c1, pk_us, pk_un (by decide)]
    exact e1
  · rw [wb_c0, wb_c1, pk_us, pk_un (by decide)]
    exact e2
theorem wb_walls {post : Int32 → Prop} {c : Int32} (H : post c) : wpX_walls post (c, f_vx, f_vy, f_bt, f_pc, f_nd, f_op, f_dx, f_dy, f_sk, a1, a2, a3, a4, b5, b6, b7, b8, b9, b10, b11, b12, b13, b14, b15, b16, b17) := H
theorem wb_coord0 {post : Int32 → Prop} {k : Int32} (H : post (-4)) : wpX_coordinate post (0, f_vx, f_vy, f_bt, f_pc, f_nd, f_op, f_dx, f_dy, f_sk, a1, a2, a3, a4, b5, b6, b7, b8, b9, b10, b11, b12, b13, b14, b15, b16, b17) 0 k :=
  br_f (by decide) (br_f (by decide) H)
theorem wb_coord1 {post : Int32 → Prop} {k : Int32} (H : post (wb_due (a1 0) (a2 0) (a3 0) (a4 0) k)) : wpX_coordinate post (1, f_vx, f_vy, f_bt, f_pc, f_nd, f_op, f_dx, f_dy, f_sk, a1, a2, a3, a4, b5, b6, b7, b8, b9, b10, b11, b12, b13, b14, b15, b16, b17) 0 k := by
  unfold wb_due at H
  refine br_f (by decide) (br_t (by decide) (br_c (fun e => ⟨wb_in0, ?_⟩) (fun n => br_c (fun e => ⟨wb_in0, ?_⟩) (fun m => br_c (fun e => ⟨wb_in0, ?_⟩) (fun l => br_c (fun e => ⟨wb_in0, ?_⟩) (fun g => ?_))))))
  · rw [if_pos e] at H
    rw [wb_c0]
    exact H
  · rw [if_neg n, if_pos e] at H
    rw [wb_c0]
    exact H
  · rw [if_neg n, if_neg m, if_pos e] at H
    rw [wb_c0]
    exact H
  · rw [if_neg n, if_neg m, if_neg l, if_pos e] at H
    rw [wb_c0]
    exact H
  · rw [if_neg n, if_neg m, if_neg l, if_neg g] at H
    exact H
theorem wb_un0 {post : Int32 → St2 → Prop} (H : post (-4) (0, f_vx, f_vy, f_bt, f_pc, f_nd, f_op, f_dx, f_dy, f_sk, a1, a2, a3, a4, b5, b6, b7, b8, b9, b10, b11, b12, b13, b14, b15, b16, b17)) : wpX_unbuild post (0, f_vx, f_vy, f_bt, f_pc, f_nd, f_op, f_dx, f_dy, f_sk, a1, a2, a3, a4, b5, b6, b7, b8, b9, b10, b11, b12, b13, b14, b15, b16, b17) := br_t rfl H
theorem wb_un1 {post : Int32 → St2 → Prop} (H : post 0 (0, f_vx, f_vy, 0, f_pc, f_nd, f_op, f_dx, f_dy, f_sk, a1, a2, a3, a4, b5, b6, b7, b8, b9, b10, b11, b12, b13, b14, b15, b16, b17)) : wpX_unbuild post (1, f_vx, f_vy, f_bt, f_pc, f_nd, f_op, f_dx, f_dy, f_sk, a1, a2, a3, a4, b5, b6, b7, b8, b9, b10, b11, b12, b13, b14, b15, b16, b17) :=
  br_f (by decide) (nm_r (show (1 : Int32) - 1 = 0 by decide) H)
end
end
section
theorem wb_148t {post : Int32 → St0 → Prop} {mc ms kc ks : Nat} {x8 z0 : Int32} (hz : x8 = z0) (H : post 1 ()) : wL_lawOf_148 post mc ms 0 1 x8 (-3) 0 (-4) 1 z0 kc ks :=
  br_f (by decide) (br_t rfl (br_f (by decide) (br_t rfl (br_f (by decide) (br_t hz (br_f (by decide) (br_t rfl (br_f (by decide) (br_t rfl (br_t rfl H))))))))))
theorem wb_148f {post : Int32 → St0 → Prop} {mc ms kc ks : Nat} {z0 : Int32} (H : post 1 ()) : wL_lawOf_148 post mc ms (-1) 0 (-4) (-1) (-4) (-4) 0 z0 kc ks :=
  br_t rfl (br_t rfl (br_t rfl (br_t rfl (br_t rfl (br_t rfl (br_t rfl (br_t rfl (br_t rfl (br_t rfl (br_t rfl H))))))))))
theorem wb_100 {post : Int32 → St0 → Prop} {mc ms kc ks : Nat} {x y z v k : Int32} (H : post 1 ()) : wL_lawOf_100 post mc ms x y z v k 0 1 (wb_due x y z v k) (-3) 0 (-4) kc ks :=
  br_c (fun e => wb_148t (by unfold wb_due; rw [if_pos e]) H) (fun n => br_c (fun e => wb_148t (by unfold wb_due; rw [if_neg n, if_pos e]) H) (fun m => br_c (fun e => wb_148t (by unfold wb_due; rw [if_neg n, if_neg m, if_pos e]) H)
    (fun l => br_c (fun e => wb_148t (by unfold wb_due; rw [if_neg n, if_neg m, if_neg l, if_pos e]) H) (fun g => wb_148t (by unfold wb_due; rw [if_neg n, if_neg m, if_neg l, if_neg g]) H))))
theorem wb_104 {post : Int32 → St0 → Prop} {mc ms kc ks : Nat} {x y z v k : Int32} (H : post 1 ()) : wL_lawOf_104 post mc ms x y z v k (-1) 0 (-4) (-1) (-4) (-4) kc ks :=
  br_c (fun _ => wb_148f H) (fun _ => br_c (fun _ => wb_148f H) (fun _ => br_c (fun _ => wb_148f H) (fun _ => br_c (fun _ => wb_148f H) (fun _ => wb_148f H))))
theorem wb_lawOf {post : Int32 → St0 → Prop} {x y z v k : Int32} (H : post 1 ()) : wpL_lawOf post 18 1763 () x y z v k := by
  refine ⟨by decide, by decide, 17, 1736, by decide, by decide, ?_⟩
  refine ⟨by decide, by decide, by decide, by decide, by decide, by decide, by decide, by decide, by decide, by decide, by decide, by decide, by decide, by decide, by decide, by decide, by decide, by decide, by decide, by decide, by decide, by decide, by decide, by decide, by decide, by decide, by decide, by decide, by decide, by decide, by decide, by decide, by decide, by decide, ?_⟩
  refine wb_wall (fun hn => ?_) (fun hk => ?_)
  · refine wb_walls (wb_coord0 (wb_wall (fun _ => ?_) (fun g => absurd g (wb_swapN hn))))
    refine wb_un0 (wb_un0 ?_)
    exact wb_good (fun gx => br_f (by decide) (wb_good (fun gy => br_f (by decide) (wb_good (fun gz => br_f (by decide) (wb_good (fun gv => br_f (by decide)
      (br_c (fun e => br_c (fun _ => wb_104 H) (fun m => absurd ⟨gx, gy, gz, gv, fun t => m t.2⟩ hn)) (fun m => absurd ⟨gx, gy, gz, gv, fun t => m t.1⟩ hn)))
      (fun _ => br_t rfl (wb_104 H)))) (fun _ => br_t rfl (wb_104 H)))) (fun _ => br_t rfl (wb_104 H)))) (fun _ => br_t rfl (wb_104 H))
  · obtain ⟨gx, gy, gz, gv, ne⟩ := hk
    refine wb_first (wb_walls (wb_coord1 (wb_wall (fun g => absurd (wb_swap ⟨gx, gy, gz, gv, ne⟩) g) (fun _ => wb_second ?_ ?_ (fun d1 d2 d3 d4 => wb_un1 (wb_un0 ?_))))))
    · rw [pk_us]
    · rw [pk_us]
    · rw [pk_us, pk_us, pk_us, pk_us]
      exact wb_good (fun _ => br_f (by decide) (wb_good (fun _ => br_f (by decide) (wb_good (fun _ => br_f (by decide) (wb_good (fun _ => br_f (by decide)
        (br_c (fun e => br_f (fun m => ne ⟨e, m⟩) (wb_100 H)) (fun _ => wb_100 H)))
        (fun n => absurd gv n))) (fun n => absurd gz n))) (fun n => absurd gy n))) (fun n => absurd gx n)
theorem i_vc (xs : Nat → Int32) (L : Nat) (hL : L ≤ 5) : wpL_law (fun r => r = 1) L xs :=
  wb_cell 0 (by decide) hL rfl (fun _ => wb_cell 1 (by decide) hL rfl (fun _ => wb_cell 2 (by decide) hL rfl (fun _ => wb_cell 3 (by decide) hL rfl (fun _ => wb_cell 4 (by decide) hL rfl (fun _ =>
    ⟨18, 1763, by decide, by decide, wb_lawOf rfl⟩)))))
end
