section
section
variable {pc di ga : Int32} {ls : Int64} {a1 a2 a3 a4 a5 a6 a7 a8 a9 a10 a11 a12 a13 a14 a15 a16 a17 a18 a19 a20 a21 a22 : Nat → Int32}

theorem pq_in {x : Int32} {n : Nat} (h : 0 ≤ x.toInt ∧ x.toInt < n) : vp_in x n := vp_in_iff.mpr h
/-- liveSet of the first block: rows 0 and 1 live -/
theorem pq_live {post : Int32 → Prop} (h0 : a1 0 = 0) (h1 : a1 1 = 0) (H : post 3) : wpX_liveSet post (2, pc, di, 0, ga, ls, a1, a2, a3, a4, a5, a6, a7, a8, a9, a10, a11, a12, a13, a14, a15, a16, a17, a18, a19, a20, a21, a22) 0 := by
  refine ⟨17, ?_⟩
  refine br_f (by decide) (nm_r (e' := 0) (by decide) (br_f (by decide) ⟨pq_in (by decide), br_t h0 (nm_r (e' := 1) (by decide) (nm_r (e' := 1) (by decide) ?_))⟩))
  refine br_f (by decide) (nm_r (e' := 1) (by decide) (br_f (by decide) ⟨pq_in (by decide), br_t h1 (nm_r (e' := 3) (by decide) (nm_r (e' := 2) (by decide) ?_))⟩))
  refine br_f (by decide) (nm_r (e' := 2) (by decide) (br_t (by decide) (nm_r (e' := 3) (by decide) ?_)))
  refine br_f (by decide) (nm_r (e' := 3) (by decide) (br_t (by decide) (nm_r (e' := 4) (by decide) ?_)))
  refine br_f (by decide) (nm_r (e' := 4) (by decide) (br_t (by decide) (nm_r (e' := 5) (by decide) ?_)))
  refine br_f (by decide) (nm_r (e' := 5) (by decide) (br_t (by decide) (nm_r (e' := 6) (by decide) ?_)))
  refine br_f (by decide) (nm_r (e' := 6) (by decide) (br_t (by decide) (nm_r (e' := 7) (by decide) ?_)))
  refine br_f (by decide) (nm_r (e' := 7) (by decide) (br_t (by decide) (nm_r (e' := 8) (by decide) ?_)))
  refine br_f (by decide) (nm_r (e' := 8) (by decide) (br_t (by decide) (nm_r (e' := 9) (by decide) ?_)))
  refine br_f (by decide) (nm_r (e' := 9) (by decide) (br_t (by decide) (nm_r (e' := 10) (by decide) ?_)))
  refine br_f (by decide) (nm_r (e' := 10) (by decide) (br_t (by decide) (nm_r (e' := 11) (by decide) ?_)))
  refine br_f (by decide) (nm_r (e' := 11) (by decide) (br_t (by decide) (nm_r (e' := 12) (by decide) ?_)))
  refine br_f (by decide) (nm_r (e' := 12) (by decide) (br_t (by decide) (nm_r (e' := 13) (by decide) ?_)))
  refine br_f (by decide) (nm_r (e' := 13) (by decide) (br_t (by decide) (nm_r (e' := 14) (by decide) ?_)))
  refine br_f (by decide) (nm_r (e' := 14) (by decide) (br_t (by decide) (nm_r (e' := 15) (by decide) ?_)))
  refine br_f (by decide) (nm_r (e' := 15) (by decide) (br_t (by decide) (nm_r (e' := 16) (by decide) ?_)))
  exact br_t (by decide) H
theorem pq_choose {post : St2 → Prop} (h0 : a1 0 = 0) (h1 : a1 1 = 0) (H : post (2, pc, di, 0, ga, ls, a1, a2, a3, a4, a5, a6, a7, a8, a9, a10, a11, a12, a13, a14, a15, a16, a17, a18, a19, (upd a20 0 3), a21, a22)) : wpX_choose post (2, pc, di, 0, ga, ls, a1, a2, a3, a4, a5, a6, a7, a8, a9, a10, a11, a12, a13, a14, a15, a16, a17, a18, a19, a20, a21, a22) := by
  refine ⟨by decide, 2, ?_⟩
  refine br_f (by decide) (br_f (by decide) (pq_live h0 h1 ⟨1, ?_⟩))
  exact br_t (by decide) ⟨pq_in (by decide), nm_r (e' := upd a20 0 3) rfl (nm_r (e' := 1) (by decide) (br_t (by decide) H))⟩
theorem pq_bits {post : Int32 → Prop} (H : post 2) : wpX_bitsOf post (2, pc, di, 0, ga, ls, a1, a2, a3, a4, a5, a6, a7, a8, a9, a10, a11, a12, a13, a14, a15, a16, a17, a18, a19, a20, a21, a22) 3 := by
  refine ⟨17, ?_⟩
  refine br_f (by decide) (nm_r (e' := 1) (by decide) (nm_r (e' := 1) (by decide) ?_))
  refine br_f (by decide) (nm_r (e' := 2) (by decide) (nm_r (e' := 2) (by decide) ?_))
  refine br_f (by decide) (nm_r (e' := 2) (by decide) (nm_r (e' := 3) (by decide) ?_))
  refine br_f (by decide) (nm_r (e' := 2) (by decide) (nm_r (e' := 4) (by decide) ?_))
  refine br_f (by decide) (nm_r (e' := 2) (by decide) (nm_r (e' := 5) (by decide) ?_))
  refine br_f (by decide) (nm_r (e' := 2) (by decide) (nm_r (e' := 6) (by decide) ?_))
  refine br_f (by decide) (nm_r (e' := 2) (by decide) (nm_r (e' := 7) (by decide) ?_))
  refine br_f (by decide) (nm_r (e' := 2) (by decide) (nm_r (e' := 8) (by decide) ?_))
  refine br_f (by decide) (nm_r (e' := 2) (by decide) (nm_r (e' := 9) (by decide) ?_))
  refine br_f (by decide) (nm_r (e' := 2) (by decide) (nm_r (e' := 10) (by decide) ?_))
  refine br_f (by decide) (nm_r (e' := 2) (by decide) (nm_r (e' := 11) (by decide) ?_))
  refine br_f (by decide) (nm_r (e' := 2) (by decide) (nm_r (e' := 12) (by decide) ?_))
  refine br_f (by decide) (nm_r (e' := 2) (by decide) (nm_r (e' := 13) (by decide) ?_))
  refine br_f (by decide) (nm_r (e' := 2) (by decide) (nm_r (e' := 14) (by decide) ?_))
  refine br_f (by decide) (nm_r (e' := 2) (by decide) (nm_r (e' := 15) (by decide) ?_))
  refine br_f (by decide) (nm_r (e' := 2) (by decide) (nm_r (e' := 16) (by decide) ?_))
  exact br_t (by decide) H
theorem pq_count {post : Int32 → St2 → Prop} (h0 : a1 0 = 0) (h1 : a1 1 = 0) (H : post 2 (2, pc, di, 0, ga, ls, a1, a2, a3, a4, a5, a6, a7, a8, a9, a10, a11, a12, a13, a14, a15, a16, a17, a18, a19, (upd a20 0 3), a21, a22)) : wpX_count post (2, pc, di, 0, ga, ls, a1, a2, a3, a4, a5, a6, a7, a8, a9, a10, a11, a12, a13, a14, a15, a16, a17, a18, a19, a20, a21, a22) := by
  refine pq_choose h0 h1 ⟨2, ?_⟩
  refine ⟨by decide, br_f (by decide) ⟨pq_in (by decide), ?_⟩⟩
  refine pq_bits (nm_r (e' := 2) (by decide) (nm_r (e' := 1) (by decide) ?_))
  exact ⟨by decide, br_t (by decide) H⟩
theorem pq_load {post : St2 → Prop} {k p q : Int32} (i0 : vp_in (3 * 0 + k) 48) (i1 : vp_in (3 * 1 + k) 48) (e0 : a12 (3 * 0 + k).toNatClampNeg = p) (e1 : a12 (3 * 1 + k).toNatClampNeg = q) (H : post (2, pc, di, 0, ga, ls, a1, a2, a3, a4, a5, a6, a7, a8, a9, a10, a11, a12, a13, a14, (upd (upd a15 0 p) 1 q), a16, a17, a18, a19, a20, a21, a22)) : wpX_load post (2, pc, di, 0, ga, ls, a1, a2, a3, a4, a5, a6, a7, a8, a9, a10, a11, a12, a13, a14, a15, a16, a17, a18, a19, a20, a21, a22) 0 k := by
  refine ⟨by decide, br_t (by decide) ⟨3, ?_⟩⟩
  refine ⟨by decide, br_f (by decide) ⟨i0, pq_in (by decide), nm_r (e' := upd a15 0 p) (by rw [e0]; rfl) (nm_r (e' := 1) (by decide) ?_)⟩⟩
  refine ⟨by decide, br_f (by decide) ⟨i1, pq_in (by decide), nm_r (e' := upd (upd a15 0 p) 1 q) (by rw [e1]; rfl) (nm_r (e' := 2) (by decide) ?_)⟩⟩
  exact ⟨by decide, br_t (by decide) H⟩
theorem pq_gblock {post : St2 → Prop} (H : post (2, pc, di, 0, 2, ls, a1, a2, a3, a4, a5, a6, a7, a8, a9, a10, a11, a12, a13, a14, a15, a16, a17, a18, a19, a20, (upd (upd a21 0 (a15 0)) 1 (a15 1)), a22)) : wpX_gatherBlock post (2, pc, di, 0, 0, ls, a1, a2, a3, a4, a5, a6, a7, a8, a9, a10, a11, a12, a13, a14, a15, a16, a17, a18, a19, a20, a21, a22) 3 := by
  refine ⟨17, ?_⟩
  refine br_f (by decide) (br_t (by decide) ⟨pq_in (by decide), pq_in (by decide), nm_r (e' := upd a21 0 (a15 0)) rfl (nm_r (e' := 1) (by decide) (nm_r (e' := 1) (by decide) ?_))⟩)
  refine br_f (by decide) (br_t (by decide) ⟨pq_in (by decide), pq_in (by decide), nm_r (e' := upd (upd a21 0 (a15 0)) 1 (a15 1)) rfl (nm_r (e' := 2) (by decide) (nm_r (e' := 2) (by decide) ?_))⟩)
  refine br_f (by decide) (br_f (by decide) (nm_r (e' := 3) (by decide) ?_))
  refine br_f (by decide) (br_f (by decide) (nm_r (e' := 4) (by decide) ?_))
  refine br_f (by decide) (br_f (by decide) (nm_r (e' := 5) (by decide) ?_))
  refine br_f (by decide) (br_f (by decide) (nm_r (e' := 6) (by decide) ?_))
  refine br_f (by decide) (br_f (by decide) (nm_r (e' := 7) (by decide) ?_))
  refine br_f (by decide) (br_f (by decide) (nm_r (e' := 8) (by decide) ?_))
  refine br_f (by decide) (br_f (by decide) (nm_r (e' := 9) (by decide) ?_))
  refine br_f (by decide) (br_f (by decide) (nm_r (e' := 10) (by decide) ?_))
  refine br_f (by decide) (br_f (by decide) (nm_r (e' := 11) (by decide) ?_))
  refine br_f (by decide) (br_f (by decide) (nm_r (e' := 12) (by decide) ?_))
  refine br_f (by decide) (br_f (by decide) (nm_r (e' := 13) (by decide) ?_))
  refine br_f (by decide) (br_f (by decide) (nm_r (e' := 14) (by decide) ?_))
  refine br_f (by decide) (br_f (by decide) (nm_r (e' := 15) (by decide) ?_))
  refine br_f (by decide) (br_f (by decide) (nm_r (e' := 16) (by decide) ?_))
  exact br_t (by decide) H
theorem pq_gather {post : St2 → Prop} {k p q : Int32} (h0 : a1 0 = 0) (h1 : a1 1 = 0) (i0 : vp_in (3 * 0 + k) 48) (i1 : vp_in (3 * 1 + k) 48) (e0 : a12 (3 * 0 + k).toNatClampNeg = p) (e1 : a12 (3 * 1 + k).toNatClampNeg = q) (H : ∀ b15 b20 b21 : Nat → Int32, b21 0 = p → b21 1 = q → post (2, pc, di, 0, 2, ls, a1, a2, a3, a4, a5, a6, a7, a8, a9, a10, a11, a12, a13, a14, b15, a16, a17, a18, a19, b20, b21, a22)) : wpX_gather post (2, pc, di, 0, ga, ls, a1, a2, a3, a4, a5, a6, a7, a8, a9, a10, a11, a12, a13, a14, a15, a16, a17, a18, a19, a20, a21, a22) k := by
  refine pq_choose h0 h1 ⟨by decide, 2, ?_⟩
  refine br_f (by decide) ⟨pq_in (by decide), br_f (by show ¬ (3 : Int32) = 0; decide) ?_⟩
  refine pq_load i0 i1 e0 e1 ⟨pq_in (by decide), ?_⟩
  refine pq_gblock (nm_r (e' := 1) (by decide) ?_)
  exact br_t (by decide) (H _ _ _ rfl rfl)
/-- order of two: the lesser first -/
theorem pq_order {post : St2 → Prop} {p q lo hi : Int32} (ep : a21 0 = p) (eq : a21 1 = q) (hc : q ≤ p → lo = q ∧ hi = p) (hd : ¬ q ≤ p → lo = p ∧ hi = q) (H : ∀ b21 : Nat → Int32, b21 0 = lo → b21 1 = hi → post (2, pc, di, 0, 2, ls, a1, a2, a3, a4, a5, a6, a7, a8, a9, a10, a11, a12, a13, a14, a15, a16, a17, a18, a19, a20, b21, a22)) : wpX_order post (2, pc, di, 0, 2, ls, a1, a2, a3, a4, a5, a6, a7, a8, a9, a10, a11, a12, a13, a14, a15, a16, a17, a18, a19, a20, a21, a22) := by
  refine ⟨by decide, nm_r (e' := 0) (by decide) ⟨2, ?_⟩⟩
  have tail : ∀ b21 : Nat → Int32, b21 0 = hi → b21 1 = lo → wX_order_9 post 1 (-1) 2 pc di 0 2 ls a1 a2 a3 a4 a5 a6 a7 a8 a9 a10 a11 a12 a13 a14 a15 a16 a17 a18 a19 a20 b21 a22 := by
    intro b21 t0 t1
    refine br_t (by decide) (nm_r (e' := 1) (by decide) ⟨2, ?_⟩)
    refine br_f (by decide) (nm_r (e' := hi) t0 ⟨pq_in (by decide), nm_r (e' := upd b21 0 lo) (by rw [← t1]; rfl) ⟨pq_in (by decide), nm_r (e' := upd (upd b21 0 lo) 1 hi) rfl ⟨1, ?_⟩⟩⟩)
    refine br_f (by decide) (br_t (by decide) (nm_r (e' := 0) (by decide) ?_))
    exact br_t (by decide) (H _ rfl rfl)
  refine br_f (by decide) ⟨2, ?_⟩
  refine br_f (by decide) (br_f (by decide) (nm_r (e' := 1) (by decide) (br_t (by decide) ?_)))
  refine ⟨pq_in (by decide), pq_in (by decide), br_c (fun c => nm_r (e' := 1) (by decide) ?_) (fun c => ⟨pq_in (by decide), nm_r (e' := p) ep ⟨pq_in (by decide), pq_in (by decide), nm_r (e' := upd a21 0 q) (by rw [← eq]; rfl) ⟨pq_in (by decide), nm_r (e' := upd (upd a21 0 q) 1 p) rfl (nm_r (e' := 1) (by decide) ?_)⟩⟩⟩)⟩
  · have c' : q ≤ p := by rw [← ep, ← eq]; exact c
    exact br_f (by decide) (br_t (by decide) (nm_r (e' := -1) (by decide) (tail a21 (by rw [ep, (hc c').2]) (by rw [eq, (hc c').1]))))
  · have c' : ¬ q ≤ p := by rw [← ep, ← eq]; exact c
    exact br_f (by decide) (br_t (by decide) (nm_r (e' := -1) (by decide) (tail _ (by rw [(hd c').2]; rfl) (by rw [(hd c').1]; rfl))))
end
end
section
section
variable {pc di ga : Int32} {ls : Int64} {a1 a2 a3 a4 a5 a6 a7 a8 a9 a10 a11 a12 a13 a14 a15 a16 a17 a18 a19 a20 a21 a22 : Nat → Int32}
variable {k p q lo hi : Int32}
theorem pq_least {post : Int32 → St2 → Prop} (hk : (¬ k < 0) ∧ k < 3) (h0 : a1 0 = 0) (h1 : a1 1 = 0) (i0 : vp_in (3 * 0 + k) 48) (i1 : vp_in (3 * 1 + k) 48) (e0 : a12 (3 * 0 + k).toNatClampNeg = p) (e1 : a12 (3 * 1 + k).toNatClampNeg = q)(hc : q ≤ p → lo = q ∧ hi = p) (hd : ¬ q ≤ p → lo = p ∧ hi = q) (H : ∀ b15 b20 b21 : Nat → Int32, post lo (2, pc, di, 0, 2, ls, a1, a2, a3, a4, a5, a6, a7, a8, a9, a10, a11, a12, a13, a14, b15, a16, a17, a18, a19, b20, b21, a22)) : wpX_least post (2, pc, di, 0, ga, ls, a1, a2, a3, a4, a5, a6, a7, a8, a9, a10, a11, a12, a13, a14, a15, a16, a17, a18, a19, a20, a21, a22) k := by
  refine br_f hk.1 (br_t hk.2 ?_)
  refine br_t rfl ?_
  refine pq_gather h0 h1 i0 i1 e0 e1 (fun b15 b20 b21 t0 t1 => ?_)
  refine pq_order t0 t1 hc hd (fun c21 s0 s1 => ?_)
  refine br_f (by decide) ?_
  rw [s0]
  exact H b15 b20 c21
theorem pq_rank0 {post : Int32 → St2 → Prop} (hk : (¬ k < 0) ∧ k < 3) (h0 : a1 0 = 0) (h1 : a1 1 = 0) (i0 : vp_in (3 * 0 + k) 48) (i1 : vp_in (3 * 1 + k) 48) (e0 : a12 (3 * 0 + k).toNatClampNeg = p) (e1 : a12 (3 * 1 + k).toNatClampNeg = q)(hc : q ≤ p → lo = q ∧ hi = p) (hd : ¬ q ≤ p → lo = p ∧ hi = q) (H : ∀ b15 b20 b21 : Nat → Int32, post hi (2, pc, di, 0, 2, ls, a1, a2, a3, a4, a5, a6, a7, a8, a9, a10, a11, a12, a13, a14, b15, a16, a17, a18, a19, b20, b21, a22)) : wpX_ranked post (2, pc, di, 0, ga, ls, a1, a2, a3, a4, a5, a6, a7, a8, a9, a10, a11, a12, a13, a14, a15, a16, a17, a18, a19, a20, a21, a22) k 0 := by
  refine br_f hk.1 (br_t hk.2 ?_)
  refine br_t rfl ?_
  refine pq_gather h0 h1 i0 i1 e0 e1 (fun b15 b20 b21 t0 t1 => ?_)
  refine pq_order t0 t1 hc hd (fun c21 s0 s1 => ?_)
  refine br_f (by decide) (br_t (by decide) ⟨pq_in (by decide), ?_⟩)
  exact ek_v (P := fun r => post r (2, pc, di, 0, 2, ls, a1, a2, a3, a4, a5, a6, a7, a8, a9, a10, a11, a12, a13, a14, b15, a16, a17, a18, a19, b20, c21, a22)) s1 (H b15 b20 c21)
theorem pq_rank1 {post : Int32 → St2 → Prop} (hk : (¬ k < 0) ∧ k < 3) (h0 : a1 0 = 0) (h1 : a1 1 = 0) (i0 : vp_in (3 * 0 + k) 48) (i1 : vp_in (3 * 1 + k) 48) (e0 : a12 (3 * 0 + k).toNatClampNeg = p) (e1 : a12 (3 * 1 + k).toNatClampNeg = q)(hc : q ≤ p → lo = q ∧ hi = p) (hd : ¬ q ≤ p → lo = p ∧ hi = q) (H : ∀ b15 b20 b21 : Nat → Int32, post lo (2, pc, di, 0, 2, ls, a1, a2, a3, a4, a5, a6, a7, a8, a9, a10, a11, a12, a13, a14, b15, a16, a17, a18, a19, b20, b21, a22)) : wpX_ranked post (2, pc, di, 0, ga, ls, a1, a2, a3, a4, a5, a6, a7, a8, a9, a10, a11, a12, a13, a14, a15, a16, a17, a18, a19, a20, a21, a22) k 1 := by
  refine br_f hk.1 (br_t hk.2 ?_)
  refine br_t rfl ?_
  refine pq_gather h0 h1 i0 i1 e0 e1 (fun b15 b20 b21 t0 t1 => ?_)
  refine pq_order t0 t1 hc hd (fun c21 s0 s1 => ?_)
  refine br_f (by decide) (br_t (by decide) ⟨pq_in (by decide), ?_⟩)
  exact ek_v (P := fun r => post r (2, pc, di, 0, 2, ls, a1, a2, a3, a4, a5, a6, a7, a8, a9, a10, a11, a12, a13, a14, b15, a16, a17, a18, a19, b20, c21, a22)) s0 (H b15 b20 c21)
theorem pq_sum {post : Int32 → St2 → Prop} (hk : (¬ k < 0) ∧ k < 3) (h0 : a1 0 = 0) (h1 : a1 1 = 0) (i0 : vp_in (3 * 0 + k) 48) (i1 : vp_in (3 * 1 + k) 48) (e0 : a12 (3 * 0 + k).toNatClampNeg = p) (e1 : a12 (3 * 1 + k).toNatClampNeg = q) (H : ∀ b15 b20 b21 : Nat → Int32, post (p + q) (2, pc, di, 0, 2, ls, a1, a2, a3, a4, a5, a6, a7, a8, a9, a10, a11, a12, a13, a14, b15, a16, a17, a18, a19, b20, b21, a22)) : wpX_sum post (2, pc, di, 0, ga, ls, a1, a2, a3, a4, a5, a6, a7, a8, a9, a10, a11, a12, a13, a14, a15, a16, a17, a18, a19, a20, a21, a22) k := by
  refine br_f hk.1 (br_t hk.2 ?_)
  refine br_t rfl ?_
  refine pq_gather h0 h1 i0 i1 e0 e1 (fun b15 b20 b21 t0 t1 => ⟨3, ?_⟩)
  refine br_f (by decide) ⟨pq_in (by decide), nm_r (e' := p) (show (0 : Int32) + b21 0 = p by rw [t0, Int32.zero_add]) (nm_r (e' := 1) (by decide) ?_)⟩
  refine br_f (by decide) ⟨pq_in (by decide), nm_r (e' := p + q) (show p + b21 1 = p + q by rw [t1]) (nm_r (e' := 2) (by decide) ?_)⟩
  exact br_t (by decide) (H b15 b20 b21)
theorem pq_diff {post : Int32 → St2 → Prop} {d : Int32} (hk : (¬ k < 0) ∧ k < 3) (h0 : a1 0 = 0) (h1 : a1 1 = 0) (i0 : vp_in (3 * 0 + k) 48) (i1 : vp_in (3 * 1 + k) 48) (e0 : a12 (3 * 0 + k).toNatClampNeg = p) (e1 : a12 (3 * 1 + k).toNatClampNeg = q)(hc : q ≤ p → lo = q ∧ hi = p) (hd : ¬ q ≤ p → lo = p ∧ hi = q) (he : hi = lo → d = 1) (hn : ¬ hi = lo → d = 2) (H : ∀ b15 b20 b21 : Nat → Int32, post d (2, pc, di, 0, 2, ls, a1, a2, a3, a4, a5, a6, a7, a8, a9, a10, a11, a12, a13, a14, b15, a16, a17, a18, a19, b20, b21, a22)) : wpX_different post (2, pc, di, 0, ga, ls, a1, a2, a3, a4, a5, a6, a7, a8, a9, a10, a11, a12, a13, a14, a15, a16, a17, a18, a19, a20, a21, a22) k := by
  refine br_f hk.1 (br_t hk.2 ?_)
  refine br_t rfl ?_
  refine pq_gather h0 h1 i0 i1 e0 e1 (fun b15 b20 b21 t0 t1 => ?_)
  refine pq_order t0 t1 hc hd (fun c21 s0 s1 => ⟨3, ?_⟩)
  refine br_f (by decide) (br_t (by decide) (nm_r (e' := 1) (by decide) (nm_r (e' := 1) (by decide) ?_)))
  refine br_f (by decide) (br_f (by decide) ⟨pq_in (by decide), pq_in (by decide), br_c (fun c => nm_r (e' := 2) (by decide) ?_) (fun c => nm_r (e' := 2) (by decide) (nm_r (e' := 2) (by decide) ?_))⟩)
  · have c' : hi = lo := by rw [← s0, ← s1]; exact c
    have H' := H b15 b20 c21
    rw [he c'] at H'
    exact br_t (by decide) H'
  · have c' : ¬ hi = lo := by rw [← s0, ← s1]; exact c
    have H' := H b15 b20 c21
    rw [hn c'] at H'
    exact br_t (by decide) H'
theorem pq_comm {post : Int32 → St2 → Prop} (hk : (¬ k < 0) ∧ k < 3) (h0 : a1 0 = 0) (h1 : a1 1 = 0) (i0 : vp_in (3 * 0 + k) 48) (i1 : vp_in (3 * 1 + k) 48) (e0 : a12 (3 * 0 + k).toNatClampNeg = p) (e1 : a12 (3 * 1 + k).toNatClampNeg = q)(hc : q ≤ p → lo = q ∧ hi = p) (hd : ¬ q ≤ p → lo = p ∧ hi = q) (H : ∀ b15 b20 b21 : Nat → Int32, post lo (2, pc, di, 0, 2, ls, a1, a2, a3, a4, a5, a6, a7, a8, a9, a10, a11, a12, a13, a14, b15, a16, a17, a18, a19, b20, b21, a22)) : wpX_commonest post (2, pc, di, 0, ga, ls, a1, a2, a3, a4, a5, a6, a7, a8, a9, a10, a11, a12, a13, a14, a15, a16, a17, a18, a19, a20, a21, a22) k := by
  refine br_f hk.1 (br_t hk.2 ?_)
  refine br_t rfl ?_
  refine pq_gather h0 h1 i0 i1 e0 e1 (fun b15 b20 b21 t0 t1 => ?_)
  refine pq_order t0 t1 hc hd (fun c21 s0 s1 => ⟨3, ?_⟩)
  refine br_f (by decide) (br_t (by decide) (br_f (by decide) ⟨pq_in (by decide), br_f (by decide) (nm_r (e' := 1) (by decide) ?_)⟩))
  refine br_f (by decide) (br_f (by decide) ⟨pq_in (by decide), pq_in (by decide), br_c (fun c => ?_) (fun c => ?_)⟩)
  · have c' : c21 1 = c21 0 := c
    refine br_f (by decide) ⟨pq_in (by decide), br_f (by decide) (nm_r (e' := 2) (by decide) (br_t (by decide) ?_))⟩
    exact ek_v (P := fun r => post r (2, pc, di, 0, 2, ls, a1, a2, a3, a4, a5, a6, a7, a8, a9, a10, a11, a12, a13, a14, b15, a16, a17, a18, a19, b20, c21, a22)) (c'.trans s0) (H b15 b20 c21)
  · refine br_t (by decide) (br_t (by decide) (nm_r (e' := 2) (by decide) (br_t (by decide) ?_)))
    exact ek_v (P := fun r => post r (2, pc, di, 0, 2, ls, a1, a2, a3, a4, a5, a6, a7, a8, a9, a10, a11, a12, a13, a14, b15, a16, a17, a18, a19, b20, c21, a22)) s0 (H b15 b20 c21)
theorem pq_digits {post : Int32 → Prop} (hk : (¬ k < 0) ∧ k < 3) (H : post 64) : wpX_digits post (2, pc, di, 0, ga, ls, a1, a2, a3, a4, a5, a6, a7, a8, a9, a10, a11, a12, a13, a14, a15, a16, a17, a18, a19, a20, a21, a22) k := by
  refine br_f hk.1 (br_t hk.2 ?_)
  refine br_t rfl ⟨by decide, nm_r (e' := 64) (by decide) ⟨1, ?_⟩⟩
  exact ⟨by decide, br_t (by decide) H⟩
theorem pq_app0 {post : Int32 → St2 → Prop} {x y z : Int32} (H : post 0 (1, pc, di, 0, ga, ls, (upd a1 0 0), a2, a3, a4, a5, a6, a7, a8, a9, a10, a11, (upd (upd (upd a12 0 x) 1 y) 2 z), a13, a14, a15, a16, a17, a18, a19, a20, a21, a22)) : wpX_append post (0, pc, di, 0, ga, ls, a1, a2, a3, a4, a5, a6, a7, a8, a9, a10, a11, a12, a13, a14, a15, a16, a17, a18, a19, a20, a21, a22) x y z := by
  refine br_f (by decide) ⟨by decide, nm_r (e' := 0) (by decide) ⟨pq_in (by decide), nm_r (e' := upd a12 0 x) rfl ⟨pq_in (by decide), nm_r (e' := upd (upd a12 0 x) 1 y) rfl ⟨pq_in (by decide), nm_r (e' := upd (upd (upd a12 0 x) 1 y) 2 z) rfl ⟨pq_in (by decide), nm_r (e' := upd a1 0 0) rfl (nm_r (e' := 1) (by decide) (br_f (by decide) ?_))⟩⟩⟩⟩⟩
  exact H
theorem pq_app1 {post : Int32 → St2 → Prop} {x y z : Int32} (H : post 1 (2, pc, di, 0, ga, ls, (upd a1 1 0), a2, a3, a4, a5, a6, a7, a8, a9, a10, a11, (upd (upd (upd a12 3 x) 4 y) 5 z), a13, a14, a15, a16, a17, a18, a19, a20, a21, a22)) : wpX_append post (1, pc, di, 0, ga, ls, a1, a2, a3, a4, a5, a6, a7, a8, a9, a10, a11, a12, a13, a14, a15, a16, a17, a18, a19, a20, a21, a22) x y z := by
  refine br_f (by decide) ⟨by decide, nm_r (e' := 1) (by decide) ⟨pq_in (by decide), nm_r (e' := upd a12 3 x) rfl ⟨pq_in (by decide), nm_r (e' := upd (upd a12 3 x) 4 y) rfl ⟨pq_in (by decide), nm_r (e' := upd (upd (upd a12 3 x) 4 y) 5 z) rfl ⟨pq_in (by decide), nm_r (e' := upd a1 1 0) rfl (nm_r (e' := 2) (by decide) (br_f (by decide) ?_))⟩⟩⟩⟩⟩
  exact H
end
end
section
theorem pq_k3 (c : Int32) : ((c &&& 3) - (c &&& 3) / 3 * 3 = 0) ∨ ((c &&& 3) - (c &&& 3) / 3 * 3 = 1) ∨ ((c &&& 3) - (c &&& 3) / 3 * 3 = 2) := by
  obtain ⟨j, hj, e⟩ := pk_andE c (m := 3) 2 (by decide)
  have h3 : nI j - nI j / 3 * 3 = nI (j % 3) := pk_rem (d := 3) (by omega) (by omega) (by omega)
  rw [e, h3]
  have : j % 3 = 0 ∨ j % 3 = 1 ∨ j % 3 = 2 := by omega
  rcases this with h | h | h
  · exact Or.inl (by rw [h]; rfl)
  · exact Or.inr (Or.inl (by rw [h]; rfl))
  · exact Or.inr (Or.inr (by rw [h]; rfl))
/-- the law's checks, from the answers on -/
theorem pq_end {post : Int32 → St0 → Prop} {mc ms kc ks : Nat} {a b lo hi d : Int32} (hc : b ≤ a → lo = b ∧ hi = a) (hd : ¬ b ≤ a → lo = a ∧ hi = b) (he : hi = lo → d = 1) (hn : ¬ hi = lo → d = 2) (H : post 1 ()) :
    wL_lawOf_148 post mc ms 2 lo hi lo (a + b) d lo 64 a b kc ks := by
  have last : wL_lawOf_180 post mc ms 2 lo hi lo (a + b) d lo 64 a b lo hi kc ks := by
    refine br_t rfl (br_t rfl (br_t rfl (br_t rfl (br_t rfl (br_c (fun c => ?_) (fun c => ?_))))))
    · have z : hi = lo := by
        by_cases g : b ≤ a
        · rw [(hc g).1, (hc g).2, c]
        · rw [(hd g).1, (hd g).2, c]
      exact br_t (he z) (br_t rfl (br_t rfl H))
    · have z : ¬ hi = lo := by
        by_cases g : b ≤ a
        · rw [(hc g).1, (hc g).2]; exact c
        · rw [(hd g).1, (hd g).2]; exact fun t => c t.symm
      exact br_t (hn z) (br_t rfl (br_t rfl H))
  refine br_c (fun c => ?_) (fun c => ?_)
  · obtain ⟨rfl, rfl⟩ := hc c
    exact br_t c last
  · obtain ⟨rfl, rfl⟩ := hd c
    exact br_f c last
theorem pq_lh (a b : Int32) : ∃ lo hi d : Int32, (b ≤ a → lo = b ∧ hi = a) ∧ (¬ b ≤ a → lo = a ∧ hi = b) ∧ (hi = lo → d = 1) ∧ (¬ hi = lo → d = 2) := by
  by_cases c : b ≤ a
  · by_cases e : a = b
    · exact ⟨b, a, 1, fun _ => ⟨rfl, rfl⟩, fun h => absurd c h, fun _ => rfl, fun h => absurd e h⟩
    · exact ⟨b, a, 2, fun _ => ⟨rfl, rfl⟩, fun h => absurd c h, fun h => absurd h e, fun _ => rfl⟩
  · by_cases e : b = a
    · exact ⟨a, b, 1, fun h => absurd h c, fun _ => ⟨rfl, rfl⟩, fun _ => rfl, fun h => absurd e h⟩
    · exact ⟨a, b, 2, fun h => absurd h c, fun _ => ⟨rfl, rfl⟩, fun h => absurd h e, fun _ => rfl⟩
section
variable {pc di ga : Int32} {ls : Int64} {a1 a2 a3 a4 a5 a6 a7 a8 a9 a10 a11 a12 a13 a14 a15 a16 a17 a18 a19 a20 a21 a22 : Nat → Int32}

theorem pq_calls {post : Int32 → Int32 → Int32 → Int32 → Int32 → Int32 → Int32 → Int32 → Prop} {k p q lo hi d : Int32} (hk : (¬ k < 0) ∧ k < 3) (h0 : a1 0 = 0) (h1 : a1 1 = 0) (i0 : vp_in (3 * 0 + k) 48) (i1 : vp_in (3 * 1 + k) 48) (e0 : a12 (3 * 0 + k).toNatClampNeg = p) (e1 : a12 (3 * 1 + k).toNatClampNeg = q)(hc : q ≤ p → lo = q ∧ hi = p) (hd : ¬ q ≤ p → lo = p ∧ hi = q) (he : hi = lo → d = 1) (hn : ¬ hi = lo → d = 2) (H : post 2 lo hi lo (p + q) d lo 64) :
    wpX_count (fun r1 u => wpX_least (fun r2 u => wpX_ranked (fun r3 u => wpX_ranked (fun r4 u => wpX_sum (fun r5 u => wpX_different (fun r6 u => wpX_commonest (fun r7 u => wpX_digits (fun r8 => post r1 r2 r3 r4 r5 r6 r7 r8) u k) u k) u k) u k) u k 1) u k 0) u k) (2, pc, di, 0, ga, ls, a1, a2, a3, a4, a5, a6, a7, a8, a9, a10, a11, a12, a13, a14, a15, a16, a17, a18, a19, a20, a21, a22) := by
  refine pq_count h0 h1 ?_
  refine pq_least hk h0 h1 i0 i1 e0 e1 hc hd (fun _ _ _ => ?_)
  refine pq_rank0 hk h0 h1 i0 i1 e0 e1 hc hd (fun _ _ _ => ?_)
  refine pq_rank1 hk h0 h1 i0 i1 e0 e1 hc hd (fun _ _ _ => ?_)
  refine pq_sum hk h0 h1 i0 i1 e0 e1 (fun _ _ _ => ?_)
  refine pq_diff hk h0 h1 i0 i1 e0 e1 hc hd he hn (fun _ _ _ => ?_)
  refine pq_comm hk h0 h1 i0 i1 e0 e1 hc hd (fun _ _ _ => ?_)
  exact pq_digits hk H
end
end
section
theorem pq_lawOf {post : Int32 → St0 → Prop} (x y z c : Int32) (H : post 1 ()) : wpL_lawOf post 766 12256 () x y z c := by
  refine ⟨by decide, by decide, 700, 12000, by decide, by decide, ?_⟩
  refine ⟨by decide, by decide, by decide, by decide, by decide, by decide, by decide, by decide, by decide, by decide, by decide, by decide, by decide, by decide, by decide, by decide, by decide, by decide, by decide, by decide, by decide, by decide, by decide, by decide, by decide, by decide, by decide, by decide, by decide, by decide, by decide, by decide, by decide, by decide, by decide, by decide, by decide, by decide, by decide, by decide, by decide, by decide, by decide, by decide, ?_⟩
  refine pq_app0 (pq_app1 ⟨by decide, ?_⟩)
  rcases pq_k3 c with e | e | e
  · refine nm_r e ?_
    obtain ⟨lo, hi, d, hc, hd, he, hn⟩ := pq_lh x y
    refine pq_calls (p := x) (q := y) (by decide) rfl rfl (pq_in (by decide)) (pq_in (by decide)) rfl rfl hc hd he hn ?_
    exact br_t rfl (br_t rfl (pq_end hc hd he hn H))
  · refine nm_r e ?_
    obtain ⟨lo, hi, d, hc, hd, he, hn⟩ := pq_lh y z
    refine pq_calls (p := y) (q := z) (by decide) rfl rfl (pq_in (by decide)) (pq_in (by decide)) rfl rfl hc hd he hn ?_
    exact br_f (by decide) (br_t rfl (br_f (by decide) (br_t rfl (pq_end hc hd he hn H))))
  · refine nm_r e ?_
    obtain ⟨lo, hi, d, hc, hd, he, hn⟩ := pq_lh z x
    refine pq_calls (p := z) (q := x) (by decide) rfl rfl (pq_in (by decide)) (pq_in (by decide)) rfl rfl hc hd he hn ?_
    exact br_f (by decide) (br_f (by decide) (br_f (by decide) (br_f (by decide) (pq_end hc hd he hn H))))
theorem pq_cell {post : Int32 → Prop} (L : Nat) (xs : Nat → Int32) (hL : L ≤ 4) (i : Nat) (hi : i < 4) (H : ∀ r, post r) : wpL_cellAt post L xs () (nI i) :=
  pk_le L i (fun _ => H 0) (fun h => ⟨pk_in i L h, H _⟩)
theorem i_vc (xs : Nat → Int32) (L : Nat) (hL : L ≤ 4) : wpL_law (fun r => r = 1) L xs := by
  refine pq_cell L xs hL 0 (by decide) (fun x => ?_)
  refine pq_cell L xs hL 1 (by decide) (fun y => ?_)
  refine pq_cell L xs hL 2 (by decide) (fun z => ?_)
  refine pq_cell L xs hL 3 (by decide) (fun c => ?_)
  exact ⟨766, 12256, by decide, by decide, pq_lawOf x y z c rfl⟩
end
