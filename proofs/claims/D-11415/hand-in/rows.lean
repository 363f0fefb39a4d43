section
/-- an array of which the first three places count -/
def sg_m (x y z : Int32) : Nat → Int32 := fun i => if i = 0 then x else if i = 1 then y else if i = 2 then z else 0
theorem sg_z : (fun _ : Nat => (0 : Int32)) = sg_m 0 0 0 := by
  funext i
  simp [sg_m]
theorem sg_w0 {x y z v w : Int32} (h : v = w) : upd (sg_m x y z) 0 v = sg_m w y z := by
  subst h
  funext i
  by_cases e : i = 0
  · subst e
    simp [upd, sg_m]
  · simp [upd, sg_m, e]
theorem sg_w1 {x y z v w : Int32} (h : v = w) : upd (sg_m x y z) 1 v = sg_m x w z := by
  subst h
  funext i
  by_cases e : i = 1
  · subst e
    simp [upd, sg_m]
  · simp [upd, sg_m, e]
theorem sg_w2 {x y z v w : Int32} (h : v = w) : upd (sg_m x y z) 2 v = sg_m x y w := by
  subst h
  funext i
  by_cases e : i = 2
  · subst e
    simp [upd, sg_m]
  · simp [upd, sg_m, e]
theorem sg_v0 : vp_in 0 24 := vp_in_iff.mpr (by decide)
theorem sg_v1 : vp_in 1 24 := vp_in_iff.mpr (by decide)
theorem sg_v2 : vp_in 2 24 := vp_in_iff.mpr (by decide)
theorem sg_n0 : narrow .boolean (.int 0) = .int 0 := by rfl
theorem sg_n1 : narrow .boolean (.int 1) = .int 1 := by rfl
/-! what the parts of each node are -/
theorem sg_p0 {post : Int32 → Prop} {c ar hv ch kt ov tc lv wt : Int32} {a2 a3 a4 a5 a6 a7 a8 a9 a10 : Nat → Int32} (H : post 0) : wpX_partsOf post (c, ar, hv, ch, kt, ov, tc, lv, wt, sg_m 0 4 5, a2, a3, a4, a5, a6, a7, a8, a9, a10) 0 := by
  refine ⟨sg_v0, nm_r (e' := 0) (by decide) ?_⟩
  exact br_t (by decide) H
theorem sg_p1 {post : Int32 → Prop} {c ar hv ch kt ov tc lv wt : Int32} {a3 a4 a5 a6 a7 a8 a9 a10 : Nat → Int32} (H : post 4) : wpX_partsOf post (c, ar, hv, ch, kt, ov, tc, lv, wt, sg_m 0 4 5, sg_m 0 2 0, a3, a4, a5, a6, a7, a8, a9, a10) 1 := by
  refine ⟨sg_v1, nm_r (e' := 4) (by decide) ?_⟩
  refine br_f (by decide) (br_f (by decide) (br_t (by decide) ⟨sg_v1, br_t (by decide) ⟨sg_v1, ?_⟩⟩))
  exact ek_v (P := post) (show (1 : Int32) <<< ((2 : Int32) &&& 31) = 4 by decide) H
theorem sg_p2 {post : Int32 → Prop} {c ar hv ch kt ov tc lv wt : Int32} {a3 a4 a5 a6 a7 a8 a9 a10 : Nat → Int32} {y : Int32} (H : post 1) : wpX_partsOf post (c, ar, hv, ch, kt, ov, tc, lv, wt, sg_m 0 4 5, sg_m 0 y 0, a3, a4, a5, a6, a7, a8, a9, a10) 2 := by
  refine ⟨sg_v2, nm_r (e' := 5) (by decide) ?_⟩
  refine br_f (by decide) (br_f (by decide) (br_f (by decide) (br_f (by decide) ⟨sg_v2, nm_r (e' := 1) (show (1 : Int32) <<< ((0 : Int32) &&& 31) = 1 by decide) ?_⟩)))
  exact br_f (by decide) (br_f (by decide) (br_f (by decide) H))
/-! all that is below node 2 (not tied yet), below node 1 (tied) -/
theorem sg_b2 {post : Int32 → Prop} {ar hv ch kt ov tc lv wt : Int32} {a3 a4 a5 a6 a7 a8 a9 a10 : Nat → Int32} {y : Int32} (H : post 1) : wpX_below post (3, ar, hv, ch, kt, ov, tc, lv, wt, sg_m 0 4 5, sg_m 0 y 0, a3, a4, a5, a6, a7, a8, a9, a10) 2 := by
  unfold wpX_below
  refine sg_p2 ⟨2, ?_⟩
  refine br_f (by decide) ⟨4, ?_⟩
  refine br_f (by decide) (br_f (by decide) (sg_p0 (nm_r (e' := 1) (by decide) (nm_r (e' := 1) (by decide) ?_))))
  refine br_f (by decide) (br_t (by decide) (nm_r (e' := 2) (by decide) ?_))
  refine br_f (by decide) (br_t (by decide) (nm_r (e' := 3) (by decide) ?_))
  refine br_t (by decide) ?_
  exact br_t rfl H
theorem sg_b1 {post : Int32 → Prop} {ar hv ch kt ov tc lv wt : Int32} {a3 a4 a5 a6 a7 a8 a9 a10 : Nat → Int32} (H : post 5) : wpX_below post (3, ar, hv, ch, kt, ov, tc, lv, wt, sg_m 0 4 5, sg_m 0 2 0, a3, a4, a5, a6, a7, a8, a9, a10) 1 := by
  unfold wpX_below
  refine sg_p1 ⟨3, ?_⟩
  refine br_f (by decide) ⟨4, ?_⟩
  refine br_f (by decide) (br_t (by decide) (nm_r (e' := 1) (by decide) ?_))
  refine br_f (by decide) (br_t (by decide) (nm_r (e' := 2) (by decide) ?_))
  refine br_f (by decide) (br_f (by decide) (sg_p2 (nm_r (e' := 5) (by decide) (nm_r (e' := 3) (by decide) ?_))))
  refine br_t (by decide) ?_
  refine br_f (by decide) ⟨4, ?_⟩
  refine br_f (by decide) (br_f (by decide) (sg_p0 (nm_r (e' := 5) (by decide) (nm_r (e' := 1) (by decide) ?_))))
  refine br_f (by decide) (br_t (by decide) (nm_r (e' := 2) (by decide) ?_))
  refine br_f (by decide) (br_f (by decide) (sg_p2 (nm_r (e' := 5) (by decide) (nm_r (e' := 3) (by decide) ?_))))
  refine br_t (by decide) ?_
  exact br_t rfl H
end
section
/-! the object as it is made, and its three nodes -/
theorem sg_init {post : St2 → Prop} (H : post (0, 0, 0, 0, 0, 0, 0, 1, 0, sg_m 0 0 0, sg_m 0 0 0, sg_m 0 0 0, sg_m 0 0 0, sg_m 0 0 0, sg_m 0 0 0, sg_m 0 0 0, sg_m 0 0 0, sg_m 0 0 0, sg_m 0 0 0)) : wpX_init post 10 240 (0, 0, 0, 0, 0, 0, 0, 0, 0) := by
  rw [← sg_z] at H
  exact ⟨(by decide), (by decide), (by decide), (by decide), (by decide), (by decide), (by decide), (by decide), (by decide), (by decide), (by decide), (by decide), (by decide), (by decide), (by decide), (by decide), (by decide), (by decide), (by decide), (by decide), H⟩
theorem sg_node0 {post : Int32 → St2 → Prop} (H : post 0 (1, 0, 0, 0, 0, 0, 0, 1, 0, sg_m 0 0 0, sg_m 0 0 0, sg_m 0 0 0, sg_m 0 0 0, sg_m 0 0 0, sg_m 0 0 0, sg_m 0 0 0, sg_m 0 0 0, sg_m 0 0 0, sg_m 0 0 0)) : wpX_node post (0, 0, 0, 0, 0, 0, 0, 1, 0, sg_m 0 0 0, sg_m 0 0 0, sg_m 0 0 0, sg_m 0 0 0, sg_m 0 0 0, sg_m 0 0 0, sg_m 0 0 0, sg_m 0 0 0, sg_m 0 0 0, sg_m 0 0 0) 0 0 0 0 := by
  refine br_t (by decide) (br_f (by decide) (br_f (by decide) ?_))
  refine br_t (by decide) ?_
  refine br_f (by decide) (nm_r (e' := 1) (by decide) ?_)
  refine ⟨sg_v0, nm_r (sg_w0 (w := 0) (by decide)) ?_⟩
  refine ⟨sg_v0, nm_r (sg_w0 (w := 0) rfl) ?_⟩
  refine ⟨sg_v0, nm_r (sg_w0 (w := 0) rfl) ?_⟩
  refine ⟨sg_v0, nm_r (sg_w0 (w := 0) rfl) ?_⟩
  refine ⟨sg_v0, nm_r (sg_w0 (w := 0) rfl) ?_⟩
  refine ⟨sg_v0, nm_r (sg_w0 (w := 0) rfl) ?_⟩
  refine br_f (by decide) ?_
  unfold wX_node_118
  refine ⟨sg_v0, nm_r (sg_w0 (w := 0) rfl) ?_⟩
  refine nm_e (nm_r (e' := 0) (by decide) (nm_r (e' := 0) (by decide) (nm_r (e' := 0) (by decide) (nm_r (e' := 0) (by decide) ?_))))
  refine br_f (by decide) (br_f (by decide) (br_f (by decide) (br_f (by decide) ?_)))
  exact br_t (by decide) H
theorem sg_node1 {post : Int32 → St2 → Prop} {p : Int32} (H : post 1 (2, 0, 0, 0, 0, 0, 0, 1, 0, sg_m 0 4 0, sg_m 0 (-1) 0, sg_m 0 p 0, sg_m 0 0 0, sg_m 0 0 0, sg_m 0 0 0, sg_m 0 p 0, sg_m 0 0 0, sg_m 0 0 0, sg_m 0 0 0)) : wpX_node post (1, 0, 0, 0, 0, 0, 0, 1, 0, sg_m 0 0 0, sg_m 0 0 0, sg_m 0 0 0, sg_m 0 0 0, sg_m 0 0 0, sg_m 0 0 0, sg_m 0 0 0, sg_m 0 0 0, sg_m 0 0 0, sg_m 0 0 0) 4 (-1) p 0 := by
  refine br_t (by decide) (br_f (by decide) (br_f (by decide) ?_))
  refine br_f (by decide) (br_t (by decide) (br_t (by decide) ?_))
  refine br_f (by decide) (nm_r (e' := 2) (by decide) ?_)
  refine ⟨sg_v1, nm_r (sg_w1 (w := 4) (by decide)) ?_⟩
  refine ⟨sg_v1, nm_r (sg_w1 (w := (-1)) rfl) ?_⟩
  refine ⟨sg_v1, nm_r (sg_w1 (w := p) rfl) ?_⟩
  refine ⟨sg_v1, nm_r (sg_w1 (w := 0) rfl) ?_⟩
  refine ⟨sg_v1, nm_r (sg_w1 (w := 0) rfl) ?_⟩
  refine ⟨sg_v1, nm_r (sg_w1 (w := 0) rfl) ?_⟩
  refine br_t (by decide) ?_
  unfold wX_node_118
  refine ⟨sg_v1, nm_r (sg_w1 (w := p) rfl) ?_⟩
  refine nm_e (nm_r (e' := 0) (by decide) (nm_r (e' := 0) (by decide) (nm_r (e' := 0) (by decide) (nm_r (e' := 0) (by decide) ?_))))
  refine br_t (by decide) ?_
  exact br_f (by decide) (br_t (by decide) H)
theorem sg_node2 {post : Int32 → St2 → Prop} {p : Int32} (H : post 2 (3, 0, 0, 0, 0, 0, 0, 1, 0, sg_m 0 4 5, sg_m 0 (-1) 0, sg_m 0 p 1, sg_m 0 0 0, sg_m 0 0 0, sg_m 0 0 0, sg_m 0 p 0, sg_m 0 0 0, sg_m 0 0 0, sg_m 0 0 0)) : wpX_node post (2, 0, 0, 0, 0, 0, 0, 1, 0, sg_m 0 4 0, sg_m 0 (-1) 0, sg_m 0 p 0, sg_m 0 0 0, sg_m 0 0 0, sg_m 0 0 0, sg_m 0 p 0, sg_m 0 0 0, sg_m 0 0 0, sg_m 0 0 0) 5 0 1 0 := by
  refine br_t (by decide) (br_f (by decide) (br_f (by decide) ?_))
  refine br_f (by decide) (br_f (by decide) (br_f (by decide) (br_t (by decide) ?_)))
  unfold wX_operandsFit_68
  unfold wpX_isEvent
  refine br_f (by decide) (br_f (by decide) ?_)
  refine br_f (by decide) ⟨sg_v0, ?_⟩
  refine br_f (by decide) (br_f (by decide) (br_f (by decide) (br_f (by decide) ?_)))
  refine br_t (by decide) ?_
  refine br_f (by decide) ?_
  unfold wpX_isCell
  refine br_f (by decide) (br_f (by decide) ?_)
  refine br_f (by decide) ⟨sg_v1, ?_⟩
  refine br_t (by decide) ?_
  refine br_f (by decide) ?_
  refine br_f (by decide) ?_
  refine br_f (by decide) (nm_r (e' := 3) (by decide) ?_)
  refine ⟨sg_v2, nm_r (sg_w2 (w := 5) (by decide)) ?_⟩
  refine ⟨sg_v2, nm_r (sg_w2 (w := 0) rfl) ?_⟩
  refine ⟨sg_v2, nm_r (sg_w2 (w := 1) rfl) ?_⟩
  refine ⟨sg_v2, nm_r (sg_w2 (w := 0) rfl) ?_⟩
  refine ⟨sg_v2, nm_r (sg_w2 (w := 0) rfl) ?_⟩
  refine ⟨sg_v2, nm_r (sg_w2 (w := 0) rfl) ?_⟩
  refine br_f (by decide) ?_
  unfold wX_node_118
  refine ⟨sg_v2, nm_r (sg_w2 (w := 0) rfl) ?_⟩
  refine nm_e (nm_r (e' := 0) (by decide) (nm_r (e' := 0) (by decide) (nm_r (e' := 0) (by decide) (nm_r (e' := 0) (by decide) ?_))))
  refine br_f (by decide) (br_f (by decide) (br_f (by decide) (br_f (by decide) ?_)))
  exact br_t (by decide) H
/-! node 2 is tied to the hold 1: it doesn't reach it -/
theorem sg_tie {post : Int32 → St2 → Prop} {p : Int32} (H : post 1 (3, 0, 0, 0, 0, 0, 0, 1, 0, sg_m 0 4 5, sg_m 0 2 0, sg_m 0 p 1, sg_m 0 0 0, sg_m 0 0 0, sg_m 0 0 0, sg_m 0 p 0, sg_m 0 0 0, sg_m 0 0 0, sg_m 0 0 0)) : wpX_tie post (3, 0, 0, 0, 0, 0, 0, 1, 0, sg_m 0 4 5, sg_m 0 (-1) 0, sg_m 0 p 1, sg_m 0 0 0, sg_m 0 0 0, sg_m 0 0 0, sg_m 0 p 0, sg_m 0 0 0, sg_m 0 0 0, sg_m 0 0 0) 1 2 := by
  unfold wpX_tie
  refine br_f (by decide) (br_f (by decide) ?_)
  refine br_f (by decide) ⟨sg_v1, br_t (by decide) (br_f (by decide) ?_)⟩
  unfold wpX_isEvent
  refine br_f (by decide) (br_f (by decide) ?_)
  refine br_f (by decide) ⟨sg_v2, ?_⟩
  refine br_f (by decide) (br_f (by decide) (br_f (by decide) (br_f (by decide) ?_)))
  refine br_t (by decide) ?_
  refine br_f (by decide) ?_
  refine br_f (by decide) (sg_b2 ?_)
  refine br_t (by decide) ?_
  refine br_t (by decide) ?_
  exact ⟨sg_v1, nm_r (sg_w1 rfl) H⟩
/-! the source fires -/
theorem sg_fire {post : Int32 → St2 → Prop} {ar hv ch ov tc lv wt : Int32} {a2 a3 a4 a5 a6 a7 a8 a10 : Nat → Int32} {k0 k1 k2 v : Int32} (H : post 1 (3, ar, hv, ch, 1, ov, tc, lv, wt, sg_m 0 4 5, a2, a3, a4, a5, a6, a7, a8, sg_m v k1 k2, a10)) : wpX_fire post (3, ar, hv, ch, 0, ov, tc, lv, wt, sg_m 0 4 5, a2, a3, a4, a5, a6, a7, a8, sg_m k0 k1 k2, a10) 0 v := by
  unfold wpX_fire
  refine br_f (by decide) (br_f (by decide) ?_)
  refine br_f (by decide) ⟨sg_v0, br_t (by decide) ⟨sg_v0, nm_r (sg_w0 rfl) (nm_r (e' := 1) (by decide) H)⟩⟩
/-! the hold's value; the hold leads to node 2 -/
theorem sg_value {post : Int32 → Prop} {ar hv ch kt ov tc lv wt : Int32} {a2 a3 a4 a5 a6 a8 a9 a10 : Nat → Int32} {v0 v1 v2 : Int32} (H : post v1) : wpX_value post (3, ar, hv, ch, kt, ov, tc, lv, wt, sg_m 0 4 5, a2, a3, a4, a5, a6, sg_m v0 v1 v2, a8, a9, a10) 1 := by
  unfold wpX_value
  refine br_f (by decide) (br_f (by decide) ?_)
  refine br_f (by decide) ?_
  unfold wpX_isEvent
  refine br_f (by decide) (br_f (by decide) ?_)
  refine br_f (by decide) ⟨sg_v1, ?_⟩
  refine br_t (by decide) ?_
  refine br_f (by decide) ?_
  exact br_t (by decide) ⟨sg_v1, H⟩
theorem sg_leads {post : Int32 → Prop} {ar hv ch kt ov tc lv wt : Int32} {a3 a4 a5 a6 a7 a8 a9 a10 : Nat → Int32} (H : post 1) : wpX_leads post (3, ar, hv, ch, kt, ov, tc, lv, wt, sg_m 0 4 5, sg_m 0 2 0, a3, a4, a5, a6, a7, a8, a9, a10) 1 2 := by
  unfold wpX_leads
  refine br_f (by decide) (br_f (by decide) ?_)
  refine br_f (by decide) ?_
  refine br_f (by decide) (br_f (by decide) ?_)
  refine br_f (by decide) (sg_b1 ?_)
  exact br_f (by decide) H
end
section
/-! the heights -/
theorem sg_r0 {post : Int32 → St2 → Prop} {ar hv ch kt ov tc lv wt : Int32} {a3 a4 a6 a7 a8 a9 a10 : Nat → Int32} {h1 h2 : Int32} (H : post 0 (3, ar, hv, ch, kt, ov, tc, lv, wt, sg_m 0 4 5, sg_m 0 2 0, a3, a4, sg_m 0 h1 h2, a6, a7, a8, a9, a10)) : wpX_raise post (3, ar, hv, ch, kt, ov, tc, lv, wt, sg_m 0 4 5, sg_m 0 2 0, a3, a4, sg_m 0 h1 h2, a6, a7, a8, a9, a10) 0 := by
  unfold wpX_raise
  refine sg_p0 ⟨4, ?_⟩
  refine br_f (by decide) (br_t (by decide) (nm_r (e' := 1) (by decide) ?_))
  refine br_f (by decide) (br_t (by decide) (nm_r (e' := 2) (by decide) ?_))
  refine br_f (by decide) (br_t (by decide) (nm_r (e' := 3) (by decide) ?_))
  refine br_t (by decide) ⟨sg_v0, br_t (show (0 : Int32) ≤ 0 by decide) ?_⟩
  exact ⟨sg_v0, nm_r (sg_w0 (w := 0) (by decide)) ⟨sg_n0, H⟩⟩
theorem sg_r1 {post : Int32 → St2 → Prop} {ar hv ch kt ov tc lv wt : Int32} {a3 a4 a6 a7 a8 a9 a10 : Nat → Int32} {h0 h1 h2 k r : Int32} (e1 : ¬ h2 < 0) (e2 : h2 + 1 = k) (e3 : k ≤ h1 ∧ r = 0 ∨ ¬ k ≤ h1 ∧ r = 1) (e4 : k.toInt8.toInt32 = k) (H : post r (3, ar, hv, ch, kt, ov, tc, lv, wt, sg_m 0 4 5, sg_m 0 2 0, a3, a4, sg_m h0 k h2, a6, a7, a8, a9, a10)) : wpX_raise post (3, ar, hv, ch, kt, ov, tc, lv, wt, sg_m 0 4 5, sg_m 0 2 0, a3, a4, sg_m h0 h1 h2, a6, a7, a8, a9, a10) 1 := by
  unfold wpX_raise
  refine sg_p1 ⟨4, ?_⟩
  refine br_f (by decide) (br_t (by decide) (nm_r (e' := 1) (by decide) ?_))
  refine br_f (by decide) (br_t (by decide) (nm_r (e' := 2) (by decide) ?_))
  refine br_f (by decide) (br_f (by decide) ⟨sg_v2, br_f e1 ⟨sg_v2, nm_r e2 (nm_r (e' := 3) (by decide) ?_)⟩⟩)
  refine br_t (by decide) ⟨sg_v1, ?_⟩
  rcases e3 with ⟨e, rfl⟩ | ⟨e, rfl⟩
  · exact br_t e ⟨sg_v1, nm_r (sg_w1 e4) ⟨sg_n0, H⟩⟩
  · exact br_f e ⟨sg_v1, nm_r (sg_w1 e4) ⟨sg_n1, H⟩⟩
theorem sg_r2 {post : Int32 → St2 → Prop} {ar hv ch kt ov tc lv wt : Int32} {a3 a4 a6 a7 a8 a9 a10 : Nat → Int32} {h1 h2 r : Int32} (e3 : 1 ≤ h2 ∧ r = 0 ∨ ¬ 1 ≤ h2 ∧ r = 1) (H : post r (3, ar, hv, ch, kt, ov, tc, lv, wt, sg_m 0 4 5, sg_m 0 2 0, a3, a4, sg_m 0 h1 1, a6, a7, a8, a9, a10)) : wpX_raise post (3, ar, hv, ch, kt, ov, tc, lv, wt, sg_m 0 4 5, sg_m 0 2 0, a3, a4, sg_m 0 h1 h2, a6, a7, a8, a9, a10) 2 := by
  unfold wpX_raise
  refine sg_p2 ⟨4, ?_⟩
  refine br_f (by decide) (br_f (by decide) ⟨sg_v0, br_f (show ¬ (0 : Int32) < 0 by decide) ⟨sg_v0, nm_r (e' := 1) (show (0 : Int32) + 1 = 1 by decide) (nm_r (e' := 1) (by decide) ?_)⟩⟩)
  refine br_f (by decide) (br_t (by decide) (nm_r (e' := 2) (by decide) ?_))
  refine br_f (by decide) (br_t (by decide) (nm_r (e' := 3) (by decide) ?_))
  refine br_t (by decide) ⟨sg_v2, ?_⟩
  rcases e3 with ⟨e, rfl⟩ | ⟨e, rfl⟩
  · exact br_t e ⟨sg_v2, nm_r (sg_w2 (w := 1) (by decide)) ⟨sg_n0, H⟩⟩
  · exact br_f e ⟨sg_v2, nm_r (sg_w2 (w := 1) (by decide)) ⟨sg_n1, H⟩⟩
theorem sg_arr {post : St2 → Prop} {hv ch kt ov tc lv wt : Int32} {a3 a4 a7 a8 a9 a10 : Nat → Int32} {x0 x1 x2 y0 y1 y2 : Int32} (H : post (3, 1, hv, ch, kt, ov, tc, lv, wt, sg_m 0 4 5, sg_m 0 2 0, a3, a4, sg_m 0 2 1, sg_m 4 0 2, a7, a8, a9, a10)) : wpX_arrange post (3, 0, hv, ch, kt, ov, tc, lv, wt, sg_m 0 4 5, sg_m 0 2 0, a3, a4, sg_m x0 x1 x2, sg_m y0 y1 y2, a7, a8, a9, a10) := by
  refine br_t (by decide) ⟨4, ?_⟩
  refine br_f (by decide) ⟨sg_v0, nm_r (sg_w0 rfl) ⟨sg_v0, nm_r (sg_w0 rfl) (nm_r (e' := 1) (by decide) ?_)⟩⟩
  refine br_f (by decide) ⟨sg_v1, nm_r (sg_w1 rfl) ⟨sg_v1, nm_r (sg_w1 rfl) (nm_r (e' := 2) (by decide) ?_)⟩⟩
  refine br_f (by decide) ⟨sg_v2, nm_r (sg_w2 rfl) ⟨sg_v2, nm_r (sg_w2 rfl) (nm_r (e' := 3) (by decide) ?_)⟩⟩
  refine br_t (by decide) ⟨4, ?_⟩
  refine br_f (by decide) ⟨4, ?_⟩
  refine br_f (by decide) (sg_r0 ?_)
  refine br_t (by decide) (nm_r (e' := 1) (by decide) ?_)
  refine br_f (by decide) (sg_r1 (k := 1) (r := 1) (by decide) (by decide) (Or.inr ⟨(by decide), rfl⟩) (by decide) ?_)
  refine br_f (by decide) (nm_r (e' := 2) (by decide) ?_)
  refine br_f (by decide) (sg_r2 (r := 1) (Or.inr ⟨(by decide), rfl⟩) ?_)
  refine br_f (by decide) (nm_r (e' := 3) (by decide) ?_)
  refine br_t (by decide) ?_
  refine br_f (by decide) ⟨4, ?_⟩
  refine br_f (by decide) (sg_r0 ?_)
  refine br_t (by decide) (nm_r (e' := 1) (by decide) ?_)
  refine br_f (by decide) (sg_r1 (k := 2) (r := 1) (by decide) (by decide) (Or.inr ⟨(by decide), rfl⟩) (by decide) ?_)
  refine br_f (by decide) (nm_r (e' := 2) (by decide) ?_)
  refine br_f (by decide) (sg_r2 (r := 0) (Or.inl ⟨(by decide), rfl⟩) ?_)
  refine br_t (by decide) (nm_r (e' := 3) (by decide) ?_)
  refine br_t (by decide) ?_
  refine br_f (by decide) ⟨4, ?_⟩
  refine br_f (by decide) (sg_r0 ?_)
  refine br_t (by decide) (nm_r (e' := 1) (by decide) ?_)
  refine br_f (by decide) (sg_r1 (k := 2) (r := 0) (by decide) (by decide) (Or.inl ⟨(by decide), rfl⟩) (by decide) ?_)
  refine br_t (by decide) (nm_r (e' := 2) (by decide) ?_)
  refine br_f (by decide) (sg_r2 (r := 0) (Or.inl ⟨(by decide), rfl⟩) ?_)
  refine br_t (by decide) (nm_r (e' := 3) (by decide) ?_)
  refine br_t (by decide) ?_
  refine br_t (by decide) ⟨4, ?_⟩
  refine br_f (by decide) (sg_p0 ⟨4, ?_⟩)
  refine br_f (by decide) (br_t (by decide) (nm_r (e' := 1) (by decide) ?_))
  refine br_f (by decide) (br_t (by decide) (nm_r (e' := 2) (by decide) ?_))
  refine br_f (by decide) (br_t (by decide) (nm_r (e' := 3) (by decide) ?_))
  refine br_t (by decide) (nm_r (e' := 1) (by decide) ?_)
  refine br_f (by decide) (sg_p1 ⟨4, ?_⟩)
  refine br_f (by decide) (br_t (by decide) (nm_r (e' := 1) (by decide) ?_))
  refine br_f (by decide) (br_t (by decide) (nm_r (e' := 2) (by decide) ?_))
  refine br_f (by decide) (br_f (by decide) ⟨sg_v2, sg_v2, nm_r (sg_w2 (w := 2) (by decide)) (nm_r (e' := 3) (by decide) ?_)⟩)
  refine br_t (by decide) (nm_r (e' := 2) (by decide) ?_)
  refine br_f (by decide) (sg_p2 ⟨4, ?_⟩)
  refine br_f (by decide) (br_f (by decide) ⟨sg_v0, sg_v0, nm_r (sg_w0 (w := 4) (by decide)) (nm_r (e' := 1) (by decide) ?_)⟩)
  refine br_f (by decide) (br_t (by decide) (nm_r (e' := 2) (by decide) ?_))
  refine br_f (by decide) (br_t (by decide) (nm_r (e' := 3) (by decide) ?_))
  refine br_t (by decide) (nm_r (e' := 3) (by decide) ?_)
  exact br_t (by decide) H
end
section
/-! a look at each of the three nodes -/
theorem sg_l0 {post : St2 → Prop} {ar ch ov tc lv : Int32} {a3 a4 a5 a8 a10 : Nat → Int32} {v0 v1 v2 k0 k1 k2 : Int32} (H : post (3, ar, 1, ch, 1, ov, tc, lv, 4, sg_m 0 4 5, sg_m 0 2 0, a3, a4, a5, sg_m 4 0 2, sg_m k0 v1 v2, a8, sg_m k0 k1 k2, a10)) : wpX_look post (3, ar, 0, ch, 1, ov, tc, lv, 1, sg_m 0 4 5, sg_m 0 2 0, a3, a4, a5, sg_m 4 0 2, sg_m v0 v1 v2, a8, sg_m k0 k1 k2, a10) 0 := by
  refine nm_r (e' := 0) (by decide) ⟨sg_v0, ?_⟩
  refine br_f (by decide) (br_f (by decide) (br_f (by decide) (br_f (by decide) ?_)))
  refine br_t (by decide) ?_
  refine ⟨sg_v0, nm_r (e' := 0) (by decide) ⟨sg_v0, nm_r (e' := 0) (by decide) (br_t (by decide) ?_)⟩⟩
  refine br_f (by decide) ⟨sg_v0, ?_⟩
  refine nm_r (e' := 1) (by decide) ⟨sg_v0, nm_r (sg_w0 (w := k0) rfl) ?_⟩
  refine br_f (by decide) ?_
  exact br_f (by decide) ⟨sg_v0, nm_r (e' := 4) (by decide) H⟩
theorem sg_l2 {post : St2 → Prop} {ar ch kt ov tc lv : Int32} {a4 a5 a8 a9 a10 : Nat → Int32} {p v0 v1 v2 : Int32} (H : post (3, ar, 5, ch, kt, ov, tc, lv, 2, sg_m 0 4 5, sg_m 0 2 0, sg_m 0 p 1, a4, a5, sg_m 4 0 2, sg_m v0 v1 (v0 + v1), a8, a9, a10)) : wpX_look post (3, ar, 1, ch, kt, ov, tc, lv, 4, sg_m 0 4 5, sg_m 0 2 0, sg_m 0 p 1, a4, a5, sg_m 4 0 2, sg_m v0 v1 v2, a8, a9, a10) 2 := by
  refine nm_r (e' := 0) (by decide) ⟨sg_v2, ?_⟩
  refine br_f (by decide) (br_f (by decide) (br_f (by decide) (br_f (by decide) ?_)))
  refine br_t (by decide) ?_
  refine ⟨sg_v2, nm_r (e' := 5) (by decide) ⟨sg_v2, nm_r (e' := 0) (by decide) (br_f (by decide) (br_f (by decide) (br_f (by decide) (br_f (by decide) (br_f (by decide) ?_)))))⟩⟩
  refine br_f (by decide) ?_
  refine br_f (by decide) ⟨sg_v0, nm_r (e' := v0) rfl ?_⟩
  refine br_f (by decide) (br_f (by decide) (br_t (by decide) ⟨sg_v2, sg_v1, ?_⟩))
  refine nm_r (e' := 5) (by decide) ⟨sg_v2, nm_r (sg_w2 (w := v0 + v1) rfl) ?_⟩
  refine ⟨sg_n1, ?_⟩
  exact br_f (by decide) ⟨sg_v2, nm_r (e' := 2) (by decide) H⟩
theorem sg_l1 {post : St2 → Prop} {ar kt ov tc lv : Int32} {a3 a4 a5 a9 a10 : Nat → Int32} {v0 v1 v2 e0 e1 e2 : Int32} (H0 : v2 = v1 → post (3, ar, 5, 0, kt, ov, tc, lv, 0, sg_m 0 4 5, sg_m 0 2 0, a3, a4, a5, sg_m 4 0 2, sg_m v0 v1 v2, sg_m e0 e1 e2, a9, a10)) (H1 : post (3, ar, 5, 2, kt, ov, tc, lv, 0, sg_m 0 4 5, sg_m 0 2 0, a3, a4, a5, sg_m 4 0 2, sg_m v0 v1 v2, sg_m e0 v2 e2, a9, a10)) : wpX_look post (3, ar, 5, 0, kt, ov, tc, lv, 2, sg_m 0 4 5, sg_m 0 2 0, a3, a4, a5, sg_m 4 0 2, sg_m v0 v1 v2, sg_m e0 e1 e2, a9, a10) 1 := by
  refine nm_r (e' := 0) (by decide) ⟨sg_v1, ?_⟩
  refine br_t (by decide) ?_
  refine br_f (by decide) ?_
  refine ⟨sg_v1, nm_r (e' := v1) rfl ⟨sg_v1, br_t (by decide) ⟨sg_v1, br_f (by decide) ⟨sg_v1, ?_⟩⟩⟩⟩
  refine br_f (by decide) ?_
  refine br_f (by decide) ⟨sg_v1, sg_v2, nm_r (e' := v2) rfl ?_⟩
  refine ⟨sg_v1, br_c (fun h => ?_) (fun h => ⟨sg_v1, nm_r (sg_w1 (w := v2) rfl) (nm_r (e' := 2) (by decide) ?_)⟩)⟩
  · exact br_t rfl (H0 h)
  · exact br_f (by decide) ⟨sg_v1, nm_r (e' := 0) (by decide) H1⟩
/-! the end of a transaction: without a change of the hold, and with one -/
theorem sg_f0 {post : St2 → Prop} {ar ov tc lv wt : Int32} {a2 a3 a4 a5 a6 a9 : Nat → Int32} {v0 v1 v2 e0 e1 e2 t0 t1 t2 : Int32} (H : post (3, ar, 5, 0, 0, ov, tc, lv, wt, sg_m 0 4 5, a2, a3, a4, a5, a6, sg_m v0 v1 v2, sg_m e0 e1 e2, a9, sg_m (t0 + 1) t1 (t2 + 1))) : wpX_finish post (3, ar, 5, 0, 1, ov, tc, lv, wt, sg_m 0 4 5, a2, a3, a4, a5, a6, sg_m v0 v1 v2, sg_m e0 e1 e2, a9, sg_m t0 t1 t2) := by
  refine ⟨4, ?_⟩
  refine br_f (by decide) (nm_r (e' := 1) (by decide) (br_t (by decide) ?_))
  refine br_f (by decide) ⟨sg_v0, sg_v0, nm_r (sg_w0 (w := t0 + 1) rfl) ?_⟩
  refine ⟨sg_v0, nm_r (e' := 0) (by decide) (br_t (by decide) (nm_r (e' := 0) (by decide) (nm_r (e' := 1) (by decide) ?_)))⟩
  refine br_f (by decide) (nm_r (e' := 2) (by decide) (br_t (by decide) ?_))
  refine br_t (by decide) ?_
  refine ⟨sg_v1, nm_r (e' := 4) (by decide) (br_f (by decide) (br_f (by decide) ?_))⟩
  refine br_f (by decide) (nm_r (e' := 2) (by decide) ?_)
  refine br_f (by decide) (nm_r (e' := 4) (by decide) (br_t (by decide) ?_))
  refine br_f (by decide) ⟨sg_v2, sg_v2, nm_r (sg_w2 (w := t2 + 1) rfl) ?_⟩
  refine ⟨sg_v2, nm_r (e' := 5) (by decide) (br_f (by decide) (br_f (by decide) ?_))⟩
  refine br_f (by decide) (nm_r (e' := 3) (by decide) ?_)
  refine br_t (by decide) ⟨4, ?_⟩
  refine br_f (by decide) ⟨sg_v0, br_f (by decide) (nm_r (e' := 1) (by decide) ?_)⟩
  refine br_f (by decide) ⟨sg_v1, br_f (by decide) (nm_r (e' := 2) (by decide) ?_)⟩
  refine br_f (by decide) ⟨sg_v2, br_f (by decide) (nm_r (e' := 3) (by decide) ?_)⟩
  exact br_t (by decide) H
theorem sg_f2 {post : St2 → Prop} {ar ov tc lv wt : Int32} {a2 a3 a4 a5 a6 a9 : Nat → Int32} {v0 v1 v2 e0 e1 e2 t0 t1 t2 : Int32} (H : post (3, ar, 5, 2, 0, ov, tc, lv, wt, sg_m 0 4 5, a2, a3, a4, a5, a6, sg_m v0 e1 v2, sg_m e0 e1 e2, a9, sg_m (t0 + 1) t1 (t2 + 1))) : wpX_finish post (3, ar, 5, 2, 1, ov, tc, lv, wt, sg_m 0 4 5, a2, a3, a4, a5, a6, sg_m v0 v1 v2, sg_m e0 e1 e2, a9, sg_m t0 t1 t2) := by
  refine ⟨4, ?_⟩
  refine br_f (by decide) (nm_r (e' := 1) (by decide) (br_t (by decide) ?_))
  refine br_f (by decide) ⟨sg_v0, sg_v0, nm_r (sg_w0 (w := t0 + 1) rfl) ?_⟩
  refine ⟨sg_v0, nm_r (e' := 0) (by decide) (br_t (by decide) (nm_r (e' := 0) (by decide) (nm_r (e' := 1) (by decide) ?_)))⟩
  refine br_f (by decide) (nm_r (e' := 2) (by decide) (br_f (by decide) ⟨sg_v1, sg_v1, nm_r (sg_w1 (w := e1) rfl) ?_⟩))
  refine br_t (by decide) ?_
  refine ⟨sg_v1, nm_r (e' := 4) (by decide) (br_f (by decide) (br_f (by decide) ?_))⟩
  refine br_f (by decide) (nm_r (e' := 2) (by decide) ?_)
  refine br_f (by decide) (nm_r (e' := 4) (by decide) (br_t (by decide) ?_))
  refine br_f (by decide) ⟨sg_v2, sg_v2, nm_r (sg_w2 (w := t2 + 1) rfl) ?_⟩
  refine ⟨sg_v2, nm_r (e' := 5) (by decide) (br_f (by decide) (br_f (by decide) ?_))⟩
  refine br_f (by decide) (nm_r (e' := 3) (by decide) ?_)
  refine br_t (by decide) ⟨4, ?_⟩
  refine br_f (by decide) ⟨sg_v0, br_f (by decide) (nm_r (e' := 1) (by decide) ?_)⟩
  refine br_f (by decide) ⟨sg_v1, br_f (by decide) (nm_r (e' := 2) (by decide) ?_)⟩
  refine br_f (by decide) ⟨sg_v2, br_f (by decide) (nm_r (e' := 3) (by decide) ?_)⟩
  exact br_t (by decide) H
/-! the count of what had a value -/
theorem sg_cnt {post : Int32 → St2 → Prop} {ar ch kt ov tc lv wt : Int32} {a1 a2 a3 a4 a5 a6 a7 a8 a9 a10 : Nat → Int32} (H : post 2 (3, ar, 5, ch, kt, ov, tc, lv, wt, a1, a2, a3, a4, a5, a6, a7, a8, a9, a10)) : ∃ fu, wX_commit_154 post 3 ar 5 ch kt ov tc lv wt a1 a2 a3 a4 a5 a6 a7 a8 a9 a10 fu 0 0 := by
  refine ⟨4, ?_⟩
  refine br_f (by decide) (br_f (by decide) (nm_r (e' := 1) (by decide) (nm_r (e' := 1) (by decide) ?_)))
  refine br_f (by decide) (br_t (by decide) (nm_r (e' := 2) (by decide) ?_))
  refine br_f (by decide) (br_f (by decide) (nm_r (e' := 2) (by decide) (nm_r (e' := 3) (by decide) ?_)))
  exact br_t (by decide) H
/-! a transaction, behind the arranging -/
theorem sg_core {post : Int32 → St2 → Prop} {tc : Int32} {a4 : Nat → Int32} {p v0 v1 v2 e0 e1 e2 k0 k1 k2 t0 t1 t2 : Int32} (H : ∀ ch e : Int32, post 2 (3, 1, 5, ch, 0, 0, tc, 1, 0, sg_m 0 4 5, sg_m 0 2 0, sg_m 0 p 1, a4, sg_m 0 2 1, sg_m 4 0 2, sg_m k0 (k0 + v1) (k0 + v1), sg_m e0 e e2, sg_m k0 k1 k2, sg_m (t0 + 1) t1 (t2 + 1))) : ∃ fu, wX_commit_49 post 3 1 0 0 1 0 tc 1 (sg_m 0 4 5) (sg_m 0 2 0) (sg_m 0 p 1) a4 (sg_m 0 2 1) (sg_m 4 0 2) (sg_m v0 v1 v2) (sg_m e0 e1 e2) (sg_m k0 k1 k2) (sg_m t0 t1 t2) fu 0 0 := by
  refine ⟨4, ?_⟩
  refine br_f (by decide) ⟨sg_v0, br_t (by decide) ?_⟩
  refine br_f (by decide) ?_
  refine br_f (by decide) (nm_r (e' := 1) (by decide) (nm_r (e' := 1) (by decide) ?_))
  refine br_f (by decide) ⟨sg_v1, br_f (by decide) ⟨sg_v1, br_f (by decide) ?_⟩⟩
  refine br_t (by decide) (nm_r (e' := 2) (by decide) ?_)
  refine br_f (by decide) ⟨sg_v2, br_f (by decide) ⟨sg_v2, br_f (by decide) ?_⟩⟩
  refine br_t (by decide) (nm_r (e' := 3) (by decide) ?_)
  refine br_t (by decide) ⟨4, ?_⟩
  refine br_f (by decide) (br_f (by decide) ⟨4, ?_⟩)
  refine br_f (by decide) (br_f (by decide) ⟨sg_v0, br_t (by decide) (sg_l0 ?_)⟩)
  refine nm_r (e' := 1) (by decide) ?_
  refine br_f (by decide) (br_t (by decide) (nm_r (e' := 2) (by decide) ?_))
  refine br_f (by decide) (br_f (by decide) ⟨sg_v2, br_f (by decide) (nm_r (e' := 3) (by decide) ?_)⟩)
  refine br_t (by decide) (nm_r (e' := 1) (by decide) ?_)
  refine br_f (by decide) (br_f (by decide) ⟨4, ?_⟩)
  refine br_f (by decide) (br_t (by decide) (nm_r (e' := 1) (by decide) ?_))
  refine br_f (by decide) (br_t (by decide) (nm_r (e' := 2) (by decide) ?_))
  refine br_f (by decide) (br_f (by decide) ⟨sg_v2, br_t (by decide) (sg_l2 ?_)⟩)
  refine nm_r (e' := 3) (by decide) ?_
  refine br_t (by decide) (nm_r (e' := 2) (by decide) ?_)
  refine br_f (by decide) (br_f (by decide) ⟨4, ?_⟩)
  refine br_f (by decide) (br_t (by decide) (nm_r (e' := 1) (by decide) ?_))
  refine br_f (by decide) (br_f (by decide) ⟨sg_v1, br_t (by decide) (sg_l1 (fun h => ?_) ?_)⟩)
  · refine nm_r (e' := 2) (by decide) ?_
    refine br_f (by decide) (br_t (by decide) (nm_r (e' := 3) (by decide) ?_))
    refine br_t (by decide) (nm_r (e' := 3) (by decide) ?_)
    refine br_f (by decide) (br_t (by decide) ?_)
    unfold wX_commit_146
    refine sg_f0 ?_
    refine sg_cnt ?_
    have H2 := H 0 e1
    rw [h] at H2
    rw [h]
    exact H2
  · refine nm_r (e' := 2) (by decide) ?_
    refine br_f (by decide) (br_t (by decide) (nm_r (e' := 3) (by decide) ?_))
    refine br_t (by decide) (nm_r (e' := 3) (by decide) ?_)
    refine br_f (by decide) (br_t (by decide) ?_)
    unfold wX_commit_146
    refine sg_f2 ?_
    refine sg_cnt ?_
    exact H 2 _
theorem sg_com0 {post : Int32 → St2 → Prop} {hv ch tc wt : Int32} {a4 : Nat → Int32} {p v0 v1 v2 e0 e1 e2 k0 k1 k2 t0 t1 t2 x0 x1 x2 y0 y1 y2 : Int32} (H : ∀ ch' e : Int32, post 2 (3, 1, 5, ch', 0, 0, (tc + 1), 1, 0, sg_m 0 4 5, sg_m 0 2 0, sg_m 0 p 1, a4, sg_m 0 2 1, sg_m 4 0 2, sg_m k0 (k0 + v1) (k0 + v1), sg_m e0 e e2, sg_m k0 k1 k2, sg_m (t0 + 1) t1 (t2 + 1))) : wpX_commit post (3, 0, hv, ch, 1, 0, tc, 1, wt, sg_m 0 4 5, sg_m 0 2 0, sg_m 0 p 1, a4, sg_m x0 x1 x2, sg_m y0 y1 y2, sg_m v0 v1 v2, sg_m e0 e1 e2, sg_m k0 k1 k2, sg_m t0 t1 t2) := by
  unfold wpX_commit
  refine sg_arr ?_
  refine nm_e (br_f (by decide) ?_)
  exact sg_core H
theorem sg_com1 {post : Int32 → St2 → Prop} {hv ch tc wt : Int32} {a4 : Nat → Int32} {p v0 v1 v2 e0 e1 e2 k0 k1 k2 t0 t1 t2 : Int32} (H : ∀ ch' e : Int32, post 2 (3, 1, 5, ch', 0, 0, (tc + 1), 1, 0, sg_m 0 4 5, sg_m 0 2 0, sg_m 0 p 1, a4, sg_m 0 2 1, sg_m 4 0 2, sg_m k0 (k0 + v1) (k0 + v1), sg_m e0 e e2, sg_m k0 k1 k2, sg_m (t0 + 1) t1 (t2 + 1))) : wpX_commit post (3, 1, hv, ch, 1, 0, tc, 1, wt, sg_m 0 4 5, sg_m 0 2 0, sg_m 0 p 1, a4, sg_m 0 2 1, sg_m 4 0 2, sg_m v0 v1 v2, sg_m e0 e1 e2, sg_m k0 k1 k2, sg_m t0 t1 t2) := by
  unfold wpX_commit
  refine br_f (by decide) ?_
  refine nm_e (br_f (by decide) ?_)
  exact sg_core H
end
section
theorem sg_cell {post : Int32 → Prop} {L : Nat} {xs : Nat → Int32} (hL : L ≤ 3) (k : Nat) (hk : k < 3) (H : ∀ r, post r) : wpL_cellAt post L xs () (nI k) :=
  pk_le L k (fun _ => H 0) (fun z => ⟨pk_in k L z, H _⟩)
theorem sg_sum (p q r : Int32) : r + (q + p) = p + q + r := by
  rw [Int32.add_comm q p, Int32.add_comm r]
theorem sg_law (p q r : Int32) : wpL_lawOf (fun r _ => r = 1) 134 2128 () p q r := by
  unfold wpL_lawOf
  refine ⟨(by decide), (by decide), 10, 240, (by decide), (by decide), sg_init ?_⟩
  refine sg_node0 ?_
  refine br_t (by decide) ?_
  refine sg_node1 ?_
  refine br_t (by decide) ?_
  refine sg_node2 ?_
  refine br_t (by decide) ?_
  refine sg_tie ?_
  refine br_f (by decide) ?_
  refine sg_fire ?_
  refine br_f (by decide) ?_
  refine sg_com0 (fun ch e => ?_)
  refine br_t (by decide) ?_
  refine sg_fire ?_
  refine br_f (by decide) ?_
  refine sg_com1 (fun ch' e' => ?_)
  refine br_t (by decide) ?_
  refine sg_value ?_
  refine br_t (sg_sum p q r) ?_
  refine sg_leads ?_
  exact br_f (by decide) rfl
theorem i_vc (xs : Nat → Int32) (L : Nat) (hL : L ≤ 3) : wpL_law (fun r => r = 1) L xs := by
  unfold wpL_law
  refine sg_cell hL 0 (by decide) (fun p => ?_)
  refine sg_cell hL 1 (by decide) (fun q => ?_)
  refine sg_cell hL 2 (by decide) (fun r => ?_)
  exact ⟨134, 2128, (by decide), (by decide), sg_law p q r⟩
end
