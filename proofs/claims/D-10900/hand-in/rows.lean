section
/-! the tree of at most one node: places 0 and 1 -/
theorem sr_c0 : (0 : Int32).toNatClampNeg = 0 := by decide
theorem sr_c1 : (1 : Int32).toNatClampNeg = 1 := by decide
theorem sr_i0 : vp_in 0 49 := vp_in_iff.mpr (by decide)
theorem sr_i1 : vp_in 1 49 := vp_in_iff.mpr (by decide)
theorem sr_lo {v : Int32} (h : ¬ v < (-1000000)) : ¬ v ≤ (-2000000) := by
  rw [Int32.lt_iff_toInt_lt] at h
  rw [Int32.le_iff_toInt_le]
  have e1 : (-1000000 : Int32).toInt = -1000000 := by decide
  have e2 : (-2000000 : Int32).toInt = -2000000 := by decide
  omega
theorem sr_hi {v : Int32} (h : ¬ 1000000 < v) : ¬ 2000000 ≤ v := by
  rw [Int32.lt_iff_toInt_lt] at h
  rw [Int32.le_iff_toInt_le]
  have e1 : (1000000 : Int32).toInt = 1000000 := by decide
  have e2 : (2000000 : Int32).toInt = 2000000 := by decide
  omega
theorem sr_u1 {f : Nat → Int32} {k : Nat} (h : f 1 = 0) : upd f k 0 1 = 0 := by
  by_cases e : 1 = k
  · subst e
    exact pk_us
  · rw [pk_un e]
    exact h
/-- one node, at place 1, with the number w -/
def sr_P (w : Int32) (a1 a2 a3 a4 a5 a8 a9 a10 a11 : Nat → Int32) : Prop := a1 1 = 0 ∧ a2 1 = 0 ∧ a3 1 = 0 ∧ a4 1 = w ∧ a5 0 = 0 ∧ a5 1 = 1 ∧ a8 1 = w ∧ a9 1 = w ∧ a10 1 = 0 ∧ a11 1 = 0
section
variable {f0 f1 f2 f3 f4 : Int32} {a1 a2 a3 a4 a5 a6 a7 a8 a9 a10 a11 a12 a13 a14 a15 : Nat → Int32}
theorem sr_pull {post : St2 → Prop} {v : Int32} (h1 : a1 1 = 0) (h2 : a2 1 = 0) (h5 : a5 0 = 0) (h4 : a4 1 = v) (h8 : a8 0 = (-2000000)) (h9 : a9 0 = 2000000) (hl : ¬ v < (-1000000)) (hh : ¬ 1000000 < v)
    (H : ∀ g5 g6 g7 g8 g9, g5 0 = 0 → g5 1 = 1 → g8 1 = v → g9 1 = v → post (f0, f1, f2, f3, f4, a1, a2, a3, a4, g5, g6, g7, g8, g9, a10, a11, a12, a13, a14, a15)) : wpX_pull post (f0, f1, f2, f3, f4, a1, a2, a3, a4, a5, a6, a7, a8, a9, a10, a11, a12, a13, a14, a15) 1 := by
  unfold wpX_pull
  have e5 : a5 (0 : Int32).toNatClampNeg + 1 = 1 := by
    rw [sr_c0, h5]
    decide
  refine ⟨sr_i1, nm_r h1 ⟨sr_i1, nm_r h2 ⟨sr_i0, nm_r e5 ⟨sr_i0, sr_i1, fun g5 x5 => ⟨sr_i0, sr_i1, sr_i0, sr_i1, fun g6 _ => ⟨sr_i0, sr_i1, sr_i0, sr_i0, sr_i1, fun g7 _ => ⟨sr_i0, sr_i0, br_t (Int32.le_refl _) ⟨sr_i0, ?_⟩⟩⟩⟩⟩⟩⟩⟩
  have q0 : g5 0 = 0 := by
    rw [x5, sr_c1, pk_un (by decide)]
    exact h5
  have q1 : g5 1 = 1 := by
    rw [x5, sr_c1, pk_us, sr_c0, h5]
    decide
  unfold wX_pull_131
  refine ⟨sr_i1, br_f ?_ ⟨sr_i1, ?_⟩⟩
  · show ¬ a4 1 ≤ a8 0
    rw [h4, h8]
    exact sr_lo hl
  unfold wX_pull_160
  refine ⟨sr_i1, fun g8 x8 => ⟨sr_i0, sr_i0, br_t (Int32.le_refl _) ⟨sr_i0, ?_⟩⟩⟩
  unfold wX_pull_191
  refine ⟨sr_i1, br_f ?_ ⟨sr_i1, sr_i1, fun g9 x9 => H g5 g6 g7 g8 g9 q0 q1 ?_ ?_⟩⟩
  · show ¬ a9 0 ≤ a4 1
    rw [h4, h9]
    exact sr_hi hh
  · rw [x8, sr_c1, pk_us]
    exact h4
  · rw [x9, sr_c1, pk_us]
    exact h4
theorem sr_add0 {post : St2 → Prop} {d : Int32} (H : post (f0, f1, f2, f3, f4, a1, a2, a3, a4, a5, a6, a7, a8, a9, a10, a11, a12, a13, a14, a15)) : wpX_addAll post (f0, f1, f2, f3, f4, a1, a2, a3, a4, a5, a6, a7, a8, a9, a10, a11, a12, a13, a14, a15) 0 d := by
  unfold wpX_addAll
  exact br_t rfl H
theorem sr_add1 {post : St2 → Prop} {d : Int32} (H : ∀ g4 g6 g7 g8 g9 g12, g4 1 = a4 1 + d → g8 1 = a8 1 + d → g9 1 = a9 1 + d → post (f0, f1, f2, f3, f4, a1, a2, a3, g4, a5, g6, g7, g8, g9, a10, a11, g12, a13, a14, a15)) : wpX_addAll post (f0, f1, f2, f3, f4, a1, a2, a3, a4, a5, a6, a7, a8, a9, a10, a11, a12, a13, a14, a15) 1 d := by
  unfold wpX_addAll
  exact br_f (by decide) ⟨sr_i1, sr_i1, nm_e ⟨sr_i1, sr_i1, sr_i1, nm_e ⟨sr_i1, sr_i1, sr_i1, by decide, sr_i1, nm_e ⟨sr_i1, sr_i1, nm_e ⟨sr_i1, sr_i1, nm_e ⟨sr_i1, sr_i1, nm_e (H _ _ _ _ _ _ pk_us pk_us pk_us)⟩⟩⟩⟩⟩⟩
theorem sr_push {post : St2 → Prop} (h1 : a1 1 = 0) (h2 : a2 1 = 0) (h10 : a10 1 = 0) (h11 : a11 1 = 0) (H : ∀ g, post (f0, f1, f2, f3, f4, a1, a2, a3, a4, a5, a6, a7, a8, a9, a10, a11, g, a13, a14, a15)) : wpX_push post (f0, f1, f2, f3, f4, a1, a2, a3, a4, a5, a6, a7, a8, a9, a10, a11, a12, a13, a14, a15) 1 := by
  unfold wpX_push
  refine ⟨sr_i1, nm_r h1 ⟨sr_i1, nm_r h2 ⟨sr_i1, br_t h10 ?_⟩⟩⟩
  unfold wX_push_40
  refine ⟨sr_i1, br_t h11 ?_⟩
  unfold wX_push_66
  exact ⟨sr_i1, br_c (fun _ => H _) (fun _ => ⟨sr_i1, sr_add0 ⟨sr_i1, sr_add0 ⟨sr_i1, nm_e (H _)⟩⟩⟩)⟩
theorem sr_splay {post : St2 → Prop} (h3 : a3 1 = 0) (H : post (f0, f1, f2, f3, f4, a1, a2, a3, a4, a5, a6, a7, a8, a9, a10, a11, a12, a13, a14, a15)) : wpX_splay post (f0, f1, f2, f3, f4, a1, a2, a3, a4, a5, a6, a7, a8, a9, a10, a11, a12, a13, a14, a15) 1 := by
  unfold wpX_splay
  refine ⟨0 + 1, ?_⟩
  exact br_f (c := (48 : Int32) ≤ 0) (by decide) ⟨sr_i1, br_t h3 H⟩
theorem sr_bring {post : Int32 → St2 → Prop} (h1 : a1 1 = 0) (h2 : a2 1 = 0) (h3 : a3 1 = 0) (h5 : a5 0 = 0) (h10 : a10 1 = 0) (h11 : a11 1 = 0) (H : ∀ g, post 1 (f0, f1, f2, f3, f4, a1, a2, a3, a4, a5, a6, a7, a8, a9, a10, a11, g, a13, a14, a15)) : wpX_bring post (f0, f1, f2, f3, f4, a1, a2, a3, a4, a5, a6, a7, a8, a9, a10, a11, a12, a13, a14, a15) 1 0 := by
  unfold wpX_bring
  have e1 : vp_in (a1 (1 : Int32).toNatClampNeg) 49 := by
    rw [sr_c1, h1]
    exact sr_i0
  have e2 : a5 (a1 (1 : Int32).toNatClampNeg).toNatClampNeg = 0 := by
    rw [sr_c1, h1, sr_c0, h5]
  exact pk_loop (fun n i s => wX_bring_8 post n 1 0 (nI i) f0 f1 f2 f3 f4 a1 a2 a3 a4 a5 a6 a7 a8 a9 a10 a11 s a13 a14 a15) (fun _ _ => True) 48 0 a12 (by omega) trivial
    (fun n s _ => pk_le 48 48 (fun _ => sr_splay h3 (H s)) (fun z => absurd z (by omega)))
    (fun n i s hi _ hw => pk_le 48 i (fun z => absurd z (by omega)) (fun _ => sr_push h1 h2 h10 h11 (fun g => ⟨sr_i1, e1, nm_r e2 (br_t (by decide) (br_t (by decide) (nm_r (nI_1 i) (hw g trivial))))⟩)))
theorem sr_part0 {post : St2 → Prop} {p : Int32} (h3 : a3 1 = 0) (H : ∀ g, g 1 = 0 → post (f0, f1, 0, f3, p, a1, a2, g, a4, a5, a6, a7, a8, a9, a10, a11, a12, a13, a14, a15)) : wpX_part post (f0, f1, f2, f3, f4, a1, a2, a3, a4, a5, a6, a7, a8, a9, a10, a11, a12, a13, a14, a15) p 0 := by
  unfold wpX_part
  exact br_t rfl (nm_e (H _ (sr_u1 h3)))
theorem sr_part1 {post : St2 → Prop} (h3 : a3 1 = 0) (h5 : a5 1 = 1) (H : ∀ g, g 1 = 0 → post (f0, f1, 1, f3, 0, a1, a2, g, a4, a5, a6, a7, a8, a9, a10, a11, a12, a13, a14, a15)) : wpX_part post (f0, f1, f2, f3, f4, a1, a2, a3, a4, a5, a6, a7, a8, a9, a10, a11, a12, a13, a14, a15) 1 1 := by
  unfold wpX_part
  exact br_f (by decide) ⟨sr_i1, br_t h5.symm (nm_e (H _ (sr_u1 h3)))⟩
theorem sr_open0 {post : St2 → Prop} (h3 : a3 1 = 0) (H : ∀ g, g 1 = 0 → post (f0, f1, 0, 0, f0, a1, a2, g, a4, a5, a6, a7, a8, a9, a10, a11, a12, a13, a14, a15)) : wpX_open post (f0, f1, f2, f3, f4, a1, a2, a3, a4, a5, a6, a7, a8, a9, a10, a11, a12, a13, a14, a15) 0 0 := by
  unfold wpX_open
  exact sr_part0 h3 (fun g hg => sr_part0 hg (fun g' hg' => H g' hg'))
theorem sr_open1 {post : St2 → Prop} (h3 : a3 1 = 0) (h5 : a5 1 = 1) (H : ∀ g, g 1 = 0 → post (1, f1, 0, 1, 0, a1, a2, g, a4, a5, a6, a7, a8, a9, a10, a11, a12, a13, a14, a15)) : wpX_open post (1, f1, f2, f3, f4, a1, a2, a3, a4, a5, a6, a7, a8, a9, a10, a11, a12, a13, a14, a15) 0 1 := by
  unfold wpX_open
  exact sr_part1 h3 h5 (fun g hg => sr_part0 hg (fun g' hg' => H g' hg'))
theorem sr_join0 {post : Int32 → St2 → Prop} {p : Int32} (H : post p (f0, f1, f2, f3, f4, a1, a2, a3, a4, a5, a6, a7, a8, a9, a10, a11, a12, a13, a14, a15)) : wpX_join post (f0, f1, f2, f3, f4, a1, a2, a3, a4, a5, a6, a7, a8, a9, a10, a11, a12, a13, a14, a15) 0 p := by
  unfold wpX_join
  exact br_t rfl H
theorem sr_join1 {post : Int32 → St2 → Prop} (H : post 1 (f0, f1, f2, f3, f4, a1, a2, a3, a4, a5, a6, a7, a8, a9, a10, a11, a12, a13, a14, a15)) : wpX_join post (f0, f1, f2, f3, f4, a1, a2, a3, a4, a5, a6, a7, a8, a9, a10, a11, a12, a13, a14, a15) 1 0 := by
  unfold wpX_join
  exact br_f (by decide) (br_t rfl H)
theorem sr_close0 {post : St2 → Prop} {r : Int32} (hr : vp_in r 49) (h3 : a3 1 = 0) (H : ∀ g, g 1 = 0 → post (r, f1, 0, 0, r, a1, a2, g, a4, a5, a6, a7, a8, a9, a10, a11, a12, a13, a14, a15)) : wpX_close post (f0, f1, 0, 0, r, a1, a2, a3, a4, a5, a6, a7, a8, a9, a10, a11, a12, a13, a14, a15) := by
  unfold wpX_close
  exact sr_join0 (sr_join0 ⟨hr, nm_e (H _ (sr_u1 h3))⟩)
theorem sr_close1 {post : St2 → Prop} (h3 : a3 1 = 0) (H : ∀ g, g 1 = 0 → post (1, f1, 0, 1, 0, a1, a2, g, a4, a5, a6, a7, a8, a9, a10, a11, a12, a13, a14, a15)) : wpX_close post (f0, f1, 0, 1, 0, a1, a2, a3, a4, a5, a6, a7, a8, a9, a10, a11, a12, a13, a14, a15) := by
  unfold wpX_close
  exact sr_join0 (sr_join1 ⟨sr_i1, nm_e (H _ (sr_u1 h3))⟩)
theorem sr_make {post : Int32 → St2 → Prop} {v : Int32} (hu : ∀ k, k ≤ 48 → a13 k = 0) (h5 : a5 0 = 0) (h8 : a8 0 = (-2000000)) (h9 : a9 0 = 2000000) (hl : ¬ v < (-1000000)) (hh : ¬ 1000000 < v)
    (H : ∀ g1 g2 g3 g4 g5 g6 g7 g8 g9 g10 g11 g12 g13, sr_P v g1 g2 g3 g4 g5 g8 g9 g10 g11 → post 1 (f0, f1, f2, f3, f4, g1, g2, g3, g4, g5, g6, g7, g8, g9, g10, g11, g12, g13, a14, a15)) : wpX_make post (f0, f1, f2, f3, f4, a1, a2, a3, a4, a5, a6, a7, a8, a9, a10, a11, a12, a13, a14, a15) v := by
  unfold wpX_make
  refine ⟨48 + 1, pk_loopD (fun n i s => wX_make_5 post v f0 f1 f2 f3 f4 a1 a2 a3 a4 a5 a6 a7 a8 a9 a10 a11 a12 a13 a14 a15 n s (nI i)) (fun i s => i ≤ 48 ∧ (i = 0 → s = 1)) ?_ ?_ 48 1 ⟨by omega, fun _ => rfl⟩⟩
  · intro n s h
    have hs : s = 1 := h.2 rfl
    subst hs
    refine pk_le 0 0 (fun _ => ?_) (fun z => absurd z (by omega))
    refine ⟨sr_i1, nm_e ⟨sr_i1, nm_e ⟨sr_i1, nm_e ⟨sr_i1, nm_e ⟨sr_i1, nm_e ⟨sr_i1, nm_e ⟨sr_i1, nm_e ⟨sr_i1, nm_e ?_⟩⟩⟩⟩⟩⟩⟩⟩
    exact sr_pull (v := v) pk_us pk_us h5 pk_us h8 h9 hl hh (fun g5 g6 g7 g8 g9 e0 e1 e8 e9 => H _ _ _ _ g5 g6 g7 g8 g9 _ _ _ _ ⟨pk_us, pk_us, pk_us, pk_us, e0, e1, e8, e9, pk_us, pk_us⟩)
  · intro n i s h hw
    have h1 : i + 1 ≤ 48 := h.1
    have e : a13 (nI (i + 1)).toNatClampNeg = 0 := by
      rw [nI_clamp (by omega)]
      exact hu _ h1
    exact pk_le (i + 1) 0 (fun z => absurd z (by omega)) (fun _ => ⟨pk_in (i + 1) 49 (by omega), br_t e (nm_r (pk_m1 i) (hw (nI (i + 1)) ⟨by omega, fun z => by
      subst z
      rfl⟩))⟩)
end
end
section
/-! one lemma a method and case -/
section
variable {f0 f1 f2 f3 f4 : Int32} {a1 a2 a3 a4 a5 a6 a7 a8 a9 a10 a11 a12 a13 a14 a15 : Nat → Int32}
theorem sr_bnT {post : Int32 → Prop} {v : Int32} (h : v < (-1000000) ∨ 1000000 < v) (H : post 1) : wpX_badNumber post (f0, f1, f2, f3, f4, a1, a2, a3, a4, a5, a6, a7, a8, a9, a10, a11, a12, a13, a14, a15) v := by
  unfold wpX_badNumber
  exact br_c (fun _ => H) (fun n1 => br_f (fun z => h.elim n1 (fun y => Int32.not_lt.mpr z y)) H)
theorem sr_bnF {post : Int32 → Prop} {v : Int32} (hl : ¬ v < (-1000000)) (hh : ¬ 1000000 < v) (H : post 0) : wpX_badNumber post (f0, f1, f2, f3, f4, a1, a2, a3, a4, a5, a6, a7, a8, a9, a10, a11, a12, a13, a14, a15) v := by
  unfold wpX_badNumber
  exact br_f hl (br_t (Int32.not_lt.mp hh) H)
theorem sr_badT {post : Int32 → Prop} {i j n : Int32} (hr : vp_in f0 49) (hn : a5 f0.toNatClampNeg = n) (h : i < 0 ∨ j < i ∨ n < j) (H : post 1) : wpX_bad post (f0, f1, f2, f3, f4, a1, a2, a3, a4, a5, a6, a7, a8, a9, a10, a11, a12, a13, a14, a15) i j := by
  unfold wpX_bad
  refine br_c (fun _ => H) (fun n1 => br_c (fun _ => H) (fun n2 => ⟨hr, br_f ?_ H⟩))
  rw [hn]
  exact fun z => h.elim n1 (fun y => y.elim n2 (fun y => Int32.not_lt.mpr z y))
theorem sr_badF {post : Int32 → Prop} {i j n : Int32} (hr : vp_in f0 49) (hn : a5 f0.toNatClampNeg = n) (h1 : ¬ i < 0) (h2 : ¬ j < i) (h3 : j ≤ n) (H : post 0) : wpX_bad post (f0, f1, f2, f3, f4, a1, a2, a3, a4, a5, a6, a7, a8, a9, a10, a11, a12, a13, a14, a15) i j := by
  unfold wpX_bad
  refine br_f h1 (br_f h2 ⟨hr, br_t ?_ H⟩)
  rw [hn]
  exact h3
theorem sr_insT {post : Int32 → St2 → Prop} {i v : Int32} (h5 : a5 0 = 0) (h : i < 0 ∨ 0 < i ∨ v < (-1000000) ∨ 1000000 < v) (H : post (-1) (0, f1, f2, f3, f4, a1, a2, a3, a4, a5, a6, a7, a8, a9, a10, a11, a12, a13, a14, a15)) : wpX_insert post (0, f1, f2, f3, f4, a1, a2, a3, a4, a5, a6, a7, a8, a9, a10, a11, a12, a13, a14, a15) i v := by
  unfold wpX_insert
  refine br_c (fun _ => H) (fun n1 => ⟨sr_i0, br_c (fun _ => H) (fun n2 => ?_)⟩)
  have n3 : ¬ a5 0 < i := n2
  rw [h5] at n3
  exact sr_bnT (h.elim (fun y => absurd y n1) (fun y => y.elim (fun y => absurd y n3) id)) (br_f (by decide) H)
theorem sr_insF {post : Int32 → St2 → Prop} {v : Int32} (h3 : a3 1 = 0) (hu : ∀ k, k ≤ 48 → a13 k = 0) (h5 : a5 0 = 0) (h8 : a8 0 = (-2000000)) (h9 : a9 0 = 2000000) (hl : ¬ v < (-1000000)) (hh : ¬ 1000000 < v)
    (H : ∀ g1 g2 g3 g4 g5 g6 g7 g8 g9 g10 g11 g12 g13, sr_P v g1 g2 g3 g4 g5 g8 g9 g10 g11 → post 1 (1, 0, 0, 1, 0, g1, g2, g3, g4, g5, g6, g7, g8, g9, g10, g11, g12, g13, a14, a15)) : wpX_insert post (0, 0, f2, f3, f4, a1, a2, a3, a4, a5, a6, a7, a8, a9, a10, a11, a12, a13, a14, a15) 0 v := by
  unfold wpX_insert
  refine br_f (by decide) ⟨sr_i0, br_f ?_ (sr_bnF hl hh (br_t rfl ⟨sr_i0, sr_i0, br_f ?_ ?_⟩))⟩
  · show ¬ a5 0 < 0
    rw [h5]
    decide
  · show ¬ a5 0 + a5 0 = 48
    rw [h5]
    decide
  unfold wpX_put
  refine sr_open0 h3 (fun g hg => sr_make hu h5 h8 h9 hl hh (fun g1 g2 g3 g4 g5 g6 g7 g8 g9 g10 g11 g12 g13 hP => sr_close1 hP.2.2.1 (fun q hq => ⟨sr_i1, ?_⟩)))
  have hv : g5 (1 : Int32).toNatClampNeg = 1 := hP.2.2.2.2.2.1
  rw [hv]
  exact H g1 g2 q g4 g5 g6 g7 g8 g9 g10 g11 g12 g13 ⟨hP.1, hP.2.1, hq, hP.2.2.2⟩
theorem sr_raiT {post : Int32 → St2 → Prop} {i j d n : Int32} (hr : vp_in f0 49) (hn : a5 f0.toNatClampNeg = n) (h : i < 0 ∨ j < i ∨ n < j) (H : post (-1) (f0, f1, f2, f3, f4, a1, a2, a3, a4, a5, a6, a7, a8, a9, a10, a11, a12, a13, a14, a15)) : wpX_raise post (f0, f1, f2, f3, f4, a1, a2, a3, a4, a5, a6, a7, a8, a9, a10, a11, a12, a13, a14, a15) i j d := by
  unfold wpX_raise
  exact sr_badT hr hn h (br_f (by decide) H)
theorem sr_raiN {post : Int32 → St2 → Prop} {i j d n : Int32} (hr : vp_in f0 49) (hn : a5 f0.toNatClampNeg = n) (h1 : ¬ i < 0) (h2 : ¬ j < i) (h3 : j ≤ n) (hd : d < (-1000000) ∨ 1000000 < d) (H : post (-1) (f0, f1, f2, f3, f4, a1, a2, a3, a4, a5, a6, a7, a8, a9, a10, a11, a12, a13, a14, a15)) : wpX_raise post (f0, f1, f2, f3, f4, a1, a2, a3, a4, a5, a6, a7, a8, a9, a10, a11, a12, a13, a14, a15) i j d := by
  unfold wpX_raise
  exact sr_badF hr hn h1 h2 h3 (br_t rfl (sr_bnT hd (br_f (by decide) H)))
theorem sr_rai0 {post : Int32 → St2 → Prop} {d n : Int32} (hr : vp_in f0 49) (hn : a5 f0.toNatClampNeg = n) (h0 : 0 ≤ n) (h3 : a3 1 = 0) (hl : ¬ d < (-1000000)) (hh : ¬ 1000000 < d) (H : ∀ g, g 1 = 0 → post 0 (f0, f1, 0, 0, f0, a1, a2, g, a4, a5, a6, a7, a8, a9, a10, a11, a12, a13, a14, a15)) : wpX_raise post (f0, f1, f2, f3, f4, a1, a2, a3, a4, a5, a6, a7, a8, a9, a10, a11, a12, a13, a14, a15) 0 0 d := by
  unfold wpX_raise
  refine sr_badF hr hn (by decide) (by decide) h0 (br_t rfl (sr_bnF hl hh (br_t rfl (sr_open0 h3 (fun g hg => br_t rfl ?_)))))
  unfold wX_raise_64 wX_raise_69
  refine br_f (by decide) (sr_add0 ?_)
  exact sr_close0 hr hg (fun q hq => br_f (by decide) (H q hq))
theorem sr_rai1 {post : Int32 → St2 → Prop} {d v : Int32} (hP : sr_P v a1 a2 a3 a4 a5 a8 a9 a10 a11) (hl : ¬ d < (-1000000)) (hh : ¬ 1000000 < d)
    (H0 : (v + d < (-1000000) ∨ 1000000 < v + d) → ∀ g, g 1 = 0 → post (-1) (1, f1, 0, 1, 0, a1, a2, g, a4, a5, a6, a7, a8, a9, a10, a11, a12, a13, a14, a15))
    (H1 : ¬ v + d < (-1000000) → ¬ 1000000 < v + d → ∀ g3 g4 g6 g7 g8 g9 g12, sr_P (v + d) a1 a2 g3 g4 a5 g8 g9 a10 a11 → post 1 (1, f1, 0, 1, 0, a1, a2, g3, g4, a5, g6, g7, g8, g9, a10, a11, g12, a13, a14, a15)) : wpX_raise post (1, f1, f2, f3, f4, a1, a2, a3, a4, a5, a6, a7, a8, a9, a10, a11, a12, a13, a14, a15) 0 1 d := by
  obtain ⟨p1, p2, p3, p4, p50, p51, p8, p9, p10, p11⟩ := hP
  have B : (v + d < (-1000000) ∨ 1000000 < v + d) → ∀ g, g 1 = 0 → wX_raise_68 post 0 1 d 1 f1 0 1 0 a1 a2 g a4 a5 a6 a7 a8 a9 a10 a11 a12 a13 a14 a15 := by
    intro hc g hg
    unfold wX_raise_68 wX_raise_69
    exact br_t rfl (sr_close1 hg (fun q hq => br_t rfl (H0 hc q hq)))
  unfold wpX_raise
  refine sr_badF sr_i1 p51 (by decide) (by decide) (by decide) (br_t rfl (sr_bnF hl hh (br_t rfl (sr_open1 p3 p51 (fun g hg => br_f (by decide) ⟨sr_i1, br_c (fun c1 => ?_) (fun c1 => ⟨sr_i1, br_c (fun c2 => ?_) (fun c2 => ?_)⟩)⟩)))))
  · have c : 1000000 < a8 1 + d := c1
    rw [p8] at c
    exact B (Or.inr c) g hg
  · have c : a9 1 + d < (-1000000) := c2
    rw [p9] at c
    exact B (Or.inl c) g hg
  · have c : ¬ 1000000 < a8 1 + d := c1
    have c' : ¬ a9 1 + d < (-1000000) := c2
    rw [p8] at c
    rw [p9] at c'
    unfold wX_raise_64 wX_raise_69
    refine br_f (by decide) (sr_add1 (fun g4 g6 g7 g8 g9 g12 e4 e8 e9 => ?_))
    rw [p4] at e4
    rw [p8] at e8
    rw [p9] at e9
    exact sr_close1 hg (fun q hq => br_f (by decide) (H1 c' c q g4 g6 g7 g8 g9 g12 ⟨p1, p2, hq, e4, p50, p51, e8, e9, p10, p11⟩))
theorem sr_getE {post : Int32 → St2 → Prop} {i : Int32} (h5 : a5 0 = 0) (H : post 0 (0, f1, f2, f3, f4, a1, a2, a3, a4, a5, a6, a7, a8, a9, a10, a11, a12, a13, a14, a15)) : wpX_get post (0, f1, f2, f3, f4, a1, a2, a3, a4, a5, a6, a7, a8, a9, a10, a11, a12, a13, a14, a15) i := by
  unfold wpX_get
  refine br_c (fun _ => H) (fun n1 => ⟨sr_i0, br_f ?_ H⟩)
  show ¬ i < a5 0
  rw [h5]
  exact n1
theorem sr_getS {post : Int32 → St2 → Prop} {w : Int32} (hP : sr_P w a1 a2 a3 a4 a5 a8 a9 a10 a11) (H : ∀ g, post w (1, f1, f2, f3, f4, a1, a2, a3, a4, a5, a6, a7, a8, a9, a10, a11, g, a13, a14, a15)) : wpX_get post (1, f1, f2, f3, f4, a1, a2, a3, a4, a5, a6, a7, a8, a9, a10, a11, a12, a13, a14, a15) 0 := by
  obtain ⟨p1, p2, p3, p4, p50, p51, p8, p9, p10, p11⟩ := hP
  unfold wpX_get
  refine br_f (by decide) ⟨sr_i1, br_t ?_ (sr_bring p1 p2 p3 p50 p10 p11 (fun g => ⟨sr_i1, ?_⟩))⟩
  · show 0 < a5 1
    rw [p51]
    decide
  have hv : a4 (1 : Int32).toNatClampNeg = w := p4
  rw [hv]
  exact H g
theorem sr_rotT {post : Int32 → St2 → Prop} {i j k n : Int32} (hr : vp_in f0 49) (hn : a5 f0.toNatClampNeg = n) (h : i < 0 ∨ j < i ∨ n < j) (H : post (-1) (f0, f1, f2, f3, f4, a1, a2, a3, a4, a5, a6, a7, a8, a9, a10, a11, a12, a13, a14, a15)) : wpX_rotate post (f0, f1, f2, f3, f4, a1, a2, a3, a4, a5, a6, a7, a8, a9, a10, a11, a12, a13, a14, a15) i j k := by
  unfold wpX_rotate
  exact sr_badT hr hn h (br_f (by decide) H)
theorem sr_rotN {post : Int32 → St2 → Prop} {i j k n : Int32} (hr : vp_in f0 49) (hn : a5 f0.toNatClampNeg = n) (h1 : ¬ i < 0) (h2 : ¬ j < i) (h3 : j ≤ n) (hk : k < 0 ∨ j - i < k) (H : post (-1) (f0, f1, f2, f3, f4, a1, a2, a3, a4, a5, a6, a7, a8, a9, a10, a11, a12, a13, a14, a15)) : wpX_rotate post (f0, f1, f2, f3, f4, a1, a2, a3, a4, a5, a6, a7, a8, a9, a10, a11, a12, a13, a14, a15) i j k := by
  unfold wpX_rotate
  exact sr_badF hr hn h1 h2 h3 (br_t rfl (br_c (fun _ => H) (fun n1 => br_f (fun z => hk.elim n1 (fun y => Int32.not_lt.mpr z y)) H)))
theorem sr_rot0 {post : Int32 → St2 → Prop} {n : Int32} (hr : vp_in f0 49) (hn : a5 f0.toNatClampNeg = n) (h0 : 0 ≤ n) (h3 : a3 1 = 0) (H : ∀ g, g 1 = 0 → post 0 (f0, f1, 0, 0, f0, a1, a2, g, a4, a5, a6, a7, a8, a9, a10, a11, a12, a13, a14, a15)) : wpX_rotate post (f0, f1, f2, f3, f4, a1, a2, a3, a4, a5, a6, a7, a8, a9, a10, a11, a12, a13, a14, a15) 0 0 0 := by
  unfold wpX_rotate
  exact sr_badF hr hn (by decide) (by decide) h0 (br_t rfl (br_f (by decide) (br_t (by decide) (sr_open0 h3 (fun g hg => sr_part0 hg (fun g' hg' => sr_join0 (sr_close0 hr hg' (fun q hq => H q hq))))))))
theorem sr_rot1 {post : Int32 → St2 → Prop} {k : Int32} (hk : k = 0 ∨ k = 1) (h3 : a3 1 = 0) (h5 : a5 1 = 1) (H : ∀ g, g 1 = 0 → post 0 (1, f1, 0, 1, 0, a1, a2, g, a4, a5, a6, a7, a8, a9, a10, a11, a12, a13, a14, a15)) : wpX_rotate post (1, f1, f2, f3, f4, a1, a2, a3, a4, a5, a6, a7, a8, a9, a10, a11, a12, a13, a14, a15) 0 1 k := by
  unfold wpX_rotate
  rcases hk with hk | hk
  · subst hk
    exact sr_badF sr_i1 h5 (by decide) (by decide) (by decide) (br_t rfl (br_f (by decide) (br_t (by decide) (sr_open1 h3 h5 (fun g hg => sr_part0 hg (fun g' hg' => sr_join1 (sr_close1 hg' (fun q hq => H q hq))))))))
  · subst hk
    exact sr_badF sr_i1 h5 (by decide) (by decide) (by decide) (br_t rfl (br_f (by decide) (br_t (by decide) (sr_open1 h3 h5 (fun g hg => sr_part1 hg h5 (fun g' hg' => sr_join0 (sr_close1 hg' (fun q hq => H q hq))))))))
theorem sr_rel0 {post : St2 → Prop} (H : post (f0, f1, f2, f3, f4, a1, a2, a3, a4, a5, a6, a7, a8, a9, a10, a11, a12, a13, a14, a15)) : wpX_release post (f0, f1, f2, f3, f4, a1, a2, a3, a4, a5, a6, a7, a8, a9, a10, a11, a12, a13, a14, a15) 0 := by
  unfold wpX_release
  exact br_t rfl ⟨0 + 1, br_f (c := (48 : Int32) ≤ 0) (by decide) (br_t (by decide) H)⟩
theorem sr_cutT {post : Int32 → St2 → Prop} {i j n : Int32} (hr : vp_in f0 49) (hn : a5 f0.toNatClampNeg = n) (h : i < 0 ∨ j < i ∨ n < j) (H : post (-1) (f0, f1, f2, f3, f4, a1, a2, a3, a4, a5, a6, a7, a8, a9, a10, a11, a12, a13, a14, a15)) : wpX_cut post (f0, f1, f2, f3, f4, a1, a2, a3, a4, a5, a6, a7, a8, a9, a10, a11, a12, a13, a14, a15) i j := by
  unfold wpX_cut
  exact sr_badT hr hn h (br_f (by decide) H)
theorem sr_cut0 {post : Int32 → St2 → Prop} {n : Int32} (hr : vp_in f0 49) (hn : a5 f0.toNatClampNeg = n) (h0 : 0 ≤ n) (h3 : a3 1 = 0) (h5 : a5 0 = 0) (H : ∀ g, g 1 = 0 → post 0 (f0, 0, 0, 0, f0, a1, a2, g, a4, a5, a6, a7, a8, a9, a10, a11, a12, a13, a14, a15)) : wpX_cut post (f0, 0, f2, f3, f4, a1, a2, a3, a4, a5, a6, a7, a8, a9, a10, a11, a12, a13, a14, a15) 0 0 := by
  unfold wpX_cut
  refine sr_badF hr hn (by decide) (by decide) h0 (br_t rfl (sr_rel0 (sr_open0 h3 (fun g hg => sr_close0 hr hg (fun q hq => ⟨sr_i0, ?_⟩)))))
  have hv : a5 (0 : Int32).toNatClampNeg = 0 := h5
  rw [hv]
  exact H q hq
theorem sr_cut1 {post : Int32 → St2 → Prop} (h3 : a3 1 = 0) (h5 : a5 1 = 1) (H : ∀ g, g 1 = 0 → post 1 (0, 1, 0, 0, 0, a1, a2, g, a4, a5, a6, a7, a8, a9, a10, a11, a12, a13, a14, a15)) : wpX_cut post (1, 0, f2, f3, f4, a1, a2, a3, a4, a5, a6, a7, a8, a9, a10, a11, a12, a13, a14, a15) 0 1 := by
  unfold wpX_cut
  refine sr_badF sr_i1 h5 (by decide) (by decide) (by decide) (br_t rfl (sr_rel0 (sr_open1 h3 h5 (fun g hg => sr_close0 sr_i0 hg (fun q hq => ⟨sr_i1, ?_⟩)))))
  have hv : a5 (1 : Int32).toNatClampNeg = 1 := h5
  rw [hv]
  exact H q hq
theorem sr_clip {post : Int32 → Prop} {c : Int32} (hr : vp_in f1 49) (hn : a5 f1.toNatClampNeg = c) (H : post c) : wpX_clip post (f0, f1, f2, f3, f4, a1, a2, a3, a4, a5, a6, a7, a8, a9, a10, a11, a12, a13, a14, a15) := by
  unfold wpX_clip
  refine ⟨hr, ?_⟩
  rw [hn]
  exact H
end
end
section
/-! what the law says of the six answers -/
theorem sr_eq0 {x : Int32} (h1 : ¬ x < 0) (h2 : ¬ 0 < x) : x = 0 := Int32.le_antisymm (Int32.not_lt.mp h2) (Int32.not_lt.mp h1)
theorem sr_eq1 {x : Int32} (h1 : ¬ x < 0) (h2 : ¬ 1 < x) : x = 0 ∨ x = 1 := by
  obtain ⟨n, hn, rfl⟩ := nI_of h1
  have h3 : n ≤ 1 := by
    rcases Nat.lt_or_ge 1 n with z | z
    · exact absurd (show (1 : Int32) < nI n from nI_lt (a := 1) z hn) h2
    · exact z
  rcases Nat.lt_or_ge n 1 with z | z
  · have e : n = 0 := by omega
    subst e
    exact Or.inl rfl
  · have e : n = 1 := by omega
    subst e
    exact Or.inr rfl
section
variable {post : Int32 → St0 → Prop} {mc ms kc ks : Nat} {i v j d k x6 x7 x8 x9 x10 x11 x13 x15 x17 n : Int32}
def sr_T (post : Int32 → St0 → Prop) (mc ms : Nat) (i v j d k x6 x7 x8 x9 x10 x11 : Int32) (kc ks : Nat) : Prop := ((v < (-1000000) → (wL_lawOf_79 post mc ms i v j d k x6 x7 x8 x9 x10 x11 kc ks)) ∧ (¬ v < (-1000000) → (((1000000 < v → (wL_lawOf_79 post mc ms i v j d k x6 x7 x8 x9 x10 x11 kc ks)) ∧ (¬ 1000000 < v → (wL_lawOf_80 post mc ms i v j d k x6 x7 x8 x9 x10 x11 1 kc ks))))))
theorem sr_lA (h : ¬ i = 0 ∨ v < (-1000000) ∨ 1000000 < v) (H : wL_lawOf_108 post mc ms i v j d k x6 x7 x8 x9 x10 x11 0 0 kc ks) : sr_T post mc ms i v j d k x6 x7 x8 x9 x10 x11 kc ks := by
  have H95 : wL_lawOf_95 post mc ms i v j d k x6 x7 x8 x9 x10 x11 kc ks := by
    unfold wL_lawOf_95 wL_lawOf_96
    exact br_t rfl H
  have H79 : wL_lawOf_79 post mc ms i v j d k x6 x7 x8 x9 x10 x11 kc ks := by
    unfold wL_lawOf_79 wL_lawOf_80
    exact br_c (fun _ => br_t rfl H95) (fun _ => H95)
  unfold sr_T
  refine br_c (fun _ => H79) (fun n1 => br_c (fun _ => H79) (fun n2 => ?_))
  unfold wL_lawOf_80
  exact br_f (h.elim id (fun y => y.elim (fun z => absurd z n1) (fun z => absurd z n2))) H95
theorem sr_lB (hl : ¬ v < (-1000000)) (hh : ¬ 1000000 < v) (H : wL_lawOf_108 post mc ms 0 v j d k x6 x7 x8 x9 x10 x11 1 1 kc ks) : sr_T post mc ms 0 v j d k x6 x7 x8 x9 x10 x11 kc ks := by
  unfold sr_T
  refine br_f hl (br_f hh ?_)
  unfold wL_lawOf_80
  refine br_t rfl (br_f (by decide) ?_)
  unfold wL_lawOf_96
  exact br_f (by decide) H
theorem sr_108T (h : i < 0 ∨ j < i ∨ n < j) (H : wL_lawOf_218 post mc ms i v j d k x6 x7 x8 x9 x10 x11 x13 0 0 0 kc ks) : wL_lawOf_108 post mc ms i v j d k x6 x7 x8 x9 x10 x11 x13 n kc ks := by
  have H149 : ∀ z, wL_lawOf_149 post mc ms i v j d k x6 x7 x8 x9 x10 x11 x13 0 z kc ks := by
    intro z
    unfold wL_lawOf_149
    refine br_t rfl ?_
    unfold wL_lawOf_167 wL_lawOf_168
    refine br_c (fun _ => ?_) (fun _ => br_t rfl ?_)
    · unfold wL_lawOf_200 wL_lawOf_201
      exact br_t rfl H
    · unfold wL_lawOf_196 wL_lawOf_201
      exact br_t rfl H
  have H129 : wL_lawOf_129 post mc ms i v j d k x6 x7 x8 x9 x10 x11 x13 kc ks := by
    unfold wL_lawOf_129 wL_lawOf_130
    exact br_c (fun _ => H149 0) (fun _ => br_c (fun _ => H149 0) (fun _ => H149 1))
  unfold wL_lawOf_108
  exact br_c (fun _ => H129) (fun n1 => br_c (fun _ => H129) (fun n2 => br_t (h.elim (fun y => absurd y n1) (fun y => y.elim (fun z => absurd z n2) id)) H129))
theorem sr_108F (h1 : ¬ i < 0) (h2 : ¬ j < i) (h3 : ¬ n < j) (H : wL_lawOf_130 post mc ms i v j d k x6 x7 x8 x9 x10 x11 x13 1 kc ks) : wL_lawOf_108 post mc ms i v j d k x6 x7 x8 x9 x10 x11 x13 n kc ks := by
  unfold wL_lawOf_108
  exact br_f h1 (br_f h2 (br_f h3 H))
theorem sr_201a (H : wL_lawOf_218 post mc ms i v j d k x6 x7 x8 x9 x10 x11 x13 1 x17 0 kc ks) : wL_lawOf_200 post mc ms i v j d k x6 x7 x8 x9 x10 x11 x13 1 x17 kc ks := by
  unfold wL_lawOf_200 wL_lawOf_201
  exact br_f (by decide) (br_t rfl H)
theorem sr_201b (H : wL_lawOf_218 post mc ms i v j d k x6 x7 x8 x9 x10 x11 x13 1 x17 1 kc ks) : wL_lawOf_196 post mc ms i v j d k x6 x7 x8 x9 x10 x11 x13 1 x17 kc ks := by
  unfold wL_lawOf_196 wL_lawOf_201
  exact br_f (by decide) (br_f (by decide) H)
/-- a stretch of another length than one -/
theorem sr_130n (hf : ¬ j - i = 1) (H0 : (d < (-1000000) ∨ 1000000 < d) → wL_lawOf_218 post mc ms i v j d k x6 x7 x8 x9 x10 x11 x13 1 0 0 kc ks)
    (H1 : ¬ d < (-1000000) → ¬ 1000000 < d → wL_lawOf_218 post mc ms i v j d k x6 x7 x8 x9 x10 x11 x13 1 0 1 kc ks) : wL_lawOf_130 post mc ms i v j d k x6 x7 x8 x9 x10 x11 x13 1 kc ks := by
  have Z : (d < (-1000000) ∨ 1000000 < d) → wL_lawOf_148 post mc ms i v j d k x6 x7 x8 x9 x10 x11 x13 1 kc ks := by
    intro hd
    unfold wL_lawOf_148 wL_lawOf_149
    refine br_f (by decide) (br_f hf ?_)
    unfold wL_lawOf_167 wL_lawOf_168
    exact br_t rfl (sr_201a (H0 hd))
  unfold wL_lawOf_130
  refine br_c (fun c1 => Z (Or.inl c1)) (fun c1 => br_c (fun c2 => Z (Or.inr c2)) (fun c2 => ?_))
  unfold wL_lawOf_149
  refine br_f (by decide) (br_f hf ?_)
  unfold wL_lawOf_167 wL_lawOf_168
  exact br_f (by decide) (br_t rfl (sr_201b (H1 c1 c2)))
/-- a stretch of length one -/
theorem sr_130f (hf : j - i = 1) (H0 : (d < (-1000000) ∨ 1000000 < d ∨ v + d < (-1000000) ∨ 1000000 < v + d) → wL_lawOf_218 post mc ms i v j d k x6 x7 x8 x9 x10 x11 x13 1 1 0 kc ks)
    (H1 : ¬ d < (-1000000) → ¬ 1000000 < d → ¬ v + d < (-1000000) → ¬ 1000000 < v + d → wL_lawOf_218 post mc ms i v j d k x6 x7 x8 x9 x10 x11 x13 1 1 1 kc ks) : wL_lawOf_130 post mc ms i v j d k x6 x7 x8 x9 x10 x11 x13 1 kc ks := by
  have Z : (d < (-1000000) ∨ 1000000 < d) → wL_lawOf_148 post mc ms i v j d k x6 x7 x8 x9 x10 x11 x13 1 kc ks := by
    intro hd
    unfold wL_lawOf_148 wL_lawOf_149
    refine br_f (by decide) (br_t hf ?_)
    unfold wL_lawOf_168
    exact br_t rfl (sr_201a (H0 (hd.elim Or.inl (fun y => Or.inr (Or.inl y)))))
  unfold wL_lawOf_130
  refine br_c (fun c1 => Z (Or.inl c1)) (fun c1 => br_c (fun c2 => Z (Or.inr c2)) (fun c2 => ?_))
  unfold wL_lawOf_149
  refine br_f (by decide) (br_t hf ?_)
  unfold wL_lawOf_168
  exact br_f (by decide) (br_f (by decide) (br_c (fun c3 => sr_201a (H0 (Or.inr (Or.inr (Or.inl c3))))) (fun c3 => br_c (fun c4 => sr_201a (H0 (Or.inr (Or.inr (Or.inr c4))))) (fun c4 => sr_201b (H1 c1 c2 c3 c4)))))
theorem sr_280a {z : Int32} (H : post 1 ()) : wL_lawOf_280 post mc ms i j k (-1) (-1) 0 0 0 z z kc ks := by
  unfold wL_lawOf_280
  refine br_t rfl (br_t rfl ?_)
  unfold wL_lawOf_307 wL_lawOf_308
  refine br_t rfl (br_t rfl ?_)
  unfold wL_lawOf_325
  refine br_t rfl (br_t rfl ?_)
  unfold wL_lawOf_340
  exact br_t rfl H
theorem sr_280b {z : Int32} (h9 : (k < 0 ∨ j - i < k) ∧ x9 = -1 ∨ (¬ k < 0 ∧ ¬ j - i < k) ∧ x9 = 0) (h10 : x10 = j - i) (h11 : x17 = 0 ∧ x11 = 0 ∨ x17 = 1 ∧ x11 = 1) (H : post 1 ()) : wL_lawOf_280 post mc ms i j k x9 x10 x11 1 x17 z z kc ks := by
  have E : ∀ y, wL_lawOf_308 post mc ms i j x10 x11 1 x17 y y kc ks := by
    intro y
    unfold wL_lawOf_308
    refine br_t rfl (br_f (by decide) ?_)
    unfold wL_lawOf_325
    refine br_t h10 ?_
    rcases h11 with ⟨e1, e2⟩ | ⟨e1, e2⟩
    · subst e1 e2
      refine br_t rfl ?_
      unfold wL_lawOf_340
      exact br_t rfl H
    · subst e1 e2
      refine br_f (by decide) ?_
      unfold wL_lawOf_340
      exact br_t rfl H
  unfold wL_lawOf_280
  refine br_t rfl (br_f (by decide) ?_)
  rcases h9 with ⟨c, e⟩ | ⟨c, e⟩
  · subst e
    exact br_c (fun _ => E _) (fun n1 => br_t (c.elim (fun y => absurd y n1) id) (E _))
  · subst e
    exact br_f c.1 (br_f c.2 (E _))
theorem sr_218A {z : Int32} (h : z = 0 ∧ x7 = -1 ∨ z = 1 ∧ x7 = j - i) (H : wL_lawOf_280 post mc ms i j k x9 x10 x11 x15 x17 0 0 kc ks) : wL_lawOf_218 post mc ms i v j d k (-1) x7 0 x9 x10 x11 0 x15 x17 z kc ks := by
  unfold wL_lawOf_218
  refine br_t rfl ?_
  unfold wL_lawOf_232
  refine br_t rfl ?_
  rcases h with ⟨e1, e2⟩ | ⟨e1, e2⟩
  · subst e1 e2
    refine br_t rfl ?_
    unfold wL_lawOf_249
    exact br_t rfl (br_t rfl H)
  · subst e1 e2
    refine br_f (by decide) ?_
    unfold wL_lawOf_249
    exact br_t rfl (br_t rfl H)
theorem sr_218B {z : Int32} (h : z = 0 ∧ x7 = -1 ∧ x8 = v ∨ z = 1 ∧ x7 = j - i ∧ x17 = 0 ∧ x8 = v ∨ z = 1 ∧ x7 = j - i ∧ x17 = 1 ∧ x8 = v + d) (H : ∀ y, wL_lawOf_280 post mc ms i j k x9 x10 x11 x15 x17 y y kc ks) : wL_lawOf_218 post mc ms i v j d k 1 x7 x8 x9 x10 x11 1 x15 x17 z kc ks := by
  unfold wL_lawOf_218
  refine br_f (by decide) ?_
  unfold wL_lawOf_232
  refine br_t rfl ?_
  rcases h with ⟨e1, e2, e3⟩ | ⟨e1, e2, e3, e4⟩ | ⟨e1, e2, e3, e4⟩
  · subst e1 e2 e3
    refine br_t rfl ?_
    unfold wL_lawOf_249
    exact br_t rfl (br_f (by decide) (br_t rfl (H _)))
  · subst e1 e2 e3 e4
    refine br_f (by decide) ?_
    unfold wL_lawOf_249
    exact br_t rfl (br_f (by decide) (br_f (by decide) (br_t rfl (H _))))
  · subst e1 e2 e3 e4
    refine br_f (by decide) ?_
    unfold wL_lawOf_249
    exact br_t rfl (br_f (by decide) (br_f (by decide) (br_f (by decide) (H _))))
end
section
variable {f0 f1 f2 f3 f4 : Int32} {a1 a2 a3 a4 a5 a6 a7 a8 a9 a10 a11 a12 a13 a14 a15 : Nat → Int32}
theorem sr_raiG {post : Int32 → St2 → Prop} {d n : Int32} (hr : vp_in f0 49) (hn : a5 f0.toNatClampNeg = n) (h0 : 0 ≤ n) (h3 : a3 1 = 0)
    (H : ∀ r b m e g, ((d < (-1000000) ∨ 1000000 < d) ∧ r = -1 ∨ (¬ d < (-1000000) ∧ ¬ 1000000 < d) ∧ r = 0) → g 1 = 0 → post r (f0, f1, b, m, e, a1, a2, g, a4, a5, a6, a7, a8, a9, a10, a11, a12, a13, a14, a15)) : wpX_raise post (f0, f1, f2, f3, f4, a1, a2, a3, a4, a5, a6, a7, a8, a9, a10, a11, a12, a13, a14, a15) 0 0 d := by
  by_cases hd : d < (-1000000) ∨ 1000000 < d
  · exact sr_raiN hr hn (by decide) (by decide) h0 hd (H _ _ _ _ _ (Or.inl ⟨hd, rfl⟩) h3)
  · have h1 : ¬ d < (-1000000) := fun z => hd (Or.inl z)
    have h2 : ¬ 1000000 < d := fun z => hd (Or.inr z)
    exact sr_rai0 hr hn h0 h3 h1 h2 (fun g hg => H _ _ _ _ _ (Or.inr ⟨⟨h1, h2⟩, rfl⟩) hg)
theorem sr_raiH {post : Int32 → St2 → Prop} {d v : Int32} (hP : sr_P v a1 a2 a3 a4 a5 a8 a9 a10 a11)
    (H : ∀ r w b m e g3 g4 g6 g7 g8 g9 g12, ((d < (-1000000) ∨ 1000000 < d ∨ v + d < (-1000000) ∨ 1000000 < v + d) ∧ r = -1 ∧ w = v ∨ (¬ d < (-1000000) ∧ ¬ 1000000 < d ∧ ¬ v + d < (-1000000) ∧ ¬ 1000000 < v + d) ∧ r = 1 ∧ w = v + d) → sr_P w a1 a2 g3 g4 a5 g8 g9 a10 a11 → post r (1, f1, b, m, e, a1, a2, g3, g4, a5, g6, g7, g8, g9, a10, a11, g12, a13, a14, a15)) : wpX_raise post (1, f1, f2, f3, f4, a1, a2, a3, a4, a5, a6, a7, a8, a9, a10, a11, a12, a13, a14, a15) 0 1 d := by
  by_cases hd : d < (-1000000) ∨ 1000000 < d
  · exact sr_raiN sr_i1 hP.2.2.2.2.2.1 (by decide) (by decide) (by decide) hd (H _ v _ _ _ _ _ _ _ _ _ _ (Or.inl ⟨hd.elim Or.inl (fun y => Or.inr (Or.inl y)), rfl, rfl⟩) hP)
  · have h1 : ¬ d < (-1000000) := fun z => hd (Or.inl z)
    have h2 : ¬ 1000000 < d := fun z => hd (Or.inr z)
    exact sr_rai1 hP h1 h2 (fun c g hg => H _ v _ _ _ _ _ _ _ _ _ _ (Or.inl ⟨Or.inr (Or.inr c), rfl, rfl⟩) ⟨hP.1, hP.2.1, hg, hP.2.2.2⟩) (fun c1 c2 g3 g4 g6 g7 g8 g9 g12 hQ => H _ _ _ _ _ _ _ _ _ _ _ _ (Or.inr ⟨⟨h1, h2, c1, c2⟩, rfl, rfl⟩) hQ)
theorem sr_rotG {post : Int32 → St2 → Prop} {k n : Int32} (hr : vp_in f0 49) (hn : a5 f0.toNatClampNeg = n) (h0 : 0 ≤ n) (h3 : a3 1 = 0)
    (H : ∀ r b m e g, ((k < 0 ∨ (0 : Int32) - 0 < k) ∧ r = -1 ∨ (¬ k < 0 ∧ ¬ (0 : Int32) - 0 < k) ∧ r = 0) → g 1 = 0 → post r (f0, f1, b, m, e, a1, a2, g, a4, a5, a6, a7, a8, a9, a10, a11, a12, a13, a14, a15)) : wpX_rotate post (f0, f1, f2, f3, f4, a1, a2, a3, a4, a5, a6, a7, a8, a9, a10, a11, a12, a13, a14, a15) 0 0 k := by
  by_cases hk : k < 0 ∨ (0 : Int32) - 0 < k
  · exact sr_rotN hr hn (by decide) (by decide) h0 hk (H _ _ _ _ _ (Or.inl ⟨hk, rfl⟩) h3)
  · have h1 : ¬ k < 0 := fun z => hk (Or.inl z)
    have h2 : ¬ (0 : Int32) - 0 < k := fun z => hk (Or.inr z)
    have e : k = 0 := sr_eq0 h1 h2
    subst e
    exact sr_rot0 hr hn h0 h3 (fun g hg => H _ _ _ _ _ (Or.inr ⟨⟨h1, h2⟩, rfl⟩) hg)
theorem sr_rotH {post : Int32 → St2 → Prop} {k : Int32} (h3 : a3 1 = 0) (h5 : a5 1 = 1)
    (H : ∀ r b m e g, ((k < 0 ∨ (1 : Int32) - 0 < k) ∧ r = -1 ∨ (¬ k < 0 ∧ ¬ (1 : Int32) - 0 < k) ∧ r = 0) → g 1 = 0 → post r (1, f1, b, m, e, a1, a2, g, a4, a5, a6, a7, a8, a9, a10, a11, a12, a13, a14, a15)) : wpX_rotate post (1, f1, f2, f3, f4, a1, a2, a3, a4, a5, a6, a7, a8, a9, a10, a11, a12, a13, a14, a15) 0 1 k := by
  by_cases hk : k < 0 ∨ (1 : Int32) - 0 < k
  · exact sr_rotN sr_i1 h5 (by decide) (by decide) (by decide) hk (H _ _ _ _ _ (Or.inl ⟨hk, rfl⟩) h3)
  · have h1 : ¬ k < 0 := fun z => hk (Or.inl z)
    have h2 : ¬ (1 : Int32) - 0 < k := fun z => hk (Or.inr z)
    exact sr_rot1 (sr_eq1 h1 h2) h3 h5 (fun g hg => H _ _ _ _ _ (Or.inr ⟨⟨h1, h2⟩, rfl⟩) hg)
end
end
section
theorem sr_cell {post : Int32 → Prop} {L : Nat} {xs : Nat → Int32} (n : Nat) (hn : n < 5) (hL : L ≤ 5) (H : ∀ x, post x) : wpL_cellAt post L xs () (nI n) := by
  unfold wpL_cellAt
  exact pk_le L n (fun _ => H _) (fun z => ⟨pk_in n L z, H _⟩)
theorem sr_lawOf {post : Int32 → St0 → Prop} (H : post 1 ()) (i v j d k : Int32) : wpL_lawOf post 16 754 () i v j d k := by
  unfold wpL_lawOf
  refine ⟨by decide, by decide, 15, 734, by decide, by decide, ?_⟩
  unfold wpX_init
  refine ⟨by decide, by decide, by decide, by decide, by decide, by decide, by decide, by decide, by decide, by decide, by decide, by decide, by decide, by decide, by decide, by decide, by decide, by decide, by decide, by decide, by decide, by decide, by decide, by decide, by decide, by decide, by decide, by decide, by decide, by decide, nm_e (nm_e ?_)⟩
  by_cases h1 : i = 0 ∧ ¬ v < (-1000000) ∧ ¬ 1000000 < v
  · obtain ⟨rfl, hl, hh⟩ := h1
    refine sr_insF rfl (fun _ _ => rfl) rfl pk_us pk_us hl hh (fun g1 g2 g3 g4 g5 g6 g7 g8 g9 g10 g11 g12 g13 hP => ?_)
    obtain ⟨p1, p2, p3, p4, p50, p51, p8, p9, p10, p11⟩ := id hP
    by_cases hb : j < 0 ∨ 1 < j
    · have hb' : (0 : Int32) < 0 ∨ j < 0 ∨ 1 < j := Or.inr hb
      refine sr_raiT sr_i1 p51 hb' ?_
      refine sr_getS hP (fun q => ?_)
      refine sr_rotT sr_i1 p51 hb' ?_
      refine sr_cutT sr_i1 p51 hb' ?_
      refine sr_clip sr_i0 p50 ?_
      exact sr_lB hl hh (sr_108T hb' (sr_218B (Or.inl ⟨rfl, rfl, rfl⟩) (fun _ => sr_280a H)))
    · have hj : j = 0 ∨ j = 1 := sr_eq1 (fun z => hb (Or.inl z)) (fun z => hb (Or.inr z))
      rcases hj with rfl | rfl
      · refine sr_raiG sr_i1 p51 (by decide) p3 (fun r7 b m e g h7 hg => ?_)
        refine sr_getS ⟨p1, p2, hg, p4, p50, p51, p8, p9, p10, p11⟩ (fun q => ?_)
        refine sr_rotG sr_i1 p51 (by decide) hg (fun r9 b' m' e' g' h9 hg' => ?_)
        refine sr_cut0 sr_i1 p51 (by decide) hg' p50 (fun q' hq' => ?_)
        refine sr_clip sr_i0 p50 ?_
        refine sr_lB hl hh (sr_108F (by decide) (by decide) (by decide) (sr_130n (by decide) (fun c => sr_218B (Or.inl ⟨rfl, ?_, rfl⟩) (fun _ => sr_280b h9 rfl (Or.inl ⟨rfl, rfl⟩) H)) (fun c1 c2 => sr_218B (Or.inr (Or.inl ⟨rfl, ?_, rfl, rfl⟩)) (fun _ => sr_280b h9 rfl (Or.inl ⟨rfl, rfl⟩) H))))
        · exact h7.elim (fun y => y.2) (fun y => absurd c (fun z => z.elim y.1.1 y.1.2))
        · exact h7.elim (fun y => absurd y.1 (fun z => z.elim c1 c2)) (fun y => y.2)
      · refine sr_raiH hP (fun r7 w b m e q3 q4 q6 q7 q8 q9 q12 h7 hQ => ?_)
        refine sr_getS hQ (fun q => ?_)
        refine sr_rotH hQ.2.2.1 p51 (fun r9 b' m' e' g' h9 hg' => ?_)
        refine sr_cut1 hg' p51 (fun q' hq' => ?_)
        refine sr_clip sr_i1 p51 ?_
        refine sr_lB hl hh (sr_108F (by decide) (by decide) (by decide) (sr_130f (by decide) (fun c => sr_218B (Or.inl ?_) (fun _ => sr_280b h9 rfl (Or.inr ⟨rfl, rfl⟩) H)) (fun c1 c2 c3 c4 => sr_218B (Or.inr (Or.inr ?_)) (fun _ => sr_280b h9 rfl (Or.inr ⟨rfl, rfl⟩) H))))
        · exact h7.elim (fun y => ⟨rfl, y.2⟩) (fun y => absurd c (fun z => z.elim y.1.1 (fun z => z.elim y.1.2.1 (fun z => z.elim y.1.2.2.1 y.1.2.2.2))))
        · exact h7.elim (fun y => absurd y.1 (fun z => z.elim c1 (fun z => z.elim c2 (fun z => z.elim c3 c4)))) (fun y => ⟨rfl, y.2.1, rfl, y.2.2⟩)
  · have hi : i < 0 ∨ 0 < i ∨ v < (-1000000) ∨ 1000000 < v := by
      by_cases c1 : i < 0
      · exact Or.inl c1
      · by_cases c2 : 0 < i
        · exact Or.inr (Or.inl c2)
        · by_cases c3 : v < (-1000000)
          · exact Or.inr (Or.inr (Or.inl c3))
          · by_cases c4 : 1000000 < v
            · exact Or.inr (Or.inr (Or.inr c4))
            · exact absurd ⟨sr_eq0 c1 c2, c3, c4⟩ h1
    have hA : ¬ i = 0 ∨ v < (-1000000) ∨ 1000000 < v := by
      rcases hi with y | y | y
      · exact Or.inl (fun z => absurd (z ▸ y : (0 : Int32) < 0) (by decide))
      · exact Or.inl (fun z => absurd (z ▸ y : (0 : Int32) < 0) (by decide))
      · exact Or.inr y
    refine sr_insT rfl hi ?_
    by_cases hb : i < 0 ∨ j < i ∨ 0 < j
    · refine sr_raiT sr_i0 rfl hb ?_
      refine sr_getE rfl ?_
      refine sr_rotT sr_i0 rfl hb ?_
      refine sr_cutT sr_i0 rfl hb ?_
      refine sr_clip sr_i0 rfl ?_
      exact sr_lA hA (sr_108T hb (sr_218A (Or.inl ⟨rfl, rfl⟩) (sr_280a H)))
    · have b1 : ¬ i < 0 := fun z => hb (Or.inl z)
      have b2 : ¬ j < i := fun z => hb (Or.inr (Or.inl z))
      have b3 : ¬ 0 < j := fun z => hb (Or.inr (Or.inr z))
      have ei : i = 0 := sr_eq0 b1 (fun z => b3 (Int32.lt_of_lt_of_le z (Int32.not_lt.mp b2)))
      subst ei
      have ej : j = 0 := sr_eq0 b2 b3
      subst ej
      refine sr_raiG sr_i0 rfl (by decide) rfl (fun r7 b m e g h7 hg => ?_)
      refine sr_getE rfl ?_
      refine sr_rotG sr_i0 rfl (by decide) hg (fun r9 b' m' e' g' h9 hg' => ?_)
      refine sr_cut0 sr_i0 rfl (by decide) hg' rfl (fun q' hq' => ?_)
      refine sr_clip sr_i0 rfl ?_
      refine sr_lA hA (sr_108F (by decide) (by decide) (by decide) (sr_130n (by decide) (fun c => sr_218A (Or.inl ⟨rfl, ?_⟩) (sr_280b h9 rfl (Or.inl ⟨rfl, rfl⟩) H)) (fun c1 c2 => sr_218A (Or.inr ⟨rfl, ?_⟩) (sr_280b h9 rfl (Or.inl ⟨rfl, rfl⟩) H))))
      · exact h7.elim (fun y => y.2) (fun y => absurd c (fun z => z.elim y.1.1 y.1.2))
      · exact h7.elim (fun y => absurd y.1 (fun z => z.elim c1 c2)) (fun y => y.2)
theorem i_vc (xs : Nat → Int32) (L : Nat) (hL : L ≤ 5) : wpL_law (fun r => r = 1) L xs := by
  unfold wpL_law
  exact sr_cell 0 (by omega) hL (fun i => sr_cell 1 (by omega) hL (fun v => sr_cell 2 (by omega) hL (fun j => sr_cell 3 (by omega) hL (fun d => sr_cell 4 (by omega) hL (fun k => ⟨16, 754, by decide, by decide, sr_lawOf rfl i v j d k⟩)))))
end
