section
/-- clamped, its answer forgotten -/
theorem zq_cl {post : Int32 → Prop} {u : St0} {p0 p1 p2 : Int32} (H : ∀ r, post r) : wpX_clamped post u p0 p1 p2 := by
  unfold wpX_clamped
  exact ⟨fun _ => ⟨fun _ => H _, fun _ => H _⟩, fun _ => H _⟩
def zq_cv (p0 p1 p2 : Int32) : Int32 := if p1 ≤ p0 then (if p0 ≤ p2 then p0 else p2) else p1
theorem zq_clv {post : Int32 → Prop} {u : St0} {p0 p1 p2 : Int32} (H : post (zq_cv p0 p1 p2)) : wpX_clamped post u p0 p1 p2 := by
  unfold wpX_clamped
  unfold zq_cv at H
  refine ⟨fun h1 => ?_, fun h1 => ?_⟩
  · rw [if_pos h1] at H
    refine ⟨fun h2 => ?_, fun h2 => ?_⟩
    · rw [if_pos h2] at H
      exact H
    · rw [if_neg h2] at H
      exact H
  · rw [if_neg h1] at H
    exact H
theorem zq_ix (k i : Nat) : nI k * 4 + nI i = nI (k * 4 + i) := by
  rw [show (4 : Int32) = nI 4 from rfl, pk_mul, nI_add]
/-- a continuation over a counter and the state -/
abbrev zq_J : Type := Int32 → Int32 → Int32 → Int32 → Int32 → Int32 → Int32 → Int32 → Int32 → (Nat → Int32) → (Nat → Int32) → (Nat → Int32) → (Nat → Int32) → (Nat → Int32) → (Nat → Int32) → (Nat → Int32) → (Nat → Int32) → (Nat → Int32) → (Nat → Int32) → (Nat → Int32) → (Nat → Int32) → (Nat → Int32) → (Nat → Int32) → (Nat → Int32) → (Nat → Int32) → (Nat → Int32) → (Nat → Int32) → (Nat → Int32) → Prop
theorem zq_te {post : St2 → Prop} {f0 f1 f2 f3 f4 f5 f6 f7 : Int32} {a1 a2 a3 a4 a5 a6 a7 a8 a9 a10 a11 a12 a13 a14 a15 a16 a17 a18 a19 : Nat → Int32} {p0 p1 p2 : Int32} (H : ∀ x y z, post (f0, f1, f2, f3, f4, x, y, z, a1, a2, a3, a4, a5, a6, a7, a8, a9, a10, a11, a12, a13, a14, a15, a16, a17, a18, a19)) : wpX_thenEffect post (f0, f1, f2, f3, f4, f5, f6, f7, a1, a2, a3, a4, a5, a6, a7, a8, a9, a10, a11, a12, a13, a14, a15, a16, a17, a18, a19) p0 p1 p2 := by
  unfold wpX_thenEffect
  exact zq_cl (fun r1 => zq_cl (fun r2 => nm_e (H _ _ _)))
theorem zq_se {post : St2 → Prop} {f0 f1 f2 f3 f4 f5 f6 f7 : Int32} {a1 a2 a3 a4 a5 a6 a7 a8 a9 a10 a11 a12 a13 a14 a15 a16 a17 a18 a19 : Nat → Int32} (H : ∀ x y z, post (f0, f1, f2, f3, f4, x, y, z, a1, a2, a3, a4, a5, a6, a7, a8, a9, a10, a11, a12, a13, a14, a15, a16, a17, a18, a19)) : wpX_startEffect post (f0, f1, f2, f3, f4, f5, f6, f7, a1, a2, a3, a4, a5, a6, a7, a8, a9, a10, a11, a12, a13, a14, a15, a16, a17, a18, a19) := by
  unfold wpX_startEffect
  exact H _ _ _
theorem zq_tn {post : St2 → Prop} {f0 f1 f2 f3 f4 f5 f6 f7 : Int32} {a1 a2 a3 a4 a5 a6 a7 a8 a9 a10 a11 a12 a13 a14 a15 a16 a17 a18 a19 : Nat → Int32} {k : Nat} (hk : k < 43) (H : ∀ x y z, post (f0, f1, f2, f3, f4, x, y, z, a1, a2, a3, a4, a5, a6, a7, a8, a9, a10, a11, a12, a13, a14, a15, a16, a17, a18, a19)) : wpX_thenEntry post (f0, f1, f2, f3, f4, f5, f6, f7, a1, a2, a3, a4, a5, a6, a7, a8, a9, a10, a11, a12, a13, a14, a15, a16, a17, a18, a19) (nI k) := by
  have hv : vp_in (nI k) 43 := vp_in_nI hk (by decide)
  unfold wpX_thenEntry
  exact ⟨hv, nm_e ⟨hv, br_c (fun _ => zq_te H) (fun _ => ⟨hv, br_c (fun _ => zq_te H) (fun _ => ⟨hv, br_c (fun _ => zq_te H) (fun _ => zq_te H)⟩)⟩)⟩⟩
theorem zq_249 {post : St2 → Prop} {J : zq_J} {f0 f1 f2 f3 f4 f5 f6 f7 : Int32} {a1 a2 a3 a4 a5 a6 a7 a8 a9 a10 a11 a12 a13 a14 a15 a16 a17 a18 a19 : Nat → Int32} {k i q : Nat} {x2 x3 x5 : Int32} (hk : k < 43) (hi : i < 4) (hq : q < 172)
    (H : ∀ x y z b13 b14 b15, J (nI (i + 1)) f0 f1 f2 f3 f4 x y z a1 a2 a3 a4 a5 a6 a7 a8 a9 a10 a11 a12 b13 b14 b15 a16 a17 a18 a19) :
    wX_pull_249 post J (nI k) x2 x3 x5 (nI i) (nI q) f0 f1 f2 f3 f4 f5 f6 f7 a1 a2 a3 a4 a5 a6 a7 a8 a9 a10 a11 a12 a13 a14 a15 a16 a17 a18 a19 := by
  have hv : vp_in (nI q) 172 := vp_in_nI hq (by decide)
  have hw : vp_in ((nI k * 4) + nI i) 172 := by
    rw [zq_ix]
    exact vp_in_nI (by omega) (by decide)
  unfold wX_pull_249
  exact ⟨hv, hv, hv, zq_te (fun x y z => ⟨hw, nm_e ⟨hw, nm_e ⟨hw, nm_e (nm_r (nI_1 i) (H _ _ _ _ _ _))⟩⟩⟩)⟩
theorem zq_244 {post : St2 → Prop} {J : zq_J} {f0 f1 f2 f3 f4 f5 f6 f7 : Int32} {a1 a2 a3 a4 a5 a6 a7 a8 a9 a10 a11 a12 a13 a14 a15 a16 a17 a18 a19 : Nat → Int32} {k i q : Nat} {x2 x3 x5 : Int32} (hk : k < 43) (hi : i < 4) (hq : q < 172)
    (H : ∀ x y z b13 b14 b15, J (nI (i + 1)) f0 f1 f2 f3 f4 x y z a1 a2 a3 a4 a5 a6 a7 a8 a9 a10 a11 a12 b13 b14 b15 a16 a17 a18 a19) :
    wX_pull_244 post J (nI k) x2 x3 x5 (nI i) (nI q) f0 f1 f2 f3 f4 f5 f6 f7 a1 a2 a3 a4 a5 a6 a7 a8 a9 a10 a11 a12 a13 a14 a15 a16 a17 a18 a19 := by
  unfold wX_pull_244
  exact zq_tn hk (fun x y z => zq_249 hk hi hq H)
theorem zq_197 {post : St2 → Prop} {J : zq_J} {f0 f1 f2 f3 f4 f5 f6 f7 : Int32} {a1 a2 a3 a4 a5 a6 a7 a8 a9 a10 a11 a12 a13 a14 a15 a16 a17 a18 a19 : Nat → Int32} {k i q l : Nat} {x2 x3 x5 : Int32} (hk : k < 43) (hi : i < 4) (hq : q < 172) (hl : l < 43)
    (H : ∀ x y z b13 b14 b15, J (nI (i + 1)) f0 f1 f2 f3 f4 x y z a1 a2 a3 a4 a5 a6 a7 a8 a9 a10 a11 a12 b13 b14 b15 a16 a17 a18 a19) :
    wX_pull_197 post J (nI k) x2 x3 x5 (nI i) (nI q) (nI l) f0 f1 f2 f3 f4 f5 f6 f7 a1 a2 a3 a4 a5 a6 a7 a8 a9 a10 a11 a12 a13 a14 a15 a16 a17 a18 a19 := by
  have hv : vp_in (nI q) 172 := vp_in_nI hq (by decide)
  unfold wX_pull_197
  refine nm_r (zq_ix l i) ?_
  have hw : l * 4 + i < 172 := by omega
  exact zq_se (fun x y z => ⟨hv, hv, hv, zq_te (fun x y z => br_c (fun _ => zq_244 hk hi hw H) (fun _ => br_c (fun _ => zq_244 hk hi hw H) (fun _ => zq_249 hk hi hw H)))⟩)
theorem zq_180 {post : St2 → Prop} {J : zq_J} {f0 f1 f2 f3 f4 f5 f6 f7 : Int32} {a1 a2 a3 a4 a5 a6 a7 a8 a9 a10 a11 a12 a13 a14 a15 a16 a17 a18 a19 : Nat → Int32} {k i l r t : Nat} {x5 x7 : Int32} (hk : k < 43) (hi : i < 4) (hl : l < 43) (hr : r < 43) (ht : t < 43)
    (H : ∀ x y z b13 b14 b15, J (nI (i + 1)) f0 f1 f2 f3 f4 x y z a1 a2 a3 a4 a5 a6 a7 a8 a9 a10 a11 a12 b13 b14 b15 a16 a17 a18 a19) :
    wX_pull_180 post J (nI k) (nI l) (nI r) x5 (nI i) x7 (nI t) f0 f1 f2 f3 f4 f5 f6 f7 a1 a2 a3 a4 a5 a6 a7 a8 a9 a10 a11 a12 a13 a14 a15 a16 a17 a18 a19 := by
  unfold wX_pull_180
  refine nm_r (zq_ix t i) ?_
  have hw : t * 4 + i < 172 := by omega
  exact br_c (fun _ => zq_197 hk hi hw hl H) (fun _ => zq_197 hk hi hw hr H)
theorem zq_168 {post : St2 → Prop} {J : zq_J} {f0 f1 f2 f3 f4 f5 f6 f7 : Int32} {a1 a2 a3 a4 a5 a6 a7 a8 a9 a10 a11 a12 a13 a14 a15 a16 a17 a18 a19 : Nat → Int32} {k i l r : Nat} {x5 z0 : Int32} (hk : k < 43) (hi : i < 4) (hl : l < 43) (hr : r < 43)
    (H : ∀ x y z b13 b14 b15, J (nI (i + 1)) f0 f1 f2 f3 f4 x y z a1 a2 a3 a4 a5 a6 a7 a8 a9 a10 a11 a12 b13 b14 b15 a16 a17 a18 a19) :
    wX_pull_168 post J (nI k) (nI l) (nI r) x5 (nI i) z0 f0 f1 f2 f3 f4 f5 f6 f7 a1 a2 a3 a4 a5 a6 a7 a8 a9 a10 a11 a12 a13 a14 a15 a16 a17 a18 a19 := by
  unfold wX_pull_168
  exact br_c (fun _ => zq_180 hk hi hl hr hr H) (fun _ => zq_180 hk hi hl hr hl H)
theorem zq_150s {post : St2 → Prop} {f0 f1 f2 f3 f4 f5 f6 f7 : Int32} {a1 a2 a3 a4 a5 a6 a7 a8 a9 a10 a11 a12 a13 a14 a15 a16 a17 a18 a19 : Nat → Int32} {n k i l r : Nat} {x5 : Int32} (hk : k < 43) (hi : i < 4) (hl : l < 43) (hr : r < 43)
    (H : ∀ x y z b13 b14 b15, wX_pull_150 post (nI k) (nI l) (nI r) x5 n (nI (i + 1)) f0 f1 f2 f3 f4 x y z a1 a2 a3 a4 a5 a6 a7 a8 a9 a10 a11 a12 b13 b14 b15 a16 a17 a18 a19) :
    wX_pull_150 post (nI k) (nI l) (nI r) x5 (n + 1) (nI i) f0 f1 f2 f3 f4 f5 f6 f7 a1 a2 a3 a4 a5 a6 a7 a8 a9 a10 a11 a12 a13 a14 a15 a16 a17 a18 a19 :=
  pk_le 4 i (fun z => absurd z (by omega)) (fun _ => br_c (fun _ => zq_168 hk hi hl hr H) (fun _ => zq_168 hk hi hl hr H))
theorem zq_150 {post : St2 → Prop} {f0 f1 f2 f3 f4 f5 f6 f7 : Int32} {a1 a2 a3 a4 a5 a6 a7 a8 a9 a10 a11 a12 a13 a14 a15 a16 a17 a18 a19 : Nat → Int32} {k l r : Nat} {x5 : Int32} (hk : k < 43) (hl : l < 43) (hr : r < 43)
    (H : ∀ x y z b13 b14 b15, post (f0, f1, f2, f3, f4, x, y, z, a1, a2, a3, a4, a5, a6, a7, a8, a9, a10, a11, a12, b13, b14, b15, a16, a17, a18, a19)) :
    ∃ n, wX_pull_150 post (nI k) (nI l) (nI r) x5 n 0 f0 f1 f2 f3 f4 f5 f6 f7 a1 a2 a3 a4 a5 a6 a7 a8 a9 a10 a11 a12 a13 a14 a15 a16 a17 a18 a19 := by
  refine ⟨5, zq_150s (i := 0) hk (by decide) hl hr (fun _ _ _ _ _ _ => zq_150s (i := 1) hk (by decide) hl hr (fun _ _ _ _ _ _ => zq_150s (i := 2) hk (by decide) hl hr (fun _ _ _ _ _ _ => zq_150s (i := 3) hk (by decide) hl hr (fun _ _ _ _ _ _ => ?_))))⟩
  exact pk_le 4 4 (fun _ => H _ _ _ _ _ _) (fun z => absurd z (by omega))
theorem zq_92 {post : St2 → Prop} {f0 f1 f2 f3 f4 f5 f6 f7 : Int32} {a1 a2 a3 a4 a5 a6 a7 a8 a9 a10 a11 a12 a13 a14 a15 a16 a17 a18 a19 : Nat → Int32} {k l r : Nat} {x4 x5 z0 z1 : Int32} (hk : k < 43) (hl : l < 43) (hr : r < 43)
    (H : ∀ x y z b10 b11 b12 b13 b14 b15, post (f0, f1, f2, f3, f4, x, y, z, a1, a2, a3, a4, a5, a6, a7, a8, a9, b10, b11, b12, b13, b14, b15, a16, a17, a18, a19)) :
    wX_pull_92 post (nI k) (nI l) (nI r) x4 x5 z0 z1 (nI k) f0 f1 f2 f3 f4 f5 f6 f7 a1 a2 a3 a4 a5 a6 a7 a8 a9 a10 a11 a12 a13 a14 a15 a16 a17 a18 a19 := by
  have vk : vp_in (nI k) 43 := vp_in_nI hk (by decide)
  have vl : vp_in (nI l) 43 := vp_in_nI hl (by decide)
  have vr : vp_in (nI r) 43 := vp_in_nI hr (by decide)
  unfold wX_pull_92
  exact ⟨vk, nm_e ⟨vl, vr, vk, nm_e ⟨vl, vr, br_c (fun _ => ⟨vk, nm_e (zq_150 hk hl hr (fun _ _ _ _ _ _ => H _ _ _ _ _ _ _ _ _))⟩) (fun _ => ⟨vk, nm_e (zq_150 hk hl hr (fun _ _ _ _ _ _ => H _ _ _ _ _ _ _ _ _))⟩)⟩⟩⟩
theorem zq_33 {post : St2 → Prop} {f0 f1 f2 f3 f4 f5 f6 f7 : Int32} {a1 a2 a3 a4 a5 a6 a7 a8 a9 a10 a11 a12 a13 a14 a15 a16 a17 a18 a19 : Nat → Int32} {k l r : Nat} {z0 : Int32} (hk : k < 43) (hl : l < 43) (hr : r < 43)
    (H : ∀ x y z b10 b11 b12 b13 b14 b15, post (f0, f1, f2, f3, f4, x, y, z, a1, a2, a3, upd a4 k ((a4 l + a4 r) + 1), a5, a6, a7, a8, a9, b10, b11, b12, b13, b14, b15, a16, a17, a18, a19)) :
    wX_pull_33 post (nI k) (nI l) (nI r) z0 f0 f1 f2 f3 f4 f5 f6 f7 a1 a2 a3 a4 a5 a6 a7 a8 a9 a10 a11 a12 a13 a14 a15 a16 a17 a18 a19 := by
  have vk : vp_in (nI k) 43 := vp_in_nI hk (by decide)
  have vl : vp_in (nI l) 43 := vp_in_nI hl (by decide)
  have vr : vp_in (nI r) 43 := vp_in_nI hr (by decide)
  have e : upd a4 (nI k).toNatClampNeg (((a4 (nI l).toNatClampNeg) + (a4 (nI r).toNatClampNeg)) + 1) = upd a4 k ((a4 l + a4 r) + 1) := by
    rw [nI_clamp (show k < 2 ^ 31 by omega), nI_clamp (show l < 2 ^ 31 by omega), nI_clamp (show r < 2 ^ 31 by omega)]
  unfold wX_pull_33
  exact ⟨vk, nm_e ⟨vl, vr, vk, nm_r e ⟨vl, vr, br_c (fun _ => zq_92 hk hl hr H) (fun _ => zq_92 hk hl hr H)⟩⟩⟩
/-- pull at k, its children l and r: the count of k is set, the effects are forgotten -/
theorem zq_pull {post : St2 → Prop} {f0 f1 f2 f3 f4 f5 f6 f7 : Int32} {a1 a2 a3 a4 a5 a6 a7 a8 a9 a10 a11 a12 a13 a14 a15 a16 a17 a18 a19 : Nat → Int32} {k l r : Nat} (hk : k < 43) (hl : l < 43) (hr : r < 43) (h1 : a1 k = nI l) (h2 : a2 k = nI r)
    (H : ∀ x y z b10 b11 b12 b13 b14 b15, post (f0, f1, f2, f3, f4, x, y, z, a1, a2, a3, upd a4 k ((a4 l + a4 r) + 1), a5, a6, a7, a8, a9, b10, b11, b12, b13, b14, b15, a16, a17, a18, a19)) :
    wpX_pull post (f0, f1, f2, f3, f4, f5, f6, f7, a1, a2, a3, a4, a5, a6, a7, a8, a9, a10, a11, a12, a13, a14, a15, a16, a17, a18, a19) (nI k) := by
  have vk : vp_in (nI k) 43 := vp_in_nI hk (by decide)
  have e1 : a1 (nI k).toNatClampNeg = nI l := by
    rw [nI_clamp (show k < 2 ^ 31 by omega)]
    exact h1
  have e2 : a2 (nI k).toNatClampNeg = nI r := by
    rw [nI_clamp (show k < 2 ^ 31 by omega)]
    exact h2
  unfold wpX_pull
  exact ⟨vk, nm_r e1 ⟨vk, nm_r e2 ⟨vk, br_c (fun _ => ⟨vk, zq_33 hk hl hr H⟩) (fun _ => zq_33 hk hl hr H)⟩⟩⟩
/-- setUp at k: the node stands alone -/
theorem zq_setUp {post : St2 → Prop} {f0 f1 f2 f3 f4 f5 f6 f7 : Int32} {a1 a2 a3 a4 a5 a6 a7 a8 a9 a10 a11 a12 a13 a14 a15 a16 a17 a18 a19 : Nat → Int32} {k : Nat} {p1 p2 p3 : Int32} (hk : k < 43)
    (H : ∀ x y z b10 b11 b12 b13 b14 b15, post (f0, f1, f2, f3, f4, x, y, z, upd a1 k 0, upd a2 k 0, upd a3 k 0, upd a4 k ((a4 0 + a4 0) + 1), upd a5 k p1, upd a6 k p2, upd a7 k (vp_nar .boolean p3), upd a8 k 0, upd a9 k 2, b10, b11, b12, b13, b14, b15, a16, a17, a18, a19)) :
    wpX_setUp post (f0, f1, f2, f3, f4, f5, f6, f7, a1, a2, a3, a4, a5, a6, a7, a8, a9, a10, a11, a12, a13, a14, a15, a16, a17, a18, a19) (nI k) p1 p2 p3 := by
  have vk : vp_in (nI k) 43 := vp_in_nI hk (by decide)
  unfold wpX_setUp
  dsimp only
  rw [nI_clamp (show k < 2 ^ 31 by omega)]
  exact ⟨vk, nm_e ⟨vk, nm_e ⟨vk, nm_e ⟨vk, nm_e ⟨vk, nm_e ⟨vk, nm_e ⟨vk, nm_e ⟨vk, nm_e (zq_pull (l := 0) (r := 0) hk (by decide) (by decide) pk_us pk_us H)⟩⟩⟩⟩⟩⟩⟩⟩
end
section
/-- what isolate rests on: 1 (HEAD) is the root with 2 (TAIL) to its right, t hangs to the left of 2 and counts d; no delayed work at 1 and 2 -/
def zq_Q (t d : Nat) (a1 a2 a3 a4 a8 a9 : Nat → Int32) : Prop :=
  a1 1 = nI 0 ∧ a1 2 = nI t ∧ a2 1 = nI 2 ∧ a3 1 = nI 0 ∧ a3 2 = nI 1 ∧ a4 0 = nI 0 ∧ a4 t = nI d ∧ a8 1 = nI 0 ∧ a8 2 = nI 0 ∧ a9 1 = nI 2 ∧ a9 2 = nI 2
theorem zq_209 {post : St2 → Prop} {mc ms kc ks : Nat} {f1 f2 f3 f4 f5 f6 f7 : Int32} {c13 c14 c15 c16 : Nat → Int32}
    (H : ∀ x y z b1 b2 b3 b4 b5 b6 b7 b8 b9 b10 b11 b12 b13 b14 b15 b16 b17 b18 b19, zq_Q 0 0 b1 b2 b3 b4 b8 b9 → b2 2 = nI 0 → b16 39 = nI 3 → post (nI 40, nI 1, f2, f3, f4, x, y, z, b1, b2, b3, b4, b5, b6, b7, b8, b9, b10, b11, b12, b13, b14, b15, b16, b17, b18, b19)) :
    ∃ n, wX_init_209 post mc ms kc ks f1 f2 f3 f4 f5 f6 f7 n 42 0 (fun _ => 0) (fun _ => 0) (fun _ => 0) (fun _ => 0) (fun _ => 0) (fun _ => 0) (fun _ => 0) (fun _ => 0) (fun _ => 0) (fun _ => 0) (fun _ => 0) (fun _ => 0) c13 c14 c15 c16 (fun _ => 0) (fun _ => 0) (fun _ => 0) := by
  refine pk_loop (fun n i s => wX_init_209 post mc ms kc ks f1 f2 f3 f4 f5 f6 f7 n (nI (42 - i)) (nI i) (fun _ => 0) (fun _ => 0) (fun _ => 0) (fun _ => 0) (fun _ => 0) (fun _ => 0) (fun _ => 0) (fun _ => 0) (fun _ => 0) (fun _ => 0) (fun _ => 0) (fun _ => 0) c13 c14 c15 s (fun _ => 0) (fun _ => 0) (fun _ => 0)) (fun i s => 39 < i → s 39 = nI 3) 40 0 c16 (by decide) (fun z => absurd z (by decide)) ?_ ?_
  · intro n s h
    have h39 : s 39 = nI 3 := h (by decide)
    refine pk_le 2 2 (fun _ => ?_) (fun z => absurd z (by decide))
    refine zq_setUp (k := 1) (by decide) (fun x1 y1 z1 c10 c11 c12 c13 c14 c15 => ?_)
    refine zq_setUp (k := 2) (by decide) (fun x2 y2 z2 d10 d11 d12 d13 d14 d15 => ?_)
    refine nm_e (nm_e ?_)
    refine zq_pull (k := 1) (l := 0) (r := 2) (by decide) (by decide) (by decide) rfl rfl (fun x3 y3 z3 e10 e11 e12 e13 e14 e15 => ?_)
    refine H _ _ _ _ _ _ _ _ _ _ _ _ _ _ _ _ _ _ _ _ _ _ ?_ ?_ h39
    · exact ⟨rfl, rfl, rfl, rfl, rfl, rfl, rfl, rfl, rfl, rfl, rfl⟩
    · rfl
  · intro n i s hi h hw
    refine pk_le (42 - i) 2 (fun z => absurd z (by omega)) (fun _ => ⟨pk_in i 43 (by omega), nm_e (nm_r (nI_1 i) ?_)⟩)
    have e : nI (42 - i) + (-1) = nI (42 - (i + 1)) := by
      rw [show 42 - i = (42 - (i + 1)) + 1 by omega]
      exact pk_m1 _
    refine nm_r e (hw _ (fun h39 => ?_))
    rw [nI_clamp (show i < 2 ^ 31 by omega)]
    have e39 : i = 39 := by omega
    subst e39
    exact pk_us
theorem zq_183 {post : St2 → Prop} {mc ms kc ks : Nat} {f1 f2 f3 f4 f5 f6 f7 : Int32} {c13 c14 c15 c16 : Nat → Int32}
    (H : ∀ x y z b1 b2 b3 b4 b5 b6 b7 b8 b9 b10 b11 b12 b13 b14 b15 b16 b17 b18 b19, zq_Q 0 0 b1 b2 b3 b4 b8 b9 → b2 2 = nI 0 → b16 39 = nI 3 → post (nI 40, nI 1, f2, f3, f4, x, y, z, b1, b2, b3, b4, b5, b6, b7, b8, b9, b10, b11, b12, b13, b14, b15, b16, b17, b18, b19)) :
    ∃ n, wX_init_183 post mc ms kc ks 0 f1 f2 f3 f4 f5 f6 f7 n 0 (fun _ => 0) (fun _ => 0) (fun _ => 0) (fun _ => 0) (fun _ => 0) (fun _ => 0) (fun _ => 0) (fun _ => 0) (fun _ => 0) (fun _ => 0) (fun _ => 0) (fun _ => 0) c13 c14 c15 c16 (fun _ => 0) (fun _ => 0) (fun _ => 0) := by
  refine pk_loop (fun n i s => wX_init_183 post mc ms kc ks 0 f1 f2 f3 f4 f5 f6 f7 n (nI i) (fun _ => 0) (fun _ => 0) (fun _ => 0) (fun _ => 0) (fun _ => 0) (fun _ => 0) (fun _ => 0) (fun _ => 0) (fun _ => 0) (fun _ => 0) (fun _ => 0) (fun _ => 0) c13 c14 s c16 (fun _ => 0) (fun _ => 0) (fun _ => 0)) (fun _ _ => True) 172 0 c15 (by decide) trivial ?_ ?_
  · intro n s _
    exact pk_le 172 172 (fun _ => zq_209 H) (fun z => absurd z (by decide))
  · intro n i s hi _ hw
    exact pk_le 172 i (fun z => absurd z (by omega)) (fun _ => ⟨pk_in i 172 hi, nm_e (nm_r (nI_1 i) (hw _ trivial))⟩)
theorem zq_init {post : St2 → Prop} {p0 p1 : Int32}
    (H : ∀ x y z b1 b2 b3 b4 b5 b6 b7 b8 b9 b10 b11 b12 b13 b14 b15 b16 b17 b18 b19, zq_Q 0 0 b1 b2 b3 b4 b8 b9 → b2 2 = nI 0 → b16 39 = nI 3 → post (nI 40, nI 1, 0, zq_cv p0 4 60, zq_cv p1 2 40, x, y, z, b1, b2, b3, b4, b5, b6, b7, b8, b9, b10, b11, b12, b13, b14, b15, b16, b17, b18, b19)) :
    wpX_init post 19 1195 (0, 0, 0, 0, 0, 0, 0, 0) p0 p1 := by
  unfold wpX_init
  dsimp only
  iterate 38 (refine And.intro (by decide) ?_)
  exact zq_clv (zq_clv (zq_183 H))
end
section
theorem zq_push {post : St2 → Prop} {f0 f1 f2 f3 f4 f5 f6 f7 : Int32} {a1 a2 a3 a4 a5 a6 a7 a8 a9 a10 a11 a12 a13 a14 a15 a16 a17 a18 a19 : Nat → Int32} {k : Nat} (hk : k < 43) (h9 : a9 k = nI 2) (h8 : a8 k = nI 0) (H : post (f0, f1, f2, f3, f4, f5, f6, f7, a1, a2, a3, a4, a5, a6, a7, a8, a9, a10, a11, a12, a13, a14, a15, a16, a17, a18, a19)) : wpX_push post (f0, f1, f2, f3, f4, f5, f6, f7, a1, a2, a3, a4, a5, a6, a7, a8, a9, a10, a11, a12, a13, a14, a15, a16, a17, a18, a19) (nI k) := by
  have vk : vp_in (nI k) 43 := vp_in_nI hk (by decide)
  have e9 : a9 (nI k).toNatClampNeg = 2 := by
    rw [nI_clamp (show k < 2 ^ 31 by omega)]
    exact h9
  have e8 : a8 (nI k).toNatClampNeg = 0 := by
    rw [nI_clamp (show k < 2 ^ 31 by omega)]
    exact h8
  unfold wpX_push
  refine ⟨vk, br_t e9 ?_⟩
  unfold wX_push_55
  exact ⟨vk, br_t e8 H⟩
/-- seek stands at k, whose left child l counts d: found -/
theorem zq_skH {post : Int32 → St2 → Prop} {f0 f1 f2 f3 f4 f5 f6 f7 : Int32} {a1 a2 a3 a4 a5 a6 a7 a8 a9 a10 a11 a12 a13 a14 a15 a16 a17 a18 a19 : Nat → Int32} {n k l d i : Nat} (hk : k < 43) (hl : l < 43) (hi : i < 43) (h9 : a9 k = nI 2) (h8 : a8 k = nI 0) (h1 : a1 k = nI l) (h4 : a4 l = nI d)
    (H : post (nI k) (f0, f1, f2, f3, f4, f5, f6, f7, a1, a2, a3, a4, a5, a6, a7, a8, a9, a10, a11, a12, a13, a14, a15, a16, a17, a18, a19)) : wX_seek_10 post (n + 1) (nI k) (nI d) (nI i) f0 f1 f2 f3 f4 f5 f6 f7 a1 a2 a3 a4 a5 a6 a7 a8 a9 a10 a11 a12 a13 a14 a15 a16 a17 a18 a19 := by
  have vk : vp_in (nI k) 43 := vp_in_nI hk (by decide)
  have e1 : a1 (nI k).toNatClampNeg = nI l := by
    rw [nI_clamp (show k < 2 ^ 31 by omega)]
    exact h1
  have v1 : vp_in (a1 (nI k).toNatClampNeg) 43 := by
    rw [e1]
    exact vp_in_nI hl (by decide)
  have e4 : a4 (a1 (nI k).toNatClampNeg).toNatClampNeg = nI d := by
    rw [e1, nI_clamp (show l < 2 ^ 31 by omega)]
    exact h4
  exact pk_le 43 i (fun z => absurd z (by omega)) (fun _ => zq_push hk h9 h8 ⟨vk, v1, nm_r e4 (br_t rfl H)⟩)
/-- seek stands at k, whose left child l counts e, less than d: it goes on to the right -/
theorem zq_skR {post : Int32 → St2 → Prop} {f0 f1 f2 f3 f4 f5 f6 f7 : Int32} {a1 a2 a3 a4 a5 a6 a7 a8 a9 a10 a11 a12 a13 a14 a15 a16 a17 a18 a19 : Nat → Int32} {n k l r d e i : Nat} (hk : k < 43) (hl : l < 43) (hi : i < 43) (hd : d < 100) (hde : e < d) (h9 : a9 k = nI 2) (h8 : a8 k = nI 0) (h1 : a1 k = nI l) (h2 : a2 k = nI r) (h4 : a4 l = nI e)
    (H : wX_seek_10 post n (nI r) (nI (d - e - 1)) (nI (i + 1)) f0 f1 f2 f3 f4 f5 f6 f7 a1 a2 a3 a4 a5 a6 a7 a8 a9 a10 a11 a12 a13 a14 a15 a16 a17 a18 a19) : wX_seek_10 post (n + 1) (nI k) (nI d) (nI i) f0 f1 f2 f3 f4 f5 f6 f7 a1 a2 a3 a4 a5 a6 a7 a8 a9 a10 a11 a12 a13 a14 a15 a16 a17 a18 a19 := by
  have vk : vp_in (nI k) 43 := vp_in_nI hk (by decide)
  have e1 : a1 (nI k).toNatClampNeg = nI l := by
    rw [nI_clamp (show k < 2 ^ 31 by omega)]
    exact h1
  have e2 : a2 (nI k).toNatClampNeg = nI r := by
    rw [nI_clamp (show k < 2 ^ 31 by omega)]
    exact h2
  have v1 : vp_in (a1 (nI k).toNatClampNeg) 43 := by
    rw [e1]
    exact vp_in_nI hl (by decide)
  have e4 : a4 (a1 (nI k).toNatClampNeg).toNatClampNeg = nI e := by
    rw [e1, nI_clamp (show l < 2 ^ 31 by omega)]
    exact h4
  have es : (nI d - nI e) - 1 = nI (d - e - 1) := by
    rw [pk_sub (by omega)]
    exact pk_sub (b := 1) (by omega)
  exact pk_le 43 i (fun z => absurd z (by omega)) (fun _ => zq_push hk h9 h8 ⟨vk, v1, nm_r e4 (pk_eq d e (fun z => absurd z (by omega)) (fun _ => pk_le e d (fun _ => nm_r es ⟨vk, nm_r e2 (nm_r (nI_1 i) H)⟩) (fun z => absurd z (by omega))))⟩)
/-- lift where nothing is to be done -/
theorem zq_lift {post : St2 → Prop} {f0 f1 f2 f3 f4 f5 f6 f7 : Int32} {a1 a2 a3 a4 a5 a6 a7 a8 a9 a10 a11 a12 a13 a14 a15 a16 a17 a18 a19 : Nat → Int32} {k : Nat} {x2 : Int32} (hk : k < 43) (h3 : a3 k = x2) (H0 : x2 = 0 → post (f0, nI k, f2, f3, f4, f5, f6, f7, a1, a2, a3, a4, a5, a6, a7, a8, a9, a10, a11, a12, a13, a14, a15, a16, a17, a18, a19)) (H1 : ¬ x2 = 0 → post (f0, f1, f2, f3, f4, f5, f6, f7, a1, a2, a3, a4, a5, a6, a7, a8, a9, a10, a11, a12, a13, a14, a15, a16, a17, a18, a19)) : wpX_lift post (f0, f1, f2, f3, f4, f5, f6, f7, a1, a2, a3, a4, a5, a6, a7, a8, a9, a10, a11, a12, a13, a14, a15, a16, a17, a18, a19) (nI k) x2 := by
  have vk : vp_in (nI k) 43 := vp_in_nI hk (by decide)
  have e3 : a3 (nI k).toNatClampNeg = x2 := by
    rw [nI_clamp (show k < 2 ^ 31 by omega)]
    exact h3
  unfold wpX_lift
  refine ⟨1, ?_⟩
  exact pk_le 43 0 (fun z => absurd z (by decide)) (fun _ => ⟨vk, nm_r e3 (br_t rfl (br_c H0 H1))⟩)
/-- isolate (0, d) over the small tree: the state stays, the answer is t -/
theorem zq_iso {post : Int32 → St2 → Prop} {f0 f2 f3 f4 f5 f6 f7 : Int32} {a1 a2 a3 a4 a5 a6 a7 a8 a9 a10 a11 a12 a13 a14 a15 a16 a17 a18 a19 : Nat → Int32} {t d : Nat} (ht : t < 43) (hd : d < 40) (h : zq_Q t d a1 a2 a3 a4 a8 a9)
    (H : post (nI t) (f0, nI 1, f2, f3, f4, f5, f6, f7, a1, a2, a3, a4, a5, a6, a7, a8, a9, a10, a11, a12, a13, a14, a15, a16, a17, a18, a19)) : wpX_isolate post (f0, nI 1, f2, f3, f4, f5, f6, f7, a1, a2, a3, a4, a5, a6, a7, a8, a9, a10, a11, a12, a13, a14, a15, a16, a17, a18, a19) (nI 0) (nI d) := by
  obtain ⟨h11, h12, h21, h31, h32, h40, h4t, h81, h82, h91, h92⟩ := h
  unfold wpX_isolate
  refine Exists.intro 1 (zq_skH (k := 1) (l := 0) (d := 0) (i := 0) (by decide) (by decide) (by decide) h91 h81 h11 h40 ?_)
  refine zq_lift (k := 1) (x2 := 0) (by decide) h31 (fun _ => ?_) (fun z => absurd rfl z)
  refine Exists.intro 2 ?_
  rw [nI_1]
  refine zq_skR (k := 1) (l := 0) (r := 2) (d := d + 1) (e := 0) (i := 0) (by decide) (by decide) (by decide) (by omega) (by omega) h91 h81 h11 h21 h40 ?_
  refine zq_skH (k := 2) (l := t) (d := d) (i := 1) (by decide) ht (by decide) h92 h82 h12 h4t ?_
  refine zq_lift (k := 2) (x2 := nI 1) (by decide) h32 (fun z => absurd z (by decide)) (fun _ => ?_)
  refine ⟨vp_in_nI (by decide) (by decide), ?_⟩
  have e12 : a1 (nI 2).toNatClampNeg = nI t := h12
  rw [e12]
  exact H
end
section
theorem zq_hang {post : St2 → Prop} {f0 f2 f3 f4 f5 f6 f7 : Int32} {a1 a2 a3 a4 a5 a6 a7 a8 a9 a10 a11 a12 a13 a14 a15 a16 a17 a18 a19 : Nat → Int32} (h11 : a1 1 = nI 0) (h21 : a2 1 = nI 2) (h22 : a2 2 = nI 0)
    (H : ∀ x y z v w b10 b11 b12 b13 b14 b15, post (f0, nI 1, f2, f3, f4, x, y, z, upd a1 2 (nI 3), a2, upd a3 3 (nI 2), upd (upd a4 2 v) 1 w, a5, a6, a7, a8, a9, b10, b11, b12, b13, b14, b15, a16, a17, a18, a19)) :
    wpX_hang post (f0, nI 1, f2, f3, f4, f5, f6, f7, a1, a2, a3, a4, a5, a6, a7, a8, a9, a10, a11, a12, a13, a14, a15, a16, a17, a18, a19) (nI 3) := by
  have e21 : a2 (nI 1).toNatClampNeg = nI 2 := h21
  have c2 : (nI 2).toNatClampNeg = 2 := nI_clamp (by decide)
  have c3 : (nI 3).toNatClampNeg = 3 := nI_clamp (by decide)
  have ea1 : upd a1 (nI 2).toNatClampNeg (nI 3) = upd a1 2 (nI 3) := by rw [c2]
  have ea3 : upd a3 (nI 3).toNatClampNeg (nI 2) = upd a3 3 (nI 2) := by rw [c3]
  have v1 : vp_in (nI 1) 43 := vp_in_nI (by decide) (by decide)
  have v2 : vp_in (nI 2) 43 := vp_in_nI (by decide) (by decide)
  have v3 : vp_in (nI 3) 43 := vp_in_nI (by decide) (by decide)
  unfold wpX_hang
  refine ⟨v1, nm_r e21 ⟨v2, nm_r ea1 (br_f (by decide) ⟨v3, nm_r ea3 ?_⟩)⟩⟩
  unfold wX_hang_28
  refine zq_pull (k := 2) (l := 3) (r := 0) (by decide) (by decide) (by decide) pk_us h22 (fun x y z b10 b11 b12 b13 b14 b15 => ?_)
  refine zq_pull (k := 1) (l := 0) (r := 2) (by decide) (by decide) (by decide) ((pk_un (by decide)).trans h11) h21 (fun x y z b10 b11 b12 b13 b14 b15 => ?_)
  exact H _ _ _ _ _ _ _ _ _ _ _
theorem zq_place {post : St2 → Prop} {f2 f3 f4 f5 f6 f7 p1 p2 : Int32} {a1 a2 a3 a4 a5 a6 a7 a8 a9 a10 a11 a12 a13 a14 a15 a16 a17 a18 a19 : Nat → Int32} (h : zq_Q 0 0 a1 a2 a3 a4 a8 a9) (h22 : a2 2 = nI 0) (h16 : a16 39 = nI 3)
    (H : ∀ x y z b1 b2 b3 b4 b5 b6 b7 b8 b9 b10 b11 b12 b13 b14 b15, zq_Q 3 1 b1 b2 b3 b4 b8 b9 → b5 3 = p1 → b6 3 = p2 → b7 3 = 0 → post (nI 39, nI 1, f2 + 1, f3, f4, x, y, z, b1, b2, b3, b4, b5, b6, b7, b8, b9, b10, b11, b12, b13, b14, b15, a16, a17, a18, a19)) :
    wpX_place post (nI 40, nI 1, f2, f3, f4, f5, f6, f7, a1, a2, a3, a4, a5, a6, a7, a8, a9, a10, a11, a12, a13, a14, a15, a16, a17, a18, a19) (nI 0) p1 p2 0 := by
  obtain ⟨h11, h12, h21, h31, h32, h40, h4t, h81, h82, h91, h92⟩ := h
  have e16 : a16 (nI 39).toNatClampNeg = nI 3 := by
    rw [nI_clamp (by decide)]
    exact h16
  unfold wpX_place
  refine nm_r (nI_pred 39) ⟨vp_in_nI (by decide) (by decide), nm_r e16 ?_⟩
  refine zq_setUp (k := 3) (by decide) (fun x y z b10 b11 b12 b13 b14 b15 => ?_)
  have g11 : upd a1 3 0 1 = nI 0 := (pk_un (by decide)).trans h11
  have g12 : upd a1 3 0 2 = nI 0 := (pk_un (by decide)).trans h12
  have g21 : upd a2 3 0 1 = nI 2 := (pk_un (by decide)).trans h21
  have g22 : upd a2 3 0 2 = nI 0 := (pk_un (by decide)).trans h22
  have g31 : upd a3 3 0 1 = nI 0 := (pk_un (by decide)).trans h31
  have g32 : upd a3 3 0 2 = nI 1 := (pk_un (by decide)).trans h32
  have g40 : upd a4 3 ((a4 0 + a4 0) + 1) 0 = nI 0 := (pk_un (by decide)).trans h40
  have g43 : upd a4 3 ((a4 0 + a4 0) + 1) 3 = nI 1 := by
    rw [pk_us, h40]
    decide
  have g81 : upd a8 3 0 1 = nI 0 := (pk_un (by decide)).trans h81
  have g82 : upd a8 3 0 2 = nI 0 := (pk_un (by decide)).trans h82
  have g91 : upd a9 3 2 1 = nI 2 := (pk_un (by decide)).trans h91
  have g92 : upd a9 3 2 2 = nI 2 := (pk_un (by decide)).trans h92
  refine zq_iso (t := 0) (d := 0) (by decide) (by decide) ⟨g11, g12, g21, g31, g32, g40, g40, g81, g82, g91, g92⟩ ?_
  refine zq_hang g11 g21 g22 (fun x y z v w c10 c11 c12 c13 c14 c15 => nm_e ?_)
  refine H _ _ _ _ _ _ _ _ _ _ _ _ _ _ _ _ _ _ ⟨?_, ?_, ?_, ?_, ?_, ?_, ?_, ?_, ?_, ?_, ?_⟩ pk_us pk_us ?_
  · exact (pk_un (by decide)).trans g11
  · exact pk_us
  · exact g21
  · exact (pk_un (by decide)).trans g31
  · exact (pk_un (by decide)).trans g32
  · exact (pk_un (by decide)).trans ((pk_un (by decide)).trans g40)
  · exact (pk_un (by decide)).trans ((pk_un (by decide)).trans g43)
  · exact g81
  · exact g82
  · exact g91
  · exact g92
  · rw [pk_us]
    rfl
theorem zq_room (p1 : Int32) : ¬ (0 : Int32) = zq_cv p1 2 40 := by
  unfold zq_cv
  intro h
  by_cases h1 : (2 : Int32) ≤ p1
  · rw [if_pos h1] at h
    by_cases h2 : p1 ≤ (40 : Int32)
    · rw [if_pos h2] at h
      rw [← h] at h1
      exact absurd h1 (by decide)
    · rw [if_neg h2] at h
      exact absurd h (by decide)
  · rw [if_neg h1] at h
    exact absurd h (by decide)
theorem zq_le0 {p : Int32} (h : ¬ p < 0) (h' : p ≤ 0) : p = 0 := by
  rw [Int32.lt_iff_toInt_lt] at h
  rw [Int32.le_iff_toInt_le] at h'
  have e0 : (0 : Int32).toInt = 0 := by decide
  rw [e0] at h h'
  apply Int32.toInt_inj.mp
  rw [e0]
  omega
theorem zq_ins2 {post : Int32 → St2 → Prop} {f0 f1 f3 f4 f5 f6 f7 p0 p1 p2 : Int32} {a1 a2 a3 a4 a5 a6 a7 a8 a9 a10 a11 a12 a13 a14 a15 a16 a17 a18 a19 : Nat → Int32} (hr : ¬ (0 : Int32) = f4) (h0 : ¬ p0 = 0)
    (H : post (-2) (f0, f1, 0, f3, f4, f5, f6, f7, a1, a2, a3, a4, a5, a6, a7, a8, a9, a10, a11, a12, a13, a14, a15, a16, a17, a18, a19)) : wpX_insert post (f0, f1, 0, f3, f4, f5, f6, f7, a1, a2, a3, a4, a5, a6, a7, a8, a9, a10, a11, a12, a13, a14, a15, a16, a17, a18, a19) p0 p1 p2 := by
  unfold wpX_insert
  exact br_f hr (br_c (fun _ => H) (fun h1 => br_c (fun h2 => absurd (zq_le0 h1 h2) h0) (fun _ => H)))
theorem zq_ins3 {post : Int32 → St2 → Prop} {f0 f1 f3 f4 f5 f6 f7 p1 p2 : Int32} {a1 a2 a3 a4 a5 a6 a7 a8 a9 a10 a11 a12 a13 a14 a15 a16 a17 a18 a19 : Nat → Int32} (hr : ¬ (0 : Int32) = f4) (h1 : ¬ (¬ p1 < 0 ∧ p1 ≤ 3))
    (H : post (-3) (f0, f1, 0, f3, f4, f5, f6, f7, a1, a2, a3, a4, a5, a6, a7, a8, a9, a10, a11, a12, a13, a14, a15, a16, a17, a18, a19)) : wpX_insert post (f0, f1, 0, f3, f4, f5, f6, f7, a1, a2, a3, a4, a5, a6, a7, a8, a9, a10, a11, a12, a13, a14, a15, a16, a17, a18, a19) 0 p1 p2 := by
  unfold wpX_insert
  exact br_f hr (br_f (by decide) (br_t (by decide) (br_c (fun _ => H) (fun g => br_c (fun g' => absurd ⟨g, g'⟩ h1) (fun _ => H)))))
theorem zq_ins4 {post : Int32 → St2 → Prop} {f0 f1 f3 f4 f5 f6 f7 p1 p2 z0 : Int32} {a1 a2 a3 a4 a5 a6 a7 a8 a9 a10 a11 a12 a13 a14 a15 a16 a17 a18 a19 : Nat → Int32} (hr : ¬ (0 : Int32) = f4) (h1 : ¬ p1 < 0) (h1' : p1 ≤ 3)
    (hz : p1 = 0 → z0 = -f3) (hz' : ¬ p1 = 0 → z0 = 0) (h2 : ¬ (¬ p2 < z0 ∧ p2 ≤ f3))
    (H : post (-4) (f0, f1, 0, f3, f4, f5, f6, f7, a1, a2, a3, a4, a5, a6, a7, a8, a9, a10, a11, a12, a13, a14, a15, a16, a17, a18, a19)) : wpX_insert post (f0, f1, 0, f3, f4, f5, f6, f7, a1, a2, a3, a4, a5, a6, a7, a8, a9, a10, a11, a12, a13, a14, a15, a16, a17, a18, a19) 0 p1 p2 := by
  have key : wX_insert_53 post 0 p1 p2 z0 f0 f1 0 f3 f4 f5 f6 f7 a1 a2 a3 a4 a5 a6 a7 a8 a9 a10 a11 a12 a13 a14 a15 a16 a17 a18 a19 := by
    unfold wX_insert_53
    exact br_c (fun _ => H) (fun g => br_c (fun g' => absurd ⟨g, g'⟩ h2) (fun _ => H))
  unfold wpX_insert
  refine br_f hr (br_f (by decide) (br_t (by decide) (br_f h1 (br_t h1' (br_c (fun e => ?_) (fun e => ?_))))))
  · rw [hz e] at key
    exact key
  · rw [hz' e] at key
    exact key
theorem zq_ins1 {post : Int32 → St2 → Prop} {f3 f4 f5 f6 f7 p1 p2 z0 : Int32} {a1 a2 a3 a4 a5 a6 a7 a8 a9 a10 a11 a12 a13 a14 a15 a16 a17 a18 a19 : Nat → Int32} (hr : ¬ (0 : Int32) = f4) (h1 : ¬ p1 < 0) (h1' : p1 ≤ 3)
    (hz : p1 = 0 → z0 = -f3) (hz' : ¬ p1 = 0 → z0 = 0) (h2 : ¬ p2 < z0) (h2' : p2 ≤ f3) (h : zq_Q 0 0 a1 a2 a3 a4 a8 a9) (h22 : a2 2 = nI 0) (h16 : a16 39 = nI 3)
    (H : ∀ x y z b1 b2 b3 b4 b5 b6 b7 b8 b9 b10 b11 b12 b13 b14 b15, zq_Q 3 1 b1 b2 b3 b4 b8 b9 → b5 3 = p1 → b6 3 = p2 → b7 3 = 0 → post (nI 1) (nI 39, nI 1, nI 1, f3, f4, x, y, z, b1, b2, b3, b4, b5, b6, b7, b8, b9, b10, b11, b12, b13, b14, b15, a16, a17, a18, a19)) :
    wpX_insert post (nI 40, nI 1, 0, f3, f4, f5, f6, f7, a1, a2, a3, a4, a5, a6, a7, a8, a9, a10, a11, a12, a13, a14, a15, a16, a17, a18, a19) 0 p1 p2 := by
  have key : wX_insert_53 post 0 p1 p2 z0 (nI 40) (nI 1) 0 f3 f4 f5 f6 f7 a1 a2 a3 a4 a5 a6 a7 a8 a9 a10 a11 a12 a13 a14 a15 a16 a17 a18 a19 := by
    unfold wX_insert_53
    refine br_f h2 (br_t h2' ?_)
    refine zq_place h h22 h16 (fun x y z b1 b2 b3 b4 b5 b6 b7 b8 b9 b10 b11 b12 b13 b14 b15 hq g5 g6 g7 => ?_)
    exact H x y z b1 b2 b3 b4 b5 b6 b7 b8 b9 b10 b11 b12 b13 b14 b15 hq g5 g6 g7
  unfold wpX_insert
  refine br_f hr (br_f (by decide) (br_t (by decide) (br_f h1 (br_t h1' (br_c (fun e => ?_) (fun e => ?_))))))
  · rw [hz e] at key
    exact key
  · rw [hz' e] at key
    exact key
end
section
/-- the small tree of one entry: its kind, its amount, not void -/
def zq_R (k m : Int32) (a1 a2 a3 a4 a5 a6 a7 a8 a9 : Nat → Int32) : Prop := zq_Q 3 1 a1 a2 a3 a4 a8 a9 ∧ a5 3 = k ∧ a6 3 = m ∧ a7 3 = 0
theorem zq_kind1 {post : Int32 → St2 → Prop} {f0 f3 f4 f5 f6 f7 k m : Int32} {a1 a2 a3 a4 a5 a6 a7 a8 a9 a10 a11 a12 a13 a14 a15 a16 a17 a18 a19 : Nat → Int32} (h : zq_R k m a1 a2 a3 a4 a5 a6 a7 a8 a9)
    (H : post k (f0, nI 1, nI 1, f3, f4, f5, f6, f7, a1, a2, a3, a4, a5, a6, a7, a8, a9, a10, a11, a12, a13, a14, a15, a16, a17, a18, a19)) : wpX_kindAt post (f0, nI 1, nI 1, f3, f4, f5, f6, f7, a1, a2, a3, a4, a5, a6, a7, a8, a9, a10, a11, a12, a13, a14, a15, a16, a17, a18, a19) 0 := by
  obtain ⟨hq, h5, h6, h7⟩ := h
  have e : a5 (nI 3).toNatClampNeg = k := by
    rw [nI_clamp (by decide)]
    exact h5
  unfold wpX_kindAt
  refine br_f (by decide) (br_t (by decide) ?_)
  refine zq_iso (t := 3) (d := 1) (by decide) (by decide) hq ⟨vp_in_nI (by decide) (by decide), ?_⟩
  rw [e]
  exact H
theorem zq_amount1 {post : Int32 → St2 → Prop} {f0 f3 f4 f5 f6 f7 k m : Int32} {a1 a2 a3 a4 a5 a6 a7 a8 a9 a10 a11 a12 a13 a14 a15 a16 a17 a18 a19 : Nat → Int32} (h : zq_R k m a1 a2 a3 a4 a5 a6 a7 a8 a9)
    (H : post m (f0, nI 1, nI 1, f3, f4, f5, f6, f7, a1, a2, a3, a4, a5, a6, a7, a8, a9, a10, a11, a12, a13, a14, a15, a16, a17, a18, a19)) : wpX_amountAt post (f0, nI 1, nI 1, f3, f4, f5, f6, f7, a1, a2, a3, a4, a5, a6, a7, a8, a9, a10, a11, a12, a13, a14, a15, a16, a17, a18, a19) 0 := by
  obtain ⟨hq, h5, h6, h7⟩ := h
  have e : a6 (nI 3).toNatClampNeg = m := by
    rw [nI_clamp (by decide)]
    exact h6
  unfold wpX_amountAt
  refine br_f (by decide) (br_t (by decide) ?_)
  refine zq_iso (t := 3) (d := 1) (by decide) (by decide) hq ⟨vp_in_nI (by decide) (by decide), ?_⟩
  rw [e]
  exact H
theorem zq_void1 {post : Int32 → St2 → Prop} {f0 f3 f4 f5 f6 f7 k m : Int32} {a1 a2 a3 a4 a5 a6 a7 a8 a9 a10 a11 a12 a13 a14 a15 a16 a17 a18 a19 : Nat → Int32} (h : zq_R k m a1 a2 a3 a4 a5 a6 a7 a8 a9)
    (H : post 0 (f0, nI 1, nI 1, f3, f4, f5, f6, f7, a1, a2, a3, a4, a5, a6, a7, a8, a9, a10, a11, a12, a13, a14, a15, a16, a17, a18, a19)) : wpX_voidAt post (f0, nI 1, nI 1, f3, f4, f5, f6, f7, a1, a2, a3, a4, a5, a6, a7, a8, a9, a10, a11, a12, a13, a14, a15, a16, a17, a18, a19) 0 := by
  obtain ⟨hq, h5, h6, h7⟩ := h
  have e : a7 (nI 3).toNatClampNeg = 0 := by
    rw [nI_clamp (by decide)]
    exact h7
  unfold wpX_voidAt
  refine br_f (by decide) (br_t (by decide) ?_)
  exact zq_iso (t := 3) (d := 1) (by decide) (by decide) hq ⟨vp_in_nI (by decide) (by decide), br_t e H⟩
theorem zq_kind0 {post : Int32 → St2 → Prop} {f0 f1 f3 f4 f5 f6 f7 : Int32} {a1 a2 a3 a4 a5 a6 a7 a8 a9 a10 a11 a12 a13 a14 a15 a16 a17 a18 a19 : Nat → Int32}
    (H : post (-1) (f0, f1, 0, f3, f4, f5, f6, f7, a1, a2, a3, a4, a5, a6, a7, a8, a9, a10, a11, a12, a13, a14, a15, a16, a17, a18, a19)) : wpX_kindAt post (f0, f1, 0, f3, f4, f5, f6, f7, a1, a2, a3, a4, a5, a6, a7, a8, a9, a10, a11, a12, a13, a14, a15, a16, a17, a18, a19) 0 := by
  unfold wpX_kindAt
  exact br_f (by decide) (br_f (by decide) H)
theorem zq_amount0 {post : Int32 → St2 → Prop} {f0 f1 f3 f4 f5 f6 f7 : Int32} {a1 a2 a3 a4 a5 a6 a7 a8 a9 a10 a11 a12 a13 a14 a15 a16 a17 a18 a19 : Nat → Int32}
    (H : post (-1000) (f0, f1, 0, f3, f4, f5, f6, f7, a1, a2, a3, a4, a5, a6, a7, a8, a9, a10, a11, a12, a13, a14, a15, a16, a17, a18, a19)) : wpX_amountAt post (f0, f1, 0, f3, f4, f5, f6, f7, a1, a2, a3, a4, a5, a6, a7, a8, a9, a10, a11, a12, a13, a14, a15, a16, a17, a18, a19) 0 := by
  unfold wpX_amountAt
  exact br_f (by decide) (br_f (by decide) H)
theorem zq_void0 {post : Int32 → St2 → Prop} {f0 f1 f3 f4 f5 f6 f7 : Int32} {a1 a2 a3 a4 a5 a6 a7 a8 a9 a10 a11 a12 a13 a14 a15 a16 a17 a18 a19 : Nat → Int32}
    (H : post (-1) (f0, f1, 0, f3, f4, f5, f6, f7, a1, a2, a3, a4, a5, a6, a7, a8, a9, a10, a11, a12, a13, a14, a15, a16, a17, a18, a19)) : wpX_voidAt post (f0, f1, 0, f3, f4, f5, f6, f7, a1, a2, a3, a4, a5, a6, a7, a8, a9, a10, a11, a12, a13, a14, a15, a16, a17, a18, a19) 0 := by
  unfold wpX_voidAt
  exact br_f (by decide) (br_f (by decide) H)
/-- the rest of the law where nothing was inserted -/
theorem zq_134F {post : Int32 → St0 → Prop} {mc ms kc ks : Nat} {x3 x4 : Int32} {f0 f1 f3 f4 f5 f6 f7 : Int32} {a1 a2 a3 a4 a5 a6 a7 a8 a9 a10 a11 a12 a13 a14 a15 a16 a17 a18 a19 : Nat → Int32} (H : post 1 ()) :
    wL_lawOf_134 post mc ms x3 x4 0 kc ks f0 f1 0 f3 f4 f5 f6 f7 a1 a2 a3 a4 a5 a6 a7 a8 a9 a10 a11 a12 a13 a14 a15 a16 a17 a18 a19 := by
  unfold wL_lawOf_134 wpX_size
  refine br_t rfl ?_
  unfold wL_lawOf_151
  refine br_t rfl (zq_kind0 (br_t rfl ?_))
  unfold wL_lawOf_172
  refine br_t rfl (zq_amount0 (br_t rfl ?_))
  unfold wL_lawOf_196
  refine br_t rfl (zq_void0 (br_t rfl ?_))
  unfold wL_lawOf_217
  exact br_t rfl H
/-- the rest of the law where the entry stands -/
theorem zq_134T {post : Int32 → St0 → Prop} {mc ms kc ks : Nat} {x3 x4 : Int32} {f0 f3 f4 f5 f6 f7 : Int32} {a1 a2 a3 a4 a5 a6 a7 a8 a9 a10 a11 a12 a13 a14 a15 a16 a17 a18 a19 : Nat → Int32} (h : zq_R x3 x4 a1 a2 a3 a4 a5 a6 a7 a8 a9) (H : post 1 ()) :
    wL_lawOf_134 post mc ms x3 x4 1 kc ks f0 (nI 1) (nI 1) f3 f4 f5 f6 f7 a1 a2 a3 a4 a5 a6 a7 a8 a9 a10 a11 a12 a13 a14 a15 a16 a17 a18 a19 := by
  unfold wL_lawOf_134 wpX_size
  refine br_f (by decide) ?_
  unfold wL_lawOf_151
  refine br_t rfl (zq_kind1 h (br_f (by decide) ?_))
  unfold wL_lawOf_172
  refine br_t rfl (zq_amount1 h (br_f (by decide) ?_))
  unfold wL_lawOf_196
  refine br_t rfl (zq_void1 h (br_f (by decide) ?_))
  unfold wL_lawOf_217
  exact br_t rfl H
theorem zq_57 {post : Int32 → St0 → Prop} {mc ms kc ks : Nat} {x2 x3 x4 z0 : Int32} {f3 f4 f5 f6 f7 : Int32} {a1 a2 a3 a4 a5 a6 a7 a8 a9 a10 a11 a12 a13 a14 a15 a16 a17 a18 a19 : Nat → Int32}
    (hz : x3 = 0 → z0 = -f3) (hz' : ¬ x3 = 0 → z0 = 0) (hr : ¬ (0 : Int32) = f4) (h : zq_Q 0 0 a1 a2 a3 a4 a8 a9) (h22 : a2 2 = nI 0) (h16 : a16 39 = nI 3) (H : post 1 ()) :
    wL_lawOf_57 post mc ms x2 x3 x4 f3 z0 kc ks (nI 40) (nI 1) 0 f3 f4 f5 f6 f7 a1 a2 a3 a4 a5 a6 a7 a8 a9 a10 a11 a12 a13 a14 a15 a16 a17 a18 a19 := by
  unfold wL_lawOf_57
  refine br_c (fun e2 => ?_) (fun e2 => ?_)
  · subst e2
    refine br_c (fun h3 => ?_) (fun h3 => br_c (fun h3' => br_c (fun h4 => ?_) (fun h4 => br_c (fun h5 => ?_) (fun h5 => ?_))) (fun h3' => ?_))
    · unfold wL_lawOf_82 wL_lawOf_107
      exact zq_ins3 hr (fun g => g.1 h3) (br_t rfl (br_f (by decide) (zq_134F H)))
    · unfold wL_lawOf_103 wL_lawOf_107
      exact zq_ins4 hr h3 h3' hz hz' (fun g => g.1 h4) (br_t rfl (br_f (by decide) (zq_134F H)))
    · unfold wL_lawOf_107
      exact zq_ins1 hr h3 h3' hz hz' h4 h5 h h22 h16 (fun x y z b1 b2 b3 b4 b5 b6 b7 b8 b9 b10 b11 b12 b13 b14 b15 hq g5 g6 g7 => br_t rfl (br_t rfl (zq_134T ⟨hq, g5, g6, g7⟩ H)))
    · unfold wL_lawOf_103 wL_lawOf_107
      exact zq_ins4 hr h3 h3' hz hz' (fun g => h5 g.2) (br_t rfl (br_f (by decide) (zq_134F H)))
    · unfold wL_lawOf_82 wL_lawOf_107
      exact zq_ins3 hr (fun g => h3' g.2) (br_t rfl (br_f (by decide) (zq_134F H)))
  · unfold wL_lawOf_107
    exact zq_ins2 hr e2 (br_t rfl (br_f (by decide) (zq_134F H)))
theorem zq_34 {post : Int32 → St0 → Prop} {mc ms kc ks : Nat} {x2 x3 x4 x6 : Int32} {f3 f4 f5 f6 f7 : Int32} {a1 a2 a3 a4 a5 a6 a7 a8 a9 a10 a11 a12 a13 a14 a15 a16 a17 a18 a19 : Nat → Int32}
    (he : f3 = x6) (hr : ¬ (0 : Int32) = f4) (h : zq_Q 0 0 a1 a2 a3 a4 a8 a9) (h22 : a2 2 = nI 0) (h16 : a16 39 = nI 3) (H : post 1 ()) :
    wL_lawOf_34 post mc ms x2 x3 x4 x6 kc ks (nI 40) (nI 1) 0 f3 f4 f5 f6 f7 a1 a2 a3 a4 a5 a6 a7 a8 a9 a10 a11 a12 a13 a14 a15 a16 a17 a18 a19 := by
  subst he
  unfold wL_lawOf_34 wpX_cap
  exact br_t rfl (br_c (fun e => zq_57 (fun _ => rfl) (fun z => absurd e z) hr h h22 h16 H) (fun e => zq_57 (fun z => absurd z e) (fun _ => rfl) hr h h22 h16 H))
theorem zq_lawOf {post : Int32 → St0 → Prop} {p0 p1 p2 p3 p4 : Int32} (H : post 1 ()) : wpL_lawOf post 610 9760 () p0 p1 p2 p3 p4 := by
  unfold wpL_lawOf
  refine ⟨by decide, by decide, 19, 1195, by decide, by decide, ?_⟩
  refine zq_init (fun x y z b1 b2 b3 b4 b5 b6 b7 b8 b9 b10 b11 b12 b13 b14 b15 b16 b17 b18 b19 hq h22 h16 => ?_)
  refine br_c (fun h4 => ?_) (fun h4 => ?_)
  · unfold wL_lawOf_23
    refine br_c (fun h6 => zq_34 ?_ (zq_room p1) hq h22 h16 H) (fun h6 => zq_34 ?_ (zq_room p1) hq h22 h16 H)
    · unfold zq_cv
      rw [if_pos h4, if_pos h6]
    · unfold zq_cv
      rw [if_pos h4, if_neg h6]
  · unfold wL_lawOf_23
    refine br_t (by decide) (zq_34 ?_ (zq_room p1) hq h22 h16 H)
    unfold zq_cv
    rw [if_neg h4]
theorem zq_cell {post : Int32 → Prop} {L : Nat} {xs : Nat → Int32} {k : Nat} (hL : L ≤ 5) (hk : k < 5) (H : ∀ r, post r) : wpL_cellAt post L xs () (nI k) := by
  unfold wpL_cellAt
  exact pk_le L k (fun _ => H _) (fun z => ⟨vp_in_nI z (by omega), H _⟩)
theorem i_vc (xs : Nat → Int32) (L : Nat) (hL : L ≤ 5) : wpL_law (fun r => r = 1) L xs := by
  unfold wpL_law
  exact zq_cell (k := 0) hL (by decide) (fun r0 => zq_cell (k := 1) hL (by decide) (fun r1 => zq_cell (k := 2) hL (by decide) (fun r2 => zq_cell (k := 3) hL (by decide) (fun r3 => zq_cell (k := 4) hL (by decide) (fun r4 => ⟨610, 9760, by decide, by decide, zq_lawOf rfl⟩)))))
end
