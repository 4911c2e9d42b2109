section
/-! ===== the law of one joint: what a joint of sort s makes of its right child, its left child a leaf of value l ===== -/
def tc_op (s l : Int32) : Int32 := if s = 1 then l else if s = 2 then -1 else 1
/-- what calculate answers -/
def tc_calc (s x y : Int32) : Int32 := if s = 0 then x + y else if s = 1 then x * y else if s = 2 then x - y else y - x
theorem tc_kindOf {post : Int32 → Prop} {f1 f2 f3 f4 f5 f6 f7 f8 f9 : Int32} {a1 a2 a3 a4 a5 a6 a7 a8 a9 a10 a11 a12 a13 a14 a15 a16 a17 a18 a19 a20 a21 a22 a23 a24 : Nat → Int32} {p : Int32} (k : Nat) (hk : k < 31) (h : post (a1 k)) (hp : p = nI k := by rfl) : wpX_kindOf post (f1, f2, f3, f4, f5, f6, f7, f8, f9, a1, a2, a3, a4, a5, a6, a7, a8, a9, a10, a11, a12, a13, a14, a15, a16, a17, a18, a19, a20, a21, a22, a23, a24) p := by
  subst hp
  refine br_f (nI_pos (by omega)) (br_t (nI_le (b := 30) (by omega) (by decide)) ⟨vp_in_nI hk (by decide), ?_⟩)
  rw [nI_clamp (by omega)]
  exact h
theorem tc_calculate {post : Int32 → Prop} {u : St0} {s x y : Int32} (h : post (tc_calc s x y)) : wpX_calculate post u s x y := by
  unfold tc_calc at h
  refine br_c (fun z => ?_) (fun z => ?_)
  · rw [if_pos z] at h
    exact h
  · rw [if_neg z] at h
    refine br_c (fun z1 => ?_) (fun z1 => ?_)
    · rw [if_pos z1] at h
      exact h
    · rw [if_neg z1] at h
      refine br_c (fun z2 => ?_) (fun z2 => ?_)
      · rw [if_pos z2] at h
        exact h
      · rw [if_neg z2] at h
        exact h
theorem tc_makeLeaf {post : St2 → Prop} {f1 f2 f3 f4 f5 f6 f7 f8 f9 : Int32} {a1 a2 a3 a4 a5 a6 a7 a8 a9 a10 a11 a12 a13 a14 a15 a16 a17 a18 a19 a20 a21 a22 a23 a24 : Nat → Int32} {p v : Int32} (k : Nat) (hk : k < 31) (h : post (f1, f2, f3, f4, f5, f6, f7, f8, f9, (upd a1 k 1), a2, (upd a3 k v), (upd a4 k (-1)), (upd a5 k (-1)), a6, a7, a8, a9, a10, a11, a12, a13, a14, a15, a16, a17, a18, a19, a20, a21, a22, a23, a24)) (hp : p = nI k := by rfl) : wpX_makeLeaf post (f1, f2, f3, f4, f5, f6, f7, f8, f9, a1, a2, a3, a4, a5, a6, a7, a8, a9, a10, a11, a12, a13, a14, a15, a16, a17, a18, a19, a20, a21, a22, a23, a24) p v := by
  have e : p.toNatClampNeg = k := by
    rw [hp]
    exact nI_clamp (by omega)
  have i : vp_in p 31 := by
    rw [hp]
    exact vp_in_nI hk (by decide)
  refine ⟨i, nm_r (by rw [e]) ⟨i, nm_r (by rw [e]) ⟨i, nm_r (by rw [e]) ⟨i, nm_r (by rw [e]) h⟩⟩⟩⟩
/-! ===== fixLeaf ===== -/
theorem tc_f116 {post : St2 → Prop} {f1 f2 f3 f4 f5 f6 f7 f8 f9 : Int32} {a1 a2 a3 a4 a5 a6 a7 a8 a9 a10 a11 a12 a13 a14 a15 a16 a17 a18 a19 a20 a21 a22 a23 a24 : Nat → Int32} {x3 x4 x5 z0 : Int32} (H : ∀ w, (x3 = 0 → w = 0) → post (f1, f2, f3, f4, f5, f6, f7, z0, w, a1, a2, a3, a4, a5, a6, a7, a8, a9, a10, a11, a12, a13, a14, a15, a16, a17, a18, a19, a20, a21, a22, a23, a24)) : wX_fixLeaf_116 post x3 x4 x5 z0 f1 f2 f3 f4 f5 f6 f7 f8 f9 a1 a2 a3 a4 a5 a6 a7 a8 a9 a10 a11 a12 a13 a14 a15 a16 a17 a18 a19 a20 a21 a22 a23 a24 :=
  br_c (fun _ => H _ (fun _ => rfl)) (fun _ => br_c (fun _ => H _ id) (fun _ => br_c (fun _ => nm_e (H _ (fun h => by rw [h]; rfl))) (fun _ => H _ id)))
theorem tc_f101 {post : St2 → Prop} {f1 f2 f3 f4 f5 f6 f7 f8 f9 : Int32} {a1 a2 a3 a4 a5 a6 a7 a8 a9 a10 a11 a12 a13 a14 a15 a16 a17 a18 a19 a20 a21 a22 a23 a24 : Nat → Int32} {x3 x4 x5 z0 : Int32} (H : ∀ v w, (x3 = 0 → v = 0 ∧ w = 0) → post (f1, f2, f3, f4, f5, f6, z0, v, w, a1, a2, a3, a4, a5, a6, a7, a8, a9, a10, a11, a12, a13, a14, a15, a16, a17, a18, a19, a20, a21, a22, a23, a24)) : wX_fixLeaf_101 post x3 x4 x5 z0 f1 f2 f3 f4 f5 f6 f7 f8 f9 a1 a2 a3 a4 a5 a6 a7 a8 a9 a10 a11 a12 a13 a14 a15 a16 a17 a18 a19 a20 a21 a22 a23 a24 :=
  br_c (fun _ => tc_f116 (fun w hw => H _ _ (fun h => ⟨h, hw h⟩))) (fun _ => tc_f116 (fun w hw => H _ _ (fun h => ⟨rfl, hw h⟩)))
theorem tc_f71 {post : St2 → Prop} {f1 f2 f3 f4 f5 f6 f7 f8 f9 : Int32} {a1 a2 a3 a4 a5 a6 a7 a8 a9 a10 a11 a12 a13 a14 a15 a16 a17 a18 a19 a20 a21 a22 a23 a24 : Nat → Int32} {x2 x3 x4 x5 z0 : Int32} (H : ∀ t v w, (x3 = 0 → v = 0 ∧ w = 0) → post (f1, f2, f3, f4, f5, z0, t, v, w, a1, a2, a3, a4, a5, a6, a7, a8, a9, a10, a11, a12, a13, a14, a15, a16, a17, a18, a19, a20, a21, a22, a23, a24)) : wX_fixLeaf_71 post x2 x3 x4 x5 z0 f1 f2 f3 f4 f5 f6 f7 f8 f9 a1 a2 a3 a4 a5 a6 a7 a8 a9 a10 a11 a12 a13 a14 a15 a16 a17 a18 a19 a20 a21 a22 a23 a24 :=
  br_c (fun _ => tc_f101 (H _)) (fun _ => br_c (fun _ => tc_f101 (H _)) (fun _ => br_c (fun _ => tc_f101 (H _)) (fun _ => tc_f101 (H _))))
theorem tc_f48 {post : St2 → Prop} {f1 f2 f3 f4 f5 f6 f7 f8 f9 : Int32} {a1 a2 a3 a4 a5 a6 a7 a8 a9 a10 a11 a12 a13 a14 a15 a16 a17 a18 a19 a20 a21 a22 a23 a24 : Nat → Int32} {x2 x3 x4 z0 y : Int32} (h1 : x4 = 1 → y = x2) (h2 : ¬ x4 = 1 → z0 = 0 → y = 1) (h3 : ¬ x4 = 1 → ¬ z0 = 0 → y = -1) (H : ∀ t v w, (x3 = 0 → v = 0 ∧ w = 0) → post (f1, f2, f3, f4, f5, y, t, v, w, a1, a2, a3, a4, a5, a6, a7, a8, a9, a10, a11, a12, a13, a14, a15, a16, a17, a18, a19, a20, a21, a22, a23, a24)) : wX_fixLeaf_48 post x2 x3 x4 z0 f1 f2 f3 f4 f5 f6 f7 f8 f9 a1 a2 a3 a4 a5 a6 a7 a8 a9 a10 a11 a12 a13 a14 a15 a16 a17 a18 a19 a20 a21 a22 a23 a24 := by
  refine br_c (fun h => ?_) (fun h => br_c (fun g => ?_) (fun g => ?_))
  · obtain rfl := h1 h
    exact tc_f71 H
  · obtain rfl := h2 h g
    exact tc_f71 H
  · obtain rfl := h3 h g
    exact tc_f71 H
theorem tc_f47 {post : St2 → Prop} {f1 f2 f3 f4 f5 f6 f7 f8 f9 : Int32} {a1 a2 a3 a4 a5 a6 a7 a8 a9 a10 a11 a12 a13 a14 a15 a16 a17 a18 a19 a20 a21 a22 a23 a24 : Nat → Int32} {x2 x3 x4 : Int32} (hs : ¬ x4 = 2) (H : ∀ t v w, (x3 = 0 → v = 0 ∧ w = 0) → post (f1, f2, f3, f4, f5, (tc_op x4 x2), t, v, w, a1, a2, a3, a4, a5, a6, a7, a8, a9, a10, a11, a12, a13, a14, a15, a16, a17, a18, a19, a20, a21, a22, a23, a24)) : wX_fixLeaf_47 post x2 x3 x4 f1 f2 f3 f4 f5 f6 f7 f8 f9 a1 a2 a3 a4 a5 a6 a7 a8 a9 a10 a11 a12 a13 a14 a15 a16 a17 a18 a19 a20 a21 a22 a23 a24 :=
  tc_f48 (fun h => by unfold tc_op; rw [if_pos h]) (fun h _ => by unfold tc_op; rw [if_neg h, if_neg hs]) (fun _ h => absurd rfl h) H
theorem tc_f43 {post : St2 → Prop} {f1 f2 f3 f4 f5 f6 f7 f8 f9 : Int32} {a1 a2 a3 a4 a5 a6 a7 a8 a9 a10 a11 a12 a13 a14 a15 a16 a17 a18 a19 a20 a21 a22 a23 a24 : Nat → Int32} {x2 x3 x4 : Int32} (hs : x4 = 2) (H : ∀ t v w, (x3 = 0 → v = 0 ∧ w = 0) → post (f1, f2, f3, f4, f5, (tc_op x4 x2), t, v, w, a1, a2, a3, a4, a5, a6, a7, a8, a9, a10, a11, a12, a13, a14, a15, a16, a17, a18, a19, a20, a21, a22, a23, a24)) : wX_fixLeaf_43 post x2 x3 x4 f1 f2 f3 f4 f5 f6 f7 f8 f9 a1 a2 a3 a4 a5 a6 a7 a8 a9 a10 a11 a12 a13 a14 a15 a16 a17 a18 a19 a20 a21 a22 a23 a24 :=
  tc_f48 (fun h => by unfold tc_op; rw [if_pos h]) (fun _ h => absurd h (by decide)) (fun h _ => by unfold tc_op; rw [if_neg h, if_pos hs]) H
theorem tc_f28 {post : St2 → Prop} {f1 f2 f3 f4 f5 f6 f7 f8 f9 : Int32} {a1 a2 a3 a4 a5 a6 a7 a8 a9 a10 a11 a12 a13 a14 a15 a16 a17 a18 a19 a20 a21 a22 a23 a24 : Nat → Int32} {x2 x3 x4 : Int32} (hs : ¬ x4 = 2) (h20 : a20 0 = 1) (H : ∀ t v w, (x3 = 0 → v = 0 ∧ w = 0) → post (f1, f2, f3, f4, f5, (tc_op x4 x2), t, v, w, a1, a2, a3, a4, a5, a6, a7, a8, a9, a10, a11, a12, a13, a14, a15, a16, a17, a18, a19, a20, a21, a22, a23, a24)) : wX_fixLeaf_28 post 0 x2 x3 x4 f1 f2 f3 f4 f5 f6 f7 f8 f9 a1 a2 a3 a4 a5 a6 a7 a8 a9 a10 a11 a12 a13 a14 a15 a16 a17 a18 a19 a20 a21 a22 a23 a24 := by
  have e : ¬ a20 (0 : Int32).toNatClampNeg = 0 := by
    rw [sb_cl0, h20]
    decide
  exact br_c (fun _ => ⟨pk_in 0 15 (by omega), br_f e (tc_f47 hs H)⟩) (fun _ => tc_f47 hs H)
theorem tc_fix {post : St2 → Prop} {f1 f2 f3 f4 f5 f6 f7 f8 f9 : Int32} {a1 a2 a3 a4 a5 a6 a7 a8 a9 a10 a11 a12 a13 a14 a15 a16 a17 a18 a19 a20 a21 a22 a23 a24 : Nat → Int32} {p1 p2 s : Int32} (h18 : a18 0 = 0) (h2 : a2 0 = s) (h20 : a20 0 = 1) (H : ∀ t v w, (p2 = 0 → v = 0 ∧ w = 0) → post (f1, f2, f3, f4, f5, (tc_op s p1), t, v, w, a1, a2, a3, a4, a5, a6, a7, a8, a9, a10, a11, a12, a13, a14, a15, a16, a17, a18, a19, a20, a21, a22, a23, a24)) : wpX_fixLeaf post (f1, f2, f3, f4, f5, f6, f7, f8, f9, a1, a2, a3, a4, a5, a6, a7, a8, a9, a10, a11, a12, a13, a14, a15, a16, a17, a18, a19, a20, a21, a22, a23, a24) 0 p1 p2 := by
  have e18 : a18 (0 : Int32).toNatClampNeg = 0 := by
    rw [sb_cl0, h18]
  have e : ¬ a20 (0 : Int32).toNatClampNeg = 0 := by
    rw [sb_cl0, h20]
    decide
  have e2 : a2 (a18 (0 : Int32).toNatClampNeg).toNatClampNeg = s := by
    rw [e18, sb_cl0, h2]
  exact ⟨pk_in 0 15 (by omega), pk_in 0 31 (by omega) e18, nm_r e2 (br_c (fun z => ⟨pk_in 0 15 (by omega), br_f e (tc_f43 z H)⟩) (fun z => tc_f28 z h20 H))⟩
/-! ===== leafValue, workOut ===== -/
theorem tc_leafV {post : Int32 → Prop} {f1 f2 f3 f4 f5 f6 f7 f8 f9 : Int32} {a1 a2 a3 a4 a5 a6 a7 a8 a9 a10 a11 a12 a13 a14 a15 a16 a17 a18 a19 a20 a21 a22 a23 a24 : Nat → Int32} (h21 : a21 0 = 1) (h17 : a17 0 = 1) (H : post (a12 1 * a3 1 + a13 1)) : wpX_leafValue post (f1, f2, f3, f4, f5, f6, f7, f8, f9, a1, a2, a3, a4, a5, a6, a7, a8, a9, a10, a11, a12, a13, a14, a15, a16, a17, a18, a19, a20, a21, a22, a23, a24) 0 := by
  have e21 : a21 (0 : Int32).toNatClampNeg = 1 := by
    rw [sb_cl0, h21]
  have e17 : a17 (0 : Int32).toNatClampNeg = 1 := by
    rw [sb_cl0, h17]
  have c1 : (1 : Int32).toNatClampNeg = 1 := by decide
  refine ⟨pk_in 0 15 (by omega), nm_r e21 ⟨pk_in 1 46 (by omega), pk_in 0 15 (by omega), pk_in 1 31 (by omega) e17, pk_in 1 46 (by omega), ?_⟩⟩
  rw [e17, c1]
  exact H
theorem tc_work {post : St2 → Prop} {f1 f2 f3 f4 f5 f6 f7 f8 f9 : Int32} {a1 a2 a3 a4 a5 a6 a7 a8 a9 a10 a11 a12 a13 a14 a15 a16 a17 a18 a19 a20 a21 a22 a23 a24 : Nat → Int32} {s : Int32} (h2 : a2 0 = s) (h17 : a17 0 = 1) (h18 : a18 0 = 0) (h20 : a20 0 = 1) (h21 : a21 0 = 1) (h22 : a22 0 = 0) (h23 : a23 0 = 2)
    (H : ∀ t v w d, post (f1, f2, f3, f4, f5, (tc_op s (a12 1 * a3 1 + a13 1)), t, v, w, a1, a2, a3, a4, a5, a6, a7, a8, a9, a10, a11, (upd a12 31 (a12 0 * tc_op s (a12 1 * a3 1 + a13 1) * a12 2)), (upd a13 31 d), a14, a15, a16, a17, a18, a19, a20, a21, a22, a23, a24)) : wpX_workOut post (f1, f2, f3, f4, f5, f6, f7, f8, f9, a1, a2, a3, a4, a5, a6, a7, a8, a9, a10, a11, a12, a13, a14, a15, a16, a17, a18, a19, a20, a21, a22, a23, a24) 0 := by
  have e22 : a22 (0 : Int32).toNatClampNeg = 0 := by
    rw [sb_cl0, h22]
  have e23 : a23 (0 : Int32).toNatClampNeg = 2 := by
    rw [sb_cl0, h23]
  have c2 : (2 : Int32).toNatClampNeg = 2 := by decide
  have c31 : (31 + 0 : Int32).toNatClampNeg = 31 := by decide
  have x3 : a12 (a23 (0 : Int32).toNatClampNeg).toNatClampNeg = a12 2 := by
    rw [e23, c2]
  have x4 : a13 (a23 (0 : Int32).toNatClampNeg).toNatClampNeg = a13 2 := by
    rw [e23, c2]
  have x5 : a12 (a22 (0 : Int32).toNatClampNeg).toNatClampNeg = a12 0 := by
    rw [e22, sb_cl0]
  have i0 : vp_in 0 15 := pk_in 0 15 (by omega)
  have i2 := pk_in 2 46 (by omega) e23
  have i00 := pk_in 0 46 (by omega) e22
  have i31 : vp_in (31 + 0) 46 := pk_in 31 46 (by omega)
  unfold wpX_workOut
  refine tc_leafV h21 h17 (tc_fix h18 h2 h20 (fun t v w _ => ?_))
  exact ⟨i0, i2, nm_r x3 ⟨i0, i2, nm_r x4 ⟨i0, i00, nm_r x5 ⟨i31, nm_r (by rw [c31]) ⟨i0, i00, i31, nm_r (by rw [c31]) (H t v w _)⟩⟩⟩⟩⟩
end
section
/-- the tree of one joint, its leaves 1 and 2: sort s, values x and y, left child 1, right child 2 -/
def tc_P (s x y : Int32) (a1 a2 a3 a4 a5 : Nat → Int32) : Prop :=
  a1 0 = 2 ∧ a1 1 = 1 ∧ a1 2 = 1 ∧ (∀ j, 0 < j → j < 31 → ¬ a1 j = 2) ∧ a2 0 = s ∧ a3 1 = x ∧ a3 2 = y ∧ a4 0 = 1 ∧ a5 0 = 2
/-- what the one step of its contracting leaves -/
def tc_C (q : Int32) (a9 a12 a13 a17 a18 a19 a20 a21 a22 a23 a24 : Nat → Int32) : Prop :=
  a9 2 = 31 ∧ a12 1 = 1 ∧ a12 2 = 1 ∧ a12 31 = q ∧ a13 1 = 0 ∧ a13 2 = 0 ∧ a17 0 = 1 ∧ a18 0 = 0 ∧ a19 0 = 2 ∧ a20 0 = 1 ∧ a21 0 = 1 ∧ a22 0 = 0 ∧ a23 0 = 2 ∧ a24 0 = 0
/-- the copies that contract makes first -/
def tc_I (a4 a5 : Nat → Int32) (i : Nat) (a6 a7 a9 a12 a13 : Nat → Int32) : Prop :=
  ∀ j, j < i → a6 j = a4 j ∧ a7 j = a5 j ∧ a9 j = nI j ∧ a12 j = 1 ∧ a13 j = 0
/-! ===== takeLeaf: the left leaf 1 and the joint 0 are taken away ===== -/
theorem tc_t181 {post : St2 → Prop} {f1 f2 f3 f4 f5 f6 f7 f8 f9 : Int32} {a1 a2 a3 a4 a5 a6 a7 a8 a9 a10 a11 a12 a13 a14 a15 a16 a17 a18 a19 a20 a21 a22 a23 a24 : Nat → Int32} {s : Int32} (h2 : a2 0 = s) (h17 : a17 0 = 1) (h18 : a18 0 = 0) (h20 : a20 0 = 1) (h21 : a21 0 = 1) (h22 : a22 0 = 0) (h23 : a23 0 = 2)
    (H : ∀ t v w d, post (f1, f2, f3, f4, f5, (tc_op s (a12 1 * a3 1 + a13 1)), t, v, w, a1, a2, a3, a4, a5, a6, a7, (upd a8 1 (-1)), (upd a9 2 31), a10, a11, (upd a12 31 (a12 0 * tc_op s (a12 1 * a3 1 + a13 1) * a12 2)), (upd a13 31 d), a14, a15, a16, a17, a18, a19, a20, a21, a22, a23, a24)) : wX_takeLeaf_181 post 1 2 0 f1 f2 f3 f4 f5 f6 f7 f8 f9 a1 a2 a3 a4 a5 a6 a7 a8 a9 a10 a11 a12 a13 a14 a15 a16 a17 a18 a19 a20 a21 a22 a23 a24 := by
  have c1 : (1 : Int32).toNatClampNeg = 1 := by decide
  have c2 : (2 : Int32).toNatClampNeg = 2 := by decide
  have c31 : (31 + 0 : Int32) = 31 := by decide
  exact ⟨pk_in 1 31 (by omega), nm_r (by rw [c1]) ⟨pk_in 2 31 (by omega), nm_r (by rw [c2, c31]) (tc_work h2 h17 h18 h20 h21 h22 h23 H)⟩⟩
theorem tc_takeLeaf {post : St2 → Prop} {f1 f2 f3 f4 f6 f7 f8 f9 : Int32} {a1 a2 a3 a4 a5 a6 a7 a8 a9 a10 a11 a12 a13 a14 a15 a16 a17 a18 a19 a20 a21 a22 a23 a24 : Nat → Int32} {s x : Int32} (h2 : a2 0 = s) (h3 : a3 1 = x) (h7 : a7 0 = 2) (h8 : a8 0 = -1) (h90 : a9 0 = 0) (h91 : a9 1 = 1) (h92 : a9 2 = 2) (h120 : a12 0 = 1) (h121 : a12 1 = 1) (h122 : a12 2 = 1) (h131 : a13 1 = 0) (h132 : a13 2 = 0)
    (H : ∀ g6 g7 g8 g9 b8 b9 b12 b13 b17 b18 b19 b20 b21 b22 b23 b24, tc_C (tc_op s x) b9 b12 b13 b17 b18 b19 b20 b21 b22 b23 b24 → b8 1 = -1 → post (f1, 2, f3, f4, 1, g6, g7, g8, g9, a1, a2, a3, a4, a5, a6, a7, b8, b9, a10, a11, b12, b13, a14, a15, a16, b17, b18, b19, b20, b21, b22, b23, b24)) :
    wpX_takeLeaf post (f1, f2, f3, f4, 0, f6, f7, f8, f9, a1, a2, a3, a4, a5, a6, a7, a8, a9, a10, a11, a12, a13, a14, a15, a16, a17, a18, a19, a20, a21, a22, a23, a24) 1 0 1 := by
  have c1 : (1 : Int32).toNatClampNeg = 1 := by decide
  have c2 : (2 : Int32).toNatClampNeg = 2 := by decide
  have i0 : vp_in 0 15 := pk_in 0 15 (by omega)
  have n0 : vp_in 0 31 := pk_in 0 31 (by omega)
  have n1 : vp_in 1 31 := pk_in 1 31 (by omega)
  have n2 : vp_in 2 31 := pk_in 2 31 (by omega)
  have e7 : a7 (0 : Int32).toNatClampNeg = 2 := by
    rw [sb_cl0, h7]
  have e8 : a8 (0 : Int32).toNatClampNeg = -1 := by
    rw [sb_cl0, h8]
  refine br_f (by decide) ⟨n0, ?_⟩
  rw [e7]
  refine ⟨i0, nm_r (e' := upd a17 0 1) (by rw [sb_cl0]) ⟨i0, nm_r (e' := upd a18 0 0) (by rw [sb_cl0]) ⟨i0, nm_r (e' := upd a19 0 2) (by rw [sb_cl0]) ⟨i0, nm_r (e' := upd a20 0 1) (by rw [sb_cl0]; rfl) ⟨n1, i0, nm_r (e' := upd a21 0 1) (by rw [sb_cl0, c1, h91]) ⟨n0, i0, nm_r (e' := upd a22 0 0) (by rw [sb_cl0, h90]) ⟨n2, i0, nm_r (e' := upd a23 0 2) (by rw [sb_cl0, c2, h92]) ⟨n0, nm_r (e' := upd a24 0 0) (by rw [sb_cl0]) (nm_r (e' := 1) (by decide) ⟨n0, nm_r e8 ⟨n2, nm_e (br_f (by decide) ?_)⟩⟩)⟩⟩⟩⟩⟩⟩⟩⟩
  refine tc_t181 h2 pk_us pk_us pk_us pk_us pk_us pk_us (fun t v w d => ?_)
  refine H _ _ _ _ _ _ _ _ _ _ _ _ _ _ _ _ ?_ pk_us
  have el : a12 1 * a3 1 + a13 1 = x := by
    rw [h121, h3, h131]
    simp
  rw [el]
  refine ⟨pk_us, (pk_un (by decide)).trans h121, (pk_un (by decide)).trans h122, ?_, (pk_un (by decide)).trans h131, (pk_un (by decide)).trans h132, pk_us, pk_us, pk_us, pk_us, pk_us, pk_us, pk_us, pk_us⟩
  rw [pk_us, h120, h122]
  simp
/-! ===== takeLeaves ===== -/
theorem tc_take1 {post : St2 → Prop} {f1 f2 f4 f6 f7 f8 f9 : Int32} {a1 a2 a3 a4 a5 a6 a7 a8 a9 a10 a11 a12 a13 a14 a15 a16 a17 a18 a19 a20 a21 a22 a23 a24 : Nat → Int32} {s x : Int32} (h2 : a2 0 = s) (h3 : a3 1 = x) (h6 : a6 0 = 1) (h7 : a7 0 = 2) (h8 : a8 0 = -1) (h81 : a8 1 = 0) (h90 : a9 0 = 0) (h91 : a9 1 = 1) (h92 : a9 2 = 2) (h10 : a10 0 = 1) (h120 : a12 0 = 1) (h121 : a12 1 = 1) (h122 : a12 2 = 1) (h131 : a13 1 = 0) (h132 : a13 2 = 0)
    (H : ∀ g6 g7 g8 g9 b8 b9 b12 b13 b17 b18 b19 b20 b21 b22 b23 b24, tc_C (tc_op s x) b9 b12 b13 b17 b18 b19 b20 b21 b22 b23 b24 → b8 1 = -1 → post (f1, 2, 2, f4, 1, g6, g7, g8, g9, a1, a2, a3, a4, a5, a6, a7, b8, b9, a10, a11, b12, b13, a14, a15, a16, b17, b18, b19, b20, b21, b22, b23, b24)) :
    wpX_takeLeaves post (f1, f2, 2, f4, 0, f6, f7, f8, f9, a1, a2, a3, a4, a5, a6, a7, a8, a9, a10, a11, a12, a13, a14, a15, a16, a17, a18, a19, a20, a21, a22, a23, a24) 1 := by
  have c1 : (1 : Int32).toNatClampNeg = 1 := by decide
  have e10 : a10 (0 : Int32).toNatClampNeg = 1 := by
    rw [sb_cl0, h10]
  have e81 : a8 (1 : Int32).toNatClampNeg = 0 := by
    rw [c1, h81]
  have e6 : a6 (0 : Int32).toNatClampNeg = 1 := by
    rw [sb_cl0, h6]
  refine ⟨2, br_f (by decide) ⟨pk_in 0 16 (by omega), nm_r e10 ⟨pk_in 1 31 (by omega), nm_r e81 (br_f (by decide) ⟨pk_in 0 31 (by omega), br_t e6 ?_⟩)⟩⟩⟩
  refine br_f (by decide) (br_t rfl ?_)
  refine tc_takeLeaf h2 h3 h7 h8 h90 h91 h92 h120 h121 h122 h131 h132 (fun g6 g7 g8 g9 b8 b9 b12 b13 b17 b18 b19 b20 b21 b22 b23 b24 hC hb => ?_)
  exact nm_r (e' := 2) (by decide) (br_t (by decide) (H g6 g7 g8 g9 b8 b9 b12 b13 b17 b18 b19 b20 b21 b22 b23 b24 hC hb))
theorem tc_take0 {post : St2 → Prop} {f1 f2 f4 f5 f6 f7 f8 f9 : Int32} {a1 a2 a3 a4 a5 a6 a7 a8 a9 a10 a11 a12 a13 a14 a15 a16 a17 a18 a19 a20 a21 a22 a23 a24 : Nat → Int32} (h10 : a10 0 = 1) (h81 : a8 1 = -1) (H : post (f1, f2, 2, f4, f5, f6, f7, f8, f9, a1, a2, a3, a4, a5, a6, a7, a8, a9, a10, a11, a12, a13, a14, a15, a16, a17, a18, a19, a20, a21, a22, a23, a24)) : wpX_takeLeaves post (f1, f2, 2, f4, f5, f6, f7, f8, f9, a1, a2, a3, a4, a5, a6, a7, a8, a9, a10, a11, a12, a13, a14, a15, a16, a17, a18, a19, a20, a21, a22, a23, a24) 0 := by
  have c1 : (1 : Int32).toNatClampNeg = 1 := by decide
  have e10 : a10 (0 : Int32).toNatClampNeg = 1 := by
    rw [sb_cl0, h10]
  have e81 : a8 (1 : Int32).toNatClampNeg = -1 := by
    rw [c1, h81]
  refine ⟨2, br_f (by decide) ⟨pk_in 0 16 (by omega), nm_r e10 ⟨pk_in 1 31 (by omega), nm_r e81 (br_t (by decide) ?_)⟩⟩⟩
  exact br_t (by decide) (nm_r (e' := 2) (by decide) (br_t (by decide) H))
/-! ===== listLeaves ===== -/
theorem tc_list {post : St2 → Prop} {f1 f3 f4 f5 f6 f7 f8 f9 : Int32} {a1 a2 a3 a4 a5 a6 a7 a8 a9 a10 a11 a12 a13 a14 a15 a16 a17 a18 a19 a20 a21 a22 a23 a24 : Nat → Int32} (h10 : a1 0 = 2) (h11 : a1 1 = 1) (h12 : a1 2 = 1) (h6 : a6 0 = 1) (h7 : a7 0 = 2)
    (H : ∀ b10 b11, b10 0 = 1 → post (f1, 0, 2, f4, f5, f6, f7, f8, f9, a1, a2, a3, a4, a5, a6, a7, a8, a9, b10, b11, a12, a13, a14, a15, a16, a17, a18, a19, a20, a21, a22, a23, a24)) : wpX_listLeaves post (f1, 0, f3, f4, f5, f6, f7, f8, f9, a1, a2, a3, a4, a5, a6, a7, a8, a9, a10, a11, a12, a13, a14, a15, a16, a17, a18, a19, a20, a21, a22, a23, a24) := by
  have c1 : (1 : Int32).toNatClampNeg = 1 := by decide
  have c2 : (2 : Int32).toNatClampNeg = 2 := by decide
  have e10 : a1 (0 : Int32).toNatClampNeg = 2 := by
    rw [sb_cl0, h10]
  have e11 : a1 (1 : Int32).toNatClampNeg = 1 := by
    rw [c1, h11]
  have e12 : a1 (2 : Int32).toNatClampNeg = 1 := by
    rw [c2, h12]
  have e6 : a6 (0 : Int32).toNatClampNeg = 1 := by
    rw [sb_cl0, h6]
  have e7 : a7 (0 : Int32).toNatClampNeg = 2 := by
    rw [sb_cl0, h7]
  have n0 : vp_in 0 31 := pk_in 0 31 (by omega)
  refine nm_e ⟨4, br_f (by decide) (br_f (by decide) (nm_r (e' := 0) (by decide) ⟨pk_in 0 32 (by omega), nm_r (e' := 0) ?_ ⟨n0, br_f ?_ ⟨n0, pk_in 0 32 (by omega), nm_r (e' := upd (upd a11 0 0) 0 2) ?_ ⟨n0, pk_in 1 32 (by omega), nm_r (e' := upd (upd (upd a11 0 0) 0 2) 1 1) ?_ (nm_r (e' := 2) (by decide) (nm_r (e' := 1) (by decide) ?_))⟩⟩⟩⟩))⟩
  · rw [sb_cl0]
    exact pk_us
  · rw [e10]
    decide
  · rw [e7, sb_cl0]
  · rw [e6, show (0 + 1 : Int32).toNatClampNeg = 1 by decide]
  refine br_f (by decide) (br_f (by decide) (nm_r (e' := 1) (by decide) ⟨pk_in 1 32 (by omega), nm_r (e' := 1) ?_ ⟨pk_in 1 31 (by omega), br_t e11 ⟨pk_in 0 16 (by omega), nm_r (e' := upd a10 0 1) (by rw [sb_cl0]) (nm_r (e' := 1) (by decide) (nm_r (e' := 2) (by decide) ?_))⟩⟩⟩))
  · rw [c1]
    exact pk_us
  refine br_f (by decide) (br_f (by decide) (nm_r (e' := 0) (by decide) ⟨pk_in 0 32 (by omega), nm_r (e' := 2) ?_ ⟨pk_in 2 31 (by omega), br_t e12 ⟨pk_in 1 16 (by omega), nm_r (e' := upd (upd a10 0 1) 1 2) (by rw [c1]) (nm_r (e' := 2) (by decide) (nm_r (e' := 3) (by decide) ?_))⟩⟩⟩))
  · rw [sb_cl0, pk_un (by decide)]
    exact pk_us
  exact br_f (by decide) (br_t (by decide) (H _ _ ((pk_un (by decide)).trans pk_us)))
/-! ===== linkParents ===== -/
theorem tc_link2 {post : St2 → Prop} {f1 f2 f3 f4 f5 f6 f7 f8 f9 : Int32} {a1 a2 a3 a4 a5 a6 a7 a8 a9 a10 a11 a12 a13 a14 a15 a16 a17 a18 a19 a20 a21 a22 a23 a24 : Nat → Int32} (h10 : a1 0 = 2) (h1 : ∀ j, 0 < j → j < 31 → ¬ a1 j = 2) (h4 : a4 0 = 1) (h5 : a5 0 = 2)
    (H : ∀ b8, b8 0 = -1 → b8 1 = 0 → post (f1, f2, f3, f4, f5, f6, f7, f8, f9, a1, a2, a3, a4, a5, a6, a7, b8, a9, a10, a11, a12, a13, a14, a15, a16, a17, a18, a19, a20, a21, a22, a23, a24)) : wpX_linkParents post (f1, f2, f3, f4, f5, f6, f7, f8, f9, a1, a2, a3, a4, a5, a6, a7, a8, a9, a10, a11, a12, a13, a14, a15, a16, a17, a18, a19, a20, a21, a22, a23, a24) := by
  have c1 : (1 : Int32).toNatClampNeg = 1 := by decide
  have c2 : (2 : Int32).toNatClampNeg = 2 := by decide
  refine nm_e ?_
  refine pk_loop (fun n i s => wX_linkParents_9 post f1 f2 f3 f4 f5 f6 f7 f8 f9 n (nI i) a1 a2 a3 a4 a5 a6 a7 s a9 a10 a11 a12 a13 a14 a15 a16 a17 a18 a19 a20 a21 a22 a23 a24) (fun i s => s 0 = -1 ∧ (0 < i → s 1 = 0)) 31 0 _ (by omega) ⟨pk_us, fun z => absurd z (by omega)⟩ ?_ ?_
  · intro n s h
    exact br_t (nI_le (Nat.le_refl 31) (by decide)) (H s h.1 (h.2 (by omega)))
  · intro n i s hi h hw
    have ci : (nI i).toNatClampNeg = i := nI_clamp (by omega)
    have ni : vp_in (nI i) 31 := vp_in_nI hi (by decide)
    refine br_f (nI_ge (b := 31) hi (by decide)) ⟨ni, ?_⟩
    by_cases e : i = 0
    · subst e
      have e4 : a4 (nI 0).toNatClampNeg = 1 := by
        rw [ci, h4]
      have e5 : a5 (nI 0).toNatClampNeg = 2 := by
        rw [ci, h5]
      refine br_t (by rw [ci, h10]) ⟨ni, pk_in 1 31 (by omega) e4, nm_r (e' := upd s 1 (nI 0)) (by rw [e4, c1]) ⟨ni, pk_in 2 31 (by omega) e5, nm_r (e' := upd (upd s 1 (nI 0)) 2 (nI 0)) (by rw [e5, c2]) (nm_r (nI_1 0) (hw _ ⟨?_, fun _ => ?_⟩))⟩⟩
      · rw [pk_un (by decide), pk_un (by decide)]
        exact h.1
      · rw [pk_un (by decide), pk_us]
        rfl
    · exact br_f (by rw [ci]; exact h1 i (by omega) hi) (nm_r (nI_1 i) (hw s ⟨h.1, fun _ => h.2 (by omega)⟩))
theorem tc_link1 {post : St2 → Prop} {f1 f2 f3 f4 f5 f6 f7 f8 f9 : Int32} {a1 a2 a3 a4 a5 a6 a7 a8 a9 a10 a11 a12 a13 a14 a15 a16 a17 a18 a19 a20 a21 a22 a23 a24 : Nat → Int32} (h1 : ∀ j, j < 31 → ¬ a1 j = 2) (H : ∀ b8, post (f1, f2, f3, f4, f5, f6, f7, f8, f9, a1, a2, a3, a4, a5, a6, a7, b8, a9, a10, a11, a12, a13, a14, a15, a16, a17, a18, a19, a20, a21, a22, a23, a24)) : wpX_linkParents post (f1, f2, f3, f4, f5, f6, f7, f8, f9, a1, a2, a3, a4, a5, a6, a7, a8, a9, a10, a11, a12, a13, a14, a15, a16, a17, a18, a19, a20, a21, a22, a23, a24) := by
  refine nm_e ?_
  refine pk_loop (fun n i s => wX_linkParents_9 post f1 f2 f3 f4 f5 f6 f7 f8 f9 n (nI i) a1 a2 a3 a4 a5 a6 a7 s a9 a10 a11 a12 a13 a14 a15 a16 a17 a18 a19 a20 a21 a22 a23 a24) (fun _ _ => True) 31 0 _ (by omega) trivial ?_ ?_
  · intro n s h
    exact br_t (nI_le (Nat.le_refl 31) (by decide)) (H s)
  · intro n i s hi h hw
    have ci : (nI i).toNatClampNeg = i := nI_clamp (by omega)
    exact br_f (nI_ge (b := 31) hi (by decide)) ⟨vp_in_nI hi (by decide), br_f (by rw [ci]; exact h1 i hi) (nm_r (nI_1 i) (hw s trivial))⟩
/-! ===== contract ===== -/
theorem tc_I_s {a4 a5 a6 a7 a9 a12 a13 : Nat → Int32} {i : Nat} (h : tc_I a4 a5 i a6 a7 a9 a12 a13) : tc_I a4 a5 (i + 1) (upd a6 i (a4 i)) (upd a7 i (a5 i)) (upd a9 i (nI i)) (upd a12 i 1) (upd a13 i 0) := by
  intro j hj
  by_cases e : j = i
  · subst e
    exact ⟨pk_us, pk_us, pk_us, pk_us, pk_us⟩
  · rw [pk_un e, pk_un e, pk_un e, pk_un e, pk_un e]
    exact h j (by omega)
theorem tc_c88 {post : St2 → Prop} {f1 f3 f4 f6 f7 f8 f9 : Int32} {a1 a2 a3 a4 a5 a6 a7 a8 a9 a10 a11 a12 a13 a14 a15 a16 a17 a18 a19 a20 a21 a22 a23 a24 : Nat → Int32} {s x y : Int32} (hP : tc_P s x y a1 a2 a3 a4 a5) (hI : tc_I a4 a5 31 a6 a7 a9 a12 a13) (h8 : a8 0 = -1) (h81 : a8 1 = 0)
    (H : ∀ g6 g7 g8 g9 b6 b7 b8 b9 b10 b11 b12 b13 b17 b18 b19 b20 b21 b22 b23 b24, tc_C (tc_op s x) b9 b12 b13 b17 b18 b19 b20 b21 b22 b23 b24 → post (f1, 2, 2, f4, 1, g6, g7, g8, g9, a1, a2, a3, a4, a5, b6, b7, b8, b9, b10, b11, b12, b13, a14, a15, a16, b17, b18, b19, b20, b21, b22, b23, b24)) :
    ∃ fu : Nat, wX_contract_88 post fu 0 f1 0 f3 f4 0 f6 f7 f8 f9 a1 a2 a3 a4 a5 a6 a7 a8 a9 a10 a11 a12 a13 a14 a15 a16 a17 a18 a19 a20 a21 a22 a23 a24 := by
  obtain ⟨h10, h11, h12, h1, h2, h3, h3', h4, h5⟩ := hP
  have c2 : (2 : Int32).toNatClampNeg = 2 := by decide
  have e10 : a1 (0 : Int32).toNatClampNeg = 2 := by
    rw [sb_cl0, h10]
  have e12 : ¬ a1 (2 : Int32).toNatClampNeg = 2 := by
    rw [c2, h12]
    decide
  obtain ⟨i1, i2, i3, i4, i5⟩ := hI 0 (by omega)
  obtain ⟨j1, j2, j3, j4, j5⟩ := hI 1 (by omega)
  obtain ⟨k1, k2, k3, k4, k5⟩ := hI 2 (by omega)
  refine ⟨2, br_f (by decide) ⟨pk_in 0 31 (by omega), br_t e10 ?_⟩⟩
  refine tc_list h10 h11 h12 (i1.trans h4) (i2.trans h5) (fun b10 b11 hb => ?_)
  refine tc_take1 h2 h3 (i1.trans h4) (i2.trans h5) h8 h81 i3 j3 k3 hb i4 j4 k4 j5 k5 (fun g6 g7 g8 g9 b8 b9 b12 b13 b17 b18 b19 b20 b21 b22 b23 b24 hC hb8 => ?_)
  refine tc_take0 hb hb8 ?_
  exact nm_r (e' := 1) (by decide) (br_f (by decide) ⟨pk_in 2 31 (by omega), br_f e12 (H g6 g7 g8 g9 a6 a7 b8 b9 b10 b11 b12 b13 b17 b18 b19 b20 b21 b22 b23 b24 hC)⟩)
theorem tc_contract2 {post : St2 → Prop} {f1 f2 f3 f5 f6 f7 f8 f9 : Int32} {a1 a2 a3 a4 a5 a6 a7 a8 a9 a10 a11 a12 a13 a14 a15 a16 a17 a18 a19 a20 a21 a22 a23 a24 : Nat → Int32} {s x y : Int32} (hP : tc_P s x y a1 a2 a3 a4 a5)
    (H : ∀ g6 g7 g8 g9 b6 b7 b8 b9 b10 b11 b12 b13 b17 b18 b19 b20 b21 b22 b23 b24, tc_C (tc_op s x) b9 b12 b13 b17 b18 b19 b20 b21 b22 b23 b24 → post (f1, 2, 2, 1, 1, g6, g7, g8, g9, a1, a2, a3, a4, a5, b6, b7, b8, b9, b10, b11, b12, b13, a14, a15, a16, b17, b18, b19, b20, b21, b22, b23, b24)) :
    wpX_contract post (f1, f2, f3, 0, f5, f6, f7, f8, f9, a1, a2, a3, a4, a5, a6, a7, a8, a9, a10, a11, a12, a13, a14, a15, a16, a17, a18, a19, a20, a21, a22, a23, a24) := by
  refine br_t rfl ?_
  refine pk_loop (fun n i t => wX_contract_25 post f1 0 f3 1 0 f6 f7 f8 f9 n (nI i) a1 a2 a3 a4 a5 t.1 t.2.1 a8 t.2.2.1 a10 a11 t.2.2.2.1 t.2.2.2.2 a14 a15 a16 a17 a18 a19 a20 a21 a22 a23 a24) (fun i t => tc_I a4 a5 i t.1 t.2.1 t.2.2.1 t.2.2.2.1 t.2.2.2.2) 31 0 (a6, a7, a9, a12, a13) (by omega) (fun j hj => absurd hj (by omega)) ?_ ?_
  · intro n t h
    refine br_t (nI_le (Nat.le_refl 31) (by decide)) (tc_link2 hP.1 hP.2.2.2.1 hP.2.2.2.2.2.2.2.1 hP.2.2.2.2.2.2.2.2 (fun b8 hb hb1 => ?_))
    exact tc_c88 hP h hb hb1 (fun g6 g7 g8 g9 b6 b7 b8 b9 b10 b11 b12 b13 b17 b18 b19 b20 b21 b22 b23 b24 hC => H g6 g7 g8 g9 b6 b7 b8 b9 b10 b11 b12 b13 b17 b18 b19 b20 b21 b22 b23 b24 hC)
  · intro n i t hi h hw
    have ci : (nI i).toNatClampNeg = i := nI_clamp (by omega)
    have n31 : vp_in (nI i) 31 := vp_in_nI hi (by decide)
    have n46 : vp_in (nI i) 46 := vp_in_nI (by omega) (by decide)
    exact br_f (nI_ge (b := 31) hi (by decide)) ⟨n31, n31, nm_r (by rw [ci]) ⟨n31, n31, nm_r (by rw [ci]) ⟨n31, nm_r (by rw [ci]) ⟨n46, nm_r (by rw [ci]) ⟨n46, nm_r (by rw [ci]) (nm_r (nI_1 i) (hw (upd t.1 i (a4 i), upd t.2.1 i (a5 i), upd t.2.2.1 i (nI i), upd t.2.2.2.1 i 1, upd t.2.2.2.2 i 0) (tc_I_s h)))⟩⟩⟩⟩⟩
theorem tc_contract1 {post : St2 → Prop} {f1 f2 f3 f5 f6 f7 f8 f9 : Int32} {a1 a2 a3 a4 a5 a6 a7 a8 a9 a10 a11 a12 a13 a14 a15 a16 a17 a18 a19 a20 a21 a22 a23 a24 : Nat → Int32} (h1 : ∀ j, j < 31 → ¬ a1 j = 2)
    (H : ∀ b6 b7 b8 b9 b12 b13, post (f1, 0, f3, 1, 0, f6, f7, f8, f9, a1, a2, a3, a4, a5, b6, b7, b8, b9, a10, a11, b12, b13, a14, a15, a16, a17, a18, a19, a20, a21, a22, a23, a24)) :
    wpX_contract post (f1, f2, f3, 0, f5, f6, f7, f8, f9, a1, a2, a3, a4, a5, a6, a7, a8, a9, a10, a11, a12, a13, a14, a15, a16, a17, a18, a19, a20, a21, a22, a23, a24) := by
  refine br_t rfl ?_
  refine pk_loop (fun n i t => wX_contract_25 post f1 0 f3 1 0 f6 f7 f8 f9 n (nI i) a1 a2 a3 a4 a5 t.1 t.2.1 a8 t.2.2.1 a10 a11 t.2.2.2.1 t.2.2.2.2 a14 a15 a16 a17 a18 a19 a20 a21 a22 a23 a24) (fun _ _ => True) 31 0 (a6, a7, a9, a12, a13) (by omega) trivial ?_ ?_
  · intro n t h
    refine br_t (nI_le (Nat.le_refl 31) (by decide)) (tc_link1 h1 (fun b8 => ?_))
    exact ⟨1, br_f (by decide) ⟨pk_in 0 31 (by omega), br_f (by rw [sb_cl0]; exact h1 0 (by omega)) (H _ _ _ _ _ _)⟩⟩
  · intro n i t hi h hw
    have ci : (nI i).toNatClampNeg = i := nI_clamp (by omega)
    have n31 : vp_in (nI i) 31 := vp_in_nI hi (by decide)
    have n46 : vp_in (nI i) 46 := vp_in_nI (by omega) (by decide)
    exact br_f (nI_ge (b := 31) hi (by decide)) ⟨n31, n31, nm_r (by rw [ci]) ⟨n31, n31, nm_r (by rw [ci]) ⟨n31, nm_r (by rw [ci]) ⟨n46, nm_r (by rw [ci]) ⟨n46, nm_r (by rw [ci]) (nm_r (nI_1 i) (hw (upd t.1 i (a4 i), upd t.2.1 i (a5 i), upd t.2.2.1 i (nI i), upd t.2.2.2.1 i 1, upd t.2.2.2.2 i 0) trivial))⟩⟩⟩⟩⟩
end
section
/-! ===== value ===== -/
theorem tc_v24 {post : Int32 → St2 → Prop} {f1 f2 f3 f4 f5 f6 f7 f8 f9 : Int32} {a1 a2 a3 a4 a5 a6 a7 a8 a9 a10 a11 a12 a13 a14 a15 a16 a17 a18 a19 a20 a21 a22 a23 a24 : Nat → Int32} {s x y q : Int32} (hP : tc_P s x y a1 a2 a3 a4 a5) (hC : tc_C q a9 a12 a13 a17 a18 a19 a20 a21 a22 a23 a24)
    (H : ∀ b11, post (tc_calc s x y) (f1, f2, f3, f4, f5, f6, f7, f8, f9, a1, a2, a3, a4, a5, a6, a7, a8, a9, a10, b11, a12, a13, a14, a15, a16, a17, a18, a19, a20, a21, a22, a23, a24)) : ∃ fu : Nat, wX_value_24 post f1 f2 f3 f4 f5 f6 f7 f8 f9 fu 0 0 0 a1 a2 a3 a4 a5 a6 a7 a8 a9 a10 a11 a12 a13 a14 a15 a16 a17 a18 a19 a20 a21 a22 a23 a24 := by
  obtain ⟨h10, h11, h12, h1, h2, h3, h3', h4, h5⟩ := hP
  obtain ⟨k9, k12, k12', k12'', k13, k13', k17, k18, k19, k20, k21, k22, k23, k24⟩ := hC
  have c2 : (2 : Int32).toNatClampNeg = 2 := by decide
  have e10 : a1 (0 : Int32).toNatClampNeg = 2 := by
    rw [sb_cl0, h10]
  have e12 : ¬ a1 (2 : Int32).toNatClampNeg = 2 := by
    rw [c2, h12]
    decide
  have e24 : a24 (0 : Int32).toNatClampNeg = 0 := by
    rw [sb_cl0, k24]
  have e23 : a23 (0 : Int32).toNatClampNeg = 2 := by
    rw [sb_cl0, k23]
  have e18 : a18 (0 : Int32).toNatClampNeg = 0 := by
    rw [sb_cl0, k18]
  have e20 : ¬ a20 (0 : Int32).toNatClampNeg = 0 := by
    rw [sb_cl0, k20]
    decide
  have i0 : vp_in 0 15 := pk_in 0 15 (by omega)
  have n0 : vp_in 0 31 := pk_in 0 31 (by omega)
  have n2 : vp_in 2 31 := pk_in 2 31 (by omega)
  have s2 : vp_in (a23 (0 : Int32).toNatClampNeg) 46 := pk_in 2 46 (by omega) e23
  refine ⟨2, br_f (by decide) ⟨n0, br_t e10 ⟨n0, pk_in 0 32 (by omega), nm_r (e' := upd a11 0 0) (by rw [e24, sb_cl0]) (nm_r (e' := 1) (by decide) ⟨n0, pk_in 0 15 (by omega) e24, nm_r (e' := 2) (by rw [e24, sb_cl0, k19]) (nm_r (e' := 1) (by decide) ?_)⟩)⟩⟩⟩
  refine br_f (by decide) ⟨n2, br_f e12 ?_⟩
  refine ⟨n2, nm_r (e' := y) (by rw [c2, h3']) (nm_r (e' := 0) (by decide) ⟨2, br_f (by decide) ⟨pk_in 0 32 (by omega), nm_r (e' := 0) (by rw [sb_cl0]; exact pk_us) ⟨i0, s2, i0, s2, nm_r (e' := y) (by rw [e23, c2, k12', k13']; simp) ?_⟩⟩⟩)⟩
  refine tc_leafV k21 k17 ⟨i0, br_f e20 ⟨i0, pk_in 0 31 (by omega) e18, tc_calculate ?_⟩⟩
  have e2 : a2 (a18 (0 : Int32).toNatClampNeg).toNatClampNeg = s := by
    rw [e18, sb_cl0, h2]
  have el : a12 1 * a3 1 + a13 1 = x := by
    rw [k12, h3, k13]
    simp
  rw [e2, el]
  exact nm_r (e' := -1) (by decide) (br_t (by decide) (H _))
theorem tc_value2 {post : Int32 → St2 → Prop} {f1 f2 f3 f5 f6 f7 f8 f9 : Int32} {a1 a2 a3 a4 a5 a6 a7 a8 a9 a10 a11 a12 a13 a14 a15 a16 a17 a18 a19 a20 a21 a22 a23 a24 : Nat → Int32} {s x y : Int32} (hP : tc_P s x y a1 a2 a3 a4 a5)
    (H : ∀ g6 g7 g8 g9 b6 b7 b8 b9 b10 b11 b12 b13 b17 b18 b19 b20 b21 b22 b23 b24, tc_C (tc_op s x) b9 b12 b13 b17 b18 b19 b20 b21 b22 b23 b24 → post (tc_calc s x y) (f1, 2, 2, 1, 1, g6, g7, g8, g9, a1, a2, a3, a4, a5, b6, b7, b8, b9, b10, b11, b12, b13, a14, a15, a16, b17, b18, b19, b20, b21, b22, b23, b24)) :
    wpX_value post (f1, f2, f3, 0, f5, f6, f7, f8, f9, a1, a2, a3, a4, a5, a6, a7, a8, a9, a10, a11, a12, a13, a14, a15, a16, a17, a18, a19, a20, a21, a22, a23, a24) 0 := by
  unfold wpX_value
  refine tc_kindOf 0 (by omega) (br_f (by rw [hP.1]; decide) ?_)
  refine tc_contract2 hP (fun g6 g7 g8 g9 b6 b7 b8 b9 b10 b11 b12 b13 b17 b18 b19 b20 b21 b22 b23 b24 hC => ?_)
  exact tc_v24 hP hC (fun b11 => H g6 g7 g8 g9 b6 b7 b8 b9 b10 b11 b12 b13 b17 b18 b19 b20 b21 b22 b23 b24 hC)
theorem tc_value1 {post : Int32 → St2 → Prop} {f1 f2 f3 f5 f6 f7 f8 f9 : Int32} {a1 a2 a3 a4 a5 a6 a7 a8 a9 a10 a11 a12 a13 a14 a15 a16 a17 a18 a19 a20 a21 a22 a23 a24 : Nat → Int32} (h10 : a1 0 = 1) (h1 : ∀ j, j < 31 → ¬ a1 j = 2)
    (H : ∀ b6 b7 b8 b9 b12 b13, post (a3 0) (f1, 0, f3, 1, 0, f6, f7, f8, f9, a1, a2, a3, a4, a5, b6, b7, b8, b9, a10, a11, b12, b13, a14, a15, a16, a17, a18, a19, a20, a21, a22, a23, a24)) :
    wpX_value post (f1, f2, f3, 0, f5, f6, f7, f8, f9, a1, a2, a3, a4, a5, a6, a7, a8, a9, a10, a11, a12, a13, a14, a15, a16, a17, a18, a19, a20, a21, a22, a23, a24) 0 := by
  unfold wpX_value
  refine tc_kindOf 0 (by omega) (br_f (by rw [h10]; decide) ?_)
  refine tc_contract1 h1 (fun b6 b7 b8 b9 b12 b13 => ?_)
  have n0 : vp_in 0 31 := pk_in 0 31 (by omega)
  refine ⟨1, br_f (by decide) ⟨n0, br_f (by rw [sb_cl0]; exact h1 0 (by omega)) ?_⟩⟩
  exact ⟨n0, nm_r (e' := a3 0) (by rw [sb_cl0]) (nm_r (e' := -1) (by decide) ⟨1, br_t (by decide) (H b6 b7 b8 b9 b12 b13)⟩)⟩
theorem tc_value0 {post : Int32 → St2 → Prop} {f1 f2 f3 f4 f5 f6 f7 f8 f9 : Int32} {a1 a2 a3 a4 a5 a6 a7 a8 a9 a10 a11 a12 a13 a14 a15 a16 a17 a18 a19 a20 a21 a22 a23 a24 : Nat → Int32} (h : a1 1 = 0) (H : post 0 (f1, f2, f3, f4, f5, f6, f7, f8, f9, a1, a2, a3, a4, a5, a6, a7, a8, a9, a10, a11, a12, a13, a14, a15, a16, a17, a18, a19, a20, a21, a22, a23, a24)) : wpX_value post (f1, f2, f3, f4, f5, f6, f7, f8, f9, a1, a2, a3, a4, a5, a6, a7, a8, a9, a10, a11, a12, a13, a14, a15, a16, a17, a18, a19, a20, a21, a22, a23, a24) 1 := by
  unfold wpX_value
  exact tc_kindOf 1 (by omega) (br_t h H)
/-! ===== slope ===== -/
theorem tc_change {post : St2 → Prop} {f1 f2 f3 f4 f5 f6 f7 f8 f9 : Int32} {a1 a2 a3 a4 a5 a6 a7 a8 a9 a10 a11 a12 a13 a14 a15 a16 a17 a18 a19 a20 a21 a22 a23 a24 : Nat → Int32} {s x y q : Int32} (hP : tc_P s x y a1 a2 a3 a4 a5) (hC : tc_C q a9 a12 a13 a17 a18 a19 a20 a21 a22 a23 a24) (hz : ∀ j, j < 46 → a14 j = 0 ∧ a15 j = 0)
    (H : ∀ g6 g7 g8 g9, post (f1, f2, f3, f4, f5, g6, g7, g8, g9, a1, a2, a3, a4, a5, a6, a7, a8, a9, a10, a11, a12, a13, (upd a14 31 0), (upd a15 31 0), a16, a17, a18, a19, a20, a21, a22, a23, a24)) : wpX_changeStep post (f1, f2, f3, f4, f5, f6, f7, f8, f9, a1, a2, a3, a4, a5, a6, a7, a8, a9, a10, a11, a12, a13, a14, a15, a16, a17, a18, a19, a20, a21, a22, a23, a24) 0 2 := by
  obtain ⟨h10, h11, h12, h1, h2, h3, h3', h4, h5⟩ := hP
  obtain ⟨k9, k12, k12', k12'', k13, k13', k17, k18, k19, k20, k21, k22, k23, k24⟩ := hC
  have c1 : (1 : Int32).toNatClampNeg = 1 := by decide
  have c2 : (2 : Int32).toNatClampNeg = 2 := by decide
  have c31 : (31 + 0 : Int32).toNatClampNeg = 31 := by decide
  have e21 : a21 (0 : Int32).toNatClampNeg = 1 := by
    rw [sb_cl0, k21]
  have e22 : a22 (0 : Int32).toNatClampNeg = 0 := by
    rw [sb_cl0, k22]
  have e23 : a23 (0 : Int32).toNatClampNeg = 2 := by
    rw [sb_cl0, k23]
  have e17 : a17 (0 : Int32).toNatClampNeg = 1 := by
    rw [sb_cl0, k17]
  have i0 : vp_in 0 15 := pk_in 0 15 (by omega)
  have s1 : vp_in 1 46 := pk_in 1 46 (by omega)
  have i23 := pk_in 2 46 (by omega) e23
  have i22 := pk_in 0 46 (by omega) e22
  have i31 : vp_in (31 + 0) 46 := pk_in 31 46 (by omega)
  refine ⟨i0, nm_r e21 ⟨i0, br_f (by rw [e17]; decide) ?_⟩⟩
  unfold wX_changeStep_27
  refine tc_leafV k21 k17 ⟨s1, i0, pk_in 1 31 (by omega) e17, s1, tc_fix k18 h2 k20 (fun t v w hv => ?_)⟩
  obtain ⟨rfl, rfl⟩ := hv (by rw [c1, (hz 1 (by omega)).1, (hz 1 (by omega)).2]; simp)
  refine ⟨i0, i23, nm_r (e' := 1) (by rw [e23, c2, k12']) ⟨i0, i23, nm_r (e' := 0) (by rw [e23, c2, k13']) ⟨i0, i23, nm_r (e' := 0) (by rw [e23, c2]; exact (hz 2 (by omega)).1) ⟨i0, i23, nm_r (e' := 0) (by rw [e23, c2]; exact (hz 2 (by omega)).2) ⟨i0, i22, nm_e ⟨i0, i22, nm_r (e' := 0) (by rw [e22, sb_cl0]; exact (hz 0 (by omega)).1) (nm_e (nm_r (e' := 0) (by simp) ⟨i31, nm_r (e' := upd a14 31 0) ?_ ⟨i0, i22, i31, nm_r (e' := upd a15 31 0) ?_ (H _ _ _ _)⟩⟩))⟩⟩⟩⟩⟩⟩
  · rw [c31]
    congr 1
    simp
  · rw [c31, e22, sb_cl0, (hz 0 (by omega)).2]
    congr 1
    simp
theorem tc_slope {post : Int32 → St2 → Prop} {f1 f3 f6 f7 f8 f9 : Int32} {a1 a2 a3 a4 a5 a6 a7 a8 a9 a10 a11 a12 a13 a14 a15 a16 a17 a18 a19 a20 a21 a22 a23 a24 : Nat → Int32} {s x y q : Int32} (hP : tc_P s x y a1 a2 a3 a4 a5) (hC : tc_C q a9 a12 a13 a17 a18 a19 a20 a21 a22 a23 a24)
    (H : ∀ g6 g7 g8 g9 b14 b15, post q (f1, 2, f3, 1, 1, g6, g7, g8, g9, a1, a2, a3, a4, a5, a6, a7, a8, a9, a10, a11, a12, a13, b14, b15, a16, a17, a18, a19, a20, a21, a22, a23, a24)) :
    wpX_slope post (f1, 2, f3, 1, 1, f6, f7, f8, f9, a1, a2, a3, a4, a5, a6, a7, a8, a9, a10, a11, a12, a13, a14, a15, a16, a17, a18, a19, a20, a21, a22, a23, a24) 2 := by
  have c31 : (31 : Int32).toNatClampNeg = 31 := by decide
  have c2 : (2 : Int32).toNatClampNeg = 2 := by decide
  have s31 : vp_in 31 46 := pk_in 31 46 (by omega)
  have n2 : vp_in 2 31 := pk_in 2 31 (by omega)
  unfold wpX_slope
  refine tc_kindOf 2 (by omega) (br_t hP.2.2.1 ?_)
  refine br_f (by decide) ?_
  refine pk_loop (fun n i t => wX_slope_17 post 2 f1 2 f3 1 1 f6 f7 f8 f9 n (nI i) a1 a2 a3 a4 a5 a6 a7 a8 a9 a10 a11 a12 a13 t.1 t.2 a16 a17 a18 a19 a20 a21 a22 a23 a24) (fun i t => ∀ j, j < i → t.1 j = 0 ∧ t.2 j = 0) 46 0 (a14, a15) (by omega) (fun j hj => absurd hj (by omega)) ?_ ?_
  · intro n t h
    refine br_t (nI_le (Nat.le_refl 46) (by decide)) ⟨2, br_f (by decide) ?_⟩
    refine tc_change hP hC h (fun g6 g7 g8 g9 => ?_)
    refine nm_r (e' := 1) (by decide) (br_t (by decide) ⟨n2, nm_r (e' := 31) (by rw [c2, hC.1]) (br_t rfl ⟨s31, s31, n2, s31, ?_⟩)⟩)
    have e : upd t.1 31 0 (31 : Int32).toNatClampNeg * a3 (2 : Int32).toNatClampNeg + a12 (31 : Int32).toNatClampNeg + upd t.2 31 0 (31 : Int32).toNatClampNeg = q := by
      rw [c31, pk_us, pk_us, hC.2.2.2.1]
      simp
    rw [e]
    exact H g6 g7 g8 g9 _ _
  · intro n i t hi h hw
    have ci : (nI i).toNatClampNeg = i := nI_clamp (by omega)
    have n46 : vp_in (nI i) 46 := vp_in_nI hi (by decide)
    refine br_f (nI_ge (b := 46) hi (by decide)) ⟨n46, nm_r (by rw [ci]) ⟨n46, nm_r (by rw [ci]) (nm_r (nI_1 i) (hw (upd t.1 i 0, upd t.2 i 0) ?_))⟩⟩
    intro j hj
    by_cases e : j = i
    · subst e
      exact ⟨pk_us, pk_us⟩
    · exact ⟨(pk_un e).trans (h j (by omega)).1, (pk_un e).trans (h j (by omega)).2⟩
/-! ===== renew ===== -/
theorem tc_renewZ {post : St2 → Prop} {f1 f2 f3 f4 f5 f6 f7 f8 f9 : Int32} {a1 a2 a3 a4 a5 a6 a7 a8 a9 a10 a11 a12 a13 a14 a15 a16 a17 a18 a19 a20 a21 a22 a23 a24 : Nat → Int32} {p : Int32} (H : ∀ b16, (∀ j, j < 46 → b16 j = 0) → ∃ fu : Nat, wX_renew_23 post p fu 0 f1 f2 f3 f4 f5 f6 f7 f8 f9 a1 a2 a3 a4 a5 a6 a7 a8 a9 a10 a11 a12 a13 a14 a15 b16 a17 a18 a19 a20 a21 a22 a23 a24) : wpX_renew post (f1, f2, f3, f4, f5, f6, f7, f8, f9, a1, a2, a3, a4, a5, a6, a7, a8, a9, a10, a11, a12, a13, a14, a15, a16, a17, a18, a19, a20, a21, a22, a23, a24) p := by
  refine pk_loop (fun n i t => wX_renew_2 post p f1 f2 f3 f4 f5 f6 f7 f8 f9 n (nI i) a1 a2 a3 a4 a5 a6 a7 a8 a9 a10 a11 a12 a13 a14 a15 t a17 a18 a19 a20 a21 a22 a23 a24) (fun i t => ∀ j, j < i → t j = 0) 46 0 a16 (by omega) (fun j hj => absurd hj (by omega)) ?_ ?_
  · intro n t h
    exact br_t (nI_le (Nat.le_refl 46) (by decide)) (H t h)
  · intro n i t hi h hw
    have ci : (nI i).toNatClampNeg = i := nI_clamp (by omega)
    have n46 : vp_in (nI i) 46 := vp_in_nI hi (by decide)
    refine br_f (nI_ge (b := 46) hi (by decide)) ⟨n46, nm_r (by rw [ci]) (nm_r (nI_1 i) (hw (upd t i 0) ?_))⟩
    intro j hj
    by_cases e : j = i
    · subst e
      exact pk_us
    · exact (pk_un e).trans (h j (by omega))
theorem tc_renew0 {post : St2 → Prop} {f1 f2 f3 f4 f6 f7 f8 f9 : Int32} {a1 a2 a3 a4 a5 a6 a7 a8 a9 a10 a11 a12 a13 a14 a15 a16 a17 a18 a19 a20 a21 a22 a23 a24 : Nat → Int32} (h17 : a17 0 = 1) (h18 : a18 0 = 0) (h20 : a20 0 = 1) (h21 : a21 0 = 1) (h22 : a22 0 = 0) (h23 : a23 0 = 2)
    (H : ∀ g6 g7 g8 g9 b12 b13 b16, post (f1, f2, f3, f4, 1, g6, g7, g8, g9, a1, a2, a3, a4, a5, a6, a7, a8, a9, a10, a11, b12, b13, a14, a15, b16, a17, a18, a19, a20, a21, a22, a23, a24)) : wpX_renew post (f1, f2, f3, f4, 1, f6, f7, f8, f9, a1, a2, a3, a4, a5, a6, a7, a8, a9, a10, a11, a12, a13, a14, a15, a16, a17, a18, a19, a20, a21, a22, a23, a24) 0 := by
  refine tc_renewZ (fun b16 hz => ?_)
  have c1 : (1 : Int32).toNatClampNeg = 1 := by decide
  have c2 : (2 : Int32).toNatClampNeg = 2 := by decide
  have e17 : ¬ a17 (0 : Int32).toNatClampNeg = 0 := by
    rw [sb_cl0, h17]
    decide
  have e18 : a18 (0 : Int32).toNatClampNeg = 0 := by
    rw [sb_cl0, h18]
  have e21 : a21 (0 : Int32).toNatClampNeg = 1 := by
    rw [sb_cl0, h21]
  have e22 : a22 (0 : Int32).toNatClampNeg = 0 := by
    rw [sb_cl0, h22]
  have e23 : a23 (0 : Int32).toNatClampNeg = 2 := by
    rw [sb_cl0, h23]
  have i0 : vp_in 0 15 := pk_in 0 15 (by omega)
  refine ⟨2, br_f (by decide) ⟨i0, pk_in 1 46 (by omega) e21, br_t (by rw [e21, c1]; exact hz 1 (by omega)) ⟨i0, pk_in 0 46 (by omega) e22, br_t (by rw [e22, sb_cl0]; exact hz 0 (by omega)) ⟨i0, pk_in 2 46 (by omega) e23, br_t (by rw [e23, c2]; exact hz 2 (by omega)) ?_⟩⟩⟩⟩
  refine br_t rfl ⟨i0, br_f e17 ⟨i0, br_t e18 ?_⟩⟩
  unfold wX_renew_103
  refine tc_work rfl h17 h18 h20 h21 h22 h23 (fun t v w d => ?_)
  exact ⟨pk_in 31 46 (by omega), nm_e (nm_r (e' := 1) (by decide) (br_t (by decide) (H _ _ _ _ _ _ _)))⟩
theorem tc_renew2 {post : St2 → Prop} {f1 f2 f3 f4 f6 f7 f8 f9 : Int32} {a1 a2 a3 a4 a5 a6 a7 a8 a9 a10 a11 a12 a13 a14 a15 a16 a17 a18 a19 a20 a21 a22 a23 a24 : Nat → Int32} (h17 : a17 0 = 1) (h18 : a18 0 = 0) (h21 : a21 0 = 1) (h22 : a22 0 = 0) (h23 : a23 0 = 2)
    (H : ∀ b16, post (f1, f2, f3, f4, 1, f6, f7, f8, f9, a1, a2, a3, a4, a5, a6, a7, a8, a9, a10, a11, a12, a13, a14, a15, b16, a17, a18, a19, a20, a21, a22, a23, a24)) : wpX_renew post (f1, f2, f3, f4, 1, f6, f7, f8, f9, a1, a2, a3, a4, a5, a6, a7, a8, a9, a10, a11, a12, a13, a14, a15, a16, a17, a18, a19, a20, a21, a22, a23, a24) 2 := by
  refine tc_renewZ (fun b16 hz => ?_)
  have c1 : (1 : Int32).toNatClampNeg = 1 := by decide
  have c2 : (2 : Int32).toNatClampNeg = 2 := by decide
  have e17 : ¬ a17 (0 : Int32).toNatClampNeg = 2 := by
    rw [sb_cl0, h17]
    decide
  have e18 : ¬ a18 (0 : Int32).toNatClampNeg = 2 := by
    rw [sb_cl0, h18]
    decide
  have e21 : a21 (0 : Int32).toNatClampNeg = 1 := by
    rw [sb_cl0, h21]
  have e22 : a22 (0 : Int32).toNatClampNeg = 0 := by
    rw [sb_cl0, h22]
  have e23 : a23 (0 : Int32).toNatClampNeg = 2 := by
    rw [sb_cl0, h23]
  have i0 : vp_in 0 15 := pk_in 0 15 (by omega)
  refine ⟨2, br_f (by decide) ⟨i0, pk_in 1 46 (by omega) e21, br_t (by rw [e21, c1]; exact hz 1 (by omega)) ⟨i0, pk_in 0 46 (by omega) e22, br_t (by rw [e22, sb_cl0]; exact hz 0 (by omega)) ⟨i0, pk_in 2 46 (by omega) e23, br_t (by rw [e23, c2]; exact hz 2 (by omega)) ?_⟩⟩⟩⟩
  exact br_t rfl ⟨i0, br_f e17 ⟨i0, br_f e18 (nm_r (e' := 1) (by decide) (br_t (by decide) (H b16)))⟩⟩
/-! ===== grow, setSort, set, turn, shrink, left ===== -/
theorem tc_grow {post : Int32 → St2 → Prop} {f2 f3 f4 f5 f6 f7 f8 f9 : Int32} {a1 a2 a3 a4 a5 a6 a7 a8 a9 a10 a11 a12 a13 a14 a15 a16 a17 a18 a19 a20 a21 a22 a23 a24 : Nat → Int32} {p1 p2 p3 : Int32} (h10 : a1 0 = 1) (h11 : a1 1 = 0) (h12 : a1 2 = 0)
    (H : post 1 (1, f2, f3, 0, f5, f6, f7, f8, f9, (upd (upd (upd a1 1 1) 2 1) 0 2), (upd a2 0 (p1 &&& 3)), (upd (upd a3 1 p2) 2 p3), (upd (upd (upd a4 1 (-1)) 2 (-1)) 0 1), (upd (upd (upd a5 1 (-1)) 2 (-1)) 0 2), a6, a7, a8, a9, a10, a11, a12, a13, a14, a15, a16, a17, a18, a19, a20, a21, a22, a23, a24)) : wpX_grow post (0, f2, f3, f4, f5, f6, f7, f8, f9, a1, a2, a3, a4, a5, a6, a7, a8, a9, a10, a11, a12, a13, a14, a15, a16, a17, a18, a19, a20, a21, a22, a23, a24) 0 p1 p2 p3 := by
  have c1 : (1 : Int32).toNatClampNeg = 1 := by decide
  have c2 : (1 + 1 : Int32).toNatClampNeg = 2 := by decide
  have n0 : vp_in 0 31 := pk_in 0 31 (by omega)
  unfold wpX_grow
  refine tc_kindOf 0 (by omega) (br_t h10 (br_t (by decide) ?_))
  refine ⟨2, br_f (by decide) ⟨n0, br_f (by rw [sb_cl0, h10]; decide) (nm_r (e' := 1) (by decide) (br_f (by decide) ⟨pk_in 1 31 (by omega), br_t (by rw [c1, h11]) ?_⟩))⟩⟩
  refine ⟨1, br_f (by decide) ⟨pk_in 2 31 (by omega), br_t (by rw [c2, h12]) ?_⟩⟩
  refine tc_makeLeaf 1 (by omega) ?_
  refine tc_makeLeaf 2 (by omega) ?_
  exact ⟨n0, nm_r (by rw [sb_cl0]) ⟨n0, nm_r (by rw [sb_cl0]) ⟨n0, nm_r (by rw [sb_cl0]) ⟨n0, nm_r (by rw [sb_cl0]; rfl) (nm_r (by decide) H)⟩⟩⟩⟩
theorem tc_setSort {post : Int32 → St2 → Prop} {f1 f2 f3 f6 f7 f8 f9 : Int32} {a1 a2 a3 a4 a5 a6 a7 a8 a9 a10 a11 a12 a13 a14 a15 a16 a17 a18 a19 a20 a21 a22 a23 a24 : Nat → Int32} {p : Int32} (h10 : a1 0 = 2) (h17 : a17 0 = 1) (h18 : a18 0 = 0) (h20 : a20 0 = 1) (h21 : a21 0 = 1) (h22 : a22 0 = 0) (h23 : a23 0 = 2)
    (H : ∀ g6 g7 g8 g9 b12 b13 b16, post 0 (f1, f2, f3, 1, 1, g6, g7, g8, g9, a1, (upd a2 0 (p &&& 3)), a3, a4, a5, a6, a7, a8, a9, a10, a11, b12, b13, a14, a15, b16, a17, a18, a19, a20, a21, a22, a23, a24)) : wpX_setSort post (f1, f2, f3, 1, 1, f6, f7, f8, f9, a1, a2, a3, a4, a5, a6, a7, a8, a9, a10, a11, a12, a13, a14, a15, a16, a17, a18, a19, a20, a21, a22, a23, a24) 0 p := by
  unfold wpX_setSort
  refine tc_kindOf 0 (by omega) (br_t h10 ⟨pk_in 0 31 (by omega), nm_r (e' := upd a2 0 (p &&& 3)) (by rw [sb_cl0]) (br_f (by decide) ?_)⟩)
  exact tc_renew0 h17 h18 h20 h21 h22 h23 (fun g6 g7 g8 g9 b12 b13 b16 => H g6 g7 g8 g9 b12 b13 b16)
theorem tc_set {post : Int32 → St2 → Prop} {f1 f2 f3 f6 f7 f8 f9 : Int32} {a1 a2 a3 a4 a5 a6 a7 a8 a9 a10 a11 a12 a13 a14 a15 a16 a17 a18 a19 a20 a21 a22 a23 a24 : Nat → Int32} {p : Int32} (h12 : a1 2 = 1) (h17 : a17 0 = 1) (h18 : a18 0 = 0) (h21 : a21 0 = 1) (h22 : a22 0 = 0) (h23 : a23 0 = 2)
    (H : ∀ b16, post 0 (f1, f2, f3, 1, 1, f6, f7, f8, f9, a1, a2, (upd a3 2 p), a4, a5, a6, a7, a8, a9, a10, a11, a12, a13, a14, a15, b16, a17, a18, a19, a20, a21, a22, a23, a24)) : wpX_set post (f1, f2, f3, 1, 1, f6, f7, f8, f9, a1, a2, a3, a4, a5, a6, a7, a8, a9, a10, a11, a12, a13, a14, a15, a16, a17, a18, a19, a20, a21, a22, a23, a24) 2 p := by
  have c2 : (2 : Int32).toNatClampNeg = 2 := by decide
  unfold wpX_set
  refine tc_kindOf 2 (by omega) (br_t h12 ⟨pk_in 2 31 (by omega), nm_r (e' := upd a3 2 p) (by rw [c2]) (br_f (by decide) ?_)⟩)
  exact tc_renew2 h17 h18 h21 h22 h23 (fun b16 => H b16)
theorem tc_turn {post : Int32 → St2 → Prop} {f1 f2 f3 f4 f5 f6 f7 f8 f9 : Int32} {a1 a2 a3 a4 a5 a6 a7 a8 a9 a10 a11 a12 a13 a14 a15 a16 a17 a18 a19 a20 a21 a22 a23 a24 : Nat → Int32} (h10 : a1 0 = 2) (H : post 0 (f1, f2, f3, 0, f5, f6, f7, f8, f9, a1, a2, a3, (upd a4 0 (a5 0)), (upd a5 0 (a4 0)), a6, a7, a8, a9, a10, a11, a12, a13, a14, a15, a16, a17, a18, a19, a20, a21, a22, a23, a24)) : wpX_turn post (f1, f2, f3, f4, f5, f6, f7, f8, f9, a1, a2, a3, a4, a5, a6, a7, a8, a9, a10, a11, a12, a13, a14, a15, a16, a17, a18, a19, a20, a21, a22, a23, a24) 0 := by
  have n0 : vp_in 0 31 := pk_in 0 31 (by omega)
  unfold wpX_turn
  exact tc_kindOf 0 (by omega) (br_t h10 ⟨n0, nm_r (e' := a4 0) (by rw [sb_cl0]) ⟨n0, n0, nm_r (e' := upd a4 0 (a5 0)) (by rw [sb_cl0]) ⟨n0, nm_r (e' := upd a5 0 (a4 0)) (by rw [sb_cl0]) H⟩⟩⟩)
theorem tc_shrink {post : Int32 → St2 → Prop} {f1 f2 f3 f4 f5 f6 f7 f8 f9 : Int32} {a1 a2 a3 a4 a5 a6 a7 a8 a9 a10 a11 a12 a13 a14 a15 a16 a17 a18 a19 a20 a21 a22 a23 a24 : Nat → Int32} (h10 : a1 0 = 2) (h11 : a1 1 = 1) (h12 : a1 2 = 1) (h4 : a4 0 = 2) (h5 : a5 0 = 1)
    (H : post 0 ((f1 - 1), f2, f3, 0, f5, f6, f7, f8, f9, (upd (upd (upd a1 2 0) 1 0) 0 1), a2, (upd a3 0 (tc_calc (a2 0) (a3 2) (a3 1))), (upd a4 0 (-1)), (upd a5 0 (-1)), a6, a7, a8, a9, a10, a11, a12, a13, a14, a15, a16, a17, a18, a19, a20, a21, a22, a23, a24)) : wpX_shrink post (f1, f2, f3, f4, f5, f6, f7, f8, f9, a1, a2, a3, a4, a5, a6, a7, a8, a9, a10, a11, a12, a13, a14, a15, a16, a17, a18, a19, a20, a21, a22, a23, a24) 0 := by
  have c1 : (1 : Int32).toNatClampNeg = 1 := by decide
  have c2 : (2 : Int32).toNatClampNeg = 2 := by decide
  have n0 : vp_in 0 31 := pk_in 0 31 (by omega)
  have n1 : vp_in 1 31 := pk_in 1 31 (by omega)
  have n2 : vp_in 2 31 := pk_in 2 31 (by omega)
  have e4 : a4 (0 : Int32).toNatClampNeg = 2 := by
    rw [sb_cl0, h4]
  have e5 : a5 (0 : Int32).toNatClampNeg = 1 := by
    rw [sb_cl0, h5]
  unfold wpX_shrink
  refine tc_kindOf 0 (by omega) (br_t h10 ⟨n0, pk_in 2 31 (by omega) e4, br_t (by rw [e4, c2, h12]) ⟨n0, pk_in 1 31 (by omega) e5, br_t (by rw [e5, c1, h11]) ⟨n0, nm_r e4 ⟨n0, nm_r e5 ⟨n0, n2, n1, tc_calculate ?_⟩⟩⟩⟩⟩)
  rw [sb_cl0, c1, c2]
  refine ⟨n2, nm_e ⟨n1, nm_e ?_⟩⟩
  exact tc_makeLeaf 0 (by omega) (nm_e H)
theorem tc_left {post : Int32 → Prop} {f1 f2 f3 f4 f5 f6 f7 f8 f9 : Int32} {a1 a2 a3 a4 a5 a6 a7 a8 a9 a10 a11 a12 a13 a14 a15 a16 a17 a18 a19 a20 a21 a22 a23 a24 : Nat → Int32} (h10 : a1 0 = 1) (H : post (-1)) : wpX_left post (f1, f2, f3, f4, f5, f6, f7, f8, f9, a1, a2, a3, a4, a5, a6, a7, a8, a9, a10, a11, a12, a13, a14, a15, a16, a17, a18, a19, a20, a21, a22, a23, a24) 0 := by
  unfold wpX_left
  exact tc_kindOf 0 (by omega) (br_f (by rw [h10]; decide) H)
end
section
/-! ===== the law ===== -/
theorem tc_198 {post : Int32 → St0 → Prop} {mc ms kc ks : Nat} {z0 : Int32} {f1 f2 f3 f4 f5 f6 f7 f8 f9 : Int32} {a1 a2 a3 a4 a5 a6 a7 a8 a9 a10 a11 a12 a13 a14 a15 a16 a17 a18 a19 a20 a21 a22 a23 a24 : Nat → Int32} (h10 : a1 0 = 2) (h11 : a1 1 = 1) (h12 : a1 2 = 1) (h1 : ∀ j, 0 < j → j < 31 → ¬ a1 j = 2) (h4 : a4 0 = 2) (h5 : a5 0 = 1) (hz : tc_calc (a2 0) (a3 2) (a3 1) = z0) (H : post 1 ()) : wL_lawOf_198 post mc ms z0 kc ks f1 f2 f3 f4 f5 f6 f7 f8 f9 a1 a2 a3 a4 a5 a6 a7 a8 a9 a10 a11 a12 a13 a14 a15 a16 a17 a18 a19 a20 a21 a22 a23 a24 := by
  unfold wL_lawOf_198
  refine tc_shrink h10 h11 h12 h4 h5 (br_t rfl ?_)
  refine tc_value1 pk_us ?_ (fun b6 b7 b8 b9 b12 b13 => br_t (pk_us.trans hz) ?_)
  · intro j hj
    by_cases e0 : j = 0
    · rw [e0, pk_us]
      decide
    · rw [pk_un e0]
      by_cases e1 : j = 1
      · rw [e1, pk_us]
        decide
      · rw [pk_un e1]
        by_cases e2 : j = 2
        · rw [e2, pk_us]
          decide
        · rw [pk_un e2]
          exact h1 j (by omega) hj
  · refine tc_left pk_us (br_t rfl ?_)
    exact tc_value0 ((pk_un (by decide)).trans pk_us) (br_t rfl H)
theorem tc_114 {post : Int32 → St0 → Prop} {mc ms kc ks : Nat} {x1 x3 x4 z0 z1 : Int32} {f1 f2 f3 f6 f7 f8 f9 : Int32} {a1 a2 a3 a4 a5 a6 a7 a8 a9 a10 a11 a12 a13 a14 a15 a16 a17 a18 a19 a20 a21 a22 a23 a24 : Nat → Int32} {s y q : Int32} (hP : tc_P s x1 y a1 a2 a3 a4 a5) (hC : tc_C q a9 a12 a13 a17 a18 a19 a20 a21 a22 a23 a24) (hz : z1 = z0) (H : post 1 ()) :
    wL_lawOf_114 post mc ms x1 x3 x4 z0 z1 kc ks f1 f2 f3 1 1 f6 f7 f8 f9 a1 a2 a3 a4 a5 a6 a7 a8 a9 a10 a11 a12 a13 a14 a15 a16 a17 a18 a19 a20 a21 a22 a23 a24 := by
  obtain ⟨h10, h11, h12, h1, h2, h3, h3', h4, h5⟩ := hP
  obtain ⟨k9, k12, k12', k12'', k13, k13', k17, k18, k19, k20, k21, k22, k23, k24⟩ := hC
  refine br_t hz ?_
  refine tc_setSort h10 k17 k18 k20 k21 k22 k23 (fun g6 g7 g8 g9 b12 b13 b16 => br_t rfl ?_)
  refine tc_set h12 k17 k18 k21 k22 k23 (fun b16 => br_t rfl ?_)
  refine tc_turn h10 (br_t rfl (nm_e ?_))
  have e2 : upd a2 0 (x3 &&& 3) 0 = x3 &&& 3 := pk_us
  have e32 : upd a3 2 x4 2 = x4 := pk_us
  have e31 : upd a3 2 x4 1 = x1 := (pk_un (by decide)).trans h3
  have f4' : upd a4 0 (a5 0) 0 = 2 := pk_us.trans h5
  have f5' : upd a5 0 (a4 0) 0 = 1 := pk_us.trans h4
  refine br_c (fun g => ?_) (fun g => br_c (fun g1 => ?_) (fun g1 => br_c (fun g2 => ?_) (fun g2 => ?_)))
  · refine tc_198 h10 h11 h12 h1 f4' f5' ?_ H
    rw [e2, e32, e31]
    unfold tc_calc
    rw [if_pos g]
  · refine tc_198 h10 h11 h12 h1 f4' f5' ?_ H
    rw [e2, e32, e31]
    unfold tc_calc
    rw [if_neg g, if_pos g1]
  · refine tc_198 h10 h11 h12 h1 f4' f5' ?_ H
    rw [e2, e32, e31]
    unfold tc_calc
    rw [if_neg g, if_neg g1, if_pos g2]
  · refine tc_198 h10 h11 h12 h1 f4' f5' ?_ H
    rw [e2, e32, e31]
    unfold tc_calc
    rw [if_neg g, if_neg g1, if_neg g2]
theorem tc_73 {post : Int32 → St0 → Prop} {mc ms kc ks : Nat} {x1 x3 x4 z0 z1 : Int32} {f1 f3 f6 f7 f8 f9 : Int32} {a1 a2 a3 a4 a5 a6 a7 a8 a9 a10 a11 a12 a13 a14 a15 a16 a17 a18 a19 a20 a21 a22 a23 a24 : Nat → Int32} {s y : Int32} (hP : tc_P s x1 y a1 a2 a3 a4 a5) (hC : tc_C (tc_op s x1) a9 a12 a13 a17 a18 a19 a20 a21 a22 a23 a24) (hz : z1 = z0) (H : post 1 ()) :
    wL_lawOf_73 post mc ms x1 x3 x4 s z0 z1 kc ks f1 2 f3 1 1 f6 f7 f8 f9 a1 a2 a3 a4 a5 a6 a7 a8 a9 a10 a11 a12 a13 a14 a15 a16 a17 a18 a19 a20 a21 a22 a23 a24 := by
  refine br_t hz ?_
  refine tc_slope hP hC (fun g6 g7 g8 g9 b14 b15 => ?_)
  refine br_c (fun g => ?_) (fun g => br_c (fun g1 => ?_) (fun g1 => br_c (fun g2 => ?_) (fun g2 => ?_)))
  · refine tc_114 hP hC ?_ H
    unfold tc_op
    rw [if_neg (by rw [g]; decide), if_neg (by rw [g]; decide)]
  · refine tc_114 hP hC ?_ H
    unfold tc_op
    rw [if_pos g1]
  · refine tc_114 hP hC ?_ H
    unfold tc_op
    rw [if_neg g1, if_pos g2]
  · refine tc_114 hP hC ?_ H
    unfold tc_op
    rw [if_neg g1, if_neg g2]
theorem tc_lawOf {post : Int32 → St0 → Prop} {s x y r z : Int32} (H : post 1 ()) : wpL_lawOf post 25 726 () s x y r z := by
  have hP : tc_P (s &&& 3) x y (upd (upd (upd (upd (fun _ => 0) 0 1) 1 1) 2 1) 0 2) (upd (fun _ => 0) 0 (s &&& 3)) (upd (upd (fun _ => 0) 1 x) 2 y) (upd (upd (upd (fun _ => 0) 1 (-1)) 2 (-1)) 0 1) (upd (upd (upd (fun _ => 0) 1 (-1)) 2 (-1)) 0 2) := by
    refine ⟨rfl, rfl, rfl, ?_, rfl, rfl, rfl, rfl, rfl⟩
    intro j h0 hj
    rw [pk_un (by omega)]
    by_cases e2 : j = 2
    · rw [e2, pk_us]
      decide
    · rw [pk_un e2]
      by_cases e1 : j = 1
      · rw [e1, pk_us]
        decide
      · rw [pk_un e1, pk_un (by omega)]
        decide
  refine ⟨by decide, by decide, 24, 693, by decide, by decide, ?_⟩
  refine ⟨by decide, by decide, by decide, by decide, by decide, by decide, by decide, by decide, by decide, by decide, by decide, by decide, by decide, by decide, by decide, by decide, by decide, by decide, by decide, by decide, by decide, by decide, by decide, by decide, by decide, by decide, by decide, by decide, by decide, by decide, by decide, by decide, by decide, by decide, by decide, by decide, by decide, by decide, by decide, by decide, by decide, by decide, by decide, by decide, by decide, by decide, by decide, by decide, nm_e ?_⟩
  refine tc_grow rfl rfl rfl (br_t rfl (nm_e ?_))
  refine tc_value2 hP (fun g6 g7 g8 g9 b6 b7 b8 b9 b10 b11 b12 b13 b17 b18 b19 b20 b21 b22 b23 b24 hC => ?_)
  refine br_c (fun g => ?_) (fun g => br_c (fun g1 => ?_) (fun g1 => br_c (fun g2 => ?_) (fun g2 => ?_)))
  · refine tc_73 hP hC ?_ H
    unfold tc_calc
    rw [if_pos g]
  · refine tc_73 hP hC ?_ H
    unfold tc_calc
    rw [if_neg g, if_pos g1]
  · refine tc_73 hP hC ?_ H
    unfold tc_calc
    rw [if_neg g, if_neg g1, if_pos g2]
  · refine tc_73 hP hC ?_ H
    unfold tc_calc
    rw [if_neg g, if_neg g1, if_neg g2]
theorem tc_cell {post : Int32 → Prop} {L : Nat} {xs : Nat → Int32} {u : St0} {p : Int32} (k : Nat) (hL : L ≤ 5) (hk : k < 5) (h : ∀ v, post v) (hp : p = nI k := by rfl) : wpL_cellAt post L xs u p :=
  pk_le L k (fun _ => h _) (fun z => ⟨pk_in k L z hp (by omega), h _⟩) rfl hp (by omega) (by omega)
theorem i_vc (xs : Nat → Int32) (L : Nat) (hL : L ≤ 5) : wpL_law (fun r => r = 1) L xs := by
  unfold wpL_law
  exact tc_cell 0 hL (by omega) (fun v1 => tc_cell 1 hL (by omega) (fun v2 => tc_cell 2 hL (by omega) (fun v3 => tc_cell 3 hL (by omega) (fun v4 => tc_cell 4 hL (by omega) (fun v5 => ⟨25, 726, by decide, by decide, tc_lawOf rfl⟩)))))
end
