section
section
variable {n t o s p q r : Int32} {a1 a2 a3 a4 a5 a6 a7 a8 a9 a10 a11 a12 a13 a14 a15 : Nat → Int32}
theorem tt_i0 : vp_in 0 24 := pk_in 0 24 (by decide)
theorem tt_i1 : vp_in 1 24 := pk_in 1 24 (by decide)
theorem tt_c0 : (0 : Int32).toNatClampNeg = 0 := pk_cl 0
theorem tt_c1 : (1 : Int32).toNatClampNeg = 1 := pk_cl 1
theorem tt_b0 : vp_nar .boolean 0 = 0 := by decide
theorem tt_b1 : vp_nar .boolean 1 = 1 := by decide
/-- a node of a tree of one node: the root, or outside -/
theorem tt_cl1 (p : Int32) : p = 0 ∨ (p < 0 ∨ ¬ p < 1) := by
  by_cases h0 : p < 0
  · exact Or.inr (Or.inl h0)
  · by_cases h1 : p < 1
    · obtain ⟨j, hj, rfl⟩ := nI_of h0
      have h2 : j < 1 := (nI_ltI hj (by decide)).mp h1
      have h3 : j = 0 := by omega
      subst h3
      exact Or.inl nI_0
    · exact Or.inr (Or.inr h1)
/-- a node of a tree of two nodes -/
theorem tt_cl2 (p : Int32) : p = 0 ∨ p = 1 ∨ (p < 0 ∨ ¬ p < 2) := by
  by_cases h0 : p < 0
  · exact Or.inr (Or.inr (Or.inl h0))
  · by_cases h1 : p < 2
    · obtain ⟨j, hj, rfl⟩ := nI_of h0
      have h2 : j < 2 := (nI_ltI hj (by decide)).mp h1
      have h3 : j = 0 ∨ j = 1 := by omega
      rcases h3 with h3 | h3
      · subst h3
        exact Or.inl nI_0
      · subst h3
        exact Or.inr (Or.inl rfl)
    · exact Or.inr (Or.inr (Or.inr h1))
theorem tt_hq (h0 : ¬ q < 0) (h3 : ¬ 3 < q) : vp_in ((0 * 4) + q) 96 := by
  obtain ⟨j, hj, rfl⟩ := nI_of h0
  have h2 : ¬ 3 < j := fun z => h3 ((nI_ltI (a := 3) (by decide) hj).mpr z)
  have e : (0 : Int32) * 4 + nI j = nI j := by
    show nI 0 * nI 4 + nI j = nI j
    rw [pk_mul, nI_add, Nat.zero_mul, Nat.zero_add]
  rw [e]
  exact vp_in_nI (by omega) (by decide)
theorem tt_nn0 {post : Int32 → Prop} (h0 : ¬ p < 0) (h1 : p < n) (H : post 0) : wpX_noNode post (n, t, o, s, a1, a2, a3, a4, a5, a6, a7, a8, a9, a10, a11, a12, a13, a14, a15) p := br_f h0 (br_t h1 H)
theorem tt_nnx {post : Int32 → Prop} (h : p < 0 ∨ ¬ p < n) (H : post 1) : wpX_noNode post (n, t, o, s, a1, a2, a3, a4, a5, a6, a7, a8, a9, a10, a11, a12, a13, a14, a15) p :=
  br_c (fun _ => H) (fun z => br_f (h.elim (fun y => absurd y z) (fun y => y)) H)
theorem tt_nc0 {post : Int32 → Prop} {k : Nat} (hk : p.toNatClampNeg = k) (h0 : ¬ p < 0) (h1 : p < n) (hi : vp_in p 24) (h : a1 k = 0) (H : post 0) : wpX_noContainer post (n, t, o, s, a1, a2, a3, a4, a5, a6, a7, a8, a9, a10, a11, a12, a13, a14, a15) p := by
  subst hk
  unfold wpX_noContainer
  exact tt_nn0 h0 h1 (br_t rfl ⟨hi, br_t h H⟩)
theorem tt_nc1 {post : Int32 → Prop} {k : Nat} (hk : p.toNatClampNeg = k) (h0 : ¬ p < 0) (h1 : p < n) (hi : vp_in p 24) (h : ¬ a1 k = 0) (H : post 1) : wpX_noContainer post (n, t, o, s, a1, a2, a3, a4, a5, a6, a7, a8, a9, a10, a11, a12, a13, a14, a15) p := by
  subst hk
  unfold wpX_noContainer
  exact tt_nn0 h0 h1 (br_t rfl ⟨hi, br_f h H⟩)
theorem tt_ncx {post : Int32 → Prop} (h : p < 0 ∨ ¬ p < n) (H : post 1) : wpX_noContainer post (n, t, o, s, a1, a2, a3, a4, a5, a6, a7, a8, a9, a10, a11, a12, a13, a14, a15) p := by
  unfold wpX_noContainer
  exact tt_nnx h (br_f (by decide) H)
theorem tt_nt0 {post : Int32 → Prop} {k : Nat} (hk : p.toNatClampNeg = k) (h0 : ¬ p < 0) (h1 : p < n) (hi : vp_in p 24) (h : a1 k = 0) (H : post 1) : wpX_noTest post (n, t, o, s, a1, a2, a3, a4, a5, a6, a7, a8, a9, a10, a11, a12, a13, a14, a15) p := by
  subst hk
  unfold wpX_noTest
  exact tt_nn0 h0 h1 (br_t rfl ⟨hi, br_t h H⟩)
theorem tt_nt1 {post : Int32 → Prop} {k : Nat} (hk : p.toNatClampNeg = k) (h0 : ¬ p < 0) (h1 : p < n) (hi : vp_in p 24) (h : ¬ a1 k = 0) (H : post 0) : wpX_noTest post (n, t, o, s, a1, a2, a3, a4, a5, a6, a7, a8, a9, a10, a11, a12, a13, a14, a15) p := by
  subst hk
  unfold wpX_noTest
  exact tt_nn0 h0 h1 (br_t rfl ⟨hi, br_f h H⟩)
theorem tt_ntx {post : Int32 → Prop} (h : p < 0 ∨ ¬ p < n) (H : post 1) : wpX_noTest post (n, t, o, s, a1, a2, a3, a4, a5, a6, a7, a8, a9, a10, a11, a12, a13, a14, a15) p := by
  unfold wpX_noTest
  exact tt_nnx h (br_f (by decide) H)
theorem tt_clear {post : St2 → Prop} {k : Nat} (hk : p.toNatClampNeg = k) (hi : vp_in p 24)
    (H : post (n, t, o, s, upd a1 k (vp_nar .boolean r), upd a2 k q, upd a3 k (-1), upd a4 k (-1), upd a5 k (-1), a6, upd a7 k 1, upd a8 k 1, upd a9 k 1, a10, a11, a12, a13, a14, a15)) : wpX_clearNode post (n, t, o, s, a1, a2, a3, a4, a5, a6, a7, a8, a9, a10, a11, a12, a13, a14, a15) p q r := by
  subst hk
  exact ⟨hi, nm_e ⟨hi, nm_e ⟨hi, nm_e ⟨hi, nm_e ⟨hi, nm_e ⟨hi, nm_e ⟨hi, nm_e ⟨hi, nm_e H⟩⟩⟩⟩⟩⟩⟩⟩
theorem tt_init {post : St2 → Prop}
    (H : ∀ b1 b2 b3 b4 b5 b7 b8 b9 : Nat → Int32, b1 0 = 0 → b3 0 = -1 → b4 0 = -1 → b5 0 = -1 →
      post (1, 0, 0, 0, b1, b2, b3, b4, b5, (fun _ => 0), b7, b8, b9, (fun _ => 0), (fun _ => 0), (fun _ => 0), (fun _ => 0), (fun _ => 0), (fun _ => 0))) : wpX_init post 15 504 (0, 0, 0, 0) :=
  ⟨by decide, by decide, by decide, by decide, by decide, by decide, by decide, by decide, by decide, by decide, by decide, by decide, by decide, by decide, by decide, by decide, by decide, by decide, by decide, by decide, by decide, by decide, by decide, by decide, by decide, by decide, by decide, by decide, by decide, by decide,
    tt_clear tt_c0 tt_i0 (H _ _ _ _ _ _ _ _ (pk_us.trans tt_b0) pk_us pk_us pk_us)⟩
theorem tt_test_x {post : Int32 → St2 → Prop} (h : p < 0 ∨ ¬ p < n) (H : post (-1) (n, t, o, s, a1, a2, a3, a4, a5, a6, a7, a8, a9, a10, a11, a12, a13, a14, a15)) : wpX_test post (n, t, o, s, a1, a2, a3, a4, a5, a6, a7, a8, a9, a10, a11, a12, a13, a14, a15) p := by
  have A : ∀ P : Int32 → St2 → Prop, P (-1) (n, t, o, s, a1, a2, a3, a4, a5, a6, a7, a8, a9, a10, a11, a12, a13, a14, a15) → wpX_add P (n, t, o, s, a1, a2, a3, a4, a5, a6, a7, a8, a9, a10, a11, a12, a13, a14, a15) p 1 := fun P hP => by
    unfold wpX_add
    exact tt_ncx h (br_f (by decide) hP)
  unfold wpX_test
  exact A _ H
theorem tt_test_0 {post : Int32 → St2 → Prop} (h1 : a1 0 = 0) (h4 : a4 0 = -1)
    (H : ∀ b1 b2 b3 b4 b5 b7 b8 b9 : Nat → Int32, b1 0 = 0 → b1 1 = 1 → b2 1 = 0 → b3 0 = 1 → b5 0 = a5 0 → b5 1 = -1 → b7 1 = 1 → b8 1 = 1 → b9 1 = 1 →
      post 1 (2, t, o, s, b1, b2, b3, b4, b5, a6, b7, b8, b9, a10, a11, a12, a13, a14, a15)) : wpX_test post (1, t, o, s, a1, a2, a3, a4, a5, a6, a7, a8, a9, a10, a11, a12, a13, a14, a15) 0 := by
  have d : (0 : Nat) ≠ 1 := by decide
  have e4 : ¬ (0 : Int32) ≤ upd a4 1 (-1) (0 : Int32).toNatClampNeg := by
    rw [tt_c0, pk_un d, h4]
    decide
  have A : ∀ P : Int32 → St2 → Prop, (∀ b1 b2 b3 b4 b5 b7 b8 b9 : Nat → Int32, b1 0 = 0 → b1 1 = 1 → b2 1 = 0 → b3 0 = 1 → b5 0 = a5 0 → b5 1 = -1 → b7 1 = 1 → b8 1 = 1 → b9 1 = 1 →
      P 1 (2, t, o, s, b1, b2, b3, b4, b5, a6, b7, b8, b9, a10, a11, a12, a13, a14, a15)) → wpX_add P (1, t, o, s, a1, a2, a3, a4, a5, a6, a7, a8, a9, a10, a11, a12, a13, a14, a15) 0 1 := fun P hP => by
    unfold wpX_add
    exact tt_nc0 tt_c0 (by decide) (by decide) tt_i0 h1 (br_t rfl (br_t (by decide) (tt_clear tt_c1 tt_i1 ⟨tt_i0, br_f e4 ⟨tt_i0, nm_e ⟨tt_i0, nm_e (nm_r (e' := 2) rfl
      (hP _ _ _ _ _ _ _ _ ((pk_un d).trans h1) (pk_us.trans tt_b1) pk_us pk_us (pk_un d) pk_us pk_us pk_us pk_us))⟩⟩⟩)))
  unfold wpX_test
  exact A _ H
theorem tt_hook_x {post : Int32 → St2 → Prop} (h : p < 0 ∨ ¬ p < n) (H : post (-1) (n, t, o, s, a1, a2, a3, a4, a5, a6, a7, a8, a9, a10, a11, a12, a13, a14, a15)) : wpX_hook post (n, t, o, s, a1, a2, a3, a4, a5, a6, a7, a8, a9, a10, a11, a12, a13, a14, a15) p q r := by
  unfold wpX_hook
  exact tt_ncx h (br_f (by decide) H)
theorem tt_hook_1 {post : Int32 → St2 → Prop} (h1 : a1 1 = 1) (H : post (-1) (2, t, o, s, a1, a2, a3, a4, a5, a6, a7, a8, a9, a10, a11, a12, a13, a14, a15)) : wpX_hook post (2, t, o, s, a1, a2, a3, a4, a5, a6, a7, a8, a9, a10, a11, a12, a13, a14, a15) 1 q r := by
  unfold wpX_hook
  exact tt_nc1 tt_c1 (by decide) (by decide) tt_i1 (by rw [h1]; decide) (br_f (by decide) H)
theorem tt_hook_0 {post : Int32 → St2 → Prop} (hn : 0 < n) (h1 : a1 0 = 0) (h6 : ∀ j, a6 j = 0)
    (H3 : (q < 0 ∨ 3 < q ∨ r < 0 ∨ ¬ r ≤ 3) → post (-3) (n, t, o, s, a1, a2, a3, a4, a5, a6, a7, a8, a9, a10, a11, a12, a13, a14, a15)) (H0 : ¬ q < 0 → ¬ 3 < q → ¬ r < 0 → r ≤ 3 → ∀ b6, post 0 (n, t, o, s, a1, a2, a3, a4, a5, b6, a7, a8, a9, a10, a11, a12, a13, a14, a15)) : wpX_hook post (n, t, o, s, a1, a2, a3, a4, a5, a6, a7, a8, a9, a10, a11, a12, a13, a14, a15) 0 q r := by
  unfold wpX_hook
  exact tt_nc0 tt_c0 (by decide) hn tt_i0 h1 (br_t rfl (br_c (fun z => H3 (Or.inl z)) (fun z1 => br_c (fun z => H3 (Or.inr (Or.inl z))) (fun z2 => br_c (fun z => H3 (Or.inr (Or.inr (Or.inl z)))) (fun z3 =>
    br_c (fun z4 => ⟨tt_hq z1 z2, nm_r (h6 _) ⟨tt_hq z1 z2, nm_e (H0 z1 z2 z3 z4 _)⟩⟩) (fun z => H3 (Or.inr (Or.inr (Or.inr z)))))))))
theorem tt_body_x {post : Int32 → St2 → Prop} (h : p < 0 ∨ ¬ p < n) (H : post (-1) (n, t, o, s, a1, a2, a3, a4, a5, a6, a7, a8, a9, a10, a11, a12, a13, a14, a15)) : wpX_body post (n, t, o, s, a1, a2, a3, a4, a5, a6, a7, a8, a9, a10, a11, a12, a13, a14, a15) p q r := by
  unfold wpX_body
  exact tt_ntx h (br_f (by decide) H)
theorem tt_body_0 {post : Int32 → St2 → Prop} (hn : 0 < n) (h1 : a1 0 = 0) (H : post (-1) (n, t, o, s, a1, a2, a3, a4, a5, a6, a7, a8, a9, a10, a11, a12, a13, a14, a15)) : wpX_body post (n, t, o, s, a1, a2, a3, a4, a5, a6, a7, a8, a9, a10, a11, a12, a13, a14, a15) 0 q r := by
  unfold wpX_body
  exact tt_nt0 tt_c0 (by decide) hn tt_i0 h1 (br_f (by decide) H)
theorem tt_body_1 {post : Int32 → St2 → Prop} (h1 : a1 1 = 1) (H3 : (q < 1 ∨ ¬ q ≤ 4) → post (-3) (2, t, o, s, a1, a2, a3, a4, a5, a6, a7, a8, a9, a10, a11, a12, a13, a14, a15)) (H0 : ¬ q < 1 → q ≤ 4 → ∀ b7 b8, post 0 (2, t, o, s, a1, a2, a3, a4, a5, a6, b7, b8, a9, a10, a11, a12, a13, a14, a15)) : wpX_body post (2, t, o, s, a1, a2, a3, a4, a5, a6, a7, a8, a9, a10, a11, a12, a13, a14, a15) 1 q r := by
  unfold wpX_body
  exact tt_nt1 tt_c1 (by decide) (by decide) tt_i1 (by rw [h1]; decide) (br_t rfl (br_c (fun z => H3 (Or.inl z)) (fun z1 => br_c (fun z2 => ⟨tt_i1, nm_e ⟨tt_i1, nm_e (H0 z1 z2 _ _)⟩⟩) (fun z => H3 (Or.inr z)))))
theorem tt_dis_x {post : Int32 → St2 → Prop} (h : p < 0 ∨ ¬ p < n) (H : post (-1) (n, t, o, s, a1, a2, a3, a4, a5, a6, a7, a8, a9, a10, a11, a12, a13, a14, a15)) : wpX_disable post (n, t, o, s, a1, a2, a3, a4, a5, a6, a7, a8, a9, a10, a11, a12, a13, a14, a15) p 1 := by
  unfold wpX_disable
  exact tt_nnx h (br_f (by decide) H)
theorem tt_dis {post : Int32 → St2 → Prop} {k : Nat} (hk : p.toNatClampNeg = k) (h0 : ¬ p < 0) (h1 : p < n) (hi : vp_in p 24) (h : a10 k = 0)
    (H : ∀ b10, b10 k = 1 → (∀ j, j ≠ k → b10 j = a10 j) → post 0 (n, t, o, s, a1, a2, a3, a4, a5, a6, a7, a8, a9, b10, a11, a12, a13, a14, a15)) : wpX_disable post (n, t, o, s, a1, a2, a3, a4, a5, a6, a7, a8, a9, a10, a11, a12, a13, a14, a15) p 1 := by
  subst hk
  unfold wpX_disable
  exact tt_nn0 h0 h1 (br_t rfl ⟨hi, br_t h ⟨hi, nm_e (H _ (pk_us.trans tt_b1) (fun j hj => pk_un hj))⟩⟩)
theorem tt_res_x {post : Int32 → Prop} (h : p < 0 ∨ ¬ p < n) (H : post (-1)) : wpX_result post (n, t, o, s, a1, a2, a3, a4, a5, a6, a7, a8, a9, a10, a11, a12, a13, a14, a15) p := by
  unfold wpX_result
  exact tt_nnx h (br_f (by decide) H)
theorem tt_res {post : Int32 → Prop} {k : Nat} (hk : p.toNatClampNeg = k) (h0 : ¬ p < 0) (h1 : p < n) (hi : vp_in p 24) (H : post (a11 k)) : wpX_result post (n, t, o, s, a1, a2, a3, a4, a5, a6, a7, a8, a9, a10, a11, a12, a13, a14, a15) p := by
  subst hk
  unfold wpX_result
  exact tt_nn0 h0 h1 (br_t rfl ⟨hi, H⟩)
theorem tt_count1 {post : Int32 → Prop} (hk : ¬ p < 1) (hk3 : p ≤ 3) (h1 : a1 0 = 0) (H : post 0) : wpX_count post (1, t, o, s, a1, a2, a3, a4, a5, a6, a7, a8, a9, a10, a11, a12, a13, a14, a15) p :=
  br_f hk (br_t hk3 ⟨2, br_f (by decide) ⟨tt_i0, br_t h1 (nm_r (e' := 1) rfl (br_t (by decide) H))⟩⟩)
theorem tt_count2 {post : Int32 → Prop} (hk : ¬ p < 1) (hk3 : p ≤ 3) (h1 : a1 0 = 0) (h2 : a1 1 = 1) (He : a11 1 = p → post 1) (Hn : ¬ a11 1 = p → post 0) : wpX_count post (2, t, o, s, a1, a2, a3, a4, a5, a6, a7, a8, a9, a10, a11, a12, a13, a14, a15) p :=
  br_f hk (br_t hk3 ⟨3, br_f (by decide) ⟨tt_i0, br_t h1 (nm_r (e' := 1) rfl (br_f (by decide) ⟨tt_i1, br_f (by rw [tt_c1, h2]; decide) ⟨tt_i1,
    br_c (fun z => nm_r (e' := 1) rfl (nm_r (e' := 2) rfl (br_t (by decide) (He z)))) (fun z => nm_r (e' := 2) rfl (br_t (by decide) (Hn z)))⟩⟩))⟩⟩)
end
end
section
section
variable {n t o s p q : Int32} {a1 a2 a3 a4 a5 a6 a7 a8 a9 a10 a11 a12 a13 a14 a15 : Nat → Int32}
theorem tt_child0 {post : Int32 → Prop} (hc : a3 0 = -1 ∨ (a3 0 = 1 ∧ a14 1 = 0 ∧ a5 1 = -1)) (H : post 0) : wpX_childTakesPart post (n, t, o, s, a1, a2, a3, a4, a5, a6, a7, a8, a9, a10, a11, a12, a13, a14, a15) 0 := by
  rcases hc with h | ⟨h, h14, h5⟩
  · exact ⟨tt_i0, nm_r (e' := -1) h ⟨1, br_f (by decide) (br_t (by decide) H)⟩⟩
  · exact ⟨tt_i0, nm_r (e' := 1) h ⟨2, br_f (by decide) (br_f (by decide) ⟨tt_i1, br_t h14 ⟨tt_i1, nm_r (e' := -1) h5 (nm_r (e' := 1) rfl (br_f (by decide) (br_t (by decide) H)))⟩⟩)⟩⟩
theorem tt_child1 {post : Int32 → Prop} (h : a3 0 = 1) (h14 : a14 1 = 1) (H : post 1) : wpX_childTakesPart post (n, t, o, s, a1, a2, a3, a4, a5, a6, a7, a8, a9, a10, a11, a12, a13, a14, a15) 0 :=
  ⟨tt_i0, nm_r (e' := 1) h ⟨1, br_f (by decide) (br_f (by decide) ⟨tt_i1, br_f (by rw [tt_c1, h14]; decide) H⟩)⟩⟩
/-- the pass up, at the root: the root falls out -/
theorem tt_71z {post : St2 → Prop} (h1 : a1 0 = 0) (hc : a14 0 = 0 ∨ a3 0 = -1 ∨ (a3 0 = 1 ∧ a14 1 = 0 ∧ a5 1 = -1)) (H : ∀ b14, b14 0 = 0 → post (n, t, o, s, a1, a2, a3, a4, a5, a6, a7, a8, a9, a10, a11, a12, a13, b14, a15)) : wX_choose_71 post 1 n t o s 2 0 a1 a2 a3 a4 a5 a6 a7 a8 a9 a10 a11 a12 a13 a14 a15 :=
  br_f (by decide) ⟨tt_i0, br_t h1 ⟨tt_i0, br_c (fun _ => ⟨tt_i0, nm_e (nm_r (e' := -1) rfl (br_t (by decide) (H _ pk_us)))⟩)
    (fun z => tt_child0 (hc.elim (fun y => absurd y z) (fun y => y)) (br_t rfl ⟨tt_i0, nm_e (nm_r (e' := -1) rfl (br_t (by decide) (H _ pk_us)))⟩))⟩⟩
/-- at the test, which takes no part -/
theorem tt_71y {post : St2 → Prop} (h1 : a1 0 = 0) (h2 : a1 1 = 1) (h14 : a14 1 = 0) (hc : a14 0 = 0 ∨ (a3 0 = 1 ∧ a5 1 = -1)) (H : ∀ b14, b14 0 = 0 → post (n, t, o, s, a1, a2, a3, a4, a5, a6, a7, a8, a9, a10, a11, a12, a13, b14, a15)) : wX_choose_71 post 1 n t o s 3 1 a1 a2 a3 a4 a5 a6 a7 a8 a9 a10 a11 a12 a13 a14 a15 :=
  br_f (by decide) ⟨tt_i1, br_f (by rw [tt_c1, h2]; decide) ⟨tt_i1, br_t h14 ⟨tt_i1, nm_e (nm_r (e' := 0) rfl
    (tt_71z h1 (hc.elim (fun y => Or.inl ((pk_un (by decide)).trans y)) (fun y => Or.inr (Or.inr ⟨y.1, pk_us, y.2⟩))) H))⟩⟩⟩
/-- the test takes part, and so the root -/
theorem tt_71w {post : St2 → Prop} (h1 : a1 0 = 0) (h2 : a1 1 = 1) (h3 : a3 0 = 1) (h9 : a9 1 = 1) (h0 : a14 0 = 1) (h14 : a14 1 = 1) (H : ∀ b14, b14 0 = 1 → b14 1 = 1 → post (n, t, o, s, a1, a2, a3, a4, a5, a6, a7, a8, a9, a10, a11, a12, a13, b14, a15)) : wX_choose_71 post 1 n t o s 3 1 a1 a2 a3 a4 a5 a6 a7 a8 a9 a10 a11 a12 a13 a14 a15 :=
  br_f (by decide) ⟨tt_i1, br_f (by rw [tt_c1, h2]; decide) ⟨tt_i1, br_f (by rw [tt_c1, h14]; decide) ⟨tt_i1, br_f (by rw [tt_c1, h9]; decide) ⟨tt_i1, nm_e (nm_r (e' := 0) rfl
    (br_f (by decide) ⟨tt_i0, br_t h1 ⟨tt_i0, br_f (by rw [tt_c0, pk_un (by decide), h0]; decide) (tt_child1 h3 pk_us (br_f (by decide) ⟨tt_i0, nm_e (nm_r (e' := -1) rfl (br_t (by decide)
      (H _ pk_us ((pk_un (by decide)).trans pk_us))))⟩))⟩⟩))⟩⟩⟩⟩
/-- choose, where the root takes no part in the end -/
theorem tt_choose0 {post : St2 → Prop} (h1 : a1 0 = 0)
    (hc : (n = 1 ∧ (¬ a10 0 = 0 ∨ a3 0 = -1)) ∨ (n = 2 ∧ a1 1 = 1 ∧ a2 1 = 0 ∧ (¬ a10 0 = 0 ∨ (¬ a10 1 = 0 ∧ a3 0 = 1 ∧ a5 1 = -1))))
    (H : ∀ b14, b14 0 = 0 → post (n, t, o, s, a1, a2, a3, a4, a5, a6, a7, a8, a9, a10, a11, a12, a13, b14, a15)) : wpX_choose post (n, t, o, s, a1, a2, a3, a4, a5, a6, a7, a8, a9, a10, a11, a12, a13, a14, a15) 1 := by
  rcases hc with ⟨rfl, hc⟩ | ⟨rfl, h2, hp, hc⟩
  · refine ⟨2, br_f (by decide) ⟨tt_i0, br_c (fun z => br_t (by decide) (br_t rfl ⟨tt_i0, nm_e (nm_r (e' := 1) rfl (br_t (by decide) (nm_r (e' := 0) rfl ⟨2, ?_⟩)))⟩)) (fun z => br_f (by decide) ⟨tt_i0, nm_e (nm_r (e' := 1) rfl (br_t (by decide) (nm_r (e' := 0) rfl ⟨2, ?_⟩)))⟩)⟩⟩
    · exact tt_71z h1 (hc.elim (fun y => absurd z y) (fun y => Or.inr (Or.inl y))) H
    · exact tt_71z h1 (Or.inl pk_us) H
  · have e2 : a2 (1 : Int32).toNatClampNeg = 0 := hp
    have i2 : vp_in (a2 (1 : Int32).toNatClampNeg) 24 := by
      rw [e2]
      exact tt_i0
    have k2 : (a2 (1 : Int32).toNatClampNeg).toNatClampNeg = 0 := by
      rw [e2]
      exact tt_c0
    refine ⟨3, br_f (by decide) ⟨tt_i0, br_c (fun z => br_t (by decide) (br_t rfl ⟨tt_i0, nm_e (nm_r (e' := 1) rfl ?_)⟩)) (fun z => br_f (by decide) ⟨tt_i0, nm_e (nm_r (e' := 1) rfl ?_)⟩)⟩⟩
    · obtain ⟨g, g3, g5⟩ := hc.elim (fun y => absurd z y) (fun y => y)
      exact br_f (by decide) ⟨tt_i1, br_f g (br_f (by decide) ⟨tt_i1, nm_e (nm_r (e' := 2) rfl (br_t (by decide) (nm_r (e' := 1) rfl ⟨3, tt_71y h1 h2 pk_us (Or.inr ⟨g3, g5⟩) H⟩)))⟩)⟩
    · have F : wX_choose_71 post 1 2 t o s 3 1 a1 a2 a3 a4 a5 a6 a7 a8 a9 a10 a11 a12 a13 (upd (upd a14 (0 : Int32).toNatClampNeg 0) (1 : Int32).toNatClampNeg 0) a15 := tt_71y h1 h2 pk_us (Or.inl ((pk_un (by decide)).trans pk_us)) H
      refine br_f (by decide) ⟨tt_i1, br_c (fun y => br_f (by decide) ⟨tt_i1, i2, br_t (by rw [k2]; exact pk_us) ?_⟩) (fun y => ?_)⟩
      · exact br_f (by decide) ⟨tt_i1, nm_e (nm_r (e' := 2) rfl (br_t (by decide) (nm_r (e' := 1) rfl ⟨3, F⟩)))⟩
      · exact br_f (by decide) ⟨tt_i1, nm_e (nm_r (e' := 2) rfl (br_t (by decide) (nm_r (e' := 1) rfl ⟨3, F⟩)))⟩
/-- choose, where both nodes take part -/
theorem tt_choose1 {post : St2 → Prop} (h1 : a1 0 = 0) (h2 : a1 1 = 1) (hp : a2 1 = 0) (h3 : a3 0 = 1) (h9 : a9 1 = 1) (ha : a10 0 = 0) (hb : a10 1 = 0)
    (H : ∀ b14, b14 0 = 1 → b14 1 = 1 → post (2, t, o, s, a1, a2, a3, a4, a5, a6, a7, a8, a9, a10, a11, a12, a13, b14, a15)) : wpX_choose post (2, t, o, s, a1, a2, a3, a4, a5, a6, a7, a8, a9, a10, a11, a12, a13, a14, a15) 1 := by
  have e2 : a2 (1 : Int32).toNatClampNeg = 0 := hp
  have i2 : vp_in (a2 (1 : Int32).toNatClampNeg) 24 := by
    rw [e2]
    exact tt_i0
  have k2 : (a2 (1 : Int32).toNatClampNeg).toNatClampNeg = 0 := by
    rw [e2]
    exact tt_c0
  have d0 : upd a14 (0 : Int32).toNatClampNeg 1 0 = 1 := pk_us
  have F : wX_choose_71 post 1 2 t o s 3 1 a1 a2 a3 a4 a5 a6 a7 a8 a9 a10 a11 a12 a13 (upd (upd a14 (0 : Int32).toNatClampNeg 1) (1 : Int32).toNatClampNeg 1) a15 := tt_71w h1 h2 h3 h9 ((pk_un (by decide)).trans d0) pk_us H
  exact ⟨3, br_f (by decide) ⟨tt_i0, br_t ha (br_t (by decide) (br_t rfl ⟨tt_i0, nm_e (nm_r (e' := 1) rfl
    (br_f (by decide) ⟨tt_i1, br_t hb (br_f (by decide) ⟨tt_i1, i2, br_f (by rw [k2, d0]; decide) (br_t rfl ⟨tt_i1, nm_e (nm_r (e' := 2) rfl (br_t (by decide) (nm_r (e' := 1) rfl ⟨3, F⟩)))⟩)⟩)⟩))⟩))⟩⟩
/-- a hook of the root that isn't there -/
theorem tt_carry {post : Int32 → St2 → Prop} {k : Nat} (hp : p = 0) (hq : q = nI k) (hk : k < 4) (h6 : ∀ j, a6 j = 0) (H : post 0 (n, t, o, s, a1, a2, a3, a4, a5, a6, a7, a8, a9, a10, a11, a12, a13, a14, a15)) : wpX_carryOut post (n, t, o, s, a1, a2, a3, a4, a5, a6, a7, a8, a9, a10, a11, a12, a13, a14, a15) p q := by
  subst hp
  subst hq
  have e : (0 : Int32) * 4 + nI k = nI k := by
    show nI 0 * nI 4 + nI k = nI k
    rw [pk_mul, nI_add, Nat.zero_mul, Nat.zero_add]
  have hi : vp_in ((0 : Int32) * 4 + nI k) 96 := by
    rw [e]
    exact vp_in_nI (by omega) (by decide)
  exact ⟨hi, nm_r (e' := 0) (h6 _) (br_t rfl H)⟩
theorem tt_worse {post : Int32 → Prop} (h2 : ¬ p = 2) (h3 : ¬ p = 3) (H : post 1) : wpX_worse post () 1 p := br_f (by decide) (br_f h2 (br_f (by decide) (br_f h3 H)))
theorem tt_note {post : St2 → Prop} (h2 : ¬ p = 2) (h3 : ¬ p = 3) (H : post (n, t, o, 1, a1, a2, a3, a4, a5, a6, a7, a8, a9, a10, a11, a12, a13, a14, a15)) : wpX_note post (n, t, o, 1, a1, a2, a3, a4, a5, a6, a7, a8, a9, a10, a11, a12, a13, a14, a15) p := by
  unfold wpX_note
  exact tt_worse h2 h3 H
theorem tt_enter {post : Int32 → St2 → Prop} (h3 : a3 0 = 1) (h6 : ∀ j, a6 j = 0) (H : ∀ b11 b15, b11 0 = 1 → b15 0 = 0 → post 1 (n, t, 1, s, a1, a2, a3, a4, a5, a6, a7, a8, a9, a10, b11, a12, a13, a14, b15)) : wpX_enter post (n, t, 0, s, a1, a2, a3, a4, a5, a6, a7, a8, a9, a10, a11, a12, a13, a14, a15) 0 := by
  have e3 : a3 (0 : Int32).toNatClampNeg = 1 := h3
  have F : post (a3 (0 : Int32).toNatClampNeg) (n, t, 1, s, a1, a2, a3, a4, a5, a6, a7, a8, a9, a10, upd a11 (0 : Int32).toNatClampNeg 1, a12, a13, a14, upd a15 (0 : Int32).toNatClampNeg 0) := by
    rw [e3]
    exact H _ _ pk_us pk_us
  unfold wpX_enter
  exact tt_carry rfl (k := 0) rfl (by decide) h6 (tt_worse (by decide) (by decide) ⟨tt_i0, nm_e ⟨tt_i0, nm_e (nm_r (e' := 1) rfl ⟨tt_i0, br_t pk_us ⟨tt_i0, F⟩⟩)⟩⟩)
theorem tt_down {post : Int32 → St2 → Prop} (h6 : ∀ j, a6 j = 0) (h15 : a15 0 = 0) (H : post 1 (n, t, 1, 1, a1, a2, a3, a4, a5, a6, a7, a8, a9, a10, a11, a12, a13, a14, a15)) : wpX_goDown post (n, t, 1, 1, a1, a2, a3, a4, a5, a6, a7, a8, a9, a10, a11, a12, a13, a14, a15) :=
  ⟨2, br_f (by decide) (br_t rfl ⟨tt_i0, tt_carry h15 (k := 2) rfl (by decide) h6 (tt_note (by decide) (by decide) (nm_r (e' := 1) rfl (br_t (by decide) H)))⟩)⟩
theorem tt_bo {post : Int32 → Prop} (h8 : a8 1 = 1) (H : post 1) : wpX_bodyOutcome post (n, t, o, s, a1, a2, a3, a4, a5, a6, a7, a8, a9, a10, a11, a12, a13, a14, a15) 1 0 :=
  ⟨tt_i1, nm_r (e' := 1) (by rw [tt_c1, h8]; decide) (br_f (by decide) H)⟩
theorem tt_attempt {post : Int32 → St2 → Prop} (h6 : ∀ j, a6 j = 0) (h8 : a8 1 = 1) (h15 : a15 0 = 0) (H : ∀ t' b12, post 1 (n, t', 1, 1, a1, a2, a3, a4, a5, a6, a7, a8, a9, a10, a11, b12, a13, a14, a15)) : wpX_attempt post (n, t, 1, s, a1, a2, a3, a4, a5, a6, a7, a8, a9, a10, a11, a12, a13, a14, a15) 1 0 := by
  unfold wpX_attempt
  exact tt_down h6 h15 (br_t rfl ⟨pk_in 4 96 (by decide), pk_in 4 96 (by decide), nm_e (nm_e (tt_bo h8 (tt_note (by decide) (by decide) (nm_r (e' := 0) rfl ⟨2,
    br_f (by decide) ⟨tt_i0, tt_carry h15 (k := 3) rfl (by decide) h6 (tt_note (by decide) (by decide) (nm_r (e' := -1) rfl (br_t (by decide) (H _ _))))⟩⟩))))⟩)
theorem tt_runTest {post : St2 → Prop} (h6 : ∀ j, a6 j = 0) (h7 : a7 1 = 1) (h8 : a8 1 = 1) (h15 : a15 0 = 0) (H : ∀ t' b11 b12 b13, b11 1 = 1 → b11 0 = a11 0 → post (n, t', 1, 1, a1, a2, a3, a4, a5, a6, a7, a8, a9, a10, b11, b12, b13, a14, a15)) : wpX_runTest post (n, t, 1, s, a1, a2, a3, a4, a5, a6, a7, a8, a9, a10, a11, a12, a13, a14, a15) 1 :=
  ⟨2, tt_i1, br_f (by rw [tt_c1, h7]; decide) (br_t rfl (tt_attempt h6 h8 h15 (fun t' b12 => ⟨tt_i1, tt_i1, nm_e (nm_r (e' := 1) rfl ⟨tt_i1, br_t (by rw [tt_c1, h7]; decide) ⟨tt_i1, nm_e (H _ _ _ _ pk_us (pk_un (by decide)))⟩⟩)⟩)))⟩
theorem tt_leave {post : St2 → Prop} (h6 : ∀ j, a6 j = 0) (h11 : a11 0 = 1) (h15 : a15 0 = 0) (H : ∀ b11, b11 1 = a11 1 → post (n, t, 0, s, a1, a2, a3, a4, a5, a6, a7, a8, a9, a10, b11, a12, a13, a14, a15)) : wpX_leave post (n, t, 1, s, a1, a2, a3, a4, a5, a6, a7, a8, a9, a10, a11, a12, a13, a14, a15) := by
  have e11 : a11 (0 : Int32).toNatClampNeg = 1 := h11
  refine nm_r (e' := 0) rfl ⟨tt_i0, nm_r (e' := 0) h15 (tt_carry rfl (k := 1) rfl (by decide) h6 ⟨tt_i0, ?_⟩)⟩
  rw [e11]
  exact tt_worse (by decide) (by decide) ⟨tt_i0, nm_e (H _ (pk_un (by decide)))⟩
theorem tt_walk {post : St2 → Prop} (h1 : a1 1 = 1) (h3 : a3 0 = 1) (h50 : a5 0 = -1) (h51 : a5 1 = -1) (h6 : ∀ j, a6 j = 0) (h7 : a7 1 = 1) (h8 : a8 1 = 1) (h14 : a14 1 = 1)
    (H : ∀ t' s' b11 b12 b13 b15, b11 1 = 1 → post (n, t', 0, s', a1, a2, a3, a4, a5, a6, a7, a8, a9, a10, b11, b12, b13, a14, b15)) : wpX_walk post (n, t, o, s, a1, a2, a3, a4, a5, a6, a7, a8, a9, a10, a11, a12, a13, a14, a15) := by
  unfold wpX_walk
  refine tt_enter h3 h6 (fun b11 b15 e11 e15 => ⟨3, br_f (by decide) (br_f (by decide) (br_t (by decide) ⟨tt_i1, br_f (by rw [tt_c1, h14]; decide) ⟨tt_i1, br_f (by rw [tt_c1, h1]; decide)
    (tt_runTest h6 h7 h8 e15 (fun t' c11 c12 c13 f1 f0 => ⟨tt_i1, nm_r (e' := -1) h51 (nm_r (e' := 1) rfl ?_)⟩))⟩⟩))⟩)
  exact br_f (by decide) (br_f (by decide) (br_f (by decide) ⟨tt_i0, nm_r (e' := 0) e15 (tt_leave h6 (f0.trans e11) e15 (fun d11 g => ⟨tt_i0, nm_r (e' := -1) h50 (nm_r (e' := 2) rfl
    (br_f (by decide) (br_t (by decide) (H _ _ _ _ _ _ (g.trans f1)))))⟩))⟩))
/-- run: the tables are cleared, then what choose says decides -/
theorem tt_run {post : Int32 → St2 → Prop} (Q : (Nat → Int32) → Prop)
    (C : ∀ (P : St2 → Prop) (b11 b12 b13 : Nat → Int32), (∀ b14, Q b14 → P (n, 0, o, s, a1, a2, a3, a4, a5, a6, a7, a8, a9, a10, b11, b12, b13, b14, a15)) → wpX_choose P (n, 0, o, s, a1, a2, a3, a4, a5, a6, a7, a8, a9, a10, b11, b12, b13, a14, a15) 1)
    (H : ∀ b11 b12 b13 b14 : Nat → Int32, (∀ j, j < 24 → b11 j = 0) → Q b14 → (b14 0 = 0 → wX_run_72 post n 0 o s a1 a2 a3 a4 a5 a6 a7 a8 a9 a10 b11 b12 b13 b14 a15) ∧
      (¬ b14 0 = 0 → ∀ P : St2 → Prop, (∀ (m t' o' s' : Int32) (c1 c2 c3 c4 c5 c6 c7 c8 c9 c10 c11 c12 c13 c14 c15 : Nat → Int32), wX_run_72 post m t' o' s' c1 c2 c3 c4 c5 c6 c7 c8 c9 c10 c11 c12 c13 c14 c15 →
        P (m, t', o', s', c1, c2, c3, c4, c5, c6, c7, c8, c9, c10, c11, c12, c13, c14, c15)) → wpX_walk P (n, 0, o, s, a1, a2, a3, a4, a5, a6, a7, a8, a9, a10, b11, b12, b13, b14, a15))) : wpX_run post (n, t, o, s, a1, a2, a3, a4, a5, a6, a7, a8, a9, a10, a11, a12, a13, a14, a15) 1 := by
  refine pk_loop (fun m i x => wX_run_2 post 1 n t o s m (nI i) a1 a2 a3 a4 a5 a6 a7 a8 a9 a10 x.1 a12 x.2 a14 a15) (fun i x => ∀ j, j < i → x.1 j = 0) 24 0 (a11, a13) (by decide) (fun j hj => absurd hj (by omega)) ?_ ?_
  · intro m x hx
    refine pk_le 24 24 (fun _ => ?_) (fun z => absurd z (by omega))
    refine pk_loop (fun m i y => wX_run_30 post 1 n t o s m (nI i) a1 a2 a3 a4 a5 a6 a7 a8 a9 a10 x.1 y x.2 a14 a15) (fun i y => True) 96 0 a12 (by decide) trivial ?_ ?_
    · intro m y _
      exact pk_le 96 96 (fun _ => C _ _ _ _ (fun b14 hb => ⟨(H _ _ _ _ hx hb).1, fun z => (H _ _ _ _ hx hb).2 z _ (fun _ _ _ _ _ _ _ _ _ _ _ _ _ _ _ _ _ _ _ k => k)⟩)) (fun z => absurd z (by omega))
    · intro m i y hi _ hw
      exact pk_le 96 i (fun z => absurd z (by omega)) (fun _ => ⟨pk_in i 96 hi, nm_e (nm_r (nI_1 i) (hw _ trivial))⟩)
  · intro m i x hi hx hw
    refine pk_le 24 i (fun z => absurd z (by omega)) (fun _ => ⟨pk_in i 24 hi, nm_e ⟨pk_in i 24 hi, nm_e (nm_r (nI_1 i) (hw (_, _) ?_))⟩⟩)
    intro j hj
    show upd x.1 (nI i).toNatClampNeg 0 j = 0
    rw [nI_clamp (show i < 2 ^ 31 by omega)]
    by_cases e : j = i
    · rw [e, pk_us]
    · rw [pk_un e]
      exact hx j (by omega)
end
end
section
section
variable {n t o s x0 x1 x2 x3 x4 z f g w : Int32} {kc ks mc ms : Nat} {a1 a2 a3 a4 a5 a6 a7 a8 a9 a10 a11 a12 a13 a14 a15 : Nat → Int32} {post : Int32 → St0 → Prop}
/-- z says whether the hook's outcome is bad -/
def tt_bad (x2 x3 z : Int32) : Prop := (z = 0 ∧ ¬ x2 < 0 ∧ ¬ 3 < x2 ∧ ¬ x3 < 0 ∧ x3 ≤ 3) ∨ (z = 1 ∧ (x2 < 0 ∨ 3 < x2 ∨ x3 < 0 ∨ ¬ x3 ≤ 3))
/-- z says whether the attempts are too many, or none -/
def tt_many (x4 z : Int32) : Prop := (z = 0 ∧ ¬ x4 < 1 ∧ x4 ≤ 4) ∨ (z = 1 ∧ (x4 < 1 ∨ ¬ x4 ≤ 4))
theorem tt_255 {z : Int32} : wL_lawOf_255 (fun r _ => r = 1) mc ms z z kc ks := br_t rfl rfl
theorem tt_count0 {post : Int32 → Prop} {p : Int32} (hk : ¬ p < 1) (hk3 : p ≤ 3) (h1 : a1 0 = 0) (hn : n = 1 ∨ (n = 2 ∧ a1 1 = 1)) (h : ¬ a11 1 = p) (H : post 0) : wpX_count post (n, t, o, s, a1, a2, a3, a4, a5, a6, a7, a8, a9, a10, a11, a12, a13, a14, a15) p := by
  rcases hn with rfl | ⟨rfl, h2⟩
  · exact tt_count1 hk hk3 h1 H
  · exact tt_count2 hk hk3 h1 h2 (fun y => absurd y h) (fun _ => H)
theorem tt_result {post : Int32 → Prop} (hx : (x1 = 0 ∧ 0 < n) ∨ (x1 = 1 ∧ n = 2)) (h : ∀ j, j < 24 → a11 j = 0) (H : post 0) : wpX_result post (n, t, o, s, a1, a2, a3, a4, a5, a6, a7, a8, a9, a10, a11, a12, a13, a14, a15) x1 := by
  rcases hx with ⟨rfl, hn⟩ | ⟨rfl, rfl⟩
  · exact tt_res tt_c0 (by decide) hn tt_i0 (by rw [h 0 (by decide)]; exact H)
  · exact tt_res tt_c1 (by decide) (by decide) tt_i1 (by rw [h 1 (by decide)]; exact H)
/-- the end of the law where no test is run -/
theorem tt_e0 (h1 : a1 0 = 0) (hc : (n = 1 ∧ (¬ a10 0 = 0 ∨ a3 0 = -1)) ∨ (n = 2 ∧ a1 1 = 1 ∧ a2 1 = 0 ∧ (¬ a10 0 = 0 ∨ (¬ a10 1 = 0 ∧ a3 0 = 1 ∧ a5 1 = -1))))
    (hx : (g = 0 ∧ (x1 < 0 ∨ ¬ x1 < n)) ∨ (g = 1 ∧ ((x1 = 0 ∧ 0 < n) ∨ (x1 = 1 ∧ n = 2)))) : wL_lawOf_207 (fun r _ => r = 1) mc ms x1 g 0 kc ks n t o s a1 a2 a3 a4 a5 a6 a7 a8 a9 a10 a11 a12 a13 a14 a15 := by
  have hn : n = 1 ∨ (n = 2 ∧ a1 1 = 1) := hc.elim (fun y => Or.inl y.1) (fun y => Or.inr ⟨y.1, y.2.1⟩)
  unfold wL_lawOf_207
  refine tt_run (fun b => b 0 = 0) (fun P b11 b12 b13 hP => tt_choose0 h1 hc hP) (fun b11 b12 b13 b14 hz h0 => br_t h0 ?_)
  have z1 : b11 1 = 0 := hz 1 (by decide)
  refine tt_count0 (by decide) (by decide) h1 hn (by rw [z1]; decide) (br_t rfl ?_)
  rcases hx with ⟨rfl, hx⟩ | ⟨rfl, hx⟩
  · exact tt_res_x hx (br_t rfl (br_t rfl (tt_count0 (by decide) (by decide) h1 hn (by rw [z1]; decide) (br_t rfl tt_255))))
  · exact tt_result hx hz (br_f (by decide) (br_t rfl (tt_count0 (by decide) (by decide) h1 hn (by rw [z1]; decide) (br_t rfl tt_255))))
/-- the end of the law where the test is run -/
theorem tt_e1 (h1 : a1 0 = 0) (h2 : a1 1 = 1) (hp : a2 1 = 0) (h3 : a3 0 = 1) (h50 : a5 0 = -1) (h51 : a5 1 = -1) (h6 : ∀ j, a6 j = 0) (h7 : a7 1 = 1) (h8 : a8 1 = 1) (h9 : a9 1 = 1) (h10 : ∀ j, a10 j = 0)
    (hx : x1 < 0 ∨ ¬ x1 < 2) : wL_lawOf_207 (fun r _ => r = 1) mc ms x1 0 1 kc ks 2 t o s a1 a2 a3 a4 a5 a6 a7 a8 a9 a10 a11 a12 a13 a14 a15 := by
  unfold wL_lawOf_207
  refine tt_run (fun b => b 0 = 1 ∧ b 1 = 1) (fun P b11 b12 b13 hP => tt_choose1 h1 h2 hp h3 h9 (h10 0) (h10 1) (fun b14 y0 y1 => hP b14 ⟨y0, y1⟩)) (fun b11 b12 b13 b14 hz h0 => br_f (by rw [h0.1]; decide) (fun P K => ?_))
  refine tt_walk h2 h3 h50 h51 h6 h7 h8 h0.2 (fun t' s' c11 c12 c13 c15 e => K _ _ _ _ _ _ _ _ _ _ _ _ _ _ _ _ _ _ _ ?_)
  refine tt_count2 (p := 2) (by decide) (by decide) h1 h2 (fun y => absurd (e.symm.trans y) (by decide)) (fun _ => br_t rfl ?_)
  exact tt_res_x hx (br_t rfl (br_t rfl (tt_count2 (p := 1) (by decide) (by decide) h1 h2 (fun _ => br_f (by decide) tt_255) (fun y => absurd e y))))
theorem tt_24 (H : ∀ w, tt_bad x2 x3 w → wL_lawOf_52 post mc ms x0 x1 x2 x3 x4 w kc ks n t o s a1 a2 a3 a4 a5 a6 a7 a8 a9 a10 a11 a12 a13 a14 a15) : wL_lawOf_24 post mc ms x0 x1 x2 x3 x4 z z kc ks n t o s a1 a2 a3 a4 a5 a6 a7 a8 a9 a10 a11 a12 a13 a14 a15 :=
  br_t rfl (br_c (fun y => H 1 (Or.inr ⟨rfl, Or.inl y⟩)) (fun y1 => br_c (fun y => H 1 (Or.inr ⟨rfl, Or.inr (Or.inl y)⟩)) (fun y2 => br_c (fun y => H 1 (Or.inr ⟨rfl, Or.inr (Or.inr (Or.inl y))⟩))
    (fun y3 => br_c (fun y4 => H 0 (Or.inl ⟨rfl, y1, y2, y3, y4⟩)) (fun y => H 1 (Or.inr ⟨rfl, Or.inr (Or.inr (Or.inr y))⟩))))))
theorem tt_52 (hn : 0 < n) (h1 : a1 0 = 0) (h6 : ∀ j, a6 j = 0) (hz : tt_bad x2 x3 w) (hx : x1 = 0 ∨ (x1 < 0 ∨ ¬ x1 < n) ∨ (x1 = 1 ∧ n = 2 ∧ a1 1 = 1))
    (H : ∀ b6 z, (x1 = 0 ∨ b6 = a6) → wL_lawOf_81 post mc ms x0 x1 x3 x4 z z kc ks n t o s a1 a2 a3 a4 a5 b6 a7 a8 a9 a10 a11 a12 a13 a14 a15) : wL_lawOf_52 post mc ms x0 x1 x2 x3 x4 w kc ks n t o s a1 a2 a3 a4 a5 a6 a7 a8 a9 a10 a11 a12 a13 a14 a15 := by
  unfold wL_lawOf_52
  by_cases e : x1 = 0
  · subst e
    refine tt_hook_0 hn h1 h6 (fun y => br_t rfl (br_f ?_ (H _ _ (Or.inl rfl)))) (fun y1 y2 y3 y4 b6 => br_t rfl (br_t ?_ (H _ _ (Or.inl rfl))))
    · rcases hz with ⟨_, k1, k2, k3, k4⟩ | ⟨k, _⟩
      · rcases y with y | y | y | y
        · exact absurd y k1
        · exact absurd y k2
        · exact absurd y k3
        · exact absurd k4 y
      · rw [k]
        decide
    · rcases hz with ⟨k, _⟩ | ⟨_, y⟩
      · exact k
      · rcases y with y | y | y | y
        · exact absurd y y1
        · exact absurd y y2
        · exact absurd y y3
        · exact absurd y4 y
  · rcases hx with hx | hx | ⟨rfl, rfl, h2⟩
    · exact absurd hx e
    · exact tt_hook_x hx (br_f e (H _ _ (Or.inr rfl)))
    · exact tt_hook_1 h2 (br_f e (H _ _ (Or.inr rfl)))
theorem tt_81 (H : ∀ f, (f = 1 ∧ x0 = 0 ∧ x1 = 1) ∨ (f = 0 ∧ ¬ (x0 = 0 ∧ x1 = 1)) → wL_lawOf_100 post mc ms x0 x1 x3 x4 f kc ks n t o s a1 a2 a3 a4 a5 a6 a7 a8 a9 a10 a11 a12 a13 a14 a15) : wL_lawOf_81 post mc ms x0 x1 x3 x4 z z kc ks n t o s a1 a2 a3 a4 a5 a6 a7 a8 a9 a10 a11 a12 a13 a14 a15 :=
  br_t rfl (br_c (fun y0 => br_c (fun y1 => H 1 (Or.inl ⟨rfl, y0, y1⟩)) (fun y1 => H 0 (Or.inr ⟨rfl, fun k => y1 k.2⟩))) (fun y0 => H 0 (Or.inr ⟨rfl, fun k => y0 k.1⟩)))
theorem tt_100 (H : ∀ w, tt_many x4 w → wL_lawOf_119 post mc ms x0 x1 x3 x4 f w kc ks n t o s a1 a2 a3 a4 a5 a6 a7 a8 a9 a10 a11 a12 a13 a14 a15) : wL_lawOf_100 post mc ms x0 x1 x3 x4 f kc ks n t o s a1 a2 a3 a4 a5 a6 a7 a8 a9 a10 a11 a12 a13 a14 a15 :=
  br_c (fun y => H 1 (Or.inr ⟨rfl, Or.inl y⟩)) (fun y1 => br_c (fun y2 => H 0 (Or.inl ⟨rfl, y1, y2⟩)) (fun y => H 1 (Or.inr ⟨rfl, Or.inr y⟩)))
theorem tt_119 (hn : 0 < n) (h1 : a1 0 = 0) (hz : tt_many x4 w) (hx : (f = 1 ∧ x1 = 1 ∧ n = 2 ∧ a1 1 = 1) ∨ (f = 0 ∧ (x1 = 0 ∨ (x1 < 0 ∨ ¬ x1 < n))))
    (H : ∀ b7 b8 z, (f = 0 → b7 = a7 ∧ b8 = a8) → wL_lawOf_150 post mc ms x0 x1 f z z kc ks n t o s a1 a2 a3 a4 a5 a6 b7 b8 a9 a10 a11 a12 a13 a14 a15) : wL_lawOf_119 post mc ms x0 x1 x3 x4 f w kc ks n t o s a1 a2 a3 a4 a5 a6 a7 a8 a9 a10 a11 a12 a13 a14 a15 := by
  unfold wL_lawOf_119
  rcases hx with ⟨rfl, rfl, rfl, h2⟩ | ⟨rfl, rfl | hx⟩
  · refine tt_body_1 h2 (fun y => br_f (by decide) (br_f ?_ (H _ _ _ (fun k => absurd k (by decide))))) (fun y1 y2 b7 b8 => br_f (by decide) (br_t ?_ (H _ _ _ (fun k => absurd k (by decide)))))
    · rcases hz with ⟨_, k1, k2⟩ | ⟨k, _⟩
      · exact y.elim (fun y => absurd y k1) (fun y => absurd k2 y)
      · rw [k]
        decide
    · rcases hz with ⟨k, _⟩ | ⟨_, y⟩
      · exact k
      · exact y.elim (fun y => absurd y y1) (fun y => absurd y2 y)
  · exact tt_body_0 hn h1 (br_t rfl (H _ _ _ (fun _ => ⟨rfl, rfl⟩)))
  · exact tt_body_x hx (br_t rfl (H _ _ _ (fun _ => ⟨rfl, rfl⟩)))
theorem tt_150 (H : ∀ g, (g = 1 ∧ (x1 = 0 ∨ ¬ f = 0)) ∨ (g = 0 ∧ ¬ x1 = 0 ∧ f = 0) → wL_lawOf_169 post mc ms x0 x1 g kc ks n t o s a1 a2 a3 a4 a5 a6 a7 a8 a9 a10 a11 a12 a13 a14 a15) : wL_lawOf_150 post mc ms x0 x1 f z z kc ks n t o s a1 a2 a3 a4 a5 a6 a7 a8 a9 a10 a11 a12 a13 a14 a15 :=
  br_t rfl (br_c (fun y => H 1 (Or.inl ⟨rfl, Or.inl y⟩)) (fun y1 => br_c (fun y => H 0 (Or.inr ⟨rfl, y1, y⟩)) (fun y => H 1 (Or.inl ⟨rfl, Or.inr y⟩))))
theorem tt_169 (h10 : ∀ j, a10 j = 0) (hx : (g = 0 ∧ (x1 < 0 ∨ ¬ x1 < n)) ∨ (g = 1 ∧ ((x1 = 0 ∧ 0 < n) ∨ (x1 = 1 ∧ n = 2))))
    (H : ∀ b10 z, (g = 0 → b10 = a10) → (g = 1 → x1 = 0 → b10 0 = 1) → (g = 1 → x1 = 1 → b10 1 = 1) → wL_lawOf_188 post mc ms x0 x1 g z z kc ks n t o s a1 a2 a3 a4 a5 a6 a7 a8 a9 b10 a11 a12 a13 a14 a15) : wL_lawOf_169 post mc ms x0 x1 g kc ks n t o s a1 a2 a3 a4 a5 a6 a7 a8 a9 a10 a11 a12 a13 a14 a15 := by
  unfold wL_lawOf_169
  rcases hx with ⟨rfl, hx⟩ | ⟨rfl, ⟨rfl, hn⟩ | ⟨rfl, rfl⟩⟩
  · exact tt_dis_x hx (br_t rfl (H _ _ (fun _ => rfl) (fun k => absurd k (by decide)) (fun k => absurd k (by decide))))
  · exact tt_dis tt_c0 (by decide) hn tt_i0 (h10 0) (fun b10 hb _ => br_f (by decide) (H _ _ (fun k => absurd k (by decide)) (fun _ _ => hb) (fun _ k => absurd k (by decide))))
  · exact tt_dis tt_c1 (by decide) (by decide) tt_i1 (h10 1) (fun b10 hb _ => br_f (by decide) (H _ _ (fun k => absurd k (by decide)) (fun _ k => absurd k (by decide)) (fun _ _ => hb)))
theorem tt_188 (H : ∀ w, (w = 1 ∧ x0 = 0 ∧ g = 0) ∨ (w = 0 ∧ ¬ (x0 = 0 ∧ g = 0)) → wL_lawOf_207 post mc ms x1 g w kc ks n t o s a1 a2 a3 a4 a5 a6 a7 a8 a9 a10 a11 a12 a13 a14 a15) : wL_lawOf_188 post mc ms x0 x1 g z z kc ks n t o s a1 a2 a3 a4 a5 a6 a7 a8 a9 a10 a11 a12 a13 a14 a15 :=
  br_t rfl (br_c (fun y0 => br_c (fun y1 => H 1 (Or.inl ⟨rfl, y0, y1⟩)) (fun y1 => H 0 (Or.inr ⟨rfl, fun k => y1 k.2⟩))) (fun y0 => H 0 (Or.inr ⟨rfl, fun k => y0 k.1⟩)))
/-- the law behind test(parent), parent not the root: the tree is the root alone -/
theorem tt_q (h0 : ¬ x0 = 0) (h1 : a1 0 = 0) (h3 : a3 0 = -1) (h6 : ∀ j, a6 j = 0) (h10 : ∀ j, a10 j = 0) : wL_lawOf_24 (fun r _ => r = 1) mc ms x0 x1 x2 x3 x4 z z kc ks 1 t o s a1 a2 a3 a4 a5 a6 a7 a8 a9 a10 a11 a12 a13 a14 a15 := by
  have hx := tt_cl1 x1
  refine tt_24 (fun w1 k1 => tt_52 (by decide) h1 h6 k1 (hx.elim Or.inl (fun y => Or.inr (Or.inl y))) (fun b6 z1 k2 => tt_81 (fun f k3 => tt_100 (fun w2 k4 => ?_))))
  have k3' : f = 0 := k3.elim (fun y => absurd y.2.1 h0) (fun y => y.1)
  subst k3'
  refine tt_119 (by decide) h1 k4 (Or.inr ⟨rfl, hx⟩) (fun b7 b8 z2 k5 => tt_150 (fun g k6 => ?_))
  have k7 : (g = 0 ∧ (x1 < 0 ∨ ¬ x1 < 1)) ∨ (g = 1 ∧ ((x1 = 0 ∧ (0 : Int32) < 1) ∨ (x1 = 1 ∧ (1 : Int32) = 2))) := by
    rcases k6 with ⟨k, y⟩ | ⟨k, y, _⟩
    · exact Or.inr ⟨k, Or.inl ⟨y.elim (fun y => y) (fun y => absurd rfl y), by decide⟩⟩
    · exact Or.inl ⟨k, hx.elim (fun e => absurd e y) (fun e => e)⟩
  refine tt_169 h10 k7 (fun b10 z3 c0 c1 c2 => tt_188 (fun w3 k8 => ?_))
  have k9 : w3 = 0 := k8.elim (fun y => absurd y.2.1 h0) (fun y => y.1)
  subst k9
  exact tt_e0 h1 (Or.inl ⟨rfl, Or.inr h3⟩) k7
/-- the law behind test(0): the root and one test -/
theorem tt_p (h1 : a1 0 = 0) (h2 : a1 1 = 1) (hp : a2 1 = 0) (h3 : a3 0 = 1) (h50 : a5 0 = -1) (h51 : a5 1 = -1) (h6 : ∀ j, a6 j = 0) (h7 : a7 1 = 1) (h8 : a8 1 = 1) (h9 : a9 1 = 1) (h10 : ∀ j, a10 j = 0) :
    wL_lawOf_24 (fun r _ => r = 1) mc ms 0 x1 x2 x3 x4 z z kc ks 2 t o s a1 a2 a3 a4 a5 a6 a7 a8 a9 a10 a11 a12 a13 a14 a15 := by
  have hx := tt_cl2 x1
  refine tt_24 (fun w1 k1 => tt_52 (by decide) h1 h6 k1 (hx.elim Or.inl (fun y => y.elim (fun y => Or.inr (Or.inr ⟨y, rfl, h2⟩)) (fun y => Or.inr (Or.inl y)))) (fun b6 z1 k2 => tt_81 (fun f k3 => tt_100 (fun w2 k4 => ?_))))
  have k5 : (f = 1 ∧ x1 = 1 ∧ (2 : Int32) = 2 ∧ a1 1 = 1) ∨ (f = 0 ∧ (x1 = 0 ∨ (x1 < 0 ∨ ¬ x1 < 2))) := by
    rcases k3 with ⟨k, _, y⟩ | ⟨k, y⟩
    · exact Or.inl ⟨k, y, rfl, h2⟩
    · refine Or.inr ⟨k, ?_⟩
      rcases hx with e | e | e
      · exact Or.inl e
      · exact absurd ⟨rfl, e⟩ y
      · exact Or.inr e
  refine tt_119 (by decide) h1 k4 k5 (fun b7 b8 z2 k6 => tt_150 (fun g k7 => ?_))
  have k8 : (g = 0 ∧ (x1 < 0 ∨ ¬ x1 < 2)) ∨ (g = 1 ∧ ((x1 = 0 ∧ (0 : Int32) < 2) ∨ (x1 = 1 ∧ (2 : Int32) = 2))) := by
    rcases k7 with ⟨k, y⟩ | ⟨k, y, yf⟩
    · refine Or.inr ⟨k, ?_⟩
      rcases y with y | y
      · exact Or.inl ⟨y, by decide⟩
      · rcases k5 with ⟨_, e, _⟩ | ⟨e, _⟩
        · exact Or.inr ⟨e, rfl⟩
        · exact absurd e y
    · refine Or.inl ⟨k, ?_⟩
      rcases k5 with ⟨e, _⟩ | ⟨_, e | e⟩
      · exact absurd (e.symm.trans yf) (by decide)
      · exact absurd e y
      · exact e
  refine tt_169 h10 k8 (fun b10 z3 c0 c1 c2 => tt_188 (fun w3 k9 => ?_))
  rcases k8 with ⟨rfl, e⟩ | ⟨rfl, e⟩
  · have k10 : w3 = 1 := k9.elim (fun y => y.1) (fun y => absurd ⟨rfl, rfl⟩ y.2)
    have n0 : ¬ x1 = 0 := fun y => by
      subst y
      exact e.elim (by decide) (by decide)
    have f0 : f = 0 := k7.elim (fun y => absurd y.1 (by decide)) (fun y => y.2.2)
    have e6 : b6 = a6 := k2.elim (fun y => absurd y n0) (fun y => y)
    obtain ⟨e7, e8⟩ := k6 f0
    have e10 : b10 = a10 := c0 rfl
    subst k10
    subst e6
    subst e7
    subst e8
    subst e10
    exact tt_e1 h1 h2 hp h3 h50 h51 h6 h7 h8 h9 h10 e
  · have k10 : w3 = 0 := k9.elim (fun y => absurd y.2.2 (by decide)) (fun y => y.1)
    subst k10
    refine tt_e0 h1 (Or.inr ⟨rfl, h2, hp, ?_⟩) (Or.inr ⟨rfl, e⟩)
    rcases e with ⟨y, _⟩ | ⟨y, _⟩
    · exact Or.inl (by rw [c1 rfl y]; decide)
    · exact Or.inr ⟨by rw [c2 rfl y]; decide, h3, h51⟩
theorem tt_lawOf (x0 x1 x2 x3 x4 : Int32) : wpL_lawOf (fun r _ => r = 1) 16 523 () x0 x1 x2 x3 x4 := by
  refine ⟨by decide, by decide, 15, 504, by decide, by decide, tt_init (fun b1 b2 b3 b4 b5 b7 b8 b9 e1 e3 e4 e5 => ?_)⟩
  by_cases h : x0 = 0
  · subst h
    exact tt_test_0 e1 e4 (fun c1 c2 c3 c4 c5 c7 c8 c9 f1 f2 fp f3 f50 f51 f7 f8 f9 => br_t rfl (tt_p f1 f2 fp f3 (f50.trans e5) f51 (fun _ => rfl) f7 f8 f9 (fun _ => rfl)))
  · exact tt_test_x ((tt_cl1 x0).elim (fun y => absurd y h) (fun y => y)) (br_f h (tt_q h e1 e3 (fun _ => rfl) (fun _ => rfl)))
theorem tt_cell {P : Int32 → Prop} {L : Nat} {xs : Nat → Int32} {p : Int32} (k : Nat) (hk : p = nI k) (hb : k < 5) (hL : L ≤ 5) (H : ∀ r, P r) : wpL_cellAt P L xs () p := by
  subst hk
  exact pk_le L k (fun _ => H _) (fun y => ⟨vp_in_nI y (by omega), H _⟩)
end
end
section
theorem i_vc (xs : Nat → Int32) (L : Nat) (hL : L ≤ 5) : wpL_law (fun r => r = 1) L xs :=
  tt_cell 0 rfl (by decide) hL (fun r1 => tt_cell 1 rfl (by decide) hL (fun r2 => tt_cell 2 rfl (by decide) hL (fun r3 => tt_cell 3 rfl (by decide) hL (fun r4 => tt_cell 4 rfl (by decide) hL (fun r5 =>
    ⟨16, 523, by decide, by decide, tt_lawOf r1 r2 r3 r4 r5⟩)))))
end
