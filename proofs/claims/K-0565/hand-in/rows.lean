section
/-- the cells in spiral order -/
def zs_o (j : Nat) : Nat := [0, 1, 2, 3, 4, 9, 14, 19, 18, 17, 16, 15, 10, 5, 6, 7, 8, 13, 12, 11].getD j 0
/-- the cursor (top, bottom, left, right, dir, row, col) when j cells have been served -/
def zs_T (j : Nat) : Int32 × Int32 × Int32 × Int32 × Int32 × Int32 × Int32 :=
  [(0, 3, 0, 4, 0, 0, 0),
   (0, 3, 0, 4, 0, 0, 1),
   (0, 3, 0, 4, 0, 0, 2),
   (0, 3, 0, 4, 0, 0, 3),
   (0, 3, 0, 4, 0, 0, 4),
   (1, 3, 0, 4, 1, 1, 4),
   (1, 3, 0, 4, 1, 2, 4),
   (1, 3, 0, 4, 1, 3, 4),
   (1, 3, 0, 3, 2, 3, 3),
   (1, 3, 0, 3, 2, 3, 2),
   (1, 3, 0, 3, 2, 3, 1),
   (1, 3, 0, 3, 2, 3, 0),
   (1, 2, 0, 3, 3, 2, 0),
   (1, 2, 0, 3, 3, 1, 0),
   (1, 2, 1, 3, 0, 1, 1),
   (1, 2, 1, 3, 0, 1, 2),
   (1, 2, 1, 3, 0, 1, 3),
   (2, 2, 1, 3, 1, 2, 3),
   (2, 2, 1, 2, 2, 2, 2),
   (2, 2, 1, 2, 2, 2, 1),
   (2, 2, 1, 2, 2, 2, 1)].getD j (0, 0, 0, 0, 0, 0, 0)
/-- the component's state when j cells have been served and its cells are c -/
def zs_X (j : Nat) (c : Nat → Int32) : SX :=
  ((zs_T j).1, (zs_T j).2.1, (zs_T j).2.2.1, (zs_T j).2.2.2.1, (zs_T j).2.2.2.2.1, (zs_T j).2.2.2.2.2.1, (zs_T j).2.2.2.2.2.2, nI j, c)
theorem zs_n0 {c : Nat → Int32} {post : Int32 → SX → Prop} (h : post (c 0) (0, 3, 0, 4, 0, 0, 1, 1, c)) : wpX_next post (0, 3, 0, 4, 0, 0, 0, 0, c) :=
  br_t (by decide) (And.intro (vp_in_iff.mpr (by decide)) (nm_r (e' := c 0) (congrArg c (by decide)) (nm_r (e' := 1) (by decide)
    (br_f (by decide) (br_f (by decide) (br_f (by decide) (br_t (by decide) (br_f (by decide) (nm_r (e' := 1) (by decide) (h))))))))))
theorem zs_n1 {c : Nat → Int32} {post : Int32 → SX → Prop} (h : post (c 1) (0, 3, 0, 4, 0, 0, 2, 2, c)) : wpX_next post (0, 3, 0, 4, 0, 0, 1, 1, c) :=
  br_t (by decide) (And.intro (vp_in_iff.mpr (by decide)) (nm_r (e' := c 1) (congrArg c (by decide)) (nm_r (e' := 2) (by decide)
    (br_f (by decide) (br_f (by decide) (br_f (by decide) (br_t (by decide) (br_f (by decide) (nm_r (e' := 2) (by decide) (h))))))))))
theorem zs_n2 {c : Nat → Int32} {post : Int32 → SX → Prop} (h : post (c 2) (0, 3, 0, 4, 0, 0, 3, 3, c)) : wpX_next post (0, 3, 0, 4, 0, 0, 2, 2, c) :=
  br_t (by decide) (And.intro (vp_in_iff.mpr (by decide)) (nm_r (e' := c 2) (congrArg c (by decide)) (nm_r (e' := 3) (by decide)
    (br_f (by decide) (br_f (by decide) (br_f (by decide) (br_t (by decide) (br_f (by decide) (nm_r (e' := 3) (by decide) (h))))))))))
theorem zs_n3 {c : Nat → Int32} {post : Int32 → SX → Prop} (h : post (c 3) (0, 3, 0, 4, 0, 0, 4, 4, c)) : wpX_next post (0, 3, 0, 4, 0, 0, 3, 3, c) :=
  br_t (by decide) (And.intro (vp_in_iff.mpr (by decide)) (nm_r (e' := c 3) (congrArg c (by decide)) (nm_r (e' := 4) (by decide)
    (br_f (by decide) (br_f (by decide) (br_f (by decide) (br_t (by decide) (br_f (by decide) (nm_r (e' := 4) (by decide) (h))))))))))
theorem zs_n4 {c : Nat → Int32} {post : Int32 → SX → Prop} (h : post (c 4) (1, 3, 0, 4, 1, 1, 4, 5, c)) : wpX_next post (0, 3, 0, 4, 0, 0, 4, 4, c) :=
  br_t (by decide) (And.intro (vp_in_iff.mpr (by decide)) (nm_r (e' := c 4) (congrArg c (by decide)) (nm_r (e' := 5) (by decide)
    (br_f (by decide) (br_f (by decide) (br_f (by decide) (br_t (by decide) (br_t (by decide) (nm_r (e' := 1) (by decide) (nm_r (e' := 1) (by decide) (h)))))))))))
theorem zs_n5 {c : Nat → Int32} {post : Int32 → SX → Prop} (h : post (c 9) (1, 3, 0, 4, 1, 2, 4, 6, c)) : wpX_next post (1, 3, 0, 4, 1, 1, 4, 5, c) :=
  br_t (by decide) (And.intro (vp_in_iff.mpr (by decide)) (nm_r (e' := c 9) (congrArg c (by decide)) (nm_r (e' := 6) (by decide)
    (br_f (by decide) (br_f (by decide) (br_f (by decide) (br_f (by decide) (br_t (by decide) (br_f (by decide) (nm_r (e' := 2) (by decide) (h)))))))))))
theorem zs_n6 {c : Nat → Int32} {post : Int32 → SX → Prop} (h : post (c 14) (1, 3, 0, 4, 1, 3, 4, 7, c)) : wpX_next post (1, 3, 0, 4, 1, 2, 4, 6, c) :=
  br_t (by decide) (And.intro (vp_in_iff.mpr (by decide)) (nm_r (e' := c 14) (congrArg c (by decide)) (nm_r (e' := 7) (by decide)
    (br_f (by decide) (br_f (by decide) (br_f (by decide) (br_f (by decide) (br_t (by decide) (br_f (by decide) (nm_r (e' := 3) (by decide) (h)))))))))))
theorem zs_n7 {c : Nat → Int32} {post : Int32 → SX → Prop} (h : post (c 19) (1, 3, 0, 3, 2, 3, 3, 8, c)) : wpX_next post (1, 3, 0, 4, 1, 3, 4, 7, c) :=
  br_t (by decide) (And.intro (vp_in_iff.mpr (by decide)) (nm_r (e' := c 19) (congrArg c (by decide)) (nm_r (e' := 8) (by decide)
    (br_f (by decide) (br_f (by decide) (br_f (by decide) (br_f (by decide) (br_t (by decide) (br_t (by decide) (nm_r (e' := 3) (by decide) (nm_r (e' := 3) (by decide) (h))))))))))))
theorem zs_n8 {c : Nat → Int32} {post : Int32 → SX → Prop} (h : post (c 18) (1, 3, 0, 3, 2, 3, 2, 9, c)) : wpX_next post (1, 3, 0, 3, 2, 3, 3, 8, c) :=
  br_t (by decide) (And.intro (vp_in_iff.mpr (by decide)) (nm_r (e' := c 18) (congrArg c (by decide)) (nm_r (e' := 9) (by decide)
    (br_f (by decide) (br_f (by decide) (br_f (by decide) (br_f (by decide) (br_f (by decide) (br_t (by decide) (br_f (by decide) (nm_r (e' := 2) (by decide) (h))))))))))))
theorem zs_n9 {c : Nat → Int32} {post : Int32 → SX → Prop} (h : post (c 17) (1, 3, 0, 3, 2, 3, 1, 10, c)) : wpX_next post (1, 3, 0, 3, 2, 3, 2, 9, c) :=
  br_t (by decide) (And.intro (vp_in_iff.mpr (by decide)) (nm_r (e' := c 17) (congrArg c (by decide)) (nm_r (e' := 10) (by decide)
    (br_f (by decide) (br_f (by decide) (br_f (by decide) (br_f (by decide) (br_f (by decide) (br_t (by decide) (br_f (by decide) (nm_r (e' := 1) (by decide) (h))))))))))))
theorem zs_n10 {c : Nat → Int32} {post : Int32 → SX → Prop} (h : post (c 16) (1, 3, 0, 3, 2, 3, 0, 11, c)) : wpX_next post (1, 3, 0, 3, 2, 3, 1, 10, c) :=
  br_t (by decide) (And.intro (vp_in_iff.mpr (by decide)) (nm_r (e' := c 16) (congrArg c (by decide)) (nm_r (e' := 11) (by decide)
    (br_f (by decide) (br_f (by decide) (br_f (by decide) (br_f (by decide) (br_f (by decide) (br_t (by decide) (br_f (by decide) (nm_r (e' := 0) (by decide) (h))))))))))))
theorem zs_n11 {c : Nat → Int32} {post : Int32 → SX → Prop} (h : post (c 15) (1, 2, 0, 3, 3, 2, 0, 12, c)) : wpX_next post (1, 3, 0, 3, 2, 3, 0, 11, c) :=
  br_t (by decide) (And.intro (vp_in_iff.mpr (by decide)) (nm_r (e' := c 15) (congrArg c (by decide)) (nm_r (e' := 12) (by decide)
    (br_f (by decide) (br_f (by decide) (br_f (by decide) (br_f (by decide) (br_f (by decide) (br_t (by decide) (br_t (by decide) (nm_r (e' := 2) (by decide) (nm_r (e' := 2) (by decide) (h)))))))))))))
theorem zs_n12 {c : Nat → Int32} {post : Int32 → SX → Prop} (h : post (c 10) (1, 2, 0, 3, 3, 1, 0, 13, c)) : wpX_next post (1, 2, 0, 3, 3, 2, 0, 12, c) :=
  br_t (by decide) (And.intro (vp_in_iff.mpr (by decide)) (nm_r (e' := c 10) (congrArg c (by decide)) (nm_r (e' := 13) (by decide)
    (br_f (by decide) (br_f (by decide) (br_t (by decide) (br_f (by decide) (nm_r (e' := 1) (by decide) (h)))))))))
theorem zs_n13 {c : Nat → Int32} {post : Int32 → SX → Prop} (h : post (c 5) (1, 2, 1, 3, 0, 1, 1, 14, c)) : wpX_next post (1, 2, 0, 3, 3, 1, 0, 13, c) :=
  br_t (by decide) (And.intro (vp_in_iff.mpr (by decide)) (nm_r (e' := c 5) (congrArg c (by decide)) (nm_r (e' := 14) (by decide)
    (br_f (by decide) (br_f (by decide) (br_t (by decide) (br_t (by decide) (nm_r (e' := 1) (by decide) (nm_r (e' := 1) (by decide) (h))))))))))
theorem zs_n14 {c : Nat → Int32} {post : Int32 → SX → Prop} (h : post (c 6) (1, 2, 1, 3, 0, 1, 2, 15, c)) : wpX_next post (1, 2, 1, 3, 0, 1, 1, 14, c) :=
  br_t (by decide) (And.intro (vp_in_iff.mpr (by decide)) (nm_r (e' := c 6) (congrArg c (by decide)) (nm_r (e' := 15) (by decide)
    (br_f (by decide) (br_f (by decide) (br_f (by decide) (br_t (by decide) (br_f (by decide) (nm_r (e' := 2) (by decide) (h))))))))))
theorem zs_n15 {c : Nat → Int32} {post : Int32 → SX → Prop} (h : post (c 7) (1, 2, 1, 3, 0, 1, 3, 16, c)) : wpX_next post (1, 2, 1, 3, 0, 1, 2, 15, c) :=
  br_t (by decide) (And.intro (vp_in_iff.mpr (by decide)) (nm_r (e' := c 7) (congrArg c (by decide)) (nm_r (e' := 16) (by decide)
    (br_f (by decide) (br_f (by decide) (br_f (by decide) (br_t (by decide) (br_f (by decide) (nm_r (e' := 3) (by decide) (h))))))))))
theorem zs_n16 {c : Nat → Int32} {post : Int32 → SX → Prop} (h : post (c 8) (2, 2, 1, 3, 1, 2, 3, 17, c)) : wpX_next post (1, 2, 1, 3, 0, 1, 3, 16, c) :=
  br_t (by decide) (And.intro (vp_in_iff.mpr (by decide)) (nm_r (e' := c 8) (congrArg c (by decide)) (nm_r (e' := 17) (by decide)
    (br_f (by decide) (br_f (by decide) (br_f (by decide) (br_t (by decide) (br_t (by decide) (nm_r (e' := 2) (by decide) (nm_r (e' := 2) (by decide) (h)))))))))))
theorem zs_n17 {c : Nat → Int32} {post : Int32 → SX → Prop} (h : post (c 13) (2, 2, 1, 2, 2, 2, 2, 18, c)) : wpX_next post (2, 2, 1, 3, 1, 2, 3, 17, c) :=
  br_t (by decide) (And.intro (vp_in_iff.mpr (by decide)) (nm_r (e' := c 13) (congrArg c (by decide)) (nm_r (e' := 18) (by decide)
    (br_f (by decide) (br_f (by decide) (br_f (by decide) (br_f (by decide) (br_t (by decide) (br_t (by decide) (nm_r (e' := 2) (by decide) (nm_r (e' := 2) (by decide) (h))))))))))))
theorem zs_n18 {c : Nat → Int32} {post : Int32 → SX → Prop} (h : post (c 12) (2, 2, 1, 2, 2, 2, 1, 19, c)) : wpX_next post (2, 2, 1, 2, 2, 2, 2, 18, c) :=
  br_t (by decide) (And.intro (vp_in_iff.mpr (by decide)) (nm_r (e' := c 12) (congrArg c (by decide)) (nm_r (e' := 19) (by decide)
    (br_f (by decide) (br_f (by decide) (br_f (by decide) (br_f (by decide) (br_f (by decide) (br_t (by decide) (br_f (by decide) (nm_r (e' := 1) (by decide) (h))))))))))))
theorem zs_n19 {c : Nat → Int32} {post : Int32 → SX → Prop} (h : post (c 11) (2, 2, 1, 2, 2, 2, 1, 20, c)) : wpX_next post (2, 2, 1, 2, 2, 2, 1, 19, c) :=
  br_t (by decide) (And.intro (vp_in_iff.mpr (by decide)) (nm_r (e' := c 11) (congrArg c (by decide)) (nm_r (e' := 20) (by decide)
    (br_t (by decide) (h)))))
end
section
/-- X's next from the state of j cells served, j below 20: it answers cell zs_o j and moves on to the state of j + 1 -/
theorem zs_next {c : Nat → Int32} {post : Int32 → SX → Prop} : ∀ {j : Nat}, j < 20 → post (c (zs_o j)) (zs_X (j + 1) c) → wpX_next post (zs_X j c)
  | 0, _, h => zs_n0 h
  | 1, _, h => zs_n1 h
  | 2, _, h => zs_n2 h
  | 3, _, h => zs_n3 h
  | 4, _, h => zs_n4 h
  | 5, _, h => zs_n5 h
  | 6, _, h => zs_n6 h
  | 7, _, h => zs_n7 h
  | 8, _, h => zs_n8 h
  | 9, _, h => zs_n9 h
  | 10, _, h => zs_n10 h
  | 11, _, h => zs_n11 h
  | 12, _, h => zs_n12 h
  | 13, _, h => zs_n13 h
  | 14, _, h => zs_n14 h
  | 15, _, h => zs_n15 h
  | 16, _, h => zs_n16 h
  | 17, _, h => zs_n17 h
  | 18, _, h => zs_n18 h
  | 19, _, h => zs_n19 h
  | n + 20, hj, _ => absurd hj (by omega)
/-- the reference's table of the order -/
def zs_O (b : Nat → Int32) : Prop := ∀ j : Nat, j < 20 → b j = nI (zs_o j)
theorem zs_olt : ∀ j : Nat, j < 20 → zs_o j < 20 := by decide +kernel
theorem zs_20 : nI 20 = 20 := by decide +kernel
/-- Y's next from the state of j cells served, j below 20 -/
theorem zs_ynext {b c : Nat → Int32} {post : Int32 → SY → Prop} {j : Nat} (hj : j < 20) (hO : zs_O b) (h : post (c (zs_o j)) (nI (j + 1), c, b)) : wpY_next post (nI j, c, b) := by
  have h20 : nI j < 20 := by rw [← zs_20]; exact nI_lt hj (by decide)
  have hb : b (nI j).toNatClampNeg = nI (zs_o j) := by rw [nI_clamp (by omega)]; exact hO j hj
  have ho : zs_o j < 20 := zs_olt j hj
  have hc : c (b (nI j).toNatClampNeg).toNatClampNeg = c (zs_o j) := by rw [hb, nI_clamp (by omega)]
  refine br_t h20 (nm_r (nI_1 j) (And.intro (vp_in_nI hj (by decide)) (And.intro ?_ ?_)))
  · rw [hb]; exact vp_in_nI ho (by decide)
  · rw [hc]; exact h
/-- the two objects hold the same cells c and have served the same number j of them; the cursor stands on the j-th cell of the spiral -/
def i_Rel (_ : Nat) (u : SX) (v : SY) : Prop :=
  ∃ (j : Nat) (c b : Nat → Int32), j ≤ 20 ∧ zs_O b ∧ u = zs_X j c ∧ v = (nI j, c, b)
theorem i_up {k : Nat} {u : SX} {v : SY} (h : i_Rel k u v) : i_Rel (k + 4) u v := h
theorem i_vc0 : wpX_init (fun u => wpY_init (fun v => i_Rel 0 u v)) := by
  unfold wpX_init wpY_init
  intro a1 e1 a2 e2 a3 e3 a4 e4 a5 e5 a6 e6 a7 e7 a8 e8 a9 e9 a10 e10 a11 e11 a12 e12 a13 e13 a14 e14 a15 e15 a16 e16 a17 e17 a18 e18 a19 e19 a20 e20
  refine ⟨0, fun _ => 0, a20, by decide, ?_, rfl, rfl⟩
  subst e1 e2 e3 e4 e5 e6 e7 e8 e9 e10 e11 e12 e13 e14 e15 e16 e17 e18 e19 e20
  unfold zs_O
  decide +kernel
theorem zs_ix : ∀ a : Nat, a < 4 → ∀ b : Nat, b < 5 → 0 ≤ (nI a * 5 + nI b).toInt ∧ (nI a * 5 + nI b).toInt < (20 : Nat) := by decide +kernel
theorem zs_in {p q : Int32} (h0 : ¬ p < 0) (h3 : ¬ 3 < p) (h1 : ¬ q < 0) (h4 : q ≤ 4) : vp_in (p * 5 + q) 20 := by
  obtain ⟨a, ha, rfl⟩ := nI_of2 (M := 3) (n := 3) (by decide) h0 (Int32.not_lt.mp h3)
  obtain ⟨b, hb, rfl⟩ := nI_of2 (M := 4) (n := 4) (by decide) h1 h4
  exact vp_in_iff.mpr (zs_ix a (by omega) b (by omega))
theorem i_vc_set {k : Nat} {u : SX} {v : SY} (I : i_Rel k u v) (hk : k + 4 ≤ 2048) (v1 : Int32) (v2 : Int32) (v3 : Int32) : wpX_set (fun r u' => wpY_set (fun r' v' => r' = r ∧ i_Rel (k + 4) u' v') v v1 v2 v3) u v1 v2 v3 := by
  obtain ⟨j, c, b, hj, hO, rfl, rfl⟩ := I
  have J : ∀ c' : Nat → Int32, i_Rel (k + 4) (zs_X j c') (nI j, c', b) := fun c' => ⟨j, c', b, hj, hO, rfl, rfl⟩
  by_cases h0 : v1 < 0
  · exact br_t h0 (br_t h0 (And.intro rfl (J c)))
  by_cases h3 : 3 < v1
  · exact br_f h0 (br_t h3 (br_f h0 (br_t h3 (And.intro rfl (J c)))))
  by_cases h1 : v2 < 0
  · exact br_f h0 (br_f h3 (br_t h1 (br_f h0 (br_f h3 (br_t h1 (And.intro rfl (J c)))))))
  by_cases h4 : v2 ≤ 4
  · have hi := zs_in h0 h3 h1 h4
    exact br_f h0 (br_f h3 (br_f h1 (br_t h4 (And.intro hi (nm_e (br_f h0 (br_f h3 (br_f h1 (br_t h4 (And.intro hi (nm_e (And.intro rfl (J _)))))))))))))
  · exact br_f h0 (br_f h3 (br_f h1 (br_f h4 (br_f h0 (br_f h3 (br_f h1 (br_f h4 (And.intro rfl (J c)))))))))
theorem i_vc_rewind {k : Nat} {u : SX} {v : SY} (I : i_Rel k u v) (hk : k + 4 ≤ 2048) : wpX_rewind (fun r u' => wpY_rewind (fun r' v' => r' = r ∧ i_Rel (k + 4) u' v') v) u := by
  obtain ⟨j, c, b, hj, hO, rfl, rfl⟩ := I
  exact And.intro rfl ⟨0, c, b, by decide, hO, rfl, rfl⟩
theorem i_vc_next {k : Nat} {u : SX} {v : SY} (I : i_Rel k u v) (hk : k + 4 ≤ 2048) : wpX_next (fun r u' => wpY_next (fun r' v' => r' = r ∧ i_Rel (k + 4) u' v') v) u := by
  obtain ⟨j, c, b, hj, hO, rfl, rfl⟩ := I
  by_cases h : j < 20
  · exact zs_next h (zs_ynext h hO (And.intro rfl ⟨j + 1, c, b, h, hO, rfl, rfl⟩))
  · have e : j = 20 := by omega
    subst e
    have hn : ¬ nI 20 < 20 := by decide
    exact br_f hn (br_f hn (And.intro rfl ⟨20, c, b, by decide, hO, rfl, rfl⟩))
theorem i_vc_remaining {k : Nat} {u : SX} {v : SY} (I : i_Rel k u v) (hk : k + 4 ≤ 2048) : wpX_remaining (fun r => wpY_remaining (fun r' => r' = r ∧ i_Rel (k + 4) u v) v) u := by
  obtain ⟨j, c, b, hj, hO, rfl, rfl⟩ := I
  exact And.intro rfl ⟨j, c, b, hj, hO, rfl, rfl⟩
end
