section
/-- the place p lies in the rectangle lo..hi, as the code asks it -/
def gf_in (p lo hi : Int32) : Prop := ¬ p >>> ((5 : Int32) &&& 31) < lo >>> ((5 : Int32) &&& 31) ∧ ¬ hi >>> ((5 : Int32) &&& 31) < p >>> ((5 : Int32) &&& 31) ∧ ¬ (p &&& 31) < (lo &&& 31) ∧ ¬ (hi &&& 31) < (p &&& 31)
/-- lo..hi is a rectangle, as the code asks it -/
def gf_box (lo hi : Int32) : Prop := ¬ lo < 0 ∧ ¬ 1023 < lo ∧ ¬ hi < 0 ∧ ¬ 1023 < hi ∧ ¬ hi >>> ((5 : Int32) &&& 31) < lo >>> ((5 : Int32) &&& 31) ∧ ¬ (hi &&& 31) < (lo &&& 31)
/-- x, y is a place, as the class asks it -/
def gf_good (x y : Int32) : Prop := ¬ x < 0 ∧ ¬ 32 ≤ x ∧ ¬ y < 0 ∧ ¬ 32 ≤ y
/-- an answer of three cases: a rectangle with the point in it, one without, none -/
def gf_R (B I : Prop) (vI vO vN r : Int32) : Prop := (B ∧ I ∧ r = vI) ∨ (B ∧ ¬ I ∧ r = vO) ∨ (¬ B ∧ r = vN)
/-- the law's two marks box and in -/
def gf_X (B I : Prop) (x8 x9 : Int32) : Prop := (x8 = 1 ∧ x9 = 1 ∧ B ∧ I) ∨ (x8 = 1 ∧ x9 = 0 ∧ B ∧ ¬ I) ∨ (x8 = 0 ∧ x9 = 0 ∧ ¬ B)
/-- what collect leaves: one hit, the point, or none -/
def gf_P (h : Int32) (I : Prop) (x y p v : Int32) : Prop := (h = 1 ∧ I ∧ x = p ∧ y = v) ∨ (h = 0 ∧ ¬ I)
theorem gf_v0 {N : Nat} (h : 0 < N) (hN : N < 2 ^ 31) : vp_in 0 N := vp_in_nI h hN
theorem gf_c0 : (0 : Int32).toNatClampNeg = 0 := sb_cl0
theorem gf_01 : (0 : Int32) + 1 = 1 := by decide
theorem gf_40 : (4 : Int32) * 0 = 0 := by decide
theorem gf_32 : ((32 : Int32) * 0 + 0).toNatClampNeg = 0 := by decide
theorem gf_n1 : ¬ (1 : Int32) = 0 := by decide
theorem gf_n10 : ¬ (1 : Int32) ≤ 0 := by decide
theorem gf_11 : (1 : Int32) ≤ 1 := by decide
theorem gf_00 : (0 : Int32) ≤ 0 := by decide
theorem gf_l00 : ¬ (0 : Int32) < 0 := by decide
theorem gf_l01 : (0 : Int32) < 1 := by decide
theorem gf_e01 : (0 : Int32) ≤ 1 := by decide
theorem gf_u {a b : Nat → Int32} : upd a (0 : Int32).toNatClampNeg (b (0 : Int32).toNatClampNeg) = upd a 0 (b 0) := by rw [gf_c0]
theorem gf_ux {a : Nat → Int32} {x : Int32} : upd a (0 : Int32).toNatClampNeg x = upd a 0 x := by rw [gf_c0]
theorem gf_min {x : Int32} (h : x ≤ -2147483648) : x = -2147483648 := by
  have h1 := Int32.le_iff_toInt_le.mp h
  have h2 : (-2147483648 : Int32).toInt = -2147483648 := by decide
  have h3 := Int32.le_toInt x
  apply Int32.toInt_inj.mp
  rw [h2] at h1 ⊢
  omega
theorem gf_31 {x : Int32} (h : 31 < x) : 32 ≤ x := by
  have h1 := Int32.lt_iff_toInt_lt.mp h
  have h2 : (31 : Int32).toInt = 31 := by decide
  have h3 : (32 : Int32).toInt = 32 := by decide
  apply Int32.le_iff_toInt_le.mpr
  rw [h2] at h1
  rw [h3]
  omega
theorem gf_n32 {x : Int32} (h : ¬ 31 < x) : ¬ 32 ≤ x := by
  intro g
  apply h
  have h1 := Int32.le_iff_toInt_le.mp g
  have h2 : (31 : Int32).toInt = 31 := by decide
  have h3 : (32 : Int32).toInt = 32 := by decide
  apply Int32.lt_iff_toInt_lt.mpr
  rw [h3] at h1
  rw [h2]
  omega
theorem gf_dec : ∀ a, a < 32 → ∀ b, b < 32 → (32 * nI a + nI b) >>> ((5 : Int32) &&& 31) = nI a ∧ (32 * nI a + nI b) &&& 31 = nI b := by decide +kernel
theorem gf_pq {x y : Int32} (h : gf_good x y) : (32 * x + y) >>> ((5 : Int32) &&& 31) = x ∧ (32 * x + y) &&& 31 = y := by
  obtain ⟨h1, h2, h3, h4⟩ := h
  obtain ⟨i, hi, rfl⟩ := nI_of h1
  obtain ⟨j, hj, rfl⟩ := nI_of h3
  have ei : i < 32 := by
    rcases Nat.lt_or_ge i 32 with z | z
    · exact z
    · exact absurd (nI_le z hi) h2
  have ej : j < 32 := by
    rcases Nat.lt_or_ge j 32 with z | z
    · exact z
    · exact absurd (nI_le z hj) h4
  exact gf_dec i ei j ej
theorem gf_Rv {B I : Prop} {v v' vO vN r : Int32} (e : I → v = v') (h : gf_R B I v vO vN r) : gf_R B I v' vO vN r := by
  rcases h with ⟨b, i, h⟩ | h | h
  · exact Or.inl ⟨b, i, h.trans (e i)⟩
  · exact Or.inr (Or.inl h)
  · exact Or.inr (Or.inr h)
theorem gf_PR {B I : Prop} {h x y p v vN : Int32} (b : B) (hP : gf_P h I x y p v) : gf_R B I 1 0 vN h := by
  rcases hP with ⟨e, i, _, _⟩ | ⟨e, i⟩
  · exact Or.inl ⟨b, i, e⟩
  · exact Or.inr (Or.inl ⟨b, i, e⟩)
theorem gf_sel3 {B I : Prop} {x8 x9 vI vO vN r : Int32} {Q : Int32 → Prop} (hx : gf_X B I x8 x9) (hr : gf_R B I vI vO vN r) (H : Q r) : (x8 = 0 → Q vN) ∧ (¬ x8 = 0 → ((x9 = 0 → Q vO) ∧ (¬ x9 = 0 → Q vI))) := by
  rcases hx with ⟨e8, e9, b, i⟩ | ⟨e8, e9, b, i⟩ | ⟨e8, e9, b⟩
  · rcases hr with ⟨_, _, e⟩ | ⟨_, i', _⟩ | ⟨b', _⟩
    · subst e8 e9 e
      exact br_f gf_n1 (br_f gf_n1 H)
    · exact absurd i i'
    · exact absurd b b'
  · rcases hr with ⟨_, i', _⟩ | ⟨_, _, e⟩ | ⟨b', _⟩
    · exact absurd i' i
    · subst e8 e9 e
      exact br_f gf_n1 (br_t rfl H)
    · exact absurd b b'
  · rcases hr with ⟨b', _, _⟩ | ⟨b', _, _⟩ | ⟨_, e⟩
    · exact absurd b' b
    · exact absurd b' b
    · subst e8 e9 e
      exact br_t rfl H
theorem gf_sel2 {B I : Prop} {x8 x9 vI vO r : Int32} {Q : Int32 → Prop} (hx : gf_X B I x8 x9) (hr : gf_R B I vI vO vO r) (H : Q r) : (x9 = 0 → Q vO) ∧ (¬ x9 = 0 → Q vI) := by
  rcases hx with ⟨_, e9, b, i⟩ | ⟨_, e9, b, i⟩ | ⟨_, e9, b⟩
  · rcases hr with ⟨_, _, e⟩ | ⟨_, i', _⟩ | ⟨b', _⟩
    · subst e9 e
      exact br_f gf_n1 H
    · exact absurd i i'
    · exact absurd b b'
  · rcases hr with ⟨_, i', _⟩ | ⟨_, _, e⟩ | ⟨b', _⟩
    · exact absurd i' i
    · subst e9 e
      exact br_t rfl H
    · exact absurd b b'
  · rcases hr with ⟨b', _, _⟩ | ⟨b', _, _⟩ | ⟨_, e⟩
    · exact absurd b' b
    · exact absurd b' b
    · subst e9 e
      exact br_t rfl H
end
section
section
variable {post : Int32 → Prop} {c h p q b : Int32} {a1 a2 a3 a4 a5 a6 a7 a8 a9 a10 a11 a12 a13 : Nat → Int32}
theorem gf_col (H : post 0) : wpX_columnOf post (1, 1, 1, c, h, a1, a2, a3, a4, a5, a6, a7, a8, a9, a10, a11, a12, a13) p :=
  nm_r (show (1 : Int32) - 1 = 0 by decide) ⟨1, br_f (show ¬ (6 : Int32) ≤ 0 by decide) (br_t gf_00 H)⟩
theorem gf_row (H : post 0) : wpX_rowOf post (1, 1, 1, c, h, a1, a2, a3, a4, a5, a6, a7, a8, a9, a10, a11, a12, a13) p :=
  nm_r (show (1 : Int32) - 1 = 0 by decide) ⟨1, br_f (show ¬ (6 : Int32) ≤ 0 by decide) (br_t gf_00 H)⟩
theorem gf_bucket (H : post (a3 0)) : wpX_bucketAt post (1, 1, 1, c, h, a1, a2, a3, a4, a5, a6, a7, a8, a9, a10, a11, a12, a13) p q := by
  unfold wpX_bucketAt
  refine gf_col ?_
  refine gf_row ?_
  refine ⟨vp_in_iff.mpr (by decide), ?_⟩
  rw [gf_32]
  exact H
theorem gf_find0 (h3 : a3 0 = 0) (h4 : a4 0 = 0) (H : post (-1)) : wpX_find post (1, 1, 1, c, h, a1, a2, a3, a4, a5, a6, a7, a8, a9, a10, a11, a12, a13) p q := by
  unfold wpX_find
  refine gf_bucket ?_
  rw [h3]
  refine nm_r gf_40 ⟨1, gf_v0 (by decide) (by decide), ?_⟩
  rw [gf_c0, h4]
  exact br_t (by decide) H
theorem gf_find1 (h3 : a3 0 = 0) (h4 : a4 0 = 1) (H : ∀ r : Int32, r = 0 ∨ r = -1 → post r) : wpX_find post (1, 1, 1, c, h, a1, a2, a3, a4, a5, a6, a7, a8, a9, a10, a11, a12, a13) p q := by
  unfold wpX_find
  refine gf_bucket ?_
  rw [h3]
  refine nm_r gf_40 ⟨2, gf_v0 (by decide) (by decide), ?_⟩
  rw [gf_c0, h4]
  refine br_f (by decide) ⟨gf_v0 (by decide) (by decide), br_c (fun _ => H 0 (Or.inl rfl)) (fun _ => nm_r gf_01 ⟨gf_v0 (by decide) (by decide), ?_⟩)⟩
  rw [gf_c0, h4]
  exact br_t (by decide) (H (-1) (Or.inr rfl))
end
section
variable {post : St2 → Prop} {c h lo hi x v : Int32} {a1 a2 a3 a4 a5 a6 a7 a8 a9 a10 a11 a12 a13 : Nat → Int32}
theorem gf_ins71 (h4 : a4 0 = 0) (H : post (1, 1, 1, c, h, a1, a2, a3, upd a4 0 1, a5, a6, a7, a8, upd a9 0 x, upd a10 0 v, a11, a12, a13)) : wX_insert_71 post x v 0 1 1 1 c h a1 a2 a3 a4 a5 a6 a7 a8 a9 a10 a11 a12 a13 := by
  unfold wX_insert_71
  rw [gf_c0, h4, show (4 : Int32) * 0 + 0 = 0 by decide, gf_c0]
  exact ⟨gf_v0 (by decide) (by decide), gf_v0 (by decide) (by decide), nm_e ⟨gf_v0 (by decide) (by decide), gf_v0 (by decide) (by decide), nm_e ⟨gf_v0 (by decide) (by decide), gf_v0 (by decide) (by decide), nm_r (by rw [gf_01]) H⟩⟩⟩
theorem gf_insert (h3 : a3 0 = 0) (h4 : a4 0 = 0) (H : post (1, 1, 1, c, h, a1, a2, a3, upd a4 0 1, a5, a6, a7, a8, upd a9 0 x, upd a10 0 v, a11, a12, a13)) : wpX_insert post (1, 1, 1, c, h, a1, a2, a3, a4, a5, a6, a7, a8, a9, a10, a11, a12, a13) x v := by
  unfold wpX_insert
  refine gf_bucket ?_
  rw [h3]
  refine ⟨1, br_f (show ¬ (64 : Int32) ≤ 0 by decide) ⟨gf_v0 (by decide) (by decide), br_f ?_ (gf_ins71 h4 H)⟩⟩
  rw [gf_c0, h4]
  decide
theorem gf_gEnd {n : Nat} (h4 : a4 0 = 1) (H : post (1, 1, 1, c, h, a1, a2, a3, a4, a5, a6, a7, a8, a9, a10, a11, a12, a13)) : wX_gather_5 post 0 lo hi 1 1 1 c (n + 1) 1 h a1 a2 a3 a4 a5 a6 a7 a8 a9 a10 a11 a12 a13 := by
  refine ⟨gf_v0 (by decide) (by decide), ?_⟩
  rw [gf_c0, h4]
  exact br_t (by decide) H
theorem gf_gather (h4 : a4 0 = 0 ∨ a4 0 = 1)
    (H0 : ¬ (a4 0 = 1 ∧ gf_in (a9 0) lo hi) → post (1, 1, 1, c, 0, a1, a2, a3, a4, a5, a6, a7, a8, a9, a10, a11, a12, a13))
    (H1 : (a4 0 = 1 ∧ gf_in (a9 0) lo hi) → post (1, 1, 1, c, 1, a1, a2, a3, a4, a5, a6, a7, a8, a9, a10, upd a11 0 (a9 0), upd a12 0 (a10 0), a13)) : wpX_gather post (1, 1, 1, c, 0, a1, a2, a3, a4, a5, a6, a7, a8, a9, a10, a11, a12, a13) 0 lo hi := by
  refine nm_r gf_40 ⟨0 + 1 + 1, gf_v0 (by decide) (by decide), ?_⟩
  rw [gf_c0]
  rcases h4 with h4 | h4
  · refine br_t ?_ (H0 (fun t => absurd (h4.symm.trans t.1) (by decide)))
    rw [h4]
    decide
  · refine br_f ?_ ⟨gf_v0 (by decide) (by decide), nm_e ⟨gf_v0 (by decide) (by decide), nm_e ?_⟩⟩
    · rw [h4]
      decide
    refine br_c (fun g => br_t rfl (nm_r gf_01 (gf_gEnd h4 (H0 (fun t => t.2.1 g))))) (fun g1 => ?_)
    refine br_c (fun g => br_t rfl (nm_r gf_01 (gf_gEnd h4 (H0 (fun t => t.2.2.1 g))))) (fun g2 => ?_)
    refine br_f gf_n1 ?_
    refine br_c (fun g => nm_r gf_01 (gf_gEnd h4 (H0 (fun t => t.2.2.2.1 g)))) (fun g3 => ?_)
    refine br_c (fun g => nm_r gf_01 (gf_gEnd h4 (H0 (fun t => t.2.2.2.2 g)))) (fun g4 => ?_)
    exact ⟨gf_v0 (by decide) (by decide), gf_v0 (by decide) (by decide), nm_r gf_u ⟨gf_v0 (by decide) (by decide), gf_v0 (by decide) (by decide), nm_r gf_u (nm_r gf_01 (nm_r gf_01 (gf_gEnd h4 (H1 ⟨h4, g1, g2, g3, g4⟩))))⟩⟩
theorem gf_collect (h3 : a3 0 = 0) (h4 : a4 0 = 0 ∨ a4 0 = 1)
    (H : ∀ (h' : Int32) (b1 b2 b3 : Nat → Int32), gf_P h' (a4 0 = 1 ∧ gf_in (a9 0) lo hi) (b1 0) (b2 0) (a9 0) (a10 0) → post (1, 1, 1, c, h', a1, a2, a3, a4, a5, a6, a7, a8, a9, a10, b1, b2, b3)) : wpX_collect post (1, 1, 1, c, h, a1, a2, a3, a4, a5, a6, a7, a8, a9, a10, a11, a12, a13) lo hi := by
  refine ⟨2, br_f gf_n10 ⟨gf_v0 (by decide) (by decide), nm_r gf_ux (nm_r gf_01 ?_)⟩⟩
  refine br_t gf_11 ?_
  refine gf_col ?_
  refine gf_row ?_
  refine gf_col ?_
  refine ⟨2, br_f gf_l00 ?_⟩
  refine gf_row ?_
  refine ⟨2, br_f gf_l00 ⟨vp_in_iff.mpr (by decide), nm_r (e' := 0) ?_ ⟨gf_v0 (by decide) (by decide), ?_⟩⟩⟩
  · rw [gf_32]
    exact h3
  refine br_t ?_ ⟨gf_v0 (by decide) (by decide), nm_r gf_ux ?_⟩
  · rw [gf_c0]
    exact pk_us
  refine gf_gather h4 (fun t => ?_) (fun t => ?_)
  · exact nm_r gf_01 (br_t gf_l01 (nm_r gf_01 (br_t gf_l01 (H 0 _ _ _ (Or.inr ⟨rfl, t⟩)))))
  · exact nm_r gf_01 (br_t gf_l01 (nm_r gf_01 (br_t gf_l01 (H 1 _ _ _ (Or.inl ⟨rfl, t, pk_us, pk_us⟩)))))
theorem gf_drop0 (h4 : a4 0 = 1) (H : ∀ (c' : Int32) (b4 b9 b10 : Nat → Int32), post (1, 1, 1, c', h, a1, a2, a3, b4, a5, a6, a7, a8, b9, b10, a11, a12, a13)) : wpX_drop post (1, 1, 1, c, h, a1, a2, a3, a4, a5, a6, a7, a8, a9, a10, a11, a12, a13) 0 := by
  refine br_t gf_00 ⟨by decide, nm_r (show (0 : Int32) / 4 = 0 by decide) ⟨gf_v0 (by decide) (by decide), gf_v0 (by decide) (by decide), nm_r (e' := upd a4 0 0) ?_ ?_⟩⟩
  · rw [gf_c0, h4]
    rfl
  rw [gf_c0, pk_us, show (4 : Int32) * 0 + 0 = 0 by decide]
  exact ⟨gf_v0 (by decide) (by decide), gf_v0 (by decide) (by decide), gf_v0 (by decide) (by decide), nm_e ⟨gf_v0 (by decide) (by decide), gf_v0 (by decide) (by decide), gf_v0 (by decide) (by decide), nm_e (nm_e (H _ _ _ _))⟩⟩
theorem gf_dropN (H : ∀ (c' : Int32) (b4 b9 b10 : Nat → Int32), post (1, 1, 1, c', h, a1, a2, a3, b4, a5, a6, a7, a8, b9, b10, a11, a12, a13)) : wpX_drop post (1, 1, 1, c, h, a1, a2, a3, a4, a5, a6, a7, a8, a9, a10, a11, a12, a13) (-1) :=
  br_f (by decide) (H _ _ _ _)
theorem gf_init {mc ms : Nat} (hc : 13 ≤ mc) (hs : 2066 ≤ ms)
    (H : ∀ (a1 a2 a3 a4 a5 a6 a7 a8 a9 a10 a11 a12 a13 : Nat → Int32), a3 0 = 0 → a4 0 = 0 → post (1, 1, 1, 0, 0, a1, a2, a3, a4, a5, a6, a7, a8, a9, a10, a11, a12, a13)) : wpX_init post mc ms (0, 0, 0, 0, 0) := by
  refine ⟨by omega, by omega, by omega, by omega, by omega, by omega, by omega, by omega, by omega, by omega, by omega, by omega, by omega, by omega, by omega, by omega, by omega, by omega, by omega, by omega, by omega, by omega, by omega, by omega, by omega, by omega, ?_⟩
  unfold wpX_reset
  exact nm_e (nm_e (nm_e (nm_e (nm_e (nm_e (nm_e (nm_e (nm_e (nm_e (H _ _ _ _ _ _ _ _ _ _ _ _ _ pk_us pk_us))))))))))
theorem gf_sort {P : St2 → Prop} (hh : h ≤ 1) (H : P (1, 1, 1, c, h, a1, a2, a3, a4, a5, a6, a7, a8, a9, a10, a11, a12, a13)) : wpX_sortHits P (1, 1, 1, c, h, a1, a2, a3, a4, a5, a6, a7, a8, a9, a10, a11, a12, a13) :=
  ⟨1, br_t hh H⟩
end
section
variable {post : Int32 → Prop} {u : St0} {lo hi x y : Int32}
theorem gf_rect (H1 : gf_box lo hi → post 1) (H0 : ¬ gf_box lo hi → post 0) : wpX_isRectangle post u lo hi :=
  br_c (fun g => br_t rfl (H0 (fun t => t.1 g))) (fun g1 => br_c (fun g => br_t rfl (H0 (fun t => t.2.1 g))) (fun g2 => br_c (fun g => br_t rfl (H0 (fun t => t.2.2.1 g))) (fun g3 => br_c (fun g => br_t rfl (H0 (fun t => t.2.2.2.1 g))) (fun g4 => br_f gf_n1 (br_c (fun g => H0 (fun t => t.2.2.2.2.1 g)) (fun g5 => br_c (fun g => H0 (fun t => t.2.2.2.2.2 g)) (fun g6 => H1 ⟨g1, g2, g3, g4, g5, g6⟩)))))))
theorem gf_place (H1 : gf_good x y → post 1) (H0 : ¬ gf_good x y → post 0) : wpX_isPlace post u x y :=
  br_c (fun g => H0 (fun t => t.1 g)) (fun g1 => br_c (fun g => H0 (fun t => t.2.1 g)) (fun g2 => br_c (fun g => H0 (fun t => t.2.2.1 g)) (fun g3 => br_c (fun g => H0 (fun t => t.2.2.2 g)) (fun g4 => H1 ⟨g1, g2, g3, g4⟩))))
end
end
section
section
variable {post : Int32 → St2 → Prop} {c h lo hi x y v : Int32} {a1 a2 a3 a4 a5 a6 a7 a8 a9 a10 a11 a12 a13 : Nat → Int32}
theorem gf_put1 (g : gf_good x y) (h3 : a3 0 = 0) (h4 : a4 0 = 0) (H : ∀ b4 b9 b10 : Nat → Int32, b4 0 = 1 → b9 0 = 32 * x + y → b10 0 = v → post 1 (1, 1, 1, 1, h, a1, a2, a3, b4, a5, a6, a7, a8, b9, b10, a11, a12, a13)) : wpX_put post (1, 1, 1, 0, h, a1, a2, a3, a4, a5, a6, a7, a8, a9, a10, a11, a12, a13) x y v := by
  unfold wpX_put
  refine gf_place (fun _ => ?_) (fun n => absurd g n)
  refine br_f gf_n1 ?_
  refine gf_find0 h3 h4 ?_
  refine br_t (by decide) (br_f (by decide) ?_)
  refine gf_insert h3 h4 ?_
  exact nm_r gf_01 (H _ _ _ pk_us pk_us pk_us)
theorem gf_put0 (g : ¬ gf_good x y) (H : post (-1) (1, 1, 1, c, h, a1, a2, a3, a4, a5, a6, a7, a8, a9, a10, a11, a12, a13)) : wpX_put post (1, 1, 1, c, h, a1, a2, a3, a4, a5, a6, a7, a8, a9, a10, a11, a12, a13) x y v := by
  unfold wpX_put
  refine gf_place (fun n => absurd n g) (fun _ => ?_)
  exact br_t rfl H
theorem gf_count (h3 : a3 0 = 0) (h4 : a4 0 = 0 ∨ a4 0 = 1)
    (H : ∀ (r h' : Int32) (b1 b2 b3 : Nat → Int32), gf_R (gf_box lo hi) (a4 0 = 1 ∧ gf_in (a9 0) lo hi) 1 0 (-1) r → post r (1, 1, 1, c, h', a1, a2, a3, a4, a5, a6, a7, a8, a9, a10, b1, b2, b3)) : wpX_count post (1, 1, 1, c, h, a1, a2, a3, a4, a5, a6, a7, a8, a9, a10, a11, a12, a13) lo hi := by
  unfold wpX_count
  refine gf_rect (fun B => ?_) (fun B => ?_)
  · refine br_f gf_n1 ?_
    refine gf_collect h3 h4 (fun h' b1 b2 b3 P => ?_)
    exact H h' h' b1 b2 b3 (gf_PR B P)
  · exact br_t rfl (H _ _ _ _ _ (Or.inr (Or.inr ⟨B, rfl⟩)))
theorem gf_sum (h3 : a3 0 = 0) (h4 : a4 0 = 0 ∨ a4 0 = 1)
    (H : ∀ (r h' : Int32) (b1 b2 b3 : Nat → Int32), gf_R (gf_box lo hi) (a4 0 = 1 ∧ gf_in (a9 0) lo hi) (a10 0) 0 0 r → post r (1, 1, 1, c, h', a1, a2, a3, a4, a5, a6, a7, a8, a9, a10, b1, b2, b3)) : wpX_sum post (1, 1, 1, c, h, a1, a2, a3, a4, a5, a6, a7, a8, a9, a10, a11, a12, a13) lo hi := by
  unfold wpX_sum
  refine gf_rect (fun B => ?_) (fun B => ?_)
  · refine br_f gf_n1 ?_
    refine gf_collect h3 h4 (fun h' b1 b2 b3 P => ?_)
    rcases P with ⟨e, i, e1, e2⟩ | ⟨e, i⟩
    · subst e
      refine ⟨2, br_f gf_n10 ⟨gf_v0 (by decide) (by decide), nm_r (e' := a10 0) ?_ (nm_r gf_01 (br_t gf_11 (H _ _ _ _ _ (Or.inl ⟨B, i, rfl⟩))))⟩⟩
      rw [gf_c0, e2, Int32.zero_add]
    · subst e
      exact ⟨1, br_t gf_00 (H _ _ _ _ _ (Or.inr (Or.inl ⟨B, i, rfl⟩)))⟩
  · exact br_t rfl (H _ _ _ _ _ (Or.inr (Or.inr ⟨B, rfl⟩)))
theorem gf_most (h3 : a3 0 = 0) (h4 : a4 0 = 0 ∨ a4 0 = 1)
    (H : ∀ (r h' : Int32) (b1 b2 b3 : Nat → Int32), gf_R (gf_box lo hi) (a4 0 = 1 ∧ gf_in (a9 0) lo hi) (a10 0) (-2147483648) (-2147483648) r → post r (1, 1, 1, c, h', a1, a2, a3, a4, a5, a6, a7, a8, a9, a10, b1, b2, b3)) : wpX_most post (1, 1, 1, c, h, a1, a2, a3, a4, a5, a6, a7, a8, a9, a10, a11, a12, a13) lo hi := by
  unfold wpX_most
  refine gf_rect (fun B => ?_) (fun B => ?_)
  · refine br_f gf_n1 ?_
    refine gf_collect h3 h4 (fun h' b1 b2 b3 P => ?_)
    rcases P with ⟨e, i, e1, e2⟩ | ⟨e, i⟩
    · subst e
      refine ⟨2, br_f gf_n10 ⟨gf_v0 (by decide) (by decide), ?_⟩⟩
      rw [gf_c0, e2]
      refine br_c (fun g => nm_r gf_01 (br_t gf_11 (H _ _ _ _ _ (Or.inl ⟨B, i, (gf_min g).symm⟩)))) (fun g => ⟨gf_v0 (by decide) (by decide), nm_e (nm_r gf_01 (br_t gf_11 (H _ _ _ _ _ (Or.inl ⟨B, i, rfl⟩))))⟩)
    · subst e
      exact ⟨1, br_t gf_00 (H _ _ _ _ _ (Or.inr (Or.inl ⟨B, i, rfl⟩)))⟩
  · exact br_t rfl (H _ _ _ _ _ (Or.inr (Or.inr ⟨B, rfl⟩)))
theorem gf_point (h3 : a3 0 = 0) (h4 : a4 0 = 0 ∨ a4 0 = 1)
    (H : ∀ (r h' : Int32) (b1 b2 b3 : Nat → Int32), gf_R (gf_box lo hi) (a4 0 = 1 ∧ gf_in (a9 0) lo hi) (a9 0) (-2) (-1) r → post r (1, 1, 1, c, h', a1, a2, a3, a4, a5, a6, a7, a8, a9, a10, b1, b2, b3)) : wpX_point post (1, 1, 1, c, h, a1, a2, a3, a4, a5, a6, a7, a8, a9, a10, a11, a12, a13) lo hi 0 := by
  unfold wpX_point
  refine gf_rect (fun B => ?_) (fun B => ?_)
  · refine br_f gf_n1 ?_
    refine gf_collect h3 h4 (fun h' b1 b2 b3 P => ?_)
    rcases P with ⟨e, i, e1, e2⟩ | ⟨e, i⟩
    · subst e
      refine gf_sort gf_11 ?_
      refine br_f gf_l00 (br_f gf_n10 ⟨gf_v0 (by decide) (by decide), ?_⟩)
      rw [gf_c0]
      exact H _ _ _ _ _ (Or.inl ⟨B, i, e1⟩)
    · subst e
      refine gf_sort gf_e01 ?_
      exact br_f gf_l00 (br_t gf_00 (H _ _ _ _ _ (Or.inr (Or.inl ⟨B, i, rfl⟩))))
  · exact br_t rfl (H _ _ _ _ _ (Or.inr (Or.inr ⟨B, rfl⟩)))
theorem gf_clear (h3 : a3 0 = 0) (h4 : a4 0 = 0 ∨ a4 0 = 1)
    (H : ∀ (r c' h' : Int32) (b4 b9 b10 b1 b2 b3 : Nat → Int32), gf_R (gf_box lo hi) (a4 0 = 1 ∧ gf_in (a9 0) lo hi) 1 0 (-1) r → post r (1, 1, 1, c', h', a1, a2, a3, b4, a5, a6, a7, a8, b9, b10, b1, b2, b3)) : wpX_clear post (1, 1, 1, c, h, a1, a2, a3, a4, a5, a6, a7, a8, a9, a10, a11, a12, a13) lo hi := by
  unfold wpX_clear
  refine gf_rect (fun B => ?_) (fun B => ?_)
  · refine br_f gf_n1 ?_
    refine gf_collect h3 h4 (fun h' b1 b2 b3 P => ?_)
    rcases P with ⟨e, i, e1, e2⟩ | ⟨e, i⟩
    · subst e
      refine ⟨2, br_f gf_n10 ⟨gf_v0 (by decide) (by decide), gf_v0 (by decide) (by decide), ?_⟩⟩
      refine gf_find1 h3 i.1 (fun r hr => ?_)
      rcases hr with hr | hr
      · subst hr
        refine gf_drop0 i.1 (fun c' b4 b9 b10 => ?_)
        exact nm_r gf_01 (br_t gf_11 (H _ _ _ _ _ _ _ _ _ (Or.inl ⟨B, i, rfl⟩)))
      · subst hr
        refine gf_dropN (fun c' b4 b9 b10 => ?_)
        exact nm_r gf_01 (br_t gf_11 (H _ _ _ _ _ _ _ _ _ (Or.inl ⟨B, i, rfl⟩)))
    · subst e
      exact ⟨1, br_t gf_00 (H _ _ _ _ _ _ _ _ _ (Or.inr (Or.inl ⟨B, i, rfl⟩)))⟩
  · exact br_t rfl (H _ _ _ _ _ _ _ _ _ (Or.inr (Or.inr ⟨B, rfl⟩)))
end
end
section
section
variable {post : Int32 → St0 → Prop} {mc ms kc ks : Nat} {x0 x1 x2 x3 x4 x6 x8 x9 z c h : Int32} {a1 a2 a3 a4 a5 a6 a7 a8 a9 a10 a11 a12 a13 : Nat → Int32}
theorem gf_286 (h3 : a3 0 = 0) (h4 : a4 0 = 0 ∨ a4 0 = 1) (hx : gf_X (gf_box x3 x4) (a4 0 = 1 ∧ gf_in (a9 0) x3 x4) x8 x9) (H : post 1 ()) : wL_lawOf_286 post mc ms x3 x4 x8 x9 z z kc ks 1 1 1 c h a1 a2 a3 a4 a5 a6 a7 a8 a9 a10 a11 a12 a13 := by
  unfold wL_lawOf_286
  refine br_t rfl ?_
  refine gf_clear h3 h4 (fun r c' h' b4 b9 b10 b1 b2 b3 hr => ?_)
  exact gf_sel3 (Q := fun z => wL_lawOf_318 post mc ms z r kc ks) hx hr (br_t rfl H)
theorem gf_247 (h3 : a3 0 = 0) (h4 : a4 0 = 0 ∨ a4 0 = 1) (hI : a4 0 = 1 → a9 0 = 32 * x0 + x1) (hx : gf_X (gf_box x3 x4) (a4 0 = 1 ∧ gf_in (a9 0) x3 x4) x8 x9) (H : post 1 ()) : wL_lawOf_247 post mc ms x0 x1 x3 x4 x8 x9 z z kc ks 1 1 1 c h a1 a2 a3 a4 a5 a6 a7 a8 a9 a10 a11 a12 a13 := by
  unfold wL_lawOf_247
  refine br_t rfl ?_
  refine gf_point h3 h4 (fun r h' b1 b2 b3 hr => ?_)
  exact gf_sel3 (Q := fun z => wL_lawOf_286 post mc ms x3 x4 x8 x9 z r kc ks 1 1 1 c h' a1 a2 a3 a4 a5 a6 a7 a8 a9 a10 b1 b2 b3) hx (gf_Rv (fun i => hI i.1) hr) (gf_286 h3 h4 hx H)
theorem gf_223 (h3 : a3 0 = 0) (h4 : a4 0 = 0 ∨ a4 0 = 1) (hI : a4 0 = 1 → a9 0 = 32 * x0 + x1) (hV : a4 0 = 1 → a10 0 = x2) (hx : gf_X (gf_box x3 x4) (a4 0 = 1 ∧ gf_in (a9 0) x3 x4) x8 x9) (H : post 1 ()) : wL_lawOf_223 post mc ms x0 x1 x2 x3 x4 x8 x9 z z kc ks 1 1 1 c h a1 a2 a3 a4 a5 a6 a7 a8 a9 a10 a11 a12 a13 := by
  unfold wL_lawOf_223
  refine br_t rfl ?_
  refine gf_most h3 h4 (fun r h' b1 b2 b3 hr => ?_)
  exact gf_sel2 (Q := fun z => wL_lawOf_247 post mc ms x0 x1 x3 x4 x8 x9 z r kc ks 1 1 1 c h' a1 a2 a3 a4 a5 a6 a7 a8 a9 a10 b1 b2 b3) hx (gf_Rv (fun i => hV i.1) hr) (gf_247 h3 h4 hI hx H)
theorem gf_200 (h3 : a3 0 = 0) (h4 : a4 0 = 0 ∨ a4 0 = 1) (hI : a4 0 = 1 → a9 0 = 32 * x0 + x1) (hV : a4 0 = 1 → a10 0 = x2) (hx : gf_X (gf_box x3 x4) (a4 0 = 1 ∧ gf_in (a9 0) x3 x4) x8 x9) (H : post 1 ()) : wL_lawOf_200 post mc ms x0 x1 x2 x3 x4 x8 x9 z z kc ks 1 1 1 c h a1 a2 a3 a4 a5 a6 a7 a8 a9 a10 a11 a12 a13 := by
  unfold wL_lawOf_200
  refine br_t rfl ?_
  refine gf_sum h3 h4 (fun r h' b1 b2 b3 hr => ?_)
  exact gf_sel2 (Q := fun z => wL_lawOf_223 post mc ms x0 x1 x2 x3 x4 x8 x9 z r kc ks 1 1 1 c h' a1 a2 a3 a4 a5 a6 a7 a8 a9 a10 b1 b2 b3) hx (gf_Rv (fun i => hV i.1) hr) (gf_223 h3 h4 hI hV hx H)
theorem gf_171 (h3 : a3 0 = 0) (h4 : a4 0 = 0 ∨ a4 0 = 1) (hI : a4 0 = 1 → a9 0 = 32 * x0 + x1) (hV : a4 0 = 1 → a10 0 = x2) (hx : gf_X (gf_box x3 x4) (a4 0 = 1 ∧ gf_in (a9 0) x3 x4) x8 x9) (H : post 1 ()) : wL_lawOf_171 post mc ms x0 x1 x2 x3 x4 x8 x9 kc ks 1 1 1 c h a1 a2 a3 a4 a5 a6 a7 a8 a9 a10 a11 a12 a13 := by
  unfold wL_lawOf_171
  refine gf_count h3 h4 (fun r h' b1 b2 b3 hr => ?_)
  exact gf_sel3 (Q := fun z => wL_lawOf_200 post mc ms x0 x1 x2 x3 x4 x8 x9 z r kc ks 1 1 1 c h' a1 a2 a3 a4 a5 a6 a7 a8 a9 a10 b1 b2 b3) hx hr (gf_200 h3 h4 hI hV hx H)
theorem gf_170 (h3 : a3 0 = 0) (h4 : a4 0 = 0 ∨ a4 0 = 1) (hI : a4 0 = 1 → a9 0 = 32 * x0 + x1) (hV : a4 0 = 1 → a10 0 = x2) (hx : gf_X (gf_box x3 x4) (a4 0 = 1 ∧ gf_in (a9 0) x3 x4) x8 0) (H : post 1 ()) : wL_lawOf_170 post mc ms x0 x1 x2 x3 x4 x8 kc ks 1 1 1 c h a1 a2 a3 a4 a5 a6 a7 a8 a9 a10 a11 a12 a13 := by
  unfold wL_lawOf_170
  exact gf_171 h3 h4 hI hV hx H
/-- what the law holds once the point is put: x6 is its mark 'good' -/
def gf_K (x0 x1 x2 x6 : Int32) (a3 a4 a9 a10 : Nat → Int32) : Prop := a3 0 = 0 ∧ ((x6 = 1 ∧ a4 0 = 1 ∧ gf_good x0 x1 ∧ a9 0 = 32 * x0 + x1 ∧ a10 0 = x2) ∨ (x6 = 0 ∧ a4 0 = 0))
theorem gf_K4 (k : gf_K x0 x1 x2 x6 a3 a4 a9 a10) : a4 0 = 0 ∨ a4 0 = 1 := by
  rcases k.2 with t | t
  · exact Or.inr t.2.1
  · exact Or.inl t.2
theorem gf_KI (k : gf_K x0 x1 x2 x6 a3 a4 a9 a10) (e : a4 0 = 1) : a9 0 = 32 * x0 + x1 := by
  rcases k.2 with t | t
  · exact t.2.2.2.1
  · exact absurd (t.2.symm.trans e) (by decide)
theorem gf_KV (k : gf_K x0 x1 x2 x6 a3 a4 a9 a10) (e : a4 0 = 1) : a10 0 = x2 := by
  rcases k.2 with t | t
  · exact t.2.2.2.2
  · exact absurd (t.2.symm.trans e) (by decide)
theorem gf_121 (k : gf_K x0 x1 x2 x6 a3 a4 a9 a10) (nb : ¬ gf_box x3 x4) (H : post 1 ()) : wL_lawOf_121 post mc ms x0 x1 x2 x3 x4 x6 kc ks 1 1 1 c h a1 a2 a3 a4 a5 a6 a7 a8 a9 a10 a11 a12 a13 := by
  unfold wL_lawOf_121
  unfold wL_lawOf_122
  exact br_t rfl (gf_170 k.1 (gf_K4 k) (gf_KI k) (gf_KV k) (Or.inr (Or.inr ⟨rfl, rfl, nb⟩)) H)
theorem gf_122 (k : gf_K x0 x1 x2 x6 a3 a4 a9 a10) (hb : gf_box x3 x4) (H : post 1 ()) : wL_lawOf_122 post mc ms x0 x1 x2 x3 x4 x6 1 kc ks 1 1 1 c h a1 a2 a3 a4 a5 a6 a7 a8 a9 a10 a11 a12 a13 := by
  have hO : ¬ (a4 0 = 1 ∧ gf_in (a9 0) x3 x4) → wL_lawOf_170 post mc ms x0 x1 x2 x3 x4 1 kc ks 1 1 1 c h a1 a2 a3 a4 a5 a6 a7 a8 a9 a10 a11 a12 a13 := fun n => gf_170 k.1 (gf_K4 k) (gf_KI k) (gf_KV k) (Or.inr (Or.inl ⟨rfl, rfl, hb, n⟩)) H
  have hN : (a4 0 = 1 ∧ gf_in (a9 0) x3 x4) → wL_lawOf_171 post mc ms x0 x1 x2 x3 x4 1 1 kc ks 1 1 1 c h a1 a2 a3 a4 a5 a6 a7 a8 a9 a10 a11 a12 a13 := fun n => gf_171 k.1 (gf_K4 k) (gf_KI k) (gf_KV k) (Or.inl ⟨rfl, rfl, hb, n⟩) H
  unfold wL_lawOf_122
  refine br_f gf_n1 ?_
  rcases k.2 with ⟨e6, e4, g, e9, _⟩ | ⟨e6, e4⟩
  · rw [e9] at hO hN
    unfold gf_in at hO hN
    rw [(gf_pq g).1, (gf_pq g).2] at hO hN
    refine br_f (by rw [e6]; decide) ?_
    refine br_c (fun z => hO (fun t => t.2.1 z)) (fun z1 => ?_)
    refine br_c (fun z => hO (fun t => t.2.2.1 z)) (fun z2 => ?_)
    refine br_c (fun z => hO (fun t => t.2.2.2.1 z)) (fun z3 => ?_)
    refine br_c (fun z => hO (fun t => t.2.2.2.2 z)) (fun z4 => ?_)
    exact hN ⟨e4, z1, z2, z3, z4⟩
  · exact br_t e6 (hO (fun t => absurd (e4.symm.trans t.1) (by decide)))
theorem gf_87 (k : gf_K x0 x1 x2 x6 a3 a4 a9 a10) (nb : ¬ gf_box x3 x4) (H : post 1 ()) : wL_lawOf_87 post mc ms x0 x1 x2 x3 x4 x6 kc ks 1 1 1 c h a1 a2 a3 a4 a5 a6 a7 a8 a9 a10 a11 a12 a13 := by
  unfold wL_lawOf_87
  unfold wL_lawOf_88
  exact br_t rfl (gf_121 k nb H)
theorem gf_54 (k : gf_K x0 x1 x2 x6 a3 a4 a9 a10) (H : post 1 ()) : wL_lawOf_54 post mc ms x0 x1 x2 x3 x4 x6 z z kc ks 1 1 1 c h a1 a2 a3 a4 a5 a6 a7 a8 a9 a10 a11 a12 a13 := by
  unfold wL_lawOf_54
  refine br_t rfl ?_
  refine br_c (fun g => gf_87 k (fun t => t.1 g) H) (fun g1 => ?_)
  refine br_c (fun g => gf_87 k (fun t => t.2.1 g) H) (fun g2 => ?_)
  refine br_c (fun g => gf_87 k (fun t => t.2.2.1 g) H) (fun g3 => ?_)
  refine br_c (fun g => gf_87 k (fun t => t.2.2.2.1 g) H) (fun g4 => ?_)
  unfold wL_lawOf_88
  refine br_f gf_n1 ?_
  refine br_c (fun g => gf_121 k (fun t => t.2.2.2.2.1 g) H) (fun g5 => ?_)
  refine br_c (fun g => gf_121 k (fun t => t.2.2.2.2.2 g) H) (fun g6 => ?_)
  exact gf_122 k ⟨g1, g2, g3, g4, g5, g6⟩ H
theorem gf_34 (g : gf_good x0 x1) (h3 : a3 0 = 0) (h4 : a4 0 = 0) (H : post 1 ()) : wL_lawOf_34 post mc ms x0 x1 x2 x3 x4 1 kc ks 1 1 1 0 h a1 a2 a3 a4 a5 a6 a7 a8 a9 a10 a11 a12 a13 := by
  unfold wL_lawOf_34
  refine gf_put1 g h3 h4 (fun b4 b9 b10 e4 e9 e10 => ?_)
  exact br_f gf_n1 (gf_54 ⟨h3, Or.inl ⟨rfl, e4, g, e9, e10⟩⟩ H)
theorem gf_33 (g : ¬ gf_good x0 x1) (h3 : a3 0 = 0) (h4 : a4 0 = 0) (H : post 1 ()) : wL_lawOf_33 post mc ms x0 x1 x2 x3 x4 kc ks 1 1 1 0 h a1 a2 a3 a4 a5 a6 a7 a8 a9 a10 a11 a12 a13 := by
  unfold wL_lawOf_33
  unfold wL_lawOf_34
  refine gf_put0 g ?_
  exact br_t rfl (gf_54 ⟨h3, Or.inr ⟨rfl, h4⟩⟩ H)
theorem gf_lawOf {u : St0} (hc : 14 ≤ mc) (hs : 2084 ≤ ms) (H : post 1 ()) : wpL_lawOf post mc ms u x0 x1 x2 x3 x4 := by
  unfold wpL_lawOf
  refine ⟨by omega, by omega, 13, 2066, by omega, by omega, ?_⟩
  refine gf_init (by omega) (by omega) (fun a1 a2 a3 a4 a5 a6 a7 a8 a9 a10 a11 a12 a13 h3 h4 => ?_)
  refine br_c (fun g => gf_33 (fun t => t.1 g) h3 h4 H) (fun g1 => ?_)
  refine br_c (fun g => gf_33 (fun t => t.2.1 (gf_31 g)) h3 h4 H) (fun g2 => ?_)
  refine br_c (fun g => gf_33 (fun t => t.2.2.1 g) h3 h4 H) (fun g3 => ?_)
  refine br_c (fun g => gf_33 (fun t => t.2.2.2 (gf_31 g)) h3 h4 H) (fun g4 => ?_)
  exact gf_34 ⟨g1, gf_n32 g2, g3, gf_n32 g4⟩ h3 h4 H
end
theorem gf_cell {post : Int32 → Prop} {L : Nat} {xs : Nat → Int32} {u : St0} {p : Int32} (i : Nat) (hp : p = nI i) (hi : i ≤ 4) (hL : L ≤ 5) (H : ∀ r, post r) : wpL_cellAt post L xs u p := by
  subst hp
  unfold wpL_cellAt
  exact pk_le L i (fun _ => H 0) (fun z => ⟨vp_in_nI z (by omega), H _⟩)
end
section
theorem i_vc (xs : Nat → Int32) (L : Nat) (hL : L ≤ 5) : wpL_law (fun r => r = 1) L xs := by
  unfold wpL_law
  refine gf_cell 0 rfl (by decide) hL (fun r1 => ?_)
  refine gf_cell 1 rfl (by decide) hL (fun r2 => ?_)
  refine gf_cell 2 rfl (by decide) hL (fun r3 => ?_)
  refine gf_cell 3 rfl (by decide) hL (fun r4 => ?_)
  refine gf_cell 4 rfl (by decide) hL (fun r5 => ?_)
  exact ⟨14, 2084, by decide, by decide, gf_lawOf (by decide) (by decide) rfl⟩
end
