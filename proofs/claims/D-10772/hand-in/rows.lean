section
/-! small facts -/
theorem pa_z : (0 : Int32).toNatClampNeg = 0 := by decide
theorem pa_u {f : Nat → Int32} {x : Int32} : upd f (0 : Int32).toNatClampNeg x 0 = x := by
  rw [pa_z]
  exact pk_us
theorem pa_p {post : Int32 → St2 → Prop} {r r' : Int32} {s : St2} (e : r = r') (h : post r' s) : post r s := by
  rw [e]
  exact h
theorem pa_l0 {a : Nat → Int32} (h : a 0 = 0) : 3 * (0 : Int32) + a (0 : Int32).toNatClampNeg ≤ 0 := by
  rw [pa_z, h]
  decide
theorem pa_l1 {a : Nat → Int32} (h : a 0 = 1) : ¬ 3 * (0 : Int32) + a (0 : Int32).toNatClampNeg ≤ 0 := by
  rw [pa_z, h]
  decide
theorem pa_l2 {a : Nat → Int32} (h : a 0 = 1) : 3 * (0 : Int32) + a (0 : Int32).toNatClampNeg ≤ 1 := by
  rw [pa_z, h]
  decide
theorem pa_x0 {a : Nat → Int32} (h : a 0 = 0) : 3 * (0 : Int32) + a (0 : Int32).toNatClampNeg = 0 := by
  rw [pa_z, h]
  decide
theorem pa_s1 {a : Nat → Int32} (h : a 0 = 0) : a (0 : Int32).toNatClampNeg + 1 = 1 := by
  rw [pa_z, h]
  decide
theorem pa_ne3 {a : Nat → Int32} (h : a 0 = 0) : ¬ a (0 : Int32).toNatClampNeg = 3 := by
  rw [pa_z, h]
  decide
theorem pa_le {a : Nat → Int32} (h : a 0 = 0) : (0 : Int32) ≤ a (0 : Int32).toNatClampNeg := by
  have e : a (0 : Int32).toNatClampNeg = 0 := h
  refine Int32.not_lt.mp (fun z => ?_)
  rw [e] at z
  exact absurd z (by decide)
theorem pa_and0 {a : Nat → Int32} {k : Int32} (h : a 0 = 0) : a (0 : Int32).toNatClampNeg &&& k = 0 := by
  rw [pa_z, h]
  exact Int32.zero_and
theorem pa_or0 {a : Nat → Int32} (h : a 0 = 0) : (0 : Int32) ||| a (0 : Int32).toNatClampNeg = 0 := by
  rw [pa_z, h]
  decide
theorem pa_a5 {a : Nat → Int32} (h : a 0 = 0) : (5 : Int32) + a (0 : Int32).toNatClampNeg = 5 := by
  rw [pa_z, h]
  decide
theorem pa_01 {x : Int32} (h : x = 0) : ¬ x = 1 := by
  rw [h]
  decide
theorem pa_56 {x : Int32} : x ≤ 5 ↔ ¬ 6 ≤ x := by
  rw [Int32.le_iff_toInt_le, Int32.le_iff_toInt_le]
  have a : (5 : Int32).toInt = 5 := by decide
  have b : (6 : Int32).toInt = 6 := by decide
  omega
/-- a need is met by its own unit or not: and with a mask -/
theorem pa_mk {a : Nat → Int32} {m : Int32} (k : Int32) (h : a 0 = m) (hm : m = 0 ∨ m = 1) (hk : (1 : Int32) &&& k = 1) : a (0 : Int32).toNatClampNeg &&& k = 0 ↔ m = 0 := by
  rw [pa_z, h]
  rcases hm with e | e
  · rw [e, Int32.zero_and]
  · rw [e, hk]
theorem pa_can {a : Nat → Int32} {m x : Int32} (h : a 0 = m) (hm : m = 0 ∨ m = 1) (e : x = a (0 : Int32).toNatClampNeg &&& ((0 : Int32) ^^^ (-1))) : (x = 0 ↔ m = 0) ∧ (¬ x = 0 → ¬ x &&& 1 = 0) := by
  have q : x = m := by
    rw [e, pa_z, h]
    rcases hm with e | e
    · rw [e]
      decide +kernel
    · rw [e]
      decide +kernel
  rw [q]
  refine ⟨Iff.rfl, fun z => ?_⟩
  rcases hm with e | e
  · exact absurd e z
  · rw [e]
    decide
/-! what the law asks of its ints -/
def pa_gN (x : Int32) : Prop := ¬ x < 0 ∧ ¬ 4 < x
def pa_gV (x : Int32) : Prop := ¬ x < 1 ∧ ¬ 9 < x
def pa_gC (x : Int32) : Prop := ¬ x < 0 ∧ ¬ 5 < x
def pa_gK (x : Int32) : Prop := ¬ x < 0 ∧ ¬ 63 < x ∧ ¬ 6 ≤ (x &&& 7)
def pa_gR (l h : Int32) : Prop := ¬ l < 1 ∧ ¬ h < l ∧ ¬ 9 < h
def pa_met (x2 x3 x4 x5 : Int32) : Prop := pa_gC x2 ∧ pa_gV x3 ∧ ¬ x3 < x4 ∧ ¬ x5 < x3
/-! the first methods -/
section
variable {c b cu no st fi fo bc bs : Int32} {a1 a2 a3 a4 a5 a6 a7 a8 a9 a10 a11 a12 a13 a14 a15 a16 a17 a18 a19 : Nat → Int32}
theorem pa_isUnit0 {post : Int32 → Prop} (h : post 0) : wpX_isUnit post (0, b, cu, no, st, fi, fo, bc, bs, a1, a2, a3, a4, a5, a6, a7, a8, a9, a10, a11, a12, a13, a14, a15, a16, a17, a18, a19) 0 := br_f (by decide) (br_t (by decide) h)
theorem pa_isUnit1 {post : Int32 → Prop} (h : post 1) : wpX_isUnit post (1, b, cu, no, st, fi, fo, bc, bs, a1, a2, a3, a4, a5, a6, a7, a8, a9, a10, a11, a12, a13, a14, a15, a16, a17, a18, a19) 0 := br_f (by decide) (br_f (by decide) h)
theorem pa_isSet0 {post : Int32 → Prop} (h : post 0) : wpX_isSet post (0, b, cu, no, st, fi, fo, bc, bs, a1, a2, a3, a4, a5, a6, a7, a8, a9, a10, a11, a12, a13, a14, a15, a16, a17, a18, a19) 1 := br_f (by decide) (br_t (by decide +kernel) h)
theorem pa_isSet1 {post : Int32 → Prop} (h : post 1) : wpX_isSet post (1, b, cu, no, st, fi, fo, bc, bs, a1, a2, a3, a4, a5, a6, a7, a8, a9, a10, a11, a12, a13, a14, a15, a16, a17, a18, a19) 1 := br_f (by decide) (br_f (by decide +kernel) h)
theorem pa_isSet10 {post : Int32 → Prop} (h : post 1) : wpX_isSet post (1, b, cu, no, st, fi, fo, bc, bs, a1, a2, a3, a4, a5, a6, a7, a8, a9, a10, a11, a12, a13, a14, a15, a16, a17, a18, a19) 0 := br_f (by decide) (br_f (by decide +kernel) h)
theorem pa_nOffer {post : Int32 → St2 → Prop} {p1 p2 : Int32} (h : post (-1) (0, b, cu, no, st, fi, fo, bc, bs, a1, a2, a3, a4, a5, a6, a7, a8, a9, a10, a11, a12, a13, a14, a15, a16, a17, a18, a19)) : wpX_offer post (0, b, cu, no, st, fi, fo, bc, bs, a1, a2, a3, a4, a5, a6, a7, a8, a9, a10, a11, a12, a13, a14, a15, a16, a17, a18, a19) 0 p1 p2 := by
  unfold wpX_offer
  exact pa_isUnit0 (br_t rfl h)
theorem pa_nNeed {post : Int32 → St2 → Prop} {p1 p2 p3 : Int32} (h : post (-1) (0, b, cu, no, st, fi, fo, bc, bs, a1, a2, a3, a4, a5, a6, a7, a8, a9, a10, a11, a12, a13, a14, a15, a16, a17, a18, a19)) : wpX_need post (0, b, cu, no, st, fi, fo, bc, bs, a1, a2, a3, a4, a5, a6, a7, a8, a9, a10, a11, a12, a13, a14, a15, a16, a17, a18, a19) 0 p1 p2 p3 := by
  unfold wpX_need
  exact pa_isUnit0 (br_t rfl h)
theorem pa_nSound {post : Int32 → St2 → Prop} (h : post (-1) (0, b, cu, no, st, fi, fo, bc, bs, a1, a2, a3, a4, a5, a6, a7, a8, a9, a10, a11, a12, a13, a14, a15, a16, a17, a18, a19)) : wpX_sound post (0, b, cu, no, st, fi, fo, bc, bs, a1, a2, a3, a4, a5, a6, a7, a8, a9, a10, a11, a12, a13, a14, a15, a16, a17, a18, a19) 1 := by
  unfold wpX_sound
  exact pa_isSet0 (br_t rfl h)
theorem pa_nCost {post : Int32 → St2 → Prop} (h : post (-1) (0, b, cu, no, st, fi, fo, bc, bs, a1, a2, a3, a4, a5, a6, a7, a8, a9, a10, a11, a12, a13, a14, a15, a16, a17, a18, a19)) : wpX_cost post (0, b, cu, no, st, fi, fo, bc, bs, a1, a2, a3, a4, a5, a6, a7, a8, a9, a10, a11, a12, a13, a14, a15, a16, a17, a18, a19) 1 := by
  unfold wpX_cost
  exact pa_isSet0 (br_t rfl h)
theorem pa_nPlan {post : Int32 → St2 → Prop} (h : post (-1) (0, b, cu, no, st, fi, fo, bc, bs, a1, a2, a3, a4, a5, a6, a7, a8, a9, a10, a11, a12, a13, a14, a15, a16, a17, a18, a19)) : wpX_plan post (0, b, cu, no, st, fi, fo, bc, bs, a1, a2, a3, a4, a5, a6, a7, a8, a9, a10, a11, a12, a13, a14, a15, a16, a17, a18, a19) 1 0 := by
  unfold wpX_plan
  exact pa_isSet0 (br_t rfl h)
theorem pa_nApply {post : Int32 → St2 → Prop} (h : post (-1) (0, b, cu, no, st, fi, fo, bc, bs, a1, a2, a3, a4, a5, a6, a7, a8, a9, a10, a11, a12, a13, a14, a15, a16, a17, a18, a19)) : wpX_apply post (0, b, cu, no, st, fi, fo, bc, bs, a1, a2, a3, a4, a5, a6, a7, a8, a9, a10, a11, a12, a13, a14, a15, a16, a17, a18, a19) 1 0 := by
  unfold wpX_apply
  exact pa_nPlan (br_f (by decide) h)
theorem pa_unit {post : Int32 → St2 → Prop} {p0 p1 : Int32} (h1 : ¬ pa_gN p0 → post (-1) (0, b, cu, no, st, fi, fo, bc, bs, a1, a2, a3, a4, a5, a6, a7, a8, a9, a10, a11, a12, a13, a14, a15, a16, a17, a18, a19)) (h2 : pa_gN p0 → ¬ pa_gV p1 → post (-2) (0, b, cu, no, st, fi, fo, bc, bs, a1, a2, a3, a4, a5, a6, a7, a8, a9, a10, a11, a12, a13, a14, a15, a16, a17, a18, a19))
    (h3 : pa_gN p0 → pa_gV p1 → ∀ b1 b2 b3 b4 b5 : Nat → Int32, b4 0 = 0 → b5 0 = 0 → post 0 (1, b, cu, no, st, fi, fo, bc, bs, b1, b2, b3, b4, b5, a6, a7, a8, a9, a10, a11, a12, a13, a14, a15, a16, a17, a18, a19)) : wpX_unit post (0, b, cu, no, st, fi, fo, bc, bs, a1, a2, a3, a4, a5, a6, a7, a8, a9, a10, a11, a12, a13, a14, a15, a16, a17, a18, a19) p0 p1 1 := by
  refine br_c (fun g => h1 (fun t => t.1 g)) (fun g => br_c (fun g4 => ?_) (fun g4 => h1 (fun t => t.2 (Int32.not_le.mp g4))))
  have G : pa_gN p0 := ⟨g, Int32.not_lt.mpr g4⟩
  refine br_c (fun v => h2 G (fun t => t.1 v)) (fun v => br_c (fun v9 => ?_) (fun v9 => h2 G (fun t => t.2 (Int32.not_le.mp v9))))
  have V : pa_gV p1 := ⟨v, Int32.not_lt.mpr v9⟩
  refine Exists.intro 1 (br_t (by decide) (br_f (by decide) ⟨pk_in 0 10 (by decide), fun b1 _ => ⟨pk_in 0 10 (by decide), fun b2 _ => br_f (by decide) ?_⟩⟩))
  refine And.intro (pk_in 0 10 (by decide)) (fun b3 _ => ⟨pk_in 0 10 (by decide), fun b4 e4 => ⟨pk_in 0 10 (by decide), fun b5 e5 => nm_r (show (0 : Int32) + 1 = 1 by decide) ?_⟩⟩)
  exact pa_p (show (1 : Int32) - 1 = 0 by decide) (h3 G V b1 b2 b3 b4 b5 (by rw [e4]; exact pa_u) (by rw [e5]; exact pa_u))
theorem pa_offer {post : Int32 → St2 → Prop} {p1 p2 : Int32} (h4 : a4 0 = 0) (h2 : ¬ pa_gC p1 → post (-2) (1, b, cu, no, st, fi, fo, bc, bs, a1, a2, a3, a4, a5, a6, a7, a8, a9, a10, a11, a12, a13, a14, a15, a16, a17, a18, a19)) (h3 : pa_gC p1 → ¬ pa_gV p2 → post (-3) (1, b, cu, no, st, fi, fo, bc, bs, a1, a2, a3, a4, a5, a6, a7, a8, a9, a10, a11, a12, a13, a14, a15, a16, a17, a18, a19))
    (hy : pa_gC p1 → pa_gV p2 → ∀ b4 b6 b7 : Nat → Int32, b4 0 = 1 → b6 0 = p1 → b7 0 = p2 → post 1 (1, b, cu, no, st, fi, fo, bc, bs, a1, a2, a3, b4, a5, b6, b7, a8, a9, a10, a11, a12, a13, a14, a15, a16, a17, a18, a19)) : wpX_offer post (1, b, cu, no, st, fi, fo, bc, bs, a1, a2, a3, a4, a5, a6, a7, a8, a9, a10, a11, a12, a13, a14, a15, a16, a17, a18, a19) 0 p1 p2 := by
  unfold wpX_offer
  refine pa_isUnit1 (br_f (by decide) (br_c (fun g => h2 (fun t => t.1 g)) (fun g => br_c (fun g5 => ?_) (fun g5 => h2 (fun t => t.2 (Int32.not_le.mp g5))))))
  have G : pa_gC p1 := ⟨g, Int32.not_lt.mpr g5⟩
  refine br_c (fun v => h3 G (fun t => t.1 v)) (fun v => br_c (fun v9 => ?_) (fun v9 => h3 G (fun t => t.2 (Int32.not_le.mp v9))))
  have V : pa_gV p2 := ⟨v, Int32.not_lt.mpr v9⟩
  refine ⟨pk_in 0 10 (by decide), br_f (pa_ne3 h4) ⟨pk_in 0 10 (by decide), nm_r (pa_x0 h4) ⟨pk_in 0 30 (by decide), fun b6 e6 => ⟨pk_in 0 30 (by decide), fun b7 e7 => ⟨pk_in 0 10 (by decide), pk_in 0 10 (by decide), fun b4 e4 => ⟨pk_in 0 10 (by decide), ?_⟩⟩⟩⟩⟩⟩
  have z4 : b4 0 = 1 := by
    rw [e4]
    exact pa_u.trans (pa_s1 h4)
  exact pa_p z4 (hy G V b4 b6 b7 z4 (by rw [e6]; exact pa_u) (by rw [e7]; exact pa_u))
theorem pa_need {post : Int32 → St2 → Prop} {p1 p2 p3 : Int32} (h5 : a5 0 = 0) (h2 : ¬ pa_gK p1 → post (-2) (1, b, cu, no, st, fi, fo, bc, bs, a1, a2, a3, a4, a5, a6, a7, a8, a9, a10, a11, a12, a13, a14, a15, a16, a17, a18, a19)) (h3 : pa_gK p1 → ¬ pa_gR p2 p3 → post (-3) (1, b, cu, no, st, fi, fo, bc, bs, a1, a2, a3, a4, a5, a6, a7, a8, a9, a10, a11, a12, a13, a14, a15, a16, a17, a18, a19))
    (hy : pa_gK p1 → pa_gR p2 p3 → ∀ b5 b8 b9 b10 : Nat → Int32, b5 0 = 1 → b8 0 = p1 → b9 0 = p2 → b10 0 = p3 → post 1 (1, b, cu, no, st, fi, fo, bc, bs, a1, a2, a3, a4, b5, a6, a7, b8, b9, b10, a11, a12, a13, a14, a15, a16, a17, a18, a19)) : wpX_need post (1, b, cu, no, st, fi, fo, bc, bs, a1, a2, a3, a4, a5, a6, a7, a8, a9, a10, a11, a12, a13, a14, a15, a16, a17, a18, a19) 0 p1 p2 p3 := by
  unfold wpX_need
  refine pa_isUnit1 (br_f (by decide) (br_c (fun g => h2 (fun t => t.1 g)) (fun g => br_c (fun g6 => h2 (fun t => t.2.1 g6)) (fun g6 => br_c (fun g7 => ?_) (fun g7 => h2 (fun t => g7 (pa_56.mpr t.2.2)))))))
  have G : pa_gK p1 := ⟨g, g6, pa_56.mp g7⟩
  refine br_c (fun v => h3 G (fun t => t.1 v)) (fun v => br_c (fun w => h3 G (fun t => t.2.1 w)) (fun w => br_c (fun v9 => ?_) (fun v9 => h3 G (fun t => t.2.2 (Int32.not_le.mp v9)))))
  have V : pa_gR p2 p3 := ⟨v, w, Int32.not_lt.mpr v9⟩
  refine ⟨pk_in 0 10 (by decide), br_f (pa_ne3 h5) ⟨pk_in 0 10 (by decide), nm_r (pa_x0 h5) ⟨pk_in 0 30 (by decide), fun b8 e8 => ⟨pk_in 0 30 (by decide), fun b9 e9 => ⟨pk_in 0 30 (by decide), fun b10 e10 => ⟨pk_in 0 10 (by decide), pk_in 0 10 (by decide), fun b5 e5 => ⟨pk_in 0 10 (by decide), ?_⟩⟩⟩⟩⟩⟩⟩
  have z5 : b5 0 = 1 := by
    rw [e5]
    exact pa_u.trans (pa_s1 h5)
  exact pa_p z5 (hy G V b5 b8 b9 b10 z5 (by rw [e8]; exact pa_u) (by rw [e9]; exact pa_u) (by rw [e10]; exact pa_u))
end
end
section
/-! who meets the need: the only unit, or nobody -/
def pa_M (a4 a6 a7 a8 a9 a10 : Nat → Int32) : Int32 := if a4 0 = 1 ∧ ¬ a7 0 < a9 0 ∧ ¬ a10 0 < a7 0 ∧ a6 0 = a8 0 &&& 7 then 1 else 0
theorem pa_M01 {a4 a6 a7 a8 a9 a10 : Nat → Int32} : pa_M a4 a6 a7 a8 a9 a10 = 0 ∨ pa_M a4 a6 a7 a8 a9 a10 = 1 := by
  unfold pa_M
  split
  · exact Or.inr rfl
  · exact Or.inl rfl
theorem pa_My {a4 a6 a7 a8 a9 a10 : Nat → Int32} (h : a4 0 = 1 ∧ ¬ a7 0 < a9 0 ∧ ¬ a10 0 < a7 0 ∧ a6 0 = a8 0 &&& 7) : pa_M a4 a6 a7 a8 a9 a10 = 1 := if_pos h
theorem pa_Mn {a4 a6 a7 a8 a9 a10 : Nat → Int32} (h : ¬ (a4 0 = 1 ∧ ¬ a7 0 < a9 0 ∧ ¬ a10 0 < a7 0 ∧ a6 0 = a8 0 &&& 7)) : pa_M a4 a6 a7 a8 a9 a10 = 0 := if_neg h
/-- the need has no condition -/
def pa_c (x : Int32) : Prop := (x >>> ((3 : Int32) &&& 31)) &&& 3 = 0
/-- the need is asked and not met -/
def pa_bad (m : Int32) (a5 a8 : Nat → Int32) : Prop := a5 0 = 1 ∧ a8 0 < 32 ∧ pa_c (a8 0) ∧ m = 0
/-- the need is optional, applies, and is not met -/
def pa_bon (m : Int32) (a5 a8 : Nat → Int32) : Prop := a5 0 = 1 ∧ ¬ a8 0 < 32 ∧ pa_c (a8 0) ∧ m = 0
section
variable {c b cu no st fi fo bc bs : Int32} {a1 a2 a3 a4 a5 a6 a7 a8 a9 a10 a11 a12 a13 a14 a15 a16 a17 a18 a19 : Nat → Int32}
theorem pa_fm {post : Int32 → Prop} (h4 : a4 0 = 0 ∨ a4 0 = 1) (hp : post (pa_M a4 a6 a7 a8 a9 a10)) : wpX_findMeeters post (1, b, cu, no, st, fi, fo, bc, bs, a1, a2, a3, a4, a5, a6, a7, a8, a9, a10, a11, a12, a13, a14, a15, a16, a17, a18, a19) 0 := by
  have E : ∀ x : Int32, post x → wX_findMeeters_4 post 0 1 b cu no st fi fo bc bs a1 a2 a3 a4 a5 a6 a7 a8 a9 a10 a11 a12 a13 a14 a15 a16 a17 a18 a19 1 x 1 := fun x hx => br_t (by decide) hx
  refine Exists.intro 2 (br_f (by decide) (nm_r (show 3 * (0 : Int32) = 0 by decide) (Exists.intro 2 ?_)))
  rcases h4 with h4 | h4
  · rw [pa_Mn (fun t => pa_01 h4 t.1)] at hp
    exact And.intro (pk_in 0 10 (by decide)) (br_t (pa_l0 h4) (nm_r (show (0 : Int32) + 1 = 1 by decide) (E 0 hp)))
  · have F : ∀ x : Int32, post x → wX_findMeeters_17 post (wX_findMeeters_4 post 0 1 b cu no st fi fo bc bs a1 a2 a3 a4 a5 a6 a7 a8 a9 a10 a11 a12 a13 a14 a15 a16 a17 a18 a19 1) 0 0 1 b cu no st fi fo bc bs a1 a2 a3 a4 a5 a6 a7 a8 a9 a10 a11 a12 a13 a14 a15 a16 a17 a18 a19 1 x 1 := fun x hx => And.intro (pk_in 0 10 (by decide)) (br_t (pa_l2 h4) (nm_r (show (0 : Int32) + 1 = 1 by decide) (E x hx)))
    have N : ¬ (a4 0 = 1 ∧ ¬ a7 0 < a9 0 ∧ ¬ a10 0 < a7 0 ∧ a6 0 = a8 0 &&& 7) → wX_findMeeters_17 post (wX_findMeeters_4 post 0 1 b cu no st fi fo bc bs a1 a2 a3 a4 a5 a6 a7 a8 a9 a10 a11 a12 a13 a14 a15 a16 a17 a18 a19 1) 0 0 1 b cu no st fi fo bc bs a1 a2 a3 a4 a5 a6 a7 a8 a9 a10 a11 a12 a13 a14 a15 a16 a17 a18 a19 1 0 1 := fun t => F 0 (by rw [pa_Mn t] at hp; exact hp)
    refine And.intro (pk_in 0 10 (by decide)) (br_f (pa_l1 h4) ⟨pk_in 0 30 (by decide), pk_in 0 30 (by decide), br_c (fun g => ?_) (fun g => ⟨pk_in 0 30 (by decide), pk_in 0 30 (by decide), br_c (fun g2 => ?_) (fun g2 => ?_)⟩)⟩)
    · exact br_t rfl (nm_r (show (0 : Int32) + 1 = 1 by decide) (N (fun t => t.2.1 g)))
    · exact br_t rfl (nm_r (show (0 : Int32) + 1 = 1 by decide) (N (fun t => t.2.2.1 g2)))
    · refine br_f (by decide) ⟨pk_in 0 30 (by decide), pk_in 0 30 (by decide), br_c (fun g3 => nm_r (show (0 : Int32) ||| ((1 : Int32) <<< ((0 : Int32) &&& 31)) = 1 by decide +kernel) (nm_r (show (0 : Int32) + 1 = 1 by decide) (F 1 ?_))) (fun g3 => nm_r (show (0 : Int32) + 1 = 1 by decide) (N (fun t => g3 t.2.2.2)))⟩
      rw [pa_My ⟨h4, g, g2, g3⟩] at hp
      exact hp
theorem pa_prep {post : St2 → Prop} (h4 : a4 0 = 0 ∨ a4 0 = 1) (h5 : a5 0 = 0 ∨ a5 0 = 1)
    (hp : ∀ b11 b12 b13 : Nat → Int32, b12 0 = 0 → b13 0 = 0 → (a5 0 = 1 → b11 0 = pa_M a4 a6 a7 a8 a9 a10) → post (1, b, cu, no, st, fi, fo, bc, bs, a1, a2, a3, a4, a5, a6, a7, a8, a9, a10, b11, b12, b13, a14, a15, a16, a17, a18, a19)) : wpX_prepare post (1, b, cu, no, st, fi, fo, bc, bs, a1, a2, a3, a4, a5, a6, a7, a8, a9, a10, a11, a12, a13, a14, a15, a16, a17, a18, a19) := by
  refine Exists.intro 2 (br_f (by decide) ⟨pk_in 0 10 (by decide), fun b12 e12 => ⟨pk_in 0 10 (by decide), fun b13 e13 => ?_⟩⟩)
  have z12 : b12 0 = 0 := by
    rw [e12]
    exact pa_u
  have z13 : b13 0 = 0 := by
    rw [e13]
    exact pa_u
  refine Exists.intro 2 (br_f (by decide) ⟨pk_in 0 10 (by decide), pk_in 0 10 (by decide), br_t rfl ⟨pk_in 0 10 (by decide), pk_in 0 10 (by decide), nm_r (Int32.sub_self _) ⟨pk_in 0 10 (by decide), br_t (pa_le z13) ⟨pk_in 0 10 (by decide), ?_⟩⟩⟩⟩)
  refine And.intro (pk_in 0 10 (by decide)) (fun d13 f13 => br_t rfl (nm_r (show (0 : Int32) + 1 = 1 by decide) (br_t (by decide) (nm_r (show 3 * (0 : Int32) = 0 by decide) (Exists.intro 2 ?_)))))
  have y13 : d13 0 = 0 := by
    rw [f13]
    exact pa_u.trans z13
  rcases h5 with h5 | h5
  · exact And.intro (pk_in 0 10 (by decide)) (br_t (pa_l0 h5) (nm_r (show (0 : Int32) + 1 = 1 by decide) (br_t (by decide) (hp a11 b12 d13 z12 y13 (fun t => absurd t (pa_01 h5))))))
  · refine And.intro (pk_in 0 10 (by decide)) (br_f (pa_l1 h5) (pa_fm h4 ⟨pk_in 0 30 (by decide), fun b11 e11 => nm_r (show (0 : Int32) + 1 = 1 by decide) ?_⟩))
    exact And.intro (pk_in 0 10 (by decide)) (br_t (pa_l2 h5) (nm_r (show (0 : Int32) + 1 = 1 by decide) (br_t (by decide) (hp b11 b12 d13 z12 y13 (fun _ => by rw [e11]; exact pa_u)))))
theorem pa_opt {post : Int32 → Prop} (h0 : a8 0 < 32 → post 0) (h1 : ¬ a8 0 < 32 → post 1) : wpX_isOptional post (c, b, cu, no, st, fi, fo, bc, bs, a1, a2, a3, a4, a5, a6, a7, a8, a9, a10, a11, a12, a13, a14, a15, a16, a17, a18, a19) 0 := And.intro (pk_in 0 30 (by decide)) (br_c h0 h1)
theorem pa_app {post : Int32 → Prop} (h1 : pa_c (a8 0) → post 1) (h0 : ¬ pa_c (a8 0) → post 0) : wpX_applies post (c, 0, cu, no, st, fi, fo, bc, bs, a1, a2, a3, a4, a5, a6, a7, a8, a9, a10, a11, a12, a13, a14, a15, a16, a17, a18, a19) 0 :=
  And.intro (pk_in 0 30 (by decide)) (fun x e => br_c (fun z => h1 (e.symm.trans z)) (fun z => br_f (by rw [Int32.zero_shiftRight]; decide) (h0 (fun w => z (e.trans w)))))
theorem pa_snd {post : Int32 → Prop} {m : Int32} (h5 : a5 0 = 0 ∨ a5 0 = 1) (hm : m = 0 ∨ m = 1) (h11 : a5 0 = 1 → a11 0 = m) (z12 : a12 0 = 0) (hb : pa_bad m a5 a8 → post 0) (hg : ¬ pa_bad m a5 a8 → post 1) : wpX_isSound post (1, 0, cu, no, st, fi, fo, bc, bs, a1, a2, a3, a4, a5, a6, a7, a8, a9, a10, a11, a12, a13, a14, a15, a16, a17, a18, a19) 1 := by
  refine Exists.intro 2 (br_f (by decide) (br_t (by decide +kernel) ⟨pk_in 0 10 (by decide), br_t (pa_and0 z12) (nm_r (show 3 * (0 : Int32) = 0 by decide) (Exists.intro 2 ?_))⟩))
  rcases h5 with h5 | h5
  · exact And.intro (pk_in 0 10 (by decide)) (br_t (pa_l0 h5) (nm_r (show (0 : Int32) + 1 = 1 by decide) (br_t (by decide) (hg (fun t => pa_01 h5 t.1)))))
  · have N : ¬ pa_bad m a5 a8 → wX_isSound_36 post (wX_isSound_2 post 1 1 0 cu no st fi fo bc bs a1 a2 a3 a4 a5 a6 a7 a8 a9 a10 a11 a12 a13 a14 a15 a16 a17 a18 a19 1) 1 0 1 0 cu no st fi fo bc bs a1 a2 a3 a4 a5 a6 a7 a8 a9 a10 a11 a12 a13 a14 a15 a16 a17 a18 a19 1 1 := fun h => And.intro (pk_in 0 10 (by decide)) (br_t (pa_l2 h5) (nm_r (show (0 : Int32) + 1 = 1 by decide) (br_t (by decide) (hg h))))
    refine And.intro (pk_in 0 10 (by decide)) (br_f (pa_l1 h5) (pa_opt (fun o => br_t rfl (pa_app (fun q => br_f (by decide) ⟨pk_in 0 30 (by decide), br_c (fun k => ?_) (fun k => nm_r (show (0 : Int32) + 1 = 1 by decide) (N ?_))⟩) (fun q => br_t rfl (nm_r (show (0 : Int32) + 1 = 1 by decide) (N (fun t => q t.2.2.1)))))) (fun o => br_f (by decide) (nm_r (show (0 : Int32) + 1 = 1 by decide) (N (fun t => o t.2.1))))))
    · exact hb ⟨h5, o, q, (pa_mk 1 (h11 h5) hm (by decide)).mp k⟩
    · exact fun t => k ((pa_mk 1 (h11 h5) hm (by decide)).mpr t.2.2.2)
theorem pa_sound {post : Int32 → St2 → Prop} (h4 : a4 0 = 0 ∨ a4 0 = 1) (h5 : a5 0 = 0 ∨ a5 0 = 1)
    (hb : pa_bad (pa_M a4 a6 a7 a8 a9 a10) a5 a8 → ∀ b11 b12 b13 : Nat → Int32, post 0 (1, 0, cu, no, st, fi, fo, bc, bs, a1, a2, a3, a4, a5, a6, a7, a8, a9, a10, b11, b12, b13, a14, a15, a16, a17, a18, a19))
    (hg : ¬ pa_bad (pa_M a4 a6 a7 a8 a9 a10) a5 a8 → ∀ b11 b12 b13 : Nat → Int32, post 1 (1, 0, cu, no, st, fi, fo, bc, bs, a1, a2, a3, a4, a5, a6, a7, a8, a9, a10, b11, b12, b13, a14, a15, a16, a17, a18, a19)) : wpX_sound post (1, 0, cu, no, st, fi, fo, bc, bs, a1, a2, a3, a4, a5, a6, a7, a8, a9, a10, a11, a12, a13, a14, a15, a16, a17, a18, a19) 1 := by
  unfold wpX_sound
  refine pa_isSet1 (br_f (by decide) (pa_prep h4 h5 (fun b11 b12 b13 z12 z13 h11 => ?_)))
  exact pa_snd h5 pa_M01 h11 z12 (fun h => br_t rfl (hb h b11 b12 b13)) (fun h => br_f (by decide) (hg h b11 b12 b13))
theorem pa_ones1 {post : Int32 → Prop} {p : Int32} (e : p = 1) (h : post 1) : wpX_ones post () p := by
  subst e
  exact Exists.intro 11 (br_f (by decide) (nm_r (show (0 : Int32) + (((1 : Int32) >>> ((0 : Int32) &&& 31)) &&& 1) = 1 by decide +kernel) (nm_r (show (0 : Int32) + 1 = 1 by decide) (br_f (by decide) (nm_r (show (1 : Int32) + (((1 : Int32) >>> ((1 : Int32) &&& 31)) &&& 1) = 1 by decide +kernel) (nm_r (show (1 : Int32) + 1 = 2 by decide) (br_f (by decide) (nm_r (show (1 : Int32) + (((1 : Int32) >>> ((2 : Int32) &&& 31)) &&& 1) = 1 by decide +kernel) (nm_r (show (2 : Int32) + 1 = 3 by decide) (br_f (by decide) (nm_r (show (1 : Int32) + (((1 : Int32) >>> ((3 : Int32) &&& 31)) &&& 1) = 1 by decide +kernel) (nm_r (show (3 : Int32) + 1 = 4 by decide) (br_f (by decide) (nm_r (show (1 : Int32) + (((1 : Int32) >>> ((4 : Int32) &&& 31)) &&& 1) = 1 by decide +kernel) (nm_r (show (4 : Int32) + 1 = 5 by decide) (br_f (by decide) (nm_r (show (1 : Int32) + (((1 : Int32) >>> ((5 : Int32) &&& 31)) &&& 1) = 1 by decide +kernel) (nm_r (show (5 : Int32) + 1 = 6 by decide) (br_f (by decide) (nm_r (show (1 : Int32) + (((1 : Int32) >>> ((6 : Int32) &&& 31)) &&& 1) = 1 by decide +kernel) (nm_r (show (6 : Int32) + 1 = 7 by decide) (br_f (by decide) (nm_r (show (1 : Int32) + (((1 : Int32) >>> ((7 : Int32) &&& 31)) &&& 1) = 1 by decide +kernel) (nm_r (show (7 : Int32) + 1 = 8 by decide) (br_f (by decide) (nm_r (show (1 : Int32) + (((1 : Int32) >>> ((8 : Int32) &&& 31)) &&& 1) = 1 by decide +kernel) (nm_r (show (8 : Int32) + 1 = 9 by decide) (br_f (by decide) (nm_r (show (1 : Int32) + (((1 : Int32) >>> ((9 : Int32) &&& 31)) &&& 1) = 1 by decide +kernel) (nm_r (show (9 : Int32) + 1 = 10 by decide) (br_t (by decide) h)))))))))))))))))))))))))))))))
theorem pa_ones0 {post : Int32 → Prop} {p : Int32} (e : p = 0) (h : post 0) : wpX_ones post () p := by
  subst e
  exact Exists.intro 11 (br_f (by decide) (nm_r (show (0 : Int32) + (((0 : Int32) >>> ((0 : Int32) &&& 31)) &&& 1) = 0 by decide +kernel) (nm_r (show (0 : Int32) + 1 = 1 by decide) (br_f (by decide) (nm_r (show (0 : Int32) + (((0 : Int32) >>> ((1 : Int32) &&& 31)) &&& 1) = 0 by decide +kernel) (nm_r (show (1 : Int32) + 1 = 2 by decide) (br_f (by decide) (nm_r (show (0 : Int32) + (((0 : Int32) >>> ((2 : Int32) &&& 31)) &&& 1) = 0 by decide +kernel) (nm_r (show (2 : Int32) + 1 = 3 by decide) (br_f (by decide) (nm_r (show (0 : Int32) + (((0 : Int32) >>> ((3 : Int32) &&& 31)) &&& 1) = 0 by decide +kernel) (nm_r (show (3 : Int32) + 1 = 4 by decide) (br_f (by decide) (nm_r (show (0 : Int32) + (((0 : Int32) >>> ((4 : Int32) &&& 31)) &&& 1) = 0 by decide +kernel) (nm_r (show (4 : Int32) + 1 = 5 by decide) (br_f (by decide) (nm_r (show (0 : Int32) + (((0 : Int32) >>> ((5 : Int32) &&& 31)) &&& 1) = 0 by decide +kernel) (nm_r (show (5 : Int32) + 1 = 6 by decide) (br_f (by decide) (nm_r (show (0 : Int32) + (((0 : Int32) >>> ((6 : Int32) &&& 31)) &&& 1) = 0 by decide +kernel) (nm_r (show (6 : Int32) + 1 = 7 by decide) (br_f (by decide) (nm_r (show (0 : Int32) + (((0 : Int32) >>> ((7 : Int32) &&& 31)) &&& 1) = 0 by decide +kernel) (nm_r (show (7 : Int32) + 1 = 8 by decide) (br_f (by decide) (nm_r (show (0 : Int32) + (((0 : Int32) >>> ((8 : Int32) &&& 31)) &&& 1) = 0 by decide +kernel) (nm_r (show (8 : Int32) + 1 = 9 by decide) (br_f (by decide) (nm_r (show (0 : Int32) + (((0 : Int32) >>> ((9 : Int32) &&& 31)) &&& 1) = 0 by decide +kernel) (nm_r (show (9 : Int32) + 1 = 10 by decide) (br_t (by decide) h)))))))))))))))))))))))))))))))
theorem pa_cost {post : Int32 → Prop} {m : Int32} (h5 : a5 0 = 0 ∨ a5 0 = 1) (hm : m = 0 ∨ m = 1) (h11 : a5 0 = 1 → a11 0 = m) (z13 : a13 0 = 0) (hb : pa_bon m a5 a8 → post 7) (hg : ¬ pa_bon m a5 a8 → post 5) : wpX_costOf post (1, 0, 0, no, st, fi, fo, bc, bs, a1, a2, a3, a4, a5, a6, a7, a8, a9, a10, a11, a12, a13, a14, a15, a16, a17, a18, a19) 1 (1 ^^^ (-1)) := by
  unfold wpX_costOf
  refine pa_ones1 (by decide +kernel) (pa_ones0 (by decide +kernel) (nm_r (show 5 * (1 : Int32) + 3 * 0 = 5 by decide) (Exists.intro 2 (br_f (by decide) (br_t (by decide +kernel) ⟨pk_in 0 10 (by decide), nm_r (pa_a5 z13) (nm_r (show 3 * (0 : Int32) = 0 by decide) (Exists.intro 2 ?_))⟩)))))
  rcases h5 with h5 | h5
  · exact And.intro (pk_in 0 10 (by decide)) (br_t (pa_l0 h5) (nm_r (show (0 : Int32) + 1 = 1 by decide) (br_t (by decide) (hg (fun t => pa_01 h5 t.1)))))
  · have N : ∀ x : Int32, post x → wX_costOf_64 post (wX_costOf_29 post 1 (1 ^^^ (-1)) 1 0 0 no st fi fo bc bs a1 a2 a3 a4 a5 a6 a7 a8 a9 a10 a11 a12 a13 a14 a15 a16 a17 a18 a19 1) 1 (1 ^^^ (-1)) 0 1 0 0 no st fi fo bc bs a1 a2 a3 a4 a5 a6 a7 a8 a9 a10 a11 a12 a13 a14 a15 a16 a17 a18 a19 1 x 1 := fun x h => And.intro (pk_in 0 10 (by decide)) (br_t (pa_l2 h5) (nm_r (show (0 : Int32) + 1 = 1 by decide) (br_t (by decide) h)))
    have K := pa_mk (((1 : Int32) ^^^ (-1)) ^^^ (-1)) (h11 h5) hm (by decide +kernel)
    have P0 : ¬ pa_bon m a5 a8 → ∀ x, x = (5 : Int32) + 0 → ∀ y, y = (0 : Int32) + 1 → wX_costOf_64 post (wX_costOf_29 post 1 (1 ^^^ (-1)) 1 0 0 no st fi fo bc bs a1 a2 a3 a4 a5 a6 a7 a8 a9 a10 a11 a12 a13 a14 a15 a16 a17 a18 a19 1) 1 (1 ^^^ (-1)) 0 1 0 0 no st fi fo bc bs a1 a2 a3 a4 a5 a6 a7 a8 a9 a10 a11 a12 a13 a14 a15 a16 a17 a18 a19 1 x y := fun h => nm_r (show (5 : Int32) + 0 = 5 by decide) (nm_r (show (0 : Int32) + 1 = 1 by decide) (N 5 (hg h)))
    refine And.intro (pk_in 0 10 (by decide)) (br_f (pa_l1 h5) (pa_opt (fun o => br_t rfl (P0 (fun t => t.2.1 o))) (fun o => br_f (by decide) (pa_app (fun q => br_f (by decide) ⟨pk_in 0 30 (by decide), br_c (fun k => ?_) (fun k => P0 ?_)⟩) (fun q => br_t rfl (P0 (fun t => q t.2.2.1)))))))
    · exact nm_r (show (5 : Int32) + 2 = 7 by decide) (nm_r (show (0 : Int32) + 1 = 1 by decide) (N 7 (hb ⟨h5, o, q, K.mp k⟩)))
    · exact fun t => k (K.mpr t.2.2.2)
theorem pa_costM {post : Int32 → St2 → Prop} (h4 : a4 0 = 0 ∨ a4 0 = 1) (h5 : a5 0 = 0 ∨ a5 0 = 1)
    (hb : pa_bon (pa_M a4 a6 a7 a8 a9 a10) a5 a8 → ∀ b11 b12 b13 : Nat → Int32, post 7 (1, 0, 0, no, st, fi, fo, bc, bs, a1, a2, a3, a4, a5, a6, a7, a8, a9, a10, b11, b12, b13, a14, a15, a16, a17, a18, a19))
    (hg : ¬ pa_bon (pa_M a4 a6 a7 a8 a9 a10) a5 a8 → ∀ b11 b12 b13 : Nat → Int32, post 5 (1, 0, 0, no, st, fi, fo, bc, bs, a1, a2, a3, a4, a5, a6, a7, a8, a9, a10, b11, b12, b13, a14, a15, a16, a17, a18, a19)) : wpX_cost post (1, 0, 0, no, st, fi, fo, bc, bs, a1, a2, a3, a4, a5, a6, a7, a8, a9, a10, a11, a12, a13, a14, a15, a16, a17, a18, a19) 1 := by
  unfold wpX_cost
  refine pa_isSet1 (br_f (by decide) (pa_prep h4 h5 (fun b11 b12 b13 z12 z13 h11 => ?_)))
  exact pa_cost h5 pa_M01 h11 z13 (fun h => hb h b11 b12 b13) (fun h => hg h b11 b12 b13)
end
end
section
/-! the search: one unit, decided at once -/
section
variable {c b cu no st fi fo bc bs : Int32} {a1 a2 a3 a4 a5 a6 a7 a8 a9 a10 a11 a12 a13 a14 a15 a16 a17 a18 a19 : Nat → Int32}
theorem pa_fn {post : Int32 → St2 → Prop} {m : Int32} (h5 : a5 0 = 0 ∨ a5 0 = 1) (hm : m = 0 ∨ m = 1) (h11 : a5 0 = 1 → a11 0 = m) (hb : pa_bad m a5 a8 → post 0 (1, 0, cu, no, st, 1, 0, bc, bs, a1, a2, a3, a4, a5, a6, a7, a8, a9, a10, a11, a12, a13, a14, a15, a16, a17, a18, a19)) (hg : ¬ pa_bad m a5 a8 → post 1 (1, 0, cu, no, st, 1, 0, bc, bs, a1, a2, a3, a4, a5, a6, a7, a8, a9, a10, a11, a12, a13, a14, a15, a16, a17, a18, a19)) : wpX_forceNeeds post (1, 0, cu, no, st, 1, 0, bc, bs, a1, a2, a3, a4, a5, a6, a7, a8, a9, a10, a11, a12, a13, a14, a15, a16, a17, a18, a19) 0 := by
  unfold wpX_forceNeeds
  refine nm_r (show 3 * (0 : Int32) = 0 by decide) (Exists.intro 2 ?_)
  rcases h5 with h5 | h5
  · exact And.intro (pk_in 0 10 (by decide)) (br_t (pa_l0 h5) (hg (fun t => pa_01 h5 t.1)))
  · have N : ¬ pa_bad m a5 a8 → wX_forceNeeds_4 post 0 1 0 cu no st 0 bc bs a1 a2 a3 a4 a5 a6 a7 a8 a9 a10 a11 a12 a13 a14 a15 a16 a17 a18 a19 1 1 1 := fun h => And.intro (pk_in 0 10 (by decide)) (br_t (pa_l2 h5) (hg h))
    refine And.intro (pk_in 0 10 (by decide)) (br_f (pa_l1 h5) (pa_opt (fun o => br_t rfl (pa_app (fun q => br_f (by decide) ⟨pk_in 0 30 (by decide), fun x e => br_c (fun k => ?_) (fun k => br_f ?_ (nm_r (show (0 : Int32) + 1 = 1 by decide) (N ?_)))⟩) (fun q => br_t rfl (nm_r (show (0 : Int32) + 1 = 1 by decide) (N (fun t => q t.2.2.1)))))) (fun o => br_f (by decide) (nm_r (show (0 : Int32) + 1 = 1 by decide) (N (fun t => o t.2.1))))))
    · exact hb ⟨h5, o, q, (pa_can (h11 h5) hm e).1.mp k⟩
    · exact (pa_can (h11 h5) hm e).2 k
    · exact fun t => k ((pa_can (h11 h5) hm e).1.mpr t.2.2.2)
theorem pa_force {post : Int32 → St2 → Prop} {m : Int32} (h5 : a5 0 = 0 ∨ a5 0 = 1) (hm : m = 0 ∨ m = 1) (h11 : a5 0 = 1 → a11 0 = m) (z12 : a12 0 = 0) (hb : pa_bad m a5 a8 → post 0 (1, 0, cu, no, st, 1, 0, bc, bs, a1, a2, a3, a4, a5, a6, a7, a8, a9, a10, a11, a12, a13, a14, a15, a16, a17, a18, a19)) (hg : ¬ pa_bad m a5 a8 → post 1 (1, 0, cu, no, st, 1, 0, bc, bs, a1, a2, a3, a4, a5, a6, a7, a8, a9, a10, a11, a12, a13, a14, a15, a16, a17, a18, a19)) : wpX_force post (1, 0, cu, no, st, 1, 0, bc, bs, a1, a2, a3, a4, a5, a6, a7, a8, a9, a10, a11, a12, a13, a14, a15, a16, a17, a18, a19) := by
  refine Exists.intro 1 (br_f (by decide) (nm_r (show (1 : Int32) ||| ((0 : Int32) <<< ((10 : Int32) &&& 31)) = 1 by decide +kernel) (Exists.intro 2 (br_f (by decide) (br_t (by decide +kernel) ⟨pk_in 0 10 (by decide), nm_r (pa_or0 z12) ?_⟩)))))
  refine pa_fn h5 hm h11 (fun h => br_t rfl (hb h)) (fun h => br_f (by decide) (nm_r (show (0 : Int32) + 1 = 1 by decide) ?_))
  exact br_t (by decide) (br_t (by decide +kernel) (br_t (by decide +kernel) (hg h)))
theorem pa_keep {post : St2 → Prop} (h : ∀ b14 b15 b16 : Nat → Int32, b14 0 = fi → b15 0 = fo → post (c, b, cu, no, st, fi, fo, bc, bs, a1, a2, a3, a4, a5, a6, a7, a8, a9, a10, a11, a12, a13, b14, b15, b16, a17, a18, a19)) : wpX_keep post (c, b, cu, no, st, fi, fo, bc, bs, a1, a2, a3, a4, a5, a6, a7, a8, a9, a10, a11, a12, a13, a14, a15, a16, a17, a18, a19) 0 :=
  And.intro (pk_in 0 12 (by decide)) (fun b14 e14 => ⟨pk_in 0 12 (by decide), fun b15 e15 => ⟨pk_in 0 12 (by decide), fun b16 _ => h b14 b15 b16 (by rw [e14]; exact pa_u) (by rw [e15]; exact pa_u)⟩⟩)
theorem pa_fo {post : Int32 → Prop} {p : Int32} (e : p = 1) (h : post (-1)) : wpX_firstOpen post (1, b, cu, no, st, fi, fo, bc, bs, a1, a2, a3, a4, a5, a6, a7, a8, a9, a10, a11, a12, a13, a14, a15, a16, a17, a18, a19) p := by
  subst e
  exact Exists.intro 2 (br_f (by decide) (br_f (by decide +kernel) (nm_r (show (0 : Int32) + 1 = 1 by decide) (br_t (by decide) h))))
theorem pa_ob {post : St2 → Prop} {p m : Int32} (ep : p = 1) (h5 : a5 0 = 0 ∨ a5 0 = 1) (hm : m = 0 ∨ m = 1) (h11 : a5 0 = 1 → a11 0 = m) (z13 : a13 0 = 0) (h : ∀ r : Int32, post (1, 0, 0, no, st, fi, fo, r, 1, a1, a2, a3, a4, a5, a6, a7, a8, a9, a10, a11, a12, a13, a14, a15, a16, a17, a18, a19)) : wpX_offerBest post (1, 0, 0, no, st, fi, fo, bc, (-1), a1, a2, a3, a4, a5, a6, a7, a8, a9, a10, a11, a12, a13, a14, a15, a16, a17, a18, a19) p := by
  subst ep
  unfold wpX_offerBest
  exact pa_cost h5 hm h11 z13 (fun _ => br_t (by decide) (h 7)) (fun _ => br_t (by decide) (h 5))
theorem pa_search {post : St2 → Prop} (h4 : a4 0 = 0 ∨ a4 0 = 1) (h5 : a5 0 = 0 ∨ a5 0 = 1)
    (hb : pa_bad (pa_M a4 a6 a7 a8 a9 a10) a5 a8 → ∀ b11 b12 b13 : Nat → Int32, post (1, 0, 0, no, st, 1, 0, 0, (-1), a1, a2, a3, a4, a5, a6, a7, a8, a9, a10, b11, b12, b13, a14, a15, a16, a17, a18, a19))
    (hg : ¬ pa_bad (pa_M a4 a6 a7 a8 a9 a10) a5 a8 → ∀ (r : Int32) (b11 b12 b13 b14 b15 b16 : Nat → Int32), post (1, 0, 0, no, st, 1, 0, r, 1, a1, a2, a3, a4, a5, a6, a7, a8, a9, a10, b11, b12, b13, b14, b15, b16, a17, a18, a19)) : wpX_search post (1, 0, 0, no, st, fi, fo, bc, bs, a1, a2, a3, a4, a5, a6, a7, a8, a9, a10, a11, a12, a13, a14, a15, a16, a17, a18, a19) 1 0 := by
  unfold wpX_search
  refine pa_prep h4 h5 (fun b11 b12 b13 z12 z13 h11 => ?_)
  refine pa_force h5 pa_M01 h11 z12 (fun h => br_t rfl (hb h b11 b12 b13)) (fun h => br_f (by decide) (pa_keep (fun b14 b15 b16 e14 e15 => Exists.intro 2 ?_)))
  refine br_f (by decide) (br_f (by decide) ⟨pk_in 0 12 (by decide), pk_in 0 12 (by decide), pa_fo ?_ (br_t rfl ⟨pk_in 0 12 (by decide), pa_ob e14 h5 pa_M01 h11 z13 (fun r => nm_r (show (0 : Int32) + (-1) = -1 by decide) (nm_r (show (0 : Int32) + 1 = 1 by decide) ?_))⟩)⟩)
  · show b14 0 ||| b15 0 = 1
    rw [e14, e15]
    decide
  · exact br_f (by decide) (br_t (by decide) (hg h r b11 b12 b13 b14 b15 b16))
theorem pa_plan {post : Int32 → St2 → Prop} (h4 : a4 0 = 0 ∨ a4 0 = 1) (h5 : a5 0 = 0 ∨ a5 0 = 1)
    (hb : pa_bad (pa_M a4 a6 a7 a8 a9 a10) a5 a8 → ∀ b11 b12 b13 : Nat → Int32, post (-2) (1, 0, 0, no, st, 1, 0, 0, (-1), a1, a2, a3, a4, a5, a6, a7, a8, a9, a10, b11, b12, b13, a14, a15, a16, a17, a18, a19))
    (hg : ¬ pa_bad (pa_M a4 a6 a7 a8 a9 a10) a5 a8 → ∀ (r : Int32) (b11 b12 b13 b14 b15 b16 : Nat → Int32), post 1 (1, 0, 0, no, st, 1, 0, r, 1, a1, a2, a3, a4, a5, a6, a7, a8, a9, a10, b11, b12, b13, b14, b15, b16, a17, a18, a19)) : wpX_plan post (1, 0, 0, no, st, fi, fo, bc, bs, a1, a2, a3, a4, a5, a6, a7, a8, a9, a10, a11, a12, a13, a14, a15, a16, a17, a18, a19) 1 0 := by
  unfold wpX_plan
  refine pa_isSet1 (br_f (by decide) (pa_isSet10 (br_f (by decide) (pa_search h4 h5 (fun h b11 b12 b13 => ?_) (fun h r b11 b12 b13 b14 b15 b16 => ?_)))))
  · exact br_f (by decide) (hb h b11 b12 b13)
  · exact br_t (by decide) (hg h r b11 b12 b13 b14 b15 b16)
theorem pa_ct {post : Int32 → St2 → Prop} (h : ∀ (dc dn : Int32) (b17 b18 b19 : Nat → Int32), post 1 (1, b, dc, dn, 1, fi, fo, bc, bs, a1, a2, a3, a4, a5, a6, a7, a8, a9, a10, a11, a12, a13, a14, a15, a16, b17, b18, b19)) : wpX_changeTo post (1, b, 0, 0, st, fi, fo, bc, bs, a1, a2, a3, a4, a5, a6, a7, a8, a9, a10, a11, a12, a13, a14, a15, a16, a17, a18, a19) 1 (-1) := by
  unfold wpX_changeTo
  refine nm_r (show (1 : Int32) - 1 = 0 by decide) (Exists.intro 2 (br_f (by decide) (br_f (by decide +kernel) ?_)))
  unfold wX_changeTo_54
  refine br_f (by decide +kernel) (nm_r (show (0 : Int32) + (-1) = -1 by decide) (br_t (by decide) (Exists.intro 2 (br_f (by decide) (br_t (by decide +kernel) (br_f (by decide) ?_))))))
  unfold wpX_doStep
  refine fun dc _ => ⟨pk_in 0 10 (by decide), pk_in 0 10 (by decide), fun b19 _ => ⟨pk_in 0 10 (by decide), fun b17 _ => nm_r (show (0 : Int32) + 1 = 1 by decide) (nm_r (show (0 : Int32) + 1 = 1 by decide) ?_)⟩⟩
  refine br_t (by decide) (br_f (by decide) ?_)
  unfold wX_changeTo_200
  exact ⟨pk_in 0 8 (by decide), fun b18 _ => fun dn _ => h dc dn b17 b18 b19⟩
theorem pa_apply {post : Int32 → St2 → Prop} (h4 : a4 0 = 0 ∨ a4 0 = 1) (h5 : a5 0 = 0 ∨ a5 0 = 1)
    (hb : pa_bad (pa_M a4 a6 a7 a8 a9 a10) a5 a8 → ∀ b11 b12 b13 : Nat → Int32, post (-2) (1, 0, 0, 0, st, 1, 0, 0, (-1), a1, a2, a3, a4, a5, a6, a7, a8, a9, a10, b11, b12, b13, a14, a15, a16, a17, a18, a19))
    (hg : ¬ pa_bad (pa_M a4 a6 a7 a8 a9 a10) a5 a8 → ∀ (dc dn r : Int32) (b11 b12 b13 b14 b15 b16 b17 b18 b19 : Nat → Int32), post 1 (1, 0, dc, dn, 1, 1, 0, r, 1, a1, a2, a3, a4, a5, a6, a7, a8, a9, a10, b11, b12, b13, b14, b15, b16, b17, b18, b19)) : wpX_apply post (1, 0, 0, 0, st, fi, fo, bc, bs, a1, a2, a3, a4, a5, a6, a7, a8, a9, a10, a11, a12, a13, a14, a15, a16, a17, a18, a19) 1 0 := by
  unfold wpX_apply
  refine pa_plan h4 h5 (fun h b11 b12 b13 => ?_) (fun h r b11 b12 b13 b14 b15 b16 => ?_)
  · exact br_f (by decide) (hb h b11 b12 b13)
  · exact br_t (by decide) (pa_ct (fun dc dn b17 b18 b19 => hg h dc dn r b11 b12 b13 b14 b15 b16 b17 b18 b19))
end
end
section
/-! the plain law: what was asked and offered against what the law says -/
theorem pa_t1 : ∀ j, j < 64 → ((nI j < 32 ∧ (nI j >>> ((3 : Int32) &&& 31)) &&& 3 = 0) ↔ ¬ 8 ≤ nI j) := by decide +kernel
theorem pa_t2 : ∀ j, j < 64 → ((¬ nI j < 32 ∧ (nI j >>> ((3 : Int32) &&& 31)) &&& 3 = 0) ↔ (¬ nI j ≤ 31 ∧ ¬ 40 ≤ nI j)) := by decide +kernel
theorem pa_t3 : ∀ j, j < 64 → ¬ 5 < nI j → nI j = nI j &&& 7 := by decide +kernel
theorem pa_t4 : ∀ j, j < 64 → ¬ nI j ≤ 31 → 5 < nI j := by decide +kernel
theorem pa_of {x : Int32} (h : pa_gK x) : ∃ j : Nat, j < 64 ∧ x = nI j := by
  obtain ⟨j, hj, e⟩ := nI_of2 (M := 63) (n := 63) (by decide) h.1 (Int32.not_lt.mp h.2.1)
  exact ⟨j, by omega, e⟩
/-- what the unit offers -/
def pa_O (x2 x3 : Int32) (a4 a6 a7 : Nat → Int32) : Prop := (pa_gC x2 ∧ pa_gV x3 ∧ a4 0 = 1 ∧ a6 0 = x2 ∧ a7 0 = x3) ∨ (¬ (pa_gC x2 ∧ pa_gV x3) ∧ a4 0 = 0)
theorem pa_O4 {x2 x3 : Int32} {a4 a6 a7 : Nat → Int32} (h : pa_O x2 x3 a4 a6 a7) : a4 0 = 0 ∨ a4 0 = 1 := by
  rcases h with h | h
  · exact Or.inr h.2.2.1
  · exact Or.inl h.2
theorem pa_m0 {x2 x3 x4 x5 : Int32} {a4 a6 a7 a8 a9 a10 : Nat → Int32} (k : pa_gK x2) (h : pa_O x2 x3 a4 a6 a7) (e8 : a8 0 = x2) (e9 : a9 0 = x4) (e10 : a10 0 = x5) : pa_M a4 a6 a7 a8 a9 a10 = 0 ↔ ¬ pa_met x2 x3 x4 x5 := by
  rcases h with ⟨c, v, e4, e6, e7⟩ | ⟨n, e4⟩
  · constructor
    · intro z t
      have e : x2 = x2 &&& 7 := by
        obtain ⟨j, hj, ej⟩ := pa_of k
        have c2 := c.2
        rw [ej] at c2 ⊢
        exact pa_t3 j hj c2
      have y : pa_M a4 a6 a7 a8 a9 a10 = 1 := pa_My ⟨e4, by rw [e7, e9]; exact t.2.2.1, by rw [e10, e7]; exact t.2.2.2, by rw [e6, e8]; exact e⟩
      rw [y] at z
      exact absurd z (by decide)
    · intro n
      refine pa_Mn (fun t => n ⟨c, v, ?_, ?_⟩)
      · have u := t.2.1
        rw [e7, e9] at u
        exact u
      · have u := t.2.2.1
        rw [e10, e7] at u
        exact u
  · exact ⟨fun _ t => n ⟨t.1, t.2.1⟩, fun _ => pa_Mn (fun t => pa_01 e4 t.1)⟩
theorem pa_badI {x2 x3 x4 x5 : Int32} {a4 a5 a6 a7 a8 a9 a10 : Nat → Int32} (k : pa_gK x2) (h : pa_O x2 x3 a4 a6 a7) (e5 : a5 0 = 1) (e8 : a8 0 = x2) (e9 : a9 0 = x4) (e10 : a10 0 = x5) :
    pa_bad (pa_M a4 a6 a7 a8 a9 a10) a5 a8 ↔ (¬ 8 ≤ x2 ∧ ¬ pa_met x2 x3 x4 x5) := by
  have M := pa_m0 (x3 := x3) k h e8 e9 e10
  obtain ⟨j, hj, ej⟩ := pa_of k
  have T := pa_t1 j hj
  rw [← ej] at T
  unfold pa_bad pa_c
  rw [e8, M]
  exact ⟨fun t => ⟨T.mp ⟨t.2.1, t.2.2.1⟩, t.2.2.2⟩, fun t => ⟨e5, (T.mpr t.1).1, (T.mpr t.1).2, t.2⟩⟩
theorem pa_bonI {x2 x3 x4 x5 : Int32} {a4 a5 a6 a7 a8 a9 a10 : Nat → Int32} (k : pa_gK x2) (h : pa_O x2 x3 a4 a6 a7) (e5 : a5 0 = 1) (e8 : a8 0 = x2) (e9 : a9 0 = x4) (e10 : a10 0 = x5) :
    pa_bon (pa_M a4 a6 a7 a8 a9 a10) a5 a8 ↔ (¬ x2 ≤ 31 ∧ ¬ 40 ≤ x2) := by
  have M := pa_m0 (x3 := x3) k h e8 e9 e10
  obtain ⟨j, hj, ej⟩ := pa_of k
  have T := pa_t2 j hj
  have T4 := pa_t4 j hj
  rw [← ej] at T T4
  unfold pa_bon pa_c
  rw [e8, M]
  exact ⟨fun t => T.mp ⟨t.2.1, t.2.2.1⟩, fun t => ⟨e5, (T.mpr t).1, (T.mpr t).2, fun q => q.1.2 (T4 t.1)⟩⟩
end
section
/-! the law's joins, no unit made -/
section
variable {c b cu no st fi fo bc bs : Int32} {a1 a2 a3 a4 a5 a6 a7 a8 a9 a10 a11 a12 a13 a14 a15 a16 a17 a18 a19 : Nat → Int32} {post : Int32 → St0 → Prop} {mc ms kc ks : Nat} {x0 x1 x2 x3 x4 x5 x7 x8 x9 x10 x11 x12 x13 x14 x16 z z0 : Int32}
theorem pa_n438 (hp : post 1 ()) : wL_lawOf_438 post mc ms 0 x16 (-1) (-1) kc ks 0 b cu no st fi fo bc bs a1 a2 a3 a4 a5 a6 a7 a8 a9 a10 a11 a12 a13 a14 a15 a16 a17 a18 a19 := by
  unfold wL_lawOf_438
  exact br_t rfl (pa_nApply (br_t rfl (br_t rfl hp)))
theorem pa_n410 (hp : post 1 ()) : wL_lawOf_410 post mc ms 0 x16 z0 kc ks 0 b cu no st fi fo bc bs a1 a2 a3 a4 a5 a6 a7 a8 a9 a10 a11 a12 a13 a14 a15 a16 a17 a18 a19 := by
  unfold wL_lawOf_410
  exact pa_nCost (br_t rfl (pa_n438 hp))
theorem pa_n409 (hp : post 1 ()) : wL_lawOf_409 post mc ms 0 x16 kc ks 0 b cu no st fi fo bc bs a1 a2 a3 a4 a5 a6 a7 a8 a9 a10 a11 a12 a13 a14 a15 a16 a17 a18 a19 := by
  unfold wL_lawOf_409
  exact pa_n410 hp
theorem pa_n373 (hp : post 1 ()) : wL_lawOf_373 post mc ms x2 0 x12 x13 x16 z z kc ks 0 b cu no st fi fo bc bs a1 a2 a3 a4 a5 a6 a7 a8 a9 a10 a11 a12 a13 a14 a15 a16 a17 a18 a19 := by
  unfold wL_lawOf_373
  exact br_t rfl (br_t rfl (pa_n409 hp))
theorem pa_n346 (hp : post 1 ()) : wL_lawOf_346 post mc ms x2 0 x12 x13 z0 kc ks 0 b cu no st fi fo bc bs a1 a2 a3 a4 a5 a6 a7 a8 a9 a10 a11 a12 a13 a14 a15 a16 a17 a18 a19 := by
  unfold wL_lawOf_346
  exact pa_nSound (br_t rfl (pa_n373 hp))
theorem pa_n345 (hp : post 1 ()) : wL_lawOf_345 post mc ms x2 0 x12 x13 kc ks 0 b cu no st fi fo bc bs a1 a2 a3 a4 a5 a6 a7 a8 a9 a10 a11 a12 a13 a14 a15 a16 a17 a18 a19 := by
  unfold wL_lawOf_345
  exact pa_n346 hp
theorem pa_n324 (hp : post 1 ()) : wL_lawOf_324 post mc ms x2 0 x12 x13 x14 z0 kc ks 0 b cu no st fi fo bc bs a1 a2 a3 a4 a5 a6 a7 a8 a9 a10 a11 a12 a13 a14 a15 a16 a17 a18 a19 := by
  unfold wL_lawOf_324
  exact br_t rfl (pa_n345 hp)
theorem pa_n323 (hp : post 1 ()) : wL_lawOf_323 post mc ms x2 0 x12 x13 x14 kc ks 0 b cu no st fi fo bc bs a1 a2 a3 a4 a5 a6 a7 a8 a9 a10 a11 a12 a13 a14 a15 a16 a17 a18 a19 := by
  unfold wL_lawOf_323
  exact pa_n324 hp
theorem pa_n295 (hp : post 1 ()) : wL_lawOf_295 post mc ms x2 x3 x4 x5 0 x10 x11 x12 x13 z0 kc ks 0 b cu no st fi fo bc bs a1 a2 a3 a4 a5 a6 a7 a8 a9 a10 a11 a12 a13 a14 a15 a16 a17 a18 a19 := by
  unfold wL_lawOf_295
  exact br_c (fun _ => pa_n323 hp) (fun _ => br_c (fun _ => pa_n323 hp) (fun _ => br_c (fun _ => pa_n323 hp) (fun _ => br_c (fun _ => pa_n323 hp) (fun _ => pa_n324 hp))))
theorem pa_n294 (hp : post 1 ()) : wL_lawOf_294 post mc ms x2 x3 x4 x5 0 x10 x11 x12 x13 kc ks 0 b cu no st fi fo bc bs a1 a2 a3 a4 a5 a6 a7 a8 a9 a10 a11 a12 a13 a14 a15 a16 a17 a18 a19 := by
  unfold wL_lawOf_294
  exact pa_n295 hp
theorem pa_n264 (hp : post 1 ()) : wL_lawOf_264 post mc ms x2 x3 x4 x5 0 x10 x11 x12 x13 z z kc ks 0 b cu no st fi fo bc bs a1 a2 a3 a4 a5 a6 a7 a8 a9 a10 a11 a12 a13 a14 a15 a16 a17 a18 a19 := by
  unfold wL_lawOf_264
  exact br_t rfl (br_t rfl (pa_n294 hp))
theorem pa_n221 (hp : post 1 ()) : wL_lawOf_221 post mc ms x2 x3 x4 x5 0 x10 x11 x12 z0 kc ks 0 b cu no st fi fo bc bs a1 a2 a3 a4 a5 a6 a7 a8 a9 a10 a11 a12 a13 a14 a15 a16 a17 a18 a19 := by
  unfold wL_lawOf_221
  exact pa_nNeed (br_t rfl (pa_n264 hp))
theorem pa_n220 (hp : post 1 ()) : wL_lawOf_220 post mc ms x2 x3 x4 x5 0 x10 x11 x12 kc ks 0 b cu no st fi fo bc bs a1 a2 a3 a4 a5 a6 a7 a8 a9 a10 a11 a12 a13 a14 a15 a16 a17 a18 a19 := by
  unfold wL_lawOf_220
  exact pa_n221 hp
theorem pa_n195 (hp : post 1 ()) : wL_lawOf_195 post mc ms x2 x3 x4 x5 0 x10 x11 z0 kc ks 0 b cu no st fi fo bc bs a1 a2 a3 a4 a5 a6 a7 a8 a9 a10 a11 a12 a13 a14 a15 a16 a17 a18 a19 := by
  unfold wL_lawOf_195
  exact br_c (fun _ => pa_n220 hp) (fun _ => br_c (fun _ => pa_n220 hp) (fun _ => br_c (fun _ => pa_n220 hp) (fun _ => pa_n221 hp)))
theorem pa_n194 (hp : post 1 ()) : wL_lawOf_194 post mc ms x2 x3 x4 x5 0 x10 x11 kc ks 0 b cu no st fi fo bc bs a1 a2 a3 a4 a5 a6 a7 a8 a9 a10 a11 a12 a13 a14 a15 a16 a17 a18 a19 := by
  unfold wL_lawOf_194
  exact pa_n195 hp
theorem pa_n165 (hp : post 1 ()) : wL_lawOf_165 post mc ms x2 x3 x4 x5 0 x10 x11 z z kc ks 0 b cu no st fi fo bc bs a1 a2 a3 a4 a5 a6 a7 a8 a9 a10 a11 a12 a13 a14 a15 a16 a17 a18 a19 := by
  unfold wL_lawOf_165
  exact br_t rfl (br_c (fun _ => pa_n194 hp) (fun _ => br_c (fun _ => pa_n194 hp) (fun _ => br_c (fun _ => pa_n194 hp) (fun _ => pa_n195 hp))))
theorem pa_n125 (hp : post 1 ()) : wL_lawOf_125 post mc ms x2 x3 x4 x5 0 x10 z0 kc ks 0 b cu no st fi fo bc bs a1 a2 a3 a4 a5 a6 a7 a8 a9 a10 a11 a12 a13 a14 a15 a16 a17 a18 a19 := by
  unfold wL_lawOf_125
  exact pa_nOffer (br_t rfl (pa_n165 hp))
theorem pa_n124 (hp : post 1 ()) : wL_lawOf_124 post mc ms x2 x3 x4 x5 0 x10 kc ks 0 b cu no st fi fo bc bs a1 a2 a3 a4 a5 a6 a7 a8 a9 a10 a11 a12 a13 a14 a15 a16 a17 a18 a19 := by
  unfold wL_lawOf_124
  exact pa_n125 hp
theorem pa_n107 (hp : post 1 ()) : wL_lawOf_107 post mc ms x2 x3 x4 x5 0 z0 kc ks 0 b cu no st fi fo bc bs a1 a2 a3 a4 a5 a6 a7 a8 a9 a10 a11 a12 a13 a14 a15 a16 a17 a18 a19 := by
  unfold wL_lawOf_107
  exact br_c (fun _ => pa_n124 hp) (fun _ => br_c (fun _ => pa_n124 hp) (fun _ => pa_n125 hp))
theorem pa_n106 (hp : post 1 ()) : wL_lawOf_106 post mc ms x2 x3 x4 x5 0 kc ks 0 b cu no st fi fo bc bs a1 a2 a3 a4 a5 a6 a7 a8 a9 a10 a11 a12 a13 a14 a15 a16 a17 a18 a19 := by
  unfold wL_lawOf_106
  exact pa_n107 hp
theorem pa_n88 (hp : post 1 ()) : wL_lawOf_88 post mc ms x2 x3 x4 x5 0 z z kc ks 0 b cu no st fi fo bc bs a1 a2 a3 a4 a5 a6 a7 a8 a9 a10 a11 a12 a13 a14 a15 a16 a17 a18 a19 := by
  unfold wL_lawOf_88
  exact br_t rfl (br_c (fun _ => pa_n106 hp) (fun _ => br_c (fun _ => pa_n106 hp) (fun _ => pa_n107 hp)))
/-! the law's joins, a unit made: its two facts are followed as one equivalence each -/
theorem pa_y438 (hp : post 1 ()) (h4 : a4 0 = 0 ∨ a4 0 = 1) (h5 : a5 0 = 0 ∨ a5 0 = 1) (hS : x16 = 0 ↔ pa_bad (pa_M a4 a6 a7 a8 a9 a10) a5 a8) : wL_lawOf_438 post mc ms 1 x16 z z kc ks 1 0 0 0 st fi fo bc bs a1 a2 a3 a4 a5 a6 a7 a8 a9 a10 a11 a12 a13 a14 a15 a16 a17 a18 a19 := by
  unfold wL_lawOf_438
  refine br_t rfl (pa_apply h4 h5 (fun h b11 b12 b13 => ?_) (fun h dc dn r b11 b12 b13 b14 b15 b16 b17 b18 b19 => ?_))
  · exact br_f (by decide) (br_t (hS.mpr h) (br_t rfl hp))
  · exact br_f (by decide) (br_f (fun e => h (hS.mp e)) (br_t rfl hp))
theorem pa_y410 (hp : post 1 ()) (h4 : a4 0 = 0 ∨ a4 0 = 1) (h5 : a5 0 = 0 ∨ a5 0 = 1) (hS : x16 = 0 ↔ pa_bad (pa_M a4 a6 a7 a8 a9 a10) a5 a8) (hB : z0 = 0 ↔ ¬ pa_bon (pa_M a4 a6 a7 a8 a9 a10) a5 a8) : wL_lawOf_410 post mc ms 1 x16 z0 kc ks 1 0 0 0 st fi fo bc bs a1 a2 a3 a4 a5 a6 a7 a8 a9 a10 a11 a12 a13 a14 a15 a16 a17 a18 a19 := by
  unfold wL_lawOf_410
  refine pa_costM h4 h5 (fun h b11 b12 b13 => ?_) (fun h b11 b12 b13 => ?_)
  · exact br_f (by decide) (br_f (fun e => hB.mp e h) (pa_y438 hp h4 h5 hS))
  · exact br_f (by decide) (br_t (hB.mpr h) (pa_y438 hp h4 h5 hS))
theorem pa_y373 (hp : post 1 ()) (h4 : a4 0 = 0 ∨ a4 0 = 1) (h5 : a5 0 = 0 ∨ a5 0 = 1) (hS : x16 = 0 ↔ pa_bad (pa_M a4 a6 a7 a8 a9 a10) a5 a8) (hB : pa_bon (pa_M a4 a6 a7 a8 a9 a10) a5 a8 ↔ (¬ x13 = 0 ∧ ¬ x12 = 0 ∧ ¬ x2 ≤ 31 ∧ ¬ 40 ≤ x2)) : wL_lawOf_373 post mc ms x2 1 x12 x13 x16 z z kc ks 1 0 0 0 st fi fo bc bs a1 a2 a3 a4 a5 a6 a7 a8 a9 a10 a11 a12 a13 a14 a15 a16 a17 a18 a19 := by
  have N : ¬ pa_bon (pa_M a4 a6 a7 a8 a9 a10) a5 a8 → wL_lawOf_409 post mc ms 1 x16 kc ks 1 0 0 0 st fi fo bc bs a1 a2 a3 a4 a5 a6 a7 a8 a9 a10 a11 a12 a13 a14 a15 a16 a17 a18 a19 := by
    intro h
    unfold wL_lawOf_409
    exact pa_y410 hp h4 h5 hS ⟨fun _ => h, fun _ => rfl⟩
  unfold wL_lawOf_373
  refine br_t rfl (br_f (by decide) (br_c (fun g => N (fun t => (hB.mp t).1 g)) (fun g1 => br_c (fun g => N (fun t => (hB.mp t).2.1 g)) (fun g2 => br_c (fun g => N (fun t => (hB.mp t).2.2.1 g)) (fun g3 => br_c (fun g => N (fun t => (hB.mp t).2.2.2 g)) (fun g4 => ?_))))))
  exact pa_y410 hp h4 h5 hS ⟨fun e => absurd e (by decide), fun n => absurd (hB.mpr ⟨g1, g2, g3, g4⟩) n⟩
theorem pa_y346 (hp : post 1 ()) (h4 : a4 0 = 0 ∨ a4 0 = 1) (h5 : a5 0 = 0 ∨ a5 0 = 1) (hS : z0 = 0 ↔ pa_bad (pa_M a4 a6 a7 a8 a9 a10) a5 a8) (hB : pa_bon (pa_M a4 a6 a7 a8 a9 a10) a5 a8 ↔ (¬ x13 = 0 ∧ ¬ x12 = 0 ∧ ¬ x2 ≤ 31 ∧ ¬ 40 ≤ x2)) : wL_lawOf_346 post mc ms x2 1 x12 x13 z0 kc ks 1 0 0 0 st fi fo bc bs a1 a2 a3 a4 a5 a6 a7 a8 a9 a10 a11 a12 a13 a14 a15 a16 a17 a18 a19 := by
  unfold wL_lawOf_346
  refine pa_sound h4 h5 (fun h b11 b12 b13 => ?_) (fun h b11 b12 b13 => ?_)
  · exact br_f (by decide) (br_t (hS.mpr h) (pa_y373 hp h4 h5 hS hB))
  · exact br_f (by decide) (br_f (fun e => h (hS.mp e)) (pa_y373 hp h4 h5 hS hB))
theorem pa_y324 (hp : post 1 ()) (h4 : a4 0 = 0 ∨ a4 0 = 1) (h5 : a5 0 = 0 ∨ a5 0 = 1) (hA : pa_bad (pa_M a4 a6 a7 a8 a9 a10) a5 a8 ↔ (¬ x14 = 0 ∧ z0 = 0)) (hB : pa_bon (pa_M a4 a6 a7 a8 a9 a10) a5 a8 ↔ (¬ x13 = 0 ∧ ¬ x12 = 0 ∧ ¬ x2 ≤ 31 ∧ ¬ 40 ≤ x2)) : wL_lawOf_324 post mc ms x2 1 x12 x13 x14 z0 kc ks 1 0 0 0 st fi fo bc bs a1 a2 a3 a4 a5 a6 a7 a8 a9 a10 a11 a12 a13 a14 a15 a16 a17 a18 a19 := by
  have N : ¬ pa_bad (pa_M a4 a6 a7 a8 a9 a10) a5 a8 → wL_lawOf_341 post mc ms x2 1 x12 x13 kc ks 1 0 0 0 st fi fo bc bs a1 a2 a3 a4 a5 a6 a7 a8 a9 a10 a11 a12 a13 a14 a15 a16 a17 a18 a19 := by
    intro h
    unfold wL_lawOf_341
    exact pa_y346 hp h4 h5 ⟨fun e => absurd e (by decide), fun t => absurd t h⟩ hB
  have Y : pa_bad (pa_M a4 a6 a7 a8 a9 a10) a5 a8 → wL_lawOf_345 post mc ms x2 1 x12 x13 kc ks 1 0 0 0 st fi fo bc bs a1 a2 a3 a4 a5 a6 a7 a8 a9 a10 a11 a12 a13 a14 a15 a16 a17 a18 a19 := by
    intro h
    unfold wL_lawOf_345
    exact pa_y346 hp h4 h5 ⟨fun _ => h, fun _ => rfl⟩ hB
  unfold wL_lawOf_324
  exact br_f (by decide) (br_c (fun g => N (fun t => (hA.mp t).1 g)) (fun g => br_c (fun g' => Y (hA.mpr ⟨g, g'⟩)) (fun g' => N (fun t => g' (hA.mp t).2))))
theorem pa_y295 (hp : post 1 ()) (h4 : a4 0 = 0 ∨ a4 0 = 1) (h5 : a5 0 = 0 ∨ a5 0 = 1) (hA : pa_bad (pa_M a4 a6 a7 a8 a9 a10) a5 a8 ↔ (¬ z0 = 0 ∧ ¬ (¬ x10 = 0 ∧ ¬ x11 = 0 ∧ ¬ x3 < x4 ∧ ¬ x5 < x3))) (hB : pa_bon (pa_M a4 a6 a7 a8 a9 a10) a5 a8 ↔ (¬ x13 = 0 ∧ ¬ x12 = 0 ∧ ¬ x2 ≤ 31 ∧ ¬ 40 ≤ x2)) : wL_lawOf_295 post mc ms x2 x3 x4 x5 1 x10 x11 x12 x13 z0 kc ks 1 0 0 0 st fi fo bc bs a1 a2 a3 a4 a5 a6 a7 a8 a9 a10 a11 a12 a13 a14 a15 a16 a17 a18 a19 := by
  have N : ¬ (¬ x10 = 0 ∧ ¬ x11 = 0 ∧ ¬ x3 < x4 ∧ ¬ x5 < x3) → wL_lawOf_323 post mc ms x2 1 x12 x13 z0 kc ks 1 0 0 0 st fi fo bc bs a1 a2 a3 a4 a5 a6 a7 a8 a9 a10 a11 a12 a13 a14 a15 a16 a17 a18 a19 := by
    intro h
    unfold wL_lawOf_323
    exact pa_y324 hp h4 h5 ⟨fun t => ⟨(hA.mp t).1, rfl⟩, fun t => hA.mpr ⟨t.1, h⟩⟩ hB
  unfold wL_lawOf_295
  refine br_c (fun g => N (fun t => t.1 g)) (fun g1 => br_c (fun g => N (fun t => t.2.1 g)) (fun g2 => br_c (fun g => N (fun t => t.2.2.1 g)) (fun g3 => br_c (fun g => N (fun t => t.2.2.2 g)) (fun g4 => ?_))))
  exact pa_y324 hp h4 h5 ⟨fun t => absurd ⟨g1, g2, g3, g4⟩ (hA.mp t).2, fun t => absurd t.2 (by decide)⟩ hB
theorem pa_y264 (hp : post 1 ()) (h4 : a4 0 = 0 ∨ a4 0 = 1) (h5 : a5 0 = 0 ∨ a5 0 = 1) (hA : pa_bad (pa_M a4 a6 a7 a8 a9 a10) a5 a8 ↔ ((¬ x13 = 0 ∧ ¬ x12 = 0 ∧ ¬ 8 ≤ x2) ∧ ¬ (¬ x10 = 0 ∧ ¬ x11 = 0 ∧ ¬ x3 < x4 ∧ ¬ x5 < x3))) (hB : pa_bon (pa_M a4 a6 a7 a8 a9 a10) a5 a8 ↔ (¬ x13 = 0 ∧ ¬ x12 = 0 ∧ ¬ x2 ≤ 31 ∧ ¬ 40 ≤ x2)) : wL_lawOf_264 post mc ms x2 x3 x4 x5 1 x10 x11 x12 x13 z z kc ks 1 0 0 0 st fi fo bc bs a1 a2 a3 a4 a5 a6 a7 a8 a9 a10 a11 a12 a13 a14 a15 a16 a17 a18 a19 := by
  have N : ¬ (¬ x13 = 0 ∧ ¬ x12 = 0 ∧ ¬ 8 ≤ x2) → wL_lawOf_294 post mc ms x2 x3 x4 x5 1 x10 x11 x12 x13 kc ks 1 0 0 0 st fi fo bc bs a1 a2 a3 a4 a5 a6 a7 a8 a9 a10 a11 a12 a13 a14 a15 a16 a17 a18 a19 := by
    intro h
    unfold wL_lawOf_294
    exact pa_y295 hp h4 h5 ⟨fun t => absurd (hA.mp t).1 h, fun t => absurd rfl t.1⟩ hB
  unfold wL_lawOf_264
  refine br_t rfl (br_f (by decide) (br_c (fun g => N (fun t => t.1 g)) (fun g1 => br_c (fun g => N (fun t => t.2.1 g)) (fun g2 => br_c (fun g => N (fun t => t.2.2 g)) (fun g3 => ?_)))))
  exact pa_y295 hp h4 h5 ⟨fun t => ⟨by decide, (hA.mp t).2⟩, fun t => hA.mpr ⟨⟨g1, g2, g3⟩, t.2⟩⟩ hB
theorem pa_metF (F10 : x10 = 0 ↔ ¬ pa_gC x2) (F11 : x11 = 0 ↔ ¬ pa_gV x3) : pa_met x2 x3 x4 x5 ↔ (¬ x10 = 0 ∧ ¬ x11 = 0 ∧ ¬ x3 < x4 ∧ ¬ x5 < x3) := by
  unfold pa_met
  rw [F10, F11, Classical.not_not, Classical.not_not]
theorem pa_y221 (hp : post 1 ()) (hO : pa_O x2 x3 a4 a6 a7) (h5 : a5 0 = 0) (F10 : x10 = 0 ↔ ¬ pa_gC x2) (F11 : x11 = 0 ↔ ¬ pa_gV x3) (F12 : x12 = 0 ↔ ¬ pa_gR x4 x5) (F13 : z0 = 0 ↔ ¬ pa_gK x2) : wL_lawOf_221 post mc ms x2 x3 x4 x5 1 x10 x11 x12 z0 kc ks 1 0 0 0 st fi fo bc bs a1 a2 a3 a4 a5 a6 a7 a8 a9 a10 a11 a12 a13 a14 a15 a16 a17 a18 a19 := by
  unfold wL_lawOf_221
  have B0 : ∀ m : Int32, ¬ pa_bad m a5 a8 := fun m t => pa_01 h5 t.1
  have C0 : ∀ m : Int32, ¬ pa_bon m a5 a8 := fun m t => pa_01 h5 t.1
  refine pa_need h5 (fun k => ?_) (fun k r => ?_) (fun k r b5 b8 b9 b10 e5 e8 e9 e10 => ?_)
  · exact br_f (by decide) (br_t (F13.mpr k) (pa_y264 hp (pa_O4 hO) (Or.inl h5) ⟨fun t => absurd t (B0 _), fun t => absurd (F13.mpr k) t.1.1⟩ ⟨fun t => absurd t (C0 _), fun t => absurd (F13.mpr k) t.1⟩))
  · exact br_f (by decide) (br_f (fun e => F13.mp e k) (br_t (F12.mpr r) (pa_y264 hp (pa_O4 hO) (Or.inl h5) ⟨fun t => absurd t (B0 _), fun t => absurd (F12.mpr r) t.1.2.1⟩ ⟨fun t => absurd t (C0 _), fun t => absurd (F12.mpr r) t.2.1⟩)))
  · have n13 : ¬ z0 = 0 := fun e => F13.mp e k
    have n12 : ¬ x12 = 0 := fun e => F12.mp e r
    have A := pa_badI k hO e5 e8 e9 e10
    have B := pa_bonI k hO e5 e8 e9 e10
    rw [pa_metF F10 F11] at A
    exact br_f (by decide) (br_f n13 (br_f n12 (pa_y264 hp (pa_O4 hO) (Or.inr e5) ⟨fun t => ⟨⟨n13, n12, (A.mp t).1⟩, (A.mp t).2⟩, fun t => A.mpr ⟨t.1.2.2, t.2⟩⟩ ⟨fun t => ⟨n13, n12, B.mp t⟩, fun t => B.mpr t.2.2⟩)))
theorem pa_y195 (hp : post 1 ()) (hO : pa_O x2 x3 a4 a6 a7) (h5 : a5 0 = 0) (F10 : x10 = 0 ↔ ¬ pa_gC x2) (F11 : x11 = 0 ↔ ¬ pa_gV x3) (F12 : z0 = 0 ↔ ¬ pa_gR x4 x5) : wL_lawOf_195 post mc ms x2 x3 x4 x5 1 x10 x11 z0 kc ks 1 0 0 0 st fi fo bc bs a1 a2 a3 a4 a5 a6 a7 a8 a9 a10 a11 a12 a13 a14 a15 a16 a17 a18 a19 := by
  have N : ¬ pa_gK x2 → wL_lawOf_220 post mc ms x2 x3 x4 x5 1 x10 x11 z0 kc ks 1 0 0 0 st fi fo bc bs a1 a2 a3 a4 a5 a6 a7 a8 a9 a10 a11 a12 a13 a14 a15 a16 a17 a18 a19 := by
    intro h
    unfold wL_lawOf_220
    exact pa_y221 hp hO h5 F10 F11 F12 ⟨fun _ => h, fun _ => rfl⟩
  unfold wL_lawOf_195
  refine br_c (fun g => N (fun t => t.1 g)) (fun g1 => br_c (fun g => N (fun t => t.2.1 g)) (fun g2 => br_c (fun g => N (fun t => t.2.2 g)) (fun g3 => ?_)))
  exact pa_y221 hp hO h5 F10 F11 F12 ⟨fun e => absurd e (by decide), fun n => absurd ⟨g1, g2, g3⟩ n⟩
theorem pa_y165 (hp : post 1 ()) (hO : pa_O x2 x3 a4 a6 a7) (h5 : a5 0 = 0) (F10 : x10 = 0 ↔ ¬ pa_gC x2) (F11 : x11 = 0 ↔ ¬ pa_gV x3) : wL_lawOf_165 post mc ms x2 x3 x4 x5 1 x10 x11 z z kc ks 1 0 0 0 st fi fo bc bs a1 a2 a3 a4 a5 a6 a7 a8 a9 a10 a11 a12 a13 a14 a15 a16 a17 a18 a19 := by
  have N : ¬ pa_gR x4 x5 → wL_lawOf_194 post mc ms x2 x3 x4 x5 1 x10 x11 kc ks 1 0 0 0 st fi fo bc bs a1 a2 a3 a4 a5 a6 a7 a8 a9 a10 a11 a12 a13 a14 a15 a16 a17 a18 a19 := by
    intro h
    unfold wL_lawOf_194
    exact pa_y195 hp hO h5 F10 F11 ⟨fun _ => h, fun _ => rfl⟩
  unfold wL_lawOf_165
  refine br_t rfl (br_c (fun g => N (fun t => t.1 g)) (fun g1 => br_c (fun g => N (fun t => t.2.1 g)) (fun g2 => br_c (fun g => N (fun t => t.2.2 g)) (fun g3 => ?_))))
  exact pa_y195 hp hO h5 F10 F11 ⟨fun e => absurd e (by decide), fun n => absurd ⟨g1, g2, g3⟩ n⟩
theorem pa_y125 (hp : post 1 ()) (h4 : a4 0 = 0) (h5 : a5 0 = 0) (F10 : x10 = 0 ↔ ¬ pa_gC x2) (F11 : z0 = 0 ↔ ¬ pa_gV x3) : wL_lawOf_125 post mc ms x2 x3 x4 x5 1 x10 z0 kc ks 1 0 0 0 st fi fo bc bs a1 a2 a3 a4 a5 a6 a7 a8 a9 a10 a11 a12 a13 a14 a15 a16 a17 a18 a19 := by
  unfold wL_lawOf_125
  refine pa_offer h4 (fun k => ?_) (fun k r => ?_) (fun k r b4 b6 b7 e4 e6 e7 => ?_)
  · exact br_f (by decide) (br_t (F10.mpr k) (pa_y165 hp (Or.inr ⟨fun t => k t.1, h4⟩) h5 F10 F11))
  · exact br_f (by decide) (br_f (fun e => F10.mp e k) (br_t (F11.mpr r) (pa_y165 hp (Or.inr ⟨fun t => r t.2, h4⟩) h5 F10 F11)))
  · exact br_f (by decide) (br_f (fun e => F10.mp e k) (br_f (fun e => F11.mp e r) (pa_y165 hp (Or.inl ⟨k, r, e4, e6, e7⟩) h5 F10 F11)))
theorem pa_y107 (hp : post 1 ()) (h4 : a4 0 = 0) (h5 : a5 0 = 0) (F10 : z0 = 0 ↔ ¬ pa_gC x2) : wL_lawOf_107 post mc ms x2 x3 x4 x5 1 z0 kc ks 1 0 0 0 st fi fo bc bs a1 a2 a3 a4 a5 a6 a7 a8 a9 a10 a11 a12 a13 a14 a15 a16 a17 a18 a19 := by
  have N : ¬ pa_gV x3 → wL_lawOf_124 post mc ms x2 x3 x4 x5 1 z0 kc ks 1 0 0 0 st fi fo bc bs a1 a2 a3 a4 a5 a6 a7 a8 a9 a10 a11 a12 a13 a14 a15 a16 a17 a18 a19 := by
    intro h
    unfold wL_lawOf_124
    exact pa_y125 hp h4 h5 F10 ⟨fun _ => h, fun _ => rfl⟩
  unfold wL_lawOf_107
  refine br_c (fun g => N (fun t => t.1 g)) (fun g1 => br_c (fun g => N (fun t => t.2 g)) (fun g2 => ?_))
  exact pa_y125 hp h4 h5 F10 ⟨fun e => absurd e (by decide), fun n => absurd ⟨g1, g2⟩ n⟩
theorem pa_y88 (hp : post 1 ()) (h4 : a4 0 = 0) (h5 : a5 0 = 0) : wL_lawOf_88 post mc ms x2 x3 x4 x5 1 z z kc ks 1 0 0 0 st fi fo bc bs a1 a2 a3 a4 a5 a6 a7 a8 a9 a10 a11 a12 a13 a14 a15 a16 a17 a18 a19 := by
  have N : ¬ pa_gC x2 → wL_lawOf_106 post mc ms x2 x3 x4 x5 1 kc ks 1 0 0 0 st fi fo bc bs a1 a2 a3 a4 a5 a6 a7 a8 a9 a10 a11 a12 a13 a14 a15 a16 a17 a18 a19 := by
    intro h
    unfold wL_lawOf_106
    exact pa_y107 hp h4 h5 ⟨fun _ => h, fun _ => rfl⟩
  unfold wL_lawOf_88
  refine br_t rfl (br_c (fun g => N (fun t => t.1 g)) (fun g1 => br_c (fun g => N (fun t => t.2 g)) (fun g2 => ?_)))
  exact pa_y107 hp h4 h5 ⟨fun e => absurd e (by decide), fun n => absurd ⟨g1, g2⟩ n⟩
/-! the law's head -/
theorem pa_58 (hp : post 1 ()) (F7 : x7 = 0 ↔ ¬ pa_gN x0) (F8 : x8 = 0 ↔ ¬ pa_gV x1) (F9 : (pa_gN x0 ∧ pa_gV x1 ∧ z0 = 1) ∨ (¬ (pa_gN x0 ∧ pa_gV x1) ∧ z0 = 0)) : wL_lawOf_58 post mc ms x0 x1 x2 x3 x4 x5 x7 x8 z0 kc ks 0 0 0 0 st fi fo bc bs a1 a2 a3 a4 a5 a6 a7 a8 a9 a10 a11 a12 a13 a14 a15 a16 a17 a18 a19 := by
  unfold wL_lawOf_58
  rcases F9 with ⟨n, v, e⟩ | ⟨n, e⟩
  · subst e
    exact pa_unit (fun k => absurd n k) (fun _ k => absurd v k) (fun _ _ b1 b2 b3 b4 b5 z4 z5 => br_f (fun e => F7.mp e n) (br_f (fun e => F8.mp e v) (pa_y88 hp z4 z5)))
  · subst e
    exact pa_unit (fun k => br_t (F7.mpr k) (pa_n88 hp)) (fun k r => br_f (fun e => F7.mp e k) (br_t (F8.mpr r) (pa_n88 hp))) (fun k r _ _ _ _ _ _ _ => absurd ⟨k, r⟩ n)
theorem pa_57 (hp : post 1 ()) (F7 : x7 = 0 ↔ ¬ pa_gN x0) (F8 : x8 = 0 ↔ ¬ pa_gV x1) (n : ¬ (pa_gN x0 ∧ pa_gV x1)) : wL_lawOf_57 post mc ms x0 x1 x2 x3 x4 x5 x7 x8 kc ks 0 0 0 0 st fi fo bc bs a1 a2 a3 a4 a5 a6 a7 a8 a9 a10 a11 a12 a13 a14 a15 a16 a17 a18 a19 := by
  unfold wL_lawOf_57
  exact pa_58 hp F7 F8 (Or.inr ⟨n, rfl⟩)
theorem pa_41 (hp : post 1 ()) (F7 : x7 = 0 ↔ ¬ pa_gN x0) (F8 : z0 = 0 ↔ ¬ pa_gV x1) : wL_lawOf_41 post mc ms x0 x1 x2 x3 x4 x5 x7 z0 kc ks 0 0 0 0 st fi fo bc bs a1 a2 a3 a4 a5 a6 a7 a8 a9 a10 a11 a12 a13 a14 a15 a16 a17 a18 a19 := by
  unfold wL_lawOf_41
  refine br_c (fun g => pa_57 hp F7 F8 (fun t => F7.mp g t.1)) (fun g => br_c (fun g' => pa_57 hp F7 F8 (fun t => F8.mp g' t.2)) (fun g' => ?_))
  exact pa_58 hp F7 F8 (Or.inl ⟨Classical.byContradiction (fun t => g (F7.mpr t)), Classical.byContradiction (fun t => g' (F8.mpr t)), rfl⟩)
theorem pa_23 (hp : post 1 ()) (F7 : z0 = 0 ↔ ¬ pa_gN x0) : wL_lawOf_23 post mc ms x0 x1 x2 x3 x4 x5 z0 kc ks 0 0 0 0 st fi fo bc bs a1 a2 a3 a4 a5 a6 a7 a8 a9 a10 a11 a12 a13 a14 a15 a16 a17 a18 a19 := by
  have N : ¬ pa_gV x1 → wL_lawOf_40 post mc ms x0 x1 x2 x3 x4 x5 z0 kc ks 0 0 0 0 st fi fo bc bs a1 a2 a3 a4 a5 a6 a7 a8 a9 a10 a11 a12 a13 a14 a15 a16 a17 a18 a19 := by
    intro h
    unfold wL_lawOf_40
    exact pa_41 hp F7 ⟨fun _ => h, fun _ => rfl⟩
  unfold wL_lawOf_23
  refine br_c (fun g => N (fun t => t.1 g)) (fun g1 => br_c (fun g => N (fun t => t.2 g)) (fun g2 => ?_))
  exact pa_41 hp F7 ⟨fun e => absurd e (by decide), fun n => absurd ⟨g1, g2⟩ n⟩
theorem pa_22 (hp : post 1 ()) (n : ¬ pa_gN x0) : wL_lawOf_22 post mc ms x0 x1 x2 x3 x4 x5 kc ks 0 0 0 0 st fi fo bc bs a1 a2 a3 a4 a5 a6 a7 a8 a9 a10 a11 a12 a13 a14 a15 a16 a17 a18 a19 := by
  unfold wL_lawOf_22
  exact pa_23 hp ⟨fun _ => n, fun _ => rfl⟩
end
end
section
theorem pa_lawOf {post : Int32 → St0 → Prop} {p0 p1 p2 p3 p4 p5 : Int32} (hp : post 1 ()) : wpL_lawOf post 20 342 () p0 p1 p2 p3 p4 p5 := by
  unfold wpL_lawOf
  refine ⟨by decide, by decide, 19, 314, by decide, by decide, ?_⟩
  unfold wpX_init
  refine And.intro (by decide) (And.intro (by decide) (And.intro (by decide) (And.intro (by decide) (And.intro (by decide) (And.intro (by decide) (And.intro (by decide) (And.intro (by decide) (And.intro (by decide) (And.intro (by decide) (And.intro (by decide) (And.intro (by decide) (And.intro (by decide) (And.intro (by decide) (And.intro (by decide) (And.intro (by decide) (And.intro (by decide) (And.intro (by decide) (And.intro (by decide) (And.intro (by decide) (And.intro (by decide) (And.intro (by decide) (And.intro (by decide) (And.intro (by decide) (And.intro (by decide) (And.intro (by decide) (And.intro (by decide) (And.intro (by decide) (And.intro (by decide) (And.intro (by decide) (And.intro (by decide) (And.intro (by decide) (And.intro (by decide) (And.intro (by decide) (And.intro (by decide) (And.intro (by decide) (And.intro (by decide) (And.intro (by decide) (?_))))))))))))))))))))))))))))))))))))))
  refine br_c (fun g => pa_22 hp (fun t => t.1 g)) (fun g1 => br_c (fun g => pa_22 hp (fun t => t.2 g)) (fun g2 => ?_))
  exact pa_23 hp ⟨fun e => absurd e (by decide), fun n => absurd ⟨g1, g2⟩ n⟩
theorem pa_cell {post : Int32 → Prop} {L : Nat} {xs : Nat → Int32} {p : Int32} (k : Nat) (hL : L ≤ 6) (hk : k ≤ 5) (e : p = nI k) (h : ∀ v, post v) : wpL_cellAt post L xs () p := by
  subst e
  unfold wpL_cellAt
  exact pk_le L k (fun _ => h _) (fun z => ⟨pk_in k L z rfl (by omega), h _⟩) rfl rfl (by omega) (by omega)
theorem i_vc (xs : Nat → Int32) (L : Nat) (hL : L ≤ 6) : wpL_law (fun r => r = 1) L xs := by
  unfold wpL_law
  refine pa_cell 0 hL (by decide) rfl (fun r1 => pa_cell 1 hL (by decide) rfl (fun r2 => pa_cell 2 hL (by decide) rfl (fun r3 => pa_cell 3 hL (by decide) rfl (fun r4 => pa_cell 4 hL (by decide) rfl (fun r5 => pa_cell 5 hL (by decide) rfl (fun r6 => ?_))))))
  exact ⟨20, 342, by decide, by decide, pa_lawOf rfl⟩
end
