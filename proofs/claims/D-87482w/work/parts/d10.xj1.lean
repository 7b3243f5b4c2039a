/-! ===== a finer table: the laws (1): quotients by the floor, roundings ===== -/
theorem i64_pos {x : Int64} (h : 0 < x.toInt) : ¬ x < 0 := fun z => by
  have := Int64.lt_iff_toInt_lt.mp z
  rw [show (0 : Int64).toInt = 0 from rfl] at this; omega
theorem tq_bd {X Y : Int} (hY : 0 < Y) : X.tdiv Y * Y + X.tmod Y = X ∧ (0 ≤ X → 0 ≤ X.tmod Y ∧ 0 ≤ X.tdiv Y ∧ X.tdiv Y * Y ≤ X ∧ X.tdiv Y ≤ X) ∧ (X < 0 → X.tmod Y ≤ 0 ∧ X.tdiv Y ≤ 0 ∧ X ≤ X.tdiv Y * Y ∧ X ≤ X.tdiv Y) ∧ X.tmod Y < Y ∧ -Y < X.tmod Y := by
  have h1 := Int.tmod_add_tdiv_mul X Y
  have h2 := Int.tmod_lt_of_pos X hY
  have h3 := Int.lt_tmod_of_pos X hY
  refine ⟨by omega, fun h => ?_, fun h => ?_, h2, h3⟩
  · have h4 := Int.tmod_nonneg Y h
    have h5 := Int.tdiv_nonneg h (Int.le_of_lt hY)
    have h6 : X.tdiv Y * 1 ≤ X.tdiv Y * Y := Int.mul_le_mul_of_nonneg_left (by omega) h5
    exact ⟨h4, h5, by omega, by omega⟩
  · have h4 : 0 ≤ (-X).tmod Y := Int.tmod_nonneg Y (by omega)
    have h5 : 0 ≤ (-X).tdiv Y := Int.tdiv_nonneg (by omega) (Int.le_of_lt hY)
    rw [Int.neg_tmod] at h4
    rw [Int.neg_tdiv] at h5
    have h6 : (-(X.tdiv Y)) * 1 ≤ (-(X.tdiv Y)) * Y := Int.mul_le_mul_of_nonneg_left (by omega) h5
    rw [Int.neg_mul, Int.neg_mul] at h6
    exact ⟨by omega, by omega, by omega, by omega⟩
theorem dv_toInt {x y : Int64} (hy : 0 < y.toInt) : (x / y).toInt = x.toInt.tdiv y.toInt ∧ (x / y * y).toInt = x.toInt.tdiv y.toInt * y.toInt ∧ (x - x / y * y).toInt = x.toInt.tmod y.toInt := by
  have b1 := x.toInt_lt
  have b2 := x.le_toInt
  obtain ⟨h1, h2, h3, h4, h5⟩ := tq_bd (X := x.toInt) hy
  have c1 := y.toInt_lt
  have e1 : (x / y).toInt = x.toInt.tdiv y.toInt := by
    rw [Int64.toInt_div]
    refine Int.bmod_eq_of_le ?_ ?_ <;> (by_cases h : 0 ≤ x.toInt <;> first | (have := h2 h; omega) | (have := h3 (by omega); omega))
  have e2 : (x / y * y).toInt = x.toInt.tdiv y.toInt * y.toInt := by
    rw [Int64.toInt_mul, e1]
    refine Int.bmod_eq_of_le ?_ ?_ <;> (by_cases h : 0 ≤ x.toInt <;> first | (have := h2 h; omega) | (have := h3 (by omega); omega))
  refine ⟨e1, e2, ?_⟩
  rw [Int64.toInt_sub, e2]
  rw [Int.bmod_eq_of_le (by by_cases h : 0 ≤ x.toInt <;> first | (have := h2 h; omega) | (have := h3 (by omega); omega)) (by by_cases h : 0 ≤ x.toInt <;> first | (have := h2 h; omega) | (have := h3 (by omega); omega))]
  omega
theorem fdm_toInt {x y : Int64} (hy : 0 < y.toInt) : (fdL x y).toInt = x.toInt / y.toInt ∧ (fmL x y).toInt = x.toInt % y.toInt := by
  obtain ⟨e1, e2, e3⟩ := dv_toInt (x := x) hy
  obtain ⟨h1, h2, h3, h4, h5⟩ := tq_bd (X := x.toInt) hy
  have b1 := x.toInt_lt
  have b2 := x.le_toInt
  have c1 := y.toInt_lt
  have hx : (x ^^^ y < 0) ↔ x.toInt < 0 := by
    rw [xor_neg, Int64.lt_iff_toInt_lt, Int64.lt_iff_toInt_lt]
    rw [show (0 : Int64).toInt = 0 from rfl, show (y.toInt < 0) = False from eq_false (by omega)]
    simp
  have z1 : (x / y * y = x) ↔ x.toInt.tmod y.toInt = 0 := by
    rw [← Int64.toInt_inj, e2]; omega
  have z2 : (x - x / y * y = 0) ↔ x.toInt.tmod y.toInt = 0 := by
    rw [← Int64.toInt_inj, e3, show (0 : Int64).toInt = 0 from rfl]
  unfold fdL fmL
  by_cases h : x.toInt < 0 ∧ ¬ x.toInt.tmod y.toInt = 0
  · rw [if_pos ⟨hx.mpr h.1, fun z => h.2 (z1.mp z)⟩, if_pos ⟨hx.mpr h.1, fun z => h.2 (z2.mp z)⟩, Int64.toInt_sub, Int64.toInt_add, e1, e3, show (1 : Int64).toInt = 1 from rfl]
    have hn := h3 h.1
    have u := (Int.ediv_emod_unique (a := x.toInt) (b := y.toInt) (r := x.toInt.tmod y.toInt + y.toInt) (q := x.toInt.tdiv y.toInt - 1) hy).mpr ⟨by rw [Int.mul_sub, Int.mul_comm]; omega, by omega, by omega⟩
    have hm : x.toInt.tdiv y.toInt * y.toInt ≤ x.toInt.tdiv y.toInt * 1 := by
      have := Int.mul_le_mul_of_nonneg_left (show (1 : Int) ≤ y.toInt by omega) (show 0 ≤ -(x.toInt.tdiv y.toInt) by omega)
      rw [Int.neg_mul, Int.neg_mul] at this; omega
    rw [u.1, u.2, Int.bmod_eq_of_le (by omega) (by omega), Int.bmod_eq_of_le (by omega) (by omega)]
    exact ⟨rfl, rfl⟩
  · rw [if_neg (fun z => h ⟨hx.mp z.1, fun w => z.2 (z1.mpr w)⟩), if_neg (fun z => h ⟨hx.mp z.1, fun w => z.2 (z2.mpr w)⟩), e1, e3]
    have hr : 0 ≤ x.toInt.tmod y.toInt := by
      by_cases h0 : 0 ≤ x.toInt
      · exact (h2 h0).1
      · have : x.toInt.tmod y.toInt = 0 := Classical.byContradiction fun z => h ⟨by omega, z⟩
        omega
    have u := (Int.ediv_emod_unique (a := x.toInt) (b := y.toInt) (r := x.toInt.tmod y.toInt) (q := x.toInt.tdiv y.toInt) hy).mpr ⟨by rw [Int.mul_comm]; omega, hr, h4⟩
    rw [u.1, u.2]; exact ⟨rfl, rfl⟩
/-- as the component rounds: ten to the d times a fraction -/
def rdL (x u g : Int64) : Int64 := fdL x u * g + (2 * fmL x u * g + u) / (2 * u)
theorem i64_2 : (2 : Int64).toInt = 2 := rfl
/-- the rest's part of it -/
theorem rd_rest {x u g : Int64} (hu : 0 < u.toInt) (hu2 : u.toInt ≤ 4000000) (hg : 0 < g.toInt) (hg2 : g.toInt ≤ 1000000) : ((2 * fmL x u * g + u) / (2 * u)).toInt = (2 * (x.toInt % u.toInt * g.toInt) + u.toInt) / (2 * u.toInt) ∧ 0 ≤ x.toInt % u.toInt * g.toInt ∧ x.toInt % u.toInt * g.toInt ≤ 4000000000000 ∧ (2 * (fmL x u * g) + u).toInt = 2 * (x.toInt % u.toInt * g.toInt) + u.toInt ∧ (2 * u).toInt = 2 * u.toInt ∧ 2 * fmL x u * g + u = 2 * (fmL x u * g) + u := by
  have e1 := (fdm_toInt (x := x) hu).2
  have r0 := Int.emod_nonneg x.toInt (show u.toInt ≠ 0 by omega)
  have r1 := Int.emod_lt_of_pos x.toInt hu
  have p0 : 0 ≤ x.toInt % u.toInt * g.toInt := Int.mul_nonneg r0 (by omega)
  have p1 : x.toInt % u.toInt * g.toInt ≤ 4000000 * 1000000 := Int.mul_le_mul (by omega) hg2 (by omega) (by omega)
  have m1 : (fmL x u * g).toInt = x.toInt % u.toInt * g.toInt := by
    rw [Int64.toInt_mul, e1, Int.bmod_eq_of_le (by omega) (by omega)]
  have m2 : (2 * (fmL x u * g)).toInt = 2 * (x.toInt % u.toInt * g.toInt) := by
    rw [Int64.toInt_mul, m1, i64_2, Int.bmod_eq_of_le (by omega) (by omega)]
  have m3 : (2 * (fmL x u * g) + u).toInt = 2 * (x.toInt % u.toInt * g.toInt) + u.toInt := by
    rw [Int64.toInt_add, m2, Int.bmod_eq_of_le (by omega) (by omega)]
  have m4 : (2 * u).toInt = 2 * u.toInt := by
    rw [Int64.toInt_mul, i64_2, Int.bmod_eq_of_le (by omega) (by omega)]
  have m5 : 2 * fmL x u * g + u = 2 * (fmL x u * g) + u := by rw [Int64.mul_assoc]
  refine ⟨?_, p0, by omega, m3, m4, m5⟩
  rw [m5, (dv_toInt (x := 2 * (fmL x u * g) + u) (y := 2 * u) (by omega)).1, m3, m4]
  exact Int.tdiv_eq_ediv_of_nonneg (by omega)
theorem rd_fn {x u g : Int64} (hu : 0 < u.toInt) (hu2 : u.toInt ≤ 4000000) (hg : 0 < g.toInt) (hg2 : g.toInt ≤ 1000000) : rdL x u g = fnV u g x := by
  obtain ⟨a1, a2, a3, a4, a5, a6⟩ := rd_rest (x := x) hu hu2 hg hg2
  obtain ⟨e1, e2⟩ := fdm_toInt (x := x) hu
  have b1 := x.toInt_lt
  have b2 := x.le_toInt
  have hr : fmL x u = x - fdL x u * u := by
    refine Int64.toInt_inj.mp ?_
    rw [Int64.toInt_sub, Int64.toInt_mul, e1, e2]
    have h1 := Int.mul_ediv_add_emod x.toInt u.toInt
    have r0 := Int.emod_nonneg x.toInt (show u.toInt ≠ 0 by omega)
    have r1 := Int.emod_lt_of_pos x.toInt hu
    rw [Int.sub_bmod_bmod, show x.toInt - x.toInt / u.toInt * u.toInt = x.toInt % u.toInt by rw [Int.mul_comm]; omega]
    exact (Int.bmod_eq_of_le (by omega) (by omega)).symm
  unfold rdL fnV nrL
  rw [← hr, a6]
  congr 1
  refine Int64.toInt_inj.mp ?_
  rw [(fdm_toInt (y := 2 * u) (by omega)).1, a4, a5, ← a1, a6]
/-- .. to a whole number -/
theorem rd_nr {a b : Int64} (hb : 0 < b.toInt) (hb2 : b.toInt ≤ 4000000) (h1 : -4611686018427387904 < a.toInt) (h2 : a.toInt < 4611686018427387904 - 4000000) : rdL a b 1 = nrL a b := by
  obtain ⟨a1, a2, a3, a4, a5, a6⟩ := rd_rest (x := a) (g := 1) hb hb2 (by decide) (by decide)
  obtain ⟨e1, e2⟩ := fdm_toInt (x := a) hb
  have g1 : (1 : Int64).toInt = 1 := rfl
  have m1 : (2 * a + b).toInt = 2 * a.toInt + b.toInt := by
    have m0 : (2 * a).toInt = 2 * a.toInt := by rw [Int64.toInt_mul, i64_2, Int.bmod_eq_of_le (by omega) (by omega)]
    rw [Int64.toInt_add, m0, Int.bmod_eq_of_le (by omega) (by omega)]
  refine Int64.toInt_inj.mp ?_
  unfold rdL nrL
  rw [(fdm_toInt (y := 2 * b) (by omega)).1, m1, a5, Int64.toInt_add, a1, g1, Int.mul_one]
  have k1 : (fdL a b * 1).toInt = a.toInt / b.toInt := by rw [Int64.mul_one, e1]
  rw [k1]
  have h3 := Int.mul_ediv_add_emod a.toInt b.toInt
  have r0 := Int.emod_nonneg a.toInt (show b.toInt ≠ 0 by omega)
  have r1 := Int.emod_lt_of_pos a.toInt hb
  have k2 : (2 * a.toInt + b.toInt) / (2 * b.toInt) = a.toInt / b.toInt + (2 * (a.toInt % b.toInt) + b.toInt) / (2 * b.toInt) := by
    rw [show 2 * a.toInt + b.toInt = (2 * (a.toInt % b.toInt) + b.toInt) + (2 * b.toInt) * (a.toInt / b.toInt) by rw [Int.mul_assoc]; omega, Int.add_mul_ediv_left _ _ (by omega)]
    omega
  rw [k2]
  have q0 : 0 ≤ (2 * (a.toInt % b.toInt) + b.toInt) / (2 * b.toInt) := Int.ediv_nonneg (by omega) (by omega)
  have q1 : (2 * (a.toInt % b.toInt) + b.toInt) / (2 * b.toInt) < 2 := Int.ediv_lt_of_lt_mul (by omega) (by omega)
  have q2 : -4611686018427387904 ≤ a.toInt / b.toInt := Int.le_ediv_of_mul_le hb (by
    have := Int.mul_le_mul_of_nonneg_left (show (1 : Int) ≤ b.toInt by omega) (show (0 : Int) ≤ 4611686018427387904 by decide)
    omega)
  have q3 : a.toInt / b.toInt < 4611686018427387904 := Int.ediv_lt_of_lt_mul hb (by
    have := Int.mul_le_mul_of_nonneg_left (show (1 : Int) ≤ b.toInt by omega) (show (0 : Int) ≤ 4611686018427387904 by decide)
    omega)
  exact Int.bmod_eq_of_le (by omega) (by omega)
