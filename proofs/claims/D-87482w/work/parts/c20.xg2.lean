/-! ===== numbers on wheels: floors ===== -/
theorem fd_core {x : Int64} {r : Nat} (h1 : 2 ≤ r) (hr : r ≤ 12) (hx : -4611686018427387904 ≤ x.toInt) (hq : ∀ z : Int, -9223372036854775808 ≤ z → z < 9223372036854775808 → -9223372036854775808 ≤ z / (r : Int) ∧ z / (r : Int) < 9223372036854775808 ∧ (0 ≤ z → z.tdiv r = z / r) ∧ (z < 0 → z.tdiv r = - ((-z) / r)) ∧ (z < 0 → (z.tdiv r * r = z → z.tdiv r = z / r) ∧ (¬ z.tdiv r * r = z → z.tdiv r - 1 = z / r)) ∧ -9223372036854775808 < z.tdiv r ∧ z.tdiv r < 9223372036854775808 ∧ -9223372036854775808 ≤ z.tdiv r * r ∧ z.tdiv r * r < 9223372036854775808) :
    fdL x (nI r).toInt64 = (x - ((fmL x (nI r).toInt64).toInt32).toInt64) / (nI r).toInt64 := by
  apply Int64.toInt.inj
  have hrp : ((nI r).toInt64).toInt = r := rL_toInt hr
  obtain ⟨f, hf, e1, e2, e3⟩ := fm_nat x h1 hr
  rw [e2]
  have hfp : ((nI f).toInt64).toInt = f := rL_toInt (by omega)
  have b1 := Int64.toInt_lt x
  have b2 := Int64.le_toInt x
  obtain ⟨q1, q2, q3, q4, q5, q6, q7, q8, q9⟩ := hq x.toInt (by omega) (by omega)
  have hs : (x - (nI f).toInt64).toInt = x.toInt - f := by rw [Int64.toInt_sub, hfp]; exact Int.bmod_eq_of_le (by omega) (by omega)
  have hd := Int.emod_add_mul_ediv x.toInt r
  have hR : ((x - (nI f).toInt64) / (nI r).toInt64).toInt = x.toInt / r := by
    rw [Int64.toInt_div, hs, hrp, show x.toInt - (f : Int) = (r : Int) * (x.toInt / r) by omega, Int.mul_comm, Int.mul_tdiv_cancel _ (by omega)]
    exact Int.bmod_eq_of_le (by omega) (by omega)
  rw [hR]
  have ht : (x / (nI r).toInt64).toInt = x.toInt.tdiv r := by
    rw [Int64.toInt_div, hrp]; exact Int.bmod_eq_of_le (by omega) (by omega)
  have hm : (x / (nI r).toInt64 * (nI r).toInt64).toInt = x.toInt.tdiv r * r := by
    rw [Int64.toInt_mul, ht, hrp]; exact Int.bmod_eq_of_le (by omega) (by omega)
  have hz : (x / (nI r).toInt64 * (nI r).toInt64 = x) ↔ x.toInt.tdiv r * r = x.toInt := by
    rw [← hm]
    exact ⟨fun z => congrArg Int64.toInt z, fun z => Int64.toInt.inj z⟩
  have hxn : (x ^^^ (nI r).toInt64 < 0) ↔ x.toInt < 0 := by
    rw [xor_neg, Int64.lt_iff_toInt_lt, Int64.lt_iff_toInt_lt, hrp]
    have : ((0 : Int64)).toInt = 0 := rfl
    rw [this, show ((r : Int) < 0) = False from eq_false (by omega)]
    simp
  unfold fdL
  by_cases hn : x.toInt < 0
  · by_cases he : x.toInt.tdiv r * r = x.toInt
    · rw [if_neg (fun z => z.2 (hz.mpr he)), ht]; exact (q5 hn).1 he
    · rw [if_pos ⟨hxn.mpr hn, fun z => he (hz.mp z)⟩, Int64.toInt_sub, ht]
      show (x.toInt.tdiv r - 1).bmod (2 ^ 64) = _
      rw [Int.bmod_eq_of_le (by omega) (by omega)]
      exact (q5 hn).2 he
  · rw [if_neg (fun z => hn (hxn.mp z.1)), ht]; exact q3 (by omega)
theorem fd_aux (r : Nat) (h1 : 2 ≤ r) (hr : r ≤ 12) : ∀ z : Int, -9223372036854775808 ≤ z → z < 9223372036854775808 → -9223372036854775808 ≤ z / (r : Int) ∧ z / (r : Int) < 9223372036854775808 ∧ (0 ≤ z → z.tdiv r = z / r) ∧ (z < 0 → z.tdiv r = - ((-z) / r)) ∧ (z < 0 → (z.tdiv r * r = z → z.tdiv r = z / r) ∧ (¬ z.tdiv r * r = z → z.tdiv r - 1 = z / r)) ∧ -9223372036854775808 < z.tdiv r ∧ z.tdiv r < 9223372036854775808 ∧ -9223372036854775808 ≤ z.tdiv r * r ∧ z.tdiv r * r < 9223372036854775808 := by
  intro z h2 h3
  have a1 : 0 ≤ z → z.tdiv r = z / r := fun h => Int.tdiv_eq_ediv_of_nonneg h
  have a2 : z < 0 → z.tdiv r = - ((-z) / r) := fun h => by
    have := Int.neg_tdiv z (r : Int)
    rw [Int.tdiv_eq_ediv_of_nonneg (show 0 ≤ -z by omega)] at this
    omega
  generalize z.tdiv r = t at *
  rcases (show r = 2 ∨ r = 3 ∨ r = 4 ∨ r = 5 ∨ r = 6 ∨ r = 7 ∨ r = 8 ∨ r = 9 ∨ r = 10 ∨ r = 11 ∨ r = 12 by omega) with rfl | rfl | rfl | rfl | rfl | rfl | rfl | rfl | rfl | rfl | rfl
  all_goals (
    refine ⟨by omega, by omega, a1, a2, fun h => ⟨fun _ => ?_, fun _ => ?_⟩, ?_, ?_, ?_, ?_⟩
    all_goals (by_cases hz : 0 ≤ z
               · have := a1 hz; omega
               · have := a2 (by omega); omega))
theorem fd_eq {x : Int64} {r : Nat} (h1 : 2 ≤ r) (hr : r ≤ 12) (hx : -4611686018427387904 ≤ x.toInt) : fdL x (nI r).toInt64 = (x - ((fmL x (nI r).toInt64).toInt32).toInt64) / (nI r).toInt64 := fd_core h1 hr hx (fd_aux r h1 hr)
