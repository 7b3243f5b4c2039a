/-! ===== the component: errata (1): differences by binomials ===== -/
def bnC (k : Nat) : Nat → Int64
  | 0 => 1
  | j + 1 => bnC k j * (nI (k - j)).toInt64 / (nI (j + 1)).toInt64
def smS (k : Nat) (T : Nat → Int64) (i : Nat) : Nat → Int64
  | 0 => 0
  | j + 1 => smS k T i j + (if (k - j) % 2 = 0 then bnC k j * T (i + j) else -(bnC k j) * T (i + j))
theorem dfL_S {n k x : Nat} {T : Nat → Int64} (h1 : k + 1 ≤ x) (h2 : x < n) : dfL n T (k + 1) x = dfL n T k x - dfL n T k (x - 1) := by
  rw [dfL]; unfold difP; rw [if_pos ⟨h1, h2⟩]
theorem smS_df {n k i : Nat} {T : Nat → Int64} (hk1 : 1 ≤ k) (hk : k ≤ 4) (hi : i + k < n) : smS k T i (k + 1) = dfL n T k (k + i) := by
  have z : ∀ x, dfL n T 0 x = T x := fun _ => rfl
  have d1 : ∀ x, x + 1 < n → dfL n T 1 (x + 1) = T (x + 1) - T x := fun x hx => by rw [dfL_S (by omega) hx, z, z]; rfl
  have d2 : ∀ x, x + 2 < n → dfL n T 2 (x + 2) = dfL n T 1 (x + 2) - dfL n T 1 (x + 1) := fun x hx => dfL_S (by omega) hx
  have d3 : ∀ x, x + 3 < n → dfL n T 3 (x + 3) = dfL n T 2 (x + 3) - dfL n T 2 (x + 2) := fun x hx => dfL_S (by omega) hx
  have d4 : ∀ x, x + 4 < n → dfL n T 4 (x + 4) = dfL n T 3 (x + 4) - dfL n T 3 (x + 3) := fun x hx => dfL_S (by omega) hx
  rw [Nat.add_comm k i]
  rcases (show k = 1 ∨ k = 2 ∨ k = 3 ∨ k = 4 by omega) with rfl | rfl | rfl | rfl
  · have c0 : bnC 1 0 = 1 := rfl
    have c1 : bnC 1 1 = 1 := by decide
    rw [d1 i hi]
    simp only [smS, c0, c1, Nat.add_zero]
    simp
    grind
  · have c0 : bnC 2 0 = 1 := rfl
    have c1 : bnC 2 1 = 2 := by decide
    have c2 : bnC 2 2 = 1 := by decide
    rw [d2 i hi, d1 (i + 1) (by omega), d1 i (by omega)]
    simp only [smS, c0, c1, c2, Nat.add_zero]
    simp
    grind
  · have c0 : bnC 3 0 = 1 := rfl
    have c1 : bnC 3 1 = 3 := by decide
    have c2 : bnC 3 2 = 3 := by decide
    have c3 : bnC 3 3 = 1 := by decide
    rw [d3 i hi, d2 (i + 1) (by omega), d2 i (by omega), d1 (i + 2) (by omega), d1 (i + 1) (by omega), d1 i (by omega)]
    simp only [smS, c0, c1, c2, c3, Nat.add_zero]
    simp
    grind
  · have c0 : bnC 4 0 = 1 := rfl
    have c1 : bnC 4 1 = 4 := by decide
    have c2 : bnC 4 2 = 6 := by decide
    have c3 : bnC 4 3 = 4 := by decide
    have c4 : bnC 4 4 = 1 := by decide
    rw [d4 i hi, d3 (i + 1) (by omega), d3 i (by omega), d2 (i + 2) (by omega), d2 (i + 1) (by omega), d2 i (by omega), d1 (i + 3) (by omega), d1 (i + 2) (by omega), d1 (i + 1) (by omega), d1 i (by omega)]
    simp only [smS, c0, c1, c2, c3, c4, Nat.add_zero]
    simp
    grind
theorem dfL_loc {n x : Nat} {T U : Nat → Int64} : ∀ k, k ≤ x → x < n → (∀ i, x - k ≤ i → i ≤ x → T i = U i) → dfL n T k x = dfL n U k x
  | 0, _, _, h => h x (by omega) (Nat.le_refl _)
  | k + 1, hk, hx, h => by
    rw [dfL_S hk hx, dfL_S hk hx, dfL_loc k (by omega) hx (fun i h1 h2 => h i (by omega) h2)]
    congr 1
    obtain ⟨y, rfl⟩ : ∃ y, x = y + 1 := ⟨x - 1, by omega⟩
    exact dfL_loc k (by omega) (by omega) (fun i h1 h2 => h i (by omega) (by omega))
theorem smP_loc {n k x : Nat} {b : Int32} {T U : Nat → Int64} (hk : k ≤ x) (hx : x < n) (h : ∀ i, x - k ≤ i → i ≤ x → T i = U i) : smP n k b T x = smP n k b U x := by
  unfold smP; rw [dfL_loc k hk hx h]
/-- the windows that hold a value -/
def byB (n k : Nat) (b : Int32) (T : Nat → Int64) (a : Nat) : Bool := allB (fun q => !(decide (a ≤ k + q ∧ q ≤ a)) || smP n k b T (k + q)) (n - k)
theorem el_all {n k : Nat} {b : Int32} {T : Nat → Int64} {i j : Nat} (h : elN n k b T i j = true) : ∀ q, q < n - k → smP n k b T (k + q) = true ∨ (q ≤ i ∧ i ≤ k + q) ∨ (q ≤ j ∧ j ≤ k + q) := fun q hq => by
  have h1 := allB_iff.mp h q hq
  unfold elP inW at h1
  rw [Bool.or_eq_true, Bool.or_eq_true, decide_eq_true_eq, decide_eq_true_eq] at h1
  rw [Nat.add_sub_cancel_left] at h1
  exact h1
/-- one value changed: all is smooth if what holds it is -/
theorem by_one {n k a : Nat} {b : Int32} {T : Nat → Int64} (hkn : k < n) (hel : elN n k b T a a = true) (c : Int64) : byB n k b (vp_updL T a c) a = smN n k b (vp_updL T a c) := by
  apply Bool.eq_iff_iff.mpr
  constructor
  · intro h
    refine allB_iff.mpr (fun q hq => ?_)
    have h1 := allB_iff.mp h q hq
    rw [Bool.or_eq_true, Bool.not_eq_true', decide_eq_false_iff_not] at h1
    rcases h1 with h1 | h1
    · rw [smP_loc (U := T) (by omega) (by omega) (fun i h2 h3 => vl_ne (by omega))]
      rcases el_all hel q hq with z | z | z
      · exact z
      · exact absurd ⟨z.2, z.1⟩ h1
      · exact absurd ⟨z.2, z.1⟩ h1
    · exact h1
  · intro h
    refine allB_iff.mpr (fun q hq => ?_)
    rw [Bool.or_eq_true]
    exact Or.inr (allB_iff.mp h q hq)
theorem by_two {n k a d : Nat} {b : Int32} {T : Nat → Int64} (hkn : k < n) (hel : elN n k b T a d = true) (c e : Int64) : (byB n k b (vp_updL (vp_updL T a c) d e) a && byB n k b (vp_updL (vp_updL T a c) d e) d) = smN n k b (vp_updL (vp_updL T a c) d e) := by
  apply Bool.eq_iff_iff.mpr
  rw [Bool.and_eq_true]
  constructor
  · rintro ⟨h, h'⟩
    refine allB_iff.mpr (fun q hq => ?_)
    have h1 := allB_iff.mp h q hq
    have h2 := allB_iff.mp h' q hq
    rw [Bool.or_eq_true, Bool.not_eq_true', decide_eq_false_iff_not] at h1 h2
    rcases h1 with h1 | h1
    · rcases h2 with h2 | h2
      · rw [smP_loc (U := T) (by omega) (by omega) (fun i h3 h4 => (vl_ne (by omega)).trans (vl_ne (by omega)))]
        rcases el_all hel q hq with z | z | z
        · exact z
        · exact absurd ⟨z.2, z.1⟩ h1
        · exact absurd ⟨z.2, z.1⟩ h2
      · exact h2
    · exact h1
  · intro h
    exact ⟨allB_iff.mpr (fun q hq => by rw [Bool.or_eq_true]; exact Or.inr (allB_iff.mp h q hq)), allB_iff.mpr (fun q hq => by rw [Bool.or_eq_true]; exact Or.inr (allB_iff.mp h q hq))⟩
