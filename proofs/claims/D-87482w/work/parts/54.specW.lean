/-! ===== pouring, specified ===== -/
def sp_pour (t i u j m : Int32) (ς : Tw) : Int32 × Tw :=
  if (t < 0 ∨ 4 ≤ t) ∨ (u < 0 ∨ 4 ≤ u) then (0, bE ς 1) else if ς.2.2.1 3 (ix t) < 0 ∨ ς.2.2.1 3 (ix u) < 0 then (0, bE ς 3)
  else if ¬ ς.2.2.1 2 (ix t) = ς.2.2.1 2 (ix u) then (0, bE ς 11) else if m < 0 then (0, bE ς 6)
  else if (i < 0 ∨ j < 0) ∨ ((ς.2.2.1 3 (ix t)).toInt64 < i.toInt64 + m.toInt64 ∨ (ς.2.2.1 3 (ix u)).toInt64 < j.toInt64 + m.toInt64) then (0, bE ς 4)
  else (1, tB (b0 ς) 4 (rngL (ς.2.2.2 4) (60 * ix u + ix j) (ix m) (fun n => ς.2.2.2 4 (60 * ix t + ix i + n))))
theorem sum_le {x y : Int32} {n : Nat} (hn : n ≤ 60) (hx : ¬ x < 0) (hy : ¬ y < 0) (h : ¬ (nI n).toInt64 < x.toInt64 + y.toInt64) : ∃ a c, x = nI a ∧ y = nI c ∧ a + c ≤ n := by
  obtain ⟨a, ha, rfl⟩ := nI_of hx
  obtain ⟨c, hc, rfl⟩ := nI_of hy
  refine ⟨a, c, rfl, rfl, ?_⟩
  rw [Int64.lt_iff_toInt_lt, Int64.toInt_add, Int32.toInt_toInt64, Int32.toInt_toInt64, Int32.toInt_toInt64, nI_toInt ha, nI_toInt hc, nI_toInt (by omega), Int.bmod_eq_of_le (by omega) (by omega)] at h
  omega
theorem rngL_d (f : Nat → Int64) (s k : Nat) (g : Nat → Int64) : vp_updL (rngL f (s + 1) k (fun n => g (n + 1))) s (g 0) = rngL f s (k + 1) g := by
  funext q
  unfold vp_updL
  by_cases h : q = s
  · subst h
    unfold rngL
    rw [if_pos rfl, if_pos (by omega), Nat.sub_self]
  · rw [if_neg h]
    unfold rngL
    by_cases h2 : s + 1 ≤ q ∧ q < s + 1 + k
    · rw [if_pos h2, if_pos (by omega)]; exact congrArg g (by omega)
    · rw [if_neg h2, if_neg (by omega)]
theorem rngL_out {f : Nat → Int64} {s k q : Nat} {g : Nat → Int64} (h : ¬ (s ≤ q ∧ q < s + k)) : rngL f s k g q = f q := by
  unfold rngL; rw [if_neg h]
