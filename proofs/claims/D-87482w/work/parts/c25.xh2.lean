/-! ===== the component: an engine set (1): how large the differences are ===== -/
def bdL (B : Nat) (v : Int64) : Prop := -(B : Int) ≤ v.toInt ∧ v.toInt ≤ B
theorem bdL.sub {A B : Nat} {a b : Int64} (ha : bdL A a) (hb : bdL B b) (h : A + B < 9223372036854775808) : bdL (A + B) (a - b) := by
  unfold bdL at ha hb ⊢
  rw [Int64.toInt_sub, Int.bmod_eq_of_le (by omega) (by omega)]
  omega
theorem bdL.le {A B : Nat} {a : Int64} (ha : bdL A a) (h : A ≤ B) : bdL B a := by
  unfold bdL at ha ⊢; omega
theorem bdL_0 {B : Nat} : bdL B 0 := by
  unfold bdL
  rw [show (0 : Int64).toInt = 0 from rfl]; omega
theorem difP_bd {j n B : Nat} {v : Nat → Int64} (h : ∀ i, i < n → bdL B (v i)) (hB : 2 * B < 9223372036854775808) : ∀ i, i < n → bdL (2 * B) (difP j n v i) := by
  intro i hi
  unfold difP
  split
  · have := (h i hi).sub (h (i - 1) (by omega)) (by omega)
    rw [show 2 * B = B + B by omega]; exact this
  · exact (h i hi).le (by omega)
theorem dfL_bd {n B : Nat} {v : Nat → Int64} (h : ∀ i, i < n → bdL B (v i)) : ∀ k, 2 ^ k * B < 9223372036854775808 → ∀ i, i < n → bdL (2 ^ k * B) (dfL n v k i)
  | 0, _ => by intro i hi; rw [Nat.pow_zero, Nat.one_mul]; exact h i hi
  | k + 1, hk => by
    have e : 2 ^ (k + 1) * B = 2 * (2 ^ k * B) := by rw [Nat.pow_succ, Nat.mul_comm (2 ^ k) 2, Nat.mul_assoc]
    rw [e] at hk ⊢
    exact difP_bd (dfL_bd h k (by omega)) hk
theorem dfL_bd6 {n B : Nat} {v : Nat → Int64} (h : ∀ i, i < n → bdL B (v i)) {k : Nat} (hk : k ≤ 6) (hB : 64 * B < 9223372036854775808) : ∀ i, i < n → bdL (64 * B) (dfL n v k i) := by
  have h1 : 2 ^ k * B ≤ 64 * B := Nat.mul_le_mul_right B (Nat.pow_le_pow_right (by decide) hk)
  exact fun i hi => (dfL_bd h k (by omega) i hi).le h1
theorem ahV_bd {n B : Nat} {v : Nat → Int64} (h : ∀ i, i < n → bdL B (v i)) (hB : 8 * B < 9223372036854775808) (hn : n ≤ 7) : ∀ m, m < n → bdL ((m + 1) * B) (ahV n v m)
  | 0, hm => by rw [Nat.zero_add, Nat.one_mul]; exact h _ (by omega)
  | m + 1, hm => by
    have h1 : (m + 1) * B ≤ 7 * B := Nat.mul_le_mul_right B (by omega)
    have e : (m + 1 + 1) * B = B + (m + 1) * B := by rw [Nat.succ_mul (m + 1), Nat.add_comm]
    rw [e, ahV]
    exact (h _ (by omega)).sub (ahV_bd h hB hn m (by omega)) (by omega)
theorem stP_bd {n B : Nat} {v : Nat → Int64} (h : ∀ i, i < n → bdL B (v i)) (hB : 8 * B < 9223372036854775808) (hn : n ≤ 7) : ∀ i, i < n → bdL (7 * B) (stP 0 n v i) := by
  intro i hi
  unfold stP
  rw [if_pos ⟨by omega, hi⟩]
  exact (ahV_bd h hB hn _ (by omega)).le (Nat.mul_le_mul_right B (by omega))
theorem bkN_bd {n : Nat} {v : Nat → Int64} (h : ∀ i, i < n → bdL 1000000000 (v i)) {a : Nat} (ha : a < n) (hn : n ≤ 7) : bdL 21952000000000 (bkN n v a) := by
  rw [bkN_st ha hn]
  have h1 := dfL_bd6 h (k := n - 1) (by omega) (by decide)
  have h2 := stP_bd h1 (by decide) hn
  have h3 := stP_bd h2 (by decide) hn
  have h4 := stP_bd h3 (by decide) hn
  rcases (show a / 2 = 0 ∨ a / 2 = 1 ∨ a / 2 = 2 ∨ a / 2 = 3 by omega) with e | e | e | e
  · rw [e]; exact (h1 a ha).le (by decide)
  · rw [e]; exact (h2 a ha).le (by decide)
  · rw [e]; exact (h3 a ha).le (by decide)
  · rw [e]; exact (h4 a ha).le (by decide)
theorem dgV_bd {W B : Nat} {rd : Nat → Nat} {v : Int64} (hr : Rds W rd) (hv : bdL B v) (hB : B ≤ 2305843009213693952) : ∀ k, k ≤ W → bdL B (dgV rd v k)
  | 0, _ => hv
  | k + 1, hk => by
    have ih := dgV_bd hr hv hB k (by omega)
    have hrk := hr k (by omega)
    obtain ⟨f, hf, -, e2, e3⟩ := fm_nat (dgV rd v k) hrk.1 hrk.2
    rw [dgV, e2]
    revert ih hf e2 e3
    generalize dgV rd v k = u
    revert hrk
    generalize rd k = r
    intro hrk ih hf e2 e3
    unfold bdL at ih ⊢
    have h1 : (u - (nI f).toInt64).toInt = u.toInt - f := by
      rw [Int64.toInt_sub, Int32.toInt_toInt64, nI_toInt (by omega)]
      exact Int.bmod_eq_of_le (by omega) (by omega)
    have h2 : (u.toInt - f).tdiv (r : Int) = u.toInt / (r : Int) := by
      have h3 := Int.mul_ediv_add_emod u.toInt (r : Int)
      rw [show u.toInt - f = (r : Int) * (u.toInt / (r : Int)) by omega]
      exact Int.mul_tdiv_cancel_left _ (by omega)
    rw [Int64.toInt_div, h1, rL_toInt hrk.2, h2]
    have h4 : -(B : Int) ≤ u.toInt / (r : Int) ∧ u.toInt / (r : Int) ≤ B := by
      obtain ⟨h5, h6⟩ := hrk
      rcases (show r = 2 ∨ r = 3 ∨ r = 4 ∨ r = 5 ∨ r = 6 ∨ r = 7 ∨ r = 8 ∨ r = 9 ∨ r = 10 ∨ r = 11 ∨ r = 12 by omega) with rfl | rfl | rfl | rfl | rfl | rfl | rfl | rfl | rfl | rfl | rfl <;> omega
    rw [Int.bmod_eq_of_le (by omega) (by omega)]
    exact h4
/-- what an axis is put to -/
def axV (n : Nat) (v : Nat → Int64) (a : Nat) : Int64 := if a < n then bkN n v a else 0
theorem axV_hb {n W : Nat} {v : Nat → Int64} {rd : Nat → Nat} (hr : Rds W rd) (hn : n ≤ 7) (h : ∀ i, i < n → bdL 1000000000 (v i)) (a : Nat) : ∀ k, k < W → -4611686018427387904 ≤ (dgV rd (axV n v a) k).toInt := by
  intro k hk
  have h0 : bdL 21952000000000 (axV n v a) := by
    unfold axV
    split
    · rename_i ha; exact bkN_bd h ha hn
    · exact bdL_0
  have h1 := dgV_bd hr h0 (by decide) k (by omega)
  unfold bdL at h1
  omega
theorem setM_ok {A W n : Nat} {rd : Nat → Nat} {v : Nat → Int64} (hr : Rds W rd) : Bnd A W rd (setM rd n v) := by
  intro a ha i hi
  obtain ⟨f, hf, -, e2, -⟩ := fm_nat (dgV rd (axV n v a) i) (hr i hi).1 (hr i hi).2
  have := (hr i hi).2
  show ix (fmL (dgV rd (axV n v a) i) (nI (rd i)).toInt64).toInt32 < rd i
  rw [e2, ix_nI (by omega)]; exact hf
theorem setM_at {W n a i : Nat} {rd : Nat → Nat} {v : Nat → Int64} (hr : Rds W rd) (hi : i < W) : dgF rd (axV n v a) i = nI (setM rd n v a i) := by
  obtain ⟨f, hf, -, e2, -⟩ := fm_nat (dgV rd (axV n v a) i) (hr i hi).1 (hr i hi).2
  have := (hr i hi).2
  show (fmL (dgV rd (axV n v a) i) (nI (rd i)).toInt64).toInt32 = nI (ix (fmL (dgV rd (axV n v a) i) (nI (rd i)).toInt64).toInt32)
  rw [e2, ix_nI (by omega)]
theorem bil_bd {t n : Nat} {ς : Tw} (h : spBil t n ς = true) : ∀ i, i < n → bdL 1000000000 (ς.2.2.2 4 (60 * t + i)) := fun i hi => by
  have h1 := of_decide_eq_true (allB_iff.mp h i hi)
  rw [Int64.le_iff_toInt_le, Int64.le_iff_toInt_le] at h1
  exact h1
theorem x_eshowsX {ξ : Xs} {mid dyn : List ACell} (hm : mid.length = 61) {b : Nat} {η : En} (hH : HlD dyn b (enB (117 + b) η)) {A W m : Nat} {rd : Nat → Nat} {x : Nat} {v : Int64} (hJ : EnJ η A W m rd) (hx : x < A) (hr : Rds W rd) (hb : ∀ k, k < W → -4611686018427387904 ≤ (dgV rd v k).toInt) :
    Ct yX5_shows (ws_ yX5_shows cX5_shows 7 none) 1 0 0 [.ref (117 + b), .int (nI x), .long v] (XM ξ mid dyn) (fun u M' => u = none ∧ ∃ η', M' = XM ξ mid (rpB dyn b (enB (117 + b) η')) ∧ Sme η' η ∧ (∀ i, i < W → η'.2.2.2.2.2.2.2 x i = dgF rd v i) ∧ ∀ a, ¬ a = x → η'.2.2.2.2.2.2.2 a = η.2.2.2.2.2.2.2 a) noX :=
  xh_ct hm hH (fun pre post hp hN _ => Ct.mono (x_eshows hJ hx hr hb) (fun u M h => by
    obtain ⟨h0, η', rfl, hS, h1, h2⟩ := h
    exact ⟨h0, η', hN η' hS.1, hS, h1, h2⟩) (fun _ _ _ h => h))
