/-! ===== differences, and an engine set, specified ===== -/
/-- one pass: each from j on less the one before it -/
def difP (j n : Nat) (v : Nat → Int64) : Nat → Int64 := fun i => if j ≤ i ∧ i < n then v i - v (i - 1) else v i
/-- k passes -/
def dfL (n : Nat) (v : Nat → Int64) : Nat → Nat → Int64
  | 0 => v
  | k + 1 => difP (k + 1) n (dfL n v k)
/-- a step to the front: from the last one down -/
def ahV (n : Nat) (v : Nat → Int64) : Nat → Int64
  | 0 => v (n - 1)
  | m + 1 => v (n - 1 - (m + 1)) - ahV n v m
def stP (lo n : Nat) (v : Nat → Int64) : Nat → Int64 := fun k => if lo ≤ k ∧ k < n then ahV n v (n - 1 - k) else v k
def bkT (n : Nat) (v : Nat → Int64) : Nat → Nat → Int64
  | 0 => v
  | s + 1 => stP (2 * (s + 1)) n (bkT n v s)
/-- the differences so that axes stand as half turns need them -/
def bkN (n : Nat) (v : Nat → Int64) : Nat → Int64 := bkT n (dfL n v (n - 1)) 3
theorem difP_cg {j n : Nat} {v w : Nat → Int64} (h : ∀ i, i < n → v i = w i) : ∀ i, i < n → difP j n v i = difP j n w i := by
  intro i hi
  unfold difP
  split
  · rw [h i hi, h (i - 1) (by omega)]
  · exact h i hi
theorem dfL_cg {n : Nat} {v w : Nat → Int64} (h : ∀ i, i < n → v i = w i) : ∀ k, ∀ i, i < n → dfL n v k i = dfL n w k i
  | 0 => h
  | k + 1 => difP_cg (dfL_cg h k)
theorem ahV_cg {n : Nat} {v w : Nat → Int64} (h : ∀ i, i < n → v i = w i) (hn : 0 < n) : ∀ m, ahV n v m = ahV n w m
  | 0 => h _ (by omega)
  | m + 1 => by rw [ahV, ahV, h _ (by omega), ahV_cg h hn m]
theorem stP_cg {lo n : Nat} {v w : Nat → Int64} (h : ∀ i, i < n → v i = w i) : ∀ i, i < n → stP lo n v i = stP lo n w i := by
  intro i hi
  unfold stP
  split
  · exact ahV_cg h (by omega) _
  · exact h i hi
theorem bkT_cg {n : Nat} {v w : Nat → Int64} (h : ∀ i, i < n → v i = w i) : ∀ s, ∀ i, i < n → bkT n v s i = bkT n w s i
  | 0 => h
  | s + 1 => stP_cg (bkT_cg h s)
theorem bkN_cg {n : Nat} {v w : Nat → Int64} (h : ∀ i, i < n → v i = w i) : ∀ i, i < n → bkN n v i = bkN n w i := bkT_cg (dfL_cg h _) 3
theorem stP_hi {lo n : Nat} {v : Nat → Int64} (h : n ≤ lo + 1) : stP lo n v = v := by
  funext k
  unfold stP
  split
  · rename_i h2
    have e : k = n - 1 := by omega
    subst e
    rw [Nat.sub_self]; rfl
  · rfl
theorem stP_s {i n : Nat} {v : Nat → Int64} (h : i + 1 < n) : vp_updL (stP (i + 1) n v) i (stP (i + 1) n v i - stP (i + 1) n v (i + 1)) = stP i n v := by
  have e1 : stP (i + 1) n v i = v i := by unfold stP; rw [if_neg (by omega)]
  have e2 : stP (i + 1) n v (i + 1) = ahV n v (n - 1 - (i + 1)) := by unfold stP; rw [if_pos (by omega)]
  rw [e1, e2]
  funext k
  unfold vp_updL
  by_cases hk : k = i
  · subst hk
    rw [if_pos rfl]
    unfold stP
    rw [if_pos (by omega), show n - 1 - k = (n - 1 - (k + 1)) + 1 by omega, ahV, show n - 1 - (n - 1 - (k + 1) + 1) = k by omega]
  · rw [if_neg hk]
    unfold stP
    by_cases h2 : i + 1 ≤ k ∧ k < n
    · rw [if_pos h2, if_pos (by omega)]
    · rw [if_neg h2, if_neg (by omega)]
/-- a pass under way: those above i done -/
def difQ (i n : Nat) (v : Nat → Int64) : Nat → Int64 := fun k => if i < k ∧ k < n then v k - v (k - 1) else v k
theorem difQ_0 {n : Nat} {v : Nat → Int64} : difQ (n - 1) n v = v := by
  funext k; unfold difQ; rw [if_neg (by omega)]
theorem difQ_e {j n : Nat} {v : Nat → Int64} : difQ j n v = difP (j + 1) n v := rfl
theorem difQ_s {i n : Nat} {v : Nat → Int64} (h : i + 1 < n) : vp_updL (difQ (i + 1) n v) (i + 1) (difQ (i + 1) n v (i + 1) - difQ (i + 1) n v i) = difQ i n v := by
  have e1 : difQ (i + 1) n v (i + 1) = v (i + 1) := by unfold difQ; rw [if_neg (by omega)]
  have e2 : difQ (i + 1) n v i = v i := by unfold difQ; rw [if_neg (by omega)]
  rw [e1, e2]
  funext k
  unfold vp_updL
  by_cases hk : k = i + 1
  · subst hk
    rw [if_pos rfl]
    unfold difQ
    rw [if_pos ⟨Nat.lt_succ_self i, h⟩]; rfl
  · rw [if_neg hk]
    unfold difQ
    by_cases h2 : i + 1 < k ∧ k < n
    · rw [if_pos h2, if_pos (by omega)]
    · rw [if_neg h2, if_neg (by omega)]
/-- a number's figures on wheels, and what is left of it -/
def dgV (rd : Nat → Nat) (v : Int64) : Nat → Int64
  | 0 => v
  | i + 1 => (dgV rd v i - ((fmL (dgV rd v i) (nI (rd i)).toInt64).toInt32).toInt64) / (nI (rd i)).toInt64
def dgF (rd : Nat → Nat) (v : Int64) (i : Nat) : Int32 := (fmL (dgV rd v i) (nI (rd i)).toInt64).toInt32
def setM (rd : Nat → Nat) (n : Nat) (v : Nat → Int64) : Mx := fun x i => ix (dgF rd (if x < n then bkN n v x else 0) i)
def spBil (t n : Nat) (ς : Tw) : Bool := allB (fun k => decide (-1000000000 ≤ ς.2.2.2 4 (60 * t + k) ∧ ς.2.2.2 4 (60 * t + k) ≤ 1000000000)) n
def sp_set (e t n : Int32) (ς : Tw) : Int32 × Tw :=
  if t < 0 ∨ 4 ≤ t then (0, bE ς 1) else if ¬ IsE e ς then (0, bE ς 2) else if ς.2.2.1 3 (ix t) < 0 then (0, bE ς 3)
  else if ¬ (1 ≤ n ∧ n ≤ ς.2.2.1 6 (ix e)) then (0, bE ς 5) else if ς.2.2.1 3 (ix t) < n then (0, bE ς 4) else if ¬ spBil (ix t) (ix n) ς = true then (0, bE ς 5)
  else (1, tA (tA (b0 ς) 10 (fgUp (ς.2.2.1 10) (ix e) (gA ς (ix e)) (gW ς (ix e)) (setM (gR ς (ix e)) (ix n) (fun k => ς.2.2.2 4 (60 * ix t + k))))) 8 (upd (ς.2.2.1 8) (ix e) 0))
theorem rL_toInt {r : Nat} (hr : r ≤ 12) : ((nI r).toInt64).toInt = r := by rw [Int32.toInt_toInt64, nI_toInt (by omega)]
theorem rL_ne {r : Nat} (h1 : 2 ≤ r) (hr : r ≤ 12) : ¬ (nI r).toInt64 = 0 := by
  intro h
  have h2 := congrArg Int64.toInt h
  rw [rL_toInt hr] at h2
  have h3 : (r : Int) = 0 := h2
  omega
theorem rmL_toInt {x : Int64} {r : Nat} (h1 : 1 ≤ r) (hr : r ≤ 12) : (x - x / (nI r).toInt64 * (nI r).toInt64).toInt = x.toInt.tmod r := by
  have e : (x - x / (nI r).toInt64 * (nI r).toInt64).toInt = (x.toInt - x.toInt.tdiv r * r).bmod (2 ^ 64) := by
    have hq : (((x.toInt.tdiv r).bmod (2 ^ 64)) * r).bmod (2 ^ 64) = (x.toInt.tdiv r * r).bmod (2 ^ 64) := Int.bmod_mul_bmod
    rw [Int64.toInt_sub, Int64.toInt_mul, Int64.toInt_div, rL_toInt hr, Int.sub_bmod_bmod, ← Int.sub_bmod_bmod, hq, Int.sub_bmod_bmod]
  rw [e]
  have h2 : x.toInt - x.toInt.tdiv r * r = x.toInt.tmod r := by
    have := Int.tmod_add_tdiv_mul x.toInt r
    omega
  rw [h2]
  have h3 := Int.tmod_lt_of_pos x.toInt (show (0 : Int) < r by omega)
  have h4 := Int.lt_tmod_of_pos x.toInt (show (0 : Int) < r by omega)
  exact Int.bmod_eq_of_le (by omega) (by omega)
theorem xor_neg (a b : Int64) : a ^^^ b < 0 ↔ ((a < 0) ≠ (b < 0)) := by
  have h0 : ∀ z : Int64, z < 0 ↔ z.toBitVec.msb = true := fun z => by
    rw [Int64.lt_iff_toBitVec_slt]
    show z.toBitVec.slt 0#64 = true ↔ _
    rw [BitVec.slt_zero_iff_msb_cond]
  have hx : (a ^^^ b).toBitVec = a.toBitVec ^^^ b.toBitVec := rfl
  rw [h0, h0 a, h0 b, hx, BitVec.msb_xor]
  cases a.toBitVec.msb <;> cases b.toBitVec.msb <;> simp
theorem fm_nat (x : Int64) {r : Nat} (h1 : 2 ≤ r) (hr : r ≤ 12) : ∃ f : Nat, f < r ∧ (fmL x (nI r).toInt64).toInt = f ∧ (fmL x (nI r).toInt64).toInt32 = nI f ∧ (f : Int) = x.toInt % (r : Int) := by
  have e0 := rmL_toInt (x := x) (show 1 ≤ r by omega) hr
  have e1 := Int.tmod_lt_of_pos x.toInt (show (0 : Int) < r by omega)
  have e2 := Int.lt_tmod_of_pos x.toInt (show (0 : Int) < r by omega)
  have e3 : (fmL x (nI r).toInt64).toInt = x.toInt % (r : Int) := by
    have hrp : ((nI r).toInt64).toInt = r := rL_toInt hr
    have hz : (x - x / (nI r).toInt64 * (nI r).toInt64 = 0) ↔ x.toInt.tmod r = 0 := by
      rw [← e0]
      exact ⟨fun z => by rw [z]; rfl, fun z => Int64.toInt.inj z⟩
    have hx : (x ^^^ (nI r).toInt64 < 0) ↔ x.toInt < 0 := by
      rw [xor_neg, Int64.lt_iff_toInt_lt, Int64.lt_iff_toInt_lt, hrp]
      have : ((0 : Int64)).toInt = 0 := rfl
      rw [this, show ((r : Int) < 0) = False from eq_false (by omega)]
      simp
    unfold fmL
    rw [Int.emod_eq_tmod]
    by_cases hn : x.toInt < 0
    · by_cases hm : x.toInt.tmod r = 0
      · rw [if_neg (fun z => z.2 (hz.mpr hm)), e0, if_pos (Or.inr (Int.dvd_of_tmod_eq_zero hm))]; omega
      · rw [if_pos ⟨hx.mpr hn, fun z => hm (hz.mp z)⟩, if_neg (fun z => z.elim (fun z => absurd z (by omega)) (fun z => hm (Int.tmod_eq_zero_of_dvd z))), Int64.toInt_add, e0, hrp]
        have h3 : 0 ≤ (-x.toInt).tmod r := Int.tmod_nonneg _ (by omega)
        rw [Int.neg_tmod] at h3
        rw [Int.bmod_eq_of_le (by omega) (by omega)]
        omega
    · rw [if_neg (fun z => hn (hx.mp z.1)), e0, if_pos (Or.inl (by omega))]; omega
  have hr0 := Int.emod_nonneg x.toInt (show (r : Int) ≠ 0 by omega)
  have hr1 := Int.emod_lt_of_pos x.toInt (show (0 : Int) < r by omega)
  refine ⟨(x.toInt % (r : Int)).toNat, by omega, by rw [e3]; omega, ?_, by omega⟩
  apply Int32.toInt.inj
  rw [Int64.toInt_toInt32, e3, nI_toInt (by omega), Int.toNat_of_nonneg hr0]
  exact Int.bmod_eq_of_le (by omega) (by omega)
