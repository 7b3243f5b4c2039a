/-! ===== finer tables, specified: as the twin computes them ===== -/
def unL (m : Nat) : Nat → Int64
  | 0 => 1
  | n + 1 => unL m n * ((nI m).toInt64 * (nI (n + 1)).toInt64)
/-- sum, product and bottom behind n parts -/
def atP (st : Nat → Int64) (k m i : Nat) : Nat → Int64 × Int64 × Int64
  | 0 => (0, 1, unL m k)
  | n + 1 => ((atP st k m i n).1 + st n * (atP st k m i n).2.1 * (atP st k m i n).2.2, (atP st k m i n).2.1 * ((nI i).toInt64 - (nI n).toInt64 * (nI m).toInt64), if n < k then (atP st k m i n).2.2 / ((nI m).toInt64 * (nI (n + 1)).toInt64) else (atP st k m i n).2.2)
def atN (st : Nat → Int64) (k m i : Nat) : Int64 := (atP st k m i (k + 1)).1
theorem mn_ne {m n : Nat} (h1 : 2 ≤ m) (h2 : m ≤ 20) (hn : n ≤ 10) : ¬ (nI m).toInt64 * (nI (n + 1)).toInt64 = 0 := by
  intro h
  have h3 := congrArg Int64.toInt h
  rw [Int64.toInt_mul, Int32.toInt_toInt64, Int32.toInt_toInt64, nI_toInt (by omega), nI_toInt (by omega)] at h3
  have h4 : (m : Int) * ((n + 1 : Nat) : Int) = ((m * (n + 1) : Nat) : Int) := by rw [Int.natCast_mul]
  have h5 : m * (n + 1) ≤ 20 * 11 := Nat.mul_le_mul h2 (by omega)
  have h6 : 1 ≤ m * (n + 1) := Nat.mul_pos (by omega) (by omega)
  rw [h4, Int.bmod_eq_of_le (by omega) (by omega)] at h3
  have h7 : ((m * (n + 1) : Nat) : Int) = 0 := h3
  omega
/-- a finer difference at its size -/
def fnV (u g : Int64) (x : Int64) : Int64 := fdL x u * g + nrL ((x - fdL x u * u) * g) u
/-- half a turn: each even place takes the next one; each odd one -/
def adO (k : Nat) (v : Nat → Int64) : Nat → Int64 := fun q => if q % 2 = 0 ∧ q + 1 ≤ k then v q + v (q + 1) else v q
def adE (k : Nat) (v : Nat → Int64) : Nat → Int64 := fun q => if q % 2 = 1 ∧ q + 1 ≤ k then v q + v (q + 1) else v q
def hfN (k : Nat) (v : Nat → Int64) : Nat → Nat → Int64
  | 0 => v
  | t + 1 => adE k (adO k (hfN k v t))
/-- a half turn under way: places below x done -/
def adQ (c x : Nat) (v : Nat → Int64) : Nat → Int64 := fun q => if q % 2 = c ∧ q + 1 < x then v q + v (q + 1) else v q
theorem adQ_s {c x : Nat} {v : Nat → Int64} (h : x % 2 = 1 - c) (hc : c ≤ 1) (hx : 1 ≤ x) : vp_updL (adQ c x v) (x - 1) (adQ c x v (x - 1) + adQ c x v x) = adQ c (x + 2) v := by
  have e1 : adQ c x v (x - 1) = v (x - 1) := by unfold adQ; rw [if_neg (by omega)]
  have e2 : adQ c x v x = v x := by unfold adQ; rw [if_neg (by omega)]
  rw [e1, e2]
  funext q
  unfold vp_updL
  by_cases hq : q = x - 1
  · subst hq
    unfold adQ
    rw [if_pos rfl, if_pos (by omega), show x - 1 + 1 = x by omega]
  · rw [if_neg hq]
    unfold adQ
    by_cases h2 : q % 2 = c ∧ q + 1 < x
    · rw [if_pos h2, if_pos (by omega)]
    · rw [if_neg h2, if_neg (by omega)]
theorem hfN_cg {k : Nat} {v w : Nat → Int64} (h : ∀ q, q ≤ k → v q = w q) : ∀ t, ∀ q, q ≤ k → hfN k v t q = hfN k w t q
  | 0 => h
  | t + 1 => by
    have ih := hfN_cg h t
    have h1 : ∀ q, q ≤ k → adO k (hfN k v t) q = adO k (hfN k w t) q := by
      intro q hq
      unfold adO
      by_cases e : q % 2 = 0 ∧ q + 1 ≤ k
      · rw [if_pos e, if_pos e, ih q hq, ih (q + 1) e.2]
      · rw [if_neg e, if_neg e, ih q hq]
    intro q hq
    rw [hfN, hfN]
    unfold adE
    by_cases e : q % 2 = 1 ∧ q + 1 ≤ k
    · rw [if_pos e, if_pos e, h1 q hq, h1 (q + 1) e.2]
    · rw [if_neg e, if_neg e, h1 q hq]
def enP (st : Nat → Int64) (k m : Nat) (u g : Int64) (v : Nat → Int64) (t : Nat) : Bool := decide (nrL (hfN k v t 0) g = nrL (atN st k m t) u)
/-- a finer table at a size shows all values rightly -/
def enN (st : Nat → Int64) (k m r : Nat) (u g : Int64) : Bool := allB (enP st k m u g (fun q => fnV u g (bkN (k + 1) (fun i => atN st k m i) q))) r
