/-! ===== errata, specified ===== -/
def smP (n k : Nat) (b : Int32) (T : Nat → Int64) (x : Nat) : Bool := decide (abL (dfL n T k x) ≤ b.toInt64)
/-- all differences of order k are within the bound, the first n - k of n values -/
def smN (n k : Nat) (b : Int32) (T : Nat → Int64) : Bool := allB (fun q => smP n k b T (k + q)) (n - k)
/-- a value is in a difference that stands at x -/
def inW (k x i : Nat) : Bool := decide (x - k ≤ i ∧ i ≤ x)
def elP (n k : Nat) (b : Int32) (T : Nat → Int64) (i j x : Nat) : Bool := smP n k b T x || (inW k x i || inW k x j)
/-- all differences without the values i, j are within the bound -/
def elN (n k : Nat) (b : Int32) (T : Nat → Int64) (i j : Nat) : Bool := allB (fun q => elP n k b T i j (k + q)) (n - k)
theorem smN_cg {n k : Nat} {b : Int32} {T U : Nat → Int64} (h : ∀ i, i < n → T i = U i) : smN n k b T = smN n k b U := by
  have e : ∀ m, m ≤ n - k → allB (fun q => smP n k b T (k + q)) m = allB (fun q => smP n k b U (k + q)) m := by
    intro m
    induction m with
    | zero => intro _; rw [allB, allB]
    | succ m ih => intro hm; rw [allB, allB, ih (by omega)]; unfold smP; rw [dfL_cg h k (k + m) (by omega)]
  exact e _ (Nat.le_refl _)
/-- numbers in order: how many, and they -/
abbrev LV : Type := Nat × (Nat → Int32)
/-- where a number belongs among the first m -/
def posV (f : Nat → Int32) (v : Int32) : Nat → Nat
  | 0 => 0
  | m + 1 => if v < f m then posV f v m else m + 1
theorem posV_le (f : Nat → Int32) (v : Int32) : ∀ m, posV f v m ≤ m
  | 0 => Nat.le_refl _
  | m + 1 => by
    have := posV_le f v m
    rw [posV]; split <;> omega
def insF (f : Nat → Int32) (p : Nat) (v : Int32) : Nat → Int32 := fun q => if q < p then f q else if q = p then v else f (q - 1)
/-- a number put among others, once -/
def insV (v : Int32) (l : LV) : LV := if 0 < posV l.2 v l.1 ∧ l.2 (posV l.2 v l.1 - 1) = v then l else (l.1 + 1, insF l.2 (posV l.2 v l.1) v)
/-- a value's corrections at the place worth p: f own figure, h the next higher one -/
def corF (v p f : Nat) : Nat → LV → LV
  | 0, l => l
  | g + 1, l => if g = f then corF v p f g l else insV (nI v + (nI g - nI f) * nI p) (corF v p f g l)
def corH (v p f h : Nat) (l : LV) : LV := if h = f then l else insV (nI v + (nI h - nI f) * nI p + (nI f - nI h) * nI p * 10) l
def pw (k : Nat) : Nat := 10 ^ (min k 7)
/-- all corrections, the first k places' -/
def corN (v : Nat) : Nat → LV
  | 0 => (0, fun _ => 0)
  | k + 1 => corH v (pw k) (v / pw k % 10) (if k < 7 then v / pw k / 10 % 10 else v / pw k % 10) (corF v (pw k) (v / pw k % 10) 10 (corN v k))
def corL (v : Nat) : LV := corN v 8
theorem insV_len (v : Int32) (l : LV) : (insV v l).1 ≤ l.1 + 1 := by
  unfold insV
  split
  · omega
  · exact Nat.le_refl _
theorem corF_len (v p : Nat) {f : Nat} (hf : f < 10) (l : LV) : ∀ x, x ≤ 10 → (corF v p f x l).1 ≤ l.1 + (if f < x then x - 1 else x)
  | 0, _ => by rw [corF]; omega
  | x + 1, hx => by
    have h1 := corF_len v p hf l x (by omega)
    rw [corF]
    by_cases e : x = f
    · subst e
      rw [if_pos rfl, if_pos (by omega)]
      rw [if_neg (by omega)] at h1
      omega
    · rw [if_neg e]
      have h2 := insV_len (nI v + (nI x - nI f) * nI p) (corF v p f x l)
      split at h1 <;> split <;> omega
theorem corH_len (v p f h : Nat) (l : LV) : (corH v p f h l).1 ≤ l.1 + (if h = f then 0 else 1) := by
  unfold corH
  split
  · omega
  · exact insV_len _ _
theorem corH_len1 (v p f h : Nat) (l : LV) : (corH v p f h l).1 ≤ l.1 + 1 := by
  unfold corH
  split
  · omega
  · exact insV_len _ _
theorem corN_len (v : Nat) : ∀ k, k ≤ 8 → (corN v k).1 ≤ 9 * k + min k 7
  | 0, _ => Nat.le_refl _
  | k + 1, hk => by
    have h1 := corN_len v k (by omega)
    have h2 := corF_len v (pw k) (Nat.mod_lt (v / pw k) (show 10 > 0 by decide)) (corN v k) 10 (Nat.le_refl _)
    rw [if_pos (Nat.mod_lt _ (by decide))] at h2
    have h3 := corH_len v (pw k) (v / pw k % 10) (if k < 7 then v / pw k / 10 % 10 else v / pw k % 10) (corF v (pw k) (v / pw k % 10) 10 (corN v k))
    rw [corN]
    by_cases e : k < 7
    · have h4 := corH_len1 v (pw k) (v / pw k % 10) (if k < 7 then v / pw k / 10 % 10 else v / pw k % 10) (corF v (pw k) (v / pw k % 10) 10 (corN v k))
      omega
    · rw [if_pos (show (if k < 7 then v / pw k / 10 % 10 else v / pw k % 10) = v / pw k % 10 from if_neg e)] at h3
      omega
theorem pw_le7 (k : Nat) : pw k ≤ 10000000 := Nat.le_trans (Nat.pow_le_pow_right (by decide) (Nat.min_le_right k 7)) (Nat.le_refl _)
theorem pw_pos7 (k : Nat) : 0 < pw k := Nat.pow_pos (by decide)
theorem pw_s {k : Nat} (h : k < 7) : pw (k + 1) = pw k * 10 := by
  unfold pw
  rw [Nat.min_eq_left (by omega), Nat.min_eq_left (by omega), Nat.pow_succ]
theorem pw_7 {k : Nat} (h : ¬ k < 7) : pw (k + 1) = pw k := by
  unfold pw
  rw [Nat.min_eq_right (by omega), Nat.min_eq_right (by omega)]
/-- a row of the variants is as it should be; what is elsewhere is as it was -/
def VO (i : Nat) (l : LV) (V : Nat → Int64) (C : Nat → Int32) : Prop := C i = nI l.1 ∧ ∀ q, q < l.1 → V (80 * i + q) = (l.2 q).toInt64
def VX (i : Nat) (V V' : Nat → Int64) (C C' : Nat → Int32) : Prop := (∀ z, ¬ (80 * i ≤ z ∧ z < 80 * i + 80) → V' z = V z) ∧ ∀ z, z ≠ i → C' z = C z
theorem VX.rf {i : Nat} {V : Nat → Int64} {C : Nat → Int32} : VX i V V C C := ⟨fun _ _ => rfl, fun _ _ => rfl⟩
theorem VX.trans {i : Nat} {V V' V2 : Nat → Int64} {C C' C2 : Nat → Int32} (h : VX i V V' C C') (g : VX i V' V2 C' C2) : VX i V V2 C C2 := ⟨fun z hz => (g.1 z hz).trans (h.1 z hz), fun z hz => (g.2 z hz).trans (h.2 z hz)⟩
theorem toI64_lt {x y : Int32} : x.toInt64 < y.toInt64 ↔ x < y := by
  rw [Int64.lt_iff_toInt_lt, Int32.toInt_toInt64, Int32.toInt_toInt64, Int32.lt_iff_toInt_lt]
theorem toI64_eq {x y : Int32} : x.toInt64 = y.toInt64 ↔ x = y := by
  constructor
  · intro h
    have h2 := congrArg Int64.toInt h
    rw [Int32.toInt_toInt64, Int32.toInt_toInt64] at h2
    exact Int32.toInt.inj h2
  · intro h; rw [h]
theorem posV_lt {f : Nat → Int32} {v : Int32} {q : Nat} (h : v < f q) : posV f v (q + 1) = posV f v q := by rw [posV, if_pos h]
theorem posV_ge {f : Nat → Int32} {v : Int32} {q : Nat} (h : ¬ v < f q) : posV f v (q + 1) = q + 1 := by rw [posV, if_neg h]
