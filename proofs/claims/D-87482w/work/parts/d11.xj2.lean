/-! ===== a finer table: the laws (2): how large the numbers are ===== -/
def lowN (m k : Nat) : Nat → Int64
  | 0 => unL m k
  | n + 1 => if n < k then lowN m k n / ((nI m).toInt64 * (nI (n + 1)).toInt64) else lowN m k n
def pdN (m i : Nat) : Nat → Int64
  | 0 => 1
  | n + 1 => pdN m i n * ((nI i).toInt64 - (nI n).toInt64 * (nI m).toInt64)
def eC (m k n j : Nat) : Int64 := bkN (k + 1) (fun i => pdN m i n * lowN m k n) j
def eCb (m k n j : Nat) : Bool := !(decide (2 ≤ m) && decide (n ≤ k) && decide (j ≤ k)) || (decide (-(unL m k) ≤ eC m k n j) && decide (eC m k n j ≤ unL m k))
theorem eC_all : allB (fun m => allB (fun k => allB (fun n => allB (fun j => eCb m k n j) 5) 5) 5) 21 = true := by decide +kernel
/-- the component's bottom of the parts from j on -/
def reL (m j : Nat) : Nat → Int64
  | 0 => 1
  | c + 1 => reL m j c * ((nI m).toInt64 * ((nI (j + c)).toInt64 + 1))
def LLn (n : Nat) : Nat := if n = 0 then 3840000 else if n = 1 then 192000 else if n = 2 then 4800 else if n = 3 then 80 else 1
def loB (m k n : Nat) : Bool := !(decide (2 ≤ m) && decide (n ≤ k)) || (decide (reL m n (k - n) = lowN m k n) && decide (0 < (lowN m k n).toInt) && decide ((lowN m k n).toInt ≤ LLn n) && decide (reL m 0 k = unL m k))
theorem loB_all : allB (fun m => allB (fun k => allB (fun n => loB m k n) 5) 5) 21 = true := by decide +kernel
theorem lo_of {m k n : Nat} (hm : 2 ≤ m ∧ m ≤ 20) (hk : k ≤ 4) (hn : n ≤ k) : reL m n (k - n) = lowN m k n ∧ 0 < (lowN m k n).toInt ∧ (lowN m k n).toInt ≤ LLn n ∧ reL m 0 k = unL m k := by
  have h := allB_iff.mp (allB_iff.mp (allB_iff.mp loB_all m (by omega)) k (by omega)) n (by omega)
  unfold loB at h
  rw [decide_eq_true hm.1, decide_eq_true hn] at h
  simp only [Bool.and_self, Bool.not_true, Bool.false_or, Bool.and_eq_true, decide_eq_true_eq] at h
  exact ⟨h.1.1.1, h.1.1.2, h.1.2, h.2⟩
theorem un_pos {m k : Nat} (hm : 2 ≤ m ∧ m ≤ 20) (hk : k ≤ 4) : 0 < (unL m k).toInt ∧ (unL m k).toInt ≤ 4000000 := by
  obtain ⟨-, h1, h2, -⟩ := lo_of (n := 0) hm hk (Nat.zero_le _)
  have h3 : ((LLn 0 : Nat) : Int) = 3840000 := rfl
  have h4 : lowN m k 0 = unL m k := rfl
  rw [h4] at h1 h2
  omega
theorem eC_bd {m k n j : Nat} (hm : 2 ≤ m ∧ m ≤ 20) (hk : k ≤ 4) (hn : n ≤ k) (hj : j ≤ k) : bdL (unL m k).toInt.toNat (eC m k n j) := by
  have h := allB_iff.mp (allB_iff.mp (allB_iff.mp (allB_iff.mp eC_all m (by omega)) k (by omega)) n (by omega)) j (by omega)
  unfold eCb at h
  rw [decide_eq_true hm.1, decide_eq_true hn, decide_eq_true hj] at h
  simp only [Bool.and_self, Bool.not_true, Bool.false_or, Bool.and_eq_true, decide_eq_true_eq] at h
  obtain ⟨h1, h2⟩ := h
  obtain ⟨p1, p2⟩ := un_pos hm hk
  rw [Int64.le_iff_toInt_le] at h1 h2
  rw [Int64.toInt_neg, Int.bmod_eq_of_le (by omega) (by omega)] at h1
  unfold bdL
  omega
theorem bdL.mul {A B : Nat} {a b : Int64} (ha : bdL A a) (hb : bdL B b) (h : A * B < 9223372036854775808) : bdL (A * B) (a * b) := by
  unfold bdL at ha hb ⊢
  have h1 : (a.toInt * b.toInt).natAbs ≤ A * B := by
    rw [Int.natAbs_mul]
    exact Nat.mul_le_mul (by omega) (by omega)
  rw [Int64.toInt_mul, Int.bmod_eq_of_le (by omega) (by omega)]
  omega
theorem bdL.add {A B : Nat} {a b : Int64} (ha : bdL A a) (hb : bdL B b) (h : A + B < 9223372036854775808) : bdL (A + B) (a + b) := by
  unfold bdL at ha hb ⊢
  rw [Int64.toInt_add, Int.bmod_eq_of_le (by omega) (by omega)]
  omega
def sumL (f : Nat → Int64) : Nat → Int64
  | 0 => 0
  | n + 1 => sumL f n + f n
def sumN (f : Nat → Nat) : Nat → Nat
  | 0 => 0
  | n + 1 => sumN f n + f n
theorem sumL_bd {f : Nat → Int64} {b : Nat → Nat} : ∀ c, (∀ n, n < c → bdL (b n) (f n)) → sumN b c < 9223372036854775808 → bdL (sumN b c) (sumL f c)
  | 0, _, _ => bdL_0
  | c + 1, h, ht => by
    rw [sumN] at ht
    exact (sumL_bd c (fun n hn => h n (by omega)) (by omega)).add (h c (by omega)) ht
theorem atP_2 (st : Nat → Int64) (k m i : Nat) : ∀ n, (atP st k m i n).2.1 = pdN m i n ∧ (atP st k m i n).2.2 = lowN m k n
  | 0 => ⟨rfl, rfl⟩
  | n + 1 => by
    obtain ⟨h1, h2⟩ := atP_2 st k m i n
    exact ⟨by rw [atP, pdN, h1], by rw [atP, lowN, h2]⟩
theorem atP_1 (st : Nat → Int64) (k m i : Nat) : ∀ n, (atP st k m i n).1 = sumL (fun n => st n * pdN m i n * lowN m k n) n
  | 0 => rfl
  | n + 1 => by
    obtain ⟨h1, h2⟩ := atP_2 st k m i n
    rw [atP, sumL, atP_1 st k m i n, h1, h2]
theorem sumL_cg {f g : Nat → Int64} : ∀ c, (∀ n, n < c → f n = g n) → sumL f c = sumL g c
  | 0, _ => rfl
  | c + 1, h => by rw [sumL, sumL, sumL_cg c (fun n hn => h n (by omega)), h c (by omega)]
theorem atN_sum (st : Nat → Int64) (k m i : Nat) : atN st k m i = sumL (fun n => st n * (pdN m i n * lowN m k n)) (k + 1) := by
  rw [atN, atP_1]
  exact sumL_cg _ (fun n _ => Int64.mul_assoc ..)
/-! sums and multiples go through the differences -/
theorem difP_add (j n : Nat) (a b : Nat → Int64) : difP j n (fun i => a i + b i) = fun i => difP j n a i + difP j n b i := by
  funext i
  unfold difP
  split
  · grind
  · rfl
theorem difP_mul (j n : Nat) (c : Int64) (a : Nat → Int64) : difP j n (fun i => c * a i) = fun i => c * difP j n a i := by
  funext i
  unfold difP
  split
  · grind
  · rfl
theorem dfL_add (n : Nat) (a b : Nat → Int64) : ∀ k, dfL n (fun i => a i + b i) k = fun i => dfL n a k i + dfL n b k i
  | 0 => rfl
  | k + 1 => by rw [dfL, dfL_add n a b k, difP_add]; rfl
theorem dfL_mul (n : Nat) (c : Int64) (a : Nat → Int64) : ∀ k, dfL n (fun i => c * a i) k = fun i => c * dfL n a k i
  | 0 => rfl
  | k + 1 => by rw [dfL, dfL_mul n c a k, difP_mul]; rfl
theorem ahV_add (n : Nat) (a b : Nat → Int64) : ∀ d, ahV n (fun i => a i + b i) d = ahV n a d + ahV n b d
  | 0 => rfl
  | d + 1 => by rw [ahV, ahV, ahV, ahV_add n a b d]; grind
theorem ahV_mul (n : Nat) (c : Int64) (a : Nat → Int64) : ∀ d, ahV n (fun i => c * a i) d = c * ahV n a d
  | 0 => rfl
  | d + 1 => by rw [ahV, ahV, ahV_mul n c a d]; grind
theorem stP_add (lo n : Nat) (a b : Nat → Int64) : stP lo n (fun i => a i + b i) = fun i => stP lo n a i + stP lo n b i := by
  funext i
  unfold stP
  split
  · exact ahV_add ..
  · rfl
theorem stP_mul (lo n : Nat) (c : Int64) (a : Nat → Int64) : stP lo n (fun i => c * a i) = fun i => c * stP lo n a i := by
  funext i
  unfold stP
  split
  · exact ahV_mul ..
  · rfl
theorem bkT_add (n : Nat) (a b : Nat → Int64) : ∀ s, bkT n (fun i => a i + b i) s = fun i => bkT n a s i + bkT n b s i
  | 0 => rfl
  | s + 1 => by rw [bkT, bkT_add n a b s, stP_add]; rfl
theorem bkT_mul (n : Nat) (c : Int64) (a : Nat → Int64) : ∀ s, bkT n (fun i => c * a i) s = fun i => c * bkT n a s i
  | 0 => rfl
  | s + 1 => by rw [bkT, bkT_mul n c a s, stP_mul]; rfl
theorem bkN_add (n : Nat) (a b : Nat → Int64) : bkN n (fun i => a i + b i) = fun i => bkN n a i + bkN n b i := by
  unfold bkN
  rw [dfL_add, bkT_add]
theorem bkN_mul (n : Nat) (c : Int64) (a : Nat → Int64) : bkN n (fun i => c * a i) = fun i => c * bkN n a i := by
  unfold bkN
  rw [dfL_mul, bkT_mul]
theorem bkN_sum (N : Nat) (s : Nat → Int64) (F : Nat → Nat → Int64) (j : Nat) : ∀ c, bkN N (fun i => sumL (fun n => s n * F n i) c) j = sumL (fun n => s n * bkN N (F n) j) c
  | 0 => by
    have h := congrFun (bkN_mul N 0 (fun _ => 0)) j
    rw [show (fun i : Nat => (0 : Int64) * (fun _ => 0) i) = fun _ => 0 from funext fun _ => Int64.zero_mul] at h
    exact h.trans Int64.zero_mul
  | c + 1 => by
    have h := congrFun (bkN_add N (fun i => sumL (fun n => s n * F n i) c) (fun i => s c * F c i)) j
    have h2 := congrFun (bkN_mul N (s c) (F c)) j
    rw [sumL, ← bkN_sum N s F j c, ← h2]
    exact h
/-- the differences of values within ten thousand -/
theorem dfL_lo {n i : Nat} {v : Nat → Int64} : ∀ d, dfL n v (i + d) i = dfL n v i i
  | 0 => rfl
  | d + 1 => by
    rw [show i + (d + 1) = (i + d) + 1 by omega, dfL]
    unfold difP
    rw [if_neg (by omega)]
    exact dfL_lo d
theorem st_bd {k : Nat} {v : Nat → Int64} (hk : k ≤ 4) (h : ∀ i, i < k + 1 → bdL 10000 (v i)) {n : Nat} (hn : n ≤ k) : bdL (2 ^ n * 10000) (dfL (k + 1) v k n) := by
  have h1 := dfL_lo (n := k + 1) (v := v) (i := n) (k - n)
  rw [show n + (k - n) = k by omega] at h1
  rw [h1]
  have h2 : 2 ^ n ≤ 2 ^ 4 := Nat.pow_le_pow_right (by decide) (by omega)
  exact dfL_bd h n (by omega) n (by omega)
theorem pow_sum {k U : Nat} (hk : k ≤ 4) : sumN (fun n => 2 ^ n * 10000 * U) (k + 1) ≤ 310000 * U := by
  rcases (show k = 0 ∨ k = 1 ∨ k = 2 ∨ k = 3 ∨ k = 4 by omega) with rfl | rfl | rfl | rfl | rfl <;> (simp only [sumN]; omega)
/-- a finer difference's size -/
theorem ex_bd {k m : Nat} {v : Nat → Int64} (hm : 2 ≤ m ∧ m ≤ 20) (hk : k ≤ 4) (h : ∀ i, i < k + 1 → bdL 10000 (v i)) {j : Nat} (hj : j ≤ k) : bdL (310000 * (unL m k).toInt.toNat) (bkN (k + 1) (fun i => atN (dfL (k + 1) v k) k m i) j) := by
  obtain ⟨p1, p2⟩ := un_pos hm hk
  have e : bkN (k + 1) (fun i => atN (dfL (k + 1) v k) k m i) j = sumL (fun n => dfL (k + 1) v k n * eC m k n j) (k + 1) := by
    rw [show (fun i => atN (dfL (k + 1) v k) k m i) = fun i => sumL (fun n => dfL (k + 1) v k n * (pdN m i n * lowN m k n)) (k + 1) from funext fun i => atN_sum _ _ _ _]
    exact bkN_sum (k + 1) (dfL (k + 1) v k) (fun n i => pdN m i n * lowN m k n) j (k + 1)
  rw [e]
  have hs := pow_sum (U := (unL m k).toInt.toNat) hk
  refine (sumL_bd (b := fun n => 2 ^ n * 10000 * (unL m k).toInt.toNat) (k + 1) (fun n hn => ?_) (by omega)).le hs
  have h2 : 2 ^ n ≤ 2 ^ 4 := Nat.pow_le_pow_right (by decide) (by omega)
  exact (st_bd hk h (by omega)).mul (eC_bd hm hk (by omega) hj) (Nat.lt_of_le_of_lt (Nat.mul_le_mul (show 2 ^ n * 10000 ≤ 160000 by omega) (show (unL m k).toInt.toNat ≤ 4000000 by omega)) (by decide))
theorem pd_bd {m i : Nat} (hm : 2 ≤ m ∧ m ≤ 20) (hi : i < 60) : ∀ n, n ≤ 4 → bdL (60 ^ n) (pdN m i n)
  | 0, _ => by
    rw [pdN]; unfold bdL
    rw [show (1 : Int64).toInt = 1 from rfl]; omega
  | n + 1, hn => by
    have ih := pd_bd hm hi n (by omega)
    have h1 : 60 ^ n ≤ 60 ^ 3 := Nat.pow_le_pow_right (by decide) (by omega)
    have h2 : bdL 60 ((nI i).toInt64 - (nI n).toInt64 * (nI m).toInt64) := by
      unfold bdL
      have h3 : ((nI n).toInt64 * (nI m).toInt64).toInt = ((n * m : Nat) : Int) := by
        have h4 : n * m ≤ 3 * 20 := Nat.mul_le_mul (by omega) hm.2
        rw [Int64.toInt_mul, Int32.toInt_toInt64, Int32.toInt_toInt64, nI_toInt (by omega), nI_toInt (by omega), ← Int.natCast_mul, Int.bmod_eq_of_le (by omega) (by omega)]
      have h4 : n * m ≤ 3 * 20 := Nat.mul_le_mul (by omega) hm.2
      rw [Int64.toInt_sub, h3, Int32.toInt_toInt64, nI_toInt (by omega), Int.bmod_eq_of_le (by omega) (by omega)]
      omega
    rw [pdN, Nat.pow_succ]
    exact ih.mul h2 (by omega)
/-- a value's size -/
theorem at_bd {k m i : Nat} {v : Nat → Int64} (hm : 2 ≤ m ∧ m ≤ 20) (hk : k ≤ 4) (h : ∀ i, i < k + 1 → bdL 10000 (v i)) (hi : i < 60) : bdL 5000000000000 (atN (dfL (k + 1) v k) k m i) := by
  rw [atN_sum]
  have hs : sumN (fun n => 2 ^ n * 10000 * (60 ^ n * LLn n)) (k + 1) ≤ 5000000000000 := by
    rcases (show k = 0 ∨ k = 1 ∨ k = 2 ∨ k = 3 ∨ k = 4 by omega) with rfl | rfl | rfl | rfl | rfl <;> decide
  refine (sumL_bd (b := fun n => 2 ^ n * 10000 * (60 ^ n * LLn n)) (k + 1) (fun n hn => ?_) (by omega)).le hs
  obtain ⟨-, q1, q2, -⟩ := lo_of (n := n) hm hk (by omega)
  have h3 : bdL (LLn n) (lowN m k n) := by unfold bdL; omega
  have hp := pd_bd (i := i) hm hi n (by omega)
  rcases (show n = 0 ∨ n = 1 ∨ n = 2 ∨ n = 3 ∨ n = 4 by omega) with rfl | rfl | rfl | rfl | rfl
  all_goals exact (st_bd hk h (by omega)).mul (hp.mul h3 (by decide)) (by decide)
/-- a finer difference at its size: how large -/
theorem fn_bd {x u g : Int64} (hu : 0 < u.toInt) (hu2 : u.toInt ≤ 4000000) (hg : 0 < g.toInt) (hg2 : g.toInt ≤ 1000000) (hx : bdL (310000 * u.toInt.toNat) x) : bdL 310001000000 (fnV u g x) := by
  obtain ⟨a1, a2, a3, a4, a5, a6⟩ := rd_rest (x := x) hu hu2 hg hg2
  obtain ⟨e1, e2⟩ := fdm_toInt (x := x) hu
  unfold bdL at hx
  rw [← rd_fn hu hu2 hg hg2]
  have q1 : -310000 ≤ x.toInt / u.toInt := Int.le_ediv_of_mul_le hu (by omega)
  have q2 : x.toInt / u.toInt < 310001 := Int.ediv_lt_of_lt_mul hu (by omega)
  have g1 : (fdL x u * g).toInt = x.toInt / u.toInt * g.toInt ∧ -310000000000 ≤ x.toInt / u.toInt * g.toInt ∧ x.toInt / u.toInt * g.toInt ≤ 310000000000 := by
    have h1 : (x.toInt / u.toInt * g.toInt).natAbs ≤ 310000 * 1000000 := by
      rw [Int.natAbs_mul]; exact Nat.mul_le_mul (by omega) (by omega)
    refine ⟨?_, by omega, by omega⟩
    rw [Int64.toInt_mul, e1, Int.bmod_eq_of_le (by omega) (by omega)]
  have r1 := Int.emod_lt_of_pos x.toInt hu
  have m1 : x.toInt % u.toInt * g.toInt ≤ (u.toInt - 1) * g.toInt := Int.mul_le_mul_of_nonneg_right (by omega) (by omega)
  rw [Int.sub_mul, Int.one_mul] at m1
  have p1 : (2 * (x.toInt % u.toInt * g.toInt) + u.toInt) / (2 * u.toInt) < g.toInt + 1 := Int.ediv_lt_of_lt_mul (by omega) (by
    have h9 : (g.toInt + 1) * (2 * u.toInt) = 2 * (u.toInt * g.toInt) + 2 * u.toInt := by
      rw [Int.add_mul, Int.one_mul, Int.mul_left_comm, Int.mul_comm g.toInt]
    omega)
  have p0 : 0 ≤ (2 * (x.toInt % u.toInt * g.toInt) + u.toInt) / (2 * u.toInt) := Int.ediv_nonneg (by omega) (by omega)
  unfold rdL bdL
  rw [Int64.toInt_add, a1, g1.1, Int.bmod_eq_of_le (by omega) (by omega)]
  omega
/-! half turns of all five -/
theorem adO_ext {k : Nat} {w u : Nat → Int64} (hk : k ≤ 4) (h : ∀ q, q ≤ 4 → w q = if q ≤ k then u q else 0) : ∀ q, q ≤ 4 → adO 4 w q = if q ≤ k then adO k u q else 0 := by
  intro q hq
  unfold adO
  by_cases e : q % 2 = 0 ∧ q + 1 ≤ 4
  · rw [if_pos e, h q hq, h (q + 1) e.2]
    by_cases e1 : q ≤ k
    · by_cases e2 : q + 1 ≤ k
      · rw [if_pos e1, if_pos e2, if_pos e1, if_pos ⟨e.1, e2⟩]
      · rw [if_pos e1, if_neg e2, if_pos e1, if_neg (fun z => e2 z.2), Int64.add_zero]
    · rw [if_neg e1, if_neg (by omega), if_neg e1]; rfl
  · rw [if_neg e, h q hq]
    by_cases e1 : q ≤ k
    · rw [if_pos e1, if_pos e1, if_neg (by omega)]
    · rw [if_neg e1, if_neg e1]
theorem adE_ext {k : Nat} {w u : Nat → Int64} (hk : k ≤ 4) (h : ∀ q, q ≤ 4 → w q = if q ≤ k then u q else 0) : ∀ q, q ≤ 4 → adE 4 w q = if q ≤ k then adE k u q else 0 := by
  intro q hq
  unfold adE
  by_cases e : q % 2 = 1 ∧ q + 1 ≤ 4
  · rw [if_pos e, h q hq, h (q + 1) e.2]
    by_cases e1 : q ≤ k
    · by_cases e2 : q + 1 ≤ k
      · rw [if_pos e1, if_pos e2, if_pos e1, if_pos ⟨e.1, e2⟩]
      · rw [if_pos e1, if_neg e2, if_pos e1, if_neg (fun z => e2 z.2), Int64.add_zero]
    · rw [if_neg e1, if_neg (by omega), if_neg e1]; rfl
  · rw [if_neg e, h q hq]
    by_cases e1 : q ≤ k
    · rw [if_pos e1, if_pos e1, if_neg (by omega)]
    · rw [if_neg e1, if_neg e1]
theorem hfN_ext {k : Nat} {w u : Nat → Int64} (hk : k ≤ 4) (h : ∀ q, q ≤ 4 → w q = if q ≤ k then u q else 0) : ∀ t q, q ≤ 4 → hfN 4 w t q = if q ≤ k then hfN k u t q else 0
  | 0 => h
  | t + 1 => adE_ext hk (adO_ext hk (hfN_ext hk h t))
theorem hf_bd {w : Nat → Int64} (h : ∀ q, q ≤ 4 → bdL 310001000000 (w q)) : ∀ t, t ≤ 59 → bdL 310001000000 (hfN 4 w t 4) ∧ bdL (310001000000 * (1 + t)) (hfN 4 w t 3) ∧ bdL (310001000000 * (1 + 60 * t)) (hfN 4 w t 2) ∧ bdL (310001000000 * (1 + 3541 * t)) (hfN 4 w t 1) ∧ bdL (310001000000 * (1 + 208920 * t)) (hfN 4 w t 0)
  | 0, _ => ⟨h 4 (by decide), (h 3 (by decide)).le (by decide), (h 2 (by decide)).le (by decide), (h 1 (by decide)).le (by decide), (h 0 (by decide)).le (by decide)⟩
  | t + 1, ht => by
    obtain ⟨h4, h3, h2, h1, h0⟩ := hf_bd h t (by omega)
    have e0 : hfN 4 w (t + 1) 0 = hfN 4 w t 0 + hfN 4 w t 1 := rfl
    have e1 : hfN 4 w (t + 1) 1 = hfN 4 w t 1 + (hfN 4 w t 2 + hfN 4 w t 3) := rfl
    have e2 : hfN 4 w (t + 1) 2 = hfN 4 w t 2 + hfN 4 w t 3 := rfl
    have e3 : hfN 4 w (t + 1) 3 = hfN 4 w t 3 + hfN 4 w t 4 := rfl
    have e4 : hfN 4 w (t + 1) 4 = hfN 4 w t 4 := rfl
    rw [e0, e1, e2, e3, e4]
    have g2 := h2.add h3 (by omega)
    exact ⟨h4, (h3.add h4 (by omega)).le (by omega), g2.le (by omega), (h1.add g2 (by omega)).le (by omega), (h0.add h1 (by omega)).le (by omega)⟩
/-- what is told in line t is the same by both ways -/
theorem en_line {k m t : Nat} {v w : Nat → Int64} {g : Int64} (hm : 2 ≤ m ∧ m ≤ 20) (hk : k ≤ 4) (h : ∀ i, i < k + 1 → bdL 10000 (v i)) (hg : 0 < g.toInt) (hg2 : g.toInt ≤ 1000000) (ht : t < 60)
    (hw : ∀ q, q ≤ 4 → w q = if q ≤ k then fnV (unL m k) g (bkN (k + 1) (fun i => atN (dfL (k + 1) v k) k m i) q) else 0) :
    (rdL (hfN 4 w t 0) g 1 = rdL (atN (dfL (k + 1) v k) k m t) (unL m k) 1) ↔ enP (dfL (k + 1) v k) k m (unL m k) g (fun q => fnV (unL m k) g (bkN (k + 1) (fun i => atN (dfL (k + 1) v k) k m i) q)) t = true := by
  obtain ⟨p1, p2⟩ := un_pos hm hk
  have hb : ∀ q, q ≤ 4 → bdL 310001000000 (w q) := by
    intro q hq
    rw [hw q hq]
    split
    · rename_i e; exact fn_bd p1 p2 hg hg2 (ex_bd hm hk h e)
    · exact bdL_0
  have b0 := (hf_bd hb t (by omega)).2.2.2.2
  have b1 := at_bd (i := t) hm hk h ht
  unfold bdL at b0 b1
  rw [rd_nr hg (by omega) (by omega) (by omega), rd_nr p1 p2 (by omega) (by omega), hfN_ext hk hw t 0 (by decide), if_pos (Nat.zero_le _)]
  unfold enP
  rw [decide_eq_true_eq]
