/-! ===== errata, specified (3) ===== -/
def spXs (ς : Tw) (t : Nat) (q : Nat) : Nat := ix ((ς.2.2.2 4 (60 * t + q)).toInt32)
def spTb (ς : Tw) (t : Nat) (q : Nat) : Int64 := ς.2.2.2 4 (60 * t + q)
def spEight (t n : Nat) (ς : Tw) : Bool := allB (fun k => decide (0 ≤ ς.2.2.2 4 (60 * t + k) ∧ ς.2.2.2 4 (60 * t + k) ≤ 99999999)) n
/-- the first value that can be put right, the first two -/
def spFst1 (n k : Nat) (b : Int32) (T : Nat → Int64) (xs : Nat → Nat) : Option Nat := fstN (fun i => (spOne n k b T xs i).isSome) n 0
def spFst2 (n k : Nat) (b : Int32) (T : Nat → Int64) (xs : Nat → Nat) : Option Nat := fstN (fun q => decide (q / n < q % n) && (spTwo n k b T xs (q / n) (q % n)).isSome) (n * n) 0
/-- what was found is told -/
def cpF (ς : Tw) (m : Nat) : Tw := tA (tA (tI ς 74 (nI m)) 97 (upd (upd (ς.2.2.1 97) 0 (ς.2.2.1 75 0)) 1 (ς.2.2.1 75 1))) 98 (upd (upd (ς.2.2.1 98) 0 (ς.2.2.1 76 0)) 1 (ς.2.2.1 76 1))
abbrev spErr (n k b : Int32) : Prop := ((3 ≤ n ∧ n ≤ 20) ∧ (1 ≤ k ∧ k ≤ 4)) ∧ (k < n ∧ (0 ≤ b ∧ b ≤ 1000))
def spFind (n k : Nat) (b : Int32) (T : Nat → Int64) (xs : Nat → Nat) (ς : Tw) : Int32 × Tw :=
  if smN n k b T = true then (0, cpF (b0 ς) 0) else match spFst1 n k b T xs with
  | some i => (1, cpF (rgS (b0 ς) i ((corL (xs i)).2 ((spOne n k b T xs i).getD 0)) i ((corL (xs i)).2 ((spOne n k b T xs i).getD 0))) 1)
  | none => match spFst2 n k b T xs with
    | some q => (2, cpF (rgS (b0 ς) (q / n) ((corL (xs (q / n))).2 ((spTwo n k b T xs (q / n) (q % n)).getD 0 / rgM xs (q % n))) (q % n) ((corL (xs (q % n))).2 ((spTwo n k b T xs (q / n) (q % n)).getD 0 % rgM xs (q % n)))) 2)
    | none => (-1, bE ς 8)
def sp_errata (t n k b : Int32) (ς : Tw) : Int32 × Tw :=
  if 0 < spT t ς then (-1, tI (b1 ς) 0 (spT t ς)) else if ¬ spErr n k b then (-1, bE ς 5) else if ς.2.2.1 3 (ix t) < n then (-1, bE ς 4)
  else if ¬ spEight (ix t) (ix n) ς = true then (-1, bE ς 5) else spFind (ix n) (ix k) b (spTb ς (ix t)) (spXs ς (ix t)) ς
theorem smP_cg {n k : Nat} {b : Int32} {T U : Nat → Int64} (h : ∀ i, i < n → T i = U i) {x : Nat} (hx : x < n) : smP n k b T x = smP n k b U x := by
  unfold smP; rw [dfL_cg h k x hx]
theorem elN_cg {n k : Nat} {b : Int32} {T U : Nat → Int64} (h : ∀ i, i < n → T i = U i) (i j : Nat) : elN n k b T i j = elN n k b U i j := by
  have e : ∀ m, m ≤ n - k → allB (fun q => elP n k b T i j (k + q)) m = allB (fun q => elP n k b U i j (k + q)) m := by
    intro m
    induction m with
    | zero => intro _; rw [allB, allB]
    | succ m ih => intro hm; rw [allB, allB, ih (by omega)]; unfold elP; rw [smP_cg h (show k + m < n by omega)]
  exact e _ (Nat.le_refl _)
theorem updL_cg {n : Nat} {T U : Nat → Int64} (h : ∀ i, i < n → T i = U i) (j : Nat) (a : Int64) : ∀ i, i < n → vp_updL T j a i = vp_updL U j a i := by
  intro i hi
  unfold vp_updL
  split
  · rfl
  · exact h i hi
theorem spOne_cg {n k : Nat} {b : Int32} {T U : Nat → Int64} {xs : Nat → Nat} (h : ∀ i, i < n → T i = U i) (i : Nat) : spOne n k b T xs i = spOne n k b U xs i := by
  have e : onP n k b T xs i = onP n k b U xs i := by
    funext x; unfold onP; exact smN_cg (updL_cg h _ _)
  unfold spOne
  rw [elN_cg h, e]
theorem spTwo_cg {n k : Nat} {b : Int32} {T U : Nat → Int64} {xs : Nat → Nat} (h : ∀ i, i < n → T i = U i) (i j : Nat) : spTwo n k b T xs i j = spTwo n k b U xs i j := by
  have e : twP n k b T xs i j = twP n k b U xs i j := by
    funext x; unfold twP; exact smN_cg (updL_cg (updL_cg h _ _) _ _)
  unfold spTwo
  rw [elN_cg h, e]
theorem spFind_cg {n k : Nat} {b : Int32} {T U : Nat → Int64} {xs : Nat → Nat} (h : ∀ i, i < n → T i = U i) (ς : Tw) : spFind n k b T xs ς = spFind n k b U xs ς := by
  have e1 : spOne n k b T xs = spOne n k b U xs := funext (spOne_cg h)
  have e2 : spTwo n k b T xs = spTwo n k b U xs := by funext i j; exact spTwo_cg h i j
  unfold spFind spFst1 spFst2
  rw [smN_cg h, e1, e2]
