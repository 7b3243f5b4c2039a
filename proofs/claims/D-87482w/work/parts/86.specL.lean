/-! ===== tokens ===== -/
/-- behind spaces, m bytes looked at -/
def skN (f : Nat → Int32) (n : Nat) : Nat → Nat → Nat
  | 0, p => p
  | m + 1, p => if p < n ∧ (lkN f n p = 10 ∨ lkN f n p = 32) then skN f n m (p + 1) else p
/-- a word from a on: its end, and it as a number -/
def wdN (f : Nat → Int32) (n a : Nat) : Nat → Nat → Int64 → Nat × Int64
  | 0, e, w => (e, w)
  | m + 1, e, w => if isLt (lkN f n e) then wdN f n a m (e + 1) (if e < a + 12 then w * 32 + (lkN f n e).toInt64 - 96 else -1) else (e, w)
/-- a number from a on -/
def nuN (f : Nat → Int32) (n a : Nat) : Nat → Nat → Int64 → Nat × Int64
  | 0, e, w => (e, w)
  | m + 1, e, w => if isDg (lkN f n e) then nuN f n a m (e + 1) (if e < a + 12 then 10 * w + (lkN f n e).toInt64 - 48 else w) else (e, w)
/-- a token: its sort (0 end, 1 word, 2 number, 3 sign, 4 bad), where it stands, its end, its value -/
abbrev Tok : Type := Nat × Nat × Nat × Int64
def tokA (f : Nat → Int32) (n a : Nat) : Tok :=
  if n ≤ a then (0, a, a, 0) else if isLt (lkN f n a) then (1, a, (wdN f n a 501 a 0).1, (wdN f n a 501 a 0).2)
  else if isDg (lkN f n a) then (if a + 12 < (nuN f n a 501 a 0).1 then 4 else 2, a, (nuN f n a 501 a 0).1, (nuN f n a 501 a 0).2)
  else (if lkN f n a = 59 ∨ lkN f n a = 45 then 3 else 4, a, a + 1, (lkN f n a).toInt64)
def tokN (f : Nat → Int32) (n p : Nat) : Tok := tokA f n (skN f n 501 p)
def TkOk (τ : Tw) (t : Tok) : Prop := τ.1 35 = nI t.1 ∧ τ.1 36 = nI t.2.1 ∧ τ.1 37 = nI t.2.2.1 ∧ (t.1 = 1 → τ.2.1 39 = t.2.2.2) ∧ (t.1 = 2 ∨ t.1 = 3 → τ.2.1 40 = t.2.2.2)
theorem skN_le {f : Nat → Int32} {n : Nat} : ∀ (m p : Nat), p ≤ n → p ≤ skN f n m p ∧ skN f n m p ≤ n
  | 0, p, h => ⟨Nat.le_refl _, h⟩
  | m + 1, p, h => by
    rw [skN]
    split
    · rename_i h2
      have := skN_le (f := f) (n := n) m (p + 1) (by omega)
      omega
    · exact ⟨Nat.le_refl _, h⟩
