/-! ===== errata, specified (2) ===== -/
def rgV (xs : Nat → Nat) (i x : Nat) : Int64 := ((corL (xs i)).2 x).toInt64
def rgM (xs : Nat → Nat) (i : Nat) : Nat := (corL (xs i)).1
theorem rgM_le (xs : Nat → Nat) (i : Nat) : rgM xs i ≤ 79 := by
  have := corN_len (xs i) 8 (Nat.le_refl _)
  exact this
def onP (n k : Nat) (b : Int32) (T : Nat → Int64) (xs : Nat → Nat) (i x : Nat) : Bool := smN n k b (vp_updL T i (rgV xs i x))
def twP (n k : Nat) (b : Int32) (T : Nat → Int64) (xs : Nat → Nat) (i j m : Nat) : Bool := smN n k b (vp_updL (vp_updL T i (rgV xs i (m / rgM xs j))) j (rgV xs j (m % rgM xs j)))
/-- the first correction of one value, of two, that does -/
def spOne (n k : Nat) (b : Int32) (T : Nat → Int64) (xs : Nat → Nat) (i : Nat) : Option Nat := if elN n k b T i i = true then fstN (onP n k b T xs i) (rgM xs i) 0 else none
def spTwo (n k : Nat) (b : Int32) (T : Nat → Int64) (xs : Nat → Nat) (i j : Nat) : Option Nat := if elN n k b T i j = true then fstN (twP n k b T xs i j) (rgM xs i * rgM xs j) 0 else none
theorem updL_updL (f : Nat → Int64) (k : Nat) (a b : Int64) : vp_updL (vp_updL f k a) k b = vp_updL f k b := by funext j; unfold vp_updL; split <;> rfl
theorem updL_id (f : Nat → Int64) (k : Nat) : vp_updL f k (f k) = f := by
  funext j; unfold vp_updL; split
  · rename_i h; subst h; rfl
  · rfl
theorem updL_at (f : Nat → Int64) (k : Nat) (a : Int64) : vp_updL f k a k = a := if_pos rfl
theorem updL_ne (f : Nat → Int64) {k j : Nat} (a : Int64) (h : j ≠ k) : vp_updL f k a j = f j := if_neg h
theorem tT70 (τ : Tw) (T w T' : Nat → Int64) : tB (tB (tB τ 70 T) 71 w) 70 T' = tB (tB τ 70 T') 71 w := by
  have h : va_up (va_up (va_up τ.2.2.2 70 T) 71 w) 70 T' = va_up (va_up τ.2.2.2 70 T') 71 w := by
    funext j
    by_cases h1 : j = 70
    · subst h1; rw [va_up_self, va_up_ne _ _ (by decide), va_up_self]
    · by_cases h2 : j = 71
      · subst h2; rw [va_up_ne _ _ (by decide), va_up_self, va_up_self]
      · rw [va_up_ne _ _ h1, va_up_ne _ _ h2, va_up_ne _ _ h1, va_up_ne _ _ h2, va_up_ne _ _ h1]
  unfold tB; exact congrArg (fun z => (τ.1, τ.2.1, τ.2.2.1, z)) h
/-- two corrections told -/
def rgS (τ : Tw) (i : Nat) (v : Int32) (j : Nat) (u : Int32) : Tw := tA (tA τ 75 (upd (upd (τ.2.2.1 75) 0 (nI i)) 1 (nI j))) 76 (upd (upd (τ.2.2.1 76) 0 v) 1 u)
theorem rgS_eq (τ : Tw) (i : Nat) (v : Int32) (j : Nat) (u : Int32) : tA (tA (tA (tA τ 75 (upd (τ.2.2.1 75) 0 (nI i))) 76 (upd (τ.2.2.1 76) 0 v)) 75 (upd (upd (τ.2.2.1 75) 0 (nI i)) 1 (nI j))) 76 (upd (upd (τ.2.2.1 76) 0 v) 1 u) = rgS τ i v j u := by
  have h : ∀ (F : Nat → Nat → Int32) (a b c d : Nat → Int32), va_up (va_up (va_up (va_up F 75 a) 76 b) 75 c) 76 d = va_up (va_up F 75 c) 76 d := by
    intro F a b c d
    funext q
    by_cases h1 : q = 76
    · subst h1; rw [va_up_self, va_up_self]
    · rw [va_up_ne _ _ h1, va_up_ne _ _ h1]
      by_cases h2 : q = 75
      · subst h2; rw [va_up_self, va_up_self]
      · rw [va_up_ne _ _ h2, va_up_ne _ _ h1, va_up_ne _ _ h2, va_up_ne _ _ h2]
  unfold rgS tA
  exact congrArg (fun z => (τ.1, τ.2.1, z, τ.2.2.2)) (h ..)
