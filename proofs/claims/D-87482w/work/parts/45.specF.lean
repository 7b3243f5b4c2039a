/-! ===== engines' operations, specified ===== -/
abbrev IsE (e : Int32) (ς : Tw) : Prop := 0 ≤ e ∧ e < ς.1 5
abbrev IsX (e x : Int32) (ς : Tw) : Prop := 0 ≤ x ∧ x < ς.2.2.1 6 (ix e)
abbrev IsWh (e x w : Int32) (ς : Tw) : Prop := IsE e ς ∧ IsX e x ς ∧ (0 ≤ w ∧ w < ς.2.2.1 7 (ix e))
theorem le_p {n : Nat} (h1 : 1 ≤ n) (h : n < 2147483648) (x : Int32) : x ≤ nI (n - 1) ↔ x < nI n := by
  rw [Int32.le_iff_toInt_le, Int32.lt_iff_toInt_lt, nI_toInt h, nI_toInt (show n - 1 < 2147483648 by omega)]
  omega
/-- an engine that there is -/
theorem eng_of {ς : Tw} (hI : InvE ς) {e : Int32} (h : IsE e ς) : ∃ j, j < gE ς ∧ j < 4 ∧ e = nI j := by
  obtain ⟨h0, h1⟩ := h
  rw [hI.2.1] at h1
  obtain ⟨j, hj, rfl⟩ := in_of (by have := hI.1; omega) h0 h1
  exact ⟨j, hj, by have := hI.1; omega, rfl⟩
theorem axis_of {ς : Tw} {j : Nat} (hj : j < 4) (hO : EngOk ς j) {x : Int32} (h : IsX (nI j) x ς) : ∃ a, a < gA ς j ∧ x = nI a := by
  obtain ⟨h0, h1⟩ := h
  rw [ix_nI (by omega), hO.1.2.2] at h1
  exact in_of (by have := hO.1.2.1; omega) h0 h1
theorem wheel_of {ς : Tw} (hI : InvE ς) {e x w : Int32} (h : IsWh e x w ς) : ∃ j a i, j < gE ς ∧ j < 4 ∧ e = nI j ∧ a < gA ς j ∧ x = nI a ∧ i < gW ς j ∧ w = nI i := by
  obtain ⟨h1, h2, h3⟩ := h
  obtain ⟨j, hj, hj4, rfl⟩ := eng_of hI h1
  have hO := (hI.2.2.1 j hj).1
  obtain ⟨a, ha, rfl⟩ := axis_of hj4 hO h2
  rw [ix_nI (by omega), hO.2.1.2.2] at h3
  obtain ⟨i, hi, rfl⟩ := in_of (by have := hO.2.1.2.1; omega) h3.1 h3.2
  exact ⟨j, a, i, hj, hj4, rfl, ha, rfl, hi, rfl⟩
/-- g laid into f from a on, n places -/
def rngI (f : Nat → Int32) (a n : Nat) (g : Nat → Int32) : Nat → Int32 := fun k => if a ≤ k ∧ k < a + n then g (k - a) else f k
theorem rngI_0 (f : Nat → Int32) (a : Nat) (g : Nat → Int32) : rngI f a 0 g = f := by
  funext k; unfold rngI; rw [if_neg (by omega)]
theorem rngI_s (f : Nat → Int32) (a n : Nat) (g : Nat → Int32) : upd (rngI f a n g) (a + n) (g n) = rngI f a (n + 1) g := by
  funext k
  unfold upd
  by_cases h : k = a + n
  · subst h
    unfold rngI
    rw [if_pos rfl, if_pos (by omega), show a + n - a = n by omega]
  · rw [if_neg h]
    unfold rngI
    by_cases h2 : a ≤ k ∧ k < a + n
    · rw [if_pos h2, if_pos (by omega)]
    · rw [if_neg h2, if_neg (by omega)]
def rngL (f : Nat → Int64) (a n : Nat) (g : Nat → Int64) : Nat → Int64 := fun k => if a ≤ k ∧ k < a + n then g (k - a) else f k
theorem rngL_0 (f : Nat → Int64) (a : Nat) (g : Nat → Int64) : rngL f a 0 g = f := by
  funext k; unfold rngL; rw [if_neg (by omega)]
theorem rngL_s (f : Nat → Int64) (a n : Nat) (g : Nat → Int64) : vp_updL (rngL f a n g) (a + n) (g n) = rngL f a (n + 1) g := by
  funext k
  unfold vp_updL
  by_cases h : k = a + n
  · subst h
    unfold rngL
    rw [if_pos rfl, if_pos (by omega), show a + n - a = n by omega]
  · rw [if_neg h]
    unfold rngL
    by_cases h2 : a ≤ k ∧ k < a + n
    · rw [if_pos h2, if_pos (by omega)]
    · rw [if_neg h2, if_neg (by omega)]
abbrev spEng (a w : Int32) : Prop := (2 ≤ a ∧ a ≤ 7) ∧ (1 ≤ w ∧ w ≤ 12)
/-- the wheels told by a tray's numbers may be -/
def spWheels (t n : Nat) (ς : Tw) : Bool := allB (fun k => decide (2 ≤ ς.2.2.2 4 (60 * t + k) ∧ ς.2.2.2 4 (60 * t + k) ≤ 12)) n
def sp_engine (a w t : Int32) (ς : Tw) : Int32 × Tw :=
  if 0 < spT t ς then (-1, tI (b1 ς) 0 (spT t ς)) else if ¬ spEng a w then (-1, bE ς 5) else if ς.2.2.1 3 (ix t) < w then (-1, bE ς 4)
  else if ¬ spWheels (ix t) (ix w) ς = true then (-1, bE ς 5) else if ς.1 5 = 4 then (-1, bE ς 7)
  else (ς.1 5, tI (tA (tA (tA (b0 ς) 6 (upd (ς.2.2.1 6) (ix (ς.1 5)) a)) 7 (upd (ς.2.2.1 7) (ix (ς.1 5)) w)) 9 (rngI (ς.2.2.1 9) (12 * ix (ς.1 5)) (ix w) (fun k => (ς.2.2.2 4 (60 * ix t + k)).toInt32))) 5 (ς.1 5 + 1))
def sp_figure (e x w : Int32) (ς : Tw) : Int32 × Tw :=
  if IsWh e x w ς then (ς.2.2.1 10 (12 * (7 * ix e + ix x) + ix w), b0 ς) else (-1, bE ς 2)
def sp_put (e x w f : Int32) (ς : Tw) : Int32 × Tw :=
  if ¬ IsWh e x w ς then (0, bE ς 2) else if ¬ (0 ≤ f ∧ f < ς.2.2.1 9 (12 * ix e + ix w)) then (0, bE ς 5)
  else (1, tA (b0 ς) 10 (upd (ς.2.2.1 10) (12 * (7 * ix e + ix x) + ix w) f))
/-- the number on an axis -/
def spOn (e x : Nat) (ς : Tw) : Int64 := oaN (fun i => ς.2.2.1 9 (12 * e + i)) (fun i => ς.2.2.1 10 (12 * (7 * e + x) + i)) (gW ς e) (gW ς e)
def sp_number (e x : Int32) (ς : Tw) : Int64 × Tw :=
  if IsE e ς ∧ IsX e x ς then (spOn (ix e) (ix x) ς, b0 ς) else (-1, bE ς 2)
def sp_mishap (e t x w k : Int32) (ς : Tw) : Int32 × Tw :=
  if ¬ (IsWh e x w ς ∧ x ≠ ς.2.2.1 6 (ix e) - 1) then (0, bE ς 2) else if ¬ ((1 ≤ t ∧ t ≤ 1000) ∧ (0 ≤ k ∧ k ≤ 2)) then (0, bE ς 5) else if ς.2.2.1 12 (ix e) = 20 then (0, bE ς 7)
  else (1, tA (tA (tA (tA (tA (b0 ς) 13 (upd (ς.2.2.1 13) (20 * ix e + gM ς (ix e)) t)) 14 (upd (ς.2.2.1 14) (20 * ix e + gM ς (ix e)) x)) 15 (upd (ς.2.2.1 15) (20 * ix e + gM ς (ix e)) w)) 16 (upd (ς.2.2.1 16) (20 * ix e + gM ς (ix e)) k)) 12 (upd (ς.2.2.1 12) (ix e) (ς.2.2.1 12 (ix e) + 1)))
def sp_mend (e : Int32) (ς : Tw) : Int32 × Tw :=
  if ¬ IsE e ς then (0, bE ς 2) else (1, tA (b0 ς) 12 (upd (ς.2.2.1 12) (ix e) 0))
/-- k turns from the u-th on -/
def trnN (A W : Nat) (rd : Nat → Nat) (cnt : Nat → Nat → Nat → Nat → Nat) (u : Nat) (F : Mx) : Nat → Mx
  | 0 => F
  | k + 1 => turnN A W rd (cnt (u + k + 1)) (trnN A W rd cnt u F k)
theorem trnN_ok {A W : Nat} {rd : Nat → Nat} {cnt : Nat → Nat → Nat → Nat → Nat} {u : Nat} {F : Mx} (hW : 1 ≤ W) (hr : Rds W rd) (h : Bnd A W rd F) : ∀ k, Bnd A W rd (trnN A W rd cnt u F k)
  | 0 => h
  | k + 1 => turnN_ok hW hr (trnN_ok hW hr h k)
/-- an engine's figures after k turns -/
def spTrn (e k : Nat) (ς : Tw) : Mx := trnN (gA ς e) (gW ς e) (gR ς e) (fun t => mhN ς e (nI t) false) (gU ς e) (gF ς e) k
def sp_turn (e n : Int32) (ς : Tw) : Int32 × Tw :=
  if ¬ IsE e ς then (-1, bE ς 2) else if ¬ (1 ≤ n ∧ n ≤ 200) then (-1, bE ς 5) else if 1000 < ς.2.2.1 8 (ix e) + n then (-1, bE ς 9)
  else (ς.2.2.1 8 (ix e) + n, tA (tA (b0 ς) 8 (upd (ς.2.2.1 8) (ix e) (ς.2.2.1 8 (ix e) + n))) 10 (fgUp (ς.2.2.1 10) (ix e) (gA ς (ix e)) (gW ς (ix e)) (spTrn (ix e) (ix n) ς)))
theorem EngOk.F {ς : Tw} {e : Nat} (he : e < 4) (h : EngOk ς e) : EnF ς e (gA ς e) (gW ς e) (gM ς e) (gR ς e) :=
  ⟨he, h.1.2.1, h.1.1, h.2.1.1, h.2.1.2.1, h.1.2.2, h.2.1.2.2, h.2.2.2.1.1, h.2.2.2.1.2, fun i hi => ⟨(h.2.2.2.2.1 i hi).1, (h.2.2.2.2.1 i hi).2.1⟩, fun i hi => (h.2.2.2.2.1 i hi).2.2⟩
theorem EngOk.B {ς : Tw} {e : Nat} (h : EngOk ς e) : Bnd (gA ς e) (gW ς e) (gR ς e) (gF ς e) := fun a ha i hi => (h.2.2.2.2.2 a ha i hi).1
theorem EngOk.self {ς : Tw} {e : Nat} (h : EngOk ς e) : fgUp (ς.2.2.1 10) e (gA ς e) (gW ς e) (gF ς e) = ς.2.2.1 10 := fgUp_self (fun a ha i hi => (h.2.2.2.2.2 a ha i hi).2)
theorem tI_tI (τ : Tw) (k : Nat) (a b : Int32) : tI (tI τ k a) k b = tI τ k b := by
  have h : upd (upd τ.1 k a) k b = upd τ.1 k b := by funext j; unfold upd; split <;> rfl
  unfold tI; exact congrArg (·, τ.2) h
theorem tA_tA (τ : Tw) (k : Nat) (a b : Nat → Int32) : tA (tA τ k a) k b = tA τ k b := by
  have h : va_up (va_up τ.2.2.1 k a) k b = va_up τ.2.2.1 k b := by funext j; unfold va_up; split <;> rfl
  unfold tA; exact congrArg (fun z => (τ.1, τ.2.1, z, τ.2.2.2)) h
