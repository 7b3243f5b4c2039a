/-! ===== the component: states that are the same but for some fields ===== -/
def Sy (I A B : Nat → Bool) (ξ' ξ : Xs) : Prop := (∀ k, I k = false → ξ'.1 k = ξ.1 k) ∧ (∀ k, A k = false → ξ'.2.2.1 k = ξ.2.2.1 k) ∧ (∀ k, B k = false → ξ'.2.2.2.1 k = ξ.2.2.2.1 k) ∧ ξ'.2.2.2.2 = ξ.2.2.2.2
section
variable {i a b i' a' b' : Nat → Bool} {ξ ξ1 ξ2 : Xs}
theorem Sy.rf : Sy i a b ξ ξ := ⟨fun _ _ => rfl, fun _ _ => rfl, fun _ _ => rfl, rfl⟩
theorem Sy.trans (h : Sy i a b ξ ξ1) (g : Sy i a b ξ1 ξ2) : Sy i a b ξ ξ2 := ⟨fun k hk => (h.1 k hk).trans (g.1 k hk), fun k hk => (h.2.1 k hk).trans (g.2.1 k hk), fun k hk => (h.2.2.1 k hk).trans (g.2.2.1 k hk), h.2.2.2.trans g.2.2.2⟩
theorem Sy.mono (h : Sy i a b ξ ξ1) (h1 : ∀ k, i k = true → i' k = true) (h2 : ∀ k, a k = true → a' k = true) (h3 : ∀ k, b k = true → b' k = true) : Sy i' a' b' ξ ξ1 := by
  refine ⟨fun k hk => h.1 k ?_, fun k hk => h.2.1 k ?_, fun k hk => h.2.2.1 k ?_, h.2.2.2⟩
  · cases e : i k with
    | false => rfl
    | true => rw [h1 k e] at hk; cases hk
  · cases e : a k with
    | false => rfl
    | true => rw [h2 k e] at hk; cases hk
  · cases e : b k with
    | false => rfl
    | true => rw [h3 k e] at hk; cases hk
theorem Sy.I (h : Sy i a b ξ ξ1) {k : Nat} (v : Int32) (hk : i k = true) : Sy i a b (xI ξ k v) ξ1 := by
  refine ⟨fun j hj => ?_, h.2⟩
  show upd ξ.1 k v j = _
  have e : ¬ j = k := fun e => by rw [e, hk] at hj; cases hj
  rw [pk_un e]; exact h.1 j hj
theorem Sy.L (h : Sy i a b ξ ξ1) (k : Nat) (v : Int64) : Sy i a b (xL ξ k v) ξ1 := h
theorem Sy.A (h : Sy i a b ξ ξ1) {k : Nat} (f : Nat → Int32) (hk : a k = true) : Sy i a b (xA ξ k f) ξ1 := by
  refine ⟨h.1, fun j hj => ?_, h.2.2⟩
  show va_up ξ.2.2.1 k f j = _
  have e : ¬ j = k := fun e => by rw [e, hk] at hj; cases hj
  rw [va_up_ne _ _ e]; exact h.2.1 j hj
theorem Sy.B (h : Sy i a b ξ ξ1) {k : Nat} (f : Nat → Int64) (hk : b k = true) : Sy i a b (xB ξ k f) ξ1 := by
  refine ⟨h.1, h.2.1, fun j hj => ?_, h.2.2.2⟩
  show va_up ξ.2.2.2.1 k f j = _
  have e : ¬ j = k := fun e => by rw [e, hk] at hj; cases hj
  rw [va_up_ne _ _ e]; exact h.2.2.1 j hj
end
def nB : Nat → Bool := fun _ => false
def sI : Nat → Bool := fun k => [35, 36, 37, 56, 102, 103, 104, 105, 206, 207].contains k
def sA : Nat → Bool := fun k => [27, 28, 32, 52, 53, 54].contains k || decide (400 ≤ k)
def sB : Nat → Bool := fun k => [11, 15, 16, 17, 30].contains k
/-- what lasts is the same -/
theorem Rel.sq {own : Nat → Nat} {ξ ξ1 : Xs} {dyn : List ACell} {τ : Tw} (h : Rel own ξ dyn τ) (hS : Sy sI sA sB ξ1 ξ) : Rel own ξ1 dyn τ := by
  obtain ⟨hI, hA, hB, hW, hP, hR, hT, hE, hC, hV⟩ := h
  obtain ⟨s1, s2, s3, s4⟩ := hS
  have kI : ∀ q ∈ rlI, sI q.1 = false := by decide
  have kA : ∀ q ∈ rlA, sA q.1 = false := by decide
  have kB : ∀ q ∈ rlB, sB q.1 = false := by decide
  refine ⟨fun q hq => (s1 _ (kI q hq)).trans (hI q hq), fun q hq => (s2 _ (kA q hq)).trans (hA q hq), fun q hq => (s3 _ (kB q hq)).trans (hB q hq), ?_, ?_, ?_, ?_, ?_, ?_, hV⟩
  · unfold RW RW0; rw [s1 13 (by decide), s1 23 (by decide), s2 12 (by decide)]; exact hW
  · unfold RP; rw [s2 41 (by decide)]; exact hP
  · unfold RR; rw [s2 33 (by decide), s2 34 (by decide)]; exact hR
  · unfold RT; rw [s4]; exact hT
  · unfold RE; rw [s4]; exact hE
  · unfold RC; rw [s4]; exact hC
