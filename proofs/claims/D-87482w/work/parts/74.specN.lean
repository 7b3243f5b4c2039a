/-! ===== the mill: a card done, the same for two states that are the same but for what fewest leaves ===== -/
abbrev S3 (τ ς : Tw) : Prop := Sx [] [] [67, 68, 69] [] τ ς
theorem S3.cr {τ ς : Tw} (h : S3 τ ς) (n : Int32) : S3 (spCr τ n) (spCr ς n) := by
  unfold spCr
  rw [h.1 63 (by simp)]
  exact h.II 63 _
theorem S3.X {τ ς : Tw} (h : S3 τ ς) (k : Nat) : spX τ k = spX ς k := by
  unfold spX; rw [h.2.2.2 58 (by simp), h.2.2.1 44 (by decide)]
theorem S3.Y {τ ς : Tw} (h : S3 τ ς) (k : Nat) : spY τ k = spY ς k := by
  unfold spY; rw [h.2.2.2 58 (by simp), h.2.2.1 45 (by decide)]
theorem S3.Is {τ ς : Tw} (h : S3 τ ς) (k : Nat) : spIs τ k = spIs ς k := by
  unfold spIs; rw [h.2.2.1 48 (by decide), h.1 61 (by simp)]
theorem S3.alm {τ ς : Tw} (h : S3 τ ς) (k : Nat) : spAlm τ k = spAlm ς k := by
  unfold spAlm; rw [h.X k, h.Y k, h.2.2.1 43 (by decide), h.1 62 (by simp)]
theorem S3.does {τ ς : Tw} (h : S3 τ ς) (k : Nat) : (spDoes τ k).1 = (spDoes ς k).1 ∧ S3 (spDoes τ k).2 (spDoes ς k).2 := by
  unfold spDoes
  rw [h.X k, h.Y k, h.Is k, h.2.2.1 43 (by decide), h.2.2.1 44 (by decide), h.2.2.1 47 (by decide), h.2.2.2 58 (by simp), h.2.2.2 59 (by simp), h.2.2.2 56 (by simp), h.1 62 (by simp)]
  by_cases h0 : ς.2.2.1 43 k = 0
  · rw [if_pos h0, if_pos h0]; exact ⟨rfl, S3.cr (Sx.BB h 58 _) 1⟩
  rw [if_neg h0, if_neg h0]
  by_cases h1 : ς.2.2.1 43 k = 1
  · rw [if_pos h1, if_pos h1]; exact ⟨rfl, S3.cr (Sx.cm h k _) 2⟩
  rw [if_neg h1, if_neg h1]
  by_cases h2 : ς.2.2.1 43 k = 2
  · rw [if_pos h2, if_pos h2]; exact ⟨rfl, S3.cr (Sx.cm h k _) 2⟩
  rw [if_neg h2, if_neg h2]
  by_cases h3 : ς.2.2.1 43 k = 3
  · rw [if_pos h3, if_pos h3]; exact ⟨rfl, Sx.cm (S3.cr h _) k _⟩
  rw [if_neg h3, if_neg h3]
  by_cases h4 : ς.2.2.1 43 k = 4
  · rw [if_pos h4, if_pos h4]; exact ⟨rfl, Sx.rs (Sx.cm (S3.cr h _) k _) _ _⟩
  rw [if_neg h4, if_neg h4]
  by_cases h5 : ς.2.2.1 43 k = 5
  · rw [if_pos h5, if_pos h5]; exact ⟨rfl, S3.cr (Sx.II (Sx.BB h 59 _) 62 _) 1⟩
  rw [if_neg h5, if_neg h5]
  by_cases h6 : ς.2.2.1 43 k = 6
  · rw [if_pos h6, if_pos h6]; exact ⟨rfl, S3.cr h _⟩
  rw [if_neg h6, if_neg h6]
  exact ⟨rfl, h⟩
/-- what a card leaves as it is -/
theorem spDoes_fr (ς : Tw) (k : Nat) : (spDoes ς k).2.2.2.1 = ς.2.2.1 ∧ (spDoes ς k).2.1 41 = ς.1 41 ∧ (spDoes ς k).2.1 64 = ς.1 64 ∧ (spDoes ς k).2.1 66 = ς.1 66 ∧ (spDoes ς k).2.2.2.2 56 = ς.2.2.2 56 ∧ ((spDoes ς k).2.1 62 = ς.1 62 ∨ (ς.2.2.1 43 k = 5 ∧ (spDoes ς k).2.1 62 = ς.1 62 + 1)) := by
  unfold spDoes
  by_cases h0 : ς.2.2.1 43 k = 0
  · rw [if_pos h0]; exact ⟨rfl, rfl, rfl, rfl, rfl, Or.inl rfl⟩
  rw [if_neg h0]
  by_cases h1 : ς.2.2.1 43 k = 1
  · rw [if_pos h1]; exact ⟨rfl, rfl, rfl, rfl, rfl, Or.inl rfl⟩
  rw [if_neg h1]
  by_cases h2 : ς.2.2.1 43 k = 2
  · rw [if_pos h2]; exact ⟨rfl, rfl, rfl, rfl, rfl, Or.inl rfl⟩
  rw [if_neg h2]
  by_cases h3 : ς.2.2.1 43 k = 3
  · rw [if_pos h3]; exact ⟨rfl, rfl, rfl, rfl, rfl, Or.inl rfl⟩
  rw [if_neg h3]
  by_cases h4 : ς.2.2.1 43 k = 4
  · rw [if_pos h4]; exact ⟨rfl, rfl, rfl, rfl, rfl, Or.inl rfl⟩
  rw [if_neg h4]
  by_cases h5 : ς.2.2.1 43 k = 5
  · rw [if_pos h5]; exact ⟨rfl, rfl, rfl, rfl, rfl, Or.inr ⟨h5, rfl⟩⟩
  rw [if_neg h5]
  by_cases h6 : ς.2.2.1 43 k = 6
  · rw [if_pos h6]; exact ⟨rfl, rfl, rfl, rfl, rfl, Or.inl rfl⟩
  rw [if_neg h6]
  exact ⟨rfl, rfl, rfl, rfl, rfl, Or.inl rfl⟩
/-- a card of n that may be -/
def CdOk (ς : Tw) (n k : Nat) : Prop := ∃ K a b c e, K ≤ 7 ∧ ς.2.2.1 43 k = nI K ∧ (ς.2.2.1 44 k = nI a ∧ a ≤ 40 ∧ (K < 6 → a < 20) ∧ (K = 6 → a ≤ k) ∧ (K = 7 → k + a ≤ n)) ∧ (ς.2.2.1 45 k = nI b ∧ b < 20) ∧ (ς.2.2.1 46 k = nI c ∧ c < 20) ∧ ς.2.2.1 47 k = nI e ∧ e < 20
def InvM (ς : Tw) : Prop := ς.1 41 = -1 ∨ ∃ n, n ≤ 40 ∧ ς.1 41 = nI n ∧ ∀ k, k < n → CdOk ς n k
theorem spDoes_k {ς : Tw} {n k : Nat} (hn : k < n) (hC : CdOk ς n k) : (spDoes ς k).1 ≤ n := by
  obtain ⟨K, a, b, c, e, h7, eK, ⟨ea, ha, ha1, ha2, ha3⟩, -⟩ := hC
  unfold spDoes
  rw [ea, ix_nI (by omega)]
  by_cases h0 : ς.2.2.1 43 k = 0
  · rw [if_pos h0]; exact hn
  rw [if_neg h0]
  by_cases h1 : ς.2.2.1 43 k = 1
  · rw [if_pos h1]; exact hn
  rw [if_neg h1]
  by_cases h2 : ς.2.2.1 43 k = 2
  · rw [if_pos h2]; exact hn
  rw [if_neg h2]
  by_cases h3 : ς.2.2.1 43 k = 3
  · rw [if_pos h3]; exact hn
  rw [if_neg h3]
  by_cases h4 : ς.2.2.1 43 k = 4
  · rw [if_pos h4]; exact hn
  rw [if_neg h4]
  by_cases h5 : ς.2.2.1 43 k = 5
  · rw [if_pos h5]; exact hn
  rw [if_neg h5]
  by_cases h6 : ς.2.2.1 43 k = 6
  · rw [if_pos h6]
    show (if spIs ς k = true then k - a else k + 1) ≤ n
    split <;> omega
  rw [if_neg h6]
  show (if spIs ς k = true then k + a else k + 1) ≤ n
  have e7 : K = 7 := by
    have hh : ∀ j, j < 8 → ¬ ς.2.2.1 43 k = nI j → K ≠ j := fun j _ hj hK => hj (by rw [eK, hK])
    have := hh 0 (by omega) h0
    have := hh 1 (by omega) h1
    have := hh 2 (by omega) h2
    have := hh 3 (by omega) h3
    have := hh 4 (by omega) h4
    have := hh 5 (by omega) h5
    have := hh 6 (by omega) h6
    omega
  have := ha3 e7
  split <;> omega
