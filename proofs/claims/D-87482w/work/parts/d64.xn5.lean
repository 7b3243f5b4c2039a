/-! ===== at the start both tell the same ===== -/
theorem Rel.init : Rel (fun _ => 0) x00 [] t40 := by
  have g0 : gE t40 = 0 := by decide
  have g1 : ix (t40.1 41) = 0 := by decide
  have hRI : ∀ q ∈ rlI, x00.1 q.1 = t40.1 q.2 := by decide +kernel
  refine ⟨hRI, ?_, ?_, ⟨Or.inl ⟨rfl, by decide⟩, Or.inl rfl⟩, ?_, ?_, ?_, ?_, ?_, ?_⟩
  · intro q hq
    simp only [rlA, List.mem_cons, List.not_mem_nil, or_false] at hq
    rcases hq with rfl | rfl | rfl | rfl | rfl | rfl | rfl | rfl | rfl | rfl <;> rfl
  · intro q hq
    simp only [rlB, List.mem_cons, List.not_mem_nil, or_false] at hq
    rcases hq with rfl | rfl <;> rfl
  · exact ⟨0, 0, 0, 0, fun _ => 1, ⟨by omega, rfl, by omega, rfl, by omega, rfl, rfl, rfl, rfl, fun p hp => absurd hp (Nat.not_lt_zero p), fun p hp => absurd hp (Nat.not_lt_zero p)⟩, fun p hp => absurd hp (Nat.not_lt_zero p)⟩
  · refine ⟨0, by omega, rfl, fun j hj => absurd hj (Nat.not_lt_zero j), fun j _ hj => ?_⟩
    rcases (show j = 0 ∨ j = 1 by omega) with rfl | rfl <;> rfl
  · intro t ht
    rcases (show t = 0 ∨ t = 1 ∨ t = 2 ∨ t = 3 by omega) with rfl | rfl | rfl | rfl <;> exact Or.inl ⟨rfl, rfl, rfl⟩
  · exact ⟨⟨by omega, by rw [g0]; rfl, fun e he => absurd he (by omega), fun e _ he => ⟨rfl, rfl, fun j _ _ => rfl⟩⟩, fun e he => absurd he (by omega)⟩
  · exact ⟨Or.inl rfl, 6, Or.inl rfl, rfl, rfl, fun k hk => absurd hk (by omega)⟩
  · refine ⟨fun t ht => ?_, ⟨0, by omega, rfl, fun j hj => absurd hj (Nat.not_lt_zero j)⟩, ⟨0, 0, by omega, rfl, by omega, rfl, Or.inl rfl⟩, ⟨0, by omega, rfl⟩, fun j => ⟨⟨0, by omega, rfl⟩, ⟨0, by omega, rfl⟩, 0, by omega, rfl⟩, fun _ => rfl⟩
    rcases (show t = 0 ∨ t = 1 ∨ t = 2 ∨ t = 3 by omega) with rfl | rfl | rfl | rfl <;> exact ⟨Or.inl rfl, 0, by omega, rfl⟩
