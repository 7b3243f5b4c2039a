/-! ===== what the parts of the relation rest on ===== -/
section
variable {own : Nat → Nat} {ξ : Xs} {dyn : List ACell} {τ τ' : Tw}
theorem RW0.cg (h : RW0 ξ τ) (h1 : ∀ k ∈ [22, 23, 24, 25], τ'.1 k = τ.1 k) : RW0 ξ τ' := by
  unfold RW0
  rw [h1 22 (by decide), h1 23 (by decide), h1 24 (by decide), h1 25 (by decide)]
  exact h
theorem RW.cg (h : RW ξ τ) (h1 : ∀ k ∈ [22, 23, 24, 25, 60, 65], τ'.1 k = τ.1 k) : RW ξ τ' := by
  unfold RW RW0
  rw [h1 22 (by decide), h1 23 (by decide), h1 24 (by decide), h1 25 (by decide), h1 60 (by decide), h1 65 (by decide)]
  exact h
theorem RP.cg (h : RP ξ τ) (h1 : ∀ k ∈ [78, 79, 80, 81], τ'.1 k = τ.1 k) (h2 : ∀ k ∈ [85, 86], τ'.2.2.1 k = τ.2.2.1 k) : RP ξ τ' := by
  unfold RP
  rw [h1 78 (by decide), h1 79 (by decide), h1 80 (by decide), h1 81 (by decide), h2 85 (by decide), h2 86 (by decide)]
  exact h
theorem RR.cg (h : RR ξ τ) (h1 : τ'.1 74 = τ.1 74) (h2 : ∀ k ∈ [97, 98], τ'.2.2.1 k = τ.2.2.1 k) : RR ξ τ' := by
  unfold RR
  rw [h1, h2 97 (by decide), h2 98 (by decide)]
  exact h
theorem RT.cg (h : RT own ξ dyn τ) (h2 : ∀ k ∈ [2, 3], τ'.2.2.1 k = τ.2.2.1 k) (h3 : τ'.2.2.2 4 = τ.2.2.2 4) : RT own ξ dyn τ' := by
  unfold RT
  rw [h2 2 (by decide), h2 3 (by decide), h3]
  exact h
theorem EngOk.cgR {e : Nat} (h : EngOk τ e) (h2 : ∀ k ∈ [6, 7, 8, 9, 10, 12, 13, 14, 15, 16], τ'.2.2.1 k = τ.2.2.1 k) : EngOk τ' e := by
  unfold EngOk gA gW gU gM gR gF
  rw [h2 6 (by decide), h2 7 (by decide), h2 8 (by decide), h2 9 (by decide), h2 10 (by decide), h2 12 (by decide)]
  exact h
theorem MisOk.cgR {e : Nat} (h : MisOk τ e) (h2 : ∀ k ∈ [6, 7, 8, 9, 10, 12, 13, 14, 15, 16], τ'.2.2.1 k = τ.2.2.1 k) : MisOk τ' e := by
  unfold MisOk gA gW gM
  rw [h2 6 (by decide), h2 7 (by decide), h2 12 (by decide), h2 13 (by decide), h2 14 (by decide), h2 15 (by decide), h2 16 (by decide)]
  exact h
theorem InvE.cg (h : InvE τ) (h1 : τ'.1 5 = τ.1 5) (h2 : ∀ k ∈ [6, 7, 8, 9, 10, 12, 13, 14, 15, 16], τ'.2.2.1 k = τ.2.2.1 k) : InvE τ' := by
  obtain ⟨g1, g2, g3, g4⟩ := h
  have e1 : gE τ' = gE τ := by unfold gE; rw [h1]
  refine ⟨by rw [e1]; exact g1, by rw [h1, e1]; exact g2, fun e he => ?_, fun e he1 he2 => ?_⟩
  · rw [e1] at he
    exact ⟨(g3 e he).1.cgR h2, (g3 e he).2.cgR h2⟩
  · rw [e1] at he1
    rw [h2 8 (by decide), h2 12 (by decide), h2 10 (by decide)]
    exact g4 e he1 he2
theorem EnR.cg {η : En} {e : Nat} (h : EnR η τ e) (h2 : ∀ k ∈ [6, 7, 8, 9, 10, 12, 13, 14, 15, 16], τ'.2.2.1 k = τ.2.2.1 k) : EnR η τ' e := by
  unfold EnR gA gW gM
  rw [h2 6 (by decide), h2 7 (by decide), h2 8 (by decide), h2 9 (by decide), h2 10 (by decide), h2 12 (by decide), h2 13 (by decide), h2 14 (by decide), h2 15 (by decide), h2 16 (by decide)]
  exact h
theorem RE.cg (h : RE own ξ dyn τ) (h1 : τ'.1 5 = τ.1 5) (h2 : ∀ k ∈ [6, 7, 8, 9, 10, 12, 13, 14, 15, 16], τ'.2.2.1 k = τ.2.2.1 k) : RE own ξ dyn τ' := by
  obtain ⟨g1, g2⟩ := h
  have e1 : gE τ' = gE τ := by unfold gE; rw [h1]
  refine ⟨g1.cg h1 h2, fun e he => ?_⟩
  rw [e1] at he
  obtain ⟨b, η, k1, k2, k3, k4⟩ := g2 e he
  exact ⟨b, η, k1, k2, k3, k4.cg h2⟩
theorem CdOk.cg2 {n k : Nat} (h : CdOk τ n k) (h2 : ∀ k ∈ [43, 44, 45, 46, 47, 48], τ'.2.2.1 k = τ.2.2.1 k) : CdOk τ' n k :=
  h.cg (h2 43 (by decide)) (h2 44 (by decide)) (h2 45 (by decide)) (h2 46 (by decide)) (h2 47 (by decide))
theorem CdR.cg {K w : Int32} {at_ : Nat → Int32} {v : Int64} {k : Nat} (h : CdR K at_ v w τ k) (h2 : ∀ k ∈ [43, 44, 45, 46, 47, 48], τ'.2.2.1 k = τ.2.2.1 k) (h3 : τ'.2.2.2 56 = τ.2.2.2 56) : CdR K at_ v w τ' k := by
  unfold CdR
  rw [h2 43 (by decide), h2 44 (by decide), h2 45 (by decide), h2 46 (by decide), h2 47 (by decide), h2 48 (by decide), h3]
  exact h
theorem InvM.cg (h : InvM τ) (h1 : τ'.1 41 = τ.1 41) (h2 : ∀ k ∈ [43, 44, 45, 46, 47, 48], τ'.2.2.1 k = τ.2.2.1 k) : InvM τ' := by
  rcases h with h | ⟨n, g1, g2, g3⟩
  · exact Or.inl (h1.trans h)
  · exact Or.inr ⟨n, g1, h1.trans g2, fun k hk => (g3 k hk).cg2 h2⟩
theorem RC.cg (h : RC own ξ dyn τ) (h1 : τ'.1 41 = τ.1 41) (h2 : ∀ k ∈ [43, 44, 45, 46, 47, 48], τ'.2.2.1 k = τ.2.2.1 k) (h3 : τ'.2.2.2 56 = τ.2.2.2 56) : RC own ξ dyn τ' := by
  obtain ⟨g1, p, g2, g3, g4, g5⟩ := h
  refine ⟨g1.cg h1 h2, p, g2, g3, g4, fun k hk => ?_⟩
  rw [h1] at hk
  obtain ⟨b, K, at_, v, w, q, k1, k2, k3, k4, k5⟩ := g5 k hk
  exact ⟨b, K, at_, v, w, q, k1, k2, k3, k4, k5.cg h2 h3⟩
theorem InvT.cg (h : InvT τ) (h2 : ∀ k ∈ [2, 3], τ'.2.2.1 k = τ.2.2.1 k) : InvT τ' := by
  unfold InvT
  rw [h2 2 (by decide), h2 3 (by decide)]
  exact h
theorem InvJ.cg (h : InvJ τ) (h1 : τ'.1 82 = τ.1 82) (h2 : ∀ k ∈ [90, 91, 92], τ'.2.2.1 k = τ.2.2.1 k) : InvJ τ' := by
  unfold InvJ
  rw [h1, h2 90 (by decide), h2 91 (by decide), h2 92 (by decide)]
  exact h
theorem InvR.cg (h : InvR τ) (h1 : ∀ k ∈ [60, 62, 74], τ'.1 k = τ.1 k) : InvR τ' := by
  unfold InvR
  rw [h1 60 (by decide), h1 62 (by decide), h1 74 (by decide)]
  exact h
theorem InvF.cg (h : InvF τ) (h1 : τ'.1 29 = τ.1 29) : InvF τ' := by
  unfold InvF
  rw [h1]
  exact h
/-- the relation, for a state that is the same in what lasts -/
theorem Rel.tq (h : Rel own ξ dyn τ) (hq : Tq τ' τ) : Rel own ξ dyn τ' := by
  obtain ⟨hI, hA, hB, hW, hP, hR, hT, hE, hC, hVT, hVJ, hVR, hVF, hVN, hV0⟩ := h
  obtain ⟨q1, q2, q3⟩ := hq
  have kI : ∀ q ∈ rlI, q.2 ∈ pI := by decide
  have kA : ∀ q ∈ rlA, q.2 ∈ pA := by decide
  have kB : ∀ q ∈ rlB, q.2 ∈ pB := by decide
  have s1 : ∀ (L : List Nat), (∀ k ∈ L, k ∈ pI) → ∀ k ∈ L, τ'.1 k = τ.1 k := fun L hL k hk => q1 k (hL k hk)
  have s2 : ∀ (L : List Nat), (∀ k ∈ L, k ∈ pA) → ∀ k ∈ L, τ'.2.2.1 k = τ.2.2.1 k := fun L hL k hk => q2 k (hL k hk)
  exact ⟨fun q hq => (hI q hq).trans (q1 _ (kI q hq)).symm, fun q hq => (hA q hq).trans (q2 _ (kA q hq)).symm, fun q hq => (hB q hq).trans (q3 _ (kB q hq)).symm,
    hW.cg (s1 _ (by decide)), hP.cg (s1 _ (by decide)) (s2 _ (by decide)), hR.cg (q1 74 (by decide)) (s2 _ (by decide)), hT.cg (s2 _ (by decide)) (q3 4 (by decide)), hE.cg (q1 5 (by decide)) (s2 _ (by decide)),
    hC.cg (q1 41 (by decide)) (s2 _ (by decide)) (q3 56 (by decide)), hVT.cg (s2 _ (by decide)), hVJ.cg (q1 82 (by decide)) (s2 _ (by decide)), hVR.cg (s1 _ (by decide)), hVF.cg (q1 29 (by decide)),
    hVN.cg (q2 51 (by decide)) (q2 52 (by decide)) (q2 53 (by decide)), fun h => (q1 62 (by decide)).trans (hV0 ((q1 60 (by decide)).symm.trans h))⟩
end
/-! the mill: what a run leaves as it is -/
def mT (j : Nat) : Prop := 61 ≤ j ∧ j ≤ 66
theorem spDoes_fr2 (ς : Tw) (k : Nat) : (∀ j, ¬ mT j → (spDoes ς k).2.1 j = ς.1 j) ∧ ∀ j, ¬ (j = 58 ∨ j = 59) → (spDoes ς k).2.2.2.2 j = ς.2.2.2 j := by
  have a1 : ∀ (i : Nat → Int32) (v : Int32) (m : Nat), mT m → ∀ j, ¬ mT j → upd i m v j = i j := fun i v m hm j hj => pk_un (fun e => hj (e ▸ hm))
  have b1 : ∀ (i : Nat → Nat → Int64) (v : Nat → Int64) (m : Nat), (m = 58 ∨ m = 59) → ∀ j, ¬ (j = 58 ∨ j = 59) → va_up i m v j = i j := fun i v m hm j hj => va_up_ne _ _ (fun e => hj (e ▸ hm))
  have cr : ∀ (Z : Tw) (n : Int32), (∀ j, ¬ mT j → (spCr Z n).1 j = Z.1 j) ∧ ∀ j, ¬ (j = 58 ∨ j = 59) → (spCr Z n).2.2.2 j = Z.2.2.2 j := fun Z n => ⟨a1 _ _ 63 ⟨by omega, by omega⟩, fun _ _ => rfl⟩
  have cm : ∀ (Z : Tw) (v : Int64), (∀ j, ¬ mT j → (spComes Z k v).1 j = Z.1 j) ∧ ∀ j, ¬ (j = 58 ∨ j = 59) → (spComes Z k v).2.2.2 j = Z.2.2.2 j := fun Z v => ⟨a1 _ _ 61 ⟨by omega, by omega⟩, b1 _ _ 58 (Or.inl rfl)⟩
  have tr : ∀ {Z Y W : Tw}, ((∀ j, ¬ mT j → Z.1 j = Y.1 j) ∧ ∀ j, ¬ (j = 58 ∨ j = 59) → Z.2.2.2 j = Y.2.2.2 j) → ((∀ j, ¬ mT j → Y.1 j = W.1 j) ∧ ∀ j, ¬ (j = 58 ∨ j = 59) → Y.2.2.2 j = W.2.2.2 j) → ((∀ j, ¬ mT j → Z.1 j = W.1 j) ∧ ∀ j, ¬ (j = 58 ∨ j = 59) → Z.2.2.2 j = W.2.2.2 j) :=
    fun h g => ⟨fun j hj => (h.1 j hj).trans (g.1 j hj), fun j hj => (h.2 j hj).trans (g.2 j hj)⟩
  unfold spDoes
  by_cases h0 : ς.2.2.1 43 k = 0
  · rw [if_pos h0]; exact tr (cr _ _) ⟨fun _ _ => rfl, b1 _ _ 58 (Or.inl rfl)⟩
  rw [if_neg h0]
  by_cases h1 : ς.2.2.1 43 k = 1
  · rw [if_pos h1]; exact tr (cr _ _) (cm _ _)
  rw [if_neg h1]
  by_cases h2 : ς.2.2.1 43 k = 2
  · rw [if_pos h2]; exact tr (cr _ _) (cm _ _)
  rw [if_neg h2]
  by_cases h3 : ς.2.2.1 43 k = 3
  · rw [if_pos h3]; exact tr (cm _ _) (cr _ _)
  rw [if_neg h3]
  by_cases h4 : ς.2.2.1 43 k = 4
  · rw [if_pos h4]; exact tr (Y := spComes (spCr ς (3 + spFew (abL (spX ς k / spY ς k)))) k (spX ς k / spY ς k)) ⟨fun _ _ => rfl, b1 _ _ 58 (Or.inl rfl)⟩ (tr (cm _ _) (cr _ _))
  rw [if_neg h4]
  by_cases h5 : ς.2.2.1 43 k = 5
  · rw [if_pos h5]; exact tr (cr _ _) ⟨a1 _ _ 62 ⟨by omega, by omega⟩, b1 _ _ 59 (Or.inr rfl)⟩
  rw [if_neg h5]
  by_cases h6 : ς.2.2.1 43 k = 6
  · rw [if_pos h6]; exact cr _ _
  rw [if_neg h6]
  exact ⟨fun _ _ => rfl, fun _ _ => rfl⟩
theorem runN_fr : ∀ (n k : Nat) (ς : Tw), (runN n k ς).2.2.1 = ς.2.2.1 ∧ (∀ j, ¬ mT j → (runN n k ς).1 j = ς.1 j) ∧ ∀ j, ¬ (j = 58 ∨ j = 59) → (runN n k ς).2.2.2 j = ς.2.2.2 j
  | 0, _, _ => ⟨rfl, fun _ _ => rfl, fun _ _ => rfl⟩
  | n + 1, k, ς => by
    have a1 : ∀ (i : Nat → Int32) (v : Int32) (m : Nat), mT m → ∀ j, ¬ mT j → upd i m v j = i j := fun i v m hm j hj => pk_un (fun e => hj (e ▸ hm))
    rw [runN]
    split
    · exact ⟨rfl, fun _ _ => rfl, fun _ _ => rfl⟩
    · split
      · exact ⟨rfl, fun j hj => (a1 _ _ 65 ⟨by omega, by omega⟩ j hj).trans (a1 _ _ 64 ⟨by omega, by omega⟩ j hj), fun _ _ => rfl⟩
      · split
        · exact ⟨rfl, fun j hj => (a1 _ _ 65 ⟨by omega, by omega⟩ j hj).trans (a1 _ _ 64 ⟨by omega, by omega⟩ j hj), fun _ _ => rfl⟩
        · have ih := runN_fr n (spDoes (tI (tI ς 64 0) 66 (ς.1 66 + 1)) k).1 (spDoes (tI (tI ς 64 0) 66 (ς.1 66 + 1)) k).2
          have f1 := spDoes_fr (tI (tI ς 64 0) 66 (ς.1 66 + 1)) k
          have f2 := spDoes_fr2 (tI (tI ς 64 0) 66 (ς.1 66 + 1)) k
          exact ⟨ih.1.trans f1.1, fun j hj => (ih.2.1 j hj).trans ((f2.1 j hj).trans ((a1 _ _ 66 ⟨by omega, by omega⟩ j hj).trans (a1 _ _ 64 ⟨by omega, by omega⟩ j hj))), fun j hj => (ih.2.2 j hj).trans (f2.2 j hj)⟩
