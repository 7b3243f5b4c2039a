/-! ===== the component: cards, the relation ===== -/
def ownC (own : Nat → Nat) (L : Nat) : Nat → Nat := fun k => if k < L then own k else 100
theorem Rel.gc {own : Nat → Nat} {ξ : Xs} {dyn : List ACell} {τ : Tw} (hRel : Rel own ξ dyn τ) (X : List ACell) : Rel (ownC own dyn.length) ξ (dyn ++ X) τ := by
  obtain ⟨hI, hA, hB, hW, hP, hR, hT, hE, hC, hV⟩ := hRel
  have hd : ∀ k c, dyn[k]? = some c → (dyn ++ X)[k]? = some c ∧ ownC own dyn.length k = own k := fun k c hc => by
    have hl := (List.getElem?_eq_some_iff.mp hc).1
    exact ⟨by rw [List.getElem?_append_left hl]; exact hc, if_pos hl⟩
  exact ⟨hI, hA, hB, hW, hP, hR, hT.dy (t := 4) (fun _ _ _ => rfl) (fun _ _ _ => rfl) (fun _ _ _ => rfl) (fun _ _ _ _ _ => rfl) (fun k c hc _ => hd k c hc) (fun h => absurd h (by omega)), hE.dy rfl (fun k c hc _ => hd k c hc), hC.dy (fun _ _ => rfl) rfl (fun k c hc _ => hd k c hc), hV⟩
abbrev cdI : List Nat := [0, 1, 29, 30, 31, 32, 33, 34, 35, 36, 37, 38, 41, 42]
abbrev cdA : List Nat := [43, 44, 45, 46, 47, 48, 49, 50, 51, 52, 53, 54, 55]
/-- after the cards are read: what is kept -/
theorem Rel.cdx {own : Nat → Nat} {ξ ξ' : Xs} {D : List ACell} {τ τ1 : Tw} (h : Rel own ξ D τ) (x1 : ∀ k, k ∉ [7, 8, 9, 10, 101, 102, 103, 104, 105, 206, 207] → ξ'.1 k = ξ.1 k) (x2 : ξ'.2.2.1 = ξ.2.2.1) (x3 : ξ'.2.2.2.1 = ξ.2.2.2.1) (x4 : ξ'.2.2.2.2.1 1 = ξ.2.2.2.2.1 1) (x5 : ξ'.2.2.2.2.2.2 = ξ.2.2.2.2.2.2)
    (hs : Sx cdI [39, 40] cdA [56, 57] τ1 τ) (hN : InvN τ1) (h8 : ξ'.1 8 = τ1.1 0) (h7 : ξ'.1 7 = τ1.1 41) (h9 : ξ'.1 9 = τ1.1 31) (h10 : ξ'.1 10 = τ1.1 32) (h101 : ξ'.1 101 = 0) (h29 : τ1.1 29 = 0) (hC : RC own ξ' D τ1) : Rel own ξ' D τ1 := by
  obtain ⟨hI, hA, hB, hW, hP, hR, hT, hE, -, hVT, hVJ, hVR, hVF, hVN, hV0⟩ := h
  obtain ⟨s1, s2, s3, s4⟩ := hs
  have kI : ∀ q ∈ rlI, q = (8, 0) ∨ q = (7, 41) ∨ q = (9, 31) ∨ q = (10, 32) ∨ q = (101, 29) ∨ (q.1 ∉ [7, 8, 9, 10, 101, 102, 103, 104, 105, 206, 207] ∧ q.2 ∉ cdI) := by decide
  have kA : ∀ q ∈ rlA, q.2 ∉ cdA := by decide
  have kB : ∀ q ∈ rlB, q.2 ∉ [56, 57] := by decide
  have sI : ∀ (L : List Nat), (∀ k ∈ L, k ∉ cdI) → ∀ k ∈ L, τ1.1 k = τ.1 k := fun L g k hk => s1 k (g k hk)
  have sA : ∀ (L : List Nat), (∀ k ∈ L, k ∉ cdA) → ∀ k ∈ L, τ1.2.2.1 k = τ.2.2.1 k := fun L g k hk => s3 k (g k hk)
  refine ⟨fun q hq => ?_, fun q hq => ?_, fun q hq => ?_, ?_, ?_, ?_, ?_, ?_, hC, ?_⟩
  · rcases kI q hq with rfl | rfl | rfl | rfl | rfl | ⟨z1, z2⟩
    · exact h8
    · exact h7
    · exact h9
    · exact h10
    · exact h101.trans h29.symm
    · rw [x1 _ z1, s1 _ z2]; exact hI q hq
  · rw [x2, s3 _ (kA q hq)]; exact hA q hq
  · rw [x3, s4 _ (kB q hq)]; exact hB q hq
  · have := hW.cg (sI _ (by decide))
    unfold RW RW0 at this ⊢
    rw [x1 13 (by decide), x1 23 (by decide), x2]; exact this
  · have := hP.cg (sI _ (by decide)) (sA _ (by decide))
    unfold RP at this ⊢
    rw [x2]; exact this
  · have := hR.cg (s1 74 (by decide)) (sA _ (by decide))
    unfold RR at this ⊢
    rw [x2]; exact this
  · have := RT.cg (τ := τ) hT (sA _ (by decide)) (s4 4 (by decide))
    unfold RT at this ⊢
    rw [x5]; exact this
  · have := RE.cg (τ := τ) hE (s1 5 (by decide)) (sA _ (by decide))
    unfold RE at this ⊢
    rw [x4]; exact this
  · exact ⟨hVT.cg (sA _ (by decide)), hVJ.cg (s1 82 (by decide)) (sA _ (by decide)), hVR.cg (sI _ (by decide)), ⟨0, by omega, h29⟩, hN, fun z => (s1 62 (by decide)).trans (hV0 ((s1 60 (by decide)).symm.trans z))⟩
/-- the cards kept: another row of cards written -/
theorem RC.q {own : Nat → Nat} {ξ ξ' : Xs} {D : List ACell} {τ : Tw} (h : RC own ξ D τ) (hP : ξ'.2.2.2.2.2.1 = ξ.2.2.2.2.2.1) (hR : ∀ p, (p = 6 ∨ p = 7) → ξ.2.2.2.2.2.1 4 = some p → ξ'.2.2.2.2.1 p = ξ.2.2.2.2.1 p) : RC own ξ' D τ := by
  obtain ⟨hM, p, hp, h4, h5, hk⟩ := h
  exact ⟨hM, p, hp, by rw [hP]; exact h4, by rw [hP]; exact h5, fun k hkk => by rw [hR p hp h4]; exact hk k hkk⟩
theorem i32_k {c : Nat} (h : c ≤ 7) : (nI c = 0 ↔ c = 0) ∧ (1 ≤ nI c ↔ 1 ≤ c) ∧ (nI c ≤ 5 ↔ c ≤ 5) ∧ (nI c ≤ 4 ↔ c ≤ 4) ∧ (nI c = 4 ↔ c = 4) ∧ (6 ≤ nI c ↔ 6 ≤ c) := by
  have e : ∀ c, c < 8 → ((nI c = 0 ↔ c = 0) ∧ (1 ≤ nI c ↔ 1 ≤ c) ∧ (nI c ≤ 5 ↔ c ≤ 5) ∧ (nI c ≤ 4 ↔ c ≤ 4) ∧ (nI c = 4 ↔ c = 4) ∧ (6 ≤ nI c ↔ 6 ≤ c)) := by decide +kernel
  exact e c (by omega)
/-- new cards -/
theorem RC.new {own : Nat → Nat} {ξ : Xs} {dyn D : List ACell} {τ : Tw} {cs : List Cd} {q : Nat} (hq : q = 6 ∨ q = 7) (h4 : ξ.2.2.2.2.2.1 4 = some q) (h5 : ξ.2.2.2.2.2.1 5 = some (13 - q)) (hC : CdS q ξ dyn D cs) (h40 : cs.length ≤ 40) (e41 : τ.1 41 = nI cs.length) (hIn : ∀ k c, cs[k]? = some c → CdIn τ k c) (hD : InvD τ cs.length) (hB : ∀ c ∈ cs, CdB c) (hJ : ∀ j c, cs[j]? = some c → ¬ badJ cs.length j c) : RC (ownC own dyn.length) ξ (dyn ++ D) τ := by
  have gt : ∀ k, k < cs.length → ∃ c, cs[k]? = some c ∧ CdB c := fun k hk => ⟨cs[k], List.getElem?_eq_getElem hk, hB _ (List.getElem_mem hk)⟩
  refine ⟨Or.inr ⟨cs.length, h40, e41, fun k hk => ?_⟩, q, hq, h4, h5, fun k hk => ?_⟩
  · obtain ⟨c, hc, hb⟩ := gt k hk
    obtain ⟨i1, i2, i3, i4, i5, i6, i7⟩ := hIn k c hc
    obtain ⟨⟨q1, d1, d2⟩, ⟨q2, d3, d4⟩, q3, d5, d6⟩ := hD k hk
    have hj := hJ k c hc
    exact ⟨c.1, c.2.1, q1, q2, q3, hb.1, i1, ⟨i2, hb.2.2.2.2.2.2.2, hb.2.1, fun z => Nat.le_of_not_lt (fun y => hj (Or.inl ⟨z, y⟩)), fun z => Nat.le_of_not_lt (fun y => hj (Or.inr ⟨z, y⟩))⟩, ⟨d2, d1⟩, ⟨d4, d3⟩, d6, d5⟩
  · rw [e41, ix_nI (by omega)] at hk
    obtain ⟨c, hc, hb⟩ := gt k hk
    obtain ⟨i1, i2, i3, i4, i5, i6, i7⟩ := hIn k c hc
    obtain ⟨a, v, w, p, g1, g2, m1, m2, m3, m4, m5, m6, m7⟩ := hC.2 k c hc
    obtain ⟨z0, z1, z5, z4, zz4, z6⟩ := i32_k hb.1
    refine ⟨dyn.length + 2 * k, nI c.1, a, v, w, p, g1, g2, if_neg (by omega), if_neg (by omega), i1.symm, m7.trans i6.symm, m1, ?_, ?_, ?_, ?_, ?_⟩
    · rw [i1, i2, i7]; exact fun z => m2 (z0.mp z)
    · rw [i1, i2]; exact fun z => m3 ⟨z1.mp z.1, z5.mp z.2⟩
    · rw [i1]; exact fun z => ⟨(m4 ⟨z1.mp z.1, z4.mp z.2⟩).1.trans (i3 ⟨z1.mp z.1, z4.mp z.2⟩).symm, (m4 ⟨z1.mp z.1, z4.mp z.2⟩).2.trans (i4 ⟨z1.mp z.1, z4.mp z.2⟩).symm⟩
    · rw [i1]; exact fun z => (m5 (zz4.mp z)).trans (i5 (zz4.mp z)).symm
    · rw [i1, i2]
      intro z
      have := m6 (z6.mp z)
      rw [nI_l (by omega)]; exact this.1
