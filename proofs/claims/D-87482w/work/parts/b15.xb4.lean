/-! ===== the component: run ===== -/
theorem abL_mul2 {x y : Int64} (h1 : -999999999999 ≤ x) (h2 : x ≤ 999999999999) (h3 : -999999999999 ≤ y) (h4 : y ≤ 999999999999) (h : ¬ spOver x y) : -999999999999 ≤ x * y ∧ x * y ≤ 999999999999 := by
  obtain ⟨a1, a2, a3⟩ := abL_b h1 h2
  obtain ⟨b1, b2, b3⟩ := abL_b h3 h4
  have k : x.toInt.natAbs * y.toInt.natAbs ≤ 999999999999 := by
    by_cases hx : x = 0
    · rw [hx]; show (0 : Int).natAbs * _ ≤ _; simp
    · have h5 : ¬ 999999999999 / abL x < abL y := fun z => h ⟨hx, z⟩
      have hx0 : ¬ x.toInt = 0 := fun z => hx (Int64.toInt_inj.mp z)
      have h6 := Int64.le_iff_toInt_le.mp (Int64.not_lt.mp h5)
      have e5 : (999999999999 / abL x : Int64).toInt = ((999999999999 / x.toInt.natAbs : Nat) : Int) := by
        rw [Int64.toInt_div, a3, show (999999999999 : Int64).toInt = ((999999999999 : Nat) : Int) from rfl, Int.tdiv_eq_ediv_of_nonneg (by omega), ← Int.natCast_ediv]
        have hz := Nat.div_le_self 999999999999 x.toInt.natAbs
        generalize 999999999999 / x.toInt.natAbs = z at hz ⊢
        exact Int.bmod_eq_of_le (by omega) (by omega)
      rw [e5, b3] at h6
      have h7 : y.toInt.natAbs ≤ 999999999999 / x.toInt.natAbs := by omega
      have h8 := Nat.mul_le_mul_left x.toInt.natAbs h7
      exact Nat.le_trans h8 (Nat.mul_div_le _ _)
  have h9 : (x.toInt * y.toInt).natAbs ≤ 999999999999 := by rw [Int.natAbs_mul]; exact k
  have e : (x * y).toInt = x.toInt * y.toInt := by
    rw [Int64.toInt_mul]
    exact Int.bmod_eq_of_le (by omega) (by omega)
  rw [Int64.le_iff_toInt_le, Int64.le_iff_toInt_le, e, show (-999999999999 : Int64).toInt = -999999999999 from rfl, show (999999999999 : Int64).toInt = 999999999999 from rfl]
  omega
theorem rem_b {x y : Int64} (h1 : -999999999999 ≤ x) (h2 : x ≤ 999999999999) (hy : ¬ y = 0) : -999999999999 ≤ x - x / y * y ∧ x - x / y * y ≤ 999999999999 := by
  have g1 := Int64.le_iff_toInt_le.mp h1
  have g2 := Int64.le_iff_toInt_le.mp h2
  rw [show (-999999999999 : Int64).toInt = -999999999999 from rfl] at g1
  rw [show (999999999999 : Int64).toInt = 999999999999 from rfl] at g2
  have hd : (x.toInt.tdiv y.toInt).natAbs ≤ x.toInt.natAbs := by
    rw [Int.natAbs_tdiv]; exact Nat.div_le_self _ _
  have e : (x / y).toInt = x.toInt.tdiv y.toInt := by
    rw [Int64.toInt_div]
    exact Int.bmod_eq_of_le (by omega) (by omega)
  have hm : (x.toInt.tmod y.toInt).natAbs ≤ x.toInt.natAbs := by
    rw [Int.natAbs_tmod]; exact Nat.mod_le _ _
  have hr : x.toInt.tdiv y.toInt * y.toInt = x.toInt - x.toInt.tmod y.toInt := by
    have := Int.mul_tdiv_add_tmod x.toInt y.toInt
    rw [Int.mul_comm] at this; omega
  have e2 : (x / y * y).toInt = x.toInt - x.toInt.tmod y.toInt := by
    rw [Int64.toInt_mul, e, hr]
    exact Int.bmod_eq_of_le (by omega) (by omega)
  have e3 : (x - x / y * y).toInt = x.toInt.tmod y.toInt := by
    rw [Int64.toInt_sub, e2, show x.toInt - (x.toInt - x.toInt.tmod y.toInt) = x.toInt.tmod y.toInt by omega]
    exact Int.bmod_eq_of_le (by omega) (by omega)
  rw [Int64.le_iff_toInt_le, Int64.le_iff_toInt_le, e3, show (-999999999999 : Int64).toInt = -999999999999 from rfl, show (999999999999 : Int64).toInt = 999999999999 from rfl]
  omega

theorem tI_cm (ς : Tw) {a b : Nat} (h : ¬ a = b) (x y : Int32) : tI (tI ς a x) b y = tI (tI ς b y) a x := by
  have e : upd (upd ς.1 a x) b y = upd (upd ς.1 b y) a x := by
    funext j
    unfold upd
    by_cases h1 : j = b
    · rw [if_pos h1, if_neg (fun z => h (z.symm.trans h1)), if_pos h1]
    · rw [if_neg h1]
      by_cases h2 : j = a
      · rw [if_pos h2, if_pos h2]
      · rw [if_neg h2, if_neg h2, if_neg h1]
  exact congrArg (fun z => (z, ς.2)) e
theorem spCr_0 (ς : Tw) (v n : Int32) : spCr (tI ς 0 v) n = tI (spCr ς n) 0 v := tI_cm ς (by decide) _ _
theorem spComes_0 (ς : Tw) (v : Int32) (k : Nat) (w : Int64) : spComes (tI ς 0 v) k w = tI (spComes ς k w) 0 v := tI_cm (tB ς 58 (vp_updL (ς.2.2.2 58) (ix (ς.2.2.1 46 k)) w)) (by decide) _ _
theorem spDoes_0 (ς : Tw) (v : Int32) (k : Nat) : spDoes (tI ς 0 v) k = ((spDoes ς k).1, tI (spDoes ς k).2 0 v) := by
  unfold spDoes
  rw [show (tI ς 0 v).2.2.1 = ς.2.2.1 from rfl, show spX (tI ς 0 v) k = spX ς k from rfl, show spY (tI ς 0 v) k = spY ς k from rfl, show spIs (tI ς 0 v) k = spIs ς k from rfl]
  by_cases h0 : ς.2.2.1 43 k = 0
  · rw [if_pos h0, if_pos h0]; exact congrArg (fun z => (k + 1, z)) (spCr_0 (tB ς 58 (vp_updL (ς.2.2.2 58) (ix (ς.2.2.1 44 k)) (ς.2.2.2 56 k))) v 1)
  rw [if_neg h0, if_neg h0]
  by_cases h1 : ς.2.2.1 43 k = 1
  · rw [if_pos h1, if_pos h1, spComes_0, spCr_0]
  rw [if_neg h1, if_neg h1]
  by_cases h2 : ς.2.2.1 43 k = 2
  · rw [if_pos h2, if_pos h2, spComes_0, spCr_0]
  rw [if_neg h2, if_neg h2]
  by_cases h3 : ς.2.2.1 43 k = 3
  · rw [if_pos h3, if_pos h3, spCr_0, spComes_0]
  rw [if_neg h3, if_neg h3]
  by_cases h4 : ς.2.2.1 43 k = 4
  · rw [if_pos h4, if_pos h4, spCr_0, spComes_0]; rfl
  rw [if_neg h4, if_neg h4]
  by_cases h5 : ς.2.2.1 43 k = 5
  · rw [if_pos h5, if_pos h5]
    refine congrArg (fun z => (k + 1, z)) ?_
    rw [show (tI ς 0 v).2.2.2 = ς.2.2.2 from rfl, show (tI ς 0 v).1 62 = ς.1 62 from rfl]
    rw [show tI (tB (tI ς 0 v) 59 (vp_updL (ς.2.2.2 59) (ix (ς.1 62)) (spX ς k))) 62 (ς.1 62 + 1) = tI (tI (tB ς 59 (vp_updL (ς.2.2.2 59) (ix (ς.1 62)) (spX ς k))) 62 (ς.1 62 + 1)) 0 v from tI_cm (tB ς 59 (vp_updL (ς.2.2.2 59) (ix (ς.1 62)) (spX ς k))) (by decide) _ _, spCr_0]
  rw [if_neg h5, if_neg h5]
  by_cases h6 : ς.2.2.1 43 k = 6
  · rw [if_pos h6, if_pos h6, spCr_0]
  rw [if_neg h6, if_neg h6]
theorem runN_0 : ∀ (n k : Nat) (ς : Tw) (v : Int32), runN n k (tI ς 0 v) = tI (runN n k ς) 0 v
  | 0, _, _, _ => rfl
  | n + 1, k, ς, v => by
    rw [runN, runN, show (tI ς 0 v).1 64 = ς.1 64 from rfl, show (tI ς 0 v).1 41 = ς.1 41 from rfl, show (tI ς 0 v).1 66 = ς.1 66 from rfl, show spAlm (tI ς 0 v) k = spAlm ς k from rfl]
    by_cases h1 : ¬ (ς.1 64 = 0 ∧ nI k < ς.1 41)
    · rw [if_pos h1, if_pos h1]
    rw [if_neg h1, if_neg h1]
    by_cases h2 : ς.1 66 = 5000
    · rw [if_pos h2, if_pos h2, tI_cm ς (a := 0) (b := 64) (by decide), tI_cm (tI ς 64 4) (a := 0) (b := 65) (by decide)]
    rw [if_neg h2, if_neg h2]
    by_cases h3 : 0 < spAlm ς k
    · rw [if_pos h3, if_pos h3, tI_cm ς (a := 0) (b := 64) (by decide), tI_cm (tI ς 64 (spAlm ς k)) (a := 0) (b := 65) (by decide)]
    rw [if_neg h3, if_neg h3, tI_cm ς (a := 0) (b := 64) (by decide), tI_cm (tI ς 64 0) (a := 0) (b := 66) (by decide), spDoes_0, runN_0]
/-- the store holds numbers of twelve figures -/
def SBd (ς : Tw) : Prop := ∀ p, p < 20 → -999999999999 ≤ ς.2.2.2 58 p ∧ ς.2.2.2 58 p ≤ 999999999999
theorem SBd.up {ς : Tw} (h : SBd ς) {q : Nat} {v : Int64} (h1 : -999999999999 ≤ v) (h2 : v ≤ 999999999999) : SBd (tB ς 58 (vp_updL (ς.2.2.2 58) q v)) := by
  intro p hp
  show _ ≤ vp_updL (ς.2.2.2 58) q v p ∧ vp_updL (ς.2.2.2 58) q v p ≤ _
  by_cases e : p = q
  · subst e; rw [pk_uLs]; exact ⟨h1, h2⟩
  · rw [pk_uLn e]; exact h p hp
theorem i64_b {v : Int64} : (-999999999999 ≤ v ∧ v ≤ 999999999999) ↔ (-999999999999 ≤ v.toInt ∧ v.toInt ≤ 999999999999) := by
  rw [Int64.le_iff_toInt_le, Int64.le_iff_toInt_le, show (-999999999999 : Int64).toInt = -999999999999 from rfl, show (999999999999 : Int64).toInt = 999999999999 from rfl]
theorem abL_le {v : Int64} (h0 : -9000000000000 ≤ v.toInt) (h1 : v.toInt ≤ 9000000000000) (h : ¬ 999999999999 < abL v) : -999999999999 ≤ v ∧ v ≤ 999999999999 := by
  have e : (abL v).toInt = v.toInt.natAbs := by
    unfold abL
    split
    · rename_i h
      have h3 := Int64.lt_iff_toInt_lt.mp h
      rw [show (0 : Int64).toInt = 0 from rfl] at h3
      rw [Int64.toInt_neg, Int.bmod_eq_of_le (by omega) (by omega)]; omega
    · rename_i h
      have h3 : ¬ v.toInt < 0 := fun z => h (Int64.lt_iff_toInt_lt.mpr z)
      omega
  have h2 := Int64.le_iff_toInt_le.mp (Int64.not_lt.mp h)
  rw [e, show (999999999999 : Int64).toInt = 999999999999 from rfl] at h2
  exact i64_b.mpr ⟨by omega, by omega⟩
theorem spDoes_sb {ς : Tw} {n k : Nat} (h : SBd ς) (hC : CdOk ς n k) (hw : ς.2.2.1 43 k = 0 → -999999999999 ≤ ς.2.2.2 56 k ∧ ς.2.2.2 56 k ≤ 999999999999) (hA : ¬ 0 < spAlm ς k) : SBd (spDoes ς k).2 := by
  obtain ⟨K, a, b, c, e, h7, eK, ⟨ea, ha, ha1, -⟩, ⟨eb, hb⟩, ⟨ec, hc⟩, ee, he⟩ := hC
  have hx : K < 6 → -999999999999 ≤ spX ς k ∧ spX ς k ≤ 999999999999 := fun z => by
    unfold spX; rw [ea, ix_nI (by omega)]; exact h a (ha1 z)
  have hy : -999999999999 ≤ spY ς k ∧ spY ς k ≤ 999999999999 := by
    unfold spY; rw [eb, ix_nI (by omega)]; exact h b hb
  have hKn : ∀ j, j < 8 → ς.2.2.1 43 k = nI j → K = j := fun j hj hh => (nI_eqN (by omega) (by omega)).mp (eK.symm.trans hh)
  unfold spAlm at hA
  unfold spDoes
  have cr : ∀ (Z : Tw) (m : Int32), SBd Z → SBd (spCr Z m) := fun Z m hZ => hZ
  have cm : ∀ (Z : Tw) (v : Int64), SBd Z → (-999999999999 ≤ v ∧ v ≤ 999999999999) → SBd (spComes Z k v) := fun Z v hZ hv => hZ.up hv.1 hv.2
  by_cases h0 : ς.2.2.1 43 k = 0
  · rw [if_pos h0]; exact cr _ _ (h.up (hw h0).1 (hw h0).2)
  rw [if_neg h0]
  by_cases h1 : ς.2.2.1 43 k = 1
  · rw [if_pos h1] at hA ⊢
    have hX := i64_b.mp (hx (by rw [hKn 1 (by omega) h1]; omega))
    have hY := i64_b.mp hy
    have es : (spX ς k + spY ς k).toInt = (spX ς k).toInt + (spY ς k).toInt := by
      rw [Int64.toInt_add]; exact Int.bmod_eq_of_le (by omega) (by omega)
    refine cr _ _ (cm _ _ h (abL_le (by omega) (by omega) (fun z => hA ?_)))
    rw [if_pos z]; decide
  rw [if_neg h1] at hA ⊢
  by_cases h2 : ς.2.2.1 43 k = 2
  · rw [if_pos h2] at hA ⊢
    have hX := i64_b.mp (hx (by rw [hKn 2 (by omega) h2]; omega))
    have hY := i64_b.mp hy
    have es : (spX ς k - spY ς k).toInt = (spX ς k).toInt - (spY ς k).toInt := by
      rw [Int64.toInt_sub]; exact Int.bmod_eq_of_le (by omega) (by omega)
    refine cr _ _ (cm _ _ h (abL_le (by omega) (by omega) (fun z => hA ?_)))
    rw [if_pos z]; decide
  rw [if_neg h2] at hA ⊢
  by_cases h3 : ς.2.2.1 43 k = 3
  · rw [if_pos h3] at hA ⊢
    have hX := hx (by rw [hKn 3 (by omega) h3]; omega)
    have hov : ¬ spOver (spX ς k) (spY ς k) := fun z => hA (by rw [if_pos z]; decide)
    exact cm _ _ (cr _ _ h) (abL_mul2 hX.1 hX.2 hy.1 hy.2 hov)
  rw [if_neg h3] at hA ⊢
  by_cases h4 : ς.2.2.1 43 k = 4
  · rw [if_pos h4] at hA ⊢
    have hX := hx (by rw [hKn 4 (by omega) h4]; omega)
    have hy0 : ¬ spY ς k = 0 := fun z => hA (by rw [if_pos z]; decide)
    have hq := abL_div hX.1 hX.2 hy0
    refine SBd.up (cm _ _ (cr _ _ h) ⟨hq.2.2.1, hq.2.2.2⟩) ?_ ?_
    · exact (rem_b hX.1 hX.2 hy0).1
    · exact (rem_b hX.1 hX.2 hy0).2
  rw [if_neg h4]
  by_cases h5 : ς.2.2.1 43 k = 5
  · rw [if_pos h5]; exact h
  rw [if_neg h5]
  by_cases h6 : ς.2.2.1 43 k = 6
  · rw [if_pos h6]; exact h
  rw [if_neg h6]
  exact h
