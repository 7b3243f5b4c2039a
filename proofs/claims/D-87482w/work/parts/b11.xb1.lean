/-! ===== the component: the mill, a card done ===== -/
def mI : Nat → Bool := fun k => [20, 21, 22, 23, 24, 25, 26].contains k
def mB : Nat → Bool := fun k => [18, 19].contains k
theorem abL_b {v : Int64} (h1 : -999999999999 ≤ v) (h2 : v ≤ 999999999999) : 0 ≤ abL v ∧ abL v ≤ 999999999999 ∧ (abL v).toInt = v.toInt.natAbs := by
  have g1 := Int64.le_iff_toInt_le.mp h1
  have g2 := Int64.le_iff_toInt_le.mp h2
  rw [show (-999999999999 : Int64).toInt = -999999999999 from rfl] at g1
  rw [show (999999999999 : Int64).toInt = 999999999999 from rfl] at g2
  have e : (abL v).toInt = v.toInt.natAbs := by
    unfold abL
    split
    · rename_i h
      have h3 := Int64.lt_iff_toInt_lt.mp h
      rw [show (0 : Int64).toInt = 0 from rfl] at h3
      rw [Int64.toInt_neg, Int.bmod_eq_of_le (by omega) (by omega)]; omega
    · rename_i h
      have h3 : ¬ v.toInt < 0 := fun z => h (Int64.lt_iff_toInt_lt.mpr z)
      omega
  refine ⟨?_, ?_, e⟩
  · rw [Int64.le_iff_toInt_le, e, show (0 : Int64).toInt = 0 from rfl]; omega
  · rw [Int64.le_iff_toInt_le, e, show (999999999999 : Int64).toInt = 999999999999 from rfl]; omega
/-- a quotient is no greater -/
theorem abL_div {x y : Int64} (h1 : -999999999999 ≤ x) (h2 : x ≤ 999999999999) (hy : ¬ y = 0) : 0 ≤ abL (x / y) ∧ abL (x / y) ≤ 999999999999 ∧ -999999999999 ≤ x / y ∧ x / y ≤ 999999999999 := by
  have g1 := Int64.le_iff_toInt_le.mp h1
  have g2 := Int64.le_iff_toInt_le.mp h2
  rw [show (-999999999999 : Int64).toInt = -999999999999 from rfl] at g1
  rw [show (999999999999 : Int64).toInt = 999999999999 from rfl] at g2
  have h0 : ¬ y.toInt = 0 := fun z => hy (Int64.toInt_inj.mp z)
  have hd : (x.toInt.tdiv y.toInt).natAbs ≤ x.toInt.natAbs := by
    rw [Int.natAbs_tdiv]; exact Nat.div_le_self _ _
  have e : (x / y).toInt = x.toInt.tdiv y.toInt := by
    rw [Int64.toInt_div]
    exact Int.bmod_eq_of_le (by omega) (by omega)
  have k1 : -999999999999 ≤ x / y := by rw [Int64.le_iff_toInt_le, e, show (-999999999999 : Int64).toInt = -999999999999 from rfl]; omega
  have k2 : x / y ≤ 999999999999 := by rw [Int64.le_iff_toInt_le, e, show (999999999999 : Int64).toInt = 999999999999 from rfl]; omega
  exact ⟨(abL_b k1 k2).1, (abL_b k1 k2).2.1, k1, k2⟩
/-- a product that isn't over -/
theorem abL_mul {x y : Int64} (h1 : -999999999999 ≤ x) (h2 : x ≤ 999999999999) (h3 : -999999999999 ≤ y) (h4 : y ≤ 999999999999) (h : ¬ spOver x y) : ¬ 999999999999 < abL (x * y) := by
  obtain ⟨a1, a2, a3⟩ := abL_b h1 h2
  obtain ⟨b1, b2, b3⟩ := abL_b h3 h4
  have k : x.toInt.natAbs * y.toInt.natAbs ≤ 999999999999 := by
    by_cases hx : x = 0
    · rw [hx]; show (0 : Int).natAbs * _ ≤ _; simp
    · have h5 : ¬ 999999999999 / abL x < abL y := fun z => h ⟨hx, z⟩
      have hx0 : ¬ x.toInt = 0 := fun z => hx (Int64.toInt_inj.mp z)
      have h6 := Int64.le_iff_toInt_le.mp (Int64.not_lt.mp h5)
      have e5 : (999999999999 / abL x : Int64).toInt = ((999999999999 / x.toInt.natAbs : Nat) : Int) := by
        rw [Int64.toInt_div, a3, show (999999999999 : Int64).toInt = ((999999999999 : Nat) : Int) from rfl, Int.tdiv_eq_ediv_of_nonneg (by omega), ← Int.natCast_ediv]
        have hz := Nat.div_le_self 999999999999 x.toInt.natAbs
        generalize 999999999999 / x.toInt.natAbs = z at hz ⊢
        exact Int.bmod_eq_of_le (by omega) (by omega)
      rw [e5, b3] at h6
      have h7 : y.toInt.natAbs ≤ 999999999999 / x.toInt.natAbs := by omega
      have h8 := Nat.mul_le_mul_left x.toInt.natAbs h7
      exact Nat.le_trans h8 (Nat.mul_div_le _ _)
  have e : (x * y).toInt = x.toInt * y.toInt := by
    rw [Int64.toInt_mul]
    have h9 : (x.toInt * y.toInt).natAbs ≤ 999999999999 := by rw [Int.natAbs_mul]; exact k
    exact Int.bmod_eq_of_le (by omega) (by omega)
  have h9 : (x.toInt * y.toInt).natAbs ≤ 999999999999 := by rw [Int.natAbs_mul]; exact k
  have k1 : -999999999999 ≤ x * y := by rw [Int64.le_iff_toInt_le, e, show (-999999999999 : Int64).toInt = -999999999999 from rfl]; omega
  have k2 : x * y ≤ 999999999999 := by rw [Int64.le_iff_toInt_le, e, show (999999999999 : Int64).toInt = 999999999999 from rfl]; omega
  exact Int64.not_lt.mpr (abL_b k1 k2).2.1
set_option maxHeartbeats 4000000 in
set_option maxRecDepth 100000 in
/-- WheelTables.divides -/
theorem x_divides {ξ : Xs} {mid dyn : List ACell} (hm : mid.length = 61) {b k : Nat} (hk : k < 40) {K cw cp : Int32} {cv : Int64} {at_ : Nat → Int32} (hcd0 : dyn[b]? = some (.inr (7, [.int K, .ref (117 + b + 1), .long cv, .int cw, .int cp]))) (hcd1 : dyn[b + 1]? = some (.inl (0, 4, .inl at_))) {a0 a1 a2 a3 : Nat} (hz0 : at_ 0 = nI a0) (hz1 : at_ 1 = nI a1) (hz2 : at_ 2 = nI a2) (hz3 : at_ 3 = nI a3) (ha0 : a0 < 20) (ha1 : a1 < 20) (ha2 : a2 < 20) (ha3 : a3 < 20) (x y : Int64) (hq : ¬ y = 0 → 0 ≤ abL (x / y) ∧ abL (x / y) ≤ 999999999999) : Ct yX0_divides (ws_ yX0_divides cX0_divides 7 none) 2 0 0 [.ref 0, .ref (117 + b), .long x, .long y, .int (nI k)] (XM ξ mid dyn) (fun v0 N => v0 = none ∧ ((y = 0 ∧ N = XM (xI (xI ξ 22 2) 23 (nI k)) mid dyn) ∨ (¬ y = 0 ∧ ∃ ξ1, Sy nB lA nB ξ1 ξ ∧ N = XM (xB (xI (xI (xB ξ1 18 (vp_updL (ξ1.2.2.2.1 18) a2 (x / y))) 26 (spUp (x / y))) 21 (ξ1.1 21 + (3 + spFew (abL (x / y))))) 18 (vp_updL (vp_updL (ξ1.2.2.2.1 18) a2 (x / y)) a3 (x - x / y * y))) mid dyn))) noX := by
  refine Ct.of (ini := false) (ls := [some (.ref 0), some (.ref (117 + b)), some (.long x), none, some (.long y), none, some (.int (nI k))]) (by decide) (Nat.le_of_ble_eq_true rfl) (fun h => by cases h) rfl ?_
  refine e_lload dX0_divides_0 rfl ?_
  refine e_lconst 0 dX0_divides_2 rfl ?_
  refine e_lcmp_ne 15 dX0_divides_3 dX0_divides_4 (by decide) (fun h3 => ?_) (fun h3 => ?_)
  · have hv := (hq h3).1
    have hv2 := (hq h3).2
    have hnal := Int64.not_lt.mpr hv2
    have hy0 := h3
    refine e_aload_n dX0_divides_15 0 rfl rfl rfl ?_
    refine e_aload_n dX0_divides_16 1 rfl rfl rfl ?_
    refine e_lload_n dX0_divides_17 2 rfl rfl ?_
    refine e_lload dX0_divides_18 rfl ?_
    refine e_ldiv dX0_divides_20 (by assumption) ?_
    refine e_iload dX0_divides_21 rfl ?_
    refine e_iconst 3 dX0_divides_23 rfl ?_
    refine e_aload_n dX0_divides_24 0 rfl rfl rfl ?_
    refine e_lload_n dX0_divides_25 2 rfl rfl ?_
    refine e_lload dX0_divides_26 rfl ?_
    refine e_ldiv dX0_divides_28 (by assumption) ?_
    refine e_callS1 (As := [.long (x / y)]) (rest := [.ref 0, .int 3, .int (nI k), .long (x / y), .ref (117 + b), .ref 0]) dX0_divides_29 rfl msX0_371 (m_absL (x / y)) (Nat.le_of_ble_eq_true rfl) rfl rfl (Nat.le_of_ble_eq_true rfl) (Nat.zero_le _) (Nat.zero_le _) ?_
    refine e_callVQ (As := [.long (abL (x / y))]) (rest := [.int 3, .int (nI k), .long (x / y), .ref (117 + b), .ref 0]) dX0_divides_32 rfl mvX0_377 (xm_o0) rfl (x_least (ξ := ξ) (v := abL (x / y)) hv) (Nat.le_of_ble_eq_true rfl) rfl rfl (Nat.le_of_ble_eq_true rfl) (Nat.zero_le _) (Nat.zero_le _) (fun v0 M0 h0_ _ => ?_)
    obtain ⟨ξ1, rfl, rfl, hS1, -⟩ := h0_
    rw [few_eq hv hv2]
    refine e_iadd dX0_divides_35 ?_
    refine e_callVQ (As := [.ref (117 + b), .long (x / y), .int (nI k), .int (3 + (spFew (abL (x / y))))]) (rest := []) dX0_divides_36 rfl mvX0_367 (xm_o0) rfl (x_results (ξ := ξ1) hm hk hcd0 hcd1 hz0 hz1 hz2 hz3 ha0 ha1 ha2 ha3 (x / y) (3 + (spFew (abL (x / y))))) (Nat.le_of_ble_eq_true rfl) rfl rfl (Nat.le_of_ble_eq_true rfl) (Nat.zero_le _) (Nat.zero_le _) (fun v0 M0 h0_ _ => ?_)
    obtain ⟨rfl, ⟨hal, rfl⟩ | ⟨hal, rfl⟩⟩ := h0_
    · exact absurd hal hnal
    refine e_aload_n dX0_divides_39 0 rfl rfl rfl ?_
    refine e_getf (v := (.ref 13)) dX0_divides_40 rfl fX0_73 (xm_o0) rfl ?_
    refine e_aload_n dX0_divides_43 1 rfl rfl rfl ?_
    refine e_getf (v := (.ref (117 + b + 1))) dX0_divides_44 rfl fX0_362 ((xm_d hm b).trans hcd0) rfl ?_
    refine e_iconst 3 dX0_divides_47 rfl ?_
    refine e_iald (f := at_) (j := 3) dX0_divides_48 ((show (XM _ mid dyn)[117 + b + 1]? = _ from (xm_d hm (b + 1)).trans hcd1)) rfl (by omega) (by decide) ?_
    refine e_top (congrArg Value.int hz3) ?_
    refine e_lload_n dX0_divides_49 2 rfl rfl ?_
    refine e_lload dX0_divides_50 rfl ?_
    refine e_lrem dX0_divides_52 (by assumption) ?_
    refine e_last (f := (vp_updL (ξ1.2.2.2.1 18) a2 (x / y))) (j := a3) dX0_divides_53 (xm_a18) rfl (by omega) (by decide) ?_
    rw [xm_s18]
    refine e_return dX0_divides_54 rfl (Nat.zero_le _) (Nat.zero_le _) ?_
    exact ⟨rfl, Or.inr ⟨h3, ξ1, hS1, rfl⟩⟩
  · refine e_aload_n dX0_divides_7 0 rfl rfl rfl ?_
    refine e_iconst 2 dX0_divides_8 rfl ?_
    refine e_iload dX0_divides_9 rfl ?_
    refine e_callV0 (As := [.int 2, .int (nI k)]) (rest := []) dX0_divides_11 rfl mvX0_395 (xm_o0) rfl (x_alarms 2 (nI k)) (Nat.le_of_ble_eq_true rfl) rfl rfl (Nat.le_of_ble_eq_true rfl) (Nat.zero_le _) (Nat.zero_le _) ?_
    refine e_return dX0_divides_14 rfl (Nat.zero_le _) (Nat.zero_le _) ?_
    exact ⟨rfl, Or.inl ⟨h3, rfl⟩⟩

