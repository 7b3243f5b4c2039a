/-! ===== the component: differences, steps ===== -/
set_option maxHeartbeats 4000000 in
set_option maxRecDepth 100000 in
/-- a loop of differences -/
theorem x_df_in {ξ : Xs} {mid dyn : List ACell} {v : Nat → Int64} {n k : Nat} (hn : n ≤ 7) (hk : 1 ≤ k) (hkn : k < n) {Q : Qfun} : ∀ (fuel : Nat) (i : Nat) (w : Nat → Int64), k ≤ i + 1 ∧ i < n → i < fuel → w = difQ i n v → E cX0_differences (RX0, none, 4, 0, (0, 0), false, []) Q noX 0 0 39 [some (.ref 0), some (.int (nI n)), some (.int (nI k)), none] [] (XM (xB ξ 11 (difP k n v)) mid dyn) →
    E cX0_differences (RX0, none, 4, 0, (0, 0), false, []) Q noX 0 0 11 [some (.ref 0), some (.int (nI n)), some (.int (nI k)), some (.int (nI i))] [] (XM (xB ξ 11 w) mid dyn) := by
  intro fuel
  induction fuel with
  | zero => intro i w hi hf hw hE; exact absurd hf (by omega)
  | succ fuel ih =>
    intro i w hi hf hw hE
    refine e_iload_n dX0_differences_11 3 rfl rfl ?_
    refine e_iload_n dX0_differences_12 2 rfl rfl ?_
    refine e_icmp_ltN i k 39 (by omega) (by omega) dX0_differences_13 (by decide) (fun h13 => ?_) (fun h13 => ?_)
    · refine e_forget (i := 3) (ln_s (ln_s (ln_s ln_0))) ?_
      have e1 : k = i + 1 := by omega
      subst e1
      rw [← difQ_e, ← hw] at hE
      exact hE
    · obtain ⟨q, rfl⟩ : ∃ q, i = q + 1 := ⟨i - 1, by omega⟩
      refine e_aload_n dX0_differences_16 0 rfl rfl rfl ?_
      refine e_getf (v := (.ref 8)) dX0_differences_17 rfl fX0_56 (xm_o0) rfl ?_
      refine e_iload_n dX0_differences_20 3 rfl rfl ?_
      refine e_dup2 dX0_differences_21 rfl rfl ?_
      refine e_lald (f := w) (j := q + 1) dX0_differences_22 (xm_a11) rfl (by omega) (by decide) ?_
      refine e_aload_n dX0_differences_23 0 rfl rfl rfl ?_
      refine e_getf (v := (.ref 8)) dX0_differences_24 rfl fX0_56 (xm_o0) rfl ?_
      refine e_iload_n dX0_differences_27 3 rfl rfl ?_
      refine e_iconst 1 dX0_differences_28 rfl ?_
      refine e_isubN (q + 1) 1 (by omega) dX0_differences_29 ?_
      refine e_lald (f := w) (j := (q + 1) - 1) dX0_differences_30 (xm_a11) rfl (by omega) (by decide) ?_
      refine e_lsub dX0_differences_31 ?_
      refine e_last (f := w) (j := q + 1) dX0_differences_32 (xm_a11) rfl (by omega) (by decide) ?_
      rw [xm_s11]
      refine e_incN (q + 1) q (decS _) dX0_differences_33 rfl (ls_s (ls_s (ls_1 rfl))) (Nat.le_of_ble_eq_true rfl) ?_
      refine e_goto 11 dX0_differences_36 (by decide) ?_
      rw [xB_xB]
      refine ih q _ (by omega) (by omega) ?_ hE
      subst hw
      exact difQ_s (by omega)

set_option maxHeartbeats 4000000 in
set_option maxRecDepth 100000 in
/-- a loop of differences -/
theorem x_df1 {ξ : Xs} {mid dyn : List ACell} {v : Nat → Int64} {n : Nat} (hn : n ≤ 7) (hn1 : 1 ≤ n) {Q : Qfun} : ∀ (fuel : Nat) (k : Nat) (w : Nat → Int64), 1 ≤ k ∧ k ≤ n → n < k + fuel → w = dfL n v (k - 1) → Q none (XM (xB ξ 11 (dfL n v (n - 1))) mid dyn) →
    E cX0_differences (RX0, none, 4, 0, (0, 0), false, []) Q noX 0 0 2 [some (.ref 0), some (.int (nI n)), some (.int (nI k)), none] [] (XM (xB ξ 11 w) mid dyn) := by
  intro fuel
  induction fuel with
  | zero => intro k w hk hf hw hQ; exact absurd hf (by omega)
  | succ fuel ih =>
    intro k w hk hf hw hQ
    refine e_iload_n dX0_differences_2 2 rfl rfl ?_
    refine e_iload_n dX0_differences_3 1 rfl rfl ?_
    refine e_icmp_geN k n 45 (by omega) (by omega) dX0_differences_4 (by decide) (fun h4 => ?_) (fun h4 => ?_)
    · refine e_return dX0_differences_45 rfl (Nat.zero_le _) (Nat.zero_le _) ?_
      have e1 : k = n := by omega
      subst e1
      rw [← hw] at hQ
      exact hQ
    · refine e_iload_n dX0_differences_7 1 rfl rfl ?_
      refine e_iconst 1 dX0_differences_8 rfl ?_
      refine e_isubN n 1 (by omega) dX0_differences_9 ?_
      refine e_istore_n dX0_differences_10 3 rfl (ls_s (ls_s (ls_1 rfl))) (Nat.le_of_ble_eq_true rfl) ?_
      refine x_df_in (v := w) hn (by omega) (by omega) (n + 1) (n - 1) w (by omega) (by omega) difQ_0.symm ?_
      refine e_incN k (k + 1) (inc1 _) dX0_differences_39 rfl (ls_s (ls_1 rfl)) (Nat.le_of_ble_eq_true rfl) ?_
      refine e_goto 2 dX0_differences_42 (by decide) ?_
      refine ih (k + 1) _ (by omega) (by omega) ?_ hQ
      rw [hw, Nat.add_sub_cancel]
      obtain ⟨q, rfl⟩ : ∃ q, k = q + 1 := ⟨k - 1, by omega⟩
      rfl

set_option maxHeartbeats 4000000 in
set_option maxRecDepth 100000 in
/-- WheelTables.differences -/
theorem x_differences {ξ : Xs} {mid dyn : List ACell} {v : Nat → Int64} {n : Nat} (hn : n ≤ 7) (hn1 : 1 ≤ n) : Ct yX0_differences (ws_ yX0_differences cX0_differences 4 none) 0 0 0 [.ref 0, .int (nI n)] (XM (xB ξ 11 v) mid dyn) (Q1 none (XM (xB ξ 11 (dfL n v (n - 1))) mid dyn)) noX := by
  refine Ct.of (ini := false) (ls := [some (.ref 0), some (.int (nI n)), none, none]) (by decide) (Nat.le_of_ble_eq_true rfl) (fun h => by cases h) rfl ?_
  refine e_iconst 1 dX0_differences_0 rfl ?_
  refine e_istore_n dX0_differences_1 2 rfl (ls_s (ls_1 rfl)) (Nat.le_of_ble_eq_true rfl) ?_
  exact x_df1 hn hn1 (n + 1) 1 v (by omega) (by omega) rfl ⟨rfl, rfl⟩

