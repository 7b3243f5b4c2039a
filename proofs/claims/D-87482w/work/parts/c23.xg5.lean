/-! ===== the component: steps ===== -/
set_option maxHeartbeats 4000000 in
set_option maxRecDepth 100000 in
/-- a loop of steps -/
theorem x_steps_loop {ξ : Xs} {mid dyn : List ACell} {v : Nat → Int64} {n : Nat} (hn : n ≤ 7) {Q : Qfun} : ∀ (fuel : Nat) (c : Nat) (y : Int32) (w : Nat → Int64), c + 1 ≤ n → c < fuel → (c = 0 ∧ y = -1) ∨ (0 < c ∧ y = nI (c - 1)) → w = stP c n v → Q none (XM (xB ξ 11 (stP 0 n v)) mid dyn) →
    E cX0_steps (RX0, none, 3, 0, (0, 0), false, []) Q noX 0 0 4 [some (.ref 0), some (.int (nI n)), some (.int y)] [] (XM (xB ξ 11 w) mid dyn) := by
  intro fuel
  induction fuel with
  | zero => intro c y w hc hf hy hw hQ; exact absurd hf (by omega)
  | succ fuel ih =>
    intro c y w hc hf hy hw hQ
    refine e_iload_n dX0_steps_4 2 rfl rfl ?_
    refine e_if_lt 31 dX0_steps_5 (by decide) (fun h5 => ?_) (fun h5 => ?_)
    · refine e_return dX0_steps_31 rfl (Nat.zero_le _) (Nat.zero_le _) ?_
      have e1 : c = 0 := by
        rcases hy with ⟨e1, -⟩ | ⟨e1, e2⟩
        · exact e1
        · rw [e2] at h5; exact absurd h5 (nI_pos (by omega))
      rw [hw, e1]; exact hQ
    · obtain ⟨q, rfl, rfl⟩ : ∃ q, c = q + 1 ∧ y = nI q := by
        rcases hy with ⟨e1, e2⟩ | ⟨e1, e2⟩
        · rw [e2] at h5; exact absurd (show (-1 : Int32) < 0 by decide) h5
        · exact ⟨c - 1, by omega, e2⟩
      refine e_aload_n dX0_steps_8 0 rfl rfl rfl ?_
      refine e_getf (v := (.ref 8)) dX0_steps_9 rfl fX0_56 (xm_o0) rfl ?_
      refine e_iload_n dX0_steps_12 2 rfl rfl ?_
      refine e_dup2 dX0_steps_13 rfl rfl ?_
      refine e_lald (f := w) (j := q) dX0_steps_14 (xm_a11) rfl (by omega) (by decide) ?_
      refine e_aload_n dX0_steps_15 0 rfl rfl rfl ?_
      refine e_getf (v := (.ref 8)) dX0_steps_16 rfl fX0_56 (xm_o0) rfl ?_
      refine e_iload_n dX0_steps_19 2 rfl rfl ?_
      refine e_iconst 1 dX0_steps_20 rfl ?_
      refine e_iaddN q 1 dX0_steps_21 ?_
      refine e_lald (f := w) (j := q + 1) dX0_steps_22 (xm_a11) rfl (by omega) (by decide) ?_
      refine e_lsub dX0_steps_23 ?_
      refine e_last (f := w) (j := q) dX0_steps_24 (xm_a11) rfl (by omega) (by decide) ?_
      rw [xm_s11]
      refine e_iinc ((nI q) + (-1)) dX0_steps_25 rfl rfl (ls_s (ls_1 rfl)) (Nat.le_of_ble_eq_true rfl) ?_
      refine e_goto 4 dX0_steps_28 (by decide) ?_
      rw [xB_xB]
      refine ih q _ _ (by omega) (by omega) ?_ (by rw [hw]; exact stP_s (by omega)) hQ
      by_cases e1 : q = 0
      · subst e1; exact Or.inl ⟨rfl, by decide⟩
      · refine Or.inr ⟨by omega, ?_⟩
        obtain ⟨z, rfl⟩ : ∃ z, q = z + 1 := ⟨q - 1, by omega⟩
        exact decS z

set_option maxHeartbeats 4000000 in
set_option maxRecDepth 100000 in
/-- WheelTables.steps -/
theorem x_steps {ξ : Xs} {mid dyn : List ACell} {v : Nat → Int64} {n : Nat} (hn : n ≤ 7) (hn1 : 1 ≤ n) : Ct yX0_steps (ws_ yX0_steps cX0_steps 3 none) 0 0 0 [.ref 0, .int (nI n)] (XM (xB ξ 11 v) mid dyn) (Q1 none (XM (xB ξ 11 (stP 0 n v)) mid dyn)) noX := by
  refine Ct.of (ini := false) (ls := [some (.ref 0), some (.int (nI n)), none]) (by decide) (Nat.le_of_ble_eq_true rfl) (fun h => by cases h) rfl ?_
  refine e_iload_n dX0_steps_0 1 rfl rfl ?_
  refine e_iconst 2 dX0_steps_1 rfl ?_
  refine e_isub dX0_steps_2 ?_
  refine e_istore_n dX0_steps_3 2 rfl (ls_s (ls_1 rfl)) (Nat.le_of_ble_eq_true rfl) ?_
  refine x_steps_loop hn (n + 1) (n - 1) _ v (by omega) (by omega) ?_ (stP_hi (by omega)).symm ⟨rfl, rfl⟩
  by_cases e1 : n = 1
  · subst e1; exact Or.inl ⟨rfl, by decide⟩
  · exact Or.inr ⟨by omega, by rw [show n - 1 - 1 = n - 2 by omega]; exact pk_sub (b := 2) (by omega)⟩

/-- t steps of a whole row -/
def stT (n : Nat) (v : Nat → Int64) : Nat → Nat → Int64
  | 0 => v
  | t + 1 => stP 0 n (stT n v t)
theorem ahV_cgx {n lo : Nat} {v w : Nat → Int64} (h : ∀ i, lo ≤ i → i < n → v i = w i) : ∀ d, lo + d + 1 ≤ n → ahV n v d = ahV n w d
  | 0, hd => h _ (by omega) (by omega)
  | d + 1, hd => by
    rw [ahV, ahV, ahV_cgx h d (by omega), h _ (by omega) (by omega)]
/-- the row ahead, whole steps or those that count -/
theorem bkT_st {n : Nat} {v : Nat → Int64} : ∀ (s k : Nat), 2 * s ≤ k → k < n → bkT n v s k = stT n v s k
  | 0, _, _, _ => rfl
  | s + 1, k, hk, hn => by
    rw [bkT, stT]
    unfold stP
    rw [if_pos ⟨by omega, hn⟩, if_pos ⟨by omega, hn⟩]
    exact ahV_cgx (lo := 2 * s) (fun i h1 h2 => bkT_st s i h1 h2) _ (by omega)
theorem bkT_lo {n : Nat} {v : Nat → Int64} {k : Nat} : ∀ (d s : Nat), k < 2 * (s + 1) → bkT n v (s + d) k = bkT n v s k
  | 0, _, _ => rfl
  | d + 1, s, hk => by
    rw [show s + (d + 1) = (s + d) + 1 by omega, bkT]
    unfold stP
    rw [if_neg (by omega)]
    exact bkT_lo d s hk
/-- the axis a shows the row after a / 2 steps -/
theorem bkN_st {n : Nat} {v : Nat → Int64} {a : Nat} (ha : a < n) (hn : n ≤ 7) : bkN n v a = stT n (dfL n v (n - 1)) (a / 2) a := by
  have h := bkT_lo (n := n) (v := dfL n v (n - 1)) (k := a) (3 - a / 2) (a / 2) (by omega)
  rw [show a / 2 + (3 - a / 2) = 3 by omega] at h
  rw [bkN, h]
  exact bkT_st _ _ (by omega) ha
