/-! ===== the twin: tokens (2) ===== -/
theorem lk_lt {f : Nat → Int32} {n e : Nat} (h : isLt (lkN f n e) ∨ isDg (lkN f n e)) : e < n := by
  rcases Nat.lt_or_ge e n with h1 | h1
  · exact h1
  · have e1 : lkN f n e = 0 := by unfold lkN; rw [if_neg (by omega)]
    rw [e1] at h
    rcases h with h | h
    · exact absurd h.1 (by decide)
    · exact absurd h.1 (by decide)
set_option maxHeartbeats 4000000 in
set_option maxRecDepth 100000 in
/-- a loop of next -/
theorem t_nx2 {pre post : List ACell} {τ0 : Tw} (hp : pre.length = 56) {f : Nat → Int32} {n : Nat} (hn : n ≤ 500) (e30 : τ0.1 30 = nI n) (e28 : τ0.2.2.1 28 = f) {a : Nat} {v : Int32} {Q : Qfun} : ∀ (fuel : Nat) (e : Nat) (w : Int64) (τ : Tw), e ≤ n → a ≤ e → n < e + fuel → Sx [35, 36, 37, 38] [39, 40] [] [] τ τ0 → τ.1 36 = nI a → τ.1 37 = nI e → τ.2.1 39 = w → τ.1 35 = 1 → (∀ τ : Tw, Sx [35, 36, 37, 38] [39, 40] [] [] τ τ0 → τ.1 36 = nI a → τ.1 37 = nI (wdN f n a fuel e w).1 → (wdN f n a fuel e w).1 ≤ n → a ≤ (wdN f n a fuel e w).1 → τ.2.1 39 = (wdN f n a fuel e w).2 → τ.1 35 = 1 → E cX4_next (RX4, none, 2, 1, (0, 0), false, []) Q noX 0 0 182 [some (.ref 56), some (.int v)] [] (TW pre τ post)) →
    E cX4_next (RX4, none, 2, 1, (0, 0), false, []) Q noX 0 0 109 [some (.ref 56), some (.int v)] [] (TW pre τ post) := by
  intro fuel
  induction fuel with
  | zero => intro e w τ hen hae hf hS h36 h37 hw h35 hE; exact absurd hf (by omega)
  | succ fuel ih =>
    intro e w τ hen hae hf hS h36 h37 hw h35 hE
    have e30t : τ.1 30 = nI n := by rw [hS.1 30 (by decide)]; exact e30
    have e28t : τ.2.2.1 28 = f := by rw [hS.2.2.1 28 (by simp)]; exact e28
    refine e_aload_n dX4_next_109 0 rfl rfl rfl ?_
    refine e_aload_n dX4_next_110 0 rfl rfl rfl ?_
    refine e_getf (v := .int (τ.1 37)) dX4_next_111 rfl fX4_366 (tw_o hp) rfl ?_
    refine e_top (congrArg Value.int h37) ?_
    refine e_callV1 (As := [.int (nI e)]) (rest := []) dX4_next_114 rfl mvX4_372 (tw_o hp) rfl (t_look hp (show e ≤ 501 by omega) hn (by exact e30t)) (Nat.le_of_ble_eq_true rfl) rfl rfl (Nat.le_of_ble_eq_true rfl) (Nat.zero_le _) (Nat.zero_le _) ?_
    refine e_callSB (As := [.int (lkN (τ.2.2.1 28) n e)]) (rest := []) dX4_next_117 rfl msX4_378 (t_isLetter (lkN (τ.2.2.1 28) n e)) (Nat.le_of_ble_eq_true rfl) rfl rfl (Nat.le_of_ble_eq_true rfl) (Nat.zero_le _) (Nat.zero_le _) (fun h117 => ?_) (fun h117 => ?_)
    · have h117 : (isLt (lkN (τ.2.2.1 28) n e)) := h117
      refine e_if_eq_f (by decide) 182 dX4_next_120 (by decide) ?_
      have hlt : e < n := lk_lt (Or.inl h117)
      refine e_aload_n dX4_next_123 0 rfl rfl rfl ?_
      refine e_aload_n dX4_next_124 0 rfl rfl rfl ?_
      refine e_getf (v := .int (τ.1 37)) dX4_next_125 rfl fX4_366 (tw_o hp) rfl ?_
      refine e_top (congrArg Value.int h37) ?_
      refine e_aload_n dX4_next_128 0 rfl rfl rfl ?_
      refine e_getf (v := .int (τ.1 36)) dX4_next_129 rfl fX4_369 (tw_o hp) rfl ?_
      refine e_top (congrArg Value.int h36) ?_
      refine e_isubN e a (by omega) dX4_next_132 ?_
      refine e_bipush 12 dX4_next_133 rfl ?_
      refine e_icmp_geN (e - a) 12 163 (by omega) (by omega) dX4_next_135 (by decide) (fun h135 => ?_) (fun h135 => ?_)
      · refine e_ldc2 rfl q1457 dX4_next_163 ?_
        refine e_tputL dX4_next_166 rfl pX4_381 hp (Nat.le_of_ble_eq_true rfl) (tw_f39 _) ?_
        refine e_aload_n dX4_next_169 0 rfl rfl rfl ?_
        refine e_dup dX4_next_170 rfl ?_
        refine e_getf (v := .int (τ.1 37)) dX4_next_171 rfl fX4_366 (tw_o hp) rfl ?_
        refine e_top (congrArg Value.int h37) ?_
        refine e_iconst 1 dX4_next_174 rfl ?_
        refine e_iaddN e 1 dX4_next_175 ?_
        refine e_tputI dX4_next_176 rfl pX4_366 rfl hp (Nat.le_of_ble_eq_true rfl) (tw_f37 _) ?_
        refine e_goto 109 dX4_next_179 (by decide) ?_
        rw [e28t] at h117
        have eW : wdN f n a (fuel + 1) e w = wdN f n a fuel (e + 1) (-1) := by rw [wdN, if_pos h117, if_neg (show ¬ e < a + 12 by omega)]
        rw [eW] at hE
        exact ih (e + 1) _ _ (by omega) (by omega) (by omega) ((hS.L _ (by decide)).I _ (by decide)) h36 rfl rfl h35 hE
      · refine e_aload_n dX4_next_138 0 rfl rfl rfl ?_
        refine e_getf (v := .long (τ.2.1 39)) dX4_next_139 rfl fX4_381 (tw_o hp) rfl ?_
        refine e_ldc2 rfl q1620 dX4_next_142 ?_
        refine e_lmul dX4_next_145 ?_
        refine e_aload_n dX4_next_146 0 rfl rfl rfl ?_
        refine e_aload_n dX4_next_147 0 rfl rfl rfl ?_
        refine e_getf (v := .int (τ.1 37)) dX4_next_148 rfl fX4_366 (tw_o hp) rfl ?_
        refine e_top (congrArg Value.int h37) ?_
        refine e_callV1 (As := [.int (nI e)]) (rest := [.long ((τ.2.1 39) * 32), .ref 56]) dX4_next_151 rfl mvX4_372 (tw_o hp) rfl (t_look hp (show e ≤ 501 by omega) hn (by exact e30t)) (Nat.le_of_ble_eq_true rfl) rfl rfl (Nat.le_of_ble_eq_true rfl) (Nat.zero_le _) (Nat.zero_le _) ?_
        refine e_i2l dX4_next_154 ?_
        refine e_ladd dX4_next_155 ?_
        refine e_ldc2 rfl q1621 dX4_next_156 ?_
        refine e_lsub dX4_next_159 ?_
        refine e_goto 166 dX4_next_160 (by decide) ?_
        refine e_tputL dX4_next_166 rfl pX4_381 hp (Nat.le_of_ble_eq_true rfl) (tw_f39 _) ?_
        refine e_aload_n dX4_next_169 0 rfl rfl rfl ?_
        refine e_dup dX4_next_170 rfl ?_
        refine e_getf (v := .int (τ.1 37)) dX4_next_171 rfl fX4_366 (tw_o hp) rfl ?_
        refine e_top (congrArg Value.int h37) ?_
        refine e_iconst 1 dX4_next_174 rfl ?_
        refine e_iaddN e 1 dX4_next_175 ?_
        refine e_tputI dX4_next_176 rfl pX4_366 rfl hp (Nat.le_of_ble_eq_true rfl) (tw_f37 _) ?_
        refine e_goto 109 dX4_next_179 (by decide) ?_
        rw [e28t] at h117
        have eW : wdN f n a (fuel + 1) e w = wdN f n a fuel (e + 1) (w * 32 + (lkN f n e).toInt64 - 96) := by rw [wdN, if_pos h117, if_pos (show e < a + 12 by omega)]
        rw [eW] at hE
        exact ih (e + 1) _ _ (by omega) (by omega) (by omega) ((hS.L _ (by decide)).I _ (by decide)) h36 rfl (by show τ.2.1 39 * 32 + (lkN (τ.2.2.1 28) n e).toInt64 - 96 = _; rw [hw, e28t]) h35 hE
    · have h117 : ¬ (isLt (lkN (τ.2.2.1 28) n e)) := h117
      refine e_if_eq_t 182 (by decide) dX4_next_120 (by decide) ?_
      rw [e28t] at h117
      have eW : wdN f n a (fuel + 1) e w = (e, w) := by rw [wdN, if_neg h117]
      rw [eW] at hE
      exact hE τ hS h36 h37 hen hae hw h35

