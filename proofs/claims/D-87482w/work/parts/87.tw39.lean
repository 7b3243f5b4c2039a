/-! ===== the twin: tokens ===== -/
set_option maxHeartbeats 4000000 in
set_option maxRecDepth 100000 in
/-- a loop of next -/
theorem t_nx1 {pre post : List ACell} {τ0 : Tw} (hp : pre.length = 56) {f : Nat → Int32} {n : Nat} (hn : n ≤ 500) (e30 : τ0.1 30 = nI n) (e28 : τ0.2.2.1 28 = f) {Q : Qfun} : ∀ (fuel : Nat) (p : Nat) (τ : Tw), p ≤ n → n < p + fuel → Sx [35, 36, 37, 38] [39, 40] [] [] τ τ0 → τ.1 36 = nI p → (∀ τ : Tw, Sx [35, 36, 37, 38] [39, 40] [] [] τ τ0 → τ.1 36 = nI (skN f n fuel p) → E cX4_next (RX4, none, 2, 1, (0, 0), false, []) Q noX 0 0 58 [some (.ref 56), none] [] (TW pre τ post)) →
    E cX4_next (RX4, none, 2, 1, (0, 0), false, []) Q noX 0 0 8 [some (.ref 56), none] [] (TW pre τ post) := by
  intro fuel
  induction fuel with
  | zero => intro p τ hpn hf hS h36 hE; exact absurd hf (by omega)
  | succ fuel ih =>
    intro p τ hpn hf hS h36 hE
    have e30t : τ.1 30 = nI n := by rw [hS.1 30 (by decide)]; exact e30
    have e28t : τ.2.2.1 28 = f := by rw [hS.2.2.1 28 (by simp)]; exact e28
    refine e_aload_n dX4_next_8 0 rfl rfl rfl ?_
    refine e_getf (v := .int (τ.1 36)) dX4_next_9 rfl fX4_369 (tw_o hp) rfl ?_
    refine e_top (congrArg Value.int h36) ?_
    refine e_aload_n dX4_next_12 0 rfl rfl rfl ?_
    refine e_getf (v := .int (τ.1 30)) dX4_next_13 rfl fX4_363 (tw_o hp) rfl ?_
    refine e_top (congrArg Value.int e30t) ?_
    refine e_icmp_geN p n 58 (by omega) (by omega) dX4_next_16 (by decide) (fun h16 => ?_) (fun h16 => ?_)
    · have e1 : skN f n (fuel + 1) p = p := by rw [skN, if_neg (fun z => absurd z.1 (by omega))]
      exact hE τ hS (by rw [e1]; exact h36)
    · refine e_aload_n dX4_next_19 0 rfl rfl rfl ?_
      refine e_aload_n dX4_next_20 0 rfl rfl rfl ?_
      refine e_getf (v := .int (τ.1 36)) dX4_next_21 rfl fX4_369 (tw_o hp) rfl ?_
      refine e_top (congrArg Value.int h36) ?_
      refine e_callV1 (As := [.int (nI p)]) (rest := []) dX4_next_24 rfl mvX4_372 (tw_o hp) rfl (t_look hp (show p ≤ 501 by omega) hn (by exact e30t)) (Nat.le_of_ble_eq_true rfl) rfl rfl (Nat.le_of_ble_eq_true rfl) (Nat.zero_le _) (Nat.zero_le _) ?_
      refine e_bipush 10 dX4_next_27 rfl ?_
      refine e_icmp_eq 45 dX4_next_29 (by decide) (fun h29 => ?_) (fun h29 => ?_)
      · refine e_aload_n dX4_next_45 0 rfl rfl rfl ?_
        refine e_dup dX4_next_46 rfl ?_
        refine e_getf (v := .int (τ.1 36)) dX4_next_47 rfl fX4_369 (tw_o hp) rfl ?_
        refine e_top (congrArg Value.int h36) ?_
        refine e_iconst 1 dX4_next_50 rfl ?_
        refine e_iaddN p 1 dX4_next_51 ?_
        refine e_tputI dX4_next_52 rfl pX4_369 rfl hp (Nat.le_of_ble_eq_true rfl) (tw_f36 _) ?_
        refine e_goto 8 dX4_next_55 (by decide) ?_
        have e1 : skN f n (fuel + 1) p = skN f n fuel (p + 1) := by rw [skN, ← e28t, if_pos ⟨by omega, Or.inl h29⟩]
        rw [e1] at hE
        exact ih (p + 1) _ (by omega) (by omega) (hS.I _ (by decide)) rfl hE
      · refine e_aload_n dX4_next_32 0 rfl rfl rfl ?_
        refine e_aload_n dX4_next_33 0 rfl rfl rfl ?_
        refine e_getf (v := .int (τ.1 36)) dX4_next_34 rfl fX4_369 (tw_o hp) rfl ?_
        refine e_top (congrArg Value.int h36) ?_
        refine e_callV1 (As := [.int (nI p)]) (rest := []) dX4_next_37 rfl mvX4_372 (tw_o hp) rfl (t_look hp (show p ≤ 501 by omega) hn (by exact e30t)) (Nat.le_of_ble_eq_true rfl) rfl rfl (Nat.le_of_ble_eq_true rfl) (Nat.zero_le _) (Nat.zero_le _) ?_
        refine e_bipush 32 dX4_next_40 rfl ?_
        refine e_icmp_ne 58 dX4_next_42 (by decide) (fun h42 => ?_) (fun h42 => ?_)
        · have e1 : skN f n (fuel + 1) p = p := by rw [skN, ← e28t, if_neg (fun z => z.2.elim h29 h42)]
          exact hE τ hS (by rw [e1]; exact h36)
        · refine e_aload_n dX4_next_45 0 rfl rfl rfl ?_
          refine e_dup dX4_next_46 rfl ?_
          refine e_getf (v := .int (τ.1 36)) dX4_next_47 rfl fX4_369 (tw_o hp) rfl ?_
          refine e_top (congrArg Value.int h36) ?_
          refine e_iconst 1 dX4_next_50 rfl ?_
          refine e_iaddN p 1 dX4_next_51 ?_
          refine e_tputI dX4_next_52 rfl pX4_369 rfl hp (Nat.le_of_ble_eq_true rfl) (tw_f36 _) ?_
          refine e_goto 8 dX4_next_55 (by decide) ?_
          have e1 : skN f n (fuel + 1) p = skN f n fuel (p + 1) := by rw [skN, ← e28t, if_pos ⟨by omega, Or.inr h42⟩]
          rw [e1] at hE
          exact ih (p + 1) _ (by omega) (by omega) (hS.I _ (by decide)) rfl hE

