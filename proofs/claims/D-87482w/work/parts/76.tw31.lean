/-! ===== the twin: run ===== -/
set_option maxHeartbeats 4000000 in
set_option maxRecDepth 100000 in
/-- a loop of run -/
theorem t_run0 {pre post : List ACell} {τ0 : Tw} (hp : pre.length = 56) {Q : Qfun} : ∀ (fuel : Nat) (k : Nat) (w : Nat → Int64), k ≤ 20 → 20 < k + fuel → E cX4_run (RX4, (some .int), 2, 3, (0, 0), false, []) Q noX 0 0 45 [some (.ref 56), none] [] (TW pre (tB τ0 58 (zroL w k (20 - k))) post) →
    E cX4_run (RX4, (some .int), 2, 3, (0, 0), false, []) Q noX 0 0 26 [some (.ref 56), some (.int (nI k))] [] (TW pre (tB τ0 58 w) post) := by
  intro fuel
  induction fuel with
  | zero => intro k w hk hf hQ; exact absurd hf (by omega)
  | succ fuel ih =>
    intro k w hk hf hQ
    refine e_iload_n dX4_run_26 1 rfl rfl ?_
    refine e_bipush 20 dX4_run_27 rfl ?_
    refine e_icmp_geN k 20 45 (by omega) (by omega) dX4_run_29 (by decide) (fun h29 => ?_) (fun h29 => ?_)
    · refine e_forget (i := 1) (ln_s ln_0) ?_
      have e1 : 20 - k = 0 := by omega
      rw [e1, zroL_0] at hQ
      exact hQ
    · refine e_aload_n dX4_run_32 0 rfl rfl rfl ?_
      refine e_getf (v := .ref 90) dX4_run_33 rfl fX4_128 (tw_o hp) rfl ?_
      refine e_iload_n dX4_run_36 1 rfl rfl ?_
      refine e_lconst 0 dX4_run_37 rfl ?_
      refine e_last (f := w) (j := k) dX4_run_38 (tw_a58 hp) rfl (by omega) (by decide) ?_
      rw [tw_s58 hp]
      refine e_incN k (k + 1) (inc1 _) dX4_run_39 rfl (ls_1 rfl) (Nat.le_of_ble_eq_true rfl) ?_
      refine e_goto 26 dX4_run_42 (by decide) ?_
      rw [tB_tB]
      refine ih (k + 1) _ (by omega) (by omega) ?_
      have e1 : 20 - k = 20 - (k + 1) + 1 := by omega
      rw [e1, ← zroL_s] at hQ
      exact hQ

set_option maxHeartbeats 4000000 in
set_option maxRecDepth 100000 in
/-- WheelTablesModel.run -/
theorem t_run {pre post : List ACell} {τ : Tw} (hp : pre.length = 56) (hM : InvM τ) : Ct yX4_run (ws_ yX4_run cX4_run 2 (some .int)) 3 0 0 [.ref 56] (TW pre τ post) (TQi pre post (sp_run τ)) noX := by
  refine Ct.of (ini := false) (ls := [some (.ref 56), none]) (by decide) (Nat.le_of_ble_eq_true rfl) (fun h => by cases h) rfl ?_
  refine e_aload_n dX4_run_0 0 rfl rfl rfl ?_
  refine e_iconst 0 dX4_run_1 rfl ?_
  refine e_tputI dX4_run_2 rfl pX4_212 rfl hp (Nat.le_of_ble_eq_true rfl) (tw_f1 _) ?_
  refine e_aload_n dX4_run_5 0 rfl rfl rfl ?_
  refine e_iconst 0 dX4_run_6 rfl ?_
  refine e_tputI dX4_run_7 rfl pX4_215 rfl hp (Nat.le_of_ble_eq_true rfl) (tw_f0 _) ?_
  refine e_aload_n dX4_run_10 0 rfl rfl rfl ?_
  refine e_getf (v := .int (τ.1 41)) dX4_run_11 rfl fX4_80 (tw_o hp) rfl ?_
  refine e_if_ge 24 dX4_run_14 (by decide) (fun h14 => ?_) (fun h14 => ?_)
  · refine e_iconst 0 dX4_run_24 rfl ?_
    refine e_istore_n dX4_run_25 1 rfl (ls_1 rfl) (Nat.le_of_ble_eq_true rfl) ?_
    refine E_mem (show TW pre (tB (tI (tI τ 1 0) 0 0) 58 ((tI (tI τ 1 0) 0 0).2.2.2 58)) post = _ by rw [tB_self]) ?_
    refine t_run0 (τ0 := tI (tI τ 1 0) 0 0) hp 21 0 _ (by omega) (by omega) ?_
    refine e_aload_n dX4_run_45 0 rfl rfl rfl ?_
    refine e_iconst 1 dX4_run_46 rfl ?_
    refine e_tputI dX4_run_47 rfl pX4_479 rfl hp (Nat.le_of_ble_eq_true rfl) (tw_f60 _) ?_
    refine e_aload_n dX4_run_50 0 rfl rfl rfl ?_
    refine e_iconst 0 dX4_run_51 rfl ?_
    refine e_tputI dX4_run_52 rfl pX4_464 rfl hp (Nat.le_of_ble_eq_true rfl) (tw_f61 _) ?_
    refine e_aload_n dX4_run_55 0 rfl rfl rfl ?_
    refine e_iconst 0 dX4_run_56 rfl ?_
    refine e_tputI dX4_run_57 rfl pX4_461 rfl hp (Nat.le_of_ble_eq_true rfl) (tw_f62 _) ?_
    refine e_aload_n dX4_run_60 0 rfl rfl rfl ?_
    refine e_iconst 0 dX4_run_61 rfl ?_
    refine e_tputI dX4_run_62 rfl pX4_468 rfl hp (Nat.le_of_ble_eq_true rfl) (tw_f63 _) ?_
    refine e_aload_n dX4_run_65 0 rfl rfl rfl ?_
    refine e_iconst 0 dX4_run_66 rfl ?_
    refine e_tputI dX4_run_67 rfl pX4_482 rfl hp (Nat.le_of_ble_eq_true rfl) (tw_f64 _) ?_
    refine e_aload_n dX4_run_70 0 rfl rfl rfl ?_
    refine e_iconst (-1) dX4_run_71 rfl ?_
    refine e_tputI dX4_run_72 rfl pX4_134 rfl hp (Nat.le_of_ble_eq_true rfl) (tw_f65 _) ?_
    refine e_aload_n dX4_run_75 0 rfl rfl rfl ?_
    refine e_iconst 0 dX4_run_76 rfl ?_
    refine e_tputI dX4_run_77 rfl pX4_485 rfl hp (Nat.le_of_ble_eq_true rfl) (tw_f66 _) ?_
    refine e_iconst 0 dX4_run_80 rfl ?_
    refine e_istore_n dX4_run_81 1 rfl (ls_1 rfl) (Nat.le_of_ble_eq_true rfl) ?_
    have hn : ¬ τ.1 41 < 0 := Int32.not_lt.mpr h14
    obtain ⟨n, hn40, e41, hC⟩ : ∃ n, n ≤ 40 ∧ τ.1 41 = nI n ∧ ∀ k, k < n → CdOk τ n k := hM.elim (fun z => absurd (by rw [z]; decide) hn) id
    have eS : sp_run τ = ((runN 5002 0 (run0 τ)).1 62, runN 5002 0 (run0 τ)) := by rw [sp_run, if_neg hn]
    refine t_run_loop hp hn40 5002 0 0 0 _ (run0 τ) (by omega) (by omega) (by omega) Sx.rf (by exact e41) rfl (by omega) rfl (fun q hq => CdOk.cg (ς := τ) rfl rfl rfl rfl rfl (hC q hq)) (fun τ2 h2 => ?_)
    exact TQi.q eS (h2.q (by decide) (by decide) (by decide))
  · refine e_aload_n dX4_run_17 0 rfl rfl rfl ?_
    refine e_bipush 8 dX4_run_18 rfl ?_
    refine e_callV1 (As := [.int 8]) (rest := []) dX4_run_20 rfl mvX4_252 (tw_o hp) rfl (t_refuse hp 8) (Nat.le_of_ble_eq_true rfl) rfl rfl (Nat.le_of_ble_eq_true rfl) (Nat.zero_le _) (Nat.zero_le _) ?_
    refine e_ireturn dX4_run_23 rfl rfl (Nat.zero_le _) (Nat.zero_le _) ?_
    refine TQi.of ?_
    rw [sp_run, if_pos (Int32.not_le.mp h14)]
    rfl

