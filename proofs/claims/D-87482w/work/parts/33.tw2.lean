/-! ===== the twin: trays ===== -/
set_option maxHeartbeats 4000000 in
set_option maxRecDepth 100000 in
/-- WheelTablesModel.trayed -/
theorem t_trayed {pre post : List ACell} {τ : Tw} (hp : pre.length = 56) (hI : InvT τ) (t : Int32) : Ct yX4_trayed (ws_ yX4_trayed cX4_trayed 2 (some .int)) 0 0 0 [.ref 56, .int t] (TW pre τ post) (Q1 (some (.int (spT t τ))) (TW pre τ post)) noX := by
  refine Ct.of (ini := false) (ls := [some (.ref 56), some (.int t)]) (by decide) (Nat.le_of_ble_eq_true rfl) (fun h => by cases h) rfl ?_
  refine e_iload_n dX4_trayed_0 1 rfl rfl ?_
  refine e_if_lt 9 dX4_trayed_1 (by decide) (fun h1 => ?_) (fun h1 => ?_)
  · refine e_iconst 1 dX4_trayed_9 rfl ?_
    refine e_goto 27 dX4_trayed_10 (by decide) ?_
    refine e_ireturn dX4_trayed_27 rfl rfl (Nat.zero_le _) (Nat.zero_le _) ?_
    refine ⟨?_, rfl⟩
    simp only [spT, h1, i32_lt h1, or_true, true_or, or_self, or_false, false_or, and_true, true_and, and_false, false_and, if_true, if_false, not_true_eq_false, not_false_eq_true]
  · refine e_iload_n dX4_trayed_4 1 rfl rfl ?_
    refine e_iconst 4 dX4_trayed_5 rfl ?_
    refine e_icmp_lt 13 dX4_trayed_6 (by decide) (fun h6 => ?_) (fun h6 => ?_)
    · obtain ⟨j, hj, rfl⟩ := in_lt (x := t) 4 (by decide) h1 h6
      refine e_aload_n dX4_trayed_13 0 rfl rfl rfl ?_
      refine e_getf (v := .ref 58) dX4_trayed_14 rfl fX4_13 (tw_o hp) rfl ?_
      refine e_iload_n dX4_trayed_17 1 rfl rfl ?_
      refine e_iald (f := τ.2.2.1 3) (j := j) dX4_trayed_18 (tw_a3 hp) rfl (by omega) (by decide) ?_
      refine e_if_ge 26 dX4_trayed_19 (by decide) (fun h19 => ?_) (fun h19 => ?_)
      · refine e_iconst 0 dX4_trayed_26 rfl ?_
        refine e_ireturn dX4_trayed_27 rfl rfl (Nat.zero_le _) (Nat.zero_le _) ?_
        refine ⟨?_, rfl⟩
        simp only [spT, h1, i32_nlt h1, h6, i32_lt h6, h19, i32_le h19, ix_nI (show j < 2147483648 by omega), or_true, true_or, or_self, or_false, false_or, and_true, true_and, and_false, false_and, if_true, if_false, not_true_eq_false, not_false_eq_true]
      · refine e_iconst 3 dX4_trayed_22 rfl ?_
        refine e_goto 27 dX4_trayed_23 (by decide) ?_
        refine e_ireturn dX4_trayed_27 rfl rfl (Nat.zero_le _) (Nat.zero_le _) ?_
        refine ⟨?_, rfl⟩
        simp only [spT, h1, i32_nlt h1, h6, i32_lt h6, h19, i32_nle h19, ix_nI (show j < 2147483648 by omega), or_true, true_or, or_self, or_false, false_or, and_true, true_and, and_false, false_and, if_true, if_false, not_true_eq_false, not_false_eq_true]
    · refine e_iconst 1 dX4_trayed_9 rfl ?_
      refine e_goto 27 dX4_trayed_10 (by decide) ?_
      refine e_ireturn dX4_trayed_27 rfl rfl (Nat.zero_le _) (Nat.zero_le _) ?_
      refine ⟨?_, rfl⟩
      simp only [spT, h1, i32_nlt h1, h6, i32_nlt h6, or_true, true_or, or_self, or_false, false_or, and_true, true_and, and_false, false_and, if_true, if_false, not_true_eq_false, not_false_eq_true]

set_option maxHeartbeats 4000000 in
set_option maxRecDepth 100000 in
/-- WheelTablesModel.placed -/
theorem t_placed {pre post : List ACell} {τ : Tw} (hp : pre.length = 56) (hI : InvT τ) (t k : Int32) : Ct yX4_placed (ws_ yX4_placed cX4_placed 4 (some .int)) 1 0 0 [.ref 56, .int t, .int k] (TW pre τ post) (Q1 (some (.int (spP t k τ))) (TW pre τ post)) noX := by
  refine Ct.of (ini := false) (ls := [some (.ref 56), some (.int t), some (.int k), none]) (by decide) (Nat.le_of_ble_eq_true rfl) (fun h => by cases h) rfl ?_
  refine e_aload_n dX4_placed_0 0 rfl rfl rfl ?_
  refine e_iload_n dX4_placed_1 1 rfl rfl ?_
  refine e_callV1 (As := [.int t]) (rest := []) dX4_placed_2 rfl mvX4_222 (tw_o hp) rfl (t_trayed hp (by exact hI) t) (Nat.le_of_ble_eq_true rfl) rfl rfl (Nat.le_of_ble_eq_true rfl) (Nat.zero_le _) (Nat.zero_le _) ?_
  refine e_istore_n dX4_placed_5 3 rfl (ls_s (ls_s (ls_1 rfl))) (Nat.le_of_ble_eq_true rfl) ?_
  refine e_iload_n dX4_placed_6 3 rfl rfl ?_
  refine e_if_le 14 dX4_placed_7 (by decide) (fun h7 => ?_) (fun h7 => ?_)
  · refine e_iload_n dX4_placed_14 2 rfl rfl ?_
    refine e_if_lt 28 dX4_placed_15 (by decide) (fun h15 => ?_) (fun h15 => ?_)
    · refine e_iconst 4 dX4_placed_28 rfl ?_
      refine e_goto 33 dX4_placed_29 (by decide) ?_
      refine e_ireturn dX4_placed_33 rfl rfl (Nat.zero_le _) (Nat.zero_le _) ?_
      refine ⟨?_, rfl⟩
      simp only [spP, h7, i32_le h7, h15, i32_lt h15, or_true, true_or, or_self, or_false, false_or, and_true, true_and, and_false, false_and, if_true, if_false, not_true_eq_false, not_false_eq_true]
    · obtain ⟨-, j, hj, rfl, -⟩ := spT_0 hI (i32_le h7)
      refine e_iload_n dX4_placed_18 2 rfl rfl ?_
      refine e_aload_n dX4_placed_19 0 rfl rfl rfl ?_
      refine e_getf (v := .ref 58) dX4_placed_20 rfl fX4_13 (tw_o hp) rfl ?_
      refine e_iload_n dX4_placed_23 1 rfl rfl ?_
      refine e_iald (f := τ.2.2.1 3) (j := j) dX4_placed_24 (tw_a3 hp) rfl (by omega) (by decide) ?_
      refine e_icmp_lt 32 dX4_placed_25 (by decide) (fun h25 => ?_) (fun h25 => ?_)
      · refine e_iconst 0 dX4_placed_32 rfl ?_
        refine e_ireturn dX4_placed_33 rfl rfl (Nat.zero_le _) (Nat.zero_le _) ?_
        refine ⟨?_, rfl⟩
        simp only [spP, h7, i32_le h7, h15, i32_nlt h15, h25, i32_lt h25, ix_nI (show j < 2147483648 by omega), or_true, true_or, or_self, or_false, false_or, and_true, true_and, and_false, false_and, if_true, if_false, not_true_eq_false, not_false_eq_true]
      · refine e_iconst 4 dX4_placed_28 rfl ?_
        refine e_goto 33 dX4_placed_29 (by decide) ?_
        refine e_ireturn dX4_placed_33 rfl rfl (Nat.zero_le _) (Nat.zero_le _) ?_
        refine ⟨?_, rfl⟩
        simp only [spP, h7, i32_le h7, h15, i32_nlt h15, h25, i32_nlt h25, ix_nI (show j < 2147483648 by omega), or_true, true_or, or_self, or_false, false_or, and_true, true_and, and_false, false_and, if_true, if_false, not_true_eq_false, not_false_eq_true]
  · refine e_iload_n dX4_placed_10 3 rfl rfl ?_
    refine e_goto 33 dX4_placed_11 (by decide) ?_
    refine e_ireturn dX4_placed_33 rfl rfl (Nat.zero_le _) (Nat.zero_le _) ?_
    refine ⟨?_, rfl⟩
    simp only [spP, h7, i32_nle h7, or_true, true_or, or_self, or_false, false_or, and_true, true_and, and_false, false_and, if_true, if_false, not_true_eq_false, not_false_eq_true]

set_option maxHeartbeats 4000000 in
set_option maxRecDepth 100000 in
/-- WheelTablesModel.cut -/
theorem t_cut {M : List ACell} (s : Int32) (v : Int64) : Ct yX4_cut (ws_ yX4_cut cX4_cut 3 (some .long)) 0 0 0 [.int s, .long v] M (Q1 (some (.long (spCut s v))) M) noX := by
  refine Ct.of (ini := false) (ls := [some (.int s), some (.long v), none]) (by decide) (Nat.le_of_ble_eq_true rfl) (fun h => by cases h) rfl ?_
  refine e_iload_n dX4_cut_0 0 rfl rfl ?_
  refine e_if_ne 11 dX4_cut_1 (by decide) (fun h1 => ?_) (fun h1 => ?_)
  · refine e_iload_n dX4_cut_11 0 rfl rfl ?_
    refine e_iconst 1 dX4_cut_12 rfl ?_
    refine e_icmp_ne 23 dX4_cut_13 (by decide) (fun h13 => ?_) (fun h13 => ?_)
    · refine e_iload_n dX4_cut_23 0 rfl rfl ?_
      refine e_iconst 2 dX4_cut_24 rfl ?_
      refine e_icmp_ne 34 dX4_cut_25 (by decide) (fun h25 => ?_) (fun h25 => ?_)
      · refine e_lload_n dX4_cut_34 1 rfl rfl ?_
        refine e_lreturn dX4_cut_35 rfl (Nat.zero_le _) (Nat.zero_le _) ?_
        refine ⟨?_, rfl⟩
        rw [spCut, if_neg h1, if_neg h13, if_neg h25]
      · refine e_lload_n dX4_cut_28 1 rfl rfl ?_
        refine e_l2i dX4_cut_29 ?_
        refine e_i2l dX4_cut_30 ?_
        refine e_goto 35 dX4_cut_31 (by decide) ?_
        refine e_lreturn dX4_cut_35 rfl (Nat.zero_le _) (Nat.zero_le _) ?_
        refine ⟨?_, rfl⟩
        rw [spCut, if_neg h1, if_neg h13, if_pos h25]
    · refine e_lload_n dX4_cut_16 1 rfl rfl ?_
      refine e_l2i dX4_cut_17 ?_
      refine e_i2s dX4_cut_18 ?_
      refine e_i2l dX4_cut_19 ?_
      refine e_goto 35 dX4_cut_20 (by decide) ?_
      refine e_lreturn dX4_cut_35 rfl (Nat.zero_le _) (Nat.zero_le _) ?_
      refine ⟨?_, rfl⟩
      rw [spCut, if_neg h1, if_pos h13]
  · refine e_lload_n dX4_cut_4 1 rfl rfl ?_
    refine e_l2i dX4_cut_5 ?_
    refine e_i2b dX4_cut_6 ?_
    refine e_i2l dX4_cut_7 ?_
    refine e_goto 35 dX4_cut_8 (by decide) ?_
    refine e_lreturn dX4_cut_35 rfl (Nat.zero_le _) (Nat.zero_le _) ?_
    refine ⟨?_, rfl⟩
    rw [spCut, if_pos h1]

set_option maxHeartbeats 4000000 in
set_option maxRecDepth 100000 in
theorem t_tray_loop {pre post : List ACell} (hp : pre.length = 56) {j n d : Nat} {s : Int32} {Q : Qfun} (hj : j < 4) (hn : n ≤ 60) : ∀ (fuel k : Nat) (τ : Tw), k ≤ n → n < k + fuel → Q (some (.int 1)) (TW pre (tB τ 4 (zroL (τ.2.2.2 4) (60 * j + k) (n - k))) post) →
    E cX4_tray (RX4, some .boolean, 5, d, (0, 0), false, []) Q noX 0 0 74 [some (.ref 56), some (.int (nI j)), some (.int s), some (.int (nI n)), some (.int (nI k))] [] (TW pre τ post) := by
  intro fuel
  induction fuel with
  | zero => intro k τ h1 h2; exact absurd h2 (by omega)
  | succ fuel ih =>
    intro k τ hk hf hQ
    refine e_iload dX4_tray_74 rfl ?_
    refine e_iload_n dX4_tray_76 3 rfl rfl ?_
    refine e_icmp_geN k n 99 (by omega) (by omega) dX4_tray_77 (by decide) (fun h77 => ?_) (fun h77 => ?_)
    · refine e_iconst 1 dX4_tray_99 rfl ?_
      refine e_ireturn dX4_tray_100 rfl rfl (Nat.zero_le _) (Nat.zero_le _) ?_
      have e : n - k = 0 := by omega
      rw [e, zroL_0] at hQ
      exact hQ
    · refine e_aload_n dX4_tray_80 0 rfl rfl rfl ?_
      refine e_getf (v := .ref 59) dX4_tray_81 rfl fX4_16 (tw_o hp) rfl ?_
      refine e_bipush 60 dX4_tray_84 rfl ?_
      refine e_iload_n dX4_tray_86 1 rfl rfl ?_
      refine e_imulN 60 j dX4_tray_87 ?_
      refine e_iload dX4_tray_88 rfl ?_
      refine e_iaddN (60 * j) k dX4_tray_90 ?_
      refine e_lconst 0 dX4_tray_91 rfl ?_
      refine e_last (f := τ.2.2.2 4) (j := (60 * j) + k) dX4_tray_92 (tw_a4 hp) rfl (by omega) (by decide) ?_
      rw [tw_s4 hp]
      refine e_incN k (k + 1) (inc1 _) dX4_tray_93 rfl (ls_s (ls_s (ls_s (ls_1 rfl)))) (Nat.le_of_ble_eq_true rfl) ?_
      refine e_goto 74 dX4_tray_96 (by decide) ?_
      refine ih (k + 1) _ (by omega) (by omega) ?_
      have e : n - k = n - (k + 1) + 1 := by omega
      rw [e, ← zroL_s] at hQ
      exact hQ
set_option maxHeartbeats 4000000 in
set_option maxRecDepth 100000 in
/-- WheelTablesModel.tray -/
theorem t_tray {pre post : List ACell} {τ : Tw} (hp : pre.length = 56) (t s n : Int32) : Ct yX4_tray (ws_ yX4_tray cX4_tray 5 (some .boolean)) 1 0 0 [.ref 56, .int t, .int s, .int n] (TW pre τ post) (TQi pre post (sp_tray t s n τ)) noX := by
  refine Ct.of (ini := false) (ls := [some (.ref 56), some (.int t), some (.int s), some (.int n), none]) (by decide) (Nat.le_of_ble_eq_true rfl) (fun h => by cases h) rfl ?_
  refine e_aload_n dX4_tray_0 0 rfl rfl rfl ?_
  refine e_iconst 0 dX4_tray_1 rfl ?_
  refine e_tputI dX4_tray_2 rfl pX4_212 rfl hp (Nat.le_of_ble_eq_true rfl) (tw_f1 _) ?_
  refine e_aload_n dX4_tray_5 0 rfl rfl rfl ?_
  refine e_iconst 0 dX4_tray_6 rfl ?_
  refine e_tputI dX4_tray_7 rfl pX4_215 rfl hp (Nat.le_of_ble_eq_true rfl) (tw_f0 _) ?_
  refine e_iload_n dX4_tray_10 1 rfl rfl ?_
  refine e_if_lt 28 dX4_tray_11 (by decide) (fun h11 => ?_) (fun h11 => ?_)
  · refine e_aload_n dX4_tray_28 0 rfl rfl rfl ?_
    refine e_iconst 1 dX4_tray_29 rfl ?_
    refine e_callV1 (As := [.int 1]) (rest := []) dX4_tray_30 rfl mvX4_218 (tw_o hp) rfl (t_no hp 1) (Nat.le_of_ble_eq_true rfl) rfl rfl (Nat.le_of_ble_eq_true rfl) (Nat.zero_le _) (Nat.zero_le _) ?_
    refine e_ireturn dX4_tray_33 rfl rfl (Nat.zero_le _) (Nat.zero_le _) ?_
    refine TQi.of ?_
    first | (simp only [sp_tray, h11, i32_lt h11, or_true, true_or, or_self, or_false, false_or, and_true, true_and, and_false, false_and, if_true, if_false, not_true_eq_false, not_false_eq_true]; done) | (simp only [sp_tray, h11, i32_lt h11, or_true, true_or, or_self, or_false, false_or, and_true, true_and, and_false, false_and, if_true, if_false, not_true_eq_false, not_false_eq_true]; rfl)
  · refine e_iload_n dX4_tray_14 1 rfl rfl ?_
    refine e_iconst 4 dX4_tray_15 rfl ?_
    refine e_icmp_ge 28 dX4_tray_16 (by decide) (fun h16 => ?_) (fun h16 => ?_)
    · refine e_aload_n dX4_tray_28 0 rfl rfl rfl ?_
      refine e_iconst 1 dX4_tray_29 rfl ?_
      refine e_callV1 (As := [.int 1]) (rest := []) dX4_tray_30 rfl mvX4_218 (tw_o hp) rfl (t_no hp 1) (Nat.le_of_ble_eq_true rfl) rfl rfl (Nat.le_of_ble_eq_true rfl) (Nat.zero_le _) (Nat.zero_le _) ?_
      refine e_ireturn dX4_tray_33 rfl rfl (Nat.zero_le _) (Nat.zero_le _) ?_
      refine TQi.of ?_
      first | (simp only [sp_tray, h11, i32_nlt h11, h16, i32_le h16, or_true, true_or, or_self, or_false, false_or, and_true, true_and, and_false, false_and, if_true, if_false, not_true_eq_false, not_false_eq_true]; done) | (simp only [sp_tray, h11, i32_nlt h11, h16, i32_le h16, or_true, true_or, or_self, or_false, false_or, and_true, true_and, and_false, false_and, if_true, if_false, not_true_eq_false, not_false_eq_true]; rfl)
    · refine e_iload_n dX4_tray_19 2 rfl rfl ?_
      refine e_if_lt 28 dX4_tray_20 (by decide) (fun h20 => ?_) (fun h20 => ?_)
      · refine e_aload_n dX4_tray_28 0 rfl rfl rfl ?_
        refine e_iconst 1 dX4_tray_29 rfl ?_
        refine e_callV1 (As := [.int 1]) (rest := []) dX4_tray_30 rfl mvX4_218 (tw_o hp) rfl (t_no hp 1) (Nat.le_of_ble_eq_true rfl) rfl rfl (Nat.le_of_ble_eq_true rfl) (Nat.zero_le _) (Nat.zero_le _) ?_
        refine e_ireturn dX4_tray_33 rfl rfl (Nat.zero_le _) (Nat.zero_le _) ?_
        refine TQi.of ?_
        first | (simp only [sp_tray, h11, i32_nlt h11, h16, i32_nle h16, h20, i32_lt h20, or_true, true_or, or_self, or_false, false_or, and_true, true_and, and_false, false_and, if_true, if_false, not_true_eq_false, not_false_eq_true]; done) | (simp only [sp_tray, h11, i32_nlt h11, h16, i32_nle h16, h20, i32_lt h20, or_true, true_or, or_self, or_false, false_or, and_true, true_and, and_false, false_and, if_true, if_false, not_true_eq_false, not_false_eq_true]; rfl)
      · refine e_iload_n dX4_tray_23 2 rfl rfl ?_
        refine e_iconst 3 dX4_tray_24 rfl ?_
        refine e_icmp_le 34 dX4_tray_25 (by decide) (fun h25 => ?_) (fun h25 => ?_)
        · refine e_iload_n dX4_tray_34 3 rfl rfl ?_
          refine e_bipush 60 dX4_tray_35 rfl ?_
          refine e_icmp_le 46 dX4_tray_37 (by decide) (fun h37 => ?_) (fun h37 => ?_)
          · refine e_iload_n dX4_tray_46 3 rfl rfl ?_
            refine e_if_ge 57 dX4_tray_47 (by decide) (fun h47 => ?_) (fun h47 => ?_)
            · obtain ⟨j, hj, rfl⟩ := in_ge (x := t) 4 (by decide) h11 h16
              obtain ⟨m, hm, rfl⟩ := in_le (x := n) 60 (by decide) (i32_le h47) h37
              refine e_aload_n dX4_tray_57 0 rfl rfl rfl ?_
              refine e_getf (v := .ref 57) dX4_tray_58 rfl fX4_7 (tw_o hp) rfl ?_
              refine e_iload_n dX4_tray_61 1 rfl rfl ?_
              refine e_iload_n dX4_tray_62 2 rfl rfl ?_
              refine e_iast (f := τ.2.2.1 2) (j := j) dX4_tray_63 (tw_a2 hp) rfl (by omega) (by decide) ?_
              rw [tw_s2 hp]
              refine e_aload_n dX4_tray_64 0 rfl rfl rfl ?_
              refine e_getf (v := .ref 58) dX4_tray_65 rfl fX4_13 (tw_o hp) rfl ?_
              refine e_iload_n dX4_tray_68 1 rfl rfl ?_
              refine e_iload_n dX4_tray_69 3 rfl rfl ?_
              refine e_iast (f := τ.2.2.1 3) (j := j) dX4_tray_70 (tw_a3 hp) rfl (by omega) (by decide) ?_
              rw [tw_s3 hp]
              refine e_iconst 0 dX4_tray_71 rfl ?_
              refine e_istore dX4_tray_72 (ls_s (ls_s (ls_s (ls_1 rfl)))) (Nat.le_of_ble_eq_true rfl) ?_
              refine t_tray_loop hp hj hm (m + 1) 0 _ (Nat.zero_le _) (by omega) ?_
              refine TQi.of ?_
              simp only [sp_tray, h11, i32_nlt h11, h16, i32_nle h16, h20, i32_nlt h20, h25, i32_le h25, h37, i32_le h37, h47, i32_le h47, or_true, true_or, or_self, or_false, false_or, and_true, true_and, and_false, false_and, if_true, if_false, not_true_eq_false, not_false_eq_true, ix_nI (show j < 2147483648 by omega), ix_nI (show m < 2147483648 by omega)]
              rfl
            · refine e_aload_n dX4_tray_50 0 rfl rfl rfl ?_
              refine e_bipush 6 dX4_tray_51 rfl ?_
              refine e_callV1 (As := [.int 6]) (rest := []) dX4_tray_53 rfl mvX4_218 (tw_o hp) rfl (t_no hp 6) (Nat.le_of_ble_eq_true rfl) rfl rfl (Nat.le_of_ble_eq_true rfl) (Nat.zero_le _) (Nat.zero_le _) ?_
              refine e_ireturn dX4_tray_56 rfl rfl (Nat.zero_le _) (Nat.zero_le _) ?_
              refine TQi.of ?_
              first | (simp only [sp_tray, h11, i32_nlt h11, h16, i32_nle h16, h20, i32_nlt h20, h25, i32_le h25, h37, i32_le h37, h47, i32_nle h47, or_true, true_or, or_self, or_false, false_or, and_true, true_and, and_false, false_and, if_true, if_false, not_true_eq_false, not_false_eq_true]; done) | (simp only [sp_tray, h11, i32_nlt h11, h16, i32_nle h16, h20, i32_nlt h20, h25, i32_le h25, h37, i32_le h37, h47, i32_nle h47, or_true, true_or, or_self, or_false, false_or, and_true, true_and, and_false, false_and, if_true, if_false, not_true_eq_false, not_false_eq_true]; rfl)
          · refine e_aload_n dX4_tray_40 0 rfl rfl rfl ?_
            refine e_iconst 5 dX4_tray_41 rfl ?_
            refine e_callV1 (As := [.int 5]) (rest := []) dX4_tray_42 rfl mvX4_218 (tw_o hp) rfl (t_no hp 5) (Nat.le_of_ble_eq_true rfl) rfl rfl (Nat.le_of_ble_eq_true rfl) (Nat.zero_le _) (Nat.zero_le _) ?_
            refine e_ireturn dX4_tray_45 rfl rfl (Nat.zero_le _) (Nat.zero_le _) ?_
            refine TQi.of ?_
            first | (simp only [sp_tray, h11, i32_nlt h11, h16, i32_nle h16, h20, i32_nlt h20, h25, i32_le h25, h37, i32_nle h37, or_true, true_or, or_self, or_false, false_or, and_true, true_and, and_false, false_and, if_true, if_false, not_true_eq_false, not_false_eq_true]; done) | (simp only [sp_tray, h11, i32_nlt h11, h16, i32_nle h16, h20, i32_nlt h20, h25, i32_le h25, h37, i32_nle h37, or_true, true_or, or_self, or_false, false_or, and_true, true_and, and_false, false_and, if_true, if_false, not_true_eq_false, not_false_eq_true]; rfl)
        · refine e_aload_n dX4_tray_28 0 rfl rfl rfl ?_
          refine e_iconst 1 dX4_tray_29 rfl ?_
          refine e_callV1 (As := [.int 1]) (rest := []) dX4_tray_30 rfl mvX4_218 (tw_o hp) rfl (t_no hp 1) (Nat.le_of_ble_eq_true rfl) rfl rfl (Nat.le_of_ble_eq_true rfl) (Nat.zero_le _) (Nat.zero_le _) ?_
          refine e_ireturn dX4_tray_33 rfl rfl (Nat.zero_le _) (Nat.zero_le _) ?_
          refine TQi.of ?_
          first | (simp only [sp_tray, h11, i32_nlt h11, h16, i32_nle h16, h20, i32_nlt h20, h25, i32_nle h25, or_true, true_or, or_self, or_false, false_or, and_true, true_and, and_false, false_and, if_true, if_false, not_true_eq_false, not_false_eq_true]; done) | (simp only [sp_tray, h11, i32_nlt h11, h16, i32_nle h16, h20, i32_nlt h20, h25, i32_nle h25, or_true, true_or, or_self, or_false, false_or, and_true, true_and, and_false, false_and, if_true, if_false, not_true_eq_false, not_false_eq_true]; rfl)

set_option maxHeartbeats 4000000 in
set_option maxRecDepth 100000 in
/-- WheelTablesModel.write -/
theorem t_write {pre post : List ACell} {τ : Tw} (hp : pre.length = 56) (hI : InvT τ) (t k : Int32) (v : Int64) : Ct yX4_write (ws_ yX4_write cX4_write 5 (some .boolean)) 2 0 0 [.ref 56, .int t, .int k, .long v] (TW pre τ post) (TQi pre post (sp_write t k v τ)) noX := by
  refine Ct.of (ini := false) (ls := [some (.ref 56), some (.int t), some (.int k), some (.long v), none]) (by decide) (Nat.le_of_ble_eq_true rfl) (fun h => by cases h) rfl ?_
  refine e_aload_n dX4_write_0 0 rfl rfl rfl ?_
  refine e_iconst 0 dX4_write_1 rfl ?_
  refine e_tputI dX4_write_2 rfl pX4_212 rfl hp (Nat.le_of_ble_eq_true rfl) (tw_f1 _) ?_
  refine e_aload_n dX4_write_5 0 rfl rfl rfl ?_
  refine e_aload_n dX4_write_6 0 rfl rfl rfl ?_
  refine e_iload_n dX4_write_7 1 rfl rfl ?_
  refine e_iload_n dX4_write_8 2 rfl rfl ?_
  refine e_callV1 (As := [.int t, .int k]) (rest := [.ref 56]) dX4_write_9 rfl mvX4_226 (tw_o hp) rfl (t_placed hp (by exact hI) t k) (Nat.le_of_ble_eq_true rfl) rfl rfl (Nat.le_of_ble_eq_true rfl) (Nat.zero_le _) (Nat.zero_le _) ?_
  refine e_tputI dX4_write_12 rfl pX4_215 rfl hp (Nat.le_of_ble_eq_true rfl) (tw_f0 _) ?_
  refine e_aload_n dX4_write_15 0 rfl rfl rfl ?_
  refine e_getf (v := .int (spP t k τ)) dX4_write_16 rfl fX4_215 (tw_o hp) rfl ?_
  refine e_if_le 24 dX4_write_19 (by decide) (fun h19 => ?_) (fun h19 => ?_)
  · obtain ⟨-, j, i, n, hj, rfl, hn, -, hi, rfl⟩ := spP_0 hI (i32_le h19)
    refine e_aload_n dX4_write_24 0 rfl rfl rfl ?_
    refine e_getf (v := .ref 59) dX4_write_25 rfl fX4_16 (tw_o hp) rfl ?_
    refine e_bipush 60 dX4_write_28 rfl ?_
    refine e_iload_n dX4_write_30 1 rfl rfl ?_
    refine e_imulN 60 j dX4_write_31 ?_
    refine e_iload_n dX4_write_32 2 rfl rfl ?_
    refine e_iaddN (60 * j) i dX4_write_33 ?_
    refine e_aload_n dX4_write_34 0 rfl rfl rfl ?_
    refine e_getf (v := .ref 57) dX4_write_35 rfl fX4_7 (tw_o hp) rfl ?_
    refine e_iload_n dX4_write_38 1 rfl rfl ?_
    refine e_iald (f := τ.2.2.1 2) (j := j) dX4_write_39 (tw_a2 hp) rfl (by omega) (by decide) ?_
    refine e_lload_n dX4_write_40 3 rfl rfl ?_
    refine e_callS1 (As := [.int (τ.2.2.1 2 j), .long v]) (rest := [.int (nI ((60 * j) + i)), .ref 59]) dX4_write_41 rfl msX4_230 (t_cut (τ.2.2.1 2 j) v) (Nat.le_of_ble_eq_true rfl) rfl rfl (Nat.le_of_ble_eq_true rfl) (Nat.zero_le _) (Nat.zero_le _) ?_
    refine e_last (f := τ.2.2.2 4) (j := (60 * j) + i) dX4_write_44 (tw_a4 hp) rfl (by omega) (by decide) ?_
    rw [tw_s4 hp]
    refine e_iconst 1 dX4_write_45 rfl ?_
    refine e_ireturn dX4_write_46 rfl rfl (Nat.zero_le _) (Nat.zero_le _) ?_
    refine TQi.of ?_
    simp only [sp_write, i32_le h19, if_false, ix_nI (show j < 2147483648 by omega), ix_nI (show i < 2147483648 by omega)]
    rfl
  · refine e_iconst 0 dX4_write_22 rfl ?_
    refine e_ireturn dX4_write_23 rfl rfl (Nat.zero_le _) (Nat.zero_le _) ?_
    refine TQi.of ?_
    first | (simp only [sp_write, h19, i32_nle h19, or_true, true_or, or_self, or_false, false_or, and_true, true_and, and_false, false_and, if_true, if_false, not_true_eq_false, not_false_eq_true]; done) | (simp only [sp_write, h19, i32_nle h19, or_true, true_or, or_self, or_false, false_or, and_true, true_and, and_false, false_and, if_true, if_false, not_true_eq_false, not_false_eq_true]; rfl)

set_option maxHeartbeats 4000000 in
set_option maxRecDepth 100000 in
/-- WheelTablesModel.read -/
theorem t_read {pre post : List ACell} {τ : Tw} (hp : pre.length = 56) (hI : InvT τ) (t k : Int32) : Ct yX4_read (ws_ yX4_read cX4_read 3 (some .long)) 2 0 0 [.ref 56, .int t, .int k] (TW pre τ post) (TQl pre post (sp_read t k τ)) noX := by
  refine Ct.of (ini := false) (ls := [some (.ref 56), some (.int t), some (.int k)]) (by decide) (Nat.le_of_ble_eq_true rfl) (fun h => by cases h) rfl ?_
  refine e_aload_n dX4_read_0 0 rfl rfl rfl ?_
  refine e_iconst 0 dX4_read_1 rfl ?_
  refine e_tputI dX4_read_2 rfl pX4_212 rfl hp (Nat.le_of_ble_eq_true rfl) (tw_f1 _) ?_
  refine e_aload_n dX4_read_5 0 rfl rfl rfl ?_
  refine e_aload_n dX4_read_6 0 rfl rfl rfl ?_
  refine e_iload_n dX4_read_7 1 rfl rfl ?_
  refine e_iload_n dX4_read_8 2 rfl rfl ?_
  refine e_callV1 (As := [.int t, .int k]) (rest := [.ref 56]) dX4_read_9 rfl mvX4_226 (tw_o hp) rfl (t_placed hp (by exact hI) t k) (Nat.le_of_ble_eq_true rfl) rfl rfl (Nat.le_of_ble_eq_true rfl) (Nat.zero_le _) (Nat.zero_le _) ?_
  refine e_tputI dX4_read_12 rfl pX4_215 rfl hp (Nat.le_of_ble_eq_true rfl) (tw_f0 _) ?_
  refine e_aload_n dX4_read_15 0 rfl rfl rfl ?_
  refine e_getf (v := .int (spP t k τ)) dX4_read_16 rfl fX4_215 (tw_o hp) rfl ?_
  refine e_if_le 28 dX4_read_19 (by decide) (fun h19 => ?_) (fun h19 => ?_)
  · obtain ⟨-, j, i, n, hj, rfl, hn, -, hi, rfl⟩ := spP_0 hI (i32_le h19)
    refine e_aload_n dX4_read_28 0 rfl rfl rfl ?_
    refine e_getf (v := .ref 59) dX4_read_29 rfl fX4_16 (tw_o hp) rfl ?_
    refine e_bipush 60 dX4_read_32 rfl ?_
    refine e_iload_n dX4_read_34 1 rfl rfl ?_
    refine e_imulN 60 j dX4_read_35 ?_
    refine e_iload_n dX4_read_36 2 rfl rfl ?_
    refine e_iaddN (60 * j) i dX4_read_37 ?_
    refine e_lald (f := τ.2.2.2 4) (j := (60 * j) + i) dX4_read_38 (tw_a4 hp) rfl (by omega) (by decide) ?_
    refine e_lreturn dX4_read_39 rfl (Nat.zero_le _) (Nat.zero_le _) ?_
    refine TQl.of ?_
    simp only [sp_read, i32_le h19, if_false, ix_nI (show j < 2147483648 by omega), ix_nI (show i < 2147483648 by omega)]
    rfl
  · refine e_ldc2 rfl q1457 dX4_read_22 ?_
    refine e_goto 39 dX4_read_25 (by decide) ?_
    refine e_lreturn dX4_read_39 rfl (Nat.zero_le _) (Nat.zero_le _) ?_
    refine TQl.of ?_
    simp only [sp_read, i32_nle h19, if_true]
    rfl

