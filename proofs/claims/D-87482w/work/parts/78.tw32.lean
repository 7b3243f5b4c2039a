/-! ===== the twin: reading cards ===== -/
set_option maxHeartbeats 4000000 in
set_option maxRecDepth 100000 in
/-- WheelTablesModel.look -/
theorem t_look {pre post : List ACell} {τ : Tw} (hp : pre.length = 56) {k n : Nat} (hk : k ≤ 501) (hn : n ≤ 500) (e30 : τ.1 30 = nI n) : Ct yX4_look (ws_ yX4_look cX4_look 2 (some .int)) 0 0 0 [.ref 56, .int (nI k)] (TW pre τ post) (Q1 (some (.int (lkN (τ.2.2.1 28) n k))) (TW pre τ post)) noX := by
  refine Ct.of (ini := false) (ls := [some (.ref 56), some (.int (nI k))]) (by decide) (Nat.le_of_ble_eq_true rfl) (fun h => by cases h) rfl ?_
  refine e_iload_n dX4_look_0 1 rfl rfl ?_
  refine e_aload_n dX4_look_1 0 rfl rfl rfl ?_
  refine e_getf (v := .int (τ.1 30)) dX4_look_2 rfl fX4_363 (tw_o hp) rfl ?_
  refine e_top (congrArg Value.int e30) ?_
  refine e_icmp_geN k n 21 (by omega) (by omega) dX4_look_5 (by decide) (fun h5 => ?_) (fun h5 => ?_)
  · refine e_iconst 0 dX4_look_21 rfl ?_
    refine e_ireturn dX4_look_22 rfl rfl (Nat.zero_le _) (Nat.zero_le _) ?_
    refine ⟨?_, rfl⟩
    rw [lkN, if_neg (by omega)]
  · refine e_aload_n dX4_look_8 0 rfl rfl rfl ?_
    refine e_getf (v := .ref 74) dX4_look_9 rfl fX4_70 (tw_o hp) rfl ?_
    refine e_iload_n dX4_look_12 1 rfl rfl ?_
    refine e_bald (f := τ.2.2.1 28) (j := k) dX4_look_13 (tw_a28 hp) rfl (by omega) (by decide) ?_
    refine e_sipush 255 dX4_look_14 rfl ?_
    refine e_iand dX4_look_17 ?_
    refine e_goto 22 dX4_look_18 (by decide) ?_
    refine e_ireturn dX4_look_22 rfl rfl (Nat.zero_le _) (Nat.zero_le _) ?_
    refine ⟨?_, rfl⟩
    rw [lkN, if_pos (by omega)]

set_option maxHeartbeats 4000000 in
set_option maxRecDepth 100000 in
/-- WheelTablesModel.isLetter -/
theorem t_isLetter {M : List ACell} (v : Int32) : Ct yX4_isLetter (ws_ yX4_isLetter cX4_isLetter 1 (some .boolean)) 0 0 0 [.int v] M (QB (isLt v) M) noX := by
  refine Ct.of (ini := false) (ls := [some (.int v)]) (by decide) (Nat.le_of_ble_eq_true rfl) (fun h => by cases h) rfl ?_
  refine e_iload_n dX4_isLetter_0 0 rfl rfl ?_
  refine e_bipush 97 dX4_isLetter_1 rfl ?_
  refine e_icmp_lt 16 dX4_isLetter_3 (by decide) (fun h3 => ?_) (fun h3 => ?_)
  · refine e_iconst 0 dX4_isLetter_16 rfl ?_
    refine e_ireturn dX4_isLetter_17 rfl rfl (Nat.zero_le _) (Nat.zero_le _) ?_
    exact ⟨rfl, Or.inr ⟨fun z => absurd h3 (Int32.not_lt.mpr z.1), rfl⟩⟩
  · refine e_iload_n dX4_isLetter_6 0 rfl rfl ?_
    refine e_bipush 122 dX4_isLetter_7 rfl ?_
    refine e_icmp_gt 16 dX4_isLetter_9 (by decide) (fun h9 => ?_) (fun h9 => ?_)
    · refine e_iconst 0 dX4_isLetter_16 rfl ?_
      refine e_ireturn dX4_isLetter_17 rfl rfl (Nat.zero_le _) (Nat.zero_le _) ?_
      exact ⟨rfl, Or.inr ⟨fun z => absurd h9 (Int32.not_lt.mpr z.2), rfl⟩⟩
    · refine e_iconst 1 dX4_isLetter_12 rfl ?_
      refine e_goto 17 dX4_isLetter_13 (by decide) ?_
      refine e_ireturn dX4_isLetter_17 rfl rfl (Nat.zero_le _) (Nat.zero_le _) ?_
      exact ⟨rfl, Or.inl ⟨⟨Int32.not_lt.mp h3, Int32.not_lt.mp h9⟩, rfl⟩⟩

set_option maxHeartbeats 4000000 in
set_option maxRecDepth 100000 in
/-- WheelTablesModel.isDigit -/
theorem t_isDigit {M : List ACell} (v : Int32) : Ct yX4_isDigit (ws_ yX4_isDigit cX4_isDigit 1 (some .boolean)) 0 0 0 [.int v] M (QB (isDg v) M) noX := by
  refine Ct.of (ini := false) (ls := [some (.int v)]) (by decide) (Nat.le_of_ble_eq_true rfl) (fun h => by cases h) rfl ?_
  refine e_iload_n dX4_isDigit_0 0 rfl rfl ?_
  refine e_bipush 48 dX4_isDigit_1 rfl ?_
  refine e_icmp_lt 16 dX4_isDigit_3 (by decide) (fun h3 => ?_) (fun h3 => ?_)
  · refine e_iconst 0 dX4_isDigit_16 rfl ?_
    refine e_ireturn dX4_isDigit_17 rfl rfl (Nat.zero_le _) (Nat.zero_le _) ?_
    exact ⟨rfl, Or.inr ⟨fun z => absurd h3 (Int32.not_lt.mpr z.1), rfl⟩⟩
  · refine e_iload_n dX4_isDigit_6 0 rfl rfl ?_
    refine e_bipush 57 dX4_isDigit_7 rfl ?_
    refine e_icmp_gt 16 dX4_isDigit_9 (by decide) (fun h9 => ?_) (fun h9 => ?_)
    · refine e_iconst 0 dX4_isDigit_16 rfl ?_
      refine e_ireturn dX4_isDigit_17 rfl rfl (Nat.zero_le _) (Nat.zero_le _) ?_
      exact ⟨rfl, Or.inr ⟨fun z => absurd h9 (Int32.not_lt.mpr z.2), rfl⟩⟩
    · refine e_iconst 1 dX4_isDigit_12 rfl ?_
      refine e_goto 17 dX4_isDigit_13 (by decide) ?_
      refine e_ireturn dX4_isDigit_17 rfl rfl (Nat.zero_le _) (Nat.zero_le _) ?_
      exact ⟨rfl, Or.inl ⟨⟨Int32.not_lt.mp h3, Int32.not_lt.mp h9⟩, rfl⟩⟩

set_option maxHeartbeats 4000000 in
set_option maxRecDepth 100000 in
/-- WheelTablesModel.spelled -/
theorem t_spelled {M : List ACell} (p q r s t : Int32) : Ct yX4_spelled (ws_ yX4_spelled cX4_spelled 7 (some .long)) 0 0 0 [.int p, .int q, .int r, .int s, .int t] M (Q1 (some (.long (spW p q r s t))) M) noX := by
  refine Ct.of (ini := false) (ls := [some (.int p), some (.int q), some (.int r), some (.int s), some (.int t), none, none]) (by decide) (Nat.le_of_ble_eq_true rfl) (fun h => by cases h) rfl ?_
  refine e_iload_n dX4_spelled_0 0 rfl rfl ?_
  refine e_i2l dX4_spelled_1 ?_
  refine e_ldc2 rfl q1621 dX4_spelled_2 ?_
  refine e_lsub dX4_spelled_5 ?_
  refine e_lstore dX4_spelled_6 (ls_s (ls_s (ls_s (ls_s (ls_1 rfl))))) (ln_s (ln_s (ln_s (ln_s (ln_s (ln_s ln_0)))))) (Nat.le_of_ble_eq_true rfl) ?_
  refine e_lload dX4_spelled_8 rfl ?_
  refine e_ldc2 rfl q1620 dX4_spelled_10 ?_
  refine e_lmul dX4_spelled_13 ?_
  refine e_iload_n dX4_spelled_14 1 rfl rfl ?_
  refine e_i2l dX4_spelled_15 ?_
  refine e_ladd dX4_spelled_16 ?_
  refine e_ldc2 rfl q1621 dX4_spelled_17 ?_
  refine e_lsub dX4_spelled_20 ?_
  refine e_lstore dX4_spelled_21 (ls_s (ls_s (ls_s (ls_s (ls_1 rfl))))) (ln_s (ln_s (ln_s (ln_s (ln_s (ln_s ln_0)))))) (Nat.le_of_ble_eq_true rfl) ?_
  refine e_iload_n dX4_spelled_23 2 rfl rfl ?_
  refine e_if_le 43 dX4_spelled_24 (by decide) (fun h24 => ?_) (fun h24 => ?_)
  · refine e_lload dX4_spelled_43 rfl ?_
    refine e_lstore dX4_spelled_45 (ls_s (ls_s (ls_s (ls_s (ls_1 rfl))))) (ln_s (ln_s (ln_s (ln_s (ln_s (ln_s ln_0)))))) (Nat.le_of_ble_eq_true rfl) ?_
    refine e_iload_n dX4_spelled_47 3 rfl rfl ?_
    refine e_if_le 67 dX4_spelled_48 (by decide) (fun h48 => ?_) (fun h48 => ?_)
    · refine e_lload dX4_spelled_67 rfl ?_
      refine e_lstore dX4_spelled_69 (ls_s (ls_s (ls_s (ls_s (ls_1 rfl))))) (ln_s (ln_s (ln_s (ln_s (ln_s (ln_s ln_0)))))) (Nat.le_of_ble_eq_true rfl) ?_
      refine e_iload dX4_spelled_71 rfl ?_
      refine e_if_le 93 dX4_spelled_73 (by decide) (fun h73 => ?_) (fun h73 => ?_)
      · refine e_lload dX4_spelled_93 rfl ?_
        refine e_lreturn dX4_spelled_95 rfl (Nat.zero_le _) (Nat.zero_le _) ?_
        refine ⟨?_, rfl⟩
        rw [spW, spS, if_neg (Int32.not_lt.mpr h73), spS, if_neg (Int32.not_lt.mpr h48), spS, if_neg (Int32.not_lt.mpr h24)]
      · refine e_lload dX4_spelled_76 rfl ?_
        refine e_ldc2 rfl q1620 dX4_spelled_78 ?_
        refine e_lmul dX4_spelled_81 ?_
        refine e_iload dX4_spelled_82 rfl ?_
        refine e_i2l dX4_spelled_84 ?_
        refine e_ladd dX4_spelled_85 ?_
        refine e_ldc2 rfl q1621 dX4_spelled_86 ?_
        refine e_lsub dX4_spelled_89 ?_
        refine e_goto 95 dX4_spelled_90 (by decide) ?_
        refine e_lreturn dX4_spelled_95 rfl (Nat.zero_le _) (Nat.zero_le _) ?_
        refine ⟨?_, rfl⟩
        rw [spW, spS, if_pos (Int32.not_le.mp h73), spS, if_neg (Int32.not_lt.mpr h48), spS, if_neg (Int32.not_lt.mpr h24)]
    · refine e_lload dX4_spelled_51 rfl ?_
      refine e_ldc2 rfl q1620 dX4_spelled_53 ?_
      refine e_lmul dX4_spelled_56 ?_
      refine e_iload_n dX4_spelled_57 3 rfl rfl ?_
      refine e_i2l dX4_spelled_58 ?_
      refine e_ladd dX4_spelled_59 ?_
      refine e_ldc2 rfl q1621 dX4_spelled_60 ?_
      refine e_lsub dX4_spelled_63 ?_
      refine e_goto 69 dX4_spelled_64 (by decide) ?_
      refine e_lstore dX4_spelled_69 (ls_s (ls_s (ls_s (ls_s (ls_1 rfl))))) (ln_s (ln_s (ln_s (ln_s (ln_s (ln_s ln_0)))))) (Nat.le_of_ble_eq_true rfl) ?_
      refine e_iload dX4_spelled_71 rfl ?_
      refine e_if_le 93 dX4_spelled_73 (by decide) (fun h73 => ?_) (fun h73 => ?_)
      · refine e_lload dX4_spelled_93 rfl ?_
        refine e_lreturn dX4_spelled_95 rfl (Nat.zero_le _) (Nat.zero_le _) ?_
        refine ⟨?_, rfl⟩
        rw [spW, spS, if_neg (Int32.not_lt.mpr h73), spS, if_pos (Int32.not_le.mp h48), spS, if_neg (Int32.not_lt.mpr h24)]
      · refine e_lload dX4_spelled_76 rfl ?_
        refine e_ldc2 rfl q1620 dX4_spelled_78 ?_
        refine e_lmul dX4_spelled_81 ?_
        refine e_iload dX4_spelled_82 rfl ?_
        refine e_i2l dX4_spelled_84 ?_
        refine e_ladd dX4_spelled_85 ?_
        refine e_ldc2 rfl q1621 dX4_spelled_86 ?_
        refine e_lsub dX4_spelled_89 ?_
        refine e_goto 95 dX4_spelled_90 (by decide) ?_
        refine e_lreturn dX4_spelled_95 rfl (Nat.zero_le _) (Nat.zero_le _) ?_
        refine ⟨?_, rfl⟩
        rw [spW, spS, if_pos (Int32.not_le.mp h73), spS, if_pos (Int32.not_le.mp h48), spS, if_neg (Int32.not_lt.mpr h24)]
  · refine e_lload dX4_spelled_27 rfl ?_
    refine e_ldc2 rfl q1620 dX4_spelled_29 ?_
    refine e_lmul dX4_spelled_32 ?_
    refine e_iload_n dX4_spelled_33 2 rfl rfl ?_
    refine e_i2l dX4_spelled_34 ?_
    refine e_ladd dX4_spelled_35 ?_
    refine e_ldc2 rfl q1621 dX4_spelled_36 ?_
    refine e_lsub dX4_spelled_39 ?_
    refine e_goto 45 dX4_spelled_40 (by decide) ?_
    refine e_lstore dX4_spelled_45 (ls_s (ls_s (ls_s (ls_s (ls_1 rfl))))) (ln_s (ln_s (ln_s (ln_s (ln_s (ln_s ln_0)))))) (Nat.le_of_ble_eq_true rfl) ?_
    refine e_iload_n dX4_spelled_47 3 rfl rfl ?_
    refine e_if_le 67 dX4_spelled_48 (by decide) (fun h48 => ?_) (fun h48 => ?_)
    · refine e_lload dX4_spelled_67 rfl ?_
      refine e_lstore dX4_spelled_69 (ls_s (ls_s (ls_s (ls_s (ls_1 rfl))))) (ln_s (ln_s (ln_s (ln_s (ln_s (ln_s ln_0)))))) (Nat.le_of_ble_eq_true rfl) ?_
      refine e_iload dX4_spelled_71 rfl ?_
      refine e_if_le 93 dX4_spelled_73 (by decide) (fun h73 => ?_) (fun h73 => ?_)
      · refine e_lload dX4_spelled_93 rfl ?_
        refine e_lreturn dX4_spelled_95 rfl (Nat.zero_le _) (Nat.zero_le _) ?_
        refine ⟨?_, rfl⟩
        rw [spW, spS, if_neg (Int32.not_lt.mpr h73), spS, if_neg (Int32.not_lt.mpr h48), spS, if_pos (Int32.not_le.mp h24)]
      · refine e_lload dX4_spelled_76 rfl ?_
        refine e_ldc2 rfl q1620 dX4_spelled_78 ?_
        refine e_lmul dX4_spelled_81 ?_
        refine e_iload dX4_spelled_82 rfl ?_
        refine e_i2l dX4_spelled_84 ?_
        refine e_ladd dX4_spelled_85 ?_
        refine e_ldc2 rfl q1621 dX4_spelled_86 ?_
        refine e_lsub dX4_spelled_89 ?_
        refine e_goto 95 dX4_spelled_90 (by decide) ?_
        refine e_lreturn dX4_spelled_95 rfl (Nat.zero_le _) (Nat.zero_le _) ?_
        refine ⟨?_, rfl⟩
        rw [spW, spS, if_pos (Int32.not_le.mp h73), spS, if_neg (Int32.not_lt.mpr h48), spS, if_pos (Int32.not_le.mp h24)]
    · refine e_lload dX4_spelled_51 rfl ?_
      refine e_ldc2 rfl q1620 dX4_spelled_53 ?_
      refine e_lmul dX4_spelled_56 ?_
      refine e_iload_n dX4_spelled_57 3 rfl rfl ?_
      refine e_i2l dX4_spelled_58 ?_
      refine e_ladd dX4_spelled_59 ?_
      refine e_ldc2 rfl q1621 dX4_spelled_60 ?_
      refine e_lsub dX4_spelled_63 ?_
      refine e_goto 69 dX4_spelled_64 (by decide) ?_
      refine e_lstore dX4_spelled_69 (ls_s (ls_s (ls_s (ls_s (ls_1 rfl))))) (ln_s (ln_s (ln_s (ln_s (ln_s (ln_s ln_0)))))) (Nat.le_of_ble_eq_true rfl) ?_
      refine e_iload dX4_spelled_71 rfl ?_
      refine e_if_le 93 dX4_spelled_73 (by decide) (fun h73 => ?_) (fun h73 => ?_)
      · refine e_lload dX4_spelled_93 rfl ?_
        refine e_lreturn dX4_spelled_95 rfl (Nat.zero_le _) (Nat.zero_le _) ?_
        refine ⟨?_, rfl⟩
        rw [spW, spS, if_neg (Int32.not_lt.mpr h73), spS, if_pos (Int32.not_le.mp h48), spS, if_pos (Int32.not_le.mp h24)]
      · refine e_lload dX4_spelled_76 rfl ?_
        refine e_ldc2 rfl q1620 dX4_spelled_78 ?_
        refine e_lmul dX4_spelled_81 ?_
        refine e_iload dX4_spelled_82 rfl ?_
        refine e_i2l dX4_spelled_84 ?_
        refine e_ladd dX4_spelled_85 ?_
        refine e_ldc2 rfl q1621 dX4_spelled_86 ?_
        refine e_lsub dX4_spelled_89 ?_
        refine e_goto 95 dX4_spelled_90 (by decide) ?_
        refine e_lreturn dX4_spelled_95 rfl (Nat.zero_le _) (Nat.zero_le _) ?_
        refine ⟨?_, rfl⟩
        rw [spW, spS, if_pos (Int32.not_le.mp h73), spS, if_pos (Int32.not_le.mp h48), spS, if_pos (Int32.not_le.mp h24)]

set_option maxHeartbeats 4000000 in
set_option maxRecDepth 100000 in
/-- WheelTablesModel.isWord -/
theorem t_isWord {pre post : List ACell} {τ : Tw} (hp : pre.length = 56) (w : Int64) : Ct yX4_isWord (ws_ yX4_isWord cX4_isWord 3 (some .boolean)) 0 0 0 [.ref 56, .long w] (TW pre τ post) (QB (τ.1 35 = 1 ∧ τ.2.1 39 = w) (TW pre τ post)) noX := by
  refine Ct.of (ini := false) (ls := [some (.ref 56), some (.long w), none]) (by decide) (Nat.le_of_ble_eq_true rfl) (fun h => by cases h) rfl ?_
  refine e_aload_n dX4_isWord_0 0 rfl rfl rfl ?_
  refine e_getf (v := .int (τ.1 35)) dX4_isWord_1 rfl fX4_375 (tw_o hp) rfl ?_
  refine e_iconst 1 dX4_isWord_4 rfl ?_
  refine e_icmp_ne 21 dX4_isWord_5 (by decide) (fun h5 => ?_) (fun h5 => ?_)
  · refine e_iconst 0 dX4_isWord_21 rfl ?_
    refine e_ireturn dX4_isWord_22 rfl rfl (Nat.zero_le _) (Nat.zero_le _) ?_
    exact ⟨rfl, Or.inr ⟨fun z => h5 z.1, rfl⟩⟩
  · refine e_aload_n dX4_isWord_8 0 rfl rfl rfl ?_
    refine e_getf (v := .long (τ.2.1 39)) dX4_isWord_9 rfl fX4_381 (tw_o hp) rfl ?_
    refine e_lload_n dX4_isWord_12 1 rfl rfl ?_
    refine e_lcmp_ne 21 dX4_isWord_13 dX4_isWord_14 (by decide) (fun h13 => ?_) (fun h13 => ?_)
    · refine e_iconst 0 dX4_isWord_21 rfl ?_
      refine e_ireturn dX4_isWord_22 rfl rfl (Nat.zero_le _) (Nat.zero_le _) ?_
      exact ⟨rfl, Or.inr ⟨fun z => h13 z.2, rfl⟩⟩
    · refine e_iconst 1 dX4_isWord_17 rfl ?_
      refine e_goto 22 dX4_isWord_18 (by decide) ?_
      refine e_ireturn dX4_isWord_22 rfl rfl (Nat.zero_le _) (Nat.zero_le _) ?_
      exact ⟨rfl, Or.inl ⟨⟨h5, h13⟩, rfl⟩⟩

set_option maxHeartbeats 4000000 in
set_option maxRecDepth 100000 in
/-- WheelTablesModel.isSign -/
theorem t_isSign {pre post : List ACell} {τ : Tw} (hp : pre.length = 56) (v : Int32) : Ct yX4_isSign (ws_ yX4_isSign cX4_isSign 2 (some .boolean)) 0 0 0 [.ref 56, .int v] (TW pre τ post) (QB (τ.1 35 = 3 ∧ τ.2.1 40 = v.toInt64) (TW pre τ post)) noX := by
  refine Ct.of (ini := false) (ls := [some (.ref 56), some (.int v)]) (by decide) (Nat.le_of_ble_eq_true rfl) (fun h => by cases h) rfl ?_
  refine e_aload_n dX4_isSign_0 0 rfl rfl rfl ?_
  refine e_getf (v := .int (τ.1 35)) dX4_isSign_1 rfl fX4_375 (tw_o hp) rfl ?_
  refine e_iconst 3 dX4_isSign_4 rfl ?_
  refine e_icmp_ne 22 dX4_isSign_5 (by decide) (fun h5 => ?_) (fun h5 => ?_)
  · refine e_iconst 0 dX4_isSign_22 rfl ?_
    refine e_ireturn dX4_isSign_23 rfl rfl (Nat.zero_le _) (Nat.zero_le _) ?_
    exact ⟨rfl, Or.inr ⟨fun z => h5 z.1, rfl⟩⟩
  · refine e_aload_n dX4_isSign_8 0 rfl rfl rfl ?_
    refine e_getf (v := .long (τ.2.1 40)) dX4_isSign_9 rfl fX4_395 (tw_o hp) rfl ?_
    refine e_iload_n dX4_isSign_12 1 rfl rfl ?_
    refine e_i2l dX4_isSign_13 ?_
    refine e_lcmp_ne 22 dX4_isSign_14 dX4_isSign_15 (by decide) (fun h14 => ?_) (fun h14 => ?_)
    · refine e_iconst 0 dX4_isSign_22 rfl ?_
      refine e_ireturn dX4_isSign_23 rfl rfl (Nat.zero_le _) (Nat.zero_le _) ?_
      exact ⟨rfl, Or.inr ⟨fun z => h14 z.2, rfl⟩⟩
    · refine e_iconst 1 dX4_isSign_18 rfl ?_
      refine e_goto 23 dX4_isSign_19 (by decide) ?_
      refine e_ireturn dX4_isSign_23 rfl rfl (Nat.zero_le _) (Nat.zero_le _) ?_
      exact ⟨rfl, Or.inl ⟨⟨h5, h14⟩, rfl⟩⟩

set_option maxHeartbeats 4000000 in
set_option maxRecDepth 100000 in
/-- WheelTablesModel.fail -/
theorem t_fail {pre post : List ACell} {τ : Tw} (hp : pre.length = 56) (a b : Int32) : Ct yX4_fail (ws_ yX4_fail cX4_fail 3 none) 0 0 0 [.ref 56, .int a, .int b] (TW pre τ post) (Q1 none (TW pre (failT τ a b) post)) noX := by
  refine Ct.of (ini := false) (ls := [some (.ref 56), some (.int a), some (.int b)]) (by decide) (Nat.le_of_ble_eq_true rfl) (fun h => by cases h) rfl ?_
  refine e_aload_n dX4_fail_0 0 rfl rfl rfl ?_
  refine e_getf (v := .int (τ.1 33)) dX4_fail_1 rfl fX4_400 (tw_o hp) rfl ?_
  refine e_if_le 8 dX4_fail_4 (by decide) (fun h4 => ?_) (fun h4 => ?_)
  · refine e_aload_n dX4_fail_8 0 rfl rfl rfl ?_
    refine e_iload_n dX4_fail_9 1 rfl rfl ?_
    refine e_tputI dX4_fail_10 rfl pX4_400 rfl hp (Nat.le_of_ble_eq_true rfl) (tw_f33 _) ?_
    refine e_aload_n dX4_fail_13 0 rfl rfl rfl ?_
    refine e_iload_n dX4_fail_14 2 rfl rfl ?_
    refine e_tputI dX4_fail_15 rfl pX4_403 rfl hp (Nat.le_of_ble_eq_true rfl) (tw_f34 _) ?_
    refine e_return dX4_fail_18 rfl (Nat.zero_le _) (Nat.zero_le _) ?_
    refine ⟨rfl, ?_⟩
    rw [failT, if_neg (Int32.not_lt.mpr h4)]
  · refine e_return dX4_fail_7 rfl (Nat.zero_le _) (Nat.zero_le _) ?_
    refine ⟨rfl, ?_⟩
    rw [failT, if_pos (Int32.not_le.mp h4)]

set_option maxHeartbeats 4000000 in
set_option maxRecDepth 100000 in
/-- WheelTablesModel.wrong -/
theorem t_wrongV {pre post : List ACell} {τ : Tw} (hp : pre.length = 56) : Ct yX4_wrong (ws_ yX4_wrong cX4_wrong 1 none) 1 0 0 [.ref 56] (TW pre τ post) (Q1 none (TW pre (wrongT τ) post)) noX := by
  refine Ct.of (ini := false) (ls := [some (.ref 56)]) (by decide) (Nat.le_of_ble_eq_true rfl) (fun h => by cases h) rfl ?_
  refine e_aload_n dX4_wrong_0 0 rfl rfl rfl ?_
  refine e_aload_n dX4_wrong_1 0 rfl rfl rfl ?_
  refine e_getf (v := .int (τ.1 35)) dX4_wrong_2 rfl fX4_375 (tw_o hp) rfl ?_
  refine e_iconst 4 dX4_wrong_5 rfl ?_
  refine e_icmp_ne 13 dX4_wrong_6 (by decide) (fun h6 => ?_) (fun h6 => ?_)
  · refine e_iconst 2 dX4_wrong_13 rfl ?_
    refine e_aload_n dX4_wrong_14 0 rfl rfl rfl ?_
    refine e_getf (v := .int (τ.1 36)) dX4_wrong_15 rfl fX4_369 (tw_o hp) rfl ?_
    refine e_callV0 (As := [.int 2, .int (τ.1 36)]) (rest := []) dX4_wrong_18 rfl mvX4_406 (tw_o hp) rfl (t_fail hp 2 (τ.1 36)) (Nat.le_of_ble_eq_true rfl) rfl rfl (Nat.le_of_ble_eq_true rfl) (Nat.zero_le _) (Nat.zero_le _) ?_
    refine e_return dX4_wrong_21 rfl (Nat.zero_le _) (Nat.zero_le _) ?_
    refine ⟨rfl, ?_⟩
    rw [wrongT, if_neg h6]
  · refine e_iconst 1 dX4_wrong_9 rfl ?_
    refine e_goto 14 dX4_wrong_10 (by decide) ?_
    refine e_aload_n dX4_wrong_14 0 rfl rfl rfl ?_
    refine e_getf (v := .int (τ.1 36)) dX4_wrong_15 rfl fX4_369 (tw_o hp) rfl ?_
    refine e_callV0 (As := [.int 1, .int (τ.1 36)]) (rest := []) dX4_wrong_18 rfl mvX4_406 (tw_o hp) rfl (t_fail hp 1 (τ.1 36)) (Nat.le_of_ble_eq_true rfl) rfl rfl (Nat.le_of_ble_eq_true rfl) (Nat.zero_le _) (Nat.zero_le _) ?_
    refine e_return dX4_wrong_21 rfl (Nat.zero_le _) (Nat.zero_le _) ?_
    refine ⟨rfl, ?_⟩
    rw [wrongT, if_pos h6]

/-- ten to the d -/
def tnL : Nat → Int64
  | 0 => 1
  | d + 1 => tnL d * 10
def nrL (a b : Int64) : Int64 := fdL (2 * a + b) (2 * b)
set_option maxHeartbeats 4000000 in
set_option maxRecDepth 100000 in
/-- a loop of times10 -/
theorem t_tens_loop {M : List ACell} {n : Nat} (hn : n ≤ 20) {Q : Qfun} : ∀ (fuel : Nat) (k : Nat), k ≤ n → n < k + fuel → Q (some (.long (tnL n))) M →
    E cX4_times10 (RX4, (some .long), 4, 0, (0, 0), false, []) Q noX 0 0 4 [some (.int (nI n)), some (.long (tnL k)), none, some (.int (nI k))] [] M := by
  intro fuel
  induction fuel with
  | zero => intro k hk hf hQ; exact absurd hf (by omega)
  | succ fuel ih =>
    intro k hk hf hQ
    refine e_iload_n dX4_times10_4 3 rfl rfl ?_
    refine e_iload_n dX4_times10_5 0 rfl rfl ?_
    refine e_icmp_geN k n 21 (by omega) (by omega) dX4_times10_6 (by decide) (fun h6 => ?_) (fun h6 => ?_)
    · refine e_lload_n dX4_times10_21 1 rfl rfl ?_
      refine e_lreturn dX4_times10_22 rfl (Nat.zero_le _) (Nat.zero_le _) ?_
      have e1 : k = n := by omega
      subst e1
      exact hQ
    · refine e_lload_n dX4_times10_9 1 rfl rfl ?_
      refine e_ldc2 rfl q1588 dX4_times10_10 ?_
      refine e_lmul dX4_times10_13 ?_
      refine e_lstore_n dX4_times10_14 1 rfl (ls_1 rfl) (ln_s (ln_s ln_0)) (Nat.le_of_ble_eq_true rfl) ?_
      refine e_incN k (k + 1) (inc1 _) dX4_times10_15 rfl (ls_s (ls_s (ls_1 rfl))) (Nat.le_of_ble_eq_true rfl) ?_
      refine e_goto 4 dX4_times10_18 (by decide) ?_
      exact ih (k + 1) (by omega) (by omega) hQ

set_option maxHeartbeats 4000000 in
set_option maxRecDepth 100000 in
/-- WheelTablesModel.times10 -/
theorem t_tens {M : List ACell} {n : Nat} (hn : n ≤ 20) : Ct yX4_times10 (ws_ yX4_times10 cX4_times10 4 (some .long)) 0 0 0 [.int (nI n)] M (Q1 (some (.long (tnL n))) M) noX := by
  refine Ct.of (ini := false) (ls := [some (.int (nI n)), none, none, none]) (by decide) (Nat.le_of_ble_eq_true rfl) (fun h => by cases h) rfl ?_
  refine e_lconst 1 dX4_times10_0 rfl ?_
  refine e_lstore_n dX4_times10_1 1 rfl (ls_1 rfl) (ln_s (ln_s ln_0)) (Nat.le_of_ble_eq_true rfl) ?_
  refine e_iconst 0 dX4_times10_2 rfl ?_
  refine e_istore_n dX4_times10_3 3 rfl (ls_s (ls_s (ls_1 rfl))) (Nat.le_of_ble_eq_true rfl) ?_
  exact t_tens_loop hn (n + 1) 0 (by omega) (by omega) ⟨rfl, rfl⟩

set_option maxHeartbeats 4000000 in
set_option maxRecDepth 100000 in
/-- WheelTablesModel.nearest -/
theorem t_nearest {M : List ACell} (a b : Int64) (h0 : ¬ 2 * b = 0) : Ct yX4_nearest (ws_ yX4_nearest cX4_nearest 4 (some .long)) 1 0 0 [.long a, .long b] M (Q1 (some (.long (nrL a b))) M) noX := by
  refine Ct.of (ini := false) (ls := [some (.long a), none, some (.long b), none]) (by decide) (Nat.le_of_ble_eq_true rfl) (fun h => by cases h) rfl ?_
  refine e_ldc2 rfl q1466 dX4_nearest_0 ?_
  refine e_lload_n dX4_nearest_3 0 rfl rfl ?_
  refine e_lmul dX4_nearest_4 ?_
  refine e_lload_n dX4_nearest_5 2 rfl rfl ?_
  refine e_ladd dX4_nearest_6 ?_
  refine e_ldc2 rfl q1466 dX4_nearest_7 ?_
  refine e_lload_n dX4_nearest_10 2 rfl rfl ?_
  refine e_lmul dX4_nearest_11 ?_
  refine e_callS1 (As := [.long ((2 * a) + b), .long (2 * b)]) (rest := []) dX4_nearest_12 rfl msX4_337 (m_fdL ((2 * a) + b) (2 * b) h0) (Nat.le_of_ble_eq_true rfl) rfl rfl (Nat.le_of_ble_eq_true rfl) (Nat.zero_le _) (Nat.zero_le _) ?_
  refine e_lreturn dX4_nearest_15 rfl (Nat.zero_le _) (Nat.zero_le _) ?_
  exact ⟨rfl, rfl⟩

