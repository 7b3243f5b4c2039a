/-! ===== the twin: the mill ===== -/
theorem abL_ne {x : Int64} (h : ¬ x = 0) : ¬ abL x = 0 := by
  unfold abL
  split
  · intro z
    have e : -(-x) = x := Int64.neg_neg
    rw [z] at e
    exact h e.symm
  · exact h
set_option maxHeartbeats 4000000 in
set_option maxRecDepth 100000 in
/-- WheelTablesModel.isOver -/
theorem t_isOver {M : List ACell} (x y : Int64) : Ct yX4_isOver (ws_ yX4_isOver cX4_isOver 4 (some .boolean)) 1 0 0 [.long x, .long y] M (QB (spOver x y) M) noX := by
  refine Ct.of (ini := false) (ls := [some (.long x), none, some (.long y), none]) (by decide) (Nat.le_of_ble_eq_true rfl) (fun h => by cases h) rfl ?_
  refine e_lload_n dX4_isOver_0 0 rfl rfl ?_
  refine e_lconst 0 dX4_isOver_1 rfl ?_
  refine e_lcmp_eq 26 dX4_isOver_2 dX4_isOver_3 (by decide) (fun h2 => ?_) (fun h2 => ?_)
  · refine e_iconst 0 dX4_isOver_26 rfl ?_
    refine e_ireturn dX4_isOver_27 rfl rfl (Nat.zero_le _) (Nat.zero_le _) ?_
    exact ⟨rfl, Or.inr ⟨fun z => z.1 h2, rfl⟩⟩
  · refine e_lload_n dX4_isOver_6 2 rfl rfl ?_
    refine e_callS1 (As := [.long y]) (rest := []) dX4_isOver_7 rfl msX4_451 (m_absL y) (Nat.le_of_ble_eq_true rfl) rfl rfl (Nat.le_of_ble_eq_true rfl) (Nat.zero_le _) (Nat.zero_le _) ?_
    refine e_ldc2 rfl q1678 dX4_isOver_10 ?_
    refine e_lload_n dX4_isOver_13 0 rfl rfl ?_
    refine e_callS1 (As := [.long x]) (rest := [.long 999999999999, .long (abL y)]) dX4_isOver_14 rfl msX4_451 (m_absL x) (Nat.le_of_ble_eq_true rfl) rfl rfl (Nat.le_of_ble_eq_true rfl) (Nat.zero_le _) (Nat.zero_le _) ?_
    have hab := abL_ne h2
    refine e_ldiv dX4_isOver_17 (by assumption) ?_
    refine e_lcmp_le 26 dX4_isOver_18 dX4_isOver_19 (by decide) (fun h18 => ?_) (fun h18 => ?_)
    · refine e_iconst 0 dX4_isOver_26 rfl ?_
      refine e_ireturn dX4_isOver_27 rfl rfl (Nat.zero_le _) (Nat.zero_le _) ?_
      exact ⟨rfl, Or.inr ⟨fun z => absurd z.2 (Int64.not_lt.mpr h18), rfl⟩⟩
    · refine e_iconst 1 dX4_isOver_22 rfl ?_
      refine e_goto 27 dX4_isOver_23 (by decide) ?_
      refine e_ireturn dX4_isOver_27 rfl rfl (Nat.zero_le _) (Nat.zero_le _) ?_
      exact ⟨rfl, Or.inl ⟨⟨h2, Int64.not_le.mp h18⟩, rfl⟩⟩

set_option maxHeartbeats 4000000 in
set_option maxRecDepth 100000 in
/-- WheelTablesModel.alarms -/
theorem t_alm0 {pre post : List ACell} {τ : Tw} (hp : pre.length = 56) {k a b P : Nat} (hk : k < 40) (hK : τ.2.2.1 43 k = 0) (ha : τ.2.2.1 44 k = nI a ∧ a < 20) (hb : τ.2.2.1 45 k = nI b ∧ b < 20) (hP : P ≤ 40 ∧ τ.1 62 = nI P) : Ct yX4_alarms (ws_ yX4_alarms cX4_alarms 6 (some .int)) 2 0 0 [.ref 56, .int (nI k)] (TW pre τ post) (Q1 (some (.int (spAlm τ k))) (TW pre τ post)) noX := by
  refine Ct.of (ini := false) (ls := [some (.ref 56), some (.int (nI k)), none, none, none, none]) (by decide) (Nat.le_of_ble_eq_true rfl) (fun h => by cases h) rfl ?_
  refine e_aload_n dX4_alarms_0 0 rfl rfl rfl ?_
  refine e_getf (v := .ref 75) dX4_alarms_1 rfl fX4_83 (tw_o hp) rfl ?_
  refine e_iload_n dX4_alarms_4 1 rfl rfl ?_
  refine e_iald (f := τ.2.2.1 43) (j := k) dX4_alarms_5 (tw_a43 hp) rfl (by omega) (by decide) ?_
  refine e_top (congrArg Value.int hK) ?_
  refine e_bipush 6 dX4_alarms_6 rfl ?_
  refine e_icmp_eq 22 dX4_alarms_8 (by decide) (fun h => absurd h (by decide)) (fun _ => ?_)
  refine e_aload_n dX4_alarms_11 0 rfl rfl rfl ?_
  refine e_getf (v := .ref 75) dX4_alarms_12 rfl fX4_83 (tw_o hp) rfl ?_
  refine e_iload_n dX4_alarms_15 1 rfl rfl ?_
  refine e_iald (f := τ.2.2.1 43) (j := k) dX4_alarms_16 (tw_a43 hp) rfl (by omega) (by decide) ?_
  refine e_top (congrArg Value.int hK) ?_
  refine e_bipush 7 dX4_alarms_17 rfl ?_
  refine e_icmp_ne 24 dX4_alarms_19 (by decide) (fun _ => ?_) (fun h => absurd h (by decide))
  refine e_aload_n dX4_alarms_24 0 rfl rfl rfl ?_
  refine e_getf (v := .ref 90) dX4_alarms_25 rfl fX4_128 (tw_o hp) rfl ?_
  refine e_aload_n dX4_alarms_28 0 rfl rfl rfl ?_
  refine e_getf (v := .ref 76) dX4_alarms_29 rfl fX4_86 (tw_o hp) rfl ?_
  refine e_iload_n dX4_alarms_32 1 rfl rfl ?_
  refine e_iald (f := τ.2.2.1 44) (j := k) dX4_alarms_33 (tw_a44 hp) rfl (by omega) (by decide) ?_
  refine e_top (congrArg Value.int ha.1) ?_
  refine e_lald (f := τ.2.2.2 58) (j := a) dX4_alarms_34 (tw_a58 hp) rfl (by omega) (by decide) ?_
  refine e_lstore_n dX4_alarms_35 2 rfl (ls_s (ls_1 rfl)) (ln_s (ln_s (ln_s ln_0))) (Nat.le_of_ble_eq_true rfl) ?_
  refine e_aload_n dX4_alarms_36 0 rfl rfl rfl ?_
  refine e_getf (v := .ref 90) dX4_alarms_37 rfl fX4_128 (tw_o hp) rfl ?_
  refine e_aload_n dX4_alarms_40 0 rfl rfl rfl ?_
  refine e_getf (v := .ref 77) dX4_alarms_41 rfl fX4_89 (tw_o hp) rfl ?_
  refine e_iload_n dX4_alarms_44 1 rfl rfl ?_
  refine e_iald (f := τ.2.2.1 45) (j := k) dX4_alarms_45 (tw_a45 hp) rfl (by omega) (by decide) ?_
  refine e_top (congrArg Value.int hb.1) ?_
  refine e_lald (f := τ.2.2.2 58) (j := b) dX4_alarms_46 (tw_a58 hp) rfl (by omega) (by decide) ?_
  refine e_lstore dX4_alarms_47 (ls_s (ls_s (ls_s (ls_1 rfl)))) (ln_s (ln_s (ln_s (ln_s (ln_s ln_0))))) (Nat.le_of_ble_eq_true rfl) ?_
  refine e_aload_n dX4_alarms_49 0 rfl rfl rfl ?_
  refine e_getf (v := .ref 75) dX4_alarms_50 rfl fX4_83 (tw_o hp) rfl ?_
  refine e_iload_n dX4_alarms_53 1 rfl rfl ?_
  refine e_iald (f := τ.2.2.1 43) (j := k) dX4_alarms_54 (tw_a43 hp) rfl (by omega) (by decide) ?_
  refine e_top (congrArg Value.int hK) ?_
  refine e_tableOut 171 dX4_alarms_55 (by decide) (by decide) ?_
  refine e_iconst 0 dX4_alarms_171 rfl ?_
  refine e_ireturn dX4_alarms_172 rfl rfl (Nat.zero_le _) (Nat.zero_le _) ?_
  refine ⟨?_, rfl⟩
  rw [spAlm, hK, if_neg (by decide), if_neg (by decide), if_neg (by decide), if_neg (by decide), if_neg (by decide)]

set_option maxHeartbeats 4000000 in
set_option maxRecDepth 100000 in
/-- WheelTablesModel.alarms -/
theorem t_alm1 {pre post : List ACell} {τ : Tw} (hp : pre.length = 56) {k a b P : Nat} (hk : k < 40) (hK : τ.2.2.1 43 k = 1) (ha : τ.2.2.1 44 k = nI a ∧ a < 20) (hb : τ.2.2.1 45 k = nI b ∧ b < 20) (hP : P ≤ 40 ∧ τ.1 62 = nI P) : Ct yX4_alarms (ws_ yX4_alarms cX4_alarms 6 (some .int)) 2 0 0 [.ref 56, .int (nI k)] (TW pre τ post) (Q1 (some (.int (spAlm τ k))) (TW pre τ post)) noX := by
  refine Ct.of (ini := false) (ls := [some (.ref 56), some (.int (nI k)), none, none, none, none]) (by decide) (Nat.le_of_ble_eq_true rfl) (fun h => by cases h) rfl ?_
  refine e_aload_n dX4_alarms_0 0 rfl rfl rfl ?_
  refine e_getf (v := .ref 75) dX4_alarms_1 rfl fX4_83 (tw_o hp) rfl ?_
  refine e_iload_n dX4_alarms_4 1 rfl rfl ?_
  refine e_iald (f := τ.2.2.1 43) (j := k) dX4_alarms_5 (tw_a43 hp) rfl (by omega) (by decide) ?_
  refine e_top (congrArg Value.int hK) ?_
  refine e_bipush 6 dX4_alarms_6 rfl ?_
  refine e_icmp_eq 22 dX4_alarms_8 (by decide) (fun h => absurd h (by decide)) (fun _ => ?_)
  refine e_aload_n dX4_alarms_11 0 rfl rfl rfl ?_
  refine e_getf (v := .ref 75) dX4_alarms_12 rfl fX4_83 (tw_o hp) rfl ?_
  refine e_iload_n dX4_alarms_15 1 rfl rfl ?_
  refine e_iald (f := τ.2.2.1 43) (j := k) dX4_alarms_16 (tw_a43 hp) rfl (by omega) (by decide) ?_
  refine e_top (congrArg Value.int hK) ?_
  refine e_bipush 7 dX4_alarms_17 rfl ?_
  refine e_icmp_ne 24 dX4_alarms_19 (by decide) (fun _ => ?_) (fun h => absurd h (by decide))
  refine e_aload_n dX4_alarms_24 0 rfl rfl rfl ?_
  refine e_getf (v := .ref 90) dX4_alarms_25 rfl fX4_128 (tw_o hp) rfl ?_
  refine e_aload_n dX4_alarms_28 0 rfl rfl rfl ?_
  refine e_getf (v := .ref 76) dX4_alarms_29 rfl fX4_86 (tw_o hp) rfl ?_
  refine e_iload_n dX4_alarms_32 1 rfl rfl ?_
  refine e_iald (f := τ.2.2.1 44) (j := k) dX4_alarms_33 (tw_a44 hp) rfl (by omega) (by decide) ?_
  refine e_top (congrArg Value.int ha.1) ?_
  refine e_lald (f := τ.2.2.2 58) (j := a) dX4_alarms_34 (tw_a58 hp) rfl (by omega) (by decide) ?_
  refine e_lstore_n dX4_alarms_35 2 rfl (ls_s (ls_1 rfl)) (ln_s (ln_s (ln_s ln_0))) (Nat.le_of_ble_eq_true rfl) ?_
  refine e_aload_n dX4_alarms_36 0 rfl rfl rfl ?_
  refine e_getf (v := .ref 90) dX4_alarms_37 rfl fX4_128 (tw_o hp) rfl ?_
  refine e_aload_n dX4_alarms_40 0 rfl rfl rfl ?_
  refine e_getf (v := .ref 77) dX4_alarms_41 rfl fX4_89 (tw_o hp) rfl ?_
  refine e_iload_n dX4_alarms_44 1 rfl rfl ?_
  refine e_iald (f := τ.2.2.1 45) (j := k) dX4_alarms_45 (tw_a45 hp) rfl (by omega) (by decide) ?_
  refine e_top (congrArg Value.int hb.1) ?_
  refine e_lald (f := τ.2.2.2 58) (j := b) dX4_alarms_46 (tw_a58 hp) rfl (by omega) (by decide) ?_
  refine e_lstore dX4_alarms_47 (ls_s (ls_s (ls_s (ls_1 rfl)))) (ln_s (ln_s (ln_s (ln_s (ln_s ln_0))))) (Nat.le_of_ble_eq_true rfl) ?_
  refine e_aload_n dX4_alarms_49 0 rfl rfl rfl ?_
  refine e_getf (v := .ref 75) dX4_alarms_50 rfl fX4_83 (tw_o hp) rfl ?_
  refine e_iload_n dX4_alarms_53 1 rfl rfl ?_
  refine e_iald (f := τ.2.2.1 43) (j := k) dX4_alarms_54 (tw_a43 hp) rfl (by omega) (by decide) ?_
  refine e_top (congrArg Value.int hK) ?_
  refine e_tableIn (off := 33) 88 dX4_alarms_55 (by decide) (by decide) (by decide) (by decide) ?_
  refine e_lload_n dX4_alarms_88 2 rfl rfl ?_
  refine e_lload dX4_alarms_89 rfl ?_
  refine e_ladd dX4_alarms_91 ?_
  refine e_callS1 (As := [.long ((τ.2.2.2 58 a) + (τ.2.2.2 58 b))]) (rest := []) dX4_alarms_92 rfl msX4_451 (m_absL ((τ.2.2.2 58 a) + (τ.2.2.2 58 b))) (Nat.le_of_ble_eq_true rfl) rfl rfl (Nat.le_of_ble_eq_true rfl) (Nat.zero_le _) (Nat.zero_le _) ?_
  refine e_ldc2 rfl q1678 dX4_alarms_95 ?_
  refine e_lcmp_le 106 dX4_alarms_98 dX4_alarms_99 (by decide) (fun h98 => ?_) (fun h98 => ?_)
  · refine e_iconst 0 dX4_alarms_106 rfl ?_
    refine e_ireturn dX4_alarms_107 rfl rfl (Nat.zero_le _) (Nat.zero_le _) ?_
    have eX : spX τ k = τ.2.2.2 58 a := by rw [spX, ha.1, ix_nI (by omega)]
    have eY : spY τ k = τ.2.2.2 58 b := by rw [spY, hb.1, ix_nI (by omega)]
    refine ⟨?_, rfl⟩
    rw [spAlm, hK, if_pos rfl, eX, eY, if_neg (Int64.not_lt.mpr h98)]
  · refine e_iconst 1 dX4_alarms_102 rfl ?_
    refine e_goto 107 dX4_alarms_103 (by decide) ?_
    refine e_ireturn dX4_alarms_107 rfl rfl (Nat.zero_le _) (Nat.zero_le _) ?_
    have eX : spX τ k = τ.2.2.2 58 a := by rw [spX, ha.1, ix_nI (by omega)]
    have eY : spY τ k = τ.2.2.2 58 b := by rw [spY, hb.1, ix_nI (by omega)]
    refine ⟨?_, rfl⟩
    rw [spAlm, hK, if_pos rfl, eX, eY, if_pos (Int64.not_le.mp h98)]

set_option maxHeartbeats 4000000 in
set_option maxRecDepth 100000 in
/-- WheelTablesModel.alarms -/
theorem t_alm2 {pre post : List ACell} {τ : Tw} (hp : pre.length = 56) {k a b P : Nat} (hk : k < 40) (hK : τ.2.2.1 43 k = 2) (ha : τ.2.2.1 44 k = nI a ∧ a < 20) (hb : τ.2.2.1 45 k = nI b ∧ b < 20) (hP : P ≤ 40 ∧ τ.1 62 = nI P) : Ct yX4_alarms (ws_ yX4_alarms cX4_alarms 6 (some .int)) 2 0 0 [.ref 56, .int (nI k)] (TW pre τ post) (Q1 (some (.int (spAlm τ k))) (TW pre τ post)) noX := by
  refine Ct.of (ini := false) (ls := [some (.ref 56), some (.int (nI k)), none, none, none, none]) (by decide) (Nat.le_of_ble_eq_true rfl) (fun h => by cases h) rfl ?_
  refine e_aload_n dX4_alarms_0 0 rfl rfl rfl ?_
  refine e_getf (v := .ref 75) dX4_alarms_1 rfl fX4_83 (tw_o hp) rfl ?_
  refine e_iload_n dX4_alarms_4 1 rfl rfl ?_
  refine e_iald (f := τ.2.2.1 43) (j := k) dX4_alarms_5 (tw_a43 hp) rfl (by omega) (by decide) ?_
  refine e_top (congrArg Value.int hK) ?_
  refine e_bipush 6 dX4_alarms_6 rfl ?_
  refine e_icmp_eq 22 dX4_alarms_8 (by decide) (fun h => absurd h (by decide)) (fun _ => ?_)
  refine e_aload_n dX4_alarms_11 0 rfl rfl rfl ?_
  refine e_getf (v := .ref 75) dX4_alarms_12 rfl fX4_83 (tw_o hp) rfl ?_
  refine e_iload_n dX4_alarms_15 1 rfl rfl ?_
  refine e_iald (f := τ.2.2.1 43) (j := k) dX4_alarms_16 (tw_a43 hp) rfl (by omega) (by decide) ?_
  refine e_top (congrArg Value.int hK) ?_
  refine e_bipush 7 dX4_alarms_17 rfl ?_
  refine e_icmp_ne 24 dX4_alarms_19 (by decide) (fun _ => ?_) (fun h => absurd h (by decide))
  refine e_aload_n dX4_alarms_24 0 rfl rfl rfl ?_
  refine e_getf (v := .ref 90) dX4_alarms_25 rfl fX4_128 (tw_o hp) rfl ?_
  refine e_aload_n dX4_alarms_28 0 rfl rfl rfl ?_
  refine e_getf (v := .ref 76) dX4_alarms_29 rfl fX4_86 (tw_o hp) rfl ?_
  refine e_iload_n dX4_alarms_32 1 rfl rfl ?_
  refine e_iald (f := τ.2.2.1 44) (j := k) dX4_alarms_33 (tw_a44 hp) rfl (by omega) (by decide) ?_
  refine e_top (congrArg Value.int ha.1) ?_
  refine e_lald (f := τ.2.2.2 58) (j := a) dX4_alarms_34 (tw_a58 hp) rfl (by omega) (by decide) ?_
  refine e_lstore_n dX4_alarms_35 2 rfl (ls_s (ls_1 rfl)) (ln_s (ln_s (ln_s ln_0))) (Nat.le_of_ble_eq_true rfl) ?_
  refine e_aload_n dX4_alarms_36 0 rfl rfl rfl ?_
  refine e_getf (v := .ref 90) dX4_alarms_37 rfl fX4_128 (tw_o hp) rfl ?_
  refine e_aload_n dX4_alarms_40 0 rfl rfl rfl ?_
  refine e_getf (v := .ref 77) dX4_alarms_41 rfl fX4_89 (tw_o hp) rfl ?_
  refine e_iload_n dX4_alarms_44 1 rfl rfl ?_
  refine e_iald (f := τ.2.2.1 45) (j := k) dX4_alarms_45 (tw_a45 hp) rfl (by omega) (by decide) ?_
  refine e_top (congrArg Value.int hb.1) ?_
  refine e_lald (f := τ.2.2.2 58) (j := b) dX4_alarms_46 (tw_a58 hp) rfl (by omega) (by decide) ?_
  refine e_lstore dX4_alarms_47 (ls_s (ls_s (ls_s (ls_1 rfl)))) (ln_s (ln_s (ln_s (ln_s (ln_s ln_0))))) (Nat.le_of_ble_eq_true rfl) ?_
  refine e_aload_n dX4_alarms_49 0 rfl rfl rfl ?_
  refine e_getf (v := .ref 75) dX4_alarms_50 rfl fX4_83 (tw_o hp) rfl ?_
  refine e_iload_n dX4_alarms_53 1 rfl rfl ?_
  refine e_iald (f := τ.2.2.1 43) (j := k) dX4_alarms_54 (tw_a43 hp) rfl (by omega) (by decide) ?_
  refine e_top (congrArg Value.int hK) ?_
  refine e_tableIn (off := 53) 108 dX4_alarms_55 (by decide) (by decide) (by decide) (by decide) ?_
  refine e_lload_n dX4_alarms_108 2 rfl rfl ?_
  refine e_lload dX4_alarms_109 rfl ?_
  refine e_lsub dX4_alarms_111 ?_
  refine e_callS1 (As := [.long ((τ.2.2.2 58 a) - (τ.2.2.2 58 b))]) (rest := []) dX4_alarms_112 rfl msX4_451 (m_absL ((τ.2.2.2 58 a) - (τ.2.2.2 58 b))) (Nat.le_of_ble_eq_true rfl) rfl rfl (Nat.le_of_ble_eq_true rfl) (Nat.zero_le _) (Nat.zero_le _) ?_
  refine e_ldc2 rfl q1678 dX4_alarms_115 ?_
  refine e_lcmp_le 126 dX4_alarms_118 dX4_alarms_119 (by decide) (fun h118 => ?_) (fun h118 => ?_)
  · refine e_iconst 0 dX4_alarms_126 rfl ?_
    refine e_ireturn dX4_alarms_127 rfl rfl (Nat.zero_le _) (Nat.zero_le _) ?_
    have eX : spX τ k = τ.2.2.2 58 a := by rw [spX, ha.1, ix_nI (by omega)]
    have eY : spY τ k = τ.2.2.2 58 b := by rw [spY, hb.1, ix_nI (by omega)]
    refine ⟨?_, rfl⟩
    rw [spAlm, hK, if_neg (by decide), if_pos rfl, eX, eY, if_neg (Int64.not_lt.mpr h118)]
  · refine e_iconst 1 dX4_alarms_122 rfl ?_
    refine e_goto 127 dX4_alarms_123 (by decide) ?_
    refine e_ireturn dX4_alarms_127 rfl rfl (Nat.zero_le _) (Nat.zero_le _) ?_
    have eX : spX τ k = τ.2.2.2 58 a := by rw [spX, ha.1, ix_nI (by omega)]
    have eY : spY τ k = τ.2.2.2 58 b := by rw [spY, hb.1, ix_nI (by omega)]
    refine ⟨?_, rfl⟩
    rw [spAlm, hK, if_neg (by decide), if_pos rfl, eX, eY, if_pos (Int64.not_le.mp h118)]

set_option maxHeartbeats 4000000 in
set_option maxRecDepth 100000 in
/-- WheelTablesModel.alarms -/
theorem t_alm3 {pre post : List ACell} {τ : Tw} (hp : pre.length = 56) {k a b P : Nat} (hk : k < 40) (hK : τ.2.2.1 43 k = 3) (ha : τ.2.2.1 44 k = nI a ∧ a < 20) (hb : τ.2.2.1 45 k = nI b ∧ b < 20) (hP : P ≤ 40 ∧ τ.1 62 = nI P) : Ct yX4_alarms (ws_ yX4_alarms cX4_alarms 6 (some .int)) 2 0 0 [.ref 56, .int (nI k)] (TW pre τ post) (Q1 (some (.int (spAlm τ k))) (TW pre τ post)) noX := by
  refine Ct.of (ini := false) (ls := [some (.ref 56), some (.int (nI k)), none, none, none, none]) (by decide) (Nat.le_of_ble_eq_true rfl) (fun h => by cases h) rfl ?_
  refine e_aload_n dX4_alarms_0 0 rfl rfl rfl ?_
  refine e_getf (v := .ref 75) dX4_alarms_1 rfl fX4_83 (tw_o hp) rfl ?_
  refine e_iload_n dX4_alarms_4 1 rfl rfl ?_
  refine e_iald (f := τ.2.2.1 43) (j := k) dX4_alarms_5 (tw_a43 hp) rfl (by omega) (by decide) ?_
  refine e_top (congrArg Value.int hK) ?_
  refine e_bipush 6 dX4_alarms_6 rfl ?_
  refine e_icmp_eq 22 dX4_alarms_8 (by decide) (fun h => absurd h (by decide)) (fun _ => ?_)
  refine e_aload_n dX4_alarms_11 0 rfl rfl rfl ?_
  refine e_getf (v := .ref 75) dX4_alarms_12 rfl fX4_83 (tw_o hp) rfl ?_
  refine e_iload_n dX4_alarms_15 1 rfl rfl ?_
  refine e_iald (f := τ.2.2.1 43) (j := k) dX4_alarms_16 (tw_a43 hp) rfl (by omega) (by decide) ?_
  refine e_top (congrArg Value.int hK) ?_
  refine e_bipush 7 dX4_alarms_17 rfl ?_
  refine e_icmp_ne 24 dX4_alarms_19 (by decide) (fun _ => ?_) (fun h => absurd h (by decide))
  refine e_aload_n dX4_alarms_24 0 rfl rfl rfl ?_
  refine e_getf (v := .ref 90) dX4_alarms_25 rfl fX4_128 (tw_o hp) rfl ?_
  refine e_aload_n dX4_alarms_28 0 rfl rfl rfl ?_
  refine e_getf (v := .ref 76) dX4_alarms_29 rfl fX4_86 (tw_o hp) rfl ?_
  refine e_iload_n dX4_alarms_32 1 rfl rfl ?_
  refine e_iald (f := τ.2.2.1 44) (j := k) dX4_alarms_33 (tw_a44 hp) rfl (by omega) (by decide) ?_
  refine e_top (congrArg Value.int ha.1) ?_
  refine e_lald (f := τ.2.2.2 58) (j := a) dX4_alarms_34 (tw_a58 hp) rfl (by omega) (by decide) ?_
  refine e_lstore_n dX4_alarms_35 2 rfl (ls_s (ls_1 rfl)) (ln_s (ln_s (ln_s ln_0))) (Nat.le_of_ble_eq_true rfl) ?_
  refine e_aload_n dX4_alarms_36 0 rfl rfl rfl ?_
  refine e_getf (v := .ref 90) dX4_alarms_37 rfl fX4_128 (tw_o hp) rfl ?_
  refine e_aload_n dX4_alarms_40 0 rfl rfl rfl ?_
  refine e_getf (v := .ref 77) dX4_alarms_41 rfl fX4_89 (tw_o hp) rfl ?_
  refine e_iload_n dX4_alarms_44 1 rfl rfl ?_
  refine e_iald (f := τ.2.2.1 45) (j := k) dX4_alarms_45 (tw_a45 hp) rfl (by omega) (by decide) ?_
  refine e_top (congrArg Value.int hb.1) ?_
  refine e_lald (f := τ.2.2.2 58) (j := b) dX4_alarms_46 (tw_a58 hp) rfl (by omega) (by decide) ?_
  refine e_lstore dX4_alarms_47 (ls_s (ls_s (ls_s (ls_1 rfl)))) (ln_s (ln_s (ln_s (ln_s (ln_s ln_0))))) (Nat.le_of_ble_eq_true rfl) ?_
  refine e_aload_n dX4_alarms_49 0 rfl rfl rfl ?_
  refine e_getf (v := .ref 75) dX4_alarms_50 rfl fX4_83 (tw_o hp) rfl ?_
  refine e_iload_n dX4_alarms_53 1 rfl rfl ?_
  refine e_iald (f := τ.2.2.1 43) (j := k) dX4_alarms_54 (tw_a43 hp) rfl (by omega) (by decide) ?_
  refine e_top (congrArg Value.int hK) ?_
  refine e_tableIn (off := 73) 128 dX4_alarms_55 (by decide) (by decide) (by decide) (by decide) ?_
  refine e_lload_n dX4_alarms_128 2 rfl rfl ?_
  refine e_lload dX4_alarms_129 rfl ?_
  refine e_callSB (As := [.long (τ.2.2.2 58 a), .long (τ.2.2.2 58 b)]) (rest := []) dX4_alarms_131 rfl msX4_457 (t_isOver (τ.2.2.2 58 a) (τ.2.2.2 58 b)) (Nat.le_of_ble_eq_true rfl) rfl rfl (Nat.le_of_ble_eq_true rfl) (Nat.zero_le _) (Nat.zero_le _) (fun h131 => ?_) (fun h131 => ?_)
  · have h131 : (spOver (τ.2.2.2 58 a) (τ.2.2.2 58 b)) := h131
    refine e_if_eq_f (by decide) 141 dX4_alarms_134 (by decide) ?_
    refine e_iconst 1 dX4_alarms_137 rfl ?_
    refine e_goto 142 dX4_alarms_138 (by decide) ?_
    refine e_ireturn dX4_alarms_142 rfl rfl (Nat.zero_le _) (Nat.zero_le _) ?_
    have eX : spX τ k = τ.2.2.2 58 a := by rw [spX, ha.1, ix_nI (by omega)]
    have eY : spY τ k = τ.2.2.2 58 b := by rw [spY, hb.1, ix_nI (by omega)]
    refine ⟨?_, rfl⟩
    rw [spAlm, hK, if_neg (by decide), if_neg (by decide), if_pos rfl, eX, eY, if_pos h131]
  · have h131 : ¬ (spOver (τ.2.2.2 58 a) (τ.2.2.2 58 b)) := h131
    refine e_if_eq_t 141 (by decide) dX4_alarms_134 (by decide) ?_
    refine e_iconst 0 dX4_alarms_141 rfl ?_
    refine e_ireturn dX4_alarms_142 rfl rfl (Nat.zero_le _) (Nat.zero_le _) ?_
    have eX : spX τ k = τ.2.2.2 58 a := by rw [spX, ha.1, ix_nI (by omega)]
    have eY : spY τ k = τ.2.2.2 58 b := by rw [spY, hb.1, ix_nI (by omega)]
    refine ⟨?_, rfl⟩
    rw [spAlm, hK, if_neg (by decide), if_neg (by decide), if_pos rfl, eX, eY, if_neg h131]

set_option maxHeartbeats 4000000 in
set_option maxRecDepth 100000 in
/-- WheelTablesModel.alarms -/
theorem t_alm4 {pre post : List ACell} {τ : Tw} (hp : pre.length = 56) {k a b P : Nat} (hk : k < 40) (hK : τ.2.2.1 43 k = 4) (ha : τ.2.2.1 44 k = nI a ∧ a < 20) (hb : τ.2.2.1 45 k = nI b ∧ b < 20) (hP : P ≤ 40 ∧ τ.1 62 = nI P) : Ct yX4_alarms (ws_ yX4_alarms cX4_alarms 6 (some .int)) 2 0 0 [.ref 56, .int (nI k)] (TW pre τ post) (Q1 (some (.int (spAlm τ k))) (TW pre τ post)) noX := by
  refine Ct.of (ini := false) (ls := [some (.ref 56), some (.int (nI k)), none, none, none, none]) (by decide) (Nat.le_of_ble_eq_true rfl) (fun h => by cases h) rfl ?_
  refine e_aload_n dX4_alarms_0 0 rfl rfl rfl ?_
  refine e_getf (v := .ref 75) dX4_alarms_1 rfl fX4_83 (tw_o hp) rfl ?_
  refine e_iload_n dX4_alarms_4 1 rfl rfl ?_
  refine e_iald (f := τ.2.2.1 43) (j := k) dX4_alarms_5 (tw_a43 hp) rfl (by omega) (by decide) ?_
  refine e_top (congrArg Value.int hK) ?_
  refine e_bipush 6 dX4_alarms_6 rfl ?_
  refine e_icmp_eq 22 dX4_alarms_8 (by decide) (fun h => absurd h (by decide)) (fun _ => ?_)
  refine e_aload_n dX4_alarms_11 0 rfl rfl rfl ?_
  refine e_getf (v := .ref 75) dX4_alarms_12 rfl fX4_83 (tw_o hp) rfl ?_
  refine e_iload_n dX4_alarms_15 1 rfl rfl ?_
  refine e_iald (f := τ.2.2.1 43) (j := k) dX4_alarms_16 (tw_a43 hp) rfl (by omega) (by decide) ?_
  refine e_top (congrArg Value.int hK) ?_
  refine e_bipush 7 dX4_alarms_17 rfl ?_
  refine e_icmp_ne 24 dX4_alarms_19 (by decide) (fun _ => ?_) (fun h => absurd h (by decide))
  refine e_aload_n dX4_alarms_24 0 rfl rfl rfl ?_
  refine e_getf (v := .ref 90) dX4_alarms_25 rfl fX4_128 (tw_o hp) rfl ?_
  refine e_aload_n dX4_alarms_28 0 rfl rfl rfl ?_
  refine e_getf (v := .ref 76) dX4_alarms_29 rfl fX4_86 (tw_o hp) rfl ?_
  refine e_iload_n dX4_alarms_32 1 rfl rfl ?_
  refine e_iald (f := τ.2.2.1 44) (j := k) dX4_alarms_33 (tw_a44 hp) rfl (by omega) (by decide) ?_
  refine e_top (congrArg Value.int ha.1) ?_
  refine e_lald (f := τ.2.2.2 58) (j := a) dX4_alarms_34 (tw_a58 hp) rfl (by omega) (by decide) ?_
  refine e_lstore_n dX4_alarms_35 2 rfl (ls_s (ls_1 rfl)) (ln_s (ln_s (ln_s ln_0))) (Nat.le_of_ble_eq_true rfl) ?_
  refine e_aload_n dX4_alarms_36 0 rfl rfl rfl ?_
  refine e_getf (v := .ref 90) dX4_alarms_37 rfl fX4_128 (tw_o hp) rfl ?_
  refine e_aload_n dX4_alarms_40 0 rfl rfl rfl ?_
  refine e_getf (v := .ref 77) dX4_alarms_41 rfl fX4_89 (tw_o hp) rfl ?_
  refine e_iload_n dX4_alarms_44 1 rfl rfl ?_
  refine e_iald (f := τ.2.2.1 45) (j := k) dX4_alarms_45 (tw_a45 hp) rfl (by omega) (by decide) ?_
  refine e_top (congrArg Value.int hb.1) ?_
  refine e_lald (f := τ.2.2.2 58) (j := b) dX4_alarms_46 (tw_a58 hp) rfl (by omega) (by decide) ?_
  refine e_lstore dX4_alarms_47 (ls_s (ls_s (ls_s (ls_1 rfl)))) (ln_s (ln_s (ln_s (ln_s (ln_s ln_0))))) (Nat.le_of_ble_eq_true rfl) ?_
  refine e_aload_n dX4_alarms_49 0 rfl rfl rfl ?_
  refine e_getf (v := .ref 75) dX4_alarms_50 rfl fX4_83 (tw_o hp) rfl ?_
  refine e_iload_n dX4_alarms_53 1 rfl rfl ?_
  refine e_iald (f := τ.2.2.1 43) (j := k) dX4_alarms_54 (tw_a43 hp) rfl (by omega) (by decide) ?_
  refine e_top (congrArg Value.int hK) ?_
  refine e_tableIn (off := 88) 143 dX4_alarms_55 (by decide) (by decide) (by decide) (by decide) ?_
  refine e_lload dX4_alarms_143 rfl ?_
  refine e_lconst 0 dX4_alarms_145 rfl ?_
  refine e_lcmp_ne 154 dX4_alarms_146 dX4_alarms_147 (by decide) (fun h146 => ?_) (fun h146 => ?_)
  · refine e_iconst 0 dX4_alarms_154 rfl ?_
    refine e_ireturn dX4_alarms_155 rfl rfl (Nat.zero_le _) (Nat.zero_le _) ?_
    have eX : spX τ k = τ.2.2.2 58 a := by rw [spX, ha.1, ix_nI (by omega)]
    have eY : spY τ k = τ.2.2.2 58 b := by rw [spY, hb.1, ix_nI (by omega)]
    refine ⟨?_, rfl⟩
    rw [spAlm, hK, if_neg (by decide), if_neg (by decide), if_neg (by decide), if_pos rfl, eY, if_neg h146]
  · refine e_iconst 2 dX4_alarms_150 rfl ?_
    refine e_goto 155 dX4_alarms_151 (by decide) ?_
    refine e_ireturn dX4_alarms_155 rfl rfl (Nat.zero_le _) (Nat.zero_le _) ?_
    have eX : spX τ k = τ.2.2.2 58 a := by rw [spX, ha.1, ix_nI (by omega)]
    have eY : spY τ k = τ.2.2.2 58 b := by rw [spY, hb.1, ix_nI (by omega)]
    refine ⟨?_, rfl⟩
    rw [spAlm, hK, if_neg (by decide), if_neg (by decide), if_neg (by decide), if_pos rfl, eY, if_pos h146]

set_option maxHeartbeats 4000000 in
set_option maxRecDepth 100000 in
/-- WheelTablesModel.alarms -/
theorem t_alm5 {pre post : List ACell} {τ : Tw} (hp : pre.length = 56) {k a b P : Nat} (hk : k < 40) (hK : τ.2.2.1 43 k = 5) (ha : τ.2.2.1 44 k = nI a ∧ a < 20) (hb : τ.2.2.1 45 k = nI b ∧ b < 20) (hP : P ≤ 40 ∧ τ.1 62 = nI P) : Ct yX4_alarms (ws_ yX4_alarms cX4_alarms 6 (some .int)) 2 0 0 [.ref 56, .int (nI k)] (TW pre τ post) (Q1 (some (.int (spAlm τ k))) (TW pre τ post)) noX := by
  refine Ct.of (ini := false) (ls := [some (.ref 56), some (.int (nI k)), none, none, none, none]) (by decide) (Nat.le_of_ble_eq_true rfl) (fun h => by cases h) rfl ?_
  refine e_aload_n dX4_alarms_0 0 rfl rfl rfl ?_
  refine e_getf (v := .ref 75) dX4_alarms_1 rfl fX4_83 (tw_o hp) rfl ?_
  refine e_iload_n dX4_alarms_4 1 rfl rfl ?_
  refine e_iald (f := τ.2.2.1 43) (j := k) dX4_alarms_5 (tw_a43 hp) rfl (by omega) (by decide) ?_
  refine e_top (congrArg Value.int hK) ?_
  refine e_bipush 6 dX4_alarms_6 rfl ?_
  refine e_icmp_eq 22 dX4_alarms_8 (by decide) (fun h => absurd h (by decide)) (fun _ => ?_)
  refine e_aload_n dX4_alarms_11 0 rfl rfl rfl ?_
  refine e_getf (v := .ref 75) dX4_alarms_12 rfl fX4_83 (tw_o hp) rfl ?_
  refine e_iload_n dX4_alarms_15 1 rfl rfl ?_
  refine e_iald (f := τ.2.2.1 43) (j := k) dX4_alarms_16 (tw_a43 hp) rfl (by omega) (by decide) ?_
  refine e_top (congrArg Value.int hK) ?_
  refine e_bipush 7 dX4_alarms_17 rfl ?_
  refine e_icmp_ne 24 dX4_alarms_19 (by decide) (fun _ => ?_) (fun h => absurd h (by decide))
  refine e_aload_n dX4_alarms_24 0 rfl rfl rfl ?_
  refine e_getf (v := .ref 90) dX4_alarms_25 rfl fX4_128 (tw_o hp) rfl ?_
  refine e_aload_n dX4_alarms_28 0 rfl rfl rfl ?_
  refine e_getf (v := .ref 76) dX4_alarms_29 rfl fX4_86 (tw_o hp) rfl ?_
  refine e_iload_n dX4_alarms_32 1 rfl rfl ?_
  refine e_iald (f := τ.2.2.1 44) (j := k) dX4_alarms_33 (tw_a44 hp) rfl (by omega) (by decide) ?_
  refine e_top (congrArg Value.int ha.1) ?_
  refine e_lald (f := τ.2.2.2 58) (j := a) dX4_alarms_34 (tw_a58 hp) rfl (by omega) (by decide) ?_
  refine e_lstore_n dX4_alarms_35 2 rfl (ls_s (ls_1 rfl)) (ln_s (ln_s (ln_s ln_0))) (Nat.le_of_ble_eq_true rfl) ?_
  refine e_aload_n dX4_alarms_36 0 rfl rfl rfl ?_
  refine e_getf (v := .ref 90) dX4_alarms_37 rfl fX4_128 (tw_o hp) rfl ?_
  refine e_aload_n dX4_alarms_40 0 rfl rfl rfl ?_
  refine e_getf (v := .ref 77) dX4_alarms_41 rfl fX4_89 (tw_o hp) rfl ?_
  refine e_iload_n dX4_alarms_44 1 rfl rfl ?_
  refine e_iald (f := τ.2.2.1 45) (j := k) dX4_alarms_45 (tw_a45 hp) rfl (by omega) (by decide) ?_
  refine e_top (congrArg Value.int hb.1) ?_
  refine e_lald (f := τ.2.2.2 58) (j := b) dX4_alarms_46 (tw_a58 hp) rfl (by omega) (by decide) ?_
  refine e_lstore dX4_alarms_47 (ls_s (ls_s (ls_s (ls_1 rfl)))) (ln_s (ln_s (ln_s (ln_s (ln_s ln_0))))) (Nat.le_of_ble_eq_true rfl) ?_
  refine e_aload_n dX4_alarms_49 0 rfl rfl rfl ?_
  refine e_getf (v := .ref 75) dX4_alarms_50 rfl fX4_83 (tw_o hp) rfl ?_
  refine e_iload_n dX4_alarms_53 1 rfl rfl ?_
  refine e_iald (f := τ.2.2.1 43) (j := k) dX4_alarms_54 (tw_a43 hp) rfl (by omega) (by decide) ?_
  refine e_top (congrArg Value.int hK) ?_
  refine e_tableIn (off := 101) 156 dX4_alarms_55 (by decide) (by decide) (by decide) (by decide) ?_
  refine e_aload_n dX4_alarms_156 0 rfl rfl rfl ?_
  refine e_getf (v := .int (τ.1 62)) dX4_alarms_157 rfl fX4_461 (tw_o hp) rfl ?_
  refine e_top (congrArg Value.int hP.2) ?_
  refine e_bipush 40 dX4_alarms_160 rfl ?_
  refine e_icmp_neN P 40 169 (by omega) (by omega) dX4_alarms_162 (by decide) (fun h162 => ?_) (fun h162 => ?_)
  · refine e_iconst 0 dX4_alarms_169 rfl ?_
    refine e_ireturn dX4_alarms_170 rfl rfl (Nat.zero_le _) (Nat.zero_le _) ?_
    refine ⟨?_, rfl⟩
    rw [spAlm, hK, if_neg (by decide), if_neg (by decide), if_neg (by decide), if_neg (by decide), if_pos rfl, hP.2, if_neg (show ¬ nI P = 40 from fun z => h162 ((nI_eqN (b := 40) (by omega) (by omega)).mp z))]
  · refine e_iconst 3 dX4_alarms_165 rfl ?_
    refine e_goto 170 dX4_alarms_166 (by decide) ?_
    refine e_ireturn dX4_alarms_170 rfl rfl (Nat.zero_le _) (Nat.zero_le _) ?_
    refine ⟨?_, rfl⟩
    rw [spAlm, hK, if_neg (by decide), if_neg (by decide), if_neg (by decide), if_neg (by decide), if_pos rfl, hP.2, if_pos (by rw [h162]; rfl)]

set_option maxHeartbeats 4000000 in
set_option maxRecDepth 100000 in
/-- WheelTablesModel.alarms -/
theorem t_alm6 {pre post : List ACell} {τ : Tw} (hp : pre.length = 56) {k : Nat} (hk : k < 40) (hK : τ.2.2.1 43 k = 6) : Ct yX4_alarms (ws_ yX4_alarms cX4_alarms 6 (some .int)) 2 0 0 [.ref 56, .int (nI k)] (TW pre τ post) (Q1 (some (.int (spAlm τ k))) (TW pre τ post)) noX := by
  refine Ct.of (ini := false) (ls := [some (.ref 56), some (.int (nI k)), none, none, none, none]) (by decide) (Nat.le_of_ble_eq_true rfl) (fun h => by cases h) rfl ?_
  refine e_aload_n dX4_alarms_0 0 rfl rfl rfl ?_
  refine e_getf (v := .ref 75) dX4_alarms_1 rfl fX4_83 (tw_o hp) rfl ?_
  refine e_iload_n dX4_alarms_4 1 rfl rfl ?_
  refine e_iald (f := τ.2.2.1 43) (j := k) dX4_alarms_5 (tw_a43 hp) rfl (by omega) (by decide) ?_
  refine e_top (congrArg Value.int hK) ?_
  refine e_bipush 6 dX4_alarms_6 rfl ?_
  refine e_icmp_eq 22 dX4_alarms_8 (by decide) (fun _ => ?_) (fun h => absurd h (by decide))
  refine e_iconst 0 dX4_alarms_22 rfl ?_
  refine e_ireturn dX4_alarms_23 rfl rfl (Nat.zero_le _) (Nat.zero_le _) ?_
  refine ⟨?_, rfl⟩
  rw [spAlm, hK, if_neg (by decide), if_neg (by decide), if_neg (by decide), if_neg (by decide), if_neg (by decide)]

set_option maxHeartbeats 4000000 in
set_option maxRecDepth 100000 in
/-- WheelTablesModel.alarms -/
theorem t_alm7 {pre post : List ACell} {τ : Tw} (hp : pre.length = 56) {k : Nat} (hk : k < 40) (hK : τ.2.2.1 43 k = 7) : Ct yX4_alarms (ws_ yX4_alarms cX4_alarms 6 (some .int)) 2 0 0 [.ref 56, .int (nI k)] (TW pre τ post) (Q1 (some (.int (spAlm τ k))) (TW pre τ post)) noX := by
  refine Ct.of (ini := false) (ls := [some (.ref 56), some (.int (nI k)), none, none, none, none]) (by decide) (Nat.le_of_ble_eq_true rfl) (fun h => by cases h) rfl ?_
  refine e_aload_n dX4_alarms_0 0 rfl rfl rfl ?_
  refine e_getf (v := .ref 75) dX4_alarms_1 rfl fX4_83 (tw_o hp) rfl ?_
  refine e_iload_n dX4_alarms_4 1 rfl rfl ?_
  refine e_iald (f := τ.2.2.1 43) (j := k) dX4_alarms_5 (tw_a43 hp) rfl (by omega) (by decide) ?_
  refine e_top (congrArg Value.int hK) ?_
  refine e_bipush 6 dX4_alarms_6 rfl ?_
  refine e_icmp_eq 22 dX4_alarms_8 (by decide) (fun h => absurd h (by decide)) (fun _ => ?_)
  refine e_aload_n dX4_alarms_11 0 rfl rfl rfl ?_
  refine e_getf (v := .ref 75) dX4_alarms_12 rfl fX4_83 (tw_o hp) rfl ?_
  refine e_iload_n dX4_alarms_15 1 rfl rfl ?_
  refine e_iald (f := τ.2.2.1 43) (j := k) dX4_alarms_16 (tw_a43 hp) rfl (by omega) (by decide) ?_
  refine e_top (congrArg Value.int hK) ?_
  refine e_bipush 7 dX4_alarms_17 rfl ?_
  refine e_icmp_ne 24 dX4_alarms_19 (by decide) (fun h => absurd h (by decide)) (fun _ => ?_)
  refine e_iconst 0 dX4_alarms_22 rfl ?_
  refine e_ireturn dX4_alarms_23 rfl rfl (Nat.zero_le _) (Nat.zero_le _) ?_
  refine ⟨?_, rfl⟩
  rw [spAlm, hK, if_neg (by decide), if_neg (by decide), if_neg (by decide), if_neg (by decide), if_neg (by decide)]

