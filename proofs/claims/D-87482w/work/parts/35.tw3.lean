/-! ===== the twin: plates ===== -/
theorem t_isInI {M : List ACell} (x lo hi : Int32) {v l h : Int64} (hv : v = x.toInt64) (hl : l = lo.toInt64) (hh : h = hi.toInt64) : Ct yX4_isIn (ws_ yX4_isIn cX4_isIn 6 (some .boolean)) 0 0 0 [.long v, .long l, .long h] M (QB (lo ≤ x ∧ x ≤ hi) M) noX := by
  subst hv; subst hl; subst hh
  refine (t_isIn _ _ _).mono (fun v N h => ⟨h.1, ?_⟩) (fun _ _ _ h => h)
  rw [toI64_le, toI64_le] at h
  exact h.2
set_option maxHeartbeats 4000000 in
set_option maxRecDepth 100000 in
/-- WheelTablesModel.isRow -/
theorem t_isRow {M : List ACell} (r : Int32) : Ct yX4_isRow (ws_ yX4_isRow cX4_isRow 1 (some .boolean)) 1 0 0 [.int r] M (QB (spRow r) M) noX := by
  refine Ct.of (ini := false) (ls := [some (.int r)]) (by decide) (Nat.le_of_ble_eq_true rfl) (fun h => by cases h) rfl ?_
  refine e_iload_n dX4_isRow_0 0 rfl rfl ?_
  refine e_i2l dX4_isRow_1 ?_
  refine e_lconst 0 dX4_isRow_2 rfl ?_
  refine e_ldc2 rfl q1752 dX4_isRow_3 ?_
  refine e_callSB (As := [.long r.toInt64, .long 0, .long 39]) (rest := []) dX4_isRow_6 rfl msX4_239 (t_isInI r 0 39 rfl (by decide) (by decide)) (Nat.le_of_ble_eq_true rfl) rfl rfl (Nat.le_of_ble_eq_true rfl) (Nat.zero_le _) (Nat.zero_le _) (fun h6 => ?_) (fun h6 => ?_)
  · refine e_ireturn dX4_isRow_9 rfl rfl (Nat.zero_le _) (Nat.zero_le _) ?_
    exact ⟨rfl, Or.inl ⟨h6, rfl⟩⟩
  · refine e_ireturn dX4_isRow_9 rfl rfl (Nat.zero_le _) (Nat.zero_le _) ?_
    exact ⟨rfl, Or.inr ⟨h6, rfl⟩⟩

set_option maxHeartbeats 4000000 in
set_option maxRecDepth 100000 in
/-- WheelTablesModel.isNumber -/
theorem t_isNumber {M : List ACell} (v : Int32) : Ct yX4_isNumber (ws_ yX4_isNumber cX4_isNumber 1 (some .boolean)) 1 0 0 [.int v] M (QB (spNum v) M) noX := by
  refine Ct.of (ini := false) (ls := [some (.int v)]) (by decide) (Nat.le_of_ble_eq_true rfl) (fun h => by cases h) rfl ?_
  refine e_iload_n dX4_isNumber_0 0 rfl rfl ?_
  refine e_i2l dX4_isNumber_1 ?_
  refine e_ldc2 rfl q1511 dX4_isNumber_2 ?_
  refine e_ldc2 rfl q1512 dX4_isNumber_5 ?_
  refine e_callSB (As := [.long v.toInt64, .long (-1000000000), .long 1000000000]) (rest := []) dX4_isNumber_8 rfl msX4_239 (t_isInI v (-1000000000) 1000000000 rfl (by decide) (by decide)) (Nat.le_of_ble_eq_true rfl) rfl rfl (Nat.le_of_ble_eq_true rfl) (Nat.zero_le _) (Nat.zero_le _) (fun h8 => ?_) (fun h8 => ?_)
  · refine e_ireturn dX4_isNumber_11 rfl rfl (Nat.zero_le _) (Nat.zero_le _) ?_
    exact ⟨rfl, Or.inl ⟨h8, rfl⟩⟩
  · refine e_ireturn dX4_isNumber_11 rfl rfl (Nat.zero_le _) (Nat.zero_le _) ?_
    exact ⟨rfl, Or.inr ⟨h8, rfl⟩⟩

set_option maxHeartbeats 4000000 in
set_option maxRecDepth 100000 in
/-- WheelTablesModel.isCopy -/
theorem t_isCopy {pre post : List ACell} {τ : Tw} (hp : pre.length = 56) (n : Int32) : Ct yX4_isCopy (ws_ yX4_isCopy cX4_isCopy 2 (some .boolean)) 1 0 0 [.ref 56, .int n] (TW pre τ post) (QB (spCopy n τ) (TW pre τ post)) noX := by
  refine Ct.of (ini := false) (ls := [some (.ref 56), some (.int n)]) (by decide) (Nat.le_of_ble_eq_true rfl) (fun h => by cases h) rfl ?_
  refine e_iload_n dX4_isCopy_0 1 rfl rfl ?_
  refine e_i2l dX4_isCopy_1 ?_
  refine e_lconst 1 dX4_isCopy_2 rfl ?_
  refine e_aload_n dX4_isCopy_3 0 rfl rfl rfl ?_
  refine e_getf (v := .int (τ.1 80)) dX4_isCopy_4 rfl fX4_539 (tw_o hp) rfl ?_
  refine e_i2l dX4_isCopy_7 ?_
  refine e_callSB (As := [.long n.toInt64, .long 1, .long ((τ.1 80).toInt64)]) (rest := []) dX4_isCopy_8 rfl msX4_239 (t_isInI n 1 (τ.1 80) rfl (by decide) rfl) (Nat.le_of_ble_eq_true rfl) rfl rfl (Nat.le_of_ble_eq_true rfl) (Nat.zero_le _) (Nat.zero_le _) (fun h8 => ?_) (fun h8 => ?_)
  · refine e_ireturn dX4_isCopy_11 rfl rfl (Nat.zero_le _) (Nat.zero_le _) ?_
    exact ⟨rfl, Or.inl ⟨h8, rfl⟩⟩
  · refine e_ireturn dX4_isCopy_11 rfl rfl (Nat.zero_le _) (Nat.zero_le _) ?_
    exact ⟨rfl, Or.inr ⟨h8, rfl⟩⟩

set_option maxHeartbeats 4000000 in
set_option maxRecDepth 100000 in
/-- WheelTablesModel.cast -/
theorem t_cast {pre post : List ACell} {τ : Tw} (hp : pre.length = 56) (hI : InvP τ) (d r v : Int32) : Ct yX4_cast (ws_ yX4_cast cX4_cast 4 (some .boolean)) 2 0 0 [.ref 56, .int d, .int r, .int v] (TW pre τ post) (TQi pre post (sp_cast d r v τ)) noX := by
  obtain ⟨C, P, T, K, F, hC, eC, hP, eP, hT, eT, eK, hF0, hFK, hF, hcP⟩ := id hI
  refine Ct.of (ini := false) (ls := [some (.ref 56), some (.int d), some (.int r), some (.int v)]) (by decide) (Nat.le_of_ble_eq_true rfl) (fun h => by cases h) rfl ?_
  refine e_aload_n dX4_cast_0 0 rfl rfl rfl ?_
  refine e_iconst 0 dX4_cast_1 rfl ?_
  refine e_tputI dX4_cast_2 rfl pX4_212 rfl hp (Nat.le_of_ble_eq_true rfl) (tw_f1 _) ?_
  refine e_aload_n dX4_cast_5 0 rfl rfl rfl ?_
  refine e_iconst 0 dX4_cast_6 rfl ?_
  refine e_tputI dX4_cast_7 rfl pX4_215 rfl hp (Nat.le_of_ble_eq_true rfl) (tw_f0 _) ?_
  refine e_iload_n dX4_cast_10 2 rfl rfl ?_
  refine e_callSB (As := [.int r]) (rest := []) dX4_cast_11 rfl msX4_522 (t_isRow r) (Nat.le_of_ble_eq_true rfl) rfl rfl (Nat.le_of_ble_eq_true rfl) (Nat.zero_le _) (Nat.zero_le _) (fun h11 => ?_) (fun h11 => ?_)
  · refine e_if_ne_t 23 (by decide) dX4_cast_14 (by decide) ?_
    refine e_iload_n dX4_cast_23 1 rfl rfl ?_
    refine e_i2l dX4_cast_24 ?_
    refine e_lconst 0 dX4_cast_25 rfl ?_
    refine e_ldc2 rfl q1753 dX4_cast_26 ?_
    refine e_callSB (As := [.long d.toInt64, .long 0, .long 9999]) (rest := []) dX4_cast_29 rfl msX4_239 (t_isInI d 0 9999 rfl (by decide) (by decide)) (Nat.le_of_ble_eq_true rfl) rfl rfl (Nat.le_of_ble_eq_true rfl) (Nat.zero_le _) (Nat.zero_le _) (fun h29 => ?_) (fun h29 => ?_)
    · refine e_if_eq_f (by decide) 42 dX4_cast_32 (by decide) ?_
      refine e_iload_n dX4_cast_35 3 rfl rfl ?_
      refine e_callSB (As := [.int v]) (rest := []) dX4_cast_36 rfl msX4_527 (t_isNumber v) (Nat.le_of_ble_eq_true rfl) rfl rfl (Nat.le_of_ble_eq_true rfl) (Nat.zero_le _) (Nat.zero_le _) (fun h36 => ?_) (fun h36 => ?_)
      · refine e_if_ne_t 48 (by decide) dX4_cast_39 (by decide) ?_
        refine e_aload_n dX4_cast_48 0 rfl rfl rfl ?_
        refine e_getf (v := .int (τ.1 78)) dX4_cast_49 rfl fX4_530 (tw_o hp) rfl ?_
        refine e_top (congrArg Value.int eC) ?_
        refine e_bipush 100 dX4_cast_52 rfl ?_
        refine e_icmp_neN C 100 64 (by omega) (by omega) dX4_cast_54 (by decide) (fun h54 => ?_) (fun h54 => ?_)
        · refine e_iload_n dX4_cast_64 1 rfl rfl ?_
          refine e_aload_n dX4_cast_65 0 rfl rfl rfl ?_
          refine e_getf (v := .int (τ.1 77)) dX4_cast_66 rfl fX4_533 (tw_o hp) rfl ?_
          refine e_icmp_ge 79 dX4_cast_69 (by decide) (fun h69 => ?_) (fun h69 => ?_)
          · refine e_aload_n dX4_cast_79 0 rfl rfl rfl ?_
            refine e_getf (v := .ref 101) dX4_cast_80 rfl fX4_164 (tw_o hp) rfl ?_
            refine e_aload_n dX4_cast_83 0 rfl rfl rfl ?_
            refine e_getf (v := .int (τ.1 78)) dX4_cast_84 rfl fX4_530 (tw_o hp) rfl ?_
            refine e_top (congrArg Value.int eC) ?_
            refine e_iload_n dX4_cast_87 2 rfl rfl ?_
            refine e_iast (f := τ.2.2.1 83) (j := C) dX4_cast_88 (tw_a83 hp) rfl (by omega) (by decide) ?_
            rw [tw_s83 hp]
            refine e_aload_n dX4_cast_89 0 rfl rfl rfl ?_
            refine e_getf (v := .ref 102) dX4_cast_90 rfl fX4_167 (tw_o hp) rfl ?_
            refine e_aload_n dX4_cast_93 0 rfl rfl rfl ?_
            refine e_getf (v := .int (τ.1 78)) dX4_cast_94 rfl fX4_530 (tw_o hp) rfl ?_
            refine e_top (congrArg Value.int eC) ?_
            refine e_iload_n dX4_cast_97 3 rfl rfl ?_
            refine e_iast (f := τ.2.2.1 84) (j := C) dX4_cast_98 (tw_a84 hp) rfl (by omega) (by decide) ?_
            rw [tw_s84 hp]
            refine e_aload_n dX4_cast_99 0 rfl rfl rfl ?_
            refine e_dup dX4_cast_100 rfl ?_
            refine e_getf (v := .int (τ.1 78)) dX4_cast_101 rfl fX4_530 (tw_o hp) rfl ?_
            refine e_top (congrArg Value.int eC) ?_
            refine e_iconst 1 dX4_cast_104 rfl ?_
            refine e_iaddN C 1 dX4_cast_105 ?_
            refine e_tputI dX4_cast_106 rfl pX4_530 rfl hp (Nat.le_of_ble_eq_true rfl) (tw_f78 _) ?_
            refine e_aload_n dX4_cast_109 0 rfl rfl rfl ?_
            refine e_iload_n dX4_cast_110 1 rfl rfl ?_
            refine e_tputI dX4_cast_111 rfl pX4_533 rfl hp (Nat.le_of_ble_eq_true rfl) (tw_f77 _) ?_
            refine e_iconst 1 dX4_cast_114 rfl ?_
            refine e_ireturn dX4_cast_115 rfl rfl (Nat.zero_le _) (Nat.zero_le _) ?_
            have e78 : (nI C = 100) = (C = 100) := by rw [show (100 : Int32) = nI 100 from rfl]; exact propext (nI_eqN (by omega) (by omega))
            refine TQi.of ?_
            first | (simp only [e78, eC, ix_nI (show C < 2147483648 by omega), spRow, spNum, spDay, spCopy, spIsJob, nI_1, sp_cast, h11, h29, h36, h54, h69, i32_le h69, or_true, true_or, or_self, or_false, false_or, and_true, true_and, and_false, false_and, if_true, if_false, not_true_eq_false, not_false_eq_true]; done) | (simp only [e78, eC, ix_nI (show C < 2147483648 by omega), spRow, spNum, spDay, spCopy, spIsJob, nI_1, sp_cast, h11, h29, h36, h54, h69, i32_le h69, or_true, true_or, or_self, or_false, false_or, and_true, true_and, and_false, false_and, if_true, if_false, not_true_eq_false, not_false_eq_true]; rfl)
          · refine e_aload_n dX4_cast_72 0 rfl rfl rfl ?_
            refine e_bipush 12 dX4_cast_73 rfl ?_
            refine e_callV1 (As := [.int 12]) (rest := []) dX4_cast_75 rfl mvX4_218 (tw_o hp) rfl (t_no hp 12) (Nat.le_of_ble_eq_true rfl) rfl rfl (Nat.le_of_ble_eq_true rfl) (Nat.zero_le _) (Nat.zero_le _) ?_
            refine e_ireturn dX4_cast_78 rfl rfl (Nat.zero_le _) (Nat.zero_le _) ?_
            have e78 : (nI C = 100) = (C = 100) := by rw [show (100 : Int32) = nI 100 from rfl]; exact propext (nI_eqN (by omega) (by omega))
            refine TQi.of ?_
            first | (simp only [e78, eC, ix_nI (show C < 2147483648 by omega), spRow, spNum, spDay, spCopy, spIsJob, nI_1, sp_cast, h11, h29, h36, h54, h69, i32_nle h69, or_true, true_or, or_self, or_false, false_or, and_true, true_and, and_false, false_and, if_true, if_false, not_true_eq_false, not_false_eq_true]; done) | (simp only [e78, eC, ix_nI (show C < 2147483648 by omega), spRow, spNum, spDay, spCopy, spIsJob, nI_1, sp_cast, h11, h29, h36, h54, h69, i32_nle h69, or_true, true_or, or_self, or_false, false_or, and_true, true_and, and_false, false_and, if_true, if_false, not_true_eq_false, not_false_eq_true]; rfl)
        · refine e_aload_n dX4_cast_57 0 rfl rfl rfl ?_
          refine e_bipush 7 dX4_cast_58 rfl ?_
          refine e_callV1 (As := [.int 7]) (rest := []) dX4_cast_60 rfl mvX4_218 (tw_o hp) rfl (t_no hp 7) (Nat.le_of_ble_eq_true rfl) rfl rfl (Nat.le_of_ble_eq_true rfl) (Nat.zero_le _) (Nat.zero_le _) ?_
          refine e_ireturn dX4_cast_63 rfl rfl (Nat.zero_le _) (Nat.zero_le _) ?_
          have e78 : (nI C = 100) = (C = 100) := by rw [show (100 : Int32) = nI 100 from rfl]; exact propext (nI_eqN (by omega) (by omega))
          refine TQi.of ?_
          first | (simp only [e78, eC, ix_nI (show C < 2147483648 by omega), spRow, spNum, spDay, spCopy, spIsJob, nI_1, sp_cast, h11, h29, h36, h54, or_true, true_or, or_self, or_false, false_or, and_true, true_and, and_false, false_and, if_true, if_false, not_true_eq_false, not_false_eq_true]; done) | (simp only [e78, eC, ix_nI (show C < 2147483648 by omega), spRow, spNum, spDay, spCopy, spIsJob, nI_1, sp_cast, h11, h29, h36, h54, or_true, true_or, or_self, or_false, false_or, and_true, true_and, and_false, false_and, if_true, if_false, not_true_eq_false, not_false_eq_true]; rfl)
      · refine e_if_ne_f (by decide) 48 dX4_cast_39 (by decide) ?_
        refine e_aload_n dX4_cast_42 0 rfl rfl rfl ?_
        refine e_iconst 5 dX4_cast_43 rfl ?_
        refine e_callV1 (As := [.int 5]) (rest := []) dX4_cast_44 rfl mvX4_218 (tw_o hp) rfl (t_no hp 5) (Nat.le_of_ble_eq_true rfl) rfl rfl (Nat.le_of_ble_eq_true rfl) (Nat.zero_le _) (Nat.zero_le _) ?_
        refine e_ireturn dX4_cast_47 rfl rfl (Nat.zero_le _) (Nat.zero_le _) ?_
        have e78 : (nI C = 100) = (C = 100) := by rw [show (100 : Int32) = nI 100 from rfl]; exact propext (nI_eqN (by omega) (by omega))
        refine TQi.of ?_
        first | (simp only [e78, eC, ix_nI (show C < 2147483648 by omega), spRow, spNum, spDay, spCopy, spIsJob, nI_1, sp_cast, h11, h29, h36, or_true, true_or, or_self, or_false, false_or, and_true, true_and, and_false, false_and, if_true, if_false, not_true_eq_false, not_false_eq_true]; done) | (simp only [e78, eC, ix_nI (show C < 2147483648 by omega), spRow, spNum, spDay, spCopy, spIsJob, nI_1, sp_cast, h11, h29, h36, or_true, true_or, or_self, or_false, false_or, and_true, true_and, and_false, false_and, if_true, if_false, not_true_eq_false, not_false_eq_true]; rfl)
    · refine e_if_eq_t 42 (by decide) dX4_cast_32 (by decide) ?_
      refine e_aload_n dX4_cast_42 0 rfl rfl rfl ?_
      refine e_iconst 5 dX4_cast_43 rfl ?_
      refine e_callV1 (As := [.int 5]) (rest := []) dX4_cast_44 rfl mvX4_218 (tw_o hp) rfl (t_no hp 5) (Nat.le_of_ble_eq_true rfl) rfl rfl (Nat.le_of_ble_eq_true rfl) (Nat.zero_le _) (Nat.zero_le _) ?_
      refine e_ireturn dX4_cast_47 rfl rfl (Nat.zero_le _) (Nat.zero_le _) ?_
      have e78 : (nI C = 100) = (C = 100) := by rw [show (100 : Int32) = nI 100 from rfl]; exact propext (nI_eqN (by omega) (by omega))
      refine TQi.of ?_
      first | (simp only [e78, eC, ix_nI (show C < 2147483648 by omega), spRow, spNum, spDay, spCopy, spIsJob, nI_1, sp_cast, h11, h29, or_true, true_or, or_self, or_false, false_or, and_true, true_and, and_false, false_and, if_true, if_false, not_true_eq_false, not_false_eq_true]; done) | (simp only [e78, eC, ix_nI (show C < 2147483648 by omega), spRow, spNum, spDay, spCopy, spIsJob, nI_1, sp_cast, h11, h29, or_true, true_or, or_self, or_false, false_or, and_true, true_and, and_false, false_and, if_true, if_false, not_true_eq_false, not_false_eq_true]; rfl)
  · refine e_if_ne_f (by decide) 23 dX4_cast_14 (by decide) ?_
    refine e_aload_n dX4_cast_17 0 rfl rfl rfl ?_
    refine e_iconst 2 dX4_cast_18 rfl ?_
    refine e_callV1 (As := [.int 2]) (rest := []) dX4_cast_19 rfl mvX4_218 (tw_o hp) rfl (t_no hp 2) (Nat.le_of_ble_eq_true rfl) rfl rfl (Nat.le_of_ble_eq_true rfl) (Nat.zero_le _) (Nat.zero_le _) ?_
    refine e_ireturn dX4_cast_22 rfl rfl (Nat.zero_le _) (Nat.zero_le _) ?_
    have e78 : (nI C = 100) = (C = 100) := by rw [show (100 : Int32) = nI 100 from rfl]; exact propext (nI_eqN (by omega) (by omega))
    refine TQi.of ?_
    first | (simp only [e78, eC, ix_nI (show C < 2147483648 by omega), spRow, spNum, spDay, spCopy, spIsJob, nI_1, sp_cast, h11, or_true, true_or, or_self, or_false, false_or, and_true, true_and, and_false, false_and, if_true, if_false, not_true_eq_false, not_false_eq_true]; done) | (simp only [e78, eC, ix_nI (show C < 2147483648 by omega), spRow, spNum, spDay, spCopy, spIsJob, nI_1, sp_cast, h11, or_true, true_or, or_self, or_false, false_or, and_true, true_and, and_false, false_and, if_true, if_false, not_true_eq_false, not_false_eq_true]; rfl)

set_option maxHeartbeats 4000000 in
set_option maxRecDepth 100000 in
/-- WheelTablesModel.tell -/
theorem t_tell {pre post : List ACell} {τ : Tw} (hp : pre.length = 56) (hI : InvP τ) (d r v : Int32) : Ct yX4_tell (ws_ yX4_tell cX4_tell 4 (some .boolean)) 2 0 0 [.ref 56, .int d, .int r, .int v] (TW pre τ post) (TQi pre post (sp_tell d r v τ)) noX := by
  obtain ⟨C, P, T, K, F, hC, eC, hP, eP, hT, eT, eK, hF0, hFK, hF, hcP⟩ := id hI
  refine Ct.of (ini := false) (ls := [some (.ref 56), some (.int d), some (.int r), some (.int v)]) (by decide) (Nat.le_of_ble_eq_true rfl) (fun h => by cases h) rfl ?_
  refine e_aload_n dX4_tell_0 0 rfl rfl rfl ?_
  refine e_iconst 0 dX4_tell_1 rfl ?_
  refine e_tputI dX4_tell_2 rfl pX4_212 rfl hp (Nat.le_of_ble_eq_true rfl) (tw_f1 _) ?_
  refine e_aload_n dX4_tell_5 0 rfl rfl rfl ?_
  refine e_iconst 0 dX4_tell_6 rfl ?_
  refine e_tputI dX4_tell_7 rfl pX4_215 rfl hp (Nat.le_of_ble_eq_true rfl) (tw_f0 _) ?_
  refine e_iload_n dX4_tell_10 2 rfl rfl ?_
  refine e_callSB (As := [.int r]) (rest := []) dX4_tell_11 rfl msX4_522 (t_isRow r) (Nat.le_of_ble_eq_true rfl) rfl rfl (Nat.le_of_ble_eq_true rfl) (Nat.zero_le _) (Nat.zero_le _) (fun h11 => ?_) (fun h11 => ?_)
  · refine e_if_ne_t 23 (by decide) dX4_tell_14 (by decide) ?_
    refine e_iload_n dX4_tell_23 1 rfl rfl ?_
    refine e_i2l dX4_tell_24 ?_
    refine e_lconst 0 dX4_tell_25 rfl ?_
    refine e_ldc2 rfl q1753 dX4_tell_26 ?_
    refine e_callSB (As := [.long d.toInt64, .long 0, .long 9999]) (rest := []) dX4_tell_29 rfl msX4_239 (t_isInI d 0 9999 rfl (by decide) (by decide)) (Nat.le_of_ble_eq_true rfl) rfl rfl (Nat.le_of_ble_eq_true rfl) (Nat.zero_le _) (Nat.zero_le _) (fun h29 => ?_) (fun h29 => ?_)
    · refine e_if_eq_f (by decide) 42 dX4_tell_32 (by decide) ?_
      refine e_iload_n dX4_tell_35 3 rfl rfl ?_
      refine e_callSB (As := [.int v]) (rest := []) dX4_tell_36 rfl msX4_527 (t_isNumber v) (Nat.le_of_ble_eq_true rfl) rfl rfl (Nat.le_of_ble_eq_true rfl) (Nat.zero_le _) (Nat.zero_le _) (fun h36 => ?_) (fun h36 => ?_)
      · refine e_if_ne_t 48 (by decide) dX4_tell_39 (by decide) ?_
        refine e_aload_n dX4_tell_48 0 rfl rfl rfl ?_
        refine e_getf (v := .int (τ.1 81)) dX4_tell_49 rfl fX4_542 (tw_o hp) rfl ?_
        refine e_top (congrArg Value.int eT) ?_
        refine e_bipush 60 dX4_tell_52 rfl ?_
        refine e_icmp_neN T 60 64 (by omega) (by omega) dX4_tell_54 (by decide) (fun h54 => ?_) (fun h54 => ?_)
        · refine e_iload_n dX4_tell_64 1 rfl rfl ?_
          refine e_aload_n dX4_tell_65 0 rfl rfl rfl ?_
          refine e_getf (v := .int (τ.1 77)) dX4_tell_66 rfl fX4_533 (tw_o hp) rfl ?_
          refine e_icmp_ge 79 dX4_tell_69 (by decide) (fun h69 => ?_) (fun h69 => ?_)
          · refine e_aload_n dX4_tell_79 0 rfl rfl rfl ?_
            refine e_getf (v := .ref 105) dX4_tell_80 rfl fX4_176 (tw_o hp) rfl ?_
            refine e_aload_n dX4_tell_83 0 rfl rfl rfl ?_
            refine e_getf (v := .int (τ.1 81)) dX4_tell_84 rfl fX4_542 (tw_o hp) rfl ?_
            refine e_top (congrArg Value.int eT) ?_
            refine e_iload_n dX4_tell_87 1 rfl rfl ?_
            refine e_iast (f := τ.2.2.1 87) (j := T) dX4_tell_88 (tw_a87 hp) rfl (by omega) (by decide) ?_
            rw [tw_s87 hp]
            refine e_aload_n dX4_tell_89 0 rfl rfl rfl ?_
            refine e_getf (v := .ref 106) dX4_tell_90 rfl fX4_179 (tw_o hp) rfl ?_
            refine e_aload_n dX4_tell_93 0 rfl rfl rfl ?_
            refine e_getf (v := .int (τ.1 81)) dX4_tell_94 rfl fX4_542 (tw_o hp) rfl ?_
            refine e_top (congrArg Value.int eT) ?_
            refine e_iload_n dX4_tell_97 2 rfl rfl ?_
            refine e_iast (f := τ.2.2.1 88) (j := T) dX4_tell_98 (tw_a88 hp) rfl (by omega) (by decide) ?_
            rw [tw_s88 hp]
            refine e_aload_n dX4_tell_99 0 rfl rfl rfl ?_
            refine e_getf (v := .ref 107) dX4_tell_100 rfl fX4_182 (tw_o hp) rfl ?_
            refine e_aload_n dX4_tell_103 0 rfl rfl rfl ?_
            refine e_getf (v := .int (τ.1 81)) dX4_tell_104 rfl fX4_542 (tw_o hp) rfl ?_
            refine e_top (congrArg Value.int eT) ?_
            refine e_iload_n dX4_tell_107 3 rfl rfl ?_
            refine e_iast (f := τ.2.2.1 89) (j := T) dX4_tell_108 (tw_a89 hp) rfl (by omega) (by decide) ?_
            rw [tw_s89 hp]
            refine e_aload_n dX4_tell_109 0 rfl rfl rfl ?_
            refine e_dup dX4_tell_110 rfl ?_
            refine e_getf (v := .int (τ.1 81)) dX4_tell_111 rfl fX4_542 (tw_o hp) rfl ?_
            refine e_top (congrArg Value.int eT) ?_
            refine e_iconst 1 dX4_tell_114 rfl ?_
            refine e_iaddN T 1 dX4_tell_115 ?_
            refine e_tputI dX4_tell_116 rfl pX4_542 rfl hp (Nat.le_of_ble_eq_true rfl) (tw_f81 _) ?_
            refine e_aload_n dX4_tell_119 0 rfl rfl rfl ?_
            refine e_iload_n dX4_tell_120 1 rfl rfl ?_
            refine e_tputI dX4_tell_121 rfl pX4_533 rfl hp (Nat.le_of_ble_eq_true rfl) (tw_f77 _) ?_
            refine e_iconst 1 dX4_tell_124 rfl ?_
            refine e_ireturn dX4_tell_125 rfl rfl (Nat.zero_le _) (Nat.zero_le _) ?_
            have e81 : (nI T = 60) = (T = 60) := by rw [show (60 : Int32) = nI 60 from rfl]; exact propext (nI_eqN (by omega) (by omega))
            refine TQi.of ?_
            first | (simp only [e81, eT, ix_nI (show T < 2147483648 by omega), spRow, spNum, spDay, spCopy, spIsJob, nI_1, sp_tell, h11, h29, h36, h54, h69, i32_le h69, or_true, true_or, or_self, or_false, false_or, and_true, true_and, and_false, false_and, if_true, if_false, not_true_eq_false, not_false_eq_true]; done) | (simp only [e81, eT, ix_nI (show T < 2147483648 by omega), spRow, spNum, spDay, spCopy, spIsJob, nI_1, sp_tell, h11, h29, h36, h54, h69, i32_le h69, or_true, true_or, or_self, or_false, false_or, and_true, true_and, and_false, false_and, if_true, if_false, not_true_eq_false, not_false_eq_true]; rfl)
          · refine e_aload_n dX4_tell_72 0 rfl rfl rfl ?_
            refine e_bipush 12 dX4_tell_73 rfl ?_
            refine e_callV1 (As := [.int 12]) (rest := []) dX4_tell_75 rfl mvX4_218 (tw_o hp) rfl (t_no hp 12) (Nat.le_of_ble_eq_true rfl) rfl rfl (Nat.le_of_ble_eq_true rfl) (Nat.zero_le _) (Nat.zero_le _) ?_
            refine e_ireturn dX4_tell_78 rfl rfl (Nat.zero_le _) (Nat.zero_le _) ?_
            have e81 : (nI T = 60) = (T = 60) := by rw [show (60 : Int32) = nI 60 from rfl]; exact propext (nI_eqN (by omega) (by omega))
            refine TQi.of ?_
            first | (simp only [e81, eT, ix_nI (show T < 2147483648 by omega), spRow, spNum, spDay, spCopy, spIsJob, nI_1, sp_tell, h11, h29, h36, h54, h69, i32_nle h69, or_true, true_or, or_self, or_false, false_or, and_true, true_and, and_false, false_and, if_true, if_false, not_true_eq_false, not_false_eq_true]; done) | (simp only [e81, eT, ix_nI (show T < 2147483648 by omega), spRow, spNum, spDay, spCopy, spIsJob, nI_1, sp_tell, h11, h29, h36, h54, h69, i32_nle h69, or_true, true_or, or_self, or_false, false_or, and_true, true_and, and_false, false_and, if_true, if_false, not_true_eq_false, not_false_eq_true]; rfl)
        · refine e_aload_n dX4_tell_57 0 rfl rfl rfl ?_
          refine e_bipush 7 dX4_tell_58 rfl ?_
          refine e_callV1 (As := [.int 7]) (rest := []) dX4_tell_60 rfl mvX4_218 (tw_o hp) rfl (t_no hp 7) (Nat.le_of_ble_eq_true rfl) rfl rfl (Nat.le_of_ble_eq_true rfl) (Nat.zero_le _) (Nat.zero_le _) ?_
          refine e_ireturn dX4_tell_63 rfl rfl (Nat.zero_le _) (Nat.zero_le _) ?_
          have e81 : (nI T = 60) = (T = 60) := by rw [show (60 : Int32) = nI 60 from rfl]; exact propext (nI_eqN (by omega) (by omega))
          refine TQi.of ?_
          first | (simp only [e81, eT, ix_nI (show T < 2147483648 by omega), spRow, spNum, spDay, spCopy, spIsJob, nI_1, sp_tell, h11, h29, h36, h54, or_true, true_or, or_self, or_false, false_or, and_true, true_and, and_false, false_and, if_true, if_false, not_true_eq_false, not_false_eq_true]; done) | (simp only [e81, eT, ix_nI (show T < 2147483648 by omega), spRow, spNum, spDay, spCopy, spIsJob, nI_1, sp_tell, h11, h29, h36, h54, or_true, true_or, or_self, or_false, false_or, and_true, true_and, and_false, false_and, if_true, if_false, not_true_eq_false, not_false_eq_true]; rfl)
      · refine e_if_ne_f (by decide) 48 dX4_tell_39 (by decide) ?_
        refine e_aload_n dX4_tell_42 0 rfl rfl rfl ?_
        refine e_iconst 5 dX4_tell_43 rfl ?_
        refine e_callV1 (As := [.int 5]) (rest := []) dX4_tell_44 rfl mvX4_218 (tw_o hp) rfl (t_no hp 5) (Nat.le_of_ble_eq_true rfl) rfl rfl (Nat.le_of_ble_eq_true rfl) (Nat.zero_le _) (Nat.zero_le _) ?_
        refine e_ireturn dX4_tell_47 rfl rfl (Nat.zero_le _) (Nat.zero_le _) ?_
        have e81 : (nI T = 60) = (T = 60) := by rw [show (60 : Int32) = nI 60 from rfl]; exact propext (nI_eqN (by omega) (by omega))
        refine TQi.of ?_
        first | (simp only [e81, eT, ix_nI (show T < 2147483648 by omega), spRow, spNum, spDay, spCopy, spIsJob, nI_1, sp_tell, h11, h29, h36, or_true, true_or, or_self, or_false, false_or, and_true, true_and, and_false, false_and, if_true, if_false, not_true_eq_false, not_false_eq_true]; done) | (simp only [e81, eT, ix_nI (show T < 2147483648 by omega), spRow, spNum, spDay, spCopy, spIsJob, nI_1, sp_tell, h11, h29, h36, or_true, true_or, or_self, or_false, false_or, and_true, true_and, and_false, false_and, if_true, if_false, not_true_eq_false, not_false_eq_true]; rfl)
    · refine e_if_eq_t 42 (by decide) dX4_tell_32 (by decide) ?_
      refine e_aload_n dX4_tell_42 0 rfl rfl rfl ?_
      refine e_iconst 5 dX4_tell_43 rfl ?_
      refine e_callV1 (As := [.int 5]) (rest := []) dX4_tell_44 rfl mvX4_218 (tw_o hp) rfl (t_no hp 5) (Nat.le_of_ble_eq_true rfl) rfl rfl (Nat.le_of_ble_eq_true rfl) (Nat.zero_le _) (Nat.zero_le _) ?_
      refine e_ireturn dX4_tell_47 rfl rfl (Nat.zero_le _) (Nat.zero_le _) ?_
      have e81 : (nI T = 60) = (T = 60) := by rw [show (60 : Int32) = nI 60 from rfl]; exact propext (nI_eqN (by omega) (by omega))
      refine TQi.of ?_
      first | (simp only [e81, eT, ix_nI (show T < 2147483648 by omega), spRow, spNum, spDay, spCopy, spIsJob, nI_1, sp_tell, h11, h29, or_true, true_or, or_self, or_false, false_or, and_true, true_and, and_false, false_and, if_true, if_false, not_true_eq_false, not_false_eq_true]; done) | (simp only [e81, eT, ix_nI (show T < 2147483648 by omega), spRow, spNum, spDay, spCopy, spIsJob, nI_1, sp_tell, h11, h29, or_true, true_or, or_self, or_false, false_or, and_true, true_and, and_false, false_and, if_true, if_false, not_true_eq_false, not_false_eq_true]; rfl)
  · refine e_if_ne_f (by decide) 23 dX4_tell_14 (by decide) ?_
    refine e_aload_n dX4_tell_17 0 rfl rfl rfl ?_
    refine e_iconst 2 dX4_tell_18 rfl ?_
    refine e_callV1 (As := [.int 2]) (rest := []) dX4_tell_19 rfl mvX4_218 (tw_o hp) rfl (t_no hp 2) (Nat.le_of_ble_eq_true rfl) rfl rfl (Nat.le_of_ble_eq_true rfl) (Nat.zero_le _) (Nat.zero_le _) ?_
    refine e_ireturn dX4_tell_22 rfl rfl (Nat.zero_le _) (Nat.zero_le _) ?_
    have e81 : (nI T = 60) = (T = 60) := by rw [show (60 : Int32) = nI 60 from rfl]; exact propext (nI_eqN (by omega) (by omega))
    refine TQi.of ?_
    first | (simp only [e81, eT, ix_nI (show T < 2147483648 by omega), spRow, spNum, spDay, spCopy, spIsJob, nI_1, sp_tell, h11, or_true, true_or, or_self, or_false, false_or, and_true, true_and, and_false, false_and, if_true, if_false, not_true_eq_false, not_false_eq_true]; done) | (simp only [e81, eT, ix_nI (show T < 2147483648 by omega), spRow, spNum, spDay, spCopy, spIsJob, nI_1, sp_tell, h11, or_true, true_or, or_self, or_false, false_or, and_true, true_and, and_false, false_and, if_true, if_false, not_true_eq_false, not_false_eq_true]; rfl)

set_option maxHeartbeats 4000000 in
set_option maxRecDepth 100000 in
/-- WheelTablesModel.print -/
theorem t_print {pre post : List ACell} {τ : Tw} (hp : pre.length = 56) (hI : InvP τ) (d n : Int32) : Ct yX4_print (ws_ yX4_print cX4_print 3 (some .int)) 2 0 0 [.ref 56, .int d, .int n] (TW pre τ post) (TQi pre post (sp_print d n τ)) noX := by
  obtain ⟨C, P, T, K, F, hC, eC, hP, eP, hT, eT, eK, hF0, hFK, hF, hcP⟩ := id hI
  refine Ct.of (ini := false) (ls := [some (.ref 56), some (.int d), some (.int n)]) (by decide) (Nat.le_of_ble_eq_true rfl) (fun h => by cases h) rfl ?_
  refine e_aload_n dX4_print_0 0 rfl rfl rfl ?_
  refine e_iconst 0 dX4_print_1 rfl ?_
  refine e_tputI dX4_print_2 rfl pX4_212 rfl hp (Nat.le_of_ble_eq_true rfl) (tw_f1 _) ?_
  refine e_aload_n dX4_print_5 0 rfl rfl rfl ?_
  refine e_iconst 0 dX4_print_6 rfl ?_
  refine e_tputI dX4_print_7 rfl pX4_215 rfl hp (Nat.le_of_ble_eq_true rfl) (tw_f0 _) ?_
  refine e_iload_n dX4_print_10 1 rfl rfl ?_
  refine e_i2l dX4_print_11 ?_
  refine e_lconst 0 dX4_print_12 rfl ?_
  refine e_ldc2 rfl q1753 dX4_print_13 ?_
  refine e_callSB (As := [.long d.toInt64, .long 0, .long 9999]) (rest := []) dX4_print_16 rfl msX4_239 (t_isInI d 0 9999 rfl (by decide) (by decide)) (Nat.le_of_ble_eq_true rfl) rfl rfl (Nat.le_of_ble_eq_true rfl) (Nat.zero_le _) (Nat.zero_le _) (fun h16 => ?_) (fun h16 => ?_)
  · refine e_if_eq_f (by decide) 34 dX4_print_19 (by decide) ?_
    refine e_iload_n dX4_print_22 2 rfl rfl ?_
    refine e_i2l dX4_print_23 ?_
    refine e_lconst 1 dX4_print_24 rfl ?_
    refine e_ldc2 rfl q1526 dX4_print_25 ?_
    refine e_callSB (As := [.long n.toInt64, .long 1, .long 1000]) (rest := []) dX4_print_28 rfl msX4_239 (t_isInI n 1 1000 rfl (by decide) (by decide)) (Nat.le_of_ble_eq_true rfl) rfl rfl (Nat.le_of_ble_eq_true rfl) (Nat.zero_le _) (Nat.zero_le _) (fun h28 => ?_) (fun h28 => ?_)
    · refine e_if_ne_t 40 (by decide) dX4_print_31 (by decide) ?_
      refine e_aload_n dX4_print_40 0 rfl rfl rfl ?_
      refine e_getf (v := .int (τ.1 79)) dX4_print_41 rfl fX4_536 (tw_o hp) rfl ?_
      refine e_top (congrArg Value.int eP) ?_
      refine e_bipush 20 dX4_print_44 rfl ?_
      refine e_icmp_neN P 20 56 (by omega) (by omega) dX4_print_46 (by decide) (fun h46 => ?_) (fun h46 => ?_)
      · refine e_iload_n dX4_print_56 1 rfl rfl ?_
        refine e_aload_n dX4_print_57 0 rfl rfl rfl ?_
        refine e_getf (v := .int (τ.1 77)) dX4_print_58 rfl fX4_533 (tw_o hp) rfl ?_
        refine e_icmp_ge 71 dX4_print_61 (by decide) (fun h61 => ?_) (fun h61 => ?_)
        · refine e_aload_n dX4_print_71 0 rfl rfl rfl ?_
          refine e_getf (v := .ref 103) dX4_print_72 rfl fX4_170 (tw_o hp) rfl ?_
          refine e_aload_n dX4_print_75 0 rfl rfl rfl ?_
          refine e_getf (v := .int (τ.1 79)) dX4_print_76 rfl fX4_536 (tw_o hp) rfl ?_
          refine e_top (congrArg Value.int eP) ?_
          refine e_aload_n dX4_print_79 0 rfl rfl rfl ?_
          refine e_getf (v := .int (τ.1 80)) dX4_print_80 rfl fX4_539 (tw_o hp) rfl ?_
          refine e_iconst 1 dX4_print_83 rfl ?_
          refine e_iadd dX4_print_84 ?_
          refine e_iast (f := τ.2.2.1 85) (j := P) dX4_print_85 (tw_a85 hp) rfl (by omega) (by decide) ?_
          rw [tw_s85 hp]
          refine e_aload_n dX4_print_86 0 rfl rfl rfl ?_
          refine e_getf (v := .ref 104) dX4_print_87 rfl fX4_173 (tw_o hp) rfl ?_
          refine e_aload_n dX4_print_90 0 rfl rfl rfl ?_
          refine e_getf (v := .int (τ.1 79)) dX4_print_91 rfl fX4_536 (tw_o hp) rfl ?_
          refine e_top (congrArg Value.int eP) ?_
          refine e_aload_n dX4_print_94 0 rfl rfl rfl ?_
          refine e_getf (v := .int (τ.1 78)) dX4_print_95 rfl fX4_530 (tw_o hp) rfl ?_
          refine e_iast (f := τ.2.2.1 86) (j := P) dX4_print_98 (tw_a86 hp) rfl (by omega) (by decide) ?_
          rw [tw_s86 hp]
          refine e_aload_n dX4_print_99 0 rfl rfl rfl ?_
          refine e_dup dX4_print_100 rfl ?_
          refine e_getf (v := .int (τ.1 79)) dX4_print_101 rfl fX4_536 (tw_o hp) rfl ?_
          refine e_top (congrArg Value.int eP) ?_
          refine e_iconst 1 dX4_print_104 rfl ?_
          refine e_iaddN P 1 dX4_print_105 ?_
          refine e_tputI dX4_print_106 rfl pX4_536 rfl hp (Nat.le_of_ble_eq_true rfl) (tw_f79 _) ?_
          refine e_aload_n dX4_print_109 0 rfl rfl rfl ?_
          refine e_dup dX4_print_110 rfl ?_
          refine e_getf (v := .int (τ.1 80)) dX4_print_111 rfl fX4_539 (tw_o hp) rfl ?_
          refine e_iload_n dX4_print_114 2 rfl rfl ?_
          refine e_iadd dX4_print_115 ?_
          refine e_tputI dX4_print_116 rfl pX4_539 rfl hp (Nat.le_of_ble_eq_true rfl) (tw_f80 _) ?_
          refine e_aload_n dX4_print_119 0 rfl rfl rfl ?_
          refine e_iload_n dX4_print_120 1 rfl rfl ?_
          refine e_tputI dX4_print_121 rfl pX4_533 rfl hp (Nat.le_of_ble_eq_true rfl) (tw_f77 _) ?_
          refine e_aload_n dX4_print_124 0 rfl rfl rfl ?_
          refine e_getf (v := .int ((τ.1 80) + n)) dX4_print_125 rfl fX4_539 (tw_o hp) rfl ?_
          refine e_ireturn dX4_print_128 rfl rfl (Nat.zero_le _) (Nat.zero_le _) ?_
          have e79 : (nI P = 20) = (P = 20) := by rw [show (20 : Int32) = nI 20 from rfl]; exact propext (nI_eqN (by omega) (by omega))
          refine TQi.of ?_
          first | (simp only [e79, eP, ix_nI (show P < 2147483648 by omega), spRow, spNum, spDay, spCopy, spIsJob, nI_1, sp_print, h16, h28, h46, h61, i32_le h61, or_true, true_or, or_self, or_false, false_or, and_true, true_and, and_false, false_and, if_true, if_false, not_true_eq_false, not_false_eq_true]; done) | (simp only [e79, eP, ix_nI (show P < 2147483648 by omega), spRow, spNum, spDay, spCopy, spIsJob, nI_1, sp_print, h16, h28, h46, h61, i32_le h61, or_true, true_or, or_self, or_false, false_or, and_true, true_and, and_false, false_and, if_true, if_false, not_true_eq_false, not_false_eq_true]; rfl)
        · refine e_aload_n dX4_print_64 0 rfl rfl rfl ?_
          refine e_bipush 12 dX4_print_65 rfl ?_
          refine e_callV1 (As := [.int 12]) (rest := []) dX4_print_67 rfl mvX4_252 (tw_o hp) rfl (t_refuse hp 12) (Nat.le_of_ble_eq_true rfl) rfl rfl (Nat.le_of_ble_eq_true rfl) (Nat.zero_le _) (Nat.zero_le _) ?_
          refine e_ireturn dX4_print_70 rfl rfl (Nat.zero_le _) (Nat.zero_le _) ?_
          have e79 : (nI P = 20) = (P = 20) := by rw [show (20 : Int32) = nI 20 from rfl]; exact propext (nI_eqN (by omega) (by omega))
          refine TQi.of ?_
          first | (simp only [e79, eP, ix_nI (show P < 2147483648 by omega), spRow, spNum, spDay, spCopy, spIsJob, nI_1, sp_print, h16, h28, h46, h61, i32_nle h61, or_true, true_or, or_self, or_false, false_or, and_true, true_and, and_false, false_and, if_true, if_false, not_true_eq_false, not_false_eq_true]; done) | (simp only [e79, eP, ix_nI (show P < 2147483648 by omega), spRow, spNum, spDay, spCopy, spIsJob, nI_1, sp_print, h16, h28, h46, h61, i32_nle h61, or_true, true_or, or_self, or_false, false_or, and_true, true_and, and_false, false_and, if_true, if_false, not_true_eq_false, not_false_eq_true]; rfl)
      · refine e_aload_n dX4_print_49 0 rfl rfl rfl ?_
        refine e_bipush 7 dX4_print_50 rfl ?_
        refine e_callV1 (As := [.int 7]) (rest := []) dX4_print_52 rfl mvX4_252 (tw_o hp) rfl (t_refuse hp 7) (Nat.le_of_ble_eq_true rfl) rfl rfl (Nat.le_of_ble_eq_true rfl) (Nat.zero_le _) (Nat.zero_le _) ?_
        refine e_ireturn dX4_print_55 rfl rfl (Nat.zero_le _) (Nat.zero_le _) ?_
        have e79 : (nI P = 20) = (P = 20) := by rw [show (20 : Int32) = nI 20 from rfl]; exact propext (nI_eqN (by omega) (by omega))
        refine TQi.of ?_
        first | (simp only [e79, eP, ix_nI (show P < 2147483648 by omega), spRow, spNum, spDay, spCopy, spIsJob, nI_1, sp_print, h16, h28, h46, or_true, true_or, or_self, or_false, false_or, and_true, true_and, and_false, false_and, if_true, if_false, not_true_eq_false, not_false_eq_true]; done) | (simp only [e79, eP, ix_nI (show P < 2147483648 by omega), spRow, spNum, spDay, spCopy, spIsJob, nI_1, sp_print, h16, h28, h46, or_true, true_or, or_self, or_false, false_or, and_true, true_and, and_false, false_and, if_true, if_false, not_true_eq_false, not_false_eq_true]; rfl)
    · refine e_if_ne_f (by decide) 40 dX4_print_31 (by decide) ?_
      refine e_aload_n dX4_print_34 0 rfl rfl rfl ?_
      refine e_iconst 5 dX4_print_35 rfl ?_
      refine e_callV1 (As := [.int 5]) (rest := []) dX4_print_36 rfl mvX4_252 (tw_o hp) rfl (t_refuse hp 5) (Nat.le_of_ble_eq_true rfl) rfl rfl (Nat.le_of_ble_eq_true rfl) (Nat.zero_le _) (Nat.zero_le _) ?_
      refine e_ireturn dX4_print_39 rfl rfl (Nat.zero_le _) (Nat.zero_le _) ?_
      have e79 : (nI P = 20) = (P = 20) := by rw [show (20 : Int32) = nI 20 from rfl]; exact propext (nI_eqN (by omega) (by omega))
      refine TQi.of ?_
      first | (simp only [e79, eP, ix_nI (show P < 2147483648 by omega), spRow, spNum, spDay, spCopy, spIsJob, nI_1, sp_print, h16, h28, or_true, true_or, or_self, or_false, false_or, and_true, true_and, and_false, false_and, if_true, if_false, not_true_eq_false, not_false_eq_true]; done) | (simp only [e79, eP, ix_nI (show P < 2147483648 by omega), spRow, spNum, spDay, spCopy, spIsJob, nI_1, sp_print, h16, h28, or_true, true_or, or_self, or_false, false_or, and_true, true_and, and_false, false_and, if_true, if_false, not_true_eq_false, not_false_eq_true]; rfl)
  · refine e_if_eq_t 34 (by decide) dX4_print_19 (by decide) ?_
    refine e_aload_n dX4_print_34 0 rfl rfl rfl ?_
    refine e_iconst 5 dX4_print_35 rfl ?_
    refine e_callV1 (As := [.int 5]) (rest := []) dX4_print_36 rfl mvX4_252 (tw_o hp) rfl (t_refuse hp 5) (Nat.le_of_ble_eq_true rfl) rfl rfl (Nat.le_of_ble_eq_true rfl) (Nat.zero_le _) (Nat.zero_le _) ?_
    refine e_ireturn dX4_print_39 rfl rfl (Nat.zero_le _) (Nat.zero_le _) ?_
    have e79 : (nI P = 20) = (P = 20) := by rw [show (20 : Int32) = nI 20 from rfl]; exact propext (nI_eqN (by omega) (by omega))
    refine TQi.of ?_
    first | (simp only [e79, eP, ix_nI (show P < 2147483648 by omega), spRow, spNum, spDay, spCopy, spIsJob, nI_1, sp_print, h16, or_true, true_or, or_self, or_false, false_or, and_true, true_and, and_false, false_and, if_true, if_false, not_true_eq_false, not_false_eq_true]; done) | (simp only [e79, eP, ix_nI (show P < 2147483648 by omega), spRow, spNum, spDay, spCopy, spIsJob, nI_1, sp_print, h16, or_true, true_or, or_self, or_false, false_or, and_true, true_and, and_false, false_and, if_true, if_false, not_true_eq_false, not_false_eq_true]; rfl)

set_option maxHeartbeats 4000000 in
set_option maxRecDepth 100000 in
/-- a loop of printingOf -/
theorem t_prOf_loop {pre post : List ACell} {τ : Tw} (hp : pre.length = 56) {n : Int32} {F : Nat → Nat} {P : Nat} (hP : P ≤ 20) (hF : ∀ p, p < P → F p < F (p + 1) ∧ F (p + 1) ≤ F p + 1000 ∧ τ.2.2.1 85 p = nI (F p)) (h1 : nI (F 0) ≤ n) {Q : Qfun} : ∀ (fuel : Nat) (p : Nat), p < P → p < fuel → Q (some (.int (nI (prN (τ.2.2.1 85) n (p + 1))))) (TW pre τ post) →
    E cX4_printingOf (RX4, (some .int), 3, 0, (0, 0), false, []) Q noX 0 0 7 [some (.ref 56), some (.int n), some (.int (nI p))] [] (TW pre τ post) := by
  intro fuel
  induction fuel with
  | zero => intro p hp1 hf hQ; exact absurd hf (by omega)
  | succ fuel ih =>
    intro p hp1 hf hQ
    refine e_aload_n dX4_printingOf_7 0 rfl rfl rfl ?_
    refine e_getf (v := .ref 103) dX4_printingOf_8 rfl fX4_170 (tw_o hp) rfl ?_
    refine e_iload_n dX4_printingOf_11 2 rfl rfl ?_
    refine e_iald (f := τ.2.2.1 85) (j := p) dX4_printingOf_12 (tw_a85 hp) rfl (by omega) (by decide) ?_
    refine e_iload_n dX4_printingOf_13 1 rfl rfl ?_
    refine e_icmp_le 23 dX4_printingOf_14 (by decide) (fun h14 => ?_) (fun h14 => ?_)
    · refine e_iload_n dX4_printingOf_23 2 rfl rfl ?_
      refine e_ireturn dX4_printingOf_24 rfl rfl (Nat.zero_le _) (Nat.zero_le _) ?_
      rw [prN, if_pos h14] at hQ
      exact hQ
    · obtain ⟨q, rfl⟩ : ∃ q, p = q + 1 := by
        cases p with
        | zero => rw [(hF 0 hp1).2.2] at h14; exact absurd h1 h14
        | succ q => exact ⟨q, rfl⟩
      refine e_incN (q + 1) q (decS _) dX4_printingOf_17 rfl (ls_s (ls_1 rfl)) (Nat.le_of_ble_eq_true rfl) ?_
      refine e_goto 7 dX4_printingOf_20 (by decide) ?_
      refine ih q (by omega) (by omega) ?_
      rw [prN, if_neg h14] at hQ
      exact hQ

set_option maxHeartbeats 4000000 in
set_option maxRecDepth 100000 in
/-- WheelTablesModel.printingOf -/
theorem t_prOf {pre post : List ACell} {τ : Tw} (hp : pre.length = 56) {n : Int32} {F : Nat → Nat} {P : Nat} (hP : P ≤ 20) (hF : ∀ p, p < P → F p < F (p + 1) ∧ F (p + 1) ≤ F p + 1000 ∧ τ.2.2.1 85 p = nI (F p)) (h1 : nI (F 0) ≤ n) (eP : τ.1 79 = nI P) (hP0 : 0 < P) : Ct yX4_printingOf (ws_ yX4_printingOf cX4_printingOf 3 (some .int)) 0 0 0 [.ref 56, .int n] (TW pre τ post) (Q1 (some (.int (nI (prN (τ.2.2.1 85) n P)))) (TW pre τ post)) noX := by
  refine Ct.of (ini := false) (ls := [some (.ref 56), some (.int n), none]) (by decide) (Nat.le_of_ble_eq_true rfl) (fun h => by cases h) rfl ?_
  refine e_aload_n dX4_printingOf_0 0 rfl rfl rfl ?_
  refine e_getf (v := .int (τ.1 79)) dX4_printingOf_1 rfl fX4_536 (tw_o hp) rfl ?_
  refine e_top (congrArg Value.int eP) ?_
  refine e_iconst 1 dX4_printingOf_4 rfl ?_
  refine e_isubN P 1 (by omega) dX4_printingOf_5 ?_
  refine e_istore_n dX4_printingOf_6 2 rfl (ls_s (ls_1 rfl)) (Nat.le_of_ble_eq_true rfl) ?_
  exact t_prOf_loop hp hP hF h1 P (P - 1) (by omega) (by omega) ⟨by rw [show P - 1 + 1 = P by omega], rfl⟩

set_option maxHeartbeats 4000000 in
set_option maxRecDepth 100000 in
/-- a loop of saysOf -/
theorem t_say_loop {pre post : List ACell} {τ : Tw} (hp : pre.length = 56) {r : Int32} {P p c : Nat} (hP : P ≤ 20) (hp1 : p < P) (hc : c ≤ 100) (ec : τ.2.2.1 86 p = nI c) {Q : Qfun} : ∀ (fuel : Nat) (k : Nat) (v : Int32), k ≤ c → c < k + fuel → v = sayN (τ.2.2.1 83) (τ.2.2.1 84) r k → Q (some (.int (sayN (τ.2.2.1 83) (τ.2.2.1 84) r c))) (TW pre τ post) →
    E cX4_saysOf (RX4, (some .int), 5, 0, (0, 0), false, []) Q noX 0 0 5 [some (.ref 56), some (.int (nI p)), some (.int r), some (.int v), some (.int (nI k))] [] (TW pre τ post) := by
  intro fuel
  induction fuel with
  | zero => intro k v hk hf hv hQ; exact absurd hf (by omega)
  | succ fuel ih =>
    intro k v hk hf hv hQ
    refine e_iload dX4_saysOf_5 rfl ?_
    refine e_aload_n dX4_saysOf_7 0 rfl rfl rfl ?_
    refine e_getf (v := .ref 104) dX4_saysOf_8 rfl fX4_173 (tw_o hp) rfl ?_
    refine e_iload_n dX4_saysOf_11 1 rfl rfl ?_
    refine e_iald (f := τ.2.2.1 86) (j := p) dX4_saysOf_12 (tw_a86 hp) rfl (by omega) (by decide) ?_
    refine e_top (congrArg Value.int ec) ?_
    refine e_icmp_geN k c 41 (by omega) (by omega) dX4_saysOf_13 (by decide) (fun h13 => ?_) (fun h13 => ?_)
    · refine e_iload_n dX4_saysOf_41 3 rfl rfl ?_
      refine e_ireturn dX4_saysOf_42 rfl rfl (Nat.zero_le _) (Nat.zero_le _) ?_
      have e : k = c := by omega
      rw [hv, e]; exact hQ
    · refine e_aload_n dX4_saysOf_16 0 rfl rfl rfl ?_
      refine e_getf (v := .ref 101) dX4_saysOf_17 rfl fX4_164 (tw_o hp) rfl ?_
      refine e_iload dX4_saysOf_20 rfl ?_
      refine e_iald (f := τ.2.2.1 83) (j := k) dX4_saysOf_22 (tw_a83 hp) rfl (by omega) (by decide) ?_
      refine e_iload_n dX4_saysOf_23 2 rfl rfl ?_
      refine e_icmp_ne 35 dX4_saysOf_24 (by decide) (fun h24 => ?_) (fun h24 => ?_)
      · refine e_incN k (k + 1) (inc1 _) dX4_saysOf_35 rfl (ls_s (ls_s (ls_s (ls_1 rfl)))) (Nat.le_of_ble_eq_true rfl) ?_
        refine e_goto 5 dX4_saysOf_38 (by decide) ?_
        exact ih (k + 1) _ (by omega) (by omega) (by first | (rw [sayN, if_pos h24]; done) | (rw [sayN, if_neg h24]; exact hv)) hQ
      · refine e_aload_n dX4_saysOf_27 0 rfl rfl rfl ?_
        refine e_getf (v := .ref 102) dX4_saysOf_28 rfl fX4_167 (tw_o hp) rfl ?_
        refine e_iload dX4_saysOf_31 rfl ?_
        refine e_iald (f := τ.2.2.1 84) (j := k) dX4_saysOf_33 (tw_a84 hp) rfl (by omega) (by decide) ?_
        refine e_istore_n dX4_saysOf_34 3 rfl (ls_s (ls_s (ls_1 rfl))) (Nat.le_of_ble_eq_true rfl) ?_
        refine e_incN k (k + 1) (inc1 _) dX4_saysOf_35 rfl (ls_s (ls_s (ls_s (ls_1 rfl)))) (Nat.le_of_ble_eq_true rfl) ?_
        refine e_goto 5 dX4_saysOf_38 (by decide) ?_
        exact ih (k + 1) _ (by omega) (by omega) (by first | (rw [sayN, if_pos h24]; done) | (rw [sayN, if_neg h24]; exact hv)) hQ

set_option maxHeartbeats 4000000 in
set_option maxRecDepth 100000 in
/-- WheelTablesModel.saysOf -/
theorem t_say {pre post : List ACell} {τ : Tw} (hp : pre.length = 56) {P p c : Nat} (hP : P ≤ 20) (hp1 : p < P) (hc : c ≤ 100) (ec : τ.2.2.1 86 p = nI c) (r : Int32) : Ct yX4_saysOf (ws_ yX4_saysOf cX4_saysOf 5 (some .int)) 0 0 0 [.ref 56, .int (nI p), .int r] (TW pre τ post) (Q1 (some (.int (spSay p r τ))) (TW pre τ post)) noX := by
  refine Ct.of (ini := false) (ls := [some (.ref 56), some (.int (nI p)), some (.int r), none, none]) (by decide) (Nat.le_of_ble_eq_true rfl) (fun h => by cases h) rfl ?_
  refine e_iconst 0 dX4_saysOf_0 rfl ?_
  refine e_istore_n dX4_saysOf_1 3 rfl (ls_s (ls_s (ls_1 rfl))) (Nat.le_of_ble_eq_true rfl) ?_
  refine e_iconst 0 dX4_saysOf_2 rfl ?_
  refine e_istore dX4_saysOf_3 (ls_s (ls_s (ls_s (ls_1 rfl)))) (Nat.le_of_ble_eq_true rfl) ?_
  exact t_say_loop hp hP hp1 hc ec (c + 1) 0 0 (Nat.zero_le _) (by omega) rfl ⟨by rw [spSay, ec, ix_nI (by omega)], rfl⟩

