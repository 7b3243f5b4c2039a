/-! ===== the twin: answers, the tape ===== -/
theorem lay_eq (τ : Tw) (t : Nat) (v : Int32) : tI (tA τ 28 (layN (τ.2.2.1 28) t v)) 29 (nI (t + 4)) = tI (tA (tI (tA (tI (tA (tI (tA τ 28 (upd (τ.2.2.1 28) t (vp_nar .byte (v >>> (24 &&& 31)).toInt8.toInt32))) 29 (nI (t + 1))) 28 (upd (upd (τ.2.2.1 28) t (vp_nar .byte (v >>> (24 &&& 31)).toInt8.toInt32)) (t + 1) (vp_nar .byte (v >>> (16 &&& 31)).toInt8.toInt32))) 29 (nI (t + 1 + 1))) 28 (upd (upd (upd (τ.2.2.1 28) t (vp_nar .byte (v >>> (24 &&& 31)).toInt8.toInt32)) (t + 1) (vp_nar .byte (v >>> (16 &&& 31)).toInt8.toInt32)) (t + 1 + 1) (vp_nar .byte (v >>> (8 &&& 31)).toInt8.toInt32))) 29 (nI (t + 1 + 1 + 1))) 28 (layN (τ.2.2.1 28) t v)) 29 (nI (t + 1 + 1 + 1 + 1)) := by
  have h : ∀ (f : Nat → Int32) (a b : Int32), upd (upd f 29 a) 29 b = upd f 29 b := fun f a b => by funext j; unfold upd; split <;> rfl
  have g : ∀ (f : Nat → Nat → Int32) (a b : Nat → Int32), va_up (va_up f 28 a) 28 b = va_up f 28 b := fun f a b => by funext j; unfold va_up; split <;> rfl
  simp only [tI, tA, h, g]
set_option maxHeartbeats 4000000 in
set_option maxRecDepth 100000 in
/-- WheelTablesModel.because -/
theorem t_because {pre post : List ACell} {τ : Tw} (hp : pre.length = 56) (w : Int32) : Ct yX4_because (ws_ yX4_because cX4_because 2 (some .int)) 2 0 0 [.ref 56, .int w] (TW pre τ post) (TQi pre post (sp_because w τ)) noX := by
  refine Ct.of (ini := false) (ls := [some (.ref 56), some (.int w)]) (by decide) (Nat.le_of_ble_eq_true rfl) (fun h => by cases h) rfl ?_
  refine e_aload_n dX4_because_0 0 rfl rfl rfl ?_
  refine e_iconst 0 dX4_because_1 rfl ?_
  refine e_tputI dX4_because_2 rfl pX4_212 rfl hp (Nat.le_of_ble_eq_true rfl) (tw_f1 _) ?_
  refine e_aload_n dX4_because_5 0 rfl rfl rfl ?_
  refine e_iconst 0 dX4_because_6 rfl ?_
  refine e_tputI dX4_because_7 rfl pX4_215 rfl hp (Nat.le_of_ble_eq_true rfl) (tw_f0 _) ?_
  refine e_iload_n dX4_because_10 1 rfl rfl ?_
  refine e_i2l dX4_because_11 ?_
  refine e_lconst 0 dX4_because_12 rfl ?_
  refine e_ldc2 rfl q1572 dX4_because_13 ?_
  refine e_callSB (As := [.long w.toInt64, .long 0, .long 3]) (rest := []) dX4_because_16 rfl msX4_239 (t_isInI w 0 3 rfl (by decide) (by decide)) (Nat.le_of_ble_eq_true rfl) rfl rfl (Nat.le_of_ble_eq_true rfl) (Nat.zero_le _) (Nat.zero_le _) (fun h16 => ?_) (fun h16 => ?_)
  · refine e_if_ne_t 28 (by decide) dX4_because_19 (by decide) ?_
    refine e_aload_n dX4_because_28 0 rfl rfl rfl ?_
    refine e_getf (v := .int (τ.1 22)) dX4_because_29 rfl fX4_61 (tw_o hp) rfl ?_
    refine e_if_ge 42 dX4_because_32 (by decide) (fun h32 => ?_) (fun h32 => ?_)
    · refine e_iload_n dX4_because_42 1 rfl rfl ?_
      refine e_if_ne 53 dX4_because_43 (by decide) (fun h43 => ?_) (fun h43 => ?_)
      · refine e_iload_n dX4_because_53 1 rfl rfl ?_
        refine e_iconst 1 dX4_because_54 rfl ?_
        refine e_icmp_ne 65 dX4_because_55 (by decide) (fun h55 => ?_) (fun h55 => ?_)
        · refine e_iload_n dX4_because_65 1 rfl rfl ?_
          refine e_iconst 2 dX4_because_66 rfl ?_
          refine e_icmp_ne 77 dX4_because_67 (by decide) (fun h67 => ?_) (fun h67 => ?_)
          · refine e_aload_n dX4_because_77 0 rfl rfl rfl ?_
            refine e_getf (v := .int (τ.1 25)) dX4_because_78 rfl fX4_330 (tw_o hp) rfl ?_
            refine e_ireturn dX4_because_81 rfl rfl (Nat.zero_le _) (Nat.zero_le _) ?_
            refine TQi.of ?_
            first | (simp only [sp_because, h16, h32, i32_le h32, h43, h55, h67, or_true, true_or, or_self, or_false, false_or, and_true, true_and, and_false, false_and, if_true, if_false, not_true_eq_false, not_false_eq_true]; done) | (simp only [sp_because, h16, h32, i32_le h32, h43, h55, h67, or_true, true_or, or_self, or_false, false_or, and_true, true_and, and_false, false_and, if_true, if_false, not_true_eq_false, not_false_eq_true]; rfl)
          · refine e_aload_n dX4_because_70 0 rfl rfl rfl ?_
            refine e_getf (v := .int (τ.1 24)) dX4_because_71 rfl fX4_327 (tw_o hp) rfl ?_
            refine e_goto 81 dX4_because_74 (by decide) ?_
            refine e_ireturn dX4_because_81 rfl rfl (Nat.zero_le _) (Nat.zero_le _) ?_
            refine TQi.of ?_
            first | (simp only [sp_because, h16, h32, i32_le h32, h43, h55, h67, or_true, true_or, or_self, or_false, false_or, and_true, true_and, and_false, false_and, if_true, if_false, not_true_eq_false, not_false_eq_true]; done) | (simp only [sp_because, h16, h32, i32_le h32, h43, h55, h67, or_true, true_or, or_self, or_false, false_or, and_true, true_and, and_false, false_and, if_true, if_false, not_true_eq_false, not_false_eq_true]; rfl)
        · refine e_aload_n dX4_because_58 0 rfl rfl rfl ?_
          refine e_getf (v := .int (τ.1 23)) dX4_because_59 rfl fX4_324 (tw_o hp) rfl ?_
          refine e_goto 81 dX4_because_62 (by decide) ?_
          refine e_ireturn dX4_because_81 rfl rfl (Nat.zero_le _) (Nat.zero_le _) ?_
          refine TQi.of ?_
          first | (simp only [sp_because, h16, h32, i32_le h32, h43, h55, or_true, true_or, or_self, or_false, false_or, and_true, true_and, and_false, false_and, if_true, if_false, not_true_eq_false, not_false_eq_true]; done) | (simp only [sp_because, h16, h32, i32_le h32, h43, h55, or_true, true_or, or_self, or_false, false_or, and_true, true_and, and_false, false_and, if_true, if_false, not_true_eq_false, not_false_eq_true]; rfl)
      · refine e_aload_n dX4_because_46 0 rfl rfl rfl ?_
        refine e_getf (v := .int (τ.1 22)) dX4_because_47 rfl fX4_61 (tw_o hp) rfl ?_
        refine e_goto 81 dX4_because_50 (by decide) ?_
        refine e_ireturn dX4_because_81 rfl rfl (Nat.zero_le _) (Nat.zero_le _) ?_
        refine TQi.of ?_
        first | (simp only [sp_because, h16, h32, i32_le h32, h43, or_true, true_or, or_self, or_false, false_or, and_true, true_and, and_false, false_and, if_true, if_false, not_true_eq_false, not_false_eq_true]; done) | (simp only [sp_because, h16, h32, i32_le h32, h43, or_true, true_or, or_self, or_false, false_or, and_true, true_and, and_false, false_and, if_true, if_false, not_true_eq_false, not_false_eq_true]; rfl)
    · refine e_aload_n dX4_because_35 0 rfl rfl rfl ?_
      refine e_bipush 8 dX4_because_36 rfl ?_
      refine e_callV1 (As := [.int 8]) (rest := []) dX4_because_38 rfl mvX4_252 (tw_o hp) rfl (t_refuse hp 8) (Nat.le_of_ble_eq_true rfl) rfl rfl (Nat.le_of_ble_eq_true rfl) (Nat.zero_le _) (Nat.zero_le _) ?_
      refine e_ireturn dX4_because_41 rfl rfl (Nat.zero_le _) (Nat.zero_le _) ?_
      refine TQi.of ?_
      first | (simp only [sp_because, h16, h32, i32_nle h32, or_true, true_or, or_self, or_false, false_or, and_true, true_and, and_false, false_and, if_true, if_false, not_true_eq_false, not_false_eq_true]; done) | (simp only [sp_because, h16, h32, i32_nle h32, or_true, true_or, or_self, or_false, false_or, and_true, true_and, and_false, false_and, if_true, if_false, not_true_eq_false, not_false_eq_true]; rfl)
  · refine e_if_ne_f (by decide) 28 dX4_because_19 (by decide) ?_
    refine e_aload_n dX4_because_22 0 rfl rfl rfl ?_
    refine e_iconst 5 dX4_because_23 rfl ?_
    refine e_callV1 (As := [.int 5]) (rest := []) dX4_because_24 rfl mvX4_252 (tw_o hp) rfl (t_refuse hp 5) (Nat.le_of_ble_eq_true rfl) rfl rfl (Nat.le_of_ble_eq_true rfl) (Nat.zero_le _) (Nat.zero_le _) ?_
    refine e_ireturn dX4_because_27 rfl rfl (Nat.zero_le _) (Nat.zero_le _) ?_
    refine TQi.of ?_
    first | (simp only [sp_because, h16, or_true, true_or, or_self, or_false, false_or, and_true, true_and, and_false, false_and, if_true, if_false, not_true_eq_false, not_false_eq_true]; done) | (simp only [sp_because, h16, or_true, true_or, or_self, or_false, false_or, and_true, true_and, and_false, false_and, if_true, if_false, not_true_eq_false, not_false_eq_true]; rfl)

set_option maxHeartbeats 4000000 in
set_option maxRecDepth 100000 in
/-- WheelTablesModel.ran -/
theorem t_ran {pre post : List ACell} {τ : Tw} (hp : pre.length = 56) (w : Int32) : Ct yX4_ran (ws_ yX4_ran cX4_ran 2 (some .int)) 2 0 0 [.ref 56, .int w] (TW pre τ post) (TQi pre post (sp_ran w τ)) noX := by
  refine Ct.of (ini := false) (ls := [some (.ref 56), some (.int w)]) (by decide) (Nat.le_of_ble_eq_true rfl) (fun h => by cases h) rfl ?_
  refine e_aload_n dX4_ran_0 0 rfl rfl rfl ?_
  refine e_iconst 0 dX4_ran_1 rfl ?_
  refine e_tputI dX4_ran_2 rfl pX4_212 rfl hp (Nat.le_of_ble_eq_true rfl) (tw_f1 _) ?_
  refine e_aload_n dX4_ran_5 0 rfl rfl rfl ?_
  refine e_iconst 0 dX4_ran_6 rfl ?_
  refine e_tputI dX4_ran_7 rfl pX4_215 rfl hp (Nat.le_of_ble_eq_true rfl) (tw_f0 _) ?_
  refine e_iload_n dX4_ran_10 1 rfl rfl ?_
  refine e_i2l dX4_ran_11 ?_
  refine e_lconst 0 dX4_ran_12 rfl ?_
  refine e_ldc2 rfl q1572 dX4_ran_13 ?_
  refine e_callSB (As := [.long w.toInt64, .long 0, .long 3]) (rest := []) dX4_ran_16 rfl msX4_239 (t_isInI w 0 3 rfl (by decide) (by decide)) (Nat.le_of_ble_eq_true rfl) rfl rfl (Nat.le_of_ble_eq_true rfl) (Nat.zero_le _) (Nat.zero_le _) (fun h16 => ?_) (fun h16 => ?_)
  · refine e_if_ne_t 28 (by decide) dX4_ran_19 (by decide) ?_
    refine e_aload_n dX4_ran_28 0 rfl rfl rfl ?_
    refine e_getf (v := .int (τ.1 60)) dX4_ran_29 rfl fX4_479 (tw_o hp) rfl ?_
    refine e_if_ne 42 dX4_ran_32 (by decide) (fun h32 => ?_) (fun h32 => ?_)
    · refine e_iload_n dX4_ran_42 1 rfl rfl ?_
      refine e_if_ne 53 dX4_ran_43 (by decide) (fun h43 => ?_) (fun h43 => ?_)
      · refine e_iload_n dX4_ran_53 1 rfl rfl ?_
        refine e_iconst 1 dX4_ran_54 rfl ?_
        refine e_icmp_ne 65 dX4_ran_55 (by decide) (fun h55 => ?_) (fun h55 => ?_)
        · refine e_iload_n dX4_ran_65 1 rfl rfl ?_
          refine e_iconst 2 dX4_ran_66 rfl ?_
          refine e_icmp_ne 77 dX4_ran_67 (by decide) (fun h67 => ?_) (fun h67 => ?_)
          · refine e_aload_n dX4_ran_77 0 rfl rfl rfl ?_
            refine e_getf (v := .int (τ.1 66)) dX4_ran_78 rfl fX4_485 (tw_o hp) rfl ?_
            refine e_ireturn dX4_ran_81 rfl rfl (Nat.zero_le _) (Nat.zero_le _) ?_
            refine TQi.of ?_
            first | (simp only [sp_ran, h16, h32, h43, h55, h67, or_true, true_or, or_self, or_false, false_or, and_true, true_and, and_false, false_and, if_true, if_false, not_true_eq_false, not_false_eq_true]; done) | (simp only [sp_ran, h16, h32, h43, h55, h67, or_true, true_or, or_self, or_false, false_or, and_true, true_and, and_false, false_and, if_true, if_false, not_true_eq_false, not_false_eq_true]; rfl)
          · refine e_aload_n dX4_ran_70 0 rfl rfl rfl ?_
            refine e_getf (v := .int (τ.1 65)) dX4_ran_71 rfl fX4_134 (tw_o hp) rfl ?_
            refine e_goto 81 dX4_ran_74 (by decide) ?_
            refine e_ireturn dX4_ran_81 rfl rfl (Nat.zero_le _) (Nat.zero_le _) ?_
            refine TQi.of ?_
            first | (simp only [sp_ran, h16, h32, h43, h55, h67, or_true, true_or, or_self, or_false, false_or, and_true, true_and, and_false, false_and, if_true, if_false, not_true_eq_false, not_false_eq_true]; done) | (simp only [sp_ran, h16, h32, h43, h55, h67, or_true, true_or, or_self, or_false, false_or, and_true, true_and, and_false, false_and, if_true, if_false, not_true_eq_false, not_false_eq_true]; rfl)
        · refine e_aload_n dX4_ran_58 0 rfl rfl rfl ?_
          refine e_getf (v := .int (τ.1 64)) dX4_ran_59 rfl fX4_482 (tw_o hp) rfl ?_
          refine e_goto 81 dX4_ran_62 (by decide) ?_
          refine e_ireturn dX4_ran_81 rfl rfl (Nat.zero_le _) (Nat.zero_le _) ?_
          refine TQi.of ?_
          first | (simp only [sp_ran, h16, h32, h43, h55, or_true, true_or, or_self, or_false, false_or, and_true, true_and, and_false, false_and, if_true, if_false, not_true_eq_false, not_false_eq_true]; done) | (simp only [sp_ran, h16, h32, h43, h55, or_true, true_or, or_self, or_false, false_or, and_true, true_and, and_false, false_and, if_true, if_false, not_true_eq_false, not_false_eq_true]; rfl)
      · refine e_aload_n dX4_ran_46 0 rfl rfl rfl ?_
        refine e_getf (v := .int (τ.1 63)) dX4_ran_47 rfl fX4_468 (tw_o hp) rfl ?_
        refine e_goto 81 dX4_ran_50 (by decide) ?_
        refine e_ireturn dX4_ran_81 rfl rfl (Nat.zero_le _) (Nat.zero_le _) ?_
        refine TQi.of ?_
        first | (simp only [sp_ran, h16, h32, h43, or_true, true_or, or_self, or_false, false_or, and_true, true_and, and_false, false_and, if_true, if_false, not_true_eq_false, not_false_eq_true]; done) | (simp only [sp_ran, h16, h32, h43, or_true, true_or, or_self, or_false, false_or, and_true, true_and, and_false, false_and, if_true, if_false, not_true_eq_false, not_false_eq_true]; rfl)
    · refine e_aload_n dX4_ran_35 0 rfl rfl rfl ?_
      refine e_bipush 8 dX4_ran_36 rfl ?_
      refine e_callV1 (As := [.int 8]) (rest := []) dX4_ran_38 rfl mvX4_252 (tw_o hp) rfl (t_refuse hp 8) (Nat.le_of_ble_eq_true rfl) rfl rfl (Nat.le_of_ble_eq_true rfl) (Nat.zero_le _) (Nat.zero_le _) ?_
      refine e_ireturn dX4_ran_41 rfl rfl (Nat.zero_le _) (Nat.zero_le _) ?_
      refine TQi.of ?_
      first | (simp only [sp_ran, h16, h32, or_true, true_or, or_self, or_false, false_or, and_true, true_and, and_false, false_and, if_true, if_false, not_true_eq_false, not_false_eq_true]; done) | (simp only [sp_ran, h16, h32, or_true, true_or, or_self, or_false, false_or, and_true, true_and, and_false, false_and, if_true, if_false, not_true_eq_false, not_false_eq_true]; rfl)
  · refine e_if_ne_f (by decide) 28 dX4_ran_19 (by decide) ?_
    refine e_aload_n dX4_ran_22 0 rfl rfl rfl ?_
    refine e_iconst 5 dX4_ran_23 rfl ?_
    refine e_callV1 (As := [.int 5]) (rest := []) dX4_ran_24 rfl mvX4_252 (tw_o hp) rfl (t_refuse hp 5) (Nat.le_of_ble_eq_true rfl) rfl rfl (Nat.le_of_ble_eq_true rfl) (Nat.zero_le _) (Nat.zero_le _) ?_
    refine e_ireturn dX4_ran_27 rfl rfl (Nat.zero_le _) (Nat.zero_le _) ?_
    refine TQi.of ?_
    first | (simp only [sp_ran, h16, or_true, true_or, or_self, or_false, false_or, and_true, true_and, and_false, false_and, if_true, if_false, not_true_eq_false, not_false_eq_true]; done) | (simp only [sp_ran, h16, or_true, true_or, or_self, or_false, false_or, and_true, true_and, and_false, false_and, if_true, if_false, not_true_eq_false, not_false_eq_true]; rfl)

set_option maxHeartbeats 4000000 in
set_option maxRecDepth 100000 in
/-- WheelTablesModel.fault -/
theorem t_fault {pre post : List ACell} {τ : Tw} (hp : pre.length = 56) (w : Int32) : Ct yX4_fault (ws_ yX4_fault cX4_fault 2 (some .int)) 0 0 0 [.ref 56, .int w] (TW pre τ post) (TQi pre post (sp_fault w τ)) noX := by
  refine Ct.of (ini := false) (ls := [some (.ref 56), some (.int w)]) (by decide) (Nat.le_of_ble_eq_true rfl) (fun h => by cases h) rfl ?_
  refine e_aload_n dX4_fault_0 0 rfl rfl rfl ?_
  refine e_iconst 0 dX4_fault_1 rfl ?_
  refine e_tputI dX4_fault_2 rfl pX4_212 rfl hp (Nat.le_of_ble_eq_true rfl) (tw_f1 _) ?_
  refine e_iload_n dX4_fault_5 1 rfl rfl ?_
  refine e_if_ne 16 dX4_fault_6 (by decide) (fun h6 => ?_) (fun h6 => ?_)
  · refine e_iload_n dX4_fault_16 1 rfl rfl ?_
    refine e_iconst 1 dX4_fault_17 rfl ?_
    refine e_icmp_ne 28 dX4_fault_18 (by decide) (fun h18 => ?_) (fun h18 => ?_)
    · refine e_iconst (-1) dX4_fault_28 rfl ?_
      refine e_ireturn dX4_fault_29 rfl rfl (Nat.zero_le _) (Nat.zero_le _) ?_
      refine TQi.of ?_
      first | (simp only [sp_fault, h6, h18, or_true, true_or, or_self, or_false, false_or, and_true, true_and, and_false, false_and, if_true, if_false, not_true_eq_false, not_false_eq_true]; done) | (simp only [sp_fault, h6, h18, or_true, true_or, or_self, or_false, false_or, and_true, true_and, and_false, false_and, if_true, if_false, not_true_eq_false, not_false_eq_true]; rfl)
    · refine e_aload_n dX4_fault_21 0 rfl rfl rfl ?_
      refine e_getf (v := .int (τ.1 32)) dX4_fault_22 rfl fX4_77 (tw_o hp) rfl ?_
      refine e_goto 29 dX4_fault_25 (by decide) ?_
      refine e_ireturn dX4_fault_29 rfl rfl (Nat.zero_le _) (Nat.zero_le _) ?_
      refine TQi.of ?_
      first | (simp only [sp_fault, h6, h18, or_true, true_or, or_self, or_false, false_or, and_true, true_and, and_false, false_and, if_true, if_false, not_true_eq_false, not_false_eq_true]; done) | (simp only [sp_fault, h6, h18, or_true, true_or, or_self, or_false, false_or, and_true, true_and, and_false, false_and, if_true, if_false, not_true_eq_false, not_false_eq_true]; rfl)
  · refine e_aload_n dX4_fault_9 0 rfl rfl rfl ?_
    refine e_getf (v := .int (τ.1 31)) dX4_fault_10 rfl fX4_74 (tw_o hp) rfl ?_
    refine e_goto 29 dX4_fault_13 (by decide) ?_
    refine e_ireturn dX4_fault_29 rfl rfl (Nat.zero_le _) (Nat.zero_le _) ?_
    refine TQi.of ?_
    first | (simp only [sp_fault, h6, or_true, true_or, or_self, or_false, false_or, and_true, true_and, and_false, false_and, if_true, if_false, not_true_eq_false, not_false_eq_true]; done) | (simp only [sp_fault, h6, or_true, true_or, or_self, or_false, false_or, and_true, true_and, and_false, false_and, if_true, if_false, not_true_eq_false, not_false_eq_true]; rfl)

set_option maxHeartbeats 4000000 in
set_option maxRecDepth 100000 in
/-- WheelTablesModel.printed -/
theorem t_printed {pre post : List ACell} {τ : Tw} (hp : pre.length = 56) (hI : InvR τ) (k : Int32) : Ct yX4_printed (ws_ yX4_printed cX4_printed 2 (some .long)) 2 0 0 [.ref 56, .int k] (TW pre τ post) (TQl pre post (sp_printed k τ)) noX := by
  obtain ⟨P, q, hP, eP, hq, eq, hrun⟩ := id hI
  refine Ct.of (ini := false) (ls := [some (.ref 56), some (.int k)]) (by decide) (Nat.le_of_ble_eq_true rfl) (fun h => by cases h) rfl ?_
  refine e_aload_n dX4_printed_0 0 rfl rfl rfl ?_
  refine e_iconst 0 dX4_printed_1 rfl ?_
  refine e_tputI dX4_printed_2 rfl pX4_212 rfl hp (Nat.le_of_ble_eq_true rfl) (tw_f1 _) ?_
  refine e_aload_n dX4_printed_5 0 rfl rfl rfl ?_
  refine e_iconst 0 dX4_printed_6 rfl ?_
  refine e_tputI dX4_printed_7 rfl pX4_215 rfl hp (Nat.le_of_ble_eq_true rfl) (tw_f0 _) ?_
  refine e_iload_n dX4_printed_10 1 rfl rfl ?_
  refine e_i2l dX4_printed_11 ?_
  refine e_lconst 0 dX4_printed_12 rfl ?_
  refine e_aload_n dX4_printed_13 0 rfl rfl rfl ?_
  refine e_getf (v := .int (τ.1 62)) dX4_printed_14 rfl fX4_461 (tw_o hp) rfl ?_
  refine e_top (congrArg Value.int eP) ?_
  refine e_iconst 1 dX4_printed_17 rfl ?_
  refine e_isub dX4_printed_18 ?_
  refine e_i2l dX4_printed_19 ?_
  refine e_callSB (As := [.long k.toInt64, .long 0, .long (((nI P) - 1).toInt64)]) (rest := []) dX4_printed_20 rfl msX4_239 (t_isInI k 0 ((nI P) - 1) rfl (by decide) rfl) (Nat.le_of_ble_eq_true rfl) rfl rfl (Nat.le_of_ble_eq_true rfl) (Nat.zero_le _) (Nat.zero_le _) (fun h20 => ?_) (fun h20 => ?_)
  · refine e_if_eq_f (by decide) 35 dX4_printed_23 (by decide) ?_
    obtain ⟨j, hj, rfl⟩ := in_of (x := k) (by omega) h20.1 ((le_pred (show P < 2147483648 by omega) _).mp h20.2)
    refine e_aload_n dX4_printed_26 0 rfl rfl rfl ?_
    refine e_getf (v := .ref 91) dX4_printed_27 rfl fX4_131 (tw_o hp) rfl ?_
    refine e_iload_n dX4_printed_30 1 rfl rfl ?_
    refine e_lald (f := τ.2.2.2 59) (j := j) dX4_printed_31 (tw_a59 hp) rfl (by omega) (by decide) ?_
    refine e_goto 42 dX4_printed_32 (by decide) ?_
    refine e_lreturn dX4_printed_42 rfl (Nat.zero_le _) (Nat.zero_le _) ?_
    refine TQl.of ?_
    first | (simp only [sp_printed, ← le_pred (show P < 2147483648 by omega), eP, h20, ix_nI (show j < 2147483648 by omega), or_true, true_or, or_self, or_false, false_or, and_true, true_and, and_false, false_and, if_true, if_false, not_true_eq_false, not_false_eq_true]; done) | (simp only [sp_printed, ← le_pred (show P < 2147483648 by omega), eP, h20, ix_nI (show j < 2147483648 by omega), or_true, true_or, or_self, or_false, false_or, and_true, true_and, and_false, false_and, if_true, if_false, not_true_eq_false, not_false_eq_true]; rfl)
  · refine e_if_eq_t 35 (by decide) dX4_printed_23 (by decide) ?_
    refine e_aload_n dX4_printed_35 0 rfl rfl rfl ?_
    refine e_bipush 8 dX4_printed_36 rfl ?_
    refine e_callV1 (As := [.int 8]) (rest := []) dX4_printed_38 rfl mvX4_252 (tw_o hp) rfl (t_refuse hp 8) (Nat.le_of_ble_eq_true rfl) rfl rfl (Nat.le_of_ble_eq_true rfl) (Nat.zero_le _) (Nat.zero_le _) ?_
    refine e_i2l dX4_printed_41 ?_
    refine e_lreturn dX4_printed_42 rfl (Nat.zero_le _) (Nat.zero_le _) ?_
    refine TQl.of ?_
    first | (simp only [sp_printed, ← le_pred (show P < 2147483648 by omega), eP, h20, or_true, true_or, or_self, or_false, false_or, and_true, true_and, and_false, false_and, if_true, if_false, not_true_eq_false, not_false_eq_true]; done) | (simp only [sp_printed, ← le_pred (show P < 2147483648 by omega), eP, h20, or_true, true_or, or_self, or_false, false_or, and_true, true_and, and_false, false_and, if_true, if_false, not_true_eq_false, not_false_eq_true]; rfl)

set_option maxHeartbeats 4000000 in
set_option maxRecDepth 100000 in
/-- WheelTablesModel.place -/
theorem t_place {pre post : List ACell} {τ : Tw} (hp : pre.length = 56) (k : Int32) : Ct yX4_place (ws_ yX4_place cX4_place 2 (some .long)) 2 0 0 [.ref 56, .int k] (TW pre τ post) (TQl pre post (sp_place k τ)) noX := by
  refine Ct.of (ini := false) (ls := [some (.ref 56), some (.int k)]) (by decide) (Nat.le_of_ble_eq_true rfl) (fun h => by cases h) rfl ?_
  refine e_aload_n dX4_place_0 0 rfl rfl rfl ?_
  refine e_iconst 0 dX4_place_1 rfl ?_
  refine e_tputI dX4_place_2 rfl pX4_212 rfl hp (Nat.le_of_ble_eq_true rfl) (tw_f1 _) ?_
  refine e_aload_n dX4_place_5 0 rfl rfl rfl ?_
  refine e_iconst 0 dX4_place_6 rfl ?_
  refine e_tputI dX4_place_7 rfl pX4_215 rfl hp (Nat.le_of_ble_eq_true rfl) (tw_f0 _) ?_
  refine e_iload_n dX4_place_10 1 rfl rfl ?_
  refine e_i2l dX4_place_11 ?_
  refine e_lconst 0 dX4_place_12 rfl ?_
  refine e_ldc2 rfl q1707 dX4_place_13 ?_
  refine e_callSB (As := [.long k.toInt64, .long 0, .long 19]) (rest := []) dX4_place_16 rfl msX4_239 (t_isInI k 0 19 rfl (by decide) (by decide)) (Nat.le_of_ble_eq_true rfl) rfl rfl (Nat.le_of_ble_eq_true rfl) (Nat.zero_le _) (Nat.zero_le _) (fun h16 => ?_) (fun h16 => ?_)
  · refine e_if_ne_t 29 (by decide) dX4_place_19 (by decide) ?_
    refine e_aload_n dX4_place_29 0 rfl rfl rfl ?_
    refine e_getf (v := .int (τ.1 60)) dX4_place_30 rfl fX4_479 (tw_o hp) rfl ?_
    refine e_if_eq 45 dX4_place_33 (by decide) (fun h33 => ?_) (fun h33 => ?_)
    · refine e_aload_n dX4_place_45 0 rfl rfl rfl ?_
      refine e_bipush 8 dX4_place_46 rfl ?_
      refine e_callV1 (As := [.int 8]) (rest := []) dX4_place_48 rfl mvX4_252 (tw_o hp) rfl (t_refuse hp 8) (Nat.le_of_ble_eq_true rfl) rfl rfl (Nat.le_of_ble_eq_true rfl) (Nat.zero_le _) (Nat.zero_le _) ?_
      refine e_i2l dX4_place_51 ?_
      refine e_lreturn dX4_place_52 rfl (Nat.zero_le _) (Nat.zero_le _) ?_
      refine TQl.of ?_
      first | (simp only [sp_place, h16, h33, or_true, true_or, or_self, or_false, false_or, and_true, true_and, and_false, false_and, if_true, if_false, not_true_eq_false, not_false_eq_true]; done) | (simp only [sp_place, h16, h33, or_true, true_or, or_self, or_false, false_or, and_true, true_and, and_false, false_and, if_true, if_false, not_true_eq_false, not_false_eq_true]; rfl)
    · obtain ⟨j, hj, rfl⟩ := in_oc (x := k) 19 (by decide) h16.1 h16.2
      refine e_aload_n dX4_place_36 0 rfl rfl rfl ?_
      refine e_getf (v := .ref 90) dX4_place_37 rfl fX4_128 (tw_o hp) rfl ?_
      refine e_iload_n dX4_place_40 1 rfl rfl ?_
      refine e_lald (f := τ.2.2.2 58) (j := j) dX4_place_41 (tw_a58 hp) rfl (by omega) (by decide) ?_
      refine e_goto 52 dX4_place_42 (by decide) ?_
      refine e_lreturn dX4_place_52 rfl (Nat.zero_le _) (Nat.zero_le _) ?_
      refine TQl.of ?_
      first | (simp only [sp_place, h16, h33, ix_nI (show j < 2147483648 by omega), or_true, true_or, or_self, or_false, false_or, and_true, true_and, and_false, false_and, if_true, if_false, not_true_eq_false, not_false_eq_true]; done) | (simp only [sp_place, h16, h33, ix_nI (show j < 2147483648 by omega), or_true, true_or, or_self, or_false, false_or, and_true, true_and, and_false, false_and, if_true, if_false, not_true_eq_false, not_false_eq_true]; rfl)
  · refine e_if_ne_f (by decide) 29 dX4_place_19 (by decide) ?_
    refine e_aload_n dX4_place_22 0 rfl rfl rfl ?_
    refine e_iconst 2 dX4_place_23 rfl ?_
    refine e_callV1 (As := [.int 2]) (rest := []) dX4_place_24 rfl mvX4_252 (tw_o hp) rfl (t_refuse hp 2) (Nat.le_of_ble_eq_true rfl) rfl rfl (Nat.le_of_ble_eq_true rfl) (Nat.zero_le _) (Nat.zero_le _) ?_
    refine e_i2l dX4_place_27 ?_
    refine e_lreturn dX4_place_28 rfl (Nat.zero_le _) (Nat.zero_le _) ?_
    refine TQl.of ?_
    first | (simp only [sp_place, h16, or_true, true_or, or_self, or_false, false_or, and_true, true_and, and_false, false_and, if_true, if_false, not_true_eq_false, not_false_eq_true]; done) | (simp only [sp_place, h16, or_true, true_or, or_self, or_false, false_or, and_true, true_and, and_false, false_and, if_true, if_false, not_true_eq_false, not_false_eq_true]; rfl)

set_option maxHeartbeats 4000000 in
set_option maxRecDepth 100000 in
/-- WheelTablesModel.right -/
theorem t_right {pre post : List ACell} {τ : Tw} (hp : pre.length = 56) (hI : InvR τ) (j w : Int32) : Ct yX4_right (ws_ yX4_right cX4_right 3 (some .int)) 2 0 0 [.ref 56, .int j, .int w] (TW pre τ post) (TQi pre post (sp_right j w τ)) noX := by
  obtain ⟨P, q, hP, eP, hq, eq, hrun⟩ := id hI
  refine Ct.of (ini := false) (ls := [some (.ref 56), some (.int j), some (.int w)]) (by decide) (Nat.le_of_ble_eq_true rfl) (fun h => by cases h) rfl ?_
  refine e_aload_n dX4_right_0 0 rfl rfl rfl ?_
  refine e_iconst 0 dX4_right_1 rfl ?_
  refine e_tputI dX4_right_2 rfl pX4_212 rfl hp (Nat.le_of_ble_eq_true rfl) (tw_f1 _) ?_
  refine e_aload_n dX4_right_5 0 rfl rfl rfl ?_
  refine e_iconst 0 dX4_right_6 rfl ?_
  refine e_tputI dX4_right_7 rfl pX4_215 rfl hp (Nat.le_of_ble_eq_true rfl) (tw_f0 _) ?_
  refine e_iload_n dX4_right_10 2 rfl rfl ?_
  refine e_i2l dX4_right_11 ?_
  refine e_lconst 0 dX4_right_12 rfl ?_
  refine e_lconst 1 dX4_right_13 rfl ?_
  refine e_callSB (As := [.long w.toInt64, .long 0, .long 1]) (rest := []) dX4_right_14 rfl msX4_239 (t_isInI w 0 1 rfl (by decide) (by decide)) (Nat.le_of_ble_eq_true rfl) rfl rfl (Nat.le_of_ble_eq_true rfl) (Nat.zero_le _) (Nat.zero_le _) (fun h14 => ?_) (fun h14 => ?_)
  · refine e_if_ne_t 26 (by decide) dX4_right_17 (by decide) ?_
    refine e_iload_n dX4_right_26 1 rfl rfl ?_
    refine e_i2l dX4_right_27 ?_
    refine e_lconst 0 dX4_right_28 rfl ?_
    refine e_aload_n dX4_right_29 0 rfl rfl rfl ?_
    refine e_getf (v := .int (τ.1 74)) dX4_right_30 rfl fX4_517 (tw_o hp) rfl ?_
    refine e_top (congrArg Value.int eq) ?_
    refine e_iconst 1 dX4_right_33 rfl ?_
    refine e_isub dX4_right_34 ?_
    refine e_i2l dX4_right_35 ?_
    refine e_callSB (As := [.long j.toInt64, .long 0, .long (((nI q) - 1).toInt64)]) (rest := []) dX4_right_36 rfl msX4_239 (t_isInI j 0 ((nI q) - 1) rfl (by decide) rfl) (Nat.le_of_ble_eq_true rfl) rfl rfl (Nat.le_of_ble_eq_true rfl) (Nat.zero_le _) (Nat.zero_le _) (fun h36 => ?_) (fun h36 => ?_)
    · refine e_if_ne_t 49 (by decide) dX4_right_39 (by decide) ?_
      obtain ⟨i, hi, rfl⟩ := in_of (x := j) (by omega) h36.1 ((le_pred (show q < 2147483648 by omega) _).mp h36.2)
      refine e_iload_n dX4_right_49 2 rfl rfl ?_
      refine e_if_ne 62 dX4_right_50 (by decide) (fun h50 => ?_) (fun h50 => ?_)
      · refine e_aload_n dX4_right_62 0 rfl rfl rfl ?_
        refine e_getf (v := .ref 116) dX4_right_63 rfl fX4_209 (tw_o hp) rfl ?_
        refine e_iload_n dX4_right_66 1 rfl rfl ?_
        refine e_iald (f := τ.2.2.1 98) (j := i) dX4_right_67 (tw_a98 hp) rfl (by omega) (by decide) ?_
        refine e_ireturn dX4_right_68 rfl rfl (Nat.zero_le _) (Nat.zero_le _) ?_
        refine TQi.of ?_
        first | (simp only [sp_right, ← le_pred (show q < 2147483648 by omega), eq, h14, h36, h50, ix_nI (show i < 2147483648 by omega), or_true, true_or, or_self, or_false, false_or, and_true, true_and, and_false, false_and, if_true, if_false, not_true_eq_false, not_false_eq_true]; done) | (simp only [sp_right, ← le_pred (show q < 2147483648 by omega), eq, h14, h36, h50, ix_nI (show i < 2147483648 by omega), or_true, true_or, or_self, or_false, false_or, and_true, true_and, and_false, false_and, if_true, if_false, not_true_eq_false, not_false_eq_true]; rfl)
      · refine e_aload_n dX4_right_53 0 rfl rfl rfl ?_
        refine e_getf (v := .ref 115) dX4_right_54 rfl fX4_206 (tw_o hp) rfl ?_
        refine e_iload_n dX4_right_57 1 rfl rfl ?_
        refine e_iald (f := τ.2.2.1 97) (j := i) dX4_right_58 (tw_a97 hp) rfl (by omega) (by decide) ?_
        refine e_goto 68 dX4_right_59 (by decide) ?_
        refine e_ireturn dX4_right_68 rfl rfl (Nat.zero_le _) (Nat.zero_le _) ?_
        refine TQi.of ?_
        first | (simp only [sp_right, ← le_pred (show q < 2147483648 by omega), eq, h14, h36, h50, ix_nI (show i < 2147483648 by omega), or_true, true_or, or_self, or_false, false_or, and_true, true_and, and_false, false_and, if_true, if_false, not_true_eq_false, not_false_eq_true]; done) | (simp only [sp_right, ← le_pred (show q < 2147483648 by omega), eq, h14, h36, h50, ix_nI (show i < 2147483648 by omega), or_true, true_or, or_self, or_false, false_or, and_true, true_and, and_false, false_and, if_true, if_false, not_true_eq_false, not_false_eq_true]; rfl)
    · refine e_if_ne_f (by decide) 49 dX4_right_39 (by decide) ?_
      refine e_aload_n dX4_right_42 0 rfl rfl rfl ?_
      refine e_bipush 8 dX4_right_43 rfl ?_
      refine e_callV1 (As := [.int 8]) (rest := []) dX4_right_45 rfl mvX4_252 (tw_o hp) rfl (t_refuse hp 8) (Nat.le_of_ble_eq_true rfl) rfl rfl (Nat.le_of_ble_eq_true rfl) (Nat.zero_le _) (Nat.zero_le _) ?_
      refine e_ireturn dX4_right_48 rfl rfl (Nat.zero_le _) (Nat.zero_le _) ?_
      refine TQi.of ?_
      first | (simp only [sp_right, ← le_pred (show q < 2147483648 by omega), eq, h14, h36, or_true, true_or, or_self, or_false, false_or, and_true, true_and, and_false, false_and, if_true, if_false, not_true_eq_false, not_false_eq_true]; done) | (simp only [sp_right, ← le_pred (show q < 2147483648 by omega), eq, h14, h36, or_true, true_or, or_self, or_false, false_or, and_true, true_and, and_false, false_and, if_true, if_false, not_true_eq_false, not_false_eq_true]; rfl)
  · refine e_if_ne_f (by decide) 26 dX4_right_17 (by decide) ?_
    refine e_aload_n dX4_right_20 0 rfl rfl rfl ?_
    refine e_iconst 5 dX4_right_21 rfl ?_
    refine e_callV1 (As := [.int 5]) (rest := []) dX4_right_22 rfl mvX4_252 (tw_o hp) rfl (t_refuse hp 5) (Nat.le_of_ble_eq_true rfl) rfl rfl (Nat.le_of_ble_eq_true rfl) (Nat.zero_le _) (Nat.zero_le _) ?_
    refine e_ireturn dX4_right_25 rfl rfl (Nat.zero_le _) (Nat.zero_le _) ?_
    refine TQi.of ?_
    first | (simp only [sp_right, ← le_pred (show q < 2147483648 by omega), eq, h14, or_true, true_or, or_self, or_false, false_or, and_true, true_and, and_false, false_and, if_true, if_false, not_true_eq_false, not_false_eq_true]; done) | (simp only [sp_right, ← le_pred (show q < 2147483648 by omega), eq, h14, or_true, true_or, or_self, or_false, false_or, and_true, true_and, and_false, false_and, if_true, if_false, not_true_eq_false, not_false_eq_true]; rfl)

set_option maxHeartbeats 4000000 in
set_option maxRecDepth 100000 in
/-- WheelTablesModel.lay -/
theorem t_layM {pre post : List ACell} {τ : Tw} (hp : pre.length = 56) {t : Nat} (ht : t + 4 ≤ 500) (et : τ.1 29 = nI t) (v : Int32) : Ct yX4_lay (ws_ yX4_lay cX4_lay 3 none) 0 0 0 [.ref 56, .int v] (TW pre τ post) (Q1 none (TW pre (tI (tA τ 28 (layN (τ.2.2.1 28) t v)) 29 (nI (t + 4))) post)) noX := by
  refine Ct.of (ini := false) (ls := [some (.ref 56), some (.int v), none]) (by decide) (Nat.le_of_ble_eq_true rfl) (fun h => by cases h) rfl ?_
  refine e_iconst 3 dX4_lay_0 rfl ?_
  refine e_istore_n dX4_lay_1 2 rfl (ls_s (ls_1 rfl)) (Nat.le_of_ble_eq_true rfl) ?_
  refine e_iload_n dX4_lay_2 2 rfl rfl ?_
  refine e_if_lt_f (by decide) 38 dX4_lay_3 (by decide) ?_
  refine e_aload_n dX4_lay_6 0 rfl rfl rfl ?_
  refine e_getf (v := .ref 74) dX4_lay_7 rfl fX4_70 (tw_o hp) rfl ?_
  refine e_aload_n dX4_lay_10 0 rfl rfl rfl ?_
  refine e_getf (v := .int (τ.1 29)) dX4_lay_11 rfl fX4_442 (tw_o hp) rfl ?_
  refine e_top (congrArg Value.int et) ?_
  refine e_iload_n dX4_lay_14 1 rfl rfl ?_
  refine e_bipush 8 dX4_lay_15 rfl ?_
  refine e_iload_n dX4_lay_17 2 rfl rfl ?_
  refine e_imul dX4_lay_18 ?_
  refine e_top (w := .int 24) (by decide) ?_
  refine e_ishr dX4_lay_19 ?_
  refine e_i2b dX4_lay_20 ?_
  refine e_bast (f := τ.2.2.1 28) (j := t) dX4_lay_21 (tw_a28 hp) rfl (by omega) (by decide) ?_
  rw [tw_s28 hp]
  refine e_aload_n dX4_lay_22 0 rfl rfl rfl ?_
  refine e_dup dX4_lay_23 rfl ?_
  refine e_getf (v := .int (τ.1 29)) dX4_lay_24 rfl fX4_442 (tw_o hp) rfl ?_
  refine e_top (congrArg Value.int et) ?_
  refine e_iconst 1 dX4_lay_27 rfl ?_
  refine e_iaddN t 1 dX4_lay_28 ?_
  refine e_tputI dX4_lay_29 rfl pX4_442 rfl hp (Nat.le_of_ble_eq_true rfl) (tw_f29 _) ?_
  refine e_iinc 2 dX4_lay_32 rfl (by decide) (ls_s (ls_1 rfl)) (Nat.le_of_ble_eq_true rfl) ?_
  refine e_goto 2 dX4_lay_35 (by decide) ?_
  refine e_iload_n dX4_lay_2 2 rfl rfl ?_
  refine e_if_lt_f (by decide) 38 dX4_lay_3 (by decide) ?_
  refine e_aload_n dX4_lay_6 0 rfl rfl rfl ?_
  refine e_getf (v := .ref 74) dX4_lay_7 rfl fX4_70 (tw_o hp) rfl ?_
  refine e_aload_n dX4_lay_10 0 rfl rfl rfl ?_
  refine e_getf (v := .int (nI (t + 1))) dX4_lay_11 rfl fX4_442 (tw_o hp) rfl ?_
  refine e_iload_n dX4_lay_14 1 rfl rfl ?_
  refine e_bipush 8 dX4_lay_15 rfl ?_
  refine e_iload_n dX4_lay_17 2 rfl rfl ?_
  refine e_imul dX4_lay_18 ?_
  refine e_top (w := .int 16) (by decide) ?_
  refine e_ishr dX4_lay_19 ?_
  refine e_i2b dX4_lay_20 ?_
  refine e_bast (f := (upd (τ.2.2.1 28) t (vp_nar .byte ((v >>> (24 &&& 31)).toInt8.toInt32)))) (j := t + 1) dX4_lay_21 (tw_a28 hp) rfl (by omega) (by decide) ?_
  rw [tw_s28 hp]
  refine e_aload_n dX4_lay_22 0 rfl rfl rfl ?_
  refine e_dup dX4_lay_23 rfl ?_
  refine e_getf (v := .int (nI (t + 1))) dX4_lay_24 rfl fX4_442 (tw_o hp) rfl ?_
  refine e_iconst 1 dX4_lay_27 rfl ?_
  refine e_iaddN (t + 1) 1 dX4_lay_28 ?_
  refine e_tputI dX4_lay_29 rfl pX4_442 rfl hp (Nat.le_of_ble_eq_true rfl) (tw_f29 _) ?_
  refine e_iinc 1 dX4_lay_32 rfl (by decide) (ls_s (ls_1 rfl)) (Nat.le_of_ble_eq_true rfl) ?_
  refine e_goto 2 dX4_lay_35 (by decide) ?_
  refine e_iload_n dX4_lay_2 2 rfl rfl ?_
  refine e_if_lt_f (by decide) 38 dX4_lay_3 (by decide) ?_
  refine e_aload_n dX4_lay_6 0 rfl rfl rfl ?_
  refine e_getf (v := .ref 74) dX4_lay_7 rfl fX4_70 (tw_o hp) rfl ?_
  refine e_aload_n dX4_lay_10 0 rfl rfl rfl ?_
  refine e_getf (v := .int (nI ((t + 1) + 1))) dX4_lay_11 rfl fX4_442 (tw_o hp) rfl ?_
  refine e_iload_n dX4_lay_14 1 rfl rfl ?_
  refine e_bipush 8 dX4_lay_15 rfl ?_
  refine e_iload_n dX4_lay_17 2 rfl rfl ?_
  refine e_imul dX4_lay_18 ?_
  refine e_top (w := .int 8) (by decide) ?_
  refine e_ishr dX4_lay_19 ?_
  refine e_i2b dX4_lay_20 ?_
  refine e_bast (f := (upd (upd (τ.2.2.1 28) t (vp_nar .byte ((v >>> (24 &&& 31)).toInt8.toInt32))) (t + 1) (vp_nar .byte ((v >>> (16 &&& 31)).toInt8.toInt32)))) (j := (t + 1) + 1) dX4_lay_21 (tw_a28 hp) rfl (by omega) (by decide) ?_
  rw [tw_s28 hp]
  refine e_aload_n dX4_lay_22 0 rfl rfl rfl ?_
  refine e_dup dX4_lay_23 rfl ?_
  refine e_getf (v := .int (nI ((t + 1) + 1))) dX4_lay_24 rfl fX4_442 (tw_o hp) rfl ?_
  refine e_iconst 1 dX4_lay_27 rfl ?_
  refine e_iaddN ((t + 1) + 1) 1 dX4_lay_28 ?_
  refine e_tputI dX4_lay_29 rfl pX4_442 rfl hp (Nat.le_of_ble_eq_true rfl) (tw_f29 _) ?_
  refine e_iinc 0 dX4_lay_32 rfl (by decide) (ls_s (ls_1 rfl)) (Nat.le_of_ble_eq_true rfl) ?_
  refine e_goto 2 dX4_lay_35 (by decide) ?_
  refine e_iload_n dX4_lay_2 2 rfl rfl ?_
  refine e_if_lt_f (by decide) 38 dX4_lay_3 (by decide) ?_
  refine e_aload_n dX4_lay_6 0 rfl rfl rfl ?_
  refine e_getf (v := .ref 74) dX4_lay_7 rfl fX4_70 (tw_o hp) rfl ?_
  refine e_aload_n dX4_lay_10 0 rfl rfl rfl ?_
  refine e_getf (v := .int (nI (((t + 1) + 1) + 1))) dX4_lay_11 rfl fX4_442 (tw_o hp) rfl ?_
  refine e_iload_n dX4_lay_14 1 rfl rfl ?_
  refine e_bipush 8 dX4_lay_15 rfl ?_
  refine e_iload_n dX4_lay_17 2 rfl rfl ?_
  refine e_imul dX4_lay_18 ?_
  refine e_top (w := .int 0) (by decide) ?_
  refine e_ishr dX4_lay_19 ?_
  refine e_i2b dX4_lay_20 ?_
  refine e_bast (f := (upd (upd (upd (τ.2.2.1 28) t (vp_nar .byte ((v >>> (24 &&& 31)).toInt8.toInt32))) (t + 1) (vp_nar .byte ((v >>> (16 &&& 31)).toInt8.toInt32))) ((t + 1) + 1) (vp_nar .byte ((v >>> (8 &&& 31)).toInt8.toInt32)))) (j := ((t + 1) + 1) + 1) dX4_lay_21 (tw_a28 hp) rfl (by omega) (by decide) ?_
  rw [tw_s28 hp]
  refine e_aload_n dX4_lay_22 0 rfl rfl rfl ?_
  refine e_dup dX4_lay_23 rfl ?_
  refine e_getf (v := .int (nI (((t + 1) + 1) + 1))) dX4_lay_24 rfl fX4_442 (tw_o hp) rfl ?_
  refine e_iconst 1 dX4_lay_27 rfl ?_
  refine e_iaddN (((t + 1) + 1) + 1) 1 dX4_lay_28 ?_
  refine e_tputI dX4_lay_29 rfl pX4_442 rfl hp (Nat.le_of_ble_eq_true rfl) (tw_f29 _) ?_
  refine e_iinc (-1) dX4_lay_32 rfl (by decide) (ls_s (ls_1 rfl)) (Nat.le_of_ble_eq_true rfl) ?_
  refine e_goto 2 dX4_lay_35 (by decide) ?_
  refine e_iload_n dX4_lay_2 2 rfl rfl ?_
  refine e_if_lt_t 38 (by decide) dX4_lay_3 (by decide) ?_
  refine e_return dX4_lay_38 rfl (Nat.zero_le _) (Nat.zero_le _) ?_
  refine ⟨rfl, ?_⟩
  congr 1
  exact (lay_eq τ t v).symm

theorem feed_eq (τ : Tw) (t : Nat) (a b c d e : Int32) : tI (tA (b1 τ) 28 (layN (layN (layN (layN (layN (τ.2.2.1 28) t a) (t + 4) b) (t + 8) c) (t + 12) d) (t + 16) e)) 29 (nI (t + 20)) =
    tI (tA (tI (tA (tI (tA (tI (tA (tI (tA (tI τ 1 0) 28 (layN (τ.2.2.1 28) t a)) 29 (nI (t + 4))) 28 (layN (layN (τ.2.2.1 28) t a) (t + 4) b)) 29 (nI (t + 4 + 4))) 28 (layN (layN (layN (τ.2.2.1 28) t a) (t + 4) b) (t + 4 + 4) c)) 29 (nI (t + 4 + 4 + 4))) 28 (layN (layN (layN (layN (τ.2.2.1 28) t a) (t + 4) b) (t + 4 + 4) c) (t + 4 + 4 + 4) d)) 29 (nI (t + 4 + 4 + 4 + 4))) 28 (layN (layN (layN (layN (layN (τ.2.2.1 28) t a) (t + 4) b) (t + 4 + 4) c) (t + 4 + 4 + 4) d) (t + 4 + 4 + 4 + 4) e)) 29 (nI (t + 4 + 4 + 4 + 4 + 4)) := by
  have h : ∀ (f : Nat → Int32) (a b : Int32), upd (upd f 29 a) 29 b = upd f 29 b := fun f a b => by funext j; unfold upd; split <;> rfl
  have g : ∀ (f : Nat → Nat → Int32) (a b : Nat → Int32), va_up (va_up f 28 a) 28 b = va_up f 28 b := fun f a b => by funext j; unfold va_up; split <;> rfl
  simp only [tI, tA, b1, h, g]
set_option maxHeartbeats 4000000 in
set_option maxRecDepth 100000 in
/-- WheelTablesModel.feed -/
theorem t_feed {pre post : List ACell} {τ : Tw} (hp : pre.length = 56) (hI : InvF τ) (a b c d e : Int32) : Ct yX4_feed (ws_ yX4_feed cX4_feed 6 (some .int)) 1 0 0 [.ref 56, .int a, .int b, .int c, .int d, .int e] (TW pre τ post) (TQi pre post (sp_feed a b c d e τ)) noX := by
  obtain ⟨t, ht, et⟩ := id hI
  refine Ct.of (ini := false) (ls := [some (.ref 56), some (.int a), some (.int b), some (.int c), some (.int d), some (.int e)]) (by decide) (Nat.le_of_ble_eq_true rfl) (fun h => by cases h) rfl ?_
  refine e_aload_n dX4_feed_0 0 rfl rfl rfl ?_
  refine e_iconst 0 dX4_feed_1 rfl ?_
  refine e_tputI dX4_feed_2 rfl pX4_212 rfl hp (Nat.le_of_ble_eq_true rfl) (tw_f1 _) ?_
  refine e_aload_n dX4_feed_5 0 rfl rfl rfl ?_
  refine e_getf (v := .int (τ.1 29)) dX4_feed_6 rfl fX4_442 (tw_o hp) rfl ?_
  refine e_top (congrArg Value.int et) ?_
  refine e_bipush 20 dX4_feed_9 rfl ?_
  refine e_iaddN t 20 dX4_feed_11 ?_
  refine e_sipush 500 dX4_feed_12 rfl ?_
  refine e_icmp_leN (t + 20) 500 20 (by omega) (by omega) dX4_feed_15 (by decide) (fun h15 => ?_) (fun h15 => ?_)
  · refine e_aload_n dX4_feed_20 0 rfl rfl rfl ?_
    refine e_iload_n dX4_feed_21 1 rfl rfl ?_
    refine e_callV0 (As := [.int a]) (rest := []) dX4_feed_22 rfl mvX4_445 (tw_o hp) rfl (t_layM hp (t := t) (by omega) (by exact et) a) (Nat.le_of_ble_eq_true rfl) rfl rfl (Nat.le_of_ble_eq_true rfl) (Nat.zero_le _) (Nat.zero_le _) ?_
    refine e_aload_n dX4_feed_25 0 rfl rfl rfl ?_
    refine e_iload_n dX4_feed_26 2 rfl rfl ?_
    refine e_callV0 (As := [.int b]) (rest := []) dX4_feed_27 rfl mvX4_445 (tw_o hp) rfl (t_layM hp (t := t + 4) (by omega) (rfl) b) (Nat.le_of_ble_eq_true rfl) rfl rfl (Nat.le_of_ble_eq_true rfl) (Nat.zero_le _) (Nat.zero_le _) ?_
    refine e_aload_n dX4_feed_30 0 rfl rfl rfl ?_
    refine e_iload_n dX4_feed_31 3 rfl rfl ?_
    refine e_callV0 (As := [.int c]) (rest := []) dX4_feed_32 rfl mvX4_445 (tw_o hp) rfl (t_layM hp (t := t + 4 + 4) (by omega) (rfl) c) (Nat.le_of_ble_eq_true rfl) rfl rfl (Nat.le_of_ble_eq_true rfl) (Nat.zero_le _) (Nat.zero_le _) ?_
    refine e_aload_n dX4_feed_35 0 rfl rfl rfl ?_
    refine e_iload dX4_feed_36 rfl ?_
    refine e_callV0 (As := [.int d]) (rest := []) dX4_feed_38 rfl mvX4_445 (tw_o hp) rfl (t_layM hp (t := t + 4 + 4 + 4) (by omega) (rfl) d) (Nat.le_of_ble_eq_true rfl) rfl rfl (Nat.le_of_ble_eq_true rfl) (Nat.zero_le _) (Nat.zero_le _) ?_
    refine e_aload_n dX4_feed_41 0 rfl rfl rfl ?_
    refine e_iload dX4_feed_42 rfl ?_
    refine e_callV0 (As := [.int e]) (rest := []) dX4_feed_44 rfl mvX4_445 (tw_o hp) rfl (t_layM hp (t := t + 4 + 4 + 4 + 4) (by omega) (rfl) e) (Nat.le_of_ble_eq_true rfl) rfl rfl (Nat.le_of_ble_eq_true rfl) (Nat.zero_le _) (Nat.zero_le _) ?_
    refine e_aload_n dX4_feed_47 0 rfl rfl rfl ?_
    refine e_getf (v := .int (nI (t + 4 + 4 + 4 + 4 + 4))) dX4_feed_48 rfl fX4_442 (tw_o hp) rfl ?_
    refine e_ireturn dX4_feed_51 rfl rfl (Nat.zero_le _) (Nat.zero_le _) ?_
    refine TQi.of ?_
    rw [sp_feed, if_neg (by rw [et, show (20 : Int32) = nI 20 from rfl, nI_add]; exact fun z => absurd ((nI_ltN (a := 500) (b := t + 20) (by omega) (by omega)).mp z) (by omega)), et, show (20 : Int32) = nI 20 from rfl, nI_add, ix_nI (show t < 2147483648 by omega)]
    exact congrArg (Prod.mk _) (feed_eq τ t a b c d e)
  · refine e_iconst (-1) dX4_feed_18 rfl ?_
    refine e_ireturn dX4_feed_19 rfl rfl (Nat.zero_le _) (Nat.zero_le _) ?_
    refine TQi.of ?_
    rw [sp_feed, if_pos (by rw [et, show (20 : Int32) = nI 20 from rfl, nI_add]; exact (nI_ltN (a := 500) (b := t + 20) (by omega) (by omega)).mpr (by omega))]
    rfl

