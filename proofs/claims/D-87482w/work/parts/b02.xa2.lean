/-! ===== the component: answers, plates, jobs ===== -/
set_option maxHeartbeats 4000000 in
set_option maxRecDepth 100000 in
/-- WheelTables.because -/
theorem x_because {ξ : Xs} {mid dyn : List ACell} {τ : Tw} {own : Nat → Nat} (hm : mid.length = 61) (hRel : Rel own ξ dyn τ) (w : Int32) : Ct yX0_because (ws_ yX0_because cX0_because 2 (some .int)) 1 0 0 [.ref 0, .int w] (XM ξ mid dyn) (XQi mid (sp_because w τ)) noX := by
  obtain ⟨hI, hA, hB, hW, hP, hR, hT, hE, hC, hV⟩ := id hRel
  refine Ct.of (ini := false) (ls := [some (.ref 0), some (.int w)]) (by decide) (Nat.le_of_ble_eq_true rfl) (fun h => by cases h) rfl ?_
  refine e_iload_n dX0_because_0 1 rfl rfl ?_
  refine e_if_lt 9 dX0_because_1 (by decide) (fun h1 => ?_) (fun h1 => ?_)
  · refine e_aload_n dX0_because_9 0 rfl rfl rfl ?_
    refine e_iconst 5 dX0_because_10 rfl ?_
    refine e_callV1 (As := [.int 5]) (rest := []) dX0_because_11 rfl mvX0_169 (xm_o0) rfl (x_none 5) (Nat.le_of_ble_eq_true rfl) rfl rfl (Nat.le_of_ble_eq_true rfl) (Nat.zero_le _) (Nat.zero_le _) ?_
    refine e_ireturn dX0_because_14 rfl rfl (Nat.zero_le _) (Nat.zero_le _) ?_
    have eS : sp_because w τ = (-1, bE τ 5) := by rw [sp_because, if_pos (fun z => i32_lt h1 z.1)]
    refine ⟨_, _, own, rfl, ?_, ?_⟩
    · rw [eS]
    · rw [eS]; exact hRel.stE 5
  · refine e_iload_n dX0_because_4 1 rfl rfl ?_
    refine e_iconst 3 dX0_because_5 rfl ?_
    refine e_icmp_le 15 dX0_because_6 (by decide) (fun h6 => ?_) (fun h6 => ?_)
    · refine e_aload_n dX0_because_15 0 rfl rfl rfl ?_
      refine e_getf (v := (.int (ξ.1 13))) dX0_because_16 rfl fX0_284 (xm_o0) rfl ?_
      refine e_if_eq 35 dX0_because_19 (by decide) (fun h19 => ?_) (fun h19 => ?_)
      · refine e_aload_n dX0_because_35 0 rfl rfl rfl ?_
        refine e_bipush 8 dX0_because_36 rfl ?_
        refine e_callV1 (As := [.int 8]) (rest := []) dX0_because_38 rfl mvX0_169 (xm_o0) rfl (x_none 8) (Nat.le_of_ble_eq_true rfl) rfl rfl (Nat.le_of_ble_eq_true rfl) (Nat.zero_le _) (Nat.zero_le _) ?_
        refine e_ireturn dX0_because_41 rfl rfl (Nat.zero_le _) (Nat.zero_le _) ?_
        have g22 : τ.1 22 < 0 := hW.1.elim (fun z => z.2) (fun z => absurd (z.1.symm.trans h19) (by decide))
        have eS : sp_because w τ = (-1, bE τ 8) := by rw [sp_because, if_neg (fun z => z ⟨i32_nlt h1, h6⟩), if_pos g22]
        refine ⟨_, _, own, rfl, ?_, ?_⟩
        · rw [eS]
        · rw [eS]; exact hRel.stE 8
      · refine e_aload_n dX0_because_22 0 rfl rfl rfl ?_
        refine e_aload_n dX0_because_23 0 rfl rfl rfl ?_
        refine e_getf (v := (.ref 9)) dX0_because_24 rfl fX0_60 (xm_o0) rfl ?_
        refine e_iload_n dX0_because_27 1 rfl rfl ?_
        obtain ⟨n_w, hn_w, rfl⟩ := in_le (x := w) 3 (by decide) h1 h6
        refine e_iald (f := ξ.2.2.1 12) (j := n_w) dX0_because_28 (xm_a12) rfl (by omega) (by decide) ?_
        refine e_callV1 (As := [.int (ξ.2.2.1 12 n_w)]) (rest := []) dX0_because_29 rfl mvX0_215 (xm_o0) rfl (x_gives (ξ.2.2.1 12 n_w)) (Nat.le_of_ble_eq_true rfl) rfl rfl (Nat.le_of_ble_eq_true rfl) (Nat.zero_le _) (Nat.zero_le _) ?_
        refine e_goto 41 dX0_because_32 (by decide) ?_
        refine e_ireturn dX0_because_41 rfl rfl (Nat.zero_le _) (Nat.zero_le _) ?_
        obtain ⟨-, g22, w0, w1, w2, w3⟩ : ξ.1 13 = 1 ∧ ¬ τ.1 22 < 0 ∧ ξ.2.2.1 12 0 = τ.1 22 ∧ ξ.2.2.1 12 1 = τ.1 23 ∧ ξ.2.2.1 12 2 = τ.1 24 ∧ ξ.2.2.1 12 3 = τ.1 25 := hW.1.elim (fun z => absurd z.1 h19) id
        have eS : sp_because (nI n_w) τ = (ξ.2.2.1 12 n_w, b0 τ) := by
          rw [sp_because, if_neg (fun z => z ⟨i32_nlt h1, h6⟩), if_neg g22]
          rcases (show n_w = 0 ∨ n_w = 1 ∨ n_w = 2 ∨ n_w = 3 by omega) with rfl | rfl | rfl | rfl
          · rw [if_pos (by decide), w0]
          · rw [if_neg (by decide), if_pos (by decide), w1]
          · rw [if_neg (by decide), if_neg (by decide), if_pos (by decide), w2]
          · rw [if_neg (by decide), if_neg (by decide), if_neg (by decide), w3]
        refine ⟨_, _, own, rfl, ?_, ?_⟩
        · rw [eS]
        · rw [eS]; exact hRel.st0
    · refine e_aload_n dX0_because_9 0 rfl rfl rfl ?_
      refine e_iconst 5 dX0_because_10 rfl ?_
      refine e_callV1 (As := [.int 5]) (rest := []) dX0_because_11 rfl mvX0_169 (xm_o0) rfl (x_none 5) (Nat.le_of_ble_eq_true rfl) rfl rfl (Nat.le_of_ble_eq_true rfl) (Nat.zero_le _) (Nat.zero_le _) ?_
      refine e_ireturn dX0_because_14 rfl rfl (Nat.zero_le _) (Nat.zero_le _) ?_
      have eS : sp_because w τ = (-1, bE τ 5) := by rw [sp_because, if_pos (fun z => h6 z.2)]
      refine ⟨_, _, own, rfl, ?_, ?_⟩
      · rw [eS]
      · rw [eS]; exact hRel.stE 5

set_option maxHeartbeats 4000000 in
set_option maxRecDepth 100000 in
/-- WheelTables.cast -/
theorem x_cast {ξ : Xs} {mid dyn : List ACell} {τ : Tw} {own : Nat → Nat} (hm : mid.length = 61) (hRel : Rel own ξ dyn τ) (d r v : Int32) : Ct yX0_cast (ws_ yX0_cast cX0_cast 4 (some .boolean)) 1 0 0 [.ref 0, .int d, .int r, .int v] (XM ξ mid dyn) (XQi mid (sp_cast d r v τ)) noX := by
  obtain ⟨hI, hA, hB, hW, hP, hR, hT, hE, hC, hV⟩ := id hRel
  obtain ⟨C, P, T, K, F, ⟨hC1, eC, hP1, eP, hT1, eT, eK, hF0, hFP, hF, hcc⟩, hL⟩ := id hP
  have hbig := InvP.big hF0 (fun p hp => ⟨(hF p hp).1, (hF p hp).2.1⟩)
  refine Ct.of (ini := false) (ls := [some (.ref 0), some (.int d), some (.int r), some (.int v)]) (by decide) (Nat.le_of_ble_eq_true rfl) (fun h => by cases h) rfl ?_
  refine e_iload_n dX0_cast_0 2 rfl rfl ?_
  refine e_callSB (As := [.int r]) (rest := []) dX0_cast_1 rfl msX0_451 (x_isRow r) (Nat.le_of_ble_eq_true rfl) rfl rfl (Nat.le_of_ble_eq_true rfl) (Nat.zero_le _) (Nat.zero_le _) (fun h1 => ?_) (fun h1 => ?_)
  · have h1 : (0 ≤ r ∧ r ≤ 39) := h1
    refine e_if_ne_t 13 (by decide) dX0_cast_4 (by decide) ?_
    refine e_iload_n dX0_cast_13 1 rfl rfl ?_
    refine e_callSB (As := [.int d]) (rest := []) dX0_cast_14 rfl msX0_454 (x_isDay d) (Nat.le_of_ble_eq_true rfl) rfl rfl (Nat.le_of_ble_eq_true rfl) (Nat.zero_le _) (Nat.zero_le _) (fun h14 => ?_) (fun h14 => ?_)
    · have h14 : (0 ≤ d ∧ d ≤ 9999) := h14
      refine e_if_eq_f (by decide) 27 dX0_cast_17 (by decide) ?_
      refine e_iload_n dX0_cast_20 3 rfl rfl ?_
      refine e_callSB (As := [.int v]) (rest := []) dX0_cast_21 rfl msX0_457 (x_isNumber v) (Nat.le_of_ble_eq_true rfl) rfl rfl (Nat.le_of_ble_eq_true rfl) (Nat.zero_le _) (Nat.zero_le _) (fun h21 => ?_) (fun h21 => ?_)
      · have h21 : (-1000000000 ≤ v ∧ v ≤ 1000000000) := h21
        refine e_if_ne_t 33 (by decide) dX0_cast_24 (by decide) ?_
        refine e_aload_n dX0_cast_33 0 rfl rfl rfl ?_
        refine e_getf (v := (.int (ξ.1 45))) dX0_cast_34 rfl fX0_460 (xm_o0) rfl ?_
        refine e_top (congrArg Value.int (hI.at 45 78 (by decide))) ?_
        refine e_top (congrArg Value.int eC) ?_
        refine e_bipush 100 dX0_cast_37 rfl ?_
        refine e_icmp_neN C 100 49 (by omega) (by omega) dX0_cast_39 (by decide) (fun h39 => ?_) (fun h39 => ?_)
        · refine e_iload_n dX0_cast_49 1 rfl rfl ?_
          refine e_aload_n dX0_cast_50 0 rfl rfl rfl ?_
          refine e_getf (v := (.int (ξ.1 48))) dX0_cast_51 rfl fX0_463 (xm_o0) rfl ?_
          refine e_top (congrArg Value.int (hI.at 48 77 (by decide))) ?_
          refine e_icmp_ge 64 dX0_cast_54 (by decide) (fun h54 => ?_) (fun h54 => ?_)
          · refine e_aload_n dX0_cast_64 0 rfl rfl rfl ?_
            refine e_iload_n dX0_cast_65 1 rfl rfl ?_
            refine e_xputI dX0_cast_66 rfl pX0_463 rfl (xm_o0) (Nat.le_of_ble_eq_true rfl) (xm_f48 _) ?_
            refine e_aload_n dX0_cast_69 0 rfl rfl rfl ?_
            refine e_getf (v := (.ref 39)) dX0_cast_70 rfl fX0_105 (xm_o0) rfl ?_
            refine e_aload_n dX0_cast_73 0 rfl rfl rfl ?_
            refine e_getf (v := (.int (ξ.1 45))) dX0_cast_74 rfl fX0_460 (xm_o0) rfl ?_
            refine e_top (congrArg Value.int (hI.at 45 78 (by decide))) ?_
            refine e_top (congrArg Value.int eC) ?_
            refine e_iload_n dX0_cast_77 2 rfl rfl ?_
            refine e_iast (f := ξ.2.2.1 38) (j := C) dX0_cast_78 (xm_a38) rfl (by omega) (by decide) ?_
            rw [xm_s38]
            refine e_aload_n dX0_cast_79 0 rfl rfl rfl ?_
            refine e_getf (v := (.ref 40)) dX0_cast_80 rfl fX0_108 (xm_o0) rfl ?_
            refine e_aload_n dX0_cast_83 0 rfl rfl rfl ?_
            refine e_getf (v := (.int (ξ.1 45))) dX0_cast_84 rfl fX0_460 (xm_o0) rfl ?_
            refine e_top (congrArg Value.int (hI.at 45 78 (by decide))) ?_
            refine e_top (congrArg Value.int eC) ?_
            refine e_iload_n dX0_cast_87 3 rfl rfl ?_
            refine e_iast (f := ξ.2.2.1 39) (j := C) dX0_cast_88 (xm_a39) rfl (by omega) (by decide) ?_
            rw [xm_s39]
            refine e_aload_n dX0_cast_89 0 rfl rfl rfl ?_
            refine e_dup dX0_cast_90 rfl ?_
            refine e_getf (v := (.int (ξ.1 45))) dX0_cast_91 rfl fX0_460 (xm_o0) rfl ?_
            refine e_top (congrArg Value.int (hI.at 45 78 (by decide))) ?_
            refine e_top (congrArg Value.int eC) ?_
            refine e_iconst 1 dX0_cast_94 rfl ?_
            refine e_iaddN C 1 dX0_cast_95 ?_
            refine e_xputI dX0_cast_96 rfl pX0_460 rfl (xm_o0) (Nat.le_of_ble_eq_true rfl) (xm_f45 _) ?_
            refine e_aload_n dX0_cast_99 0 rfl rfl rfl ?_
            refine e_iconst 0 dX0_cast_100 rfl ?_
            refine e_callV1 (As := [.int 0]) (rest := []) dX0_cast_101 rfl mvX0_152 (xm_o0) rfl (x_is0) (Nat.le_of_ble_eq_true rfl) rfl rfl (Nat.le_of_ble_eq_true rfl) (Nat.zero_le _) (Nat.zero_le _) ?_
            refine e_ireturn dX0_cast_104 rfl rfl (Nat.zero_le _) (Nat.zero_le _) ?_
            have hP2 : ∀ (ξ1 : Xs) (τ1 : Tw), ξ1.2.2.1 41 = ξ.2.2.1 41 → τ1.1 78 = nI (C + 1) → τ1.1 79 = τ.1 79 → τ1.1 81 = τ.1 81 → τ1.1 80 = τ.1 80 → τ1.2.2.1 85 = τ.2.2.1 85 → τ1.2.2.1 86 = τ.2.2.1 86 → RP ξ1 τ1 := fun ξ1 τ1 h1 h2 h3 h4 h5 h6 h7 => ⟨C + 1, P, T, K, F, ⟨by omega, h2, hP1, h3.trans eP, hT1, h4.trans eT, h5.trans eK, hF0, hFP, fun p hp => ⟨(hF p hp).1, (hF p hp).2.1, by rw [h6]; exact (hF p hp).2.2⟩, fun p hp => by rw [h7]; obtain ⟨c, hc, ec⟩ := hcc p hp; exact ⟨c, by omega, ec⟩⟩, fun p hp => by rw [h1]; exact hL p hp⟩
            have eS : sp_cast d r v τ = (1, tI (tI (tA (tA (b0 τ) 83 (upd (τ.2.2.1 83) C r)) 84 (upd (τ.2.2.1 84) C v)) 78 (nI (C + 1))) 77 d) := by rw [sp_cast, if_neg (fun z => z h1), if_neg (fun z => z ⟨h14, h21⟩), if_neg (show ¬ τ.1 78 = 100 from fun z => h39 ((nI_eqN (b := 100) (by omega) (by omega)).mp (eC.symm.trans z))), if_neg (i32_le h54), eC, ix_nI (by omega), show nI C + 1 = nI (C + 1) from nI_add C 1]
            refine ⟨_, _, own, rfl, ?_, ?_⟩
            · rw [eS]
            · rw [eS]; exact ⟨(by
              intro q hq
              simp only [rlI, List.mem_cons, List.not_mem_nil, or_false] at hq
              rcases hq with rfl | rfl | rfl | rfl | rfl | rfl | rfl | rfl | rfl | rfl | rfl | rfl | rfl | rfl | rfl | rfl | rfl
              · first | exact hI (8, 0) (by decide) | rfl
              · first | exact hI (6, 5) (by decide) | rfl
              · first | exact hI (7, 41) (by decide) | rfl
              · first | exact hI (9, 31) (by decide) | rfl
              · first | exact hI (10, 32) (by decide) | rfl
              · first | exact hI (101, 29) (by decide) | rfl
              · first | exact hI (25, 60) (by decide) | rfl
              · first | exact hI (26, 61) (by decide) | rfl
              · first | exact hI (20, 62) (by decide) | rfl
              · first | exact hI (21, 63) (by decide) | rfl
              · first | exact hI (22, 64) (by decide) | rfl
              · first | exact hI (24, 66) (by decide) | rfl
              · first | exact hI (45, 78) (by decide) | rfl
              · first | exact hI (46, 79) (by decide) | rfl
              · first | exact hI (47, 81) (by decide) | rfl
              · first | exact hI (48, 77) (by decide) | rfl
              · first | exact hI (55, 82) (by decide) | rfl), (by
              intro q hq
              simp only [rlA, List.mem_cons, List.not_mem_nil, or_false] at hq
              rcases hq with rfl | rfl | rfl | rfl | rfl | rfl | rfl | rfl | rfl | rfl
              · first | exact hA (100, 28) (by decide) | rfl | exact congrArg (fun z => upd z _ _) (hA (100, 28) (by decide)) | exact congrArg (fun z => upd (upd z _ _) _ _) (hA (100, 28) (by decide))
              · first | exact hA (38, 83) (by decide) | rfl | exact congrArg (fun z => upd z _ _) (hA (38, 83) (by decide)) | exact congrArg (fun z => upd (upd z _ _) _ _) (hA (38, 83) (by decide))
              · first | exact hA (39, 84) (by decide) | rfl | exact congrArg (fun z => upd z _ _) (hA (39, 84) (by decide)) | exact congrArg (fun z => upd (upd z _ _) _ _) (hA (39, 84) (by decide))
              · first | exact hA (40, 86) (by decide) | rfl | exact congrArg (fun z => upd z _ _) (hA (40, 86) (by decide)) | exact congrArg (fun z => upd (upd z _ _) _ _) (hA (40, 86) (by decide))
              · first | exact hA (42, 87) (by decide) | rfl | exact congrArg (fun z => upd z _ _) (hA (42, 87) (by decide)) | exact congrArg (fun z => upd (upd z _ _) _ _) (hA (42, 87) (by decide))
              · first | exact hA (43, 88) (by decide) | rfl | exact congrArg (fun z => upd z _ _) (hA (43, 88) (by decide)) | exact congrArg (fun z => upd (upd z _ _) _ _) (hA (43, 88) (by decide))
              · first | exact hA (44, 89) (by decide) | rfl | exact congrArg (fun z => upd z _ _) (hA (44, 89) (by decide)) | exact congrArg (fun z => upd (upd z _ _) _ _) (hA (44, 89) (by decide))
              · first | exact hA (49, 90) (by decide) | rfl | exact congrArg (fun z => upd z _ _) (hA (49, 90) (by decide)) | exact congrArg (fun z => upd (upd z _ _) _ _) (hA (49, 90) (by decide))
              · first | exact hA (50, 91) (by decide) | rfl | exact congrArg (fun z => upd z _ _) (hA (50, 91) (by decide)) | exact congrArg (fun z => upd (upd z _ _) _ _) (hA (50, 91) (by decide))
              · first | exact hA (51, 92) (by decide) | rfl | exact congrArg (fun z => upd z _ _) (hA (51, 92) (by decide)) | exact congrArg (fun z => upd (upd z _ _) _ _) (hA (51, 92) (by decide))), hB, hW, hP2 _ _ rfl rfl rfl rfl rfl rfl rfl, hR, hT, hE, hC, hV⟩
          · refine e_aload_n dX0_cast_57 0 rfl rfl rfl ?_
            refine e_bipush 12 dX0_cast_58 rfl ?_
            refine e_callV1 (As := [.int 12]) (rest := []) dX0_cast_60 rfl mvX0_152 (xm_o0) rfl (x_isN (w := 12) (by decide)) (Nat.le_of_ble_eq_true rfl) rfl rfl (Nat.le_of_ble_eq_true rfl) (Nat.zero_le _) (Nat.zero_le _) ?_
            refine e_ireturn dX0_cast_63 rfl rfl (Nat.zero_le _) (Nat.zero_le _) ?_
            have eS : sp_cast d r v τ = (0, bE τ 12) := by rw [sp_cast, if_neg (fun z => z h1), if_neg (fun z => z ⟨h14, h21⟩), if_neg (show ¬ τ.1 78 = 100 from fun z => h39 ((nI_eqN (b := 100) (by omega) (by omega)).mp (eC.symm.trans z))), if_pos (Int32.not_le.mp h54)]
            refine ⟨_, _, own, rfl, ?_, ?_⟩
            · rw [eS]
            · rw [eS]; exact hRel.stE 12
        · refine e_aload_n dX0_cast_42 0 rfl rfl rfl ?_
          refine e_bipush 7 dX0_cast_43 rfl ?_
          refine e_callV1 (As := [.int 7]) (rest := []) dX0_cast_45 rfl mvX0_152 (xm_o0) rfl (x_isN (w := 7) (by decide)) (Nat.le_of_ble_eq_true rfl) rfl rfl (Nat.le_of_ble_eq_true rfl) (Nat.zero_le _) (Nat.zero_le _) ?_
          refine e_ireturn dX0_cast_48 rfl rfl (Nat.zero_le _) (Nat.zero_le _) ?_
          have eS : sp_cast d r v τ = (0, bE τ 7) := by rw [sp_cast, if_neg (fun z => z h1), if_neg (fun z => z ⟨h14, h21⟩), if_pos (by rw [eC, h39]; rfl)]
          refine ⟨_, _, own, rfl, ?_, ?_⟩
          · rw [eS]
          · rw [eS]; exact hRel.stE 7
      · have h21 : ¬ (-1000000000 ≤ v ∧ v ≤ 1000000000) := h21
        refine e_if_ne_f (by decide) 33 dX0_cast_24 (by decide) ?_
        refine e_aload_n dX0_cast_27 0 rfl rfl rfl ?_
        refine e_iconst 5 dX0_cast_28 rfl ?_
        refine e_callV1 (As := [.int 5]) (rest := []) dX0_cast_29 rfl mvX0_152 (xm_o0) rfl (x_isN (w := 5) (by decide)) (Nat.le_of_ble_eq_true rfl) rfl rfl (Nat.le_of_ble_eq_true rfl) (Nat.zero_le _) (Nat.zero_le _) ?_
        refine e_ireturn dX0_cast_32 rfl rfl (Nat.zero_le _) (Nat.zero_le _) ?_
        have eS : sp_cast d r v τ = (0, bE τ 5) := by rw [sp_cast, if_neg (fun z => z h1), if_pos (fun z => h21 z.2)]
        refine ⟨_, _, own, rfl, ?_, ?_⟩
        · rw [eS]
        · rw [eS]; exact hRel.stE 5
    · have h14 : ¬ (0 ≤ d ∧ d ≤ 9999) := h14
      refine e_if_eq_t 27 (by decide) dX0_cast_17 (by decide) ?_
      refine e_aload_n dX0_cast_27 0 rfl rfl rfl ?_
      refine e_iconst 5 dX0_cast_28 rfl ?_
      refine e_callV1 (As := [.int 5]) (rest := []) dX0_cast_29 rfl mvX0_152 (xm_o0) rfl (x_isN (w := 5) (by decide)) (Nat.le_of_ble_eq_true rfl) rfl rfl (Nat.le_of_ble_eq_true rfl) (Nat.zero_le _) (Nat.zero_le _) ?_
      refine e_ireturn dX0_cast_32 rfl rfl (Nat.zero_le _) (Nat.zero_le _) ?_
      have eS : sp_cast d r v τ = (0, bE τ 5) := by rw [sp_cast, if_neg (fun z => z h1), if_pos (fun z => h14 z.1)]
      refine ⟨_, _, own, rfl, ?_, ?_⟩
      · rw [eS]
      · rw [eS]; exact hRel.stE 5
  · have h1 : ¬ (0 ≤ r ∧ r ≤ 39) := h1
    refine e_if_ne_f (by decide) 13 dX0_cast_4 (by decide) ?_
    refine e_aload_n dX0_cast_7 0 rfl rfl rfl ?_
    refine e_iconst 2 dX0_cast_8 rfl ?_
    refine e_callV1 (As := [.int 2]) (rest := []) dX0_cast_9 rfl mvX0_152 (xm_o0) rfl (x_isN (w := 2) (by decide)) (Nat.le_of_ble_eq_true rfl) rfl rfl (Nat.le_of_ble_eq_true rfl) (Nat.zero_le _) (Nat.zero_le _) ?_
    refine e_ireturn dX0_cast_12 rfl rfl (Nat.zero_le _) (Nat.zero_le _) ?_
    have eS : sp_cast d r v τ = (0, bE τ 2) := by rw [sp_cast, if_pos h1]
    refine ⟨_, _, own, rfl, ?_, ?_⟩
    · rw [eS]
    · rw [eS]; exact hRel.stE 2

set_option maxHeartbeats 4000000 in
set_option maxRecDepth 100000 in
/-- WheelTables.tell -/
theorem x_tell {ξ : Xs} {mid dyn : List ACell} {τ : Tw} {own : Nat → Nat} (hm : mid.length = 61) (hRel : Rel own ξ dyn τ) (d r v : Int32) : Ct yX0_tell (ws_ yX0_tell cX0_tell 4 (some .boolean)) 1 0 0 [.ref 0, .int d, .int r, .int v] (XM ξ mid dyn) (XQi mid (sp_tell d r v τ)) noX := by
  obtain ⟨hI, hA, hB, hW, hP, hR, hT, hE, hC, hV⟩ := id hRel
  obtain ⟨C, P, T, K, F, ⟨hC1, eC, hP1, eP, hT1, eT, eK, hF0, hFP, hF, hcc⟩, hL⟩ := id hP
  have hbig := InvP.big hF0 (fun p hp => ⟨(hF p hp).1, (hF p hp).2.1⟩)
  refine Ct.of (ini := false) (ls := [some (.ref 0), some (.int d), some (.int r), some (.int v)]) (by decide) (Nat.le_of_ble_eq_true rfl) (fun h => by cases h) rfl ?_
  refine e_iload_n dX0_tell_0 2 rfl rfl ?_
  refine e_callSB (As := [.int r]) (rest := []) dX0_tell_1 rfl msX0_451 (x_isRow r) (Nat.le_of_ble_eq_true rfl) rfl rfl (Nat.le_of_ble_eq_true rfl) (Nat.zero_le _) (Nat.zero_le _) (fun h1 => ?_) (fun h1 => ?_)
  · have h1 : (0 ≤ r ∧ r ≤ 39) := h1
    refine e_if_ne_t 13 (by decide) dX0_tell_4 (by decide) ?_
    refine e_iload_n dX0_tell_13 1 rfl rfl ?_
    refine e_callSB (As := [.int d]) (rest := []) dX0_tell_14 rfl msX0_454 (x_isDay d) (Nat.le_of_ble_eq_true rfl) rfl rfl (Nat.le_of_ble_eq_true rfl) (Nat.zero_le _) (Nat.zero_le _) (fun h14 => ?_) (fun h14 => ?_)
    · have h14 : (0 ≤ d ∧ d ≤ 9999) := h14
      refine e_if_eq_f (by decide) 27 dX0_tell_17 (by decide) ?_
      refine e_iload_n dX0_tell_20 3 rfl rfl ?_
      refine e_callSB (As := [.int v]) (rest := []) dX0_tell_21 rfl msX0_457 (x_isNumber v) (Nat.le_of_ble_eq_true rfl) rfl rfl (Nat.le_of_ble_eq_true rfl) (Nat.zero_le _) (Nat.zero_le _) (fun h21 => ?_) (fun h21 => ?_)
      · have h21 : (-1000000000 ≤ v ∧ v ≤ 1000000000) := h21
        refine e_if_ne_t 33 (by decide) dX0_tell_24 (by decide) ?_
        refine e_aload_n dX0_tell_33 0 rfl rfl rfl ?_
        refine e_getf (v := (.int (ξ.1 47))) dX0_tell_34 rfl fX0_472 (xm_o0) rfl ?_
        refine e_top (congrArg Value.int (hI.at 47 81 (by decide))) ?_
        refine e_top (congrArg Value.int eT) ?_
        refine e_bipush 60 dX0_tell_37 rfl ?_
        refine e_icmp_neN T 60 49 (by omega) (by omega) dX0_tell_39 (by decide) (fun h39 => ?_) (fun h39 => ?_)
        · refine e_iload_n dX0_tell_49 1 rfl rfl ?_
          refine e_aload_n dX0_tell_50 0 rfl rfl rfl ?_
          refine e_getf (v := (.int (ξ.1 48))) dX0_tell_51 rfl fX0_463 (xm_o0) rfl ?_
          refine e_top (congrArg Value.int (hI.at 48 77 (by decide))) ?_
          refine e_icmp_ge 64 dX0_tell_54 (by decide) (fun h54 => ?_) (fun h54 => ?_)
          · refine e_aload_n dX0_tell_64 0 rfl rfl rfl ?_
            refine e_iload_n dX0_tell_65 1 rfl rfl ?_
            refine e_xputI dX0_tell_66 rfl pX0_463 rfl (xm_o0) (Nat.le_of_ble_eq_true rfl) (xm_f48 _) ?_
            refine e_aload_n dX0_tell_69 0 rfl rfl rfl ?_
            refine e_getf (v := (.ref 43)) dX0_tell_70 rfl fX0_117 (xm_o0) rfl ?_
            refine e_aload_n dX0_tell_73 0 rfl rfl rfl ?_
            refine e_getf (v := (.int (ξ.1 47))) dX0_tell_74 rfl fX0_472 (xm_o0) rfl ?_
            refine e_top (congrArg Value.int (hI.at 47 81 (by decide))) ?_
            refine e_top (congrArg Value.int eT) ?_
            refine e_iload_n dX0_tell_77 1 rfl rfl ?_
            refine e_iast (f := ξ.2.2.1 42) (j := T) dX0_tell_78 (xm_a42) rfl (by omega) (by decide) ?_
            rw [xm_s42]
            refine e_aload_n dX0_tell_79 0 rfl rfl rfl ?_
            refine e_getf (v := (.ref 44)) dX0_tell_80 rfl fX0_120 (xm_o0) rfl ?_
            refine e_aload_n dX0_tell_83 0 rfl rfl rfl ?_
            refine e_getf (v := (.int (ξ.1 47))) dX0_tell_84 rfl fX0_472 (xm_o0) rfl ?_
            refine e_top (congrArg Value.int (hI.at 47 81 (by decide))) ?_
            refine e_top (congrArg Value.int eT) ?_
            refine e_iload_n dX0_tell_87 2 rfl rfl ?_
            refine e_iast (f := ξ.2.2.1 43) (j := T) dX0_tell_88 (xm_a43) rfl (by omega) (by decide) ?_
            rw [xm_s43]
            refine e_aload_n dX0_tell_89 0 rfl rfl rfl ?_
            refine e_getf (v := (.ref 45)) dX0_tell_90 rfl fX0_123 (xm_o0) rfl ?_
            refine e_aload_n dX0_tell_93 0 rfl rfl rfl ?_
            refine e_getf (v := (.int (ξ.1 47))) dX0_tell_94 rfl fX0_472 (xm_o0) rfl ?_
            refine e_top (congrArg Value.int (hI.at 47 81 (by decide))) ?_
            refine e_top (congrArg Value.int eT) ?_
            refine e_iload_n dX0_tell_97 3 rfl rfl ?_
            refine e_iast (f := ξ.2.2.1 44) (j := T) dX0_tell_98 (xm_a44) rfl (by omega) (by decide) ?_
            rw [xm_s44]
            refine e_aload_n dX0_tell_99 0 rfl rfl rfl ?_
            refine e_dup dX0_tell_100 rfl ?_
            refine e_getf (v := (.int (ξ.1 47))) dX0_tell_101 rfl fX0_472 (xm_o0) rfl ?_
            refine e_top (congrArg Value.int (hI.at 47 81 (by decide))) ?_
            refine e_top (congrArg Value.int eT) ?_
            refine e_iconst 1 dX0_tell_104 rfl ?_
            refine e_iaddN T 1 dX0_tell_105 ?_
            refine e_xputI dX0_tell_106 rfl pX0_472 rfl (xm_o0) (Nat.le_of_ble_eq_true rfl) (xm_f47 _) ?_
            refine e_aload_n dX0_tell_109 0 rfl rfl rfl ?_
            refine e_iconst 0 dX0_tell_110 rfl ?_
            refine e_callV1 (As := [.int 0]) (rest := []) dX0_tell_111 rfl mvX0_152 (xm_o0) rfl (x_is0) (Nat.le_of_ble_eq_true rfl) rfl rfl (Nat.le_of_ble_eq_true rfl) (Nat.zero_le _) (Nat.zero_le _) ?_
            refine e_ireturn dX0_tell_114 rfl rfl (Nat.zero_le _) (Nat.zero_le _) ?_
            have hP2 : ∀ (ξ1 : Xs) (τ1 : Tw), ξ1.2.2.1 41 = ξ.2.2.1 41 → τ1.1 78 = τ.1 78 → τ1.1 79 = τ.1 79 → τ1.1 81 = nI (T + 1) → τ1.1 80 = τ.1 80 → τ1.2.2.1 85 = τ.2.2.1 85 → τ1.2.2.1 86 = τ.2.2.1 86 → RP ξ1 τ1 := fun ξ1 τ1 h1 h2 h3 h4 h5 h6 h7 => ⟨C, P, T + 1, K, F, ⟨hC1, h2.trans eC, hP1, h3.trans eP, by omega, h4, h5.trans eK, hF0, hFP, fun p hp => ⟨(hF p hp).1, (hF p hp).2.1, by rw [h6]; exact (hF p hp).2.2⟩, fun p hp => by rw [h7]; exact hcc p hp⟩, fun p hp => by rw [h1]; exact hL p hp⟩
            have eS : sp_tell d r v τ = (1, tI (tI (tA (tA (tA (b0 τ) 87 (upd (τ.2.2.1 87) T d)) 88 (upd (τ.2.2.1 88) T r)) 89 (upd (τ.2.2.1 89) T v)) 81 (nI (T + 1))) 77 d) := by rw [sp_tell, if_neg (fun z => z h1), if_neg (fun z => z ⟨h14, h21⟩), if_neg (show ¬ τ.1 81 = 60 from fun z => h39 ((nI_eqN (b := 60) (by omega) (by omega)).mp (eT.symm.trans z))), if_neg (i32_le h54), eT, ix_nI (by omega), show nI T + 1 = nI (T + 1) from nI_add T 1]
            refine ⟨_, _, own, rfl, ?_, ?_⟩
            · rw [eS]
            · rw [eS]; exact ⟨(by
              intro q hq
              simp only [rlI, List.mem_cons, List.not_mem_nil, or_false] at hq
              rcases hq with rfl | rfl | rfl | rfl | rfl | rfl | rfl | rfl | rfl | rfl | rfl | rfl | rfl | rfl | rfl | rfl | rfl
              · first | exact hI (8, 0) (by decide) | rfl
              · first | exact hI (6, 5) (by decide) | rfl
              · first | exact hI (7, 41) (by decide) | rfl
              · first | exact hI (9, 31) (by decide) | rfl
              · first | exact hI (10, 32) (by decide) | rfl
              · first | exact hI (101, 29) (by decide) | rfl
              · first | exact hI (25, 60) (by decide) | rfl
              · first | exact hI (26, 61) (by decide) | rfl
              · first | exact hI (20, 62) (by decide) | rfl
              · first | exact hI (21, 63) (by decide) | rfl
              · first | exact hI (22, 64) (by decide) | rfl
              · first | exact hI (24, 66) (by decide) | rfl
              · first | exact hI (45, 78) (by decide) | rfl
              · first | exact hI (46, 79) (by decide) | rfl
              · first | exact hI (47, 81) (by decide) | rfl
              · first | exact hI (48, 77) (by decide) | rfl
              · first | exact hI (55, 82) (by decide) | rfl), (by
              intro q hq
              simp only [rlA, List.mem_cons, List.not_mem_nil, or_false] at hq
              rcases hq with rfl | rfl | rfl | rfl | rfl | rfl | rfl | rfl | rfl | rfl
              · first | exact hA (100, 28) (by decide) | rfl | exact congrArg (fun z => upd z _ _) (hA (100, 28) (by decide)) | exact congrArg (fun z => upd (upd z _ _) _ _) (hA (100, 28) (by decide))
              · first | exact hA (38, 83) (by decide) | rfl | exact congrArg (fun z => upd z _ _) (hA (38, 83) (by decide)) | exact congrArg (fun z => upd (upd z _ _) _ _) (hA (38, 83) (by decide))
              · first | exact hA (39, 84) (by decide) | rfl | exact congrArg (fun z => upd z _ _) (hA (39, 84) (by decide)) | exact congrArg (fun z => upd (upd z _ _) _ _) (hA (39, 84) (by decide))
              · first | exact hA (40, 86) (by decide) | rfl | exact congrArg (fun z => upd z _ _) (hA (40, 86) (by decide)) | exact congrArg (fun z => upd (upd z _ _) _ _) (hA (40, 86) (by decide))
              · first | exact hA (42, 87) (by decide) | rfl | exact congrArg (fun z => upd z _ _) (hA (42, 87) (by decide)) | exact congrArg (fun z => upd (upd z _ _) _ _) (hA (42, 87) (by decide))
              · first | exact hA (43, 88) (by decide) | rfl | exact congrArg (fun z => upd z _ _) (hA (43, 88) (by decide)) | exact congrArg (fun z => upd (upd z _ _) _ _) (hA (43, 88) (by decide))
              · first | exact hA (44, 89) (by decide) | rfl | exact congrArg (fun z => upd z _ _) (hA (44, 89) (by decide)) | exact congrArg (fun z => upd (upd z _ _) _ _) (hA (44, 89) (by decide))
              · first | exact hA (49, 90) (by decide) | rfl | exact congrArg (fun z => upd z _ _) (hA (49, 90) (by decide)) | exact congrArg (fun z => upd (upd z _ _) _ _) (hA (49, 90) (by decide))
              · first | exact hA (50, 91) (by decide) | rfl | exact congrArg (fun z => upd z _ _) (hA (50, 91) (by decide)) | exact congrArg (fun z => upd (upd z _ _) _ _) (hA (50, 91) (by decide))
              · first | exact hA (51, 92) (by decide) | rfl | exact congrArg (fun z => upd z _ _) (hA (51, 92) (by decide)) | exact congrArg (fun z => upd (upd z _ _) _ _) (hA (51, 92) (by decide))), hB, hW, hP2 _ _ rfl rfl rfl rfl rfl rfl rfl, hR, hT, hE, hC, hV⟩
          · refine e_aload_n dX0_tell_57 0 rfl rfl rfl ?_
            refine e_bipush 12 dX0_tell_58 rfl ?_
            refine e_callV1 (As := [.int 12]) (rest := []) dX0_tell_60 rfl mvX0_152 (xm_o0) rfl (x_isN (w := 12) (by decide)) (Nat.le_of_ble_eq_true rfl) rfl rfl (Nat.le_of_ble_eq_true rfl) (Nat.zero_le _) (Nat.zero_le _) ?_
            refine e_ireturn dX0_tell_63 rfl rfl (Nat.zero_le _) (Nat.zero_le _) ?_
            have eS : sp_tell d r v τ = (0, bE τ 12) := by rw [sp_tell, if_neg (fun z => z h1), if_neg (fun z => z ⟨h14, h21⟩), if_neg (show ¬ τ.1 81 = 60 from fun z => h39 ((nI_eqN (b := 60) (by omega) (by omega)).mp (eT.symm.trans z))), if_pos (Int32.not_le.mp h54)]
            refine ⟨_, _, own, rfl, ?_, ?_⟩
            · rw [eS]
            · rw [eS]; exact hRel.stE 12
        · refine e_aload_n dX0_tell_42 0 rfl rfl rfl ?_
          refine e_bipush 7 dX0_tell_43 rfl ?_
          refine e_callV1 (As := [.int 7]) (rest := []) dX0_tell_45 rfl mvX0_152 (xm_o0) rfl (x_isN (w := 7) (by decide)) (Nat.le_of_ble_eq_true rfl) rfl rfl (Nat.le_of_ble_eq_true rfl) (Nat.zero_le _) (Nat.zero_le _) ?_
          refine e_ireturn dX0_tell_48 rfl rfl (Nat.zero_le _) (Nat.zero_le _) ?_
          have eS : sp_tell d r v τ = (0, bE τ 7) := by rw [sp_tell, if_neg (fun z => z h1), if_neg (fun z => z ⟨h14, h21⟩), if_pos (by rw [eT, h39]; rfl)]
          refine ⟨_, _, own, rfl, ?_, ?_⟩
          · rw [eS]
          · rw [eS]; exact hRel.stE 7
      · have h21 : ¬ (-1000000000 ≤ v ∧ v ≤ 1000000000) := h21
        refine e_if_ne_f (by decide) 33 dX0_tell_24 (by decide) ?_
        refine e_aload_n dX0_tell_27 0 rfl rfl rfl ?_
        refine e_iconst 5 dX0_tell_28 rfl ?_
        refine e_callV1 (As := [.int 5]) (rest := []) dX0_tell_29 rfl mvX0_152 (xm_o0) rfl (x_isN (w := 5) (by decide)) (Nat.le_of_ble_eq_true rfl) rfl rfl (Nat.le_of_ble_eq_true rfl) (Nat.zero_le _) (Nat.zero_le _) ?_
        refine e_ireturn dX0_tell_32 rfl rfl (Nat.zero_le _) (Nat.zero_le _) ?_
        have eS : sp_tell d r v τ = (0, bE τ 5) := by rw [sp_tell, if_neg (fun z => z h1), if_pos (fun z => h21 z.2)]
        refine ⟨_, _, own, rfl, ?_, ?_⟩
        · rw [eS]
        · rw [eS]; exact hRel.stE 5
    · have h14 : ¬ (0 ≤ d ∧ d ≤ 9999) := h14
      refine e_if_eq_t 27 (by decide) dX0_tell_17 (by decide) ?_
      refine e_aload_n dX0_tell_27 0 rfl rfl rfl ?_
      refine e_iconst 5 dX0_tell_28 rfl ?_
      refine e_callV1 (As := [.int 5]) (rest := []) dX0_tell_29 rfl mvX0_152 (xm_o0) rfl (x_isN (w := 5) (by decide)) (Nat.le_of_ble_eq_true rfl) rfl rfl (Nat.le_of_ble_eq_true rfl) (Nat.zero_le _) (Nat.zero_le _) ?_
      refine e_ireturn dX0_tell_32 rfl rfl (Nat.zero_le _) (Nat.zero_le _) ?_
      have eS : sp_tell d r v τ = (0, bE τ 5) := by rw [sp_tell, if_neg (fun z => z h1), if_pos (fun z => h14 z.1)]
      refine ⟨_, _, own, rfl, ?_, ?_⟩
      · rw [eS]
      · rw [eS]; exact hRel.stE 5
  · have h1 : ¬ (0 ≤ r ∧ r ≤ 39) := h1
    refine e_if_ne_f (by decide) 13 dX0_tell_4 (by decide) ?_
    refine e_aload_n dX0_tell_7 0 rfl rfl rfl ?_
    refine e_iconst 2 dX0_tell_8 rfl ?_
    refine e_callV1 (As := [.int 2]) (rest := []) dX0_tell_9 rfl mvX0_152 (xm_o0) rfl (x_isN (w := 2) (by decide)) (Nat.le_of_ble_eq_true rfl) rfl rfl (Nat.le_of_ble_eq_true rfl) (Nat.zero_le _) (Nat.zero_le _) ?_
    refine e_ireturn dX0_tell_12 rfl rfl (Nat.zero_le _) (Nat.zero_le _) ?_
    have eS : sp_tell d r v τ = (0, bE τ 2) := by rw [sp_tell, if_pos h1]
    refine ⟨_, _, own, rfl, ?_, ?_⟩
    · rw [eS]
    · rw [eS]; exact hRel.stE 2

