/-! ===== the component: jobs, answers, the tape ===== -/
set_option maxHeartbeats 4000000 in
set_option maxRecDepth 100000 in
/-- WheelTables.job -/
theorem x_job {ξ : Xs} {mid dyn : List ACell} {τ : Tw} {own : Nat → Nat} (hm : mid.length = 61) (hRel : Rel own ξ dyn τ) (x w t : Int32) : Ct yX0_job (ws_ yX0_job cX0_job 4 (some .int)) 1 0 0 [.ref 0, .int x, .int w, .int t] (XM ξ mid dyn) (XQi mid (sp_job x w t τ)) noX := by
  obtain ⟨hI, hA, hB, hW, hP, hR, hT, hE, hC, hV⟩ := id hRel
  obtain ⟨hVT, hVJ, hVR, hVF, hVN, hV0⟩ := id hV
  obtain ⟨J, hJ1, eJ, hJ2⟩ := id hVJ
  refine Ct.of (ini := false) (ls := [some (.ref 0), some (.int x), some (.int w), some (.int t)]) (by decide) (Nat.le_of_ble_eq_true rfl) (fun h => by cases h) rfl ?_
  refine e_iload_n dX0_job_0 1 rfl rfl ?_
  refine e_iconst 2 dX0_job_1 rfl ?_
  refine e_icmp_lt 34 dX0_job_2 (by decide) (fun h2 => ?_) (fun h2 => ?_)
  · refine e_aload_n dX0_job_34 0 rfl rfl rfl ?_
    refine e_iconst 5 dX0_job_35 rfl ?_
    refine e_callV1 (As := [.int 5]) (rest := []) dX0_job_36 rfl mvX0_169 (xm_o0) rfl (x_none 5) (Nat.le_of_ble_eq_true rfl) rfl rfl (Nat.le_of_ble_eq_true rfl) (Nat.zero_le _) (Nat.zero_le _) ?_
    refine e_ireturn dX0_job_39 rfl rfl (Nat.zero_le _) (Nat.zero_le _) ?_
    have eS : sp_job x w t τ = (-1, bE τ 5) := by rw [sp_job, if_pos (fun z => i32_lt h2 z.1.1)]
    refine ⟨_, _, own, rfl, ?_, ?_⟩
    · rw [eS]
    · rw [eS]; exact hRel.stE 5
  · refine e_iload_n dX0_job_5 1 rfl rfl ?_
    refine e_bipush 7 dX0_job_6 rfl ?_
    refine e_icmp_gt 34 dX0_job_8 (by decide) (fun h8 => ?_) (fun h8 => ?_)
    · refine e_aload_n dX0_job_34 0 rfl rfl rfl ?_
      refine e_iconst 5 dX0_job_35 rfl ?_
      refine e_callV1 (As := [.int 5]) (rest := []) dX0_job_36 rfl mvX0_169 (xm_o0) rfl (x_none 5) (Nat.le_of_ble_eq_true rfl) rfl rfl (Nat.le_of_ble_eq_true rfl) (Nat.zero_le _) (Nat.zero_le _) ?_
      refine e_ireturn dX0_job_39 rfl rfl (Nat.zero_le _) (Nat.zero_le _) ?_
      have eS : sp_job x w t τ = (-1, bE τ 5) := by rw [sp_job, if_pos (fun z => i32_lt h8 z.1.2)]
      refine ⟨_, _, own, rfl, ?_, ?_⟩
      · rw [eS]
      · rw [eS]; exact hRel.stE 5
    · refine e_iload_n dX0_job_11 2 rfl rfl ?_
      refine e_iconst 1 dX0_job_12 rfl ?_
      refine e_icmp_lt 34 dX0_job_13 (by decide) (fun h13 => ?_) (fun h13 => ?_)
      · refine e_aload_n dX0_job_34 0 rfl rfl rfl ?_
        refine e_iconst 5 dX0_job_35 rfl ?_
        refine e_callV1 (As := [.int 5]) (rest := []) dX0_job_36 rfl mvX0_169 (xm_o0) rfl (x_none 5) (Nat.le_of_ble_eq_true rfl) rfl rfl (Nat.le_of_ble_eq_true rfl) (Nat.zero_le _) (Nat.zero_le _) ?_
        refine e_ireturn dX0_job_39 rfl rfl (Nat.zero_le _) (Nat.zero_le _) ?_
        have eS : sp_job x w t τ = (-1, bE τ 5) := by rw [sp_job, if_pos (fun z => i32_lt h13 z.2.1.1)]
        refine ⟨_, _, own, rfl, ?_, ?_⟩
        · rw [eS]
        · rw [eS]; exact hRel.stE 5
      · refine e_iload_n dX0_job_16 2 rfl rfl ?_
        refine e_bipush 12 dX0_job_17 rfl ?_
        refine e_icmp_gt 34 dX0_job_19 (by decide) (fun h19 => ?_) (fun h19 => ?_)
        · refine e_aload_n dX0_job_34 0 rfl rfl rfl ?_
          refine e_iconst 5 dX0_job_35 rfl ?_
          refine e_callV1 (As := [.int 5]) (rest := []) dX0_job_36 rfl mvX0_169 (xm_o0) rfl (x_none 5) (Nat.le_of_ble_eq_true rfl) rfl rfl (Nat.le_of_ble_eq_true rfl) (Nat.zero_le _) (Nat.zero_le _) ?_
          refine e_ireturn dX0_job_39 rfl rfl (Nat.zero_le _) (Nat.zero_le _) ?_
          have eS : sp_job x w t τ = (-1, bE τ 5) := by rw [sp_job, if_pos (fun z => i32_lt h19 z.2.1.2)]
          refine ⟨_, _, own, rfl, ?_, ?_⟩
          · rw [eS]
          · rw [eS]; exact hRel.stE 5
        · refine e_iload_n dX0_job_22 3 rfl rfl ?_
          refine e_iconst 1 dX0_job_23 rfl ?_
          refine e_icmp_lt 34 dX0_job_24 (by decide) (fun h24 => ?_) (fun h24 => ?_)
          · refine e_aload_n dX0_job_34 0 rfl rfl rfl ?_
            refine e_iconst 5 dX0_job_35 rfl ?_
            refine e_callV1 (As := [.int 5]) (rest := []) dX0_job_36 rfl mvX0_169 (xm_o0) rfl (x_none 5) (Nat.le_of_ble_eq_true rfl) rfl rfl (Nat.le_of_ble_eq_true rfl) (Nat.zero_le _) (Nat.zero_le _) ?_
            refine e_ireturn dX0_job_39 rfl rfl (Nat.zero_le _) (Nat.zero_le _) ?_
            have eS : sp_job x w t τ = (-1, bE τ 5) := by rw [sp_job, if_pos (fun z => i32_lt h24 z.2.2.1)]
            refine ⟨_, _, own, rfl, ?_, ?_⟩
            · rw [eS]
            · rw [eS]; exact hRel.stE 5
          · refine e_iload_n dX0_job_27 3 rfl rfl ?_
            refine e_sipush 1000 dX0_job_28 rfl ?_
            refine e_icmp_le 40 dX0_job_31 (by decide) (fun h31 => ?_) (fun h31 => ?_)
            · refine e_aload_n dX0_job_40 0 rfl rfl rfl ?_
              refine e_getf (v := (.int (ξ.1 55))) dX0_job_41 rfl fX0_487 (xm_o0) rfl ?_
              refine e_top (congrArg Value.int (hI.at 55 82 (by decide))) ?_
              refine e_top (congrArg Value.int eJ) ?_
              refine e_bipush 7 dX0_job_44 rfl ?_
              refine e_icmp_neN J 7 56 (by omega) (by omega) dX0_job_46 (by decide) (fun h46 => ?_) (fun h46 => ?_)
              · refine e_aload_n dX0_job_56 0 rfl rfl rfl ?_
                refine e_getf (v := (.ref 46)) dX0_job_57 rfl fX0_126 (xm_o0) rfl ?_
                refine e_aload_n dX0_job_60 0 rfl rfl rfl ?_
                refine e_getf (v := (.int (ξ.1 55))) dX0_job_61 rfl fX0_487 (xm_o0) rfl ?_
                refine e_top (congrArg Value.int (hI.at 55 82 (by decide))) ?_
                refine e_top (congrArg Value.int eJ) ?_
                refine e_iload_n dX0_job_64 1 rfl rfl ?_
                refine e_iast (f := ξ.2.2.1 49) (j := J) dX0_job_65 (xm_a49) rfl (by omega) (by decide) ?_
                rw [xm_s49]
                refine e_aload_n dX0_job_66 0 rfl rfl rfl ?_
                refine e_getf (v := (.ref 47)) dX0_job_67 rfl fX0_129 (xm_o0) rfl ?_
                refine e_aload_n dX0_job_70 0 rfl rfl rfl ?_
                refine e_getf (v := (.int (ξ.1 55))) dX0_job_71 rfl fX0_487 (xm_o0) rfl ?_
                refine e_top (congrArg Value.int (hI.at 55 82 (by decide))) ?_
                refine e_top (congrArg Value.int eJ) ?_
                refine e_iload_n dX0_job_74 2 rfl rfl ?_
                refine e_iast (f := ξ.2.2.1 50) (j := J) dX0_job_75 (xm_a50) rfl (by omega) (by decide) ?_
                rw [xm_s50]
                refine e_aload_n dX0_job_76 0 rfl rfl rfl ?_
                refine e_getf (v := (.ref 48)) dX0_job_77 rfl fX0_132 (xm_o0) rfl ?_
                refine e_aload_n dX0_job_80 0 rfl rfl rfl ?_
                refine e_getf (v := (.int (ξ.1 55))) dX0_job_81 rfl fX0_487 (xm_o0) rfl ?_
                refine e_top (congrArg Value.int (hI.at 55 82 (by decide))) ?_
                refine e_top (congrArg Value.int eJ) ?_
                refine e_iload_n dX0_job_84 3 rfl rfl ?_
                refine e_iast (f := ξ.2.2.1 51) (j := J) dX0_job_85 (xm_a51) rfl (by omega) (by decide) ?_
                rw [xm_s51]
                refine e_aload_n dX0_job_86 0 rfl rfl rfl ?_
                refine e_dup dX0_job_87 rfl ?_
                refine e_getf (v := (.int (ξ.1 55))) dX0_job_88 rfl fX0_487 (xm_o0) rfl ?_
                refine e_top (congrArg Value.int (hI.at 55 82 (by decide))) ?_
                refine e_top (congrArg Value.int eJ) ?_
                refine e_iconst 1 dX0_job_91 rfl ?_
                refine e_iaddN J 1 dX0_job_92 ?_
                refine e_xputI dX0_job_93 rfl pX0_487 rfl (xm_o0) (Nat.le_of_ble_eq_true rfl) (xm_f55 _) ?_
                refine e_aload_n dX0_job_96 0 rfl rfl rfl ?_
                refine e_aload_n dX0_job_97 0 rfl rfl rfl ?_
                refine e_getf (v := (.int (nI (J + 1)))) dX0_job_98 rfl fX0_487 (xm_o0) rfl ?_
                refine e_iconst 1 dX0_job_101 rfl ?_
                refine e_isubN (J + 1) 1 (by omega) dX0_job_102 ?_
                refine e_top (congrArg Value.int (congrArg nI (show J + 1 - 1 = J by omega))) ?_
                refine e_callV1 (As := [.int (nI J)]) (rest := []) dX0_job_103 rfl mvX0_215 (xm_o0) rfl (x_gives (nI J)) (Nat.le_of_ble_eq_true rfl) rfl rfl (Nat.le_of_ble_eq_true rfl) (Nat.zero_le _) (Nat.zero_le _) ?_
                refine e_ireturn dX0_job_106 rfl rfl (Nat.zero_le _) (Nat.zero_le _) ?_
                have hV2 : InvJ (tI (tA (tA (tA (b0 τ) 90 (upd (τ.2.2.1 90) J x)) 91 (upd (τ.2.2.1 91) J w)) 92 (upd (τ.2.2.1 92) J t)) 82 (nI (J + 1))) := by
                  obtain ⟨x', hx', rfl⟩ := in_oc (x := x) (c := 7) 7 (by decide) (Int32.le_trans (by decide) (i32_nlt h2)) (i32_nlt h8)
                  obtain ⟨w', hw', rfl⟩ := in_oc (x := w) (c := 12) 12 (by decide) (Int32.le_trans (by decide) (i32_nlt h13)) (i32_nlt h19)
                  obtain ⟨t', ht', rfl⟩ := in_oc (x := t) (c := 1000) 1000 (by decide) (Int32.le_trans (by decide) (i32_nlt h24)) h31
                  have k1 : 2 ≤ x' := (nI_leN (a := 2) (by omega) (by omega)).mp (i32_nlt h2)
                  have k2 : 1 ≤ w' := (nI_leN (a := 1) (by omega) (by omega)).mp (i32_nlt h13)
                  have k3 : 1 ≤ t' := (nI_leN (a := 1) (by omega) (by omega)).mp (i32_nlt h24)
                  refine ⟨J + 1, by omega, rfl, fun j hj => ?_⟩
                  show ∃ x w t, _ ∧ _ ∧ _ ∧ _ ∧ _ ∧ _ ∧ upd (τ.2.2.1 90) J (nI x') j = _ ∧ upd (τ.2.2.1 91) J (nI w') j = _ ∧ upd (τ.2.2.1 92) J (nI t') j = _
                  by_cases e : j = J
                  · subst e
                    rw [pk_us, pk_us, pk_us]
                    exact ⟨x', w', t', k1, hx', k2, hw', k3, ht', rfl, rfl, rfl⟩
                  · rw [pk_un e, pk_un e, pk_un e]
                    exact hJ2 j (by omega)
                have eS : sp_job x w t τ = (nI J, tI (tA (tA (tA (b0 τ) 90 (upd (τ.2.2.1 90) J x)) 91 (upd (τ.2.2.1 91) J w)) 92 (upd (τ.2.2.1 92) J t)) 82 (nI (J + 1))) := by rw [sp_job, if_neg (fun z => z ⟨⟨i32_nlt h2, i32_nlt h8⟩, ⟨i32_nlt h13, i32_nlt h19⟩, i32_nlt h24, h31⟩), if_neg (show ¬ τ.1 82 = 7 from fun z => h46 ((nI_eqN (b := 7) (by omega) (by omega)).mp (eJ.symm.trans z))), eJ, ix_nI (by omega), show nI J + 1 = nI (J + 1) from nI_add J 1]
                refine ⟨_, _, own, rfl, ?_, ?_⟩
                · rw [eS]
                · rw [eS]; exact ⟨(by
                  intro q hq
                  simp only [rlI, List.mem_cons, List.not_mem_nil, or_false] at hq
                  rcases hq with rfl | rfl | rfl | rfl | rfl | rfl | rfl | rfl | rfl | rfl | rfl | rfl | rfl | rfl | rfl | rfl | rfl
                  · first | exact hI (8, 0) (by decide) | rfl
                  · first | exact hI (6, 5) (by decide) | rfl
                  · first | exact hI (7, 41) (by decide) | rfl
                  · first | exact hI (9, 31) (by decide) | rfl
                  · first | exact hI (10, 32) (by decide) | rfl
                  · first | exact hI (101, 29) (by decide) | rfl
                  · first | exact hI (25, 60) (by decide) | rfl
                  · first | exact hI (26, 61) (by decide) | rfl
                  · first | exact hI (20, 62) (by decide) | rfl
                  · first | exact hI (21, 63) (by decide) | rfl
                  · first | exact hI (22, 64) (by decide) | rfl
                  · first | exact hI (24, 66) (by decide) | rfl
                  · first | exact hI (45, 78) (by decide) | rfl
                  · first | exact hI (46, 79) (by decide) | rfl
                  · first | exact hI (47, 81) (by decide) | rfl
                  · first | exact hI (48, 77) (by decide) | rfl
                  · first | exact hI (55, 82) (by decide) | rfl), (by
                  intro q hq
                  simp only [rlA, List.mem_cons, List.not_mem_nil, or_false] at hq
                  rcases hq with rfl | rfl | rfl | rfl | rfl | rfl | rfl | rfl | rfl | rfl
                  · first | exact hA (100, 28) (by decide) | rfl | exact congrArg (fun z => upd z _ _) (hA (100, 28) (by decide)) | exact congrArg (fun z => upd (upd z _ _) _ _) (hA (100, 28) (by decide))
                  · first | exact hA (38, 83) (by decide) | rfl | exact congrArg (fun z => upd z _ _) (hA (38, 83) (by decide)) | exact congrArg (fun z => upd (upd z _ _) _ _) (hA (38, 83) (by decide))
                  · first | exact hA (39, 84) (by decide) | rfl | exact congrArg (fun z => upd z _ _) (hA (39, 84) (by decide)) | exact congrArg (fun z => upd (upd z _ _) _ _) (hA (39, 84) (by decide))
                  · first | exact hA (40, 86) (by decide) | rfl | exact congrArg (fun z => upd z _ _) (hA (40, 86) (by decide)) | exact congrArg (fun z => upd (upd z _ _) _ _) (hA (40, 86) (by decide))
                  · first | exact hA (42, 87) (by decide) | rfl | exact congrArg (fun z => upd z _ _) (hA (42, 87) (by decide)) | exact congrArg (fun z => upd (upd z _ _) _ _) (hA (42, 87) (by decide))
                  · first | exact hA (43, 88) (by decide) | rfl | exact congrArg (fun z => upd z _ _) (hA (43, 88) (by decide)) | exact congrArg (fun z => upd (upd z _ _) _ _) (hA (43, 88) (by decide))
                  · first | exact hA (44, 89) (by decide) | rfl | exact congrArg (fun z => upd z _ _) (hA (44, 89) (by decide)) | exact congrArg (fun z => upd (upd z _ _) _ _) (hA (44, 89) (by decide))
                  · first | exact hA (49, 90) (by decide) | rfl | exact congrArg (fun z => upd z _ _) (hA (49, 90) (by decide)) | exact congrArg (fun z => upd (upd z _ _) _ _) (hA (49, 90) (by decide))
                  · first | exact hA (50, 91) (by decide) | rfl | exact congrArg (fun z => upd z _ _) (hA (50, 91) (by decide)) | exact congrArg (fun z => upd (upd z _ _) _ _) (hA (50, 91) (by decide))
                  · first | exact hA (51, 92) (by decide) | rfl | exact congrArg (fun z => upd z _ _) (hA (51, 92) (by decide)) | exact congrArg (fun z => upd (upd z _ _) _ _) (hA (51, 92) (by decide))), hB, hW, hP, hR, hT, hE, hC, ⟨hVT, hV2, hVR, hVF, hVN, hV0⟩⟩
              · refine e_aload_n dX0_job_49 0 rfl rfl rfl ?_
                refine e_bipush 7 dX0_job_50 rfl ?_
                refine e_callV1 (As := [.int 7]) (rest := []) dX0_job_52 rfl mvX0_169 (xm_o0) rfl (x_none 7) (Nat.le_of_ble_eq_true rfl) rfl rfl (Nat.le_of_ble_eq_true rfl) (Nat.zero_le _) (Nat.zero_le _) ?_
                refine e_ireturn dX0_job_55 rfl rfl (Nat.zero_le _) (Nat.zero_le _) ?_
                have eS : sp_job x w t τ = (-1, bE τ 7) := by rw [sp_job, if_neg (fun z => z ⟨⟨i32_nlt h2, i32_nlt h8⟩, ⟨i32_nlt h13, i32_nlt h19⟩, i32_nlt h24, h31⟩), if_pos (by rw [eJ, h46]; rfl)]
                refine ⟨_, _, own, rfl, ?_, ?_⟩
                · rw [eS]
                · rw [eS]; exact hRel.stE 7
            · refine e_aload_n dX0_job_34 0 rfl rfl rfl ?_
              refine e_iconst 5 dX0_job_35 rfl ?_
              refine e_callV1 (As := [.int 5]) (rest := []) dX0_job_36 rfl mvX0_169 (xm_o0) rfl (x_none 5) (Nat.le_of_ble_eq_true rfl) rfl rfl (Nat.le_of_ble_eq_true rfl) (Nat.zero_le _) (Nat.zero_le _) ?_
              refine e_ireturn dX0_job_39 rfl rfl (Nat.zero_le _) (Nat.zero_le _) ?_
              have eS : sp_job x w t τ = (-1, bE τ 5) := by rw [sp_job, if_pos (fun z => h31 z.2.2.2)]
              refine ⟨_, _, own, rfl, ?_, ?_⟩
              · rw [eS]
              · rw [eS]; exact hRel.stE 5

set_option maxHeartbeats 4000000 in
set_option maxRecDepth 100000 in
/-- WheelTables.ran -/
theorem x_ran {ξ : Xs} {mid dyn : List ACell} {τ : Tw} {own : Nat → Nat} (hm : mid.length = 61) (hRel : Rel own ξ dyn τ) (w : Int32) : Ct yX0_ran (ws_ yX0_ran cX0_ran 2 (some .int)) 1 0 0 [.ref 0, .int w] (XM ξ mid dyn) (XQi mid (sp_ran w τ)) noX := by
  obtain ⟨hI, hA, hB, hW, hP, hR, hT, hE, hC, hV⟩ := id hRel
  obtain ⟨hVT, hVJ, hVR, hVF, hVN, hV0⟩ := id hV
  refine Ct.of (ini := false) (ls := [some (.ref 0), some (.int w)]) (by decide) (Nat.le_of_ble_eq_true rfl) (fun h => by cases h) rfl ?_
  refine e_iload_n dX0_ran_0 1 rfl rfl ?_
  refine e_if_lt 9 dX0_ran_1 (by decide) (fun h1 => ?_) (fun h1 => ?_)
  · refine e_aload_n dX0_ran_9 0 rfl rfl rfl ?_
    refine e_iconst 5 dX0_ran_10 rfl ?_
    refine e_callV1 (As := [.int 5]) (rest := []) dX0_ran_11 rfl mvX0_169 (xm_o0) rfl (x_none 5) (Nat.le_of_ble_eq_true rfl) rfl rfl (Nat.le_of_ble_eq_true rfl) (Nat.zero_le _) (Nat.zero_le _) ?_
    refine e_ireturn dX0_ran_14 rfl rfl (Nat.zero_le _) (Nat.zero_le _) ?_
    have eS : sp_ran w τ = (-1, bE τ 5) := by rw [sp_ran, if_pos (fun z => i32_lt h1 z.1)]
    refine ⟨_, _, own, rfl, ?_, ?_⟩
    · rw [eS]
    · rw [eS]; exact hRel.stE 5
  · refine e_iload_n dX0_ran_4 1 rfl rfl ?_
    refine e_iconst 3 dX0_ran_5 rfl ?_
    refine e_icmp_le 15 dX0_ran_6 (by decide) (fun h6 => ?_) (fun h6 => ?_)
    · refine e_aload_n dX0_ran_15 0 rfl rfl rfl ?_
      refine e_getf (v := (.int (ξ.1 25))) dX0_ran_16 rfl fX0_355 (xm_o0) rfl ?_
      refine e_top (congrArg Value.int (hI.at 25 60 (by decide))) ?_
      refine e_if_ne 29 dX0_ran_19 (by decide) (fun h19 => ?_) (fun h19 => ?_)
      · refine e_aload_n dX0_ran_29 0 rfl rfl rfl ?_
        refine e_iload_n dX0_ran_30 1 rfl rfl ?_
        refine e_if_ne 41 dX0_ran_31 (by decide) (fun h31 => ?_) (fun h31 => ?_)
        · refine e_iload_n dX0_ran_41 1 rfl rfl ?_
          refine e_iconst 1 dX0_ran_42 rfl ?_
          refine e_icmp_ne 53 dX0_ran_43 (by decide) (fun h43 => ?_) (fun h43 => ?_)
          · refine e_iload_n dX0_ran_53 1 rfl rfl ?_
            refine e_iconst 2 dX0_ran_54 rfl ?_
            refine e_icmp_ne 65 dX0_ran_55 (by decide) (fun h55 => ?_) (fun h55 => ?_)
            · refine e_aload_n dX0_ran_65 0 rfl rfl rfl ?_
              refine e_getf (v := (.int (ξ.1 24))) dX0_ran_66 rfl fX0_349 (xm_o0) rfl ?_
              refine e_top (congrArg Value.int (hI.at 24 66 (by decide))) ?_
              refine e_callV1 (As := [.int (τ.1 66)]) (rest := []) dX0_ran_69 rfl mvX0_215 (xm_o0) rfl (x_gives (τ.1 66)) (Nat.le_of_ble_eq_true rfl) rfl rfl (Nat.le_of_ble_eq_true rfl) (Nat.zero_le _) (Nat.zero_le _) ?_
              refine e_ireturn dX0_ran_72 rfl rfl (Nat.zero_le _) (Nat.zero_le _) ?_
              have eS : sp_ran w τ = (τ.1 66, b0 τ) := by rw [sp_ran, if_neg (fun z => z ⟨i32_nlt h1, h6⟩), if_neg h19, if_neg h31, if_neg h43, if_neg h55]
              refine ⟨_, _, own, rfl, ?_, ?_⟩
              · rw [eS]
              · rw [eS]; exact hRel.st0
            · refine e_aload_n dX0_ran_58 0 rfl rfl rfl ?_
              refine e_getf (v := (.int (ξ.1 23))) dX0_ran_59 rfl fX0_346 (xm_o0) rfl ?_
              refine e_top (congrArg Value.int (hW.2.resolve_left h19)) ?_
              refine e_goto 69 dX0_ran_62 (by decide) ?_
              refine e_callV1 (As := [.int (τ.1 65)]) (rest := []) dX0_ran_69 rfl mvX0_215 (xm_o0) rfl (x_gives (τ.1 65)) (Nat.le_of_ble_eq_true rfl) rfl rfl (Nat.le_of_ble_eq_true rfl) (Nat.zero_le _) (Nat.zero_le _) ?_
              refine e_ireturn dX0_ran_72 rfl rfl (Nat.zero_le _) (Nat.zero_le _) ?_
              have eS : sp_ran w τ = (τ.1 65, b0 τ) := by rw [sp_ran, if_neg (fun z => z ⟨i32_nlt h1, h6⟩), if_neg h19, if_neg h31, if_neg h43, if_pos h55]
              refine ⟨_, _, own, rfl, ?_, ?_⟩
              · rw [eS]
              · rw [eS]; exact hRel.st0
          · refine e_aload_n dX0_ran_46 0 rfl rfl rfl ?_
            refine e_getf (v := (.int (ξ.1 22))) dX0_ran_47 rfl fX0_343 (xm_o0) rfl ?_
            refine e_top (congrArg Value.int (hI.at 22 64 (by decide))) ?_
            refine e_goto 69 dX0_ran_50 (by decide) ?_
            refine e_callV1 (As := [.int (τ.1 64)]) (rest := []) dX0_ran_69 rfl mvX0_215 (xm_o0) rfl (x_gives (τ.1 64)) (Nat.le_of_ble_eq_true rfl) rfl rfl (Nat.le_of_ble_eq_true rfl) (Nat.zero_le _) (Nat.zero_le _) ?_
            refine e_ireturn dX0_ran_72 rfl rfl (Nat.zero_le _) (Nat.zero_le _) ?_
            have eS : sp_ran w τ = (τ.1 64, b0 τ) := by rw [sp_ran, if_neg (fun z => z ⟨i32_nlt h1, h6⟩), if_neg h19, if_neg h31, if_pos h43]
            refine ⟨_, _, own, rfl, ?_, ?_⟩
            · rw [eS]
            · rw [eS]; exact hRel.st0
        · refine e_aload_n dX0_ran_34 0 rfl rfl rfl ?_
          refine e_getf (v := (.int (ξ.1 21))) dX0_ran_35 rfl fX0_340 (xm_o0) rfl ?_
          refine e_top (congrArg Value.int (hI.at 21 63 (by decide))) ?_
          refine e_goto 69 dX0_ran_38 (by decide) ?_
          refine e_callV1 (As := [.int (τ.1 63)]) (rest := []) dX0_ran_69 rfl mvX0_215 (xm_o0) rfl (x_gives (τ.1 63)) (Nat.le_of_ble_eq_true rfl) rfl rfl (Nat.le_of_ble_eq_true rfl) (Nat.zero_le _) (Nat.zero_le _) ?_
          refine e_ireturn dX0_ran_72 rfl rfl (Nat.zero_le _) (Nat.zero_le _) ?_
          have eS : sp_ran w τ = (τ.1 63, b0 τ) := by rw [sp_ran, if_neg (fun z => z ⟨i32_nlt h1, h6⟩), if_neg h19, if_pos h31]
          refine ⟨_, _, own, rfl, ?_, ?_⟩
          · rw [eS]
          · rw [eS]; exact hRel.st0
      · refine e_aload_n dX0_ran_22 0 rfl rfl rfl ?_
        refine e_bipush 8 dX0_ran_23 rfl ?_
        refine e_callV1 (As := [.int 8]) (rest := []) dX0_ran_25 rfl mvX0_169 (xm_o0) rfl (x_none 8) (Nat.le_of_ble_eq_true rfl) rfl rfl (Nat.le_of_ble_eq_true rfl) (Nat.zero_le _) (Nat.zero_le _) ?_
        refine e_ireturn dX0_ran_28 rfl rfl (Nat.zero_le _) (Nat.zero_le _) ?_
        have eS : sp_ran w τ = (-1, bE τ 8) := by rw [sp_ran, if_neg (fun z => z ⟨i32_nlt h1, h6⟩), if_pos h19]
        refine ⟨_, _, own, rfl, ?_, ?_⟩
        · rw [eS]
        · rw [eS]; exact hRel.stE 8
    · refine e_aload_n dX0_ran_9 0 rfl rfl rfl ?_
      refine e_iconst 5 dX0_ran_10 rfl ?_
      refine e_callV1 (As := [.int 5]) (rest := []) dX0_ran_11 rfl mvX0_169 (xm_o0) rfl (x_none 5) (Nat.le_of_ble_eq_true rfl) rfl rfl (Nat.le_of_ble_eq_true rfl) (Nat.zero_le _) (Nat.zero_le _) ?_
      refine e_ireturn dX0_ran_14 rfl rfl (Nat.zero_le _) (Nat.zero_le _) ?_
      have eS : sp_ran w τ = (-1, bE τ 5) := by rw [sp_ran, if_pos (fun z => h6 z.2)]
      refine ⟨_, _, own, rfl, ?_, ?_⟩
      · rw [eS]
      · rw [eS]; exact hRel.stE 5

set_option maxHeartbeats 4000000 in
set_option maxRecDepth 100000 in
/-- WheelTables.printed -/
theorem x_printed {ξ : Xs} {mid dyn : List ACell} {τ : Tw} {own : Nat → Nat} (hm : mid.length = 61) (hRel : Rel own ξ dyn τ) (k : Int32) : Ct yX0_printed (ws_ yX0_printed cX0_printed 2 (some .long)) 1 0 0 [.ref 0, .int k] (XM ξ mid dyn) (XQl mid (sp_printed k τ)) noX := by
  obtain ⟨hI, hA, hB, hW, hP, hR, hT, hE, hC, hV⟩ := id hRel
  obtain ⟨hVT, hVJ, hVR, hVF, hVN, hV0⟩ := id hV
  obtain ⟨pm, pq, hpm, epm, hpq, epq, hrun⟩ := id hVR
  refine Ct.of (ini := false) (ls := [some (.ref 0), some (.int k)]) (by decide) (Nat.le_of_ble_eq_true rfl) (fun h => by cases h) rfl ?_
  refine e_aload_n dX0_printed_0 0 rfl rfl rfl ?_
  refine e_getf (v := (.int (ξ.1 25))) dX0_printed_1 rfl fX0_355 (xm_o0) rfl ?_
  refine e_top (congrArg Value.int (hI.at 25 60 (by decide))) ?_
  refine e_if_eq 19 dX0_printed_4 (by decide) (fun h4 => ?_) (fun h4 => ?_)
  · refine e_aload_n dX0_printed_19 0 rfl rfl rfl ?_
    refine e_bipush 8 dX0_printed_20 rfl ?_
    refine e_callV1 (As := [.int 8]) (rest := []) dX0_printed_22 rfl mvX0_169 (xm_o0) rfl (x_none 8) (Nat.le_of_ble_eq_true rfl) rfl rfl (Nat.le_of_ble_eq_true rfl) (Nat.zero_le _) (Nat.zero_le _) ?_
    refine e_i2l dX0_printed_25 ?_
    refine e_lreturn dX0_printed_26 rfl (Nat.zero_le _) (Nat.zero_le _) ?_
    have eS : sp_printed k τ = (-1, bE τ 8) := by rw [sp_printed, if_neg (fun z => absurd z.2 (by rw [hV0 h4]; exact Int32.not_lt.mpr z.1))]
    refine ⟨_, _, own, rfl, ?_, ?_⟩
    · rw [eS]; exact congrArg (fun z => some (Value.long z)) (show ((-1 : Int32).toInt64 : Int64) = -1 by decide)
    · rw [eS]; exact hRel.stE 8
  · refine e_iload_n dX0_printed_7 1 rfl rfl ?_
    refine e_if_lt 19 dX0_printed_8 (by decide) (fun h8 => ?_) (fun h8 => ?_)
    · refine e_aload_n dX0_printed_19 0 rfl rfl rfl ?_
      refine e_bipush 8 dX0_printed_20 rfl ?_
      refine e_callV1 (As := [.int 8]) (rest := []) dX0_printed_22 rfl mvX0_169 (xm_o0) rfl (x_none 8) (Nat.le_of_ble_eq_true rfl) rfl rfl (Nat.le_of_ble_eq_true rfl) (Nat.zero_le _) (Nat.zero_le _) ?_
      refine e_i2l dX0_printed_25 ?_
      refine e_lreturn dX0_printed_26 rfl (Nat.zero_le _) (Nat.zero_le _) ?_
      have eS : sp_printed k τ = (-1, bE τ 8) := by rw [sp_printed, if_neg (fun z => i32_lt h8 z.1)]
      refine ⟨_, _, own, rfl, ?_, ?_⟩
      · rw [eS]; exact congrArg (fun z => some (Value.long z)) (show ((-1 : Int32).toInt64 : Int64) = -1 by decide)
      · rw [eS]; exact hRel.stE 8
    · refine e_iload_n dX0_printed_11 1 rfl rfl ?_
      refine e_aload_n dX0_printed_12 0 rfl rfl rfl ?_
      refine e_getf (v := (.int (ξ.1 20))) dX0_printed_13 rfl fX0_337 (xm_o0) rfl ?_
      refine e_top (congrArg Value.int (hI.at 20 62 (by decide))) ?_
      refine e_icmp_lt 27 dX0_printed_16 (by decide) (fun h16 => ?_) (fun h16 => ?_)
      · obtain ⟨n_k, hn_k, rfl⟩ := in_of (x := k) (n := pm) (by omega) (i32_nlt h8) (by rw [← epm]; exact h16)
        refine e_aload_n dX0_printed_27 0 rfl rfl rfl ?_
        refine e_iconst 0 dX0_printed_28 rfl ?_
        refine e_xputI dX0_printed_29 rfl pX0_145 rfl (xm_o0) (Nat.le_of_ble_eq_true rfl) (xm_f8 _) ?_
        refine e_aload_n dX0_printed_32 0 rfl rfl rfl ?_
        refine e_getf (v := (.ref 14)) dX0_printed_33 rfl fX0_76 (xm_o0) rfl ?_
        refine e_iload_n dX0_printed_36 1 rfl rfl ?_
        refine e_lald (f := ξ.2.2.2.1 19) (j := n_k) dX0_printed_37 (xm_a19) rfl (by omega) (by decide) ?_
        refine e_top (congrArg Value.long (congrFun (hB.at 19 59 (by decide)) _)) ?_
        refine e_lreturn dX0_printed_38 rfl (Nat.zero_le _) (Nat.zero_le _) ?_
        have eS : sp_printed (nI n_k) τ = (τ.2.2.2 59 n_k, b0 τ) := by rw [sp_printed, if_pos ⟨i32_nlt h8, by rw [epm]; exact (nI_ltN (by omega) (by omega)).mpr hn_k⟩, ix_nI (by omega)]
        refine ⟨_, _, own, rfl, ?_, ?_⟩
        · rw [eS]; first | done | rfl
        · rw [eS]; exact hRel.st0
      · refine e_aload_n dX0_printed_19 0 rfl rfl rfl ?_
        refine e_bipush 8 dX0_printed_20 rfl ?_
        refine e_callV1 (As := [.int 8]) (rest := []) dX0_printed_22 rfl mvX0_169 (xm_o0) rfl (x_none 8) (Nat.le_of_ble_eq_true rfl) rfl rfl (Nat.le_of_ble_eq_true rfl) (Nat.zero_le _) (Nat.zero_le _) ?_
        refine e_i2l dX0_printed_25 ?_
        refine e_lreturn dX0_printed_26 rfl (Nat.zero_le _) (Nat.zero_le _) ?_
        have eS : sp_printed k τ = (-1, bE τ 8) := by rw [sp_printed, if_neg (fun z => h16 z.2)]
        refine ⟨_, _, own, rfl, ?_, ?_⟩
        · rw [eS]; exact congrArg (fun z => some (Value.long z)) (show ((-1 : Int32).toInt64 : Int64) = -1 by decide)
        · rw [eS]; exact hRel.stE 8

theorem lt20 {x : Int32} : x < 20 ↔ x ≤ 19 := by
  rw [Int32.lt_iff_toInt_lt, Int32.le_iff_toInt_le, show (20 : Int32).toInt = 20 from rfl, show (19 : Int32).toInt = 19 from rfl]; omega
set_option maxHeartbeats 4000000 in
set_option maxRecDepth 100000 in
/-- WheelTables.place -/
theorem x_place {ξ : Xs} {mid dyn : List ACell} {τ : Tw} {own : Nat → Nat} (hm : mid.length = 61) (hRel : Rel own ξ dyn τ) (k : Int32) : Ct yX0_place (ws_ yX0_place cX0_place 2 (some .long)) 1 0 0 [.ref 0, .int k] (XM ξ mid dyn) (XQl mid (sp_place k τ)) noX := by
  obtain ⟨hI, hA, hB, hW, hP, hR, hT, hE, hC, hV⟩ := id hRel
  obtain ⟨hVT, hVJ, hVR, hVF, hVN, hV0⟩ := id hV
  refine Ct.of (ini := false) (ls := [some (.ref 0), some (.int k)]) (by decide) (Nat.le_of_ble_eq_true rfl) (fun h => by cases h) rfl ?_
  refine e_iload_n dX0_place_0 1 rfl rfl ?_
  refine e_if_lt 10 dX0_place_1 (by decide) (fun h1 => ?_) (fun h1 => ?_)
  · refine e_aload_n dX0_place_10 0 rfl rfl rfl ?_
    refine e_iconst 2 dX0_place_11 rfl ?_
    refine e_callV1 (As := [.int 2]) (rest := []) dX0_place_12 rfl mvX0_169 (xm_o0) rfl (x_none 2) (Nat.le_of_ble_eq_true rfl) rfl rfl (Nat.le_of_ble_eq_true rfl) (Nat.zero_le _) (Nat.zero_le _) ?_
    refine e_i2l dX0_place_15 ?_
    refine e_lreturn dX0_place_16 rfl (Nat.zero_le _) (Nat.zero_le _) ?_
    have eS : sp_place k τ = (-1, bE τ 2) := by rw [sp_place, if_pos (fun z => i32_lt h1 z.1)]
    refine ⟨_, _, own, rfl, ?_, ?_⟩
    · rw [eS]; exact congrArg (fun z => some (Value.long z)) (show ((-1 : Int32).toInt64 : Int64) = -1 by decide)
    · rw [eS]; exact hRel.stE 2
  · refine e_iload_n dX0_place_4 1 rfl rfl ?_
    refine e_bipush 20 dX0_place_5 rfl ?_
    refine e_icmp_lt 17 dX0_place_7 (by decide) (fun h7 => ?_) (fun h7 => ?_)
    · refine e_aload_n dX0_place_17 0 rfl rfl rfl ?_
      refine e_getf (v := (.int (ξ.1 25))) dX0_place_18 rfl fX0_355 (xm_o0) rfl ?_
      refine e_top (congrArg Value.int (hI.at 25 60 (by decide))) ?_
      refine e_if_ne 32 dX0_place_21 (by decide) (fun h21 => ?_) (fun h21 => ?_)
      · refine e_aload_n dX0_place_32 0 rfl rfl rfl ?_
        refine e_iconst 0 dX0_place_33 rfl ?_
        refine e_xputI dX0_place_34 rfl pX0_145 rfl (xm_o0) (Nat.le_of_ble_eq_true rfl) (xm_f8 _) ?_
        refine e_aload_n dX0_place_37 0 rfl rfl rfl ?_
        refine e_getf (v := (.ref 13)) dX0_place_38 rfl fX0_73 (xm_o0) rfl ?_
        refine e_iload_n dX0_place_41 1 rfl rfl ?_
        obtain ⟨n_k, hn_k, rfl⟩ := in_lt (x := k) 20 (by decide) h1 h7
        refine e_lald (f := ξ.2.2.2.1 18) (j := n_k) dX0_place_42 (xm_a18) rfl (by omega) (by decide) ?_
        refine e_top (congrArg Value.long (congrFun (hB.at 18 58 (by decide)) _)) ?_
        refine e_lreturn dX0_place_43 rfl (Nat.zero_le _) (Nat.zero_le _) ?_
        have eS : sp_place (nI n_k) τ = (τ.2.2.2 58 n_k, b0 τ) := by rw [sp_place, if_neg (fun z => z ⟨i32_nlt h1, lt20.mp h7⟩), if_neg h21, ix_nI (by omega)]
        refine ⟨_, _, own, rfl, ?_, ?_⟩
        · rw [eS]; first | done | rfl
        · rw [eS]; exact hRel.st0
      · refine e_aload_n dX0_place_24 0 rfl rfl rfl ?_
        refine e_bipush 8 dX0_place_25 rfl ?_
        refine e_callV1 (As := [.int 8]) (rest := []) dX0_place_27 rfl mvX0_169 (xm_o0) rfl (x_none 8) (Nat.le_of_ble_eq_true rfl) rfl rfl (Nat.le_of_ble_eq_true rfl) (Nat.zero_le _) (Nat.zero_le _) ?_
        refine e_i2l dX0_place_30 ?_
        refine e_lreturn dX0_place_31 rfl (Nat.zero_le _) (Nat.zero_le _) ?_
        have eS : sp_place k τ = (-1, bE τ 8) := by rw [sp_place, if_neg (fun z => z ⟨i32_nlt h1, lt20.mp h7⟩), if_pos h21]
        refine ⟨_, _, own, rfl, ?_, ?_⟩
        · rw [eS]; exact congrArg (fun z => some (Value.long z)) (show ((-1 : Int32).toInt64 : Int64) = -1 by decide)
        · rw [eS]; exact hRel.stE 8
    · refine e_aload_n dX0_place_10 0 rfl rfl rfl ?_
      refine e_iconst 2 dX0_place_11 rfl ?_
      refine e_callV1 (As := [.int 2]) (rest := []) dX0_place_12 rfl mvX0_169 (xm_o0) rfl (x_none 2) (Nat.le_of_ble_eq_true rfl) rfl rfl (Nat.le_of_ble_eq_true rfl) (Nat.zero_le _) (Nat.zero_le _) ?_
      refine e_i2l dX0_place_15 ?_
      refine e_lreturn dX0_place_16 rfl (Nat.zero_le _) (Nat.zero_le _) ?_
      have eS : sp_place k τ = (-1, bE τ 2) := by rw [sp_place, if_pos (fun z => h7 (lt20.mpr z.2))]
      refine ⟨_, _, own, rfl, ?_, ?_⟩
      · rw [eS]; exact congrArg (fun z => some (Value.long z)) (show ((-1 : Int32).toInt64 : Int64) = -1 by decide)
      · rw [eS]; exact hRel.stE 2

theorem lt2 {x : Int32} (h : 1 < x) : 2 ≤ x := by
  rw [Int32.lt_iff_toInt_lt, show (1 : Int32).toInt = 1 from rfl] at h
  rw [Int32.le_iff_toInt_le, show (2 : Int32).toInt = 2 from rfl]; omega
set_option maxHeartbeats 4000000 in
set_option maxRecDepth 100000 in
/-- WheelTables.right -/
theorem x_right {ξ : Xs} {mid dyn : List ACell} {τ : Tw} {own : Nat → Nat} (hm : mid.length = 61) (hRel : Rel own ξ dyn τ) (j w : Int32) : Ct yX0_right (ws_ yX0_right cX0_right 3 (some .int)) 1 0 0 [.ref 0, .int j, .int w] (XM ξ mid dyn) (XQi mid (sp_right j w τ)) noX := by
  obtain ⟨hI, hA, hB, hW, hP, hR, hT, hE, hC, hV⟩ := id hRel
  obtain ⟨q, hq, eq, hR1, hR2⟩ := id hR
  refine Ct.of (ini := false) (ls := [some (.ref 0), some (.int j), some (.int w)]) (by decide) (Nat.le_of_ble_eq_true rfl) (fun h => by cases h) rfl ?_
  refine e_iload_n dX0_right_0 2 rfl rfl ?_
  refine e_if_lt 9 dX0_right_1 (by decide) (fun h1 => ?_) (fun h1 => ?_)
  · refine e_aload_n dX0_right_9 0 rfl rfl rfl ?_
    refine e_iconst 5 dX0_right_10 rfl ?_
    refine e_callV1 (As := [.int 5]) (rest := []) dX0_right_11 rfl mvX0_169 (xm_o0) rfl (x_none 5) (Nat.le_of_ble_eq_true rfl) rfl rfl (Nat.le_of_ble_eq_true rfl) (Nat.zero_le _) (Nat.zero_le _) ?_
    refine e_ireturn dX0_right_14 rfl rfl (Nat.zero_le _) (Nat.zero_le _) ?_
    have eS : sp_right j w τ = (-1, bE τ 5) := by rw [sp_right, if_pos (fun z => i32_lt h1 z.1)]
    refine ⟨_, _, own, rfl, ?_, ?_⟩
    · rw [eS]
    · rw [eS]; exact hRel.stE 5
  · refine e_iload_n dX0_right_4 2 rfl rfl ?_
    refine e_iconst 1 dX0_right_5 rfl ?_
    refine e_icmp_le 15 dX0_right_6 (by decide) (fun h6 => ?_) (fun h6 => ?_)
    · refine e_iload_n dX0_right_15 1 rfl rfl ?_
      refine e_if_lt 34 dX0_right_16 (by decide) (fun h16 => ?_) (fun h16 => ?_)
      · refine e_aload_n dX0_right_34 0 rfl rfl rfl ?_
        refine e_bipush 8 dX0_right_35 rfl ?_
        refine e_callV1 (As := [.int 8]) (rest := []) dX0_right_37 rfl mvX0_169 (xm_o0) rfl (x_none 8) (Nat.le_of_ble_eq_true rfl) rfl rfl (Nat.le_of_ble_eq_true rfl) (Nat.zero_le _) (Nat.zero_le _) ?_
        refine e_ireturn dX0_right_40 rfl rfl (Nat.zero_le _) (Nat.zero_le _) ?_
        have eS : sp_right j w τ = (-1, bE τ 8) := by rw [sp_right, if_neg (fun z => z ⟨i32_nlt h1, h6⟩), if_pos (fun z => i32_lt h16 z.1)]
        refine ⟨_, _, own, rfl, ?_, ?_⟩
        · rw [eS]
        · rw [eS]; exact hRel.stE 8
      · refine e_iload_n dX0_right_19 1 rfl rfl ?_
        refine e_iconst 1 dX0_right_20 rfl ?_
        refine e_icmp_gt 34 dX0_right_21 (by decide) (fun h21 => ?_) (fun h21 => ?_)
        · refine e_aload_n dX0_right_34 0 rfl rfl rfl ?_
          refine e_bipush 8 dX0_right_35 rfl ?_
          refine e_callV1 (As := [.int 8]) (rest := []) dX0_right_37 rfl mvX0_169 (xm_o0) rfl (x_none 8) (Nat.le_of_ble_eq_true rfl) rfl rfl (Nat.le_of_ble_eq_true rfl) (Nat.zero_le _) (Nat.zero_le _) ?_
          refine e_ireturn dX0_right_40 rfl rfl (Nat.zero_le _) (Nat.zero_le _) ?_
          have eS : sp_right j w τ = (-1, bE τ 8) := by rw [sp_right, if_neg (fun z => z ⟨i32_nlt h1, h6⟩), if_pos (show ¬ (0 ≤ j ∧ j < τ.1 74) from fun z => absurd (Int32.lt_of_lt_of_le (Int32.lt_of_lt_of_le z.2 (show τ.1 74 ≤ 2 by rw [eq]; exact (nI_leN (b := 2) (by omega) (by omega)).mpr hq)) (lt2 h21)) Int32.lt_irrefl)]
          refine ⟨_, _, own, rfl, ?_, ?_⟩
          · rw [eS]
          · rw [eS]; exact hRel.stE 8
        · refine e_aload_n dX0_right_24 0 rfl rfl rfl ?_
          refine e_getf (v := (.ref 37)) dX0_right_25 rfl fX0_99 (xm_o0) rfl ?_
          refine e_iload_n dX0_right_28 1 rfl rfl ?_
          obtain ⟨n_j, hn_j, rfl⟩ := in_ngt (x := j) 1 (by decide) h16 h21
          refine e_iald (f := ξ.2.2.1 33) (j := n_j) dX0_right_29 (xm_a33) rfl (by omega) (by decide) ?_
          refine e_iconst (-1) dX0_right_30 rfl ?_
          refine e_icmp_ne 41 dX0_right_31 (by decide) (fun h31 => ?_) (fun h31 => ?_)
          · refine e_aload_n dX0_right_41 0 rfl rfl rfl ?_
            refine e_iload_n dX0_right_42 2 rfl rfl ?_
            refine e_if_ne 55 dX0_right_43 (by decide) (fun h43 => ?_) (fun h43 => ?_)
            · refine e_aload_n dX0_right_55 0 rfl rfl rfl ?_
              refine e_getf (v := (.ref 38)) dX0_right_56 rfl fX0_102 (xm_o0) rfl ?_
              refine e_iload_n dX0_right_59 1 rfl rfl ?_
              refine e_iald (f := ξ.2.2.1 34) (j := n_j) dX0_right_60 (xm_a34) rfl (by omega) (by decide) ?_
              refine e_callV1 (As := [.int (ξ.2.2.1 34 n_j)]) (rest := []) dX0_right_61 rfl mvX0_215 (xm_o0) rfl (x_gives (ξ.2.2.1 34 n_j)) (Nat.le_of_ble_eq_true rfl) rfl rfl (Nat.le_of_ble_eq_true rfl) (Nat.zero_le _) (Nat.zero_le _) ?_
              refine e_ireturn dX0_right_64 rfl rfl (Nat.zero_le _) (Nat.zero_le _) ?_
              have hjq : n_j < q := by
                rcases Nat.lt_or_ge n_j q with h | h
                · exact h
                · exact absurd (hR2 n_j h (by omega)) h31
              have eS : sp_right (nI n_j) w τ = (ξ.2.2.1 34 n_j, b0 τ) := by rw [sp_right, if_neg (fun z => z ⟨i32_nlt h1, h6⟩), if_neg (fun z => z (show 0 ≤ nI n_j ∧ nI n_j < τ.1 74 from ⟨i32_nlt h16, by rw [eq]; exact (nI_ltN (by omega) (by omega)).mpr hjq⟩)), if_neg h43, ix_nI (by omega), (hR1 n_j hjq).2.2]
              refine ⟨_, _, own, rfl, ?_, ?_⟩
              · rw [eS]
              · rw [eS]; exact hRel.st0
            · refine e_aload_n dX0_right_46 0 rfl rfl rfl ?_
              refine e_getf (v := (.ref 37)) dX0_right_47 rfl fX0_99 (xm_o0) rfl ?_
              refine e_iload_n dX0_right_50 1 rfl rfl ?_
              refine e_iald (f := ξ.2.2.1 33) (j := n_j) dX0_right_51 (xm_a33) rfl (by omega) (by decide) ?_
              refine e_goto 61 dX0_right_52 (by decide) ?_
              refine e_callV1 (As := [.int (ξ.2.2.1 33 n_j)]) (rest := []) dX0_right_61 rfl mvX0_215 (xm_o0) rfl (x_gives (ξ.2.2.1 33 n_j)) (Nat.le_of_ble_eq_true rfl) rfl rfl (Nat.le_of_ble_eq_true rfl) (Nat.zero_le _) (Nat.zero_le _) ?_
              refine e_ireturn dX0_right_64 rfl rfl (Nat.zero_le _) (Nat.zero_le _) ?_
              have hjq : n_j < q := by
                rcases Nat.lt_or_ge n_j q with h | h
                · exact h
                · exact absurd (hR2 n_j h (by omega)) h31
              have eS : sp_right (nI n_j) w τ = (ξ.2.2.1 33 n_j, b0 τ) := by rw [sp_right, if_neg (fun z => z ⟨i32_nlt h1, h6⟩), if_neg (fun z => z (show 0 ≤ nI n_j ∧ nI n_j < τ.1 74 from ⟨i32_nlt h16, by rw [eq]; exact (nI_ltN (by omega) (by omega)).mpr hjq⟩)), if_pos h43, ix_nI (by omega), (hR1 n_j hjq).1]
              refine ⟨_, _, own, rfl, ?_, ?_⟩
              · rw [eS]
              · rw [eS]; exact hRel.st0
          · refine e_aload_n dX0_right_34 0 rfl rfl rfl ?_
            refine e_bipush 8 dX0_right_35 rfl ?_
            refine e_callV1 (As := [.int 8]) (rest := []) dX0_right_37 rfl mvX0_169 (xm_o0) rfl (x_none 8) (Nat.le_of_ble_eq_true rfl) rfl rfl (Nat.le_of_ble_eq_true rfl) (Nat.zero_le _) (Nat.zero_le _) ?_
            refine e_ireturn dX0_right_40 rfl rfl (Nat.zero_le _) (Nat.zero_le _) ?_
            have eS : sp_right (nI n_j) w τ = (-1, bE τ 8) := by rw [sp_right, if_neg (fun z => z ⟨i32_nlt h1, h6⟩), if_pos (show ¬ (0 ≤ nI n_j ∧ nI n_j < τ.1 74) from fun z => absurd h31 (hR1 n_j ((nI_ltN (by omega) (by omega)).mp (by rw [← eq]; exact z.2))).2.1)]
            refine ⟨_, _, own, rfl, ?_, ?_⟩
            · rw [eS]
            · rw [eS]; exact hRel.stE 8
    · refine e_aload_n dX0_right_9 0 rfl rfl rfl ?_
      refine e_iconst 5 dX0_right_10 rfl ?_
      refine e_callV1 (As := [.int 5]) (rest := []) dX0_right_11 rfl mvX0_169 (xm_o0) rfl (x_none 5) (Nat.le_of_ble_eq_true rfl) rfl rfl (Nat.le_of_ble_eq_true rfl) (Nat.zero_le _) (Nat.zero_le _) ?_
      refine e_ireturn dX0_right_14 rfl rfl (Nat.zero_le _) (Nat.zero_le _) ?_
      have eS : sp_right j w τ = (-1, bE τ 5) := by rw [sp_right, if_pos (fun z => h6 z.2)]
      refine ⟨_, _, own, rfl, ?_, ?_⟩
      · rw [eS]
      · rw [eS]; exact hRel.stE 5

set_option maxHeartbeats 4000000 in
set_option maxRecDepth 100000 in
/-- WheelTables.fault -/
theorem x_fault {ξ : Xs} {mid dyn : List ACell} {τ : Tw} {own : Nat → Nat} (hm : mid.length = 61) (hRel : Rel own ξ dyn τ) (w : Int32) : Ct yX0_fault (ws_ yX0_fault cX0_fault 2 (some .int)) 1 0 0 [.ref 0, .int w] (XM ξ mid dyn) (XQi mid (sp_fault w τ)) noX := by
  obtain ⟨hI, hA, hB, hW, hP, hR, hT, hE, hC, hV⟩ := id hRel
  refine Ct.of (ini := false) (ls := [some (.ref 0), some (.int w)]) (by decide) (Nat.le_of_ble_eq_true rfl) (fun h => by cases h) rfl ?_
  refine e_iload_n dX0_fault_0 1 rfl rfl ?_
  refine e_if_ne 11 dX0_fault_1 (by decide) (fun h1 => ?_) (fun h1 => ?_)
  · refine e_iload_n dX0_fault_11 1 rfl rfl ?_
    refine e_iconst 1 dX0_fault_12 rfl ?_
    refine e_icmp_ne 23 dX0_fault_13 (by decide) (fun h13 => ?_) (fun h13 => ?_)
    · refine e_iconst (-1) dX0_fault_23 rfl ?_
      refine e_ireturn dX0_fault_24 rfl rfl (Nat.zero_le _) (Nat.zero_le _) ?_
      have eS : sp_fault w τ = (-1, b1 τ) := by rw [sp_fault, if_neg h1, if_neg h13]
      refine ⟨_, _, own, rfl, ?_, ?_⟩
      · rw [eS]
      · rw [eS]; exact hRel.b1
    · refine e_aload_n dX0_fault_16 0 rfl rfl rfl ?_
      refine e_getf (v := (.int (ξ.1 10))) dX0_fault_17 rfl fX0_53 (xm_o0) rfl ?_
      refine e_top (congrArg Value.int (hI.at 10 32 (by decide))) ?_
      refine e_goto 24 dX0_fault_20 (by decide) ?_
      refine e_ireturn dX0_fault_24 rfl rfl (Nat.zero_le _) (Nat.zero_le _) ?_
      have eS : sp_fault w τ = (τ.1 32, b1 τ) := by rw [sp_fault, if_neg h1, if_pos h13]
      refine ⟨_, _, own, rfl, ?_, ?_⟩
      · rw [eS]
      · rw [eS]; exact hRel.b1
  · refine e_aload_n dX0_fault_4 0 rfl rfl rfl ?_
    refine e_getf (v := (.int (ξ.1 9))) dX0_fault_5 rfl fX0_50 (xm_o0) rfl ?_
    refine e_top (congrArg Value.int (hI.at 9 31 (by decide))) ?_
    refine e_goto 24 dX0_fault_8 (by decide) ?_
    refine e_ireturn dX0_fault_24 rfl rfl (Nat.zero_le _) (Nat.zero_le _) ?_
    have eS : sp_fault w τ = (τ.1 31, b1 τ) := by rw [sp_fault, if_pos h1]
    refine ⟨_, _, own, rfl, ?_, ?_⟩
    · rw [eS]
    · rw [eS]; exact hRel.b1

set_option maxHeartbeats 4000000 in
set_option maxRecDepth 100000 in
/-- WheelTables.four -/
theorem x_four {ξ : Xs} {mid dyn : List ACell} {t : Nat} (ht : t + 4 ≤ 500) (e101 : ξ.1 101 = nI t) (v : Int32) : Ct yX0_four (ws_ yX0_four cX0_four 3 none) 0 0 0 [.ref 0, .int v] (XM ξ mid dyn) (fun v0 N => v0 = none ∧ ∃ ξ1, N = XM ξ1 mid dyn ∧ ξ1.1 101 = nI (t + 4) ∧ ξ1.2.2.1 100 = layN (ξ.2.2.1 100) t v ∧ (∀ k, ¬ k = 101 → ξ1.1 k = ξ.1 k) ∧ (∀ k, ¬ k = 100 → ξ1.2.2.1 k = ξ.2.2.1 k) ∧ ξ1.2.1 = ξ.2.1 ∧ ξ1.2.2.2 = ξ.2.2.2) noX := by
  refine Ct.of (ini := false) (ls := [some (.ref 0), some (.int v), none]) (by decide) (Nat.le_of_ble_eq_true rfl) (fun h => by cases h) rfl ?_
  refine e_bipush 24 dX0_four_0 rfl ?_
  refine e_istore_n dX0_four_2 2 rfl (ls_s (ls_1 rfl)) (Nat.le_of_ble_eq_true rfl) ?_
  refine e_iload_n dX0_four_3 2 rfl rfl ?_
  refine e_if_lt_f (by decide) 45 dX0_four_4 (by decide) ?_
  refine e_aload_n dX0_four_7 0 rfl rfl rfl ?_
  refine e_getf (v := (.ref 4)) dX0_four_8 rfl fX0_33 (xm_o0) rfl ?_
  refine e_getf (v := (.ref 5)) dX0_four_11 rfl fX0_323 (xm_o4) rfl ?_
  refine e_aload_n dX0_four_14 0 rfl rfl rfl ?_
  refine e_getf (v := (.ref 4)) dX0_four_15 rfl fX0_33 (xm_o0) rfl ?_
  refine e_getf (v := (.int (ξ.1 101))) dX0_four_18 rfl fX0_317 (xm_o4) rfl ?_
  refine e_top (congrArg Value.int e101) ?_
  refine e_iload_n dX0_four_21 1 rfl rfl ?_
  refine e_iload_n dX0_four_22 2 rfl rfl ?_
  refine e_ishr dX0_four_23 ?_
  refine e_i2b dX0_four_24 ?_
  refine e_bast (f := ξ.2.2.1 100) (j := t) dX0_four_25 (xm_a100) rfl (by omega) (by decide) ?_
  rw [xm_s100]
  refine e_aload_n dX0_four_26 0 rfl rfl rfl ?_
  refine e_getf (v := (.ref 4)) dX0_four_27 rfl fX0_33 (xm_o0) rfl ?_
  refine e_dup dX0_four_30 rfl ?_
  refine e_getf (v := (.int (ξ.1 101))) dX0_four_31 rfl fX0_317 (xm_o4) rfl ?_
  refine e_top (congrArg Value.int e101) ?_
  refine e_iconst 1 dX0_four_34 rfl ?_
  refine e_iaddN t 1 dX0_four_35 ?_
  refine e_xputI dX0_four_36 rfl pX0_317 rfl (xm_o4) (Nat.le_of_ble_eq_true rfl) (xm_f101 _) ?_
  refine e_iinc 16 dX0_four_39 rfl (by decide) (ls_s (ls_1 rfl)) (Nat.le_of_ble_eq_true rfl) ?_
  refine e_goto 3 dX0_four_42 (by decide) ?_
  refine e_iload_n dX0_four_3 2 rfl rfl ?_
  refine e_if_lt_f (by decide) 45 dX0_four_4 (by decide) ?_
  refine e_aload_n dX0_four_7 0 rfl rfl rfl ?_
  refine e_getf (v := (.ref 4)) dX0_four_8 rfl fX0_33 (xm_o0) rfl ?_
  refine e_getf (v := (.ref 5)) dX0_four_11 rfl fX0_323 (xm_o4) rfl ?_
  refine e_aload_n dX0_four_14 0 rfl rfl rfl ?_
  refine e_getf (v := (.ref 4)) dX0_four_15 rfl fX0_33 (xm_o0) rfl ?_
  refine e_getf (v := (.int (nI (t + 1)))) dX0_four_18 rfl fX0_317 (xm_o4) rfl ?_
  refine e_iload_n dX0_four_21 1 rfl rfl ?_
  refine e_iload_n dX0_four_22 2 rfl rfl ?_
  refine e_ishr dX0_four_23 ?_
  refine e_i2b dX0_four_24 ?_
  refine e_bast (f := (upd (ξ.2.2.1 100) t (vp_nar .byte ((v >>> (24 &&& 31)).toInt8.toInt32)))) (j := t + 1) dX0_four_25 (xm_a100) rfl (by omega) (by decide) ?_
  rw [xm_s100]
  refine e_aload_n dX0_four_26 0 rfl rfl rfl ?_
  refine e_getf (v := (.ref 4)) dX0_four_27 rfl fX0_33 (xm_o0) rfl ?_
  refine e_dup dX0_four_30 rfl ?_
  refine e_getf (v := (.int (nI (t + 1)))) dX0_four_31 rfl fX0_317 (xm_o4) rfl ?_
  refine e_iconst 1 dX0_four_34 rfl ?_
  refine e_iaddN (t + 1) 1 dX0_four_35 ?_
  refine e_xputI dX0_four_36 rfl pX0_317 rfl (xm_o4) (Nat.le_of_ble_eq_true rfl) (xm_f101 _) ?_
  refine e_iinc 8 dX0_four_39 rfl (by decide) (ls_s (ls_1 rfl)) (Nat.le_of_ble_eq_true rfl) ?_
  refine e_goto 3 dX0_four_42 (by decide) ?_
  refine e_iload_n dX0_four_3 2 rfl rfl ?_
  refine e_if_lt_f (by decide) 45 dX0_four_4 (by decide) ?_
  refine e_aload_n dX0_four_7 0 rfl rfl rfl ?_
  refine e_getf (v := (.ref 4)) dX0_four_8 rfl fX0_33 (xm_o0) rfl ?_
  refine e_getf (v := (.ref 5)) dX0_four_11 rfl fX0_323 (xm_o4) rfl ?_
  refine e_aload_n dX0_four_14 0 rfl rfl rfl ?_
  refine e_getf (v := (.ref 4)) dX0_four_15 rfl fX0_33 (xm_o0) rfl ?_
  refine e_getf (v := (.int (nI ((t + 1) + 1)))) dX0_four_18 rfl fX0_317 (xm_o4) rfl ?_
  refine e_iload_n dX0_four_21 1 rfl rfl ?_
  refine e_iload_n dX0_four_22 2 rfl rfl ?_
  refine e_ishr dX0_four_23 ?_
  refine e_i2b dX0_four_24 ?_
  refine e_bast (f := (upd (upd (ξ.2.2.1 100) t (vp_nar .byte ((v >>> (24 &&& 31)).toInt8.toInt32))) (t + 1) (vp_nar .byte ((v >>> (16 &&& 31)).toInt8.toInt32)))) (j := (t + 1) + 1) dX0_four_25 (xm_a100) rfl (by omega) (by decide) ?_
  rw [xm_s100]
  refine e_aload_n dX0_four_26 0 rfl rfl rfl ?_
  refine e_getf (v := (.ref 4)) dX0_four_27 rfl fX0_33 (xm_o0) rfl ?_
  refine e_dup dX0_four_30 rfl ?_
  refine e_getf (v := (.int (nI ((t + 1) + 1)))) dX0_four_31 rfl fX0_317 (xm_o4) rfl ?_
  refine e_iconst 1 dX0_four_34 rfl ?_
  refine e_iaddN ((t + 1) + 1) 1 dX0_four_35 ?_
  refine e_xputI dX0_four_36 rfl pX0_317 rfl (xm_o4) (Nat.le_of_ble_eq_true rfl) (xm_f101 _) ?_
  refine e_iinc 0 dX0_four_39 rfl (by decide) (ls_s (ls_1 rfl)) (Nat.le_of_ble_eq_true rfl) ?_
  refine e_goto 3 dX0_four_42 (by decide) ?_
  refine e_iload_n dX0_four_3 2 rfl rfl ?_
  refine e_if_lt_f (by decide) 45 dX0_four_4 (by decide) ?_
  refine e_aload_n dX0_four_7 0 rfl rfl rfl ?_
  refine e_getf (v := (.ref 4)) dX0_four_8 rfl fX0_33 (xm_o0) rfl ?_
  refine e_getf (v := (.ref 5)) dX0_four_11 rfl fX0_323 (xm_o4) rfl ?_
  refine e_aload_n dX0_four_14 0 rfl rfl rfl ?_
  refine e_getf (v := (.ref 4)) dX0_four_15 rfl fX0_33 (xm_o0) rfl ?_
  refine e_getf (v := (.int (nI (((t + 1) + 1) + 1)))) dX0_four_18 rfl fX0_317 (xm_o4) rfl ?_
  refine e_iload_n dX0_four_21 1 rfl rfl ?_
  refine e_iload_n dX0_four_22 2 rfl rfl ?_
  refine e_ishr dX0_four_23 ?_
  refine e_i2b dX0_four_24 ?_
  refine e_bast (f := (upd (upd (upd (ξ.2.2.1 100) t (vp_nar .byte ((v >>> (24 &&& 31)).toInt8.toInt32))) (t + 1) (vp_nar .byte ((v >>> (16 &&& 31)).toInt8.toInt32))) ((t + 1) + 1) (vp_nar .byte ((v >>> (8 &&& 31)).toInt8.toInt32)))) (j := ((t + 1) + 1) + 1) dX0_four_25 (xm_a100) rfl (by omega) (by decide) ?_
  rw [xm_s100]
  refine e_aload_n dX0_four_26 0 rfl rfl rfl ?_
  refine e_getf (v := (.ref 4)) dX0_four_27 rfl fX0_33 (xm_o0) rfl ?_
  refine e_dup dX0_four_30 rfl ?_
  refine e_getf (v := (.int (nI (((t + 1) + 1) + 1)))) dX0_four_31 rfl fX0_317 (xm_o4) rfl ?_
  refine e_iconst 1 dX0_four_34 rfl ?_
  refine e_iaddN (((t + 1) + 1) + 1) 1 dX0_four_35 ?_
  refine e_xputI dX0_four_36 rfl pX0_317 rfl (xm_o4) (Nat.le_of_ble_eq_true rfl) (xm_f101 _) ?_
  refine e_iinc (-8) dX0_four_39 rfl (by decide) (ls_s (ls_1 rfl)) (Nat.le_of_ble_eq_true rfl) ?_
  refine e_goto 3 dX0_four_42 (by decide) ?_
  refine e_iload_n dX0_four_3 2 rfl rfl ?_
  refine e_if_lt_t 45 (by decide) dX0_four_4 (by decide) ?_
  refine e_return dX0_four_45 rfl (Nat.zero_le _) (Nat.zero_le _) ?_
  refine ⟨rfl, _, rfl, rfl, rfl, fun k hk => ?_, fun k hk => ?_, rfl, rfl⟩
  · show upd (upd (upd (upd ξ.1 101 _) 101 _) 101 _) 101 _ k = _
    rw [pk_un hk, pk_un hk, pk_un hk, pk_un hk]
  · show va_up (va_up (va_up (va_up ξ.2.2.1 100 _) 100 _) 100 _) 100 _ k = _
    rw [va_up_ne _ _ hk, va_up_ne _ _ hk, va_up_ne _ _ hk, va_up_ne _ _ hk]

