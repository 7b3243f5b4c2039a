/-! ===== the component: engines, the face ===== -/
set_option maxHeartbeats 4000000 in
set_option maxRecDepth 100000 in
/-- WheelTables.isEngine -/
theorem x_isEngine {ξ : Xs} {mid dyn : List ACell} {τ : Tw} {own : Nat → Nat} (hm : mid.length = 61) (hRel : Rel own ξ dyn τ) (e : Int32) : Ct yX0_isEngine (ws_ yX0_isEngine cX0_isEngine 2 (some .boolean)) 0 0 0 [.ref 0, .int e] (XM ξ mid dyn) (QB (IsE e τ) (XM ξ mid dyn)) noX := by
  obtain ⟨hI, hA, hB, hW, hP, hR, hT, hE, hC, hV⟩ := id hRel
  have hI4 := hE.1.1
  refine Ct.of (ini := false) (ls := [some (.ref 0), some (.int e)]) (by decide) (Nat.le_of_ble_eq_true rfl) (fun h => by cases h) rfl ?_
  refine e_iload_n dX0_isEngine_0 1 rfl rfl ?_
  refine e_if_lt 16 dX0_isEngine_1 (by decide) (fun h1 => ?_) (fun h1 => ?_)
  · refine e_iconst 0 dX0_isEngine_16 rfl ?_
    refine e_ireturn dX0_isEngine_17 rfl rfl (Nat.zero_le _) (Nat.zero_le _) ?_
    exact ⟨rfl, Or.inr ⟨fun z => i32_lt h1 z.1, rfl⟩⟩
  · refine e_iload_n dX0_isEngine_4 1 rfl rfl ?_
    refine e_aload_n dX0_isEngine_5 0 rfl rfl rfl ?_
    refine e_getf (v := (.int (ξ.1 6))) dX0_isEngine_6 rfl fX0_193 (xm_o0) rfl ?_
    refine e_top (congrArg Value.int (hI.at 6 5 (by decide))) ?_
    refine e_icmp_ge 16 dX0_isEngine_9 (by decide) (fun h9 => ?_) (fun h9 => ?_)
    · refine e_iconst 0 dX0_isEngine_16 rfl ?_
      refine e_ireturn dX0_isEngine_17 rfl rfl (Nat.zero_le _) (Nat.zero_le _) ?_
      exact ⟨rfl, Or.inr ⟨fun z => absurd z.2 (Int32.not_lt.mpr h9), rfl⟩⟩
    · refine e_iconst 1 dX0_isEngine_12 rfl ?_
      refine e_goto 17 dX0_isEngine_13 (by decide) ?_
      refine e_ireturn dX0_isEngine_17 rfl rfl (Nat.zero_le _) (Nat.zero_le _) ?_
      exact ⟨rfl, Or.inl ⟨⟨i32_nlt h1, i32_nle h9⟩, rfl⟩⟩

set_option maxHeartbeats 4000000 in
set_option maxRecDepth 100000 in
/-- WheelTables.isWheel -/
theorem x_isWheel {ξ : Xs} {mid dyn : List ACell} {τ : Tw} {own : Nat → Nat} (hm : mid.length = 61) (hRel : Rel own ξ dyn τ) (e x w : Int32) : Ct yX0_isWheel (ws_ yX0_isWheel cX0_isWheel 4 (some .boolean)) 1 0 0 [.ref 0, .int e, .int x, .int w] (XM ξ mid dyn) (QB (IsWh e x w τ) (XM ξ mid dyn)) noX := by
  obtain ⟨hI, hA, hB, hW, hP, hR, hT, hE, hC, hV⟩ := id hRel
  have hI4 := hE.1.1
  refine Ct.of (ini := false) (ls := [some (.ref 0), some (.int e), some (.int x), some (.int w)]) (by decide) (Nat.le_of_ble_eq_true rfl) (fun h => by cases h) rfl ?_
  refine e_aload_n dX0_isWheel_0 0 rfl rfl rfl ?_
  refine e_iload_n dX0_isWheel_1 1 rfl rfl ?_
  refine e_callVB (As := [.int e]) (rest := []) dX0_isWheel_2 rfl mvX0_196 (xm_o0) rfl (x_isEngine hm hRel e) (Nat.le_of_ble_eq_true rfl) rfl rfl (Nat.le_of_ble_eq_true rfl) (Nat.zero_le _) (Nat.zero_le _) (fun h2 => ?_) (fun h2 => ?_)
  · have h2 : (IsE e τ) := h2
    refine e_if_eq_f (by decide) 46 dX0_isWheel_5 (by decide) ?_
    obtain ⟨j, hj, hj4, rfl⟩ := eng_of hE.1 h2
    obtain ⟨hO, hMs⟩ := hE.1.2.2.1 j hj
    obtain ⟨b, η, hRe, hH, hown, hn⟩ := hE.2 j hj
    obtain ⟨hA, hW, hA7, hW12, hm20, eM, hRd⟩ := id (hn.J hO)
    have eA := hO.1.2.2
    have eW := hO.2.1.2.2
    refine e_iload_n dX0_isWheel_8 2 rfl rfl ?_
    refine e_if_lt 46 dX0_isWheel_9 (by decide) (fun h9 => ?_) (fun h9 => ?_)
    · refine e_iconst 0 dX0_isWheel_46 rfl ?_
      refine e_ireturn dX0_isWheel_47 rfl rfl (Nat.zero_le _) (Nat.zero_le _) ?_
      exact ⟨rfl, Or.inr ⟨fun z => i32_lt h9 z.2.1.1, rfl⟩⟩
    · refine e_iload_n dX0_isWheel_12 2 rfl rfl ?_
      refine e_aload_n dX0_isWheel_13 0 rfl rfl rfl ?_
      refine e_getf (v := (.ref 2)) dX0_isWheel_14 rfl fX0_17 (xm_o0) rfl ?_
      refine e_iload_n dX0_isWheel_17 1 rfl rfl ?_
      refine e_aald (f := ξ.2.2.2.2.1 1) (j := j) dX0_isWheel_18 xm_r2 (fun _ => rfl) rfl (by omega) (by decide) ?_
      refine e_top (congrArg rfO hRe) ?_
      refine e_getf (v := (.int (nI η.1))) dX0_isWheel_19 rfl fX0_199 (xh_o hm hH) rfl ?_
      refine e_top (congrArg (fun z => Value.int (nI z)) hA) ?_
      refine e_icmp_ge 46 dX0_isWheel_22 (by decide) (fun h22 => ?_) (fun h22 => ?_)
      · refine e_iconst 0 dX0_isWheel_46 rfl ?_
        refine e_ireturn dX0_isWheel_47 rfl rfl (Nat.zero_le _) (Nat.zero_le _) ?_
        exact ⟨rfl, Or.inr ⟨fun z => absurd (show x < nI (gA τ j) from by have z2 := z.2.1.2; rw [ix_nI (by omega), eA] at z2; exact z2) (Int32.not_lt.mpr h22), rfl⟩⟩
      · refine e_iload_n dX0_isWheel_25 3 rfl rfl ?_
        refine e_if_lt 46 dX0_isWheel_26 (by decide) (fun h26 => ?_) (fun h26 => ?_)
        · refine e_iconst 0 dX0_isWheel_46 rfl ?_
          refine e_ireturn dX0_isWheel_47 rfl rfl (Nat.zero_le _) (Nat.zero_le _) ?_
          exact ⟨rfl, Or.inr ⟨fun z => i32_lt h26 z.2.2.1, rfl⟩⟩
        · refine e_iload_n dX0_isWheel_29 3 rfl rfl ?_
          refine e_aload_n dX0_isWheel_30 0 rfl rfl rfl ?_
          refine e_getf (v := (.ref 2)) dX0_isWheel_31 rfl fX0_17 (xm_o0) rfl ?_
          refine e_iload_n dX0_isWheel_34 1 rfl rfl ?_
          refine e_aald (f := ξ.2.2.2.2.1 1) (j := j) dX0_isWheel_35 xm_r2 (fun _ => rfl) rfl (by omega) (by decide) ?_
          refine e_top (congrArg rfO hRe) ?_
          refine e_getf (v := (.int (nI η.2.1))) dX0_isWheel_36 rfl fX0_201 (xh_o hm hH) rfl ?_
          refine e_top (congrArg (fun z => Value.int (nI z)) hW) ?_
          refine e_icmp_ge 46 dX0_isWheel_39 (by decide) (fun h39 => ?_) (fun h39 => ?_)
          · refine e_iconst 0 dX0_isWheel_46 rfl ?_
            refine e_ireturn dX0_isWheel_47 rfl rfl (Nat.zero_le _) (Nat.zero_le _) ?_
            exact ⟨rfl, Or.inr ⟨fun z => absurd (show w < nI (gW τ j) from by have z2 := z.2.2.2; rw [ix_nI (by omega), eW] at z2; exact z2) (Int32.not_lt.mpr h39), rfl⟩⟩
          · refine e_iconst 1 dX0_isWheel_42 rfl ?_
            refine e_goto 47 dX0_isWheel_43 (by decide) ?_
            refine e_ireturn dX0_isWheel_47 rfl rfl (Nat.zero_le _) (Nat.zero_le _) ?_
            exact ⟨rfl, Or.inl ⟨⟨h2, ⟨i32_nlt h9, by rw [ix_nI (by omega), eA]; exact i32_nle h22⟩, ⟨i32_nlt h26, by rw [ix_nI (by omega), eW]; exact i32_nle h39⟩⟩, rfl⟩⟩
  · have h2 : ¬ (IsE e τ) := h2
    refine e_if_eq_t 46 (by decide) dX0_isWheel_5 (by decide) ?_
    refine e_iconst 0 dX0_isWheel_46 rfl ?_
    refine e_ireturn dX0_isWheel_47 rfl rfl (Nat.zero_le _) (Nat.zero_le _) ?_
    exact ⟨rfl, Or.inr ⟨fun z => h2 z.1, rfl⟩⟩

set_option maxHeartbeats 4000000 in
set_option maxRecDepth 100000 in
/-- WheelTables.figure -/
theorem x_figure {ξ : Xs} {mid dyn : List ACell} {τ : Tw} {own : Nat → Nat} (hm : mid.length = 61) (hRel : Rel own ξ dyn τ) (e x w : Int32) : Ct yX0_figure (ws_ yX0_figure cX0_figure 4 (some .int)) 2 0 0 [.ref 0, .int e, .int x, .int w] (XM ξ mid dyn) (XQi mid (sp_figure e x w τ)) noX := by
  obtain ⟨hI, hA, hB, hW, hP, hR, hT, hE, hC, hV⟩ := id hRel
  have hI4 := hE.1.1
  refine Ct.of (ini := false) (ls := [some (.ref 0), some (.int e), some (.int x), some (.int w)]) (by decide) (Nat.le_of_ble_eq_true rfl) (fun h => by cases h) rfl ?_
  refine e_aload_n dX0_figure_0 0 rfl rfl rfl ?_
  refine e_iload_n dX0_figure_1 1 rfl rfl ?_
  refine e_iload_n dX0_figure_2 2 rfl rfl ?_
  refine e_iload_n dX0_figure_3 3 rfl rfl ?_
  refine e_callVB (As := [.int e, .int x, .int w]) (rest := []) dX0_figure_4 rfl mvX0_218 (xm_o0) rfl (x_isWheel hm hRel e x w) (Nat.le_of_ble_eq_true rfl) rfl rfl (Nat.le_of_ble_eq_true rfl) (Nat.zero_le _) (Nat.zero_le _) (fun h4 => ?_) (fun h4 => ?_)
  · have h4 : (IsWh e x w τ) := h4
    refine e_if_eq_f (by decide) 33 dX0_figure_7 (by decide) ?_
    obtain ⟨j, a, i, hj, hj4, rfl, ha, rfl, hi, rfl⟩ := wheel_of hE.1 h4
    obtain ⟨hO, hMs⟩ := hE.1.2.2.1 j hj
    obtain ⟨b, η, hRe, hH, hown, hn⟩ := hE.2 j hj
    obtain ⟨hA, hW, hA7, hW12, hm20, eM, hRd⟩ := id (hn.J hO)
    have eA := hO.1.2.2
    have eW := hO.2.1.2.2
    refine e_aload_n dX0_figure_10 0 rfl rfl rfl ?_
    refine e_aload_n dX0_figure_11 0 rfl rfl rfl ?_
    refine e_getf (v := (.ref 2)) dX0_figure_12 rfl fX0_17 (xm_o0) rfl ?_
    refine e_iload_n dX0_figure_15 1 rfl rfl ?_
    refine e_aald (f := ξ.2.2.2.2.1 1) (j := j) dX0_figure_16 xm_r2 (fun _ => rfl) rfl (by omega) (by decide) ?_
    refine e_top (congrArg rfO hRe) ?_
    refine e_getf (v := (.ref (117 + b + 7))) dX0_figure_17 rfl fX0_222 (xh_o hm hH) rfl ?_
    refine e_iload_n dX0_figure_20 2 rfl rfl ?_
    refine e_aald (f := enA (117 + b) (gA τ j)) (j := a) dX0_figure_21 (xh_x hm hH hA) (fun _ => rfl) rfl (by omega) (by omega) ?_
    refine e_top (congrArg rfO (enA_at (by omega))) ?_
    refine e_getf (v := (.ref (117 + b + 9 + 2 * a))) dX0_figure_22 rfl fX0_226 (xh_a hm hH hA (by omega)) rfl ?_
    refine e_iload_n dX0_figure_25 3 rfl rfl ?_
    refine e_iald (f := η.2.2.2.2.2.2.2 a) (j := i) dX0_figure_26 (xh_f hm hH hA hW (by omega)) rfl (by omega) (by omega) ?_
    refine e_top (congrArg Value.int (hn.2.2.2.2.2.2 a ha i hi)) ?_
    refine e_callV1 (As := [.int (τ.2.2.1 10 (12 * (7 * j + a) + i))]) (rest := []) dX0_figure_27 rfl mvX0_215 (xm_o0) rfl (x_gives (τ.2.2.1 10 (12 * (7 * j + a) + i))) (Nat.le_of_ble_eq_true rfl) rfl rfl (Nat.le_of_ble_eq_true rfl) (Nat.zero_le _) (Nat.zero_le _) ?_
    refine e_goto 38 dX0_figure_30 (by decide) ?_
    refine e_ireturn dX0_figure_38 rfl rfl (Nat.zero_le _) (Nat.zero_le _) ?_
    refine ⟨_, _, own, rfl, ?_, ?_⟩
    · rw [sp_figure, if_pos h4, ix_nI (by omega), ix_nI (by omega), ix_nI (by omega)]
    · rw [sp_figure, if_pos h4]; exact hRel.st0
  · have h4 : ¬ (IsWh e x w τ) := h4
    refine e_if_eq_t 33 (by decide) dX0_figure_7 (by decide) ?_
    refine e_aload_n dX0_figure_33 0 rfl rfl rfl ?_
    refine e_iconst 2 dX0_figure_34 rfl ?_
    refine e_callV1 (As := [.int 2]) (rest := []) dX0_figure_35 rfl mvX0_169 (xm_o0) rfl (x_none 2) (Nat.le_of_ble_eq_true rfl) rfl rfl (Nat.le_of_ble_eq_true rfl) (Nat.zero_le _) (Nat.zero_le _) ?_
    refine e_ireturn dX0_figure_38 rfl rfl (Nat.zero_le _) (Nat.zero_le _) ?_
    refine ⟨_, _, own, rfl, ?_, ?_⟩
    · rw [sp_figure, if_neg h4]
    · rw [sp_figure, if_neg h4]; exact hRel.stE 2

