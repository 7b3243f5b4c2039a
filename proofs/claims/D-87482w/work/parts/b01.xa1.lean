/-! ===== the component: small methods ===== -/
theorem lt40 {x : Int32} : x < 40 ↔ x ≤ 39 := by
  rw [Int32.lt_iff_toInt_lt, Int32.le_iff_toInt_le, show (40 : Int32).toInt = 40 from rfl, show (39 : Int32).toInt = 39 from rfl]; omega
set_option maxHeartbeats 4000000 in
set_option maxRecDepth 100000 in
/-- WheelTables.isTray -/
theorem x_isTray {M : List ACell} (v : Int32) : Ct yX0_isTray (ws_ yX0_isTray cX0_isTray 1 (some .boolean)) 0 0 0 [.int v] M (QB (0 ≤ v ∧ v < 4) M) noX := by
  refine Ct.of (ini := false) (ls := [some (.int v)]) (by decide) (Nat.le_of_ble_eq_true rfl) (fun h => by cases h) rfl ?_
  refine e_iload_n dX0_isTray_0 0 rfl rfl ?_
  refine e_if_lt 13 dX0_isTray_1 (by decide) (fun h1 => ?_) (fun h1 => ?_)
  · refine e_iconst 0 dX0_isTray_13 rfl ?_
    refine e_ireturn dX0_isTray_14 rfl rfl (Nat.zero_le _) (Nat.zero_le _) ?_
    exact ⟨rfl, Or.inr ⟨fun z => i32_lt h1 z.1, rfl⟩⟩
  · refine e_iload_n dX0_isTray_4 0 rfl rfl ?_
    refine e_iconst 4 dX0_isTray_5 rfl ?_
    refine e_icmp_ge 13 dX0_isTray_6 (by decide) (fun h6 => ?_) (fun h6 => ?_)
    · refine e_iconst 0 dX0_isTray_13 rfl ?_
      refine e_ireturn dX0_isTray_14 rfl rfl (Nat.zero_le _) (Nat.zero_le _) ?_
      exact ⟨rfl, Or.inr ⟨fun z => absurd z.2 (Int32.not_lt.mpr h6), rfl⟩⟩
    · refine e_iconst 1 dX0_isTray_9 rfl ?_
      refine e_goto 14 dX0_isTray_10 (by decide) ?_
      refine e_ireturn dX0_isTray_14 rfl rfl (Nat.zero_le _) (Nat.zero_le _) ?_
      exact ⟨rfl, Or.inl ⟨⟨i32_nlt h1, i32_nle h6⟩, rfl⟩⟩

set_option maxHeartbeats 4000000 in
set_option maxRecDepth 100000 in
/-- WheelTables.isDay -/
theorem x_isDay {M : List ACell} (v : Int32) : Ct yX0_isDay (ws_ yX0_isDay cX0_isDay 1 (some .boolean)) 0 0 0 [.int v] M (QB (0 ≤ v ∧ v ≤ 9999) M) noX := by
  refine Ct.of (ini := false) (ls := [some (.int v)]) (by decide) (Nat.le_of_ble_eq_true rfl) (fun h => by cases h) rfl ?_
  refine e_iload_n dX0_isDay_0 0 rfl rfl ?_
  refine e_if_lt 15 dX0_isDay_1 (by decide) (fun h1 => ?_) (fun h1 => ?_)
  · refine e_iconst 0 dX0_isDay_15 rfl ?_
    refine e_ireturn dX0_isDay_16 rfl rfl (Nat.zero_le _) (Nat.zero_le _) ?_
    exact ⟨rfl, Or.inr ⟨fun z => i32_lt h1 z.1, rfl⟩⟩
  · refine e_iload_n dX0_isDay_4 0 rfl rfl ?_
    refine e_sipush 9999 dX0_isDay_5 rfl ?_
    refine e_icmp_gt 15 dX0_isDay_8 (by decide) (fun h8 => ?_) (fun h8 => ?_)
    · refine e_iconst 0 dX0_isDay_15 rfl ?_
      refine e_ireturn dX0_isDay_16 rfl rfl (Nat.zero_le _) (Nat.zero_le _) ?_
      exact ⟨rfl, Or.inr ⟨fun z => i32_lt h8 z.2, rfl⟩⟩
    · refine e_iconst 1 dX0_isDay_11 rfl ?_
      refine e_goto 16 dX0_isDay_12 (by decide) ?_
      refine e_ireturn dX0_isDay_16 rfl rfl (Nat.zero_le _) (Nat.zero_le _) ?_
      exact ⟨rfl, Or.inl ⟨⟨i32_nlt h1, i32_nlt h8⟩, rfl⟩⟩

set_option maxHeartbeats 4000000 in
set_option maxRecDepth 100000 in
/-- WheelTables.isRow -/
theorem x_isRow {M : List ACell} (v : Int32) : Ct yX0_isRow (ws_ yX0_isRow cX0_isRow 1 (some .boolean)) 0 0 0 [.int v] M (QB (0 ≤ v ∧ v ≤ 39) M) noX := by
  refine Ct.of (ini := false) (ls := [some (.int v)]) (by decide) (Nat.le_of_ble_eq_true rfl) (fun h => by cases h) rfl ?_
  refine e_iload_n dX0_isRow_0 0 rfl rfl ?_
  refine e_if_lt 14 dX0_isRow_1 (by decide) (fun h1 => ?_) (fun h1 => ?_)
  · refine e_iconst 0 dX0_isRow_14 rfl ?_
    refine e_ireturn dX0_isRow_15 rfl rfl (Nat.zero_le _) (Nat.zero_le _) ?_
    exact ⟨rfl, Or.inr ⟨fun z => i32_lt h1 z.1, rfl⟩⟩
  · refine e_iload_n dX0_isRow_4 0 rfl rfl ?_
    refine e_bipush 40 dX0_isRow_5 rfl ?_
    refine e_icmp_ge 14 dX0_isRow_7 (by decide) (fun h7 => ?_) (fun h7 => ?_)
    · refine e_iconst 0 dX0_isRow_14 rfl ?_
      refine e_ireturn dX0_isRow_15 rfl rfl (Nat.zero_le _) (Nat.zero_le _) ?_
      exact ⟨rfl, Or.inr ⟨fun z => absurd (lt40.mpr z.2) (Int32.not_lt.mpr h7), rfl⟩⟩
    · refine e_iconst 1 dX0_isRow_10 rfl ?_
      refine e_goto 15 dX0_isRow_11 (by decide) ?_
      refine e_ireturn dX0_isRow_15 rfl rfl (Nat.zero_le _) (Nat.zero_le _) ?_
      exact ⟨rfl, Or.inl ⟨⟨i32_nlt h1, lt40.mp (i32_nle h7)⟩, rfl⟩⟩

set_option maxHeartbeats 4000000 in
set_option maxRecDepth 100000 in
/-- WheelTables.isNumber -/
theorem x_isNumber {M : List ACell} (v : Int32) : Ct yX0_isNumber (ws_ yX0_isNumber cX0_isNumber 1 (some .boolean)) 0 0 0 [.int v] M (QB (-1000000000 ≤ v ∧ v ≤ 1000000000) M) noX := by
  refine Ct.of (ini := false) (ls := [some (.int v)]) (by decide) (Nat.le_of_ble_eq_true rfl) (fun h => by cases h) rfl ?_
  refine e_iload_n dX0_isNumber_0 0 rfl rfl ?_
  refine e_ldcw rfl q1060 dX0_isNumber_1 ?_
  refine e_icmp_lt 18 dX0_isNumber_4 (by decide) (fun h4 => ?_) (fun h4 => ?_)
  · refine e_iconst 0 dX0_isNumber_18 rfl ?_
    refine e_ireturn dX0_isNumber_19 rfl rfl (Nat.zero_le _) (Nat.zero_le _) ?_
    exact ⟨rfl, Or.inr ⟨fun z => i32_lt h4 z.1, rfl⟩⟩
  · refine e_iload_n dX0_isNumber_7 0 rfl rfl ?_
    refine e_ldcw rfl q1061 dX0_isNumber_8 ?_
    refine e_icmp_gt 18 dX0_isNumber_11 (by decide) (fun h11 => ?_) (fun h11 => ?_)
    · refine e_iconst 0 dX0_isNumber_18 rfl ?_
      refine e_ireturn dX0_isNumber_19 rfl rfl (Nat.zero_le _) (Nat.zero_le _) ?_
      exact ⟨rfl, Or.inr ⟨fun z => i32_lt h11 z.2, rfl⟩⟩
    · refine e_iconst 1 dX0_isNumber_14 rfl ?_
      refine e_goto 19 dX0_isNumber_15 (by decide) ?_
      refine e_ireturn dX0_isNumber_19 rfl rfl (Nat.zero_le _) (Nat.zero_le _) ?_
      exact ⟨rfl, Or.inl ⟨⟨i32_nlt h4, i32_nlt h11⟩, rfl⟩⟩

set_option maxHeartbeats 4000000 in
set_option maxRecDepth 100000 in
/-- WheelTables.is -/
theorem x_is0 {ξ : Xs} {mid dyn : List ACell} : Ct yX0_is (ws_ yX0_is cX0_is 2 (some .boolean)) 0 0 0 [.ref 0, .int 0] (XM ξ mid dyn) (Q1 (some (.int 1)) (XM (xI ξ 8 0) mid dyn)) noX := by
  refine Ct.of (ini := false) (ls := [some (.ref 0), some (.int 0)]) (by decide) (Nat.le_of_ble_eq_true rfl) (fun h => by cases h) rfl ?_
  refine e_aload_n dX0_is_0 0 rfl rfl rfl ?_
  refine e_iload_n dX0_is_1 1 rfl rfl ?_
  refine e_xputI dX0_is_2 rfl pX0_145 rfl (xm_o0) (Nat.le_of_ble_eq_true rfl) (xm_f8 _) ?_
  refine e_iload_n dX0_is_5 1 rfl rfl ?_
  refine e_if_ne_f (by decide) 13 dX0_is_6 (by decide) ?_
  refine e_iconst 1 dX0_is_9 rfl ?_
  refine e_goto 14 dX0_is_10 (by decide) ?_
  refine e_ireturn dX0_is_14 rfl rfl (Nat.zero_le _) (Nat.zero_le _) ?_
  exact ⟨rfl, rfl⟩

set_option maxHeartbeats 4000000 in
set_option maxRecDepth 100000 in
/-- WheelTables.is -/
theorem x_isN {ξ : Xs} {mid dyn : List ACell} {w : Int32} (hw : ¬ w = 0) : Ct yX0_is (ws_ yX0_is cX0_is 2 (some .boolean)) 0 0 0 [.ref 0, .int w] (XM ξ mid dyn) (Q1 (some (.int 0)) (XM (xI ξ 8 w) mid dyn)) noX := by
  refine Ct.of (ini := false) (ls := [some (.ref 0), some (.int w)]) (by decide) (Nat.le_of_ble_eq_true rfl) (fun h => by cases h) rfl ?_
  refine e_aload_n dX0_is_0 0 rfl rfl rfl ?_
  refine e_iload_n dX0_is_1 1 rfl rfl ?_
  refine e_xputI dX0_is_2 rfl pX0_145 rfl (xm_o0) (Nat.le_of_ble_eq_true rfl) (xm_f8 _) ?_
  refine e_iload_n dX0_is_5 1 rfl rfl ?_
  refine e_if_ne 13 dX0_is_6 (by decide) (fun h6 => ?_) (fun h6 => ?_)
  · refine e_iconst 0 dX0_is_13 rfl ?_
    refine e_ireturn dX0_is_14 rfl rfl (Nat.zero_le _) (Nat.zero_le _) ?_
    exact ⟨rfl, rfl⟩
  · exact absurd h6 hw

set_option maxHeartbeats 4000000 in
set_option maxRecDepth 100000 in
/-- WheelTables.none -/
theorem x_none {ξ : Xs} {mid dyn : List ACell} (w : Int32) : Ct yX0_none (ws_ yX0_none cX0_none 2 (some .int)) 0 0 0 [.ref 0, .int w] (XM ξ mid dyn) (Q1 (some (.int (-1))) (XM (xI ξ 8 w) mid dyn)) noX := by
  refine Ct.of (ini := false) (ls := [some (.ref 0), some (.int w)]) (by decide) (Nat.le_of_ble_eq_true rfl) (fun h => by cases h) rfl ?_
  refine e_aload_n dX0_none_0 0 rfl rfl rfl ?_
  refine e_iload_n dX0_none_1 1 rfl rfl ?_
  refine e_xputI dX0_none_2 rfl pX0_145 rfl (xm_o0) (Nat.le_of_ble_eq_true rfl) (xm_f8 _) ?_
  refine e_iconst (-1) dX0_none_5 rfl ?_
  refine e_ireturn dX0_none_6 rfl rfl (Nat.zero_le _) (Nat.zero_le _) ?_
  exact ⟨rfl, rfl⟩

set_option maxHeartbeats 4000000 in
set_option maxRecDepth 100000 in
/-- WheelTables.gives -/
theorem x_gives {ξ : Xs} {mid dyn : List ACell} (v : Int32) : Ct yX0_gives (ws_ yX0_gives cX0_gives 2 (some .int)) 0 0 0 [.ref 0, .int v] (XM ξ mid dyn) (Q1 (some (.int v)) (XM (xI ξ 8 0) mid dyn)) noX := by
  refine Ct.of (ini := false) (ls := [some (.ref 0), some (.int v)]) (by decide) (Nat.le_of_ble_eq_true rfl) (fun h => by cases h) rfl ?_
  refine e_aload_n dX0_gives_0 0 rfl rfl rfl ?_
  refine e_iconst 0 dX0_gives_1 rfl ?_
  refine e_xputI dX0_gives_2 rfl pX0_145 rfl (xm_o0) (Nat.le_of_ble_eq_true rfl) (xm_f8 _) ?_
  refine e_iload_n dX0_gives_5 1 rfl rfl ?_
  refine e_ireturn dX0_gives_6 rfl rfl (Nat.zero_le _) (Nat.zero_le _) ?_
  exact ⟨rfl, rfl⟩

set_option maxHeartbeats 4000000 in
set_option maxRecDepth 100000 in
/-- WheelTables.status -/
theorem x_status {ξ : Xs} {mid dyn : List ACell} {τ : Tw} {own : Nat → Nat} (hm : mid.length = 61) (hRel : Rel own ξ dyn τ) : Ct yX0_status (ws_ yX0_status cX0_status 1 (some .int)) 0 0 0 [.ref 0] (XM ξ mid dyn) (XQi mid (τ.1 0, tI τ 1 0)) noX := by
  obtain ⟨hI, hA, hB, hW, hP, hR, hT, hE, hC, hV⟩ := id hRel
  refine Ct.of (ini := false) (ls := [some (.ref 0)]) (by decide) (Nat.le_of_ble_eq_true rfl) (fun h => by cases h) rfl ?_
  refine e_aload_n dX0_status_0 0 rfl rfl rfl ?_
  refine e_getf (v := (.int (ξ.1 8))) dX0_status_1 rfl fX0_145 (xm_o0) rfl ?_
  refine e_top (congrArg Value.int (hI.at 8 0 (by decide))) ?_
  refine e_ireturn dX0_status_4 rfl rfl (Nat.zero_le _) (Nat.zero_le _) ?_
  exact ⟨_, _, own, rfl, rfl, hRel.b1⟩

