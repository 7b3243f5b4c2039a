/-! ===== the twin: small methods, trays ===== -/
theorem i64_nlt {x y : Int64} (h : ¬ x < y) : y ≤ x := Int64.not_lt.mp h
theorem decS (n : Nat) : nI (n + 1) + Int32.ofInt (-1) = nI n := pk_m1 n
theorem i64_nle {x y : Int64} (h : ¬ x ≤ y) : y < x := Int64.not_le.mp h
theorem i64_lt {x y : Int64} (h : x < y) : ¬ y ≤ x := Int64.not_le.mpr h
set_option maxHeartbeats 4000000 in
set_option maxRecDepth 100000 in
/-- WheelTablesModel.isIn -/
theorem t_isIn {M : List ACell} (v lo hi : Int64) : Ct yX4_isIn (ws_ yX4_isIn cX4_isIn 6 (some .boolean)) 0 0 0 [.long v, .long lo, .long hi] M (QB (lo ≤ v ∧ v ≤ hi) M) noX := by
  refine Ct.of (ini := false) (ls := [some (.long v), none, some (.long lo), none, some (.long hi), none]) (by decide) (Nat.le_of_ble_eq_true rfl) (fun h => by cases h) rfl ?_
  refine e_lload_n dX4_isIn_0 0 rfl rfl ?_
  refine e_lload_n dX4_isIn_1 2 rfl rfl ?_
  refine e_lcmp_lt 17 dX4_isIn_2 dX4_isIn_3 (by decide) (fun h2 => ?_) (fun h2 => ?_)
  · refine e_iconst 0 dX4_isIn_17 rfl ?_
    refine e_ireturn dX4_isIn_18 rfl rfl (Nat.zero_le _) (Nat.zero_le _) ?_
    exact ⟨rfl, Or.inr ⟨fun z => i64_lt h2 z.1, rfl⟩⟩
  · refine e_lload_n dX4_isIn_6 0 rfl rfl ?_
    refine e_lload dX4_isIn_7 rfl ?_
    refine e_lcmp_gt 17 dX4_isIn_9 dX4_isIn_10 (by decide) (fun h9 => ?_) (fun h9 => ?_)
    · refine e_iconst 0 dX4_isIn_17 rfl ?_
      refine e_ireturn dX4_isIn_18 rfl rfl (Nat.zero_le _) (Nat.zero_le _) ?_
      exact ⟨rfl, Or.inr ⟨fun z => i64_lt h9 z.2, rfl⟩⟩
    · refine e_iconst 1 dX4_isIn_13 rfl ?_
      refine e_goto 18 dX4_isIn_14 (by decide) ?_
      refine e_ireturn dX4_isIn_18 rfl rfl (Nat.zero_le _) (Nat.zero_le _) ?_
      exact ⟨rfl, Or.inl ⟨⟨i64_nlt h2, i64_nlt h9⟩, rfl⟩⟩

set_option maxHeartbeats 4000000 in
set_option maxRecDepth 100000 in
/-- WheelTablesModel.no -/
theorem t_no {pre post : List ACell} {τ : Tw} (hp : pre.length = 56) (w : Int32) : Ct yX4_no (ws_ yX4_no cX4_no 2 (some .boolean)) 0 0 0 [.ref 56, .int w] (TW pre τ post) (Q1 (some (.int 0)) (TW pre (tI τ 0 w) post)) noX := by
  refine Ct.of (ini := false) (ls := [some (.ref 56), some (.int w)]) (by decide) (Nat.le_of_ble_eq_true rfl) (fun h => by cases h) rfl ?_
  refine e_aload_n dX4_no_0 0 rfl rfl rfl ?_
  refine e_iload_n dX4_no_1 1 rfl rfl ?_
  refine e_tputI dX4_no_2 rfl pX4_215 rfl hp (Nat.le_of_ble_eq_true rfl) (tw_f0 _) ?_
  refine e_iconst 0 dX4_no_5 rfl ?_
  refine e_ireturn dX4_no_6 rfl rfl (Nat.zero_le _) (Nat.zero_le _) ?_
  exact ⟨rfl, rfl⟩

set_option maxHeartbeats 4000000 in
set_option maxRecDepth 100000 in
/-- WheelTablesModel.refuse -/
theorem t_refuse {pre post : List ACell} {τ : Tw} (hp : pre.length = 56) (w : Int32) : Ct yX4_refuse (ws_ yX4_refuse cX4_refuse 2 (some .int)) 0 0 0 [.ref 56, .int w] (TW pre τ post) (Q1 (some (.int (-1))) (TW pre (tI τ 0 w) post)) noX := by
  refine Ct.of (ini := false) (ls := [some (.ref 56), some (.int w)]) (by decide) (Nat.le_of_ble_eq_true rfl) (fun h => by cases h) rfl ?_
  refine e_aload_n dX4_refuse_0 0 rfl rfl rfl ?_
  refine e_iload_n dX4_refuse_1 1 rfl rfl ?_
  refine e_tputI dX4_refuse_2 rfl pX4_215 rfl hp (Nat.le_of_ble_eq_true rfl) (tw_f0 _) ?_
  refine e_iconst (-1) dX4_refuse_5 rfl ?_
  refine e_ireturn dX4_refuse_6 rfl rfl (Nat.zero_le _) (Nat.zero_le _) ?_
  exact ⟨rfl, rfl⟩

set_option maxHeartbeats 4000000 in
set_option maxRecDepth 100000 in
/-- WheelTablesModel.status -/
theorem t_status {pre post : List ACell} {τ : Tw} (hp : pre.length = 56) : Ct yX4_status (ws_ yX4_status cX4_status 1 (some .int)) 0 0 0 [.ref 56] (TW pre τ post) (Q1 (some (.int (τ.1 0))) (TW pre (tI τ 1 0) post)) noX := by
  refine Ct.of (ini := false) (ls := [some (.ref 56)]) (by decide) (Nat.le_of_ble_eq_true rfl) (fun h => by cases h) rfl ?_
  refine e_aload_n dX4_status_0 0 rfl rfl rfl ?_
  refine e_iconst 0 dX4_status_1 rfl ?_
  refine e_tputI dX4_status_2 rfl pX4_212 rfl hp (Nat.le_of_ble_eq_true rfl) (tw_f1 _) ?_
  refine e_aload_n dX4_status_5 0 rfl rfl rfl ?_
  refine e_getf (v := .int (τ.1 0)) dX4_status_6 rfl fX4_215 (tw_o hp) rfl ?_
  refine e_ireturn dX4_status_9 rfl rfl (Nat.zero_le _) (Nat.zero_le _) ?_
  exact ⟨rfl, rfl⟩
