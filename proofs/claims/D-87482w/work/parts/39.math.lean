/-! ===== Math, the twin: turns ===== -/
/-- the quotient and the rest by the floor, as the JDK has them -/
def fdL (x y : Int64) : Int64 := if x ^^^ y < 0 ∧ ¬ (x / y * y = x) then x / y - 1 else x / y
def fmL (x y : Int64) : Int64 := if x ^^^ y < 0 ∧ ¬ (x - x / y * y = 0) then x - x / y * y + y else x - x / y * y
/-- the lesser, the greater, as the JDK has them -/
def mnI (a b : Int32) : Int32 := if a ≤ b then a else b
def mxI (a b : Int32) : Int32 := if b ≤ a then a else b
def mnL (a b : Int64) : Int64 := if a ≤ b then a else b
def abL (a : Int64) : Int64 := if a < 0 then -a else a
set_option maxHeartbeats 4000000 in
set_option maxRecDepth 100000 in
/-- java/lang/Math.min -/
theorem m_min {M : List ACell} (a b : Int32) : Ct yJ8_min_2 (ws_ yJ8_min_2 cJ8_min_2 2 (some .int)) 0 0 0 [.int a, .int b] M (Q1 (some (.int (mnI a b))) M) noX := by
  refine Ct.ofF (ini := false) (ls := [some (.int a), some (.int b)]) (by decide +kernel) (Nat.le_of_ble_eq_true rfl) (fun h => by cases h) rfl ?_
  refine e_iload_n dJ8_min_2_0 0 rfl rfl ?_
  refine e_iload_n dJ8_min_2_1 1 rfl rfl ?_
  refine e_icmp_gt 9 dJ8_min_2_2 (by decide) (fun h2 => ?_) (fun h2 => ?_)
  · refine e_iload_n dJ8_min_2_9 1 rfl rfl ?_
    refine e_ireturn dJ8_min_2_10 rfl rfl (Nat.zero_le _) (Nat.zero_le _) ?_
    refine ⟨?_, rfl⟩
    rw [mnI, if_neg (i32_lt h2)]
  · refine e_iload_n dJ8_min_2_5 0 rfl rfl ?_
    refine e_goto 10 dJ8_min_2_6 (by decide) ?_
    refine e_ireturn dJ8_min_2_10 rfl rfl (Nat.zero_le _) (Nat.zero_le _) ?_
    refine ⟨?_, rfl⟩
    rw [mnI, if_pos (i32_nlt h2)]

set_option maxHeartbeats 4000000 in
set_option maxRecDepth 100000 in
/-- java/lang/Math.max -/
theorem m_max {M : List ACell} (a b : Int32) : Ct yJ8_max (ws_ yJ8_max cJ8_max 2 (some .int)) 0 0 0 [.int a, .int b] M (Q1 (some (.int (mxI a b))) M) noX := by
  refine Ct.ofF (ini := false) (ls := [some (.int a), some (.int b)]) (by decide +kernel) (Nat.le_of_ble_eq_true rfl) (fun h => by cases h) rfl ?_
  refine e_iload_n dJ8_max_0 0 rfl rfl ?_
  refine e_iload_n dJ8_max_1 1 rfl rfl ?_
  refine e_icmp_lt 9 dJ8_max_2 (by decide) (fun h2 => ?_) (fun h2 => ?_)
  · refine e_iload_n dJ8_max_9 1 rfl rfl ?_
    refine e_ireturn dJ8_max_10 rfl rfl (Nat.zero_le _) (Nat.zero_le _) ?_
    refine ⟨?_, rfl⟩
    rw [mxI, if_neg (i32_lt h2)]
  · refine e_iload_n dJ8_max_5 0 rfl rfl ?_
    refine e_goto 10 dJ8_max_6 (by decide) ?_
    refine e_ireturn dJ8_max_10 rfl rfl (Nat.zero_le _) (Nat.zero_le _) ?_
    refine ⟨?_, rfl⟩
    rw [mxI, if_pos (i32_nlt h2)]

set_option maxHeartbeats 4000000 in
set_option maxRecDepth 100000 in
/-- java/lang/Math.min -/
theorem m_minL {M : List ACell} (a b : Int64) : Ct yJ8_min (ws_ yJ8_min cJ8_min 4 (some .long)) 0 0 0 [.long a, .long b] M (Q1 (some (.long (mnL a b))) M) noX := by
  refine Ct.ofF (ini := false) (ls := [some (.long a), none, some (.long b), none]) (by decide +kernel) (Nat.le_of_ble_eq_true rfl) (fun h => by cases h) rfl ?_
  refine e_lload_n dJ8_min_0 0 rfl rfl ?_
  refine e_lload_n dJ8_min_1 2 rfl rfl ?_
  refine e_lcmp_gt 10 dJ8_min_2 dJ8_min_3 (by decide) (fun h2 => ?_) (fun h2 => ?_)
  · refine e_lload_n dJ8_min_10 2 rfl rfl ?_
    refine e_lreturn dJ8_min_11 rfl (Nat.zero_le _) (Nat.zero_le _) ?_
    refine ⟨?_, rfl⟩
    rw [mnL, if_neg (i64_lt h2)]
  · refine e_lload_n dJ8_min_6 0 rfl rfl ?_
    refine e_goto 11 dJ8_min_7 (by decide) ?_
    refine e_lreturn dJ8_min_11 rfl (Nat.zero_le _) (Nat.zero_le _) ?_
    refine ⟨?_, rfl⟩
    rw [mnL, if_pos (i64_nlt h2)]

set_option maxHeartbeats 4000000 in
set_option maxRecDepth 100000 in
/-- java/lang/Math.abs -/
theorem m_absL {M : List ACell} (a : Int64) : Ct yJ8_abs_2 (ws_ yJ8_abs_2 cJ8_abs_2 2 (some .long)) 0 0 0 [.long a] M (Q1 (some (.long (abL a))) M) noX := by
  refine Ct.ofF (ini := false) (ls := [some (.long a), none]) (by decide +kernel) (Nat.le_of_ble_eq_true rfl) (fun h => by cases h) rfl ?_
  refine e_lload_n dJ8_abs_2_0 0 rfl rfl ?_
  refine e_lconst 0 dJ8_abs_2_1 rfl ?_
  refine e_lcmp_ge 11 dJ8_abs_2_2 dJ8_abs_2_3 (by decide) (fun h2 => ?_) (fun h2 => ?_)
  · refine e_lload_n dJ8_abs_2_11 0 rfl rfl ?_
    refine e_lreturn dJ8_abs_2_12 rfl (Nat.zero_le _) (Nat.zero_le _) ?_
    refine ⟨?_, rfl⟩
    rw [abL, if_neg (Int64.not_lt.mpr h2)]
  · refine e_lload_n dJ8_abs_2_6 0 rfl rfl ?_
    refine e_lneg dJ8_abs_2_7 ?_
    refine e_goto 12 dJ8_abs_2_8 (by decide) ?_
    refine e_lreturn dJ8_abs_2_12 rfl (Nat.zero_le _) (Nat.zero_le _) ?_
    refine ⟨?_, rfl⟩
    rw [abL, if_pos (i64_nle h2)]

set_option maxHeartbeats 4000000 in
set_option maxRecDepth 100000 in
/-- java/lang/Math.floorMod -/
theorem m_fmL {M : List ACell} (x y : Int64) (h0 : ¬ y = 0) : Ct yJ8_floorMod (ws_ yJ8_floorMod cJ8_floorMod 6 (some .long)) 0 0 0 [.long x, .long y] M (Q1 (some (.long (fmL x y))) M) noX := by
  refine Ct.ofF (ini := false) (ls := [some (.long x), none, some (.long y), none, none, none]) (by decide +kernel) (Nat.le_of_ble_eq_true rfl) (fun h => by cases h) rfl ?_
  refine e_lload_n dJ8_floorMod_0 0 rfl rfl ?_
  refine e_lload_n dJ8_floorMod_1 2 rfl rfl ?_
  refine e_lrem dJ8_floorMod_2 (by assumption) ?_
  refine e_lstore dJ8_floorMod_3 (ls_s (ls_s (ls_s (ls_1 rfl)))) (ln_s (ln_s (ln_s (ln_s (ln_s ln_0))))) (Nat.le_of_ble_eq_true rfl) ?_
  refine e_lload_n dJ8_floorMod_5 0 rfl rfl ?_
  refine e_lload_n dJ8_floorMod_6 2 rfl rfl ?_
  refine e_lxor dJ8_floorMod_7 ?_
  refine e_lconst 0 dJ8_floorMod_8 rfl ?_
  refine e_lcmp_ge 25 dJ8_floorMod_9 dJ8_floorMod_10 (by decide) (fun h9 => ?_) (fun h9 => ?_)
  · refine e_lload dJ8_floorMod_25 rfl ?_
    refine e_lreturn dJ8_floorMod_27 rfl (Nat.zero_le _) (Nat.zero_le _) ?_
    refine ⟨?_, rfl⟩
    rw [fmL, if_neg (fun z => absurd z.1 (Int64.not_lt.mpr h9))]
  · refine e_lload dJ8_floorMod_13 rfl ?_
    refine e_lconst 0 dJ8_floorMod_15 rfl ?_
    refine e_lcmp_eq 25 dJ8_floorMod_16 dJ8_floorMod_17 (by decide) (fun h16 => ?_) (fun h16 => ?_)
    · refine e_lload dJ8_floorMod_25 rfl ?_
      refine e_lreturn dJ8_floorMod_27 rfl (Nat.zero_le _) (Nat.zero_le _) ?_
      refine ⟨?_, rfl⟩
      rw [fmL, if_neg (fun z => z.2 h16)]
    · refine e_lload dJ8_floorMod_20 rfl ?_
      refine e_lload_n dJ8_floorMod_22 2 rfl rfl ?_
      refine e_ladd dJ8_floorMod_23 ?_
      refine e_lreturn dJ8_floorMod_24 rfl (Nat.zero_le _) (Nat.zero_le _) ?_
      refine ⟨?_, rfl⟩
      rw [fmL, if_pos ⟨i64_nle h9, h16⟩]

set_option maxHeartbeats 4000000 in
set_option maxRecDepth 100000 in
/-- java/lang/Math.floorDiv -/
theorem m_fdL {M : List ACell} (x y : Int64) (h0 : ¬ y = 0) : Ct yJ8_floorDiv (ws_ yJ8_floorDiv cJ8_floorDiv 6 (some .long)) 0 0 0 [.long x, .long y] M (Q1 (some (.long (fdL x y))) M) noX := by
  refine Ct.ofF (ini := false) (ls := [some (.long x), none, some (.long y), none, none, none]) (by decide +kernel) (Nat.le_of_ble_eq_true rfl) (fun h => by cases h) rfl ?_
  refine e_lload_n dJ8_floorDiv_0 0 rfl rfl ?_
  refine e_lload_n dJ8_floorDiv_1 2 rfl rfl ?_
  refine e_ldiv dJ8_floorDiv_2 (by assumption) ?_
  refine e_lstore dJ8_floorDiv_3 (ls_s (ls_s (ls_s (ls_1 rfl)))) (ln_s (ln_s (ln_s (ln_s (ln_s ln_0))))) (Nat.le_of_ble_eq_true rfl) ?_
  refine e_lload_n dJ8_floorDiv_5 0 rfl rfl ?_
  refine e_lload_n dJ8_floorDiv_6 2 rfl rfl ?_
  refine e_lxor dJ8_floorDiv_7 ?_
  refine e_lconst 0 dJ8_floorDiv_8 rfl ?_
  refine e_lcmp_ge 27 dJ8_floorDiv_9 dJ8_floorDiv_10 (by decide) (fun h9 => ?_) (fun h9 => ?_)
  · refine e_lload dJ8_floorDiv_27 rfl ?_
    refine e_lreturn dJ8_floorDiv_29 rfl (Nat.zero_le _) (Nat.zero_le _) ?_
    refine ⟨?_, rfl⟩
    rw [fdL, if_neg (fun z => absurd z.1 (Int64.not_lt.mpr h9))]
  · refine e_lload dJ8_floorDiv_13 rfl ?_
    refine e_lload_n dJ8_floorDiv_15 2 rfl rfl ?_
    refine e_lmul dJ8_floorDiv_16 ?_
    refine e_lload_n dJ8_floorDiv_17 0 rfl rfl ?_
    refine e_lcmp_eq 27 dJ8_floorDiv_18 dJ8_floorDiv_19 (by decide) (fun h18 => ?_) (fun h18 => ?_)
    · refine e_lload dJ8_floorDiv_27 rfl ?_
      refine e_lreturn dJ8_floorDiv_29 rfl (Nat.zero_le _) (Nat.zero_le _) ?_
      refine ⟨?_, rfl⟩
      rw [fdL, if_neg (fun z => z.2 h18)]
    · refine e_lload dJ8_floorDiv_22 rfl ?_
      refine e_lconst 1 dJ8_floorDiv_24 rfl ?_
      refine e_lsub dJ8_floorDiv_25 ?_
      refine e_lreturn dJ8_floorDiv_26 rfl (Nat.zero_le _) (Nat.zero_le _) ?_
      refine ⟨?_, rfl⟩
      rw [fdL, if_pos ⟨i64_nle h9, h18⟩]

