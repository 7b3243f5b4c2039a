/-! ===== the component: turns ===== -/
theorem lsB_s (B : Int32) (d : Nat → Int32) (m c : Nat) : lsB B d (m + 1) c = mnI (if 9 < d (12 - m) + nI c then 1000 else d (12 - m) + nI c + lsB B d m 0) (if d (12 - m) + nI c < 1 then 1000 else 10 - (d (12 - m) + nI c) + lsB B d m 1) := rfl
theorem lsB_eq {d : Nat → Int32} (h : d 12 = 0) : ∀ m c, c < 2 → lsB 100 d (m + 1) c = lsB 1000 d (m + 1) c
  | 0, c, hc => by
    rw [lsB_s 100 d 0 c, lsB_s 1000 d 0 c, show 12 - 0 = 12 from rfl, h]
    rcases (show c = 0 ∨ c = 1 by omega) with rfl | rfl
    · show mnI (if 9 < (0 : Int32) + nI 0 then 1000 else 0 + nI 0 + 0) (if (0 : Int32) + nI 0 < 1 then 1000 else 10 - (0 + nI 0) + 100) = mnI (if 9 < (0 : Int32) + nI 0 then 1000 else 0 + nI 0 + 0) (if (0 : Int32) + nI 0 < 1 then 1000 else 10 - (0 + nI 0) + 1000)
      decide
    · show mnI (if 9 < (0 : Int32) + nI 1 then 1000 else 0 + nI 1 + 0) (if (0 : Int32) + nI 1 < 1 then 1000 else 10 - (0 + nI 1) + 100) = mnI (if 9 < (0 : Int32) + nI 1 then 1000 else 0 + nI 1 + 0) (if (0 : Int32) + nI 1 < 1 then 1000 else 10 - (0 + nI 1) + 1000)
      decide
  | m + 1, c, hc => by
    rw [lsB_s 100 d (m + 1) c, lsB_s 1000 d (m + 1) c, lsB_eq h m 0 (by omega), lsB_eq h m 1 (by omega)]
theorem stB_eq {d : Nat → Int32} (h : d 12 = 0) {k c : Nat} (hk : k ≤ 12) (hc : c < 2) : stB 100 d k c = stB 1000 d k c := by
  unfold stB
  rw [show 13 - k = (12 - k) + 1 by omega, lsB_eq h (12 - k) c hc]
  by_cases e : k = 12
  · subst e; rfl
  · rw [show 12 - k = (11 - k) + 1 by omega, lsB_eq h (11 - k) 0 (by omega)]
theorem cyB_eq {d : Nat → Int32} (h : d 12 = 0) : ∀ k, k ≤ 13 → cyB 100 d k = cyB 1000 d k
  | 0, _ => rfl
  | k + 1, hk => by
    rw [cyB, cyB, cyB_eq h k (by omega), stB_eq h (by omega) (by have := cyB_le (B := 1000) (d := d) k; omega)]
theorem fgB_eq {d : Nat → Int32} (h : d 12 = 0) {k : Nat} (hk : k ≤ 12) : fgB 100 d k = fgB 1000 d k := by
  unfold fgB
  rw [cyB_eq h k (by omega), stB_eq h hk (by have := cyB_le (B := 1000) (d := d) k; omega)]
theorem dgN_12 {v : Int64} (h : 0 ≤ v) (h2 : v ≤ 999999999999) : dgN v 12 = 0 := by
  obtain ⟨q, h3, h4, h5⟩ := dgN_at h 12
  have h6 := Int64.le_iff_toInt_le.mp h2
  rw [show (999999999999 : Int64).toInt = 999999999999 from rfl] at h6
  have : q = 0 := by rw [h5]; omega
  rw [h4, this]; rfl
theorem few_eq {v : Int64} (h : 0 ≤ v) (h2 : v ≤ 999999999999) : lsB 100 (dgN v) 13 0 = spFew v := lsB_eq (dgN_12 h h2) 12 0 (by omega)
theorem lA_s : ∀ k, lA k = true → sA k = true := by
  intro k h
  unfold lA at h
  unfold sA
  simp only [Bool.or_eq_true, beq_iff_eq, decide_eq_true_eq] at h ⊢
  rcases h with (rfl | rfl) | h
  · exact Or.inl (by decide)
  · exact Or.inl (by decide)
  · exact Or.inr h
theorem Sy.ls {ξ ξ1 : Xs} (h : Sy nB lA nB ξ1 ξ) : Sy sI sA sB ξ1 ξ := h.mono (fun k h => by cases h) lA_s (fun k h => by cases h)
set_option maxHeartbeats 4000000 in
set_option maxRecDepth 100000 in
/-- WheelTables.isGreat -/
theorem x_isGreat {M : List ACell} (v : Int64) : Ct yX0_isGreat (ws_ yX0_isGreat cX0_isGreat 2 (some .boolean)) 0 0 0 [.long v] M (QB (¬ (0 ≤ v ∧ v ≤ 999999999999)) M) noX := by
  refine Ct.of (ini := false) (ls := [some (.long v), none]) (by decide) (Nat.le_of_ble_eq_true rfl) (fun h => by cases h) rfl ?_
  refine e_lload_n dX0_isGreat_0 0 rfl rfl ?_
  refine e_lconst 0 dX0_isGreat_1 rfl ?_
  refine e_lcmp_lt 14 dX0_isGreat_2 dX0_isGreat_3 (by decide) (fun h2 => ?_) (fun h2 => ?_)
  · refine e_iconst 1 dX0_isGreat_14 rfl ?_
    refine e_goto 19 dX0_isGreat_15 (by decide) ?_
    refine e_ireturn dX0_isGreat_19 rfl rfl (Nat.zero_le _) (Nat.zero_le _) ?_
    exact ⟨rfl, Or.inl ⟨fun z => i64_lt h2 z.1, rfl⟩⟩
  · refine e_lload_n dX0_isGreat_6 0 rfl rfl ?_
    refine e_ldc2 rfl q951 dX0_isGreat_7 ?_
    refine e_lcmp_le 18 dX0_isGreat_10 dX0_isGreat_11 (by decide) (fun h10 => ?_) (fun h10 => ?_)
    · refine e_iconst 0 dX0_isGreat_18 rfl ?_
      refine e_ireturn dX0_isGreat_19 rfl rfl (Nat.zero_le _) (Nat.zero_le _) ?_
      exact ⟨rfl, Or.inr ⟨fun z => z ⟨i64_nlt h2, h10⟩, rfl⟩⟩
    · refine e_iconst 1 dX0_isGreat_14 rfl ?_
      refine e_goto 19 dX0_isGreat_15 (by decide) ?_
      refine e_ireturn dX0_isGreat_19 rfl rfl (Nat.zero_le _) (Nat.zero_le _) ?_
      exact ⟨rfl, Or.inl ⟨fun z => h10 z.2, rfl⟩⟩

set_option maxHeartbeats 4000000 in
set_option maxRecDepth 100000 in
/-- WheelTables.turns -/
theorem x_turns {ξ : Xs} {mid dyn : List ACell} {τ : Tw} {own : Nat → Nat} (hm : mid.length = 61) (hRel : Rel own ξ dyn τ) (v : Int64) : Ct yX0_turns (ws_ yX0_turns cX0_turns 3 (some .int)) 2 0 0 [.ref 0, .long v] (XM ξ mid dyn) (XQi mid (sp_turns v τ)) noX := by
  obtain ⟨hI, hA, hB, hW, hP, hR, hT, hE, hC, hV⟩ := id hRel
  refine Ct.of (ini := false) (ls := [some (.ref 0), some (.long v), none]) (by decide) (Nat.le_of_ble_eq_true rfl) (fun h => by cases h) rfl ?_
  refine e_lload_n dX0_turns_0 1 rfl rfl ?_
  refine e_callSB (As := [.long v]) (rest := []) dX0_turns_1 rfl msX0_402 (x_isGreat v) (Nat.le_of_ble_eq_true rfl) rfl rfl (Nat.le_of_ble_eq_true rfl) (Nat.zero_le _) (Nat.zero_le _) (fun h1 => ?_) (fun h1 => ?_)
  · have h1 : (¬ (0 ≤ v ∧ v ≤ 999999999999)) := h1
    refine e_if_eq_f (by decide) 15 dX0_turns_4 (by decide) ?_
    refine e_aload_n dX0_turns_7 0 rfl rfl rfl ?_
    refine e_iconst 5 dX0_turns_8 rfl ?_
    refine e_callV1 (As := [.int 5]) (rest := []) dX0_turns_9 rfl mvX0_169 (xm_o0) rfl (x_none 5) (Nat.le_of_ble_eq_true rfl) rfl rfl (Nat.le_of_ble_eq_true rfl) (Nat.zero_le _) (Nat.zero_le _) ?_
    refine e_goto 24 dX0_turns_12 (by decide) ?_
    refine e_ireturn dX0_turns_24 rfl rfl (Nat.zero_le _) (Nat.zero_le _) ?_
    have eS : sp_turns v τ = (-1, bE τ 5) := by rw [sp_turns, if_neg h1]
    refine ⟨_, _, own, rfl, ?_, ?_⟩
    · rw [eS]
    · rw [eS]; exact hRel.stE 5
  · have h1 : ¬ (¬ (0 ≤ v ∧ v ≤ 999999999999)) := h1
    refine e_if_eq_t 15 (by decide) dX0_turns_4 (by decide) ?_
    have hin := Classical.not_not.mp h1
    have hv := hin.1
    refine e_aload_n dX0_turns_15 0 rfl rfl rfl ?_
    refine e_aload_n dX0_turns_16 0 rfl rfl rfl ?_
    refine e_lload_n dX0_turns_17 1 rfl rfl ?_
    refine e_callVQ (As := [.long v]) (rest := [.ref 0]) dX0_turns_18 rfl mvX0_377 (xm_o0) rfl (x_least (v := v) hv) (Nat.le_of_ble_eq_true rfl) rfl rfl (Nat.le_of_ble_eq_true rfl) (Nat.zero_le _) (Nat.zero_le _) (fun v0 M0 h0 _ => ?_)
    obtain ⟨ξ1, rfl, rfl, hS1, hF1⟩ := h0
    refine e_callV1 (As := [.int (lsB 100 (dgN v) 13 0)]) (rest := []) dX0_turns_21 rfl mvX0_215 (xm_o0) rfl (x_gives (lsB 100 (dgN v) 13 0)) (Nat.le_of_ble_eq_true rfl) rfl rfl (Nat.le_of_ble_eq_true rfl) (Nat.zero_le _) (Nat.zero_le _) ?_
    refine e_ireturn dX0_turns_24 rfl rfl (Nat.zero_le _) (Nat.zero_le _) ?_
    have eS : sp_turns v τ = (spFew v, b0 τ) := by rw [sp_turns, if_pos hin]
    refine ⟨_, _, own, rfl, ?_, ?_⟩
    · rw [eS, few_eq hin.1 hin.2]
    · rw [eS]; exact (hRel.sq hS1.ls).st0

set_option maxHeartbeats 4000000 in
set_option maxRecDepth 100000 in
/-- WheelTables.turnsAt -/
theorem x_turnsAt {ξ : Xs} {mid dyn : List ACell} {τ : Tw} {own : Nat → Nat} (hm : mid.length = 61) (hRel : Rel own ξ dyn τ) (v : Int64) (k : Int32) : Ct yX0_turnsAt (ws_ yX0_turnsAt cX0_turnsAt 5 (some .int)) 2 0 0 [.ref 0, .long v, .int k] (XM ξ mid dyn) (XQi mid (sp_turnsAt v k τ)) noX := by
  obtain ⟨hI, hA, hB, hW, hP, hR, hT, hE, hC, hV⟩ := id hRel
  refine Ct.of (ini := false) (ls := [some (.ref 0), some (.long v), none, some (.int k), none]) (by decide) (Nat.le_of_ble_eq_true rfl) (fun h => by cases h) rfl ?_
  refine e_lload_n dX0_turnsAt_0 1 rfl rfl ?_
  refine e_callSB (As := [.long v]) (rest := []) dX0_turnsAt_1 rfl msX0_402 (x_isGreat v) (Nat.le_of_ble_eq_true rfl) rfl rfl (Nat.le_of_ble_eq_true rfl) (Nat.zero_le _) (Nat.zero_le _) (fun h1 => ?_) (fun h1 => ?_)
  · have h1 : (¬ (0 ≤ v ∧ v ≤ 999999999999)) := h1
    refine e_if_ne_t 17 (by decide) dX0_turnsAt_4 (by decide) ?_
    refine e_aload_n dX0_turnsAt_17 0 rfl rfl rfl ?_
    refine e_iconst 5 dX0_turnsAt_18 rfl ?_
    refine e_callV1 (As := [.int 5]) (rest := []) dX0_turnsAt_19 rfl mvX0_169 (xm_o0) rfl (x_none 5) (Nat.le_of_ble_eq_true rfl) rfl rfl (Nat.le_of_ble_eq_true rfl) (Nat.zero_le _) (Nat.zero_le _) ?_
    refine e_ireturn dX0_turnsAt_22 rfl rfl (Nat.zero_le _) (Nat.zero_le _) ?_
    have eS : sp_turnsAt v k τ = (-1, bE τ 5) := by rw [sp_turnsAt, if_neg (fun z => h1 z.1)]
    refine ⟨_, _, own, rfl, ?_, ?_⟩
    · rw [eS]
    · rw [eS]; exact hRel.stE 5
  · have h1 : ¬ (¬ (0 ≤ v ∧ v ≤ 999999999999)) := h1
    refine e_if_ne_f (by decide) 17 dX0_turnsAt_4 (by decide) ?_
    have hin := Classical.not_not.mp h1
    have hv := hin.1
    refine e_iload_n dX0_turnsAt_7 3 rfl rfl ?_
    refine e_if_lt 17 dX0_turnsAt_8 (by decide) (fun h8 => ?_) (fun h8 => ?_)
    · refine e_aload_n dX0_turnsAt_17 0 rfl rfl rfl ?_
      refine e_iconst 5 dX0_turnsAt_18 rfl ?_
      refine e_callV1 (As := [.int 5]) (rest := []) dX0_turnsAt_19 rfl mvX0_169 (xm_o0) rfl (x_none 5) (Nat.le_of_ble_eq_true rfl) rfl rfl (Nat.le_of_ble_eq_true rfl) (Nat.zero_le _) (Nat.zero_le _) ?_
      refine e_ireturn dX0_turnsAt_22 rfl rfl (Nat.zero_le _) (Nat.zero_le _) ?_
      have eS : sp_turnsAt v k τ = (-1, bE τ 5) := by rw [sp_turnsAt, if_neg (fun z => i32_lt h8 z.2.1)]
      refine ⟨_, _, own, rfl, ?_, ?_⟩
      · rw [eS]
      · rw [eS]; exact hRel.stE 5
    · refine e_iload_n dX0_turnsAt_11 3 rfl rfl ?_
      refine e_bipush 12 dX0_turnsAt_12 rfl ?_
      refine e_icmp_le 23 dX0_turnsAt_14 (by decide) (fun h14 => ?_) (fun h14 => ?_)
      · obtain ⟨n_k, hn_k, rfl⟩ := in_oc (x := k) (c := 12) 12 (by decide) (i32_nlt h8) h14
        refine e_aload_n dX0_turnsAt_23 0 rfl rfl rfl ?_
        refine e_lload_n dX0_turnsAt_24 1 rfl rfl ?_
        refine e_callVQ (As := [.long v]) (rest := []) dX0_turnsAt_25 rfl mvX0_377 (xm_o0) rfl (x_least (v := v) hv) (Nat.le_of_ble_eq_true rfl) rfl rfl (Nat.le_of_ble_eq_true rfl) (Nat.zero_le _) (Nat.zero_le _) (fun v0 M0 h0 _ => ?_)
        obtain ⟨ξ1, rfl, rfl, hS1, hF1⟩ := h0
        refine e_istore dX0_turnsAt_28 (ls_s (ls_s (ls_s (ls_1 rfl)))) (Nat.le_of_ble_eq_true rfl) ?_
        refine e_aload_n dX0_turnsAt_30 0 rfl rfl rfl ?_
        refine e_aload_n dX0_turnsAt_31 0 rfl rfl rfl ?_
        refine e_getf (v := (.ref 16)) dX0_turnsAt_32 rfl fX0_82 (xm_o0) rfl ?_
        refine e_iload_n dX0_turnsAt_35 3 rfl rfl ?_
        refine e_iald (f := ξ1.2.2.1 28) (j := n_k) dX0_turnsAt_36 (xm_a28) rfl (by omega) (by decide) ?_
        refine e_callV1 (As := [.int (ξ1.2.2.1 28 n_k)]) (rest := []) dX0_turnsAt_37 rfl mvX0_215 (xm_o0) rfl (x_gives (ξ1.2.2.1 28 n_k)) (Nat.le_of_ble_eq_true rfl) rfl rfl (Nat.le_of_ble_eq_true rfl) (Nat.zero_le _) (Nat.zero_le _) ?_
        refine e_ireturn dX0_turnsAt_40 rfl rfl (Nat.zero_le _) (Nat.zero_le _) ?_
        have eS : sp_turnsAt v (nI n_k) τ = (fgB 1000 (dgN v) n_k, b0 τ) := by rw [sp_turnsAt, if_pos ⟨hin, i32_nlt h8, h14⟩, ix_nI (by omega)]
        refine ⟨_, _, own, rfl, ?_, ?_⟩
        · rw [eS, hF1 n_k (by omega), fgB_eq (dgN_12 hin.1 hin.2) (by omega)]
        · rw [eS]; exact (hRel.sq hS1.ls).st0
      · refine e_aload_n dX0_turnsAt_17 0 rfl rfl rfl ?_
        refine e_iconst 5 dX0_turnsAt_18 rfl ?_
        refine e_callV1 (As := [.int 5]) (rest := []) dX0_turnsAt_19 rfl mvX0_169 (xm_o0) rfl (x_none 5) (Nat.le_of_ble_eq_true rfl) rfl rfl (Nat.le_of_ble_eq_true rfl) (Nat.zero_le _) (Nat.zero_le _) ?_
        refine e_ireturn dX0_turnsAt_22 rfl rfl (Nat.zero_le _) (Nat.zero_le _) ?_
        have eS : sp_turnsAt v k τ = (-1, bE τ 5) := by rw [sp_turnsAt, if_neg (fun z => h14 z.2.2)]
        refine ⟨_, _, own, rfl, ?_, ?_⟩
        · rw [eS]
        · rw [eS]; exact hRel.stE 5

