/-! ===== the twin: an engine set ===== -/
set_option maxHeartbeats 4000000 in
set_option maxRecDepth 100000 in
/-- WheelTablesModel.ahead -/
theorem t_ahead {pre post : List ACell} {τ0 : Tw} (hp : pre.length = 56) {v : Nat → Int64} {k n : Nat} (hn : n ≤ 7) (hk : k + 1 < n) : Ct yX4_ahead (ws_ yX4_ahead cX4_ahead 3 none) 0 0 0 [.ref 56, .int (nI k), .int (nI n)] (TW pre (tB τ0 26 v) post) (Q1 none (TW pre (tB τ0 26 (vp_updL v k (v k - v (k + 1)))) post)) noX := by
  refine Ct.of (ini := false) (ls := [some (.ref 56), some (.int (nI k)), some (.int (nI n))]) (by decide) (Nat.le_of_ble_eq_true rfl) (fun h => by cases h) rfl ?_
  refine e_aload_n dX4_ahead_0 0 rfl rfl rfl ?_
  refine e_getf (v := .ref 72) dX4_ahead_1 rfl fX4_64 (tw_o hp) rfl ?_
  refine e_iload_n dX4_ahead_4 1 rfl rfl ?_
  refine e_dup2 dX4_ahead_5 rfl rfl ?_
  refine e_lald (f := v) (j := k) dX4_ahead_6 (tw_a26 hp) rfl (by omega) (by decide) ?_
  refine e_iload_n dX4_ahead_7 1 rfl rfl ?_
  refine e_iconst 1 dX4_ahead_8 rfl ?_
  refine e_iaddN k 1 dX4_ahead_9 ?_
  refine e_iload_n dX4_ahead_10 2 rfl rfl ?_
  refine e_icmp_geN (k + 1) n 25 (by omega) (by omega) dX4_ahead_11 (by decide) (fun h11 => ?_) (fun h11 => ?_)
  · exact absurd h11 (by omega)
  · refine e_aload_n dX4_ahead_14 0 rfl rfl rfl ?_
    refine e_getf (v := .ref 72) dX4_ahead_15 rfl fX4_64 (tw_o hp) rfl ?_
    refine e_iload_n dX4_ahead_18 1 rfl rfl ?_
    refine e_iconst 1 dX4_ahead_19 rfl ?_
    refine e_iaddN k 1 dX4_ahead_20 ?_
    refine e_lald (f := v) (j := k + 1) dX4_ahead_21 (tw_a26 hp) rfl (by omega) (by decide) ?_
    refine e_goto 26 dX4_ahead_22 (by decide) ?_
    refine e_lsub dX4_ahead_26 ?_
    refine e_last (f := v) (j := k) dX4_ahead_27 (tw_a26 hp) rfl (by omega) (by decide) ?_
    rw [tw_s26 hp]
    refine e_return dX4_ahead_28 rfl (Nat.zero_le _) (Nat.zero_le _) ?_
    refine ⟨rfl, ?_⟩
    rw [tB_tB]

set_option maxHeartbeats 4000000 in
set_option maxRecDepth 100000 in
/-- a loop of back -/
theorem t_bk_in {pre post : List ACell} {τ0 : Tw} (hp : pre.length = 56) {v : Nat → Int64} {n k : Nat} (hn : n ≤ 7) (hk : 1 ≤ k) (hkn : k < n) {Q : Qfun} : ∀ (fuel : Nat) (i : Nat) (w : Nat → Int64), k ≤ i + 1 ∧ i < n → i < fuel → w = difQ i n v → E cX4_back (RX4, none, 4, 1, (0, 0), false, []) Q noX 0 0 39 [some (.ref 56), some (.int (nI n)), some (.int (nI k)), none] [] (TW pre (tB τ0 26 (difP k n v)) post) →
    E cX4_back (RX4, none, 4, 1, (0, 0), false, []) Q noX 0 0 11 [some (.ref 56), some (.int (nI n)), some (.int (nI k)), some (.int (nI i))] [] (TW pre (tB τ0 26 w) post) := by
  intro fuel
  induction fuel with
  | zero => intro i w hi hf hw hE; exact absurd hf (by omega)
  | succ fuel ih =>
    intro i w hi hf hw hE
    refine e_iload_n dX4_back_11 3 rfl rfl ?_
    refine e_iload_n dX4_back_12 2 rfl rfl ?_
    refine e_icmp_ltN i k 39 (by omega) (by omega) dX4_back_13 (by decide) (fun h13 => ?_) (fun h13 => ?_)
    · refine e_forget (i := 3) (ln_s (ln_s (ln_s ln_0))) ?_
      have e1 : k = i + 1 := by omega
      subst e1
      rw [← difQ_e, ← hw] at hE
      exact hE
    · obtain ⟨q, rfl⟩ : ∃ q, i = q + 1 := ⟨i - 1, by omega⟩
      refine e_aload_n dX4_back_16 0 rfl rfl rfl ?_
      refine e_getf (v := .ref 72) dX4_back_17 rfl fX4_64 (tw_o hp) rfl ?_
      refine e_iload_n dX4_back_20 3 rfl rfl ?_
      refine e_dup2 dX4_back_21 rfl rfl ?_
      refine e_lald (f := w) (j := q + 1) dX4_back_22 (tw_a26 hp) rfl (by omega) (by decide) ?_
      refine e_aload_n dX4_back_23 0 rfl rfl rfl ?_
      refine e_getf (v := .ref 72) dX4_back_24 rfl fX4_64 (tw_o hp) rfl ?_
      refine e_iload_n dX4_back_27 3 rfl rfl ?_
      refine e_iconst 1 dX4_back_28 rfl ?_
      refine e_isubN (q + 1) 1 (by omega) dX4_back_29 ?_
      refine e_lald (f := w) (j := (q + 1) - 1) dX4_back_30 (tw_a26 hp) rfl (by omega) (by decide) ?_
      refine e_lsub dX4_back_31 ?_
      refine e_last (f := w) (j := q + 1) dX4_back_32 (tw_a26 hp) rfl (by omega) (by decide) ?_
      rw [tw_s26 hp]
      refine e_incN (q + 1) q (decS _) dX4_back_33 rfl (ls_s (ls_s (ls_1 rfl))) (Nat.le_of_ble_eq_true rfl) ?_
      refine e_goto 11 dX4_back_36 (by decide) ?_
      refine ih q _ (by omega) (by omega) ?_ hE
      subst hw
      exact difQ_s (by omega)

set_option maxHeartbeats 4000000 in
set_option maxRecDepth 100000 in
/-- a loop of back -/
theorem t_bk1 {pre post : List ACell} {τ0 : Tw} (hp : pre.length = 56) {v : Nat → Int64} {n : Nat} (hn : n ≤ 7) (hn1 : 1 ≤ n) {Q : Qfun} : ∀ (fuel : Nat) (k : Nat) (w : Nat → Int64), 1 ≤ k ∧ k ≤ n → n < k + fuel → w = dfL n v (k - 1) → E cX4_back (RX4, none, 4, 1, (0, 0), false, []) Q noX 0 0 45 [some (.ref 56), some (.int (nI n)), none, none] [] (TW pre (tB τ0 26 (dfL n v (n - 1))) post) →
    E cX4_back (RX4, none, 4, 1, (0, 0), false, []) Q noX 0 0 2 [some (.ref 56), some (.int (nI n)), some (.int (nI k)), none] [] (TW pre (tB τ0 26 w) post) := by
  intro fuel
  induction fuel with
  | zero => intro k w hk hf hw hE; exact absurd hf (by omega)
  | succ fuel ih =>
    intro k w hk hf hw hE
    refine e_iload_n dX4_back_2 2 rfl rfl ?_
    refine e_iload_n dX4_back_3 1 rfl rfl ?_
    refine e_icmp_geN k n 45 (by omega) (by omega) dX4_back_4 (by decide) (fun h4 => ?_) (fun h4 => ?_)
    · refine e_forget (i := 2) (ln_s (ln_s ln_0)) ?_
      have e1 : k = n := by omega
      subst e1
      rw [← hw] at hE
      exact hE
    · refine e_iload_n dX4_back_7 1 rfl rfl ?_
      refine e_iconst 1 dX4_back_8 rfl ?_
      refine e_isubN n 1 (by omega) dX4_back_9 ?_
      refine e_istore_n dX4_back_10 3 rfl (ls_s (ls_s (ls_1 rfl))) (Nat.le_of_ble_eq_true rfl) ?_
      refine t_bk_in (v := w) hp hn (by omega) (by omega) (n + 1) (n - 1) w (by omega) (by omega) difQ_0.symm ?_
      refine e_incN k (k + 1) (inc1 _) dX4_back_39 rfl (ls_s (ls_1 rfl)) (Nat.le_of_ble_eq_true rfl) ?_
      refine e_goto 2 dX4_back_42 (by decide) ?_
      refine ih (k + 1) _ (by omega) (by omega) ?_ hE
      rw [hw, Nat.add_sub_cancel]
      obtain ⟨q, rfl⟩ : ∃ q, k = q + 1 := ⟨k - 1, by omega⟩
      rfl

set_option maxHeartbeats 4000000 in
set_option maxRecDepth 100000 in
/-- a loop of back -/
theorem t_bk_st {pre post : List ACell} {τ0 : Tw} (hp : pre.length = 56) {v : Nat → Int64} {n s : Nat} (hn : n ≤ 7) (hs : 1 ≤ s) (hs3 : s ≤ 3) {Q : Qfun} : ∀ (fuel : Nat) (i : Nat), (2 * s ≤ i + 1 ∨ i + 2 = n) ∧ i + 1 < n → i < fuel → E cX4_back (RX4, none, 4, 1, (0, 0), false, []) Q noX 0 0 75 [some (.ref 56), some (.int (nI n)), some (.int (nI s)), none] [] (TW pre (tB τ0 26 (stP (2 * s) n v)) post) →
    E cX4_back (RX4, none, 4, 1, (0, 0), false, []) Q noX 0 0 56 [some (.ref 56), some (.int (nI n)), some (.int (nI s)), some (.int (nI i))] [] (TW pre (tB τ0 26 (stP (i + 1) n v)) post) := by
  intro fuel
  induction fuel with
  | zero => intro i hi hf hE; exact absurd hf (by omega)
  | succ fuel ih =>
    intro i hi hf hE
    refine e_iload_n dX4_back_56 3 rfl rfl ?_
    refine e_iconst 2 dX4_back_57 rfl ?_
    refine e_iload_n dX4_back_58 2 rfl rfl ?_
    refine e_imulN 2 s dX4_back_59 ?_
    refine e_icmp_ltN i (2 * s) 75 (by omega) (by omega) dX4_back_60 (by decide) (fun h60 => ?_) (fun h60 => ?_)
    · refine e_forget (i := 3) (ln_s (ln_s (ln_s ln_0))) ?_
      by_cases e1 : 2 * s = i + 1
      · rw [e1] at hE; exact hE
      · have e2 : stP (2 * s) n v = stP (i + 1) n v := (stP_hi (by omega)).trans (stP_hi (by omega)).symm
        rw [e2] at hE; exact hE
    · refine e_aload_n dX4_back_63 0 rfl rfl rfl ?_
      refine e_iload_n dX4_back_64 3 rfl rfl ?_
      refine e_iload_n dX4_back_65 1 rfl rfl ?_
      refine e_callV0 (As := [.int (nI i), .int (nI n)]) (rest := []) dX4_back_66 rfl mvX4_270 (tw_o hp) rfl (t_ahead hp (v := stP (i + 1) n v) hn (show i + 1 < n by omega)) (Nat.le_of_ble_eq_true rfl) rfl rfl (Nat.le_of_ble_eq_true rfl) (Nat.zero_le _) (Nat.zero_le _) ?_
      rw [stP_s (by omega)]
      obtain ⟨q, rfl⟩ : ∃ q, i = q + 1 := ⟨i - 1, by omega⟩
      refine e_incN (q + 1) q (decS _) dX4_back_69 rfl (ls_s (ls_s (ls_1 rfl))) (Nat.le_of_ble_eq_true rfl) ?_
      refine e_goto 56 dX4_back_72 (by decide) ?_
      exact ih q (by omega) (by omega) hE

set_option maxHeartbeats 4000000 in
set_option maxRecDepth 100000 in
/-- a loop of back -/
theorem t_bk2 {pre post : List ACell} {τ0 : Tw} (hp : pre.length = 56) {v : Nat → Int64} {n : Nat} (hn : n ≤ 7) (hn2 : 2 ≤ n) {Q : Qfun} : ∀ (fuel : Nat) (s : Nat) (w : Nat → Int64), 1 ≤ s → s ≤ 4 → 4 < s + fuel → w = bkT n v (s - 1) → Q none (TW pre (tB τ0 26 (bkT n v 3)) post) →
    E cX4_back (RX4, none, 4, 1, (0, 0), false, []) Q noX 0 0 47 [some (.ref 56), some (.int (nI n)), some (.int (nI s)), none] [] (TW pre (tB τ0 26 w) post) := by
  intro fuel
  induction fuel with
  | zero => intro s w hs hs4 hf hw hQ; exact absurd hf (by omega)
  | succ fuel ih =>
    intro s w hs hs4 hf hw hQ
    refine e_iload_n dX4_back_47 2 rfl rfl ?_
    refine e_iconst 3 dX4_back_48 rfl ?_
    refine e_icmp_gtN s 3 81 (by omega) (by omega) dX4_back_49 (by decide) (fun h49 => ?_) (fun h49 => ?_)
    · refine e_return dX4_back_81 rfl (Nat.zero_le _) (Nat.zero_le _) ?_
      have e1 : s = 4 := by omega
      subst e1
      rw [hw]; exact hQ
    · refine e_iload_n dX4_back_52 1 rfl rfl ?_
      refine e_iconst 2 dX4_back_53 rfl ?_
      refine e_isubN n 2 (by omega) dX4_back_54 ?_
      refine e_istore_n dX4_back_55 3 rfl (ls_s (ls_s (ls_1 rfl))) (Nat.le_of_ble_eq_true rfl) ?_
      rw [← stP_hi (lo := n - 2 + 1) (n := n) (v := w) (by omega)]
      refine t_bk_st (v := w) hp hn hs (by omega) n (n - 2) (by omega) (by omega) ?_
      refine e_incN s (s + 1) (inc1 _) dX4_back_75 rfl (ls_s (ls_1 rfl)) (Nat.le_of_ble_eq_true rfl) ?_
      refine e_goto 47 dX4_back_78 (by decide) ?_
      refine ih (s + 1) _ (by omega) (by omega) (by omega) ?_ hQ
      rw [hw, Nat.add_sub_cancel]
      obtain ⟨q, rfl⟩ : ∃ q, s = q + 1 := ⟨s - 1, by omega⟩
      rfl

set_option maxHeartbeats 4000000 in
set_option maxRecDepth 100000 in
/-- WheelTablesModel.back -/
theorem t_back1 {pre post : List ACell} {τ0 : Tw} (hp : pre.length = 56) {v : Nat → Int64} : Ct yX4_back (ws_ yX4_back cX4_back 4 none) 1 0 0 [.ref 56, .int 1] (TW pre (tB τ0 26 v) post) (Q1 none (TW pre (tB τ0 26 v) post)) noX := by
  refine Ct.of (ini := false) (ls := [some (.ref 56), some (.int 1), none, none]) (by decide) (Nat.le_of_ble_eq_true rfl) (fun h => by cases h) rfl ?_
  refine e_iconst 1 dX4_back_0 rfl ?_
  refine e_istore_n dX4_back_1 2 rfl (ls_s (ls_1 rfl)) (Nat.le_of_ble_eq_true rfl) ?_
  refine e_iload_n dX4_back_2 2 rfl rfl ?_
  refine e_iload_n dX4_back_3 1 rfl rfl ?_
  refine e_icmp_ge 45 dX4_back_4 (by decide) (fun _ => ?_) (fun h => absurd h (by decide))
  refine e_iconst 1 dX4_back_45 rfl ?_
  refine e_istore_n dX4_back_46 2 rfl (ls_s (ls_1 rfl)) (Nat.le_of_ble_eq_true rfl) ?_
  refine e_iload_n dX4_back_47 2 rfl rfl ?_
  refine e_iconst 3 dX4_back_48 rfl ?_
  refine e_icmp_gt 81 dX4_back_49 (by decide) (fun h => absurd h (by decide)) (fun _ => ?_)
  refine e_iload_n dX4_back_52 1 rfl rfl ?_
  refine e_iconst 2 dX4_back_53 rfl ?_
  refine e_isub dX4_back_54 ?_
  refine e_top (w := .int (-1)) (by decide) ?_
  refine e_istore_n dX4_back_55 3 rfl (ls_s (ls_s (ls_1 rfl))) (Nat.le_of_ble_eq_true rfl) ?_
  refine e_iload_n dX4_back_56 3 rfl rfl ?_
  refine e_iconst 2 dX4_back_57 rfl ?_
  refine e_iload_n dX4_back_58 2 rfl rfl ?_
  refine e_imul dX4_back_59 ?_
  refine e_top (w := .int 2) (by decide) ?_
  refine e_icmp_lt 75 dX4_back_60 (by decide) (fun _ => ?_) (fun h => absurd h (by decide))
  refine e_iinc 2 dX4_back_75 rfl (by decide) (ls_s (ls_1 rfl)) (Nat.le_of_ble_eq_true rfl) ?_
  refine e_goto 47 dX4_back_78 (by decide) ?_
  refine e_iload_n dX4_back_47 2 rfl rfl ?_
  refine e_iconst 3 dX4_back_48 rfl ?_
  refine e_icmp_gt 81 dX4_back_49 (by decide) (fun h => absurd h (by decide)) (fun _ => ?_)
  refine e_iload_n dX4_back_52 1 rfl rfl ?_
  refine e_iconst 2 dX4_back_53 rfl ?_
  refine e_isub dX4_back_54 ?_
  refine e_top (w := .int (-1)) (by decide) ?_
  refine e_istore_n dX4_back_55 3 rfl (ls_s (ls_s (ls_1 rfl))) (Nat.le_of_ble_eq_true rfl) ?_
  refine e_iload_n dX4_back_56 3 rfl rfl ?_
  refine e_iconst 2 dX4_back_57 rfl ?_
  refine e_iload_n dX4_back_58 2 rfl rfl ?_
  refine e_imul dX4_back_59 ?_
  refine e_top (w := .int 4) (by decide) ?_
  refine e_icmp_lt 75 dX4_back_60 (by decide) (fun _ => ?_) (fun h => absurd h (by decide))
  refine e_iinc 3 dX4_back_75 rfl (by decide) (ls_s (ls_1 rfl)) (Nat.le_of_ble_eq_true rfl) ?_
  refine e_goto 47 dX4_back_78 (by decide) ?_
  refine e_iload_n dX4_back_47 2 rfl rfl ?_
  refine e_iconst 3 dX4_back_48 rfl ?_
  refine e_icmp_gt 81 dX4_back_49 (by decide) (fun h => absurd h (by decide)) (fun _ => ?_)
  refine e_iload_n dX4_back_52 1 rfl rfl ?_
  refine e_iconst 2 dX4_back_53 rfl ?_
  refine e_isub dX4_back_54 ?_
  refine e_top (w := .int (-1)) (by decide) ?_
  refine e_istore_n dX4_back_55 3 rfl (ls_s (ls_s (ls_1 rfl))) (Nat.le_of_ble_eq_true rfl) ?_
  refine e_iload_n dX4_back_56 3 rfl rfl ?_
  refine e_iconst 2 dX4_back_57 rfl ?_
  refine e_iload_n dX4_back_58 2 rfl rfl ?_
  refine e_imul dX4_back_59 ?_
  refine e_top (w := .int 6) (by decide) ?_
  refine e_icmp_lt 75 dX4_back_60 (by decide) (fun _ => ?_) (fun h => absurd h (by decide))
  refine e_iinc 4 dX4_back_75 rfl (by decide) (ls_s (ls_1 rfl)) (Nat.le_of_ble_eq_true rfl) ?_
  refine e_goto 47 dX4_back_78 (by decide) ?_
  refine e_iload_n dX4_back_47 2 rfl rfl ?_
  refine e_iconst 3 dX4_back_48 rfl ?_
  refine e_icmp_gt 81 dX4_back_49 (by decide) (fun _ => ?_) (fun h => absurd h (by decide))
  refine e_return dX4_back_81 rfl (Nat.zero_le _) (Nat.zero_le _) ?_
  exact ⟨rfl, rfl⟩

set_option maxHeartbeats 4000000 in
set_option maxRecDepth 100000 in
/-- WheelTablesModel.back -/
theorem t_back2 {pre post : List ACell} {τ0 : Tw} (hp : pre.length = 56) {v : Nat → Int64} {n : Nat} (hn : n ≤ 7) (hn2 : 2 ≤ n) : Ct yX4_back (ws_ yX4_back cX4_back 4 none) 1 0 0 [.ref 56, .int (nI n)] (TW pre (tB τ0 26 v) post) (Q1 none (TW pre (tB τ0 26 (bkN n v)) post)) noX := by
  refine Ct.of (ini := false) (ls := [some (.ref 56), some (.int (nI n)), none, none]) (by decide) (Nat.le_of_ble_eq_true rfl) (fun h => by cases h) rfl ?_
  refine e_iconst 1 dX4_back_0 rfl ?_
  refine e_istore_n dX4_back_1 2 rfl (ls_s (ls_1 rfl)) (Nat.le_of_ble_eq_true rfl) ?_
  refine t_bk1 (τ0 := τ0) (v := v) hp hn (by omega) (n + 1) 1 v (by omega) (by omega) rfl ?_
  refine e_iconst 1 dX4_back_45 rfl ?_
  refine e_istore_n dX4_back_46 2 rfl (ls_s (ls_1 rfl)) (Nat.le_of_ble_eq_true rfl) ?_
  exact t_bk2 (τ0 := τ0) (v := dfL n v (n - 1)) hp hn hn2 5 1 _ (by omega) (by omega) (by omega) rfl ⟨rfl, rfl⟩

theorem bkN_1 (v : Nat → Int64) : bkN 1 v = v := by
  show stP 6 1 (stP 4 1 (stP 2 1 v)) = v
  rw [stP_hi (by omega), stP_hi (by omega), stP_hi (by omega)]
theorem t_back {pre post : List ACell} {τ0 : Tw} (hp : pre.length = 56) {v : Nat → Int64} {n : Nat} (hn : n ≤ 7) (hn1 : 1 ≤ n) : Ct yX4_back (ws_ yX4_back cX4_back 4 none) 1 0 0 [.ref 56, .int (nI n)] (TW pre (tB τ0 26 v) post) (Q1 none (TW pre (tB τ0 26 (bkN n v)) post)) noX := by
  by_cases h : n = 1
  · subst h; rw [bkN_1]; exact t_back1 hp
  · exact t_back2 hp hn (by omega)
