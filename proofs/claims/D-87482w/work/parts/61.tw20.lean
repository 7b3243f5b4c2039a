/-! ===== the twin: errata ===== -/
set_option maxHeartbeats 4000000 in
set_option maxRecDepth 100000 in
/-- a loop of isSmooth -/
theorem t_smooth1 {pre post : List ACell} {τ0 : Tw} (hp : pre.length = 56) {T : Nat → Int64} {n k : Nat} {b : Int32} (hn : n ≤ 20) (hk1 : 1 ≤ k) (hkn : k < n) {w0 : Nat → Int64} {Q : Qfun} : ∀ (fuel : Nat) (q : Nat) (w : Nat → Int64), q ≤ n → n < q + fuel → w = rngL w0 0 q T → E cX4_isSmooth (RX4, (some .boolean), 6, 2, (0, 0), false, []) Q noX 0 0 29 [some (.ref 56), some (.int (nI n)), some (.int (nI k)), some (.int b), none, none] [] (TW pre (tB (tB τ0 70 T) 71 (rngL w0 0 n T)) post) →
    E cX4_isSmooth (RX4, (some .boolean), 6, 2, (0, 0), false, []) Q noX 0 0 3 [some (.ref 56), some (.int (nI n)), some (.int (nI k)), some (.int b), some (.int (nI q)), none] [] (TW pre (tB (tB τ0 70 T) 71 w) post) := by
  intro fuel
  induction fuel with
  | zero => intro q w hq hf hw hE; exact absurd hf (by omega)
  | succ fuel ih =>
    intro q w hq hf hw hE
    refine e_iload dX4_isSmooth_3 rfl ?_
    refine e_iload_n dX4_isSmooth_5 1 rfl rfl ?_
    refine e_icmp_geN q n 29 (by omega) (by omega) dX4_isSmooth_6 (by decide) (fun h6 => ?_) (fun h6 => ?_)
    · refine e_forget (i := 4) (ln_s (ln_s (ln_s (ln_s ln_0)))) ?_
      have e1 : q = n := by omega
      subst e1
      rw [← hw] at hE
      exact hE
    · refine e_aload_n dX4_isSmooth_9 0 rfl rfl rfl ?_
      refine e_getf (v := .ref 96) dX4_isSmooth_10 rfl fX4_149 (tw_o hp) rfl ?_
      refine e_iload dX4_isSmooth_13 rfl ?_
      refine e_aload_n dX4_isSmooth_15 0 rfl rfl rfl ?_
      refine e_getf (v := .ref 95) dX4_isSmooth_16 rfl fX4_146 (tw_o hp) rfl ?_
      refine e_iload dX4_isSmooth_19 rfl ?_
      refine e_lald (f := T) (j := q) dX4_isSmooth_21 (tw_a70 hp) rfl (by omega) (by decide) ?_
      refine e_last (f := w) (j := q) dX4_isSmooth_22 (tw_a71 hp) rfl (by omega) (by decide) ?_
      rw [tw_s71 hp]
      refine e_incN q (q + 1) (inc1 _) dX4_isSmooth_23 rfl (ls_s (ls_s (ls_s (ls_1 rfl)))) (Nat.le_of_ble_eq_true rfl) ?_
      refine e_goto 3 dX4_isSmooth_26 (by decide) ?_
      rw [tB_tB]
      refine ih (q + 1) _ (by omega) (by omega) ?_ hE
      rw [hw, ← rngL_s, Nat.zero_add]

set_option maxHeartbeats 4000000 in
set_option maxRecDepth 100000 in
/-- a loop of isSmooth -/
theorem t_smoothi {pre post : List ACell} {τ0 : Tw} (hp : pre.length = 56) {T : Nat → Int64} {n k : Nat} {b : Int32} (hn : n ≤ 20) (hk1 : 1 ≤ k) (hkn : k < n) {v : Nat → Int64} {o : Nat} (ho : 1 ≤ o) (hon : o < n) {Q : Qfun} : ∀ (fuel : Nat) (i : Nat) (w : Nat → Int64), o ≤ i + 1 ∧ i < n → i < fuel → w = difQ i n v → E cX4_isSmooth (RX4, (some .boolean), 6, 2, (0, 0), false, []) Q noX 0 0 75 [some (.ref 56), some (.int (nI n)), some (.int (nI k)), some (.int b), some (.int (nI o)), none] [] (TW pre (tB (tB τ0 70 T) 71 (difP o n v)) post) →
    E cX4_isSmooth (RX4, (some .boolean), 6, 2, (0, 0), false, []) Q noX 0 0 43 [some (.ref 56), some (.int (nI n)), some (.int (nI k)), some (.int b), some (.int (nI o)), some (.int (nI i))] [] (TW pre (tB (tB τ0 70 T) 71 w) post) := by
  intro fuel
  induction fuel with
  | zero => intro i w hi hf hw hE; exact absurd hf (by omega)
  | succ fuel ih =>
    intro i w hi hf hw hE
    refine e_iload dX4_isSmooth_43 rfl ?_
    refine e_iload dX4_isSmooth_45 rfl ?_
    refine e_icmp_ltN i o 75 (by omega) (by omega) dX4_isSmooth_47 (by decide) (fun h47 => ?_) (fun h47 => ?_)
    · refine e_forget (i := 5) (ln_s (ln_s (ln_s (ln_s (ln_s ln_0))))) ?_
      have e1 : o = i + 1 := by omega
      subst e1
      rw [← difQ_e, ← hw] at hE
      exact hE
    · obtain ⟨q, rfl⟩ : ∃ q, i = q + 1 := ⟨i - 1, by omega⟩
      refine e_aload_n dX4_isSmooth_50 0 rfl rfl rfl ?_
      refine e_getf (v := .ref 96) dX4_isSmooth_51 rfl fX4_149 (tw_o hp) rfl ?_
      refine e_iload dX4_isSmooth_54 rfl ?_
      refine e_dup2 dX4_isSmooth_56 rfl rfl ?_
      refine e_lald (f := w) (j := q + 1) dX4_isSmooth_57 (tw_a71 hp) rfl (by omega) (by decide) ?_
      refine e_aload_n dX4_isSmooth_58 0 rfl rfl rfl ?_
      refine e_getf (v := .ref 96) dX4_isSmooth_59 rfl fX4_149 (tw_o hp) rfl ?_
      refine e_iload dX4_isSmooth_62 rfl ?_
      refine e_iconst 1 dX4_isSmooth_64 rfl ?_
      refine e_isubN (q + 1) 1 (by omega) dX4_isSmooth_65 ?_
      refine e_lald (f := w) (j := (q + 1) - 1) dX4_isSmooth_66 (tw_a71 hp) rfl (by omega) (by decide) ?_
      refine e_lsub dX4_isSmooth_67 ?_
      refine e_last (f := w) (j := q + 1) dX4_isSmooth_68 (tw_a71 hp) rfl (by omega) (by decide) ?_
      rw [tw_s71 hp]
      refine e_incN (q + 1) q (decS _) dX4_isSmooth_69 rfl (ls_s (ls_s (ls_s (ls_s (ls_1 rfl))))) (Nat.le_of_ble_eq_true rfl) ?_
      refine e_goto 43 dX4_isSmooth_72 (by decide) ?_
      rw [tB_tB]
      refine ih q _ (by omega) (by omega) ?_ hE
      subst hw
      exact difQ_s (by omega)

set_option maxHeartbeats 4000000 in
set_option maxRecDepth 100000 in
/-- a loop of isSmooth -/
theorem t_smooth2 {pre post : List ACell} {τ0 : Tw} (hp : pre.length = 56) {T : Nat → Int64} {n k : Nat} {b : Int32} (hn : n ≤ 20) (hk1 : 1 ≤ k) (hkn : k < n) {v : Nat → Int64} {Q : Qfun} : ∀ (fuel : Nat) (o : Nat) (w : Nat → Int64), 1 ≤ o ∧ o ≤ k + 1 → k + 1 < o + fuel → w = dfL n v (o - 1) → E cX4_isSmooth (RX4, (some .boolean), 6, 2, (0, 0), false, []) Q noX 0 0 81 [some (.ref 56), some (.int (nI n)), some (.int (nI k)), some (.int b), none, none] [] (TW pre (tB (tB τ0 70 T) 71 (dfL n v k)) post) →
    E cX4_isSmooth (RX4, (some .boolean), 6, 2, (0, 0), false, []) Q noX 0 0 32 [some (.ref 56), some (.int (nI n)), some (.int (nI k)), some (.int b), some (.int (nI o)), none] [] (TW pre (tB (tB τ0 70 T) 71 w) post) := by
  intro fuel
  induction fuel with
  | zero => intro o w ho hf hw hE; exact absurd hf (by omega)
  | succ fuel ih =>
    intro o w ho hf hw hE
    refine e_iload dX4_isSmooth_32 rfl ?_
    refine e_iload_n dX4_isSmooth_34 2 rfl rfl ?_
    refine e_icmp_gtN o k 81 (by omega) (by omega) dX4_isSmooth_35 (by decide) (fun h35 => ?_) (fun h35 => ?_)
    · refine e_forget (i := 4) (ln_s (ln_s (ln_s (ln_s ln_0)))) ?_
      have e1 : o = k + 1 := by omega
      subst e1
      rw [Nat.add_sub_cancel] at hw
      rw [← hw] at hE
      exact hE
    · refine e_iload_n dX4_isSmooth_38 1 rfl rfl ?_
      refine e_iconst 1 dX4_isSmooth_39 rfl ?_
      refine e_isubN n 1 (by omega) dX4_isSmooth_40 ?_
      refine e_istore dX4_isSmooth_41 (ls_s (ls_s (ls_s (ls_s (ls_1 rfl))))) (Nat.le_of_ble_eq_true rfl) ?_
      refine t_smoothi (v := w) hp hn hk1 hkn (o := o) (by omega) (by omega) (n + 1) (n - 1) w (by omega) (by omega) difQ_0.symm ?_
      refine e_incN o (o + 1) (inc1 _) dX4_isSmooth_75 rfl (ls_s (ls_s (ls_s (ls_1 rfl)))) (Nat.le_of_ble_eq_true rfl) ?_
      refine e_goto 32 dX4_isSmooth_78 (by decide) ?_
      refine ih (o + 1) _ (by omega) (by omega) ?_ hE
      rw [hw, Nat.add_sub_cancel]
      obtain ⟨q, rfl⟩ : ∃ q, o = q + 1 := ⟨o - 1, by omega⟩
      rfl

set_option maxHeartbeats 4000000 in
set_option maxRecDepth 100000 in
/-- a loop of isSmooth -/
theorem t_smooth3 {pre post : List ACell} {τ0 : Tw} (hp : pre.length = 56) {T : Nat → Int64} {n k : Nat} {b : Int32} (hn : n ≤ 20) (hk1 : 1 ≤ k) (hkn : k < n) {w : Nat → Int64} (hw : ∀ i, i < n → w i = dfL n T k i) {Q : Qfun} : ∀ (fuel : Nat) (q : Nat), q ≤ n - k → n - k < q + fuel → allB (fun q => smP n k b T (k + q)) q = true → Q (some (.int (bI (smN n k b T)))) (TW pre (tB (tB τ0 70 T) 71 w) post) →
    E cX4_isSmooth (RX4, (some .boolean), 6, 2, (0, 0), false, []) Q noX 0 0 84 [some (.ref 56), some (.int (nI n)), some (.int (nI k)), some (.int b), some (.int (nI (k + q))), none] [] (TW pre (tB (tB τ0 70 T) 71 w) post) := by
  intro fuel
  induction fuel with
  | zero => intro q hq hf hb hQ; exact absurd hf (by omega)
  | succ fuel ih =>
    intro q hq hf hb hQ
    refine e_iload dX4_isSmooth_84 rfl ?_
    refine e_iload_n dX4_isSmooth_86 1 rfl rfl ?_
    refine e_icmp_geN (k + q) n 114 (by omega) (by omega) dX4_isSmooth_87 (by decide) (fun h87 => ?_) (fun h87 => ?_)
    · refine e_iconst 1 dX4_isSmooth_114 rfl ?_
      refine e_ireturn dX4_isSmooth_115 rfl rfl (Nat.zero_le _) (Nat.zero_le _) ?_
      have e1 : q = n - k := by omega
      subst e1
      have e2 : smN n k b T = true := hb
      rw [e2] at hQ
      exact hQ
    · refine e_aload_n dX4_isSmooth_90 0 rfl rfl rfl ?_
      refine e_getf (v := .ref 96) dX4_isSmooth_91 rfl fX4_149 (tw_o hp) rfl ?_
      refine e_iload dX4_isSmooth_94 rfl ?_
      refine e_lald (f := w) (j := k + q) dX4_isSmooth_96 (tw_a71 hp) rfl (by omega) (by decide) ?_
      refine e_callS1 (As := [.long (w (k + q))]) (rest := []) dX4_isSmooth_97 rfl msX4_451 (m_absL (w (k + q))) (Nat.le_of_ble_eq_true rfl) rfl rfl (Nat.le_of_ble_eq_true rfl) (Nat.zero_le _) (Nat.zero_le _) ?_
      refine e_iload_n dX4_isSmooth_100 3 rfl rfl ?_
      refine e_i2l dX4_isSmooth_101 ?_
      refine e_lcmp_le 108 dX4_isSmooth_102 dX4_isSmooth_103 (by decide) (fun h102 => ?_) (fun h102 => ?_)
      · refine e_incN (k + q) (k + q + 1) (inc1 _) dX4_isSmooth_108 rfl (ls_s (ls_s (ls_s (ls_1 rfl)))) (Nat.le_of_ble_eq_true rfl) ?_
        refine e_goto 84 dX4_isSmooth_111 (by decide) ?_
        exact ih (q + 1) (by omega) (by omega) (by rw [allB, hb, Bool.true_and]; exact decide_eq_true (by rw [← hw _ (by omega)]; exact h102)) hQ
      · refine e_iconst 0 dX4_isSmooth_106 rfl ?_
        refine e_ireturn dX4_isSmooth_107 rfl rfl (Nat.zero_le _) (Nat.zero_le _) ?_
        have e1 : smP n k b T (k + q) = false := decide_eq_false (by rw [← hw _ (by omega)]; exact h102)
        have e5 := e1
        have e2 : smN n k b T = false := allB_f (k := q + 1) (by omega) (by rw [allB, e5, Bool.and_false])
        rw [e2] at hQ
        exact hQ

set_option maxHeartbeats 4000000 in
set_option maxRecDepth 100000 in
/-- WheelTablesModel.isSmooth -/
theorem t_smooth {pre post : List ACell} {τ0 : Tw} (hp : pre.length = 56) {T : Nat → Int64} {n k : Nat} {b : Int32} (hn : n ≤ 20) (hk1 : 1 ≤ k) (hkn : k < n) (w : Nat → Int64) : Ct yX4_isSmooth (ws_ yX4_isSmooth cX4_isSmooth 6 (some .boolean)) 2 0 0 [.ref 56, .int (nI n), .int (nI k), .int b] (TW pre (tB (tB τ0 70 T) 71 w) post) (fun v N => ∃ w2, N = TW pre (tB (tB τ0 70 T) 71 w2) post ∧ v = some (.int (bI (smN n k b T)))) noX := by
  refine Ct.of (ini := false) (ls := [some (.ref 56), some (.int (nI n)), some (.int (nI k)), some (.int b), none, none]) (by decide) (Nat.le_of_ble_eq_true rfl) (fun h => by cases h) rfl ?_
  refine e_iconst 0 dX4_isSmooth_0 rfl ?_
  refine e_istore dX4_isSmooth_1 (ls_s (ls_s (ls_s (ls_1 rfl)))) (Nat.le_of_ble_eq_true rfl) ?_
  refine t_smooth1 (w0 := w) hp hn hk1 hkn (n + 1) 0 w (by omega) (by omega) (by rw [rngL_0]) ?_
  refine e_iconst 1 dX4_isSmooth_29 rfl ?_
  refine e_istore dX4_isSmooth_30 (ls_s (ls_s (ls_s (ls_1 rfl)))) (Nat.le_of_ble_eq_true rfl) ?_
  refine t_smooth2 (v := rngL w 0 n T) hp hn hk1 hkn (k + 2) 1 _ (by omega) (by omega) rfl ?_
  refine e_iload_n dX4_isSmooth_81 2 rfl rfl ?_
  refine e_istore dX4_isSmooth_82 (ls_s (ls_s (ls_s (ls_1 rfl)))) (Nat.le_of_ble_eq_true rfl) ?_
  exact t_smooth3 hp hn hk1 hkn (fun i hi => dfL_cg (fun q hq => by unfold rngL; rw [if_pos ⟨by omega, by omega⟩, Nat.sub_zero]) k i hi) (n - k + 1) 0 (by omega) (by omega) rfl ⟨_, rfl, rfl⟩

set_option maxHeartbeats 4000000 in
set_option maxRecDepth 100000 in
/-- a loop of isElsewhere -/
theorem t_elsewhere1 {pre post : List ACell} {τ0 : Tw} (hp : pre.length = 56) {T : Nat → Int64} {n k : Nat} {b : Int32} (hn : n ≤ 20) (hk1 : 1 ≤ k) (hkn : k < n) {i0 j0 : Nat} (hi0 : i0 < n) (hj0 : j0 < n) {w0 : Nat → Int64} {Q : Qfun} : ∀ (fuel : Nat) (q : Nat) (w : Nat → Int64), q ≤ n → n < q + fuel → w = rngL w0 0 q T → E cX4_isElsewhere (RX4, (some .boolean), 8, 2, (0, 0), false, []) Q noX 0 0 29 [some (.ref 56), some (.int (nI n)), some (.int (nI k)), some (.int b), some (.int (nI i0)), some (.int (nI j0)), none, none] [] (TW pre (tB (tB τ0 70 T) 71 (rngL w0 0 n T)) post) →
    E cX4_isElsewhere (RX4, (some .boolean), 8, 2, (0, 0), false, []) Q noX 0 0 3 [some (.ref 56), some (.int (nI n)), some (.int (nI k)), some (.int b), some (.int (nI i0)), some (.int (nI j0)), some (.int (nI q)), none] [] (TW pre (tB (tB τ0 70 T) 71 w) post) := by
  intro fuel
  induction fuel with
  | zero => intro q w hq hf hw hE; exact absurd hf (by omega)
  | succ fuel ih =>
    intro q w hq hf hw hE
    refine e_iload dX4_isElsewhere_3 rfl ?_
    refine e_iload_n dX4_isElsewhere_5 1 rfl rfl ?_
    refine e_icmp_geN q n 29 (by omega) (by omega) dX4_isElsewhere_6 (by decide) (fun h6 => ?_) (fun h6 => ?_)
    · refine e_forget (i := 6) (ln_s (ln_s (ln_s (ln_s (ln_s (ln_s ln_0)))))) ?_
      have e1 : q = n := by omega
      subst e1
      rw [← hw] at hE
      exact hE
    · refine e_aload_n dX4_isElsewhere_9 0 rfl rfl rfl ?_
      refine e_getf (v := .ref 96) dX4_isElsewhere_10 rfl fX4_149 (tw_o hp) rfl ?_
      refine e_iload dX4_isElsewhere_13 rfl ?_
      refine e_aload_n dX4_isElsewhere_15 0 rfl rfl rfl ?_
      refine e_getf (v := .ref 95) dX4_isElsewhere_16 rfl fX4_146 (tw_o hp) rfl ?_
      refine e_iload dX4_isElsewhere_19 rfl ?_
      refine e_lald (f := T) (j := q) dX4_isElsewhere_21 (tw_a70 hp) rfl (by omega) (by decide) ?_
      refine e_last (f := w) (j := q) dX4_isElsewhere_22 (tw_a71 hp) rfl (by omega) (by decide) ?_
      rw [tw_s71 hp]
      refine e_incN q (q + 1) (inc1 _) dX4_isElsewhere_23 rfl (ls_s (ls_s (ls_s (ls_s (ls_s (ls_1 rfl)))))) (Nat.le_of_ble_eq_true rfl) ?_
      refine e_goto 3 dX4_isElsewhere_26 (by decide) ?_
      rw [tB_tB]
      refine ih (q + 1) _ (by omega) (by omega) ?_ hE
      rw [hw, ← rngL_s, Nat.zero_add]

set_option maxHeartbeats 4000000 in
set_option maxRecDepth 100000 in
/-- a loop of isElsewhere -/
theorem t_elsewherei {pre post : List ACell} {τ0 : Tw} (hp : pre.length = 56) {T : Nat → Int64} {n k : Nat} {b : Int32} (hn : n ≤ 20) (hk1 : 1 ≤ k) (hkn : k < n) {i0 j0 : Nat} (hi0 : i0 < n) (hj0 : j0 < n) {v : Nat → Int64} {o : Nat} (ho : 1 ≤ o) (hon : o < n) {Q : Qfun} : ∀ (fuel : Nat) (i : Nat) (w : Nat → Int64), o ≤ i + 1 ∧ i < n → i < fuel → w = difQ i n v → E cX4_isElsewhere (RX4, (some .boolean), 8, 2, (0, 0), false, []) Q noX 0 0 75 [some (.ref 56), some (.int (nI n)), some (.int (nI k)), some (.int b), some (.int (nI i0)), some (.int (nI j0)), some (.int (nI o)), none] [] (TW pre (tB (tB τ0 70 T) 71 (difP o n v)) post) →
    E cX4_isElsewhere (RX4, (some .boolean), 8, 2, (0, 0), false, []) Q noX 0 0 43 [some (.ref 56), some (.int (nI n)), some (.int (nI k)), some (.int b), some (.int (nI i0)), some (.int (nI j0)), some (.int (nI o)), some (.int (nI i))] [] (TW pre (tB (tB τ0 70 T) 71 w) post) := by
  intro fuel
  induction fuel with
  | zero => intro i w hi hf hw hE; exact absurd hf (by omega)
  | succ fuel ih =>
    intro i w hi hf hw hE
    refine e_iload dX4_isElsewhere_43 rfl ?_
    refine e_iload dX4_isElsewhere_45 rfl ?_
    refine e_icmp_ltN i o 75 (by omega) (by omega) dX4_isElsewhere_47 (by decide) (fun h47 => ?_) (fun h47 => ?_)
    · refine e_forget (i := 7) (ln_s (ln_s (ln_s (ln_s (ln_s (ln_s (ln_s ln_0))))))) ?_
      have e1 : o = i + 1 := by omega
      subst e1
      rw [← difQ_e, ← hw] at hE
      exact hE
    · obtain ⟨q, rfl⟩ : ∃ q, i = q + 1 := ⟨i - 1, by omega⟩
      refine e_aload_n dX4_isElsewhere_50 0 rfl rfl rfl ?_
      refine e_getf (v := .ref 96) dX4_isElsewhere_51 rfl fX4_149 (tw_o hp) rfl ?_
      refine e_iload dX4_isElsewhere_54 rfl ?_
      refine e_dup2 dX4_isElsewhere_56 rfl rfl ?_
      refine e_lald (f := w) (j := q + 1) dX4_isElsewhere_57 (tw_a71 hp) rfl (by omega) (by decide) ?_
      refine e_aload_n dX4_isElsewhere_58 0 rfl rfl rfl ?_
      refine e_getf (v := .ref 96) dX4_isElsewhere_59 rfl fX4_149 (tw_o hp) rfl ?_
      refine e_iload dX4_isElsewhere_62 rfl ?_
      refine e_iconst 1 dX4_isElsewhere_64 rfl ?_
      refine e_isubN (q + 1) 1 (by omega) dX4_isElsewhere_65 ?_
      refine e_lald (f := w) (j := (q + 1) - 1) dX4_isElsewhere_66 (tw_a71 hp) rfl (by omega) (by decide) ?_
      refine e_lsub dX4_isElsewhere_67 ?_
      refine e_last (f := w) (j := q + 1) dX4_isElsewhere_68 (tw_a71 hp) rfl (by omega) (by decide) ?_
      rw [tw_s71 hp]
      refine e_incN (q + 1) q (decS _) dX4_isElsewhere_69 rfl (ls_s (ls_s (ls_s (ls_s (ls_s (ls_s (ls_1 rfl))))))) (Nat.le_of_ble_eq_true rfl) ?_
      refine e_goto 43 dX4_isElsewhere_72 (by decide) ?_
      rw [tB_tB]
      refine ih q _ (by omega) (by omega) ?_ hE
      subst hw
      exact difQ_s (by omega)

set_option maxHeartbeats 4000000 in
set_option maxRecDepth 100000 in
/-- a loop of isElsewhere -/
theorem t_elsewhere2 {pre post : List ACell} {τ0 : Tw} (hp : pre.length = 56) {T : Nat → Int64} {n k : Nat} {b : Int32} (hn : n ≤ 20) (hk1 : 1 ≤ k) (hkn : k < n) {i0 j0 : Nat} (hi0 : i0 < n) (hj0 : j0 < n) {v : Nat → Int64} {Q : Qfun} : ∀ (fuel : Nat) (o : Nat) (w : Nat → Int64), 1 ≤ o ∧ o ≤ k + 1 → k + 1 < o + fuel → w = dfL n v (o - 1) → E cX4_isElsewhere (RX4, (some .boolean), 8, 2, (0, 0), false, []) Q noX 0 0 81 [some (.ref 56), some (.int (nI n)), some (.int (nI k)), some (.int b), some (.int (nI i0)), some (.int (nI j0)), none, none] [] (TW pre (tB (tB τ0 70 T) 71 (dfL n v k)) post) →
    E cX4_isElsewhere (RX4, (some .boolean), 8, 2, (0, 0), false, []) Q noX 0 0 32 [some (.ref 56), some (.int (nI n)), some (.int (nI k)), some (.int b), some (.int (nI i0)), some (.int (nI j0)), some (.int (nI o)), none] [] (TW pre (tB (tB τ0 70 T) 71 w) post) := by
  intro fuel
  induction fuel with
  | zero => intro o w ho hf hw hE; exact absurd hf (by omega)
  | succ fuel ih =>
    intro o w ho hf hw hE
    refine e_iload dX4_isElsewhere_32 rfl ?_
    refine e_iload_n dX4_isElsewhere_34 2 rfl rfl ?_
    refine e_icmp_gtN o k 81 (by omega) (by omega) dX4_isElsewhere_35 (by decide) (fun h35 => ?_) (fun h35 => ?_)
    · refine e_forget (i := 6) (ln_s (ln_s (ln_s (ln_s (ln_s (ln_s ln_0)))))) ?_
      have e1 : o = k + 1 := by omega
      subst e1
      rw [Nat.add_sub_cancel] at hw
      rw [← hw] at hE
      exact hE
    · refine e_iload_n dX4_isElsewhere_38 1 rfl rfl ?_
      refine e_iconst 1 dX4_isElsewhere_39 rfl ?_
      refine e_isubN n 1 (by omega) dX4_isElsewhere_40 ?_
      refine e_istore dX4_isElsewhere_41 (ls_s (ls_s (ls_s (ls_s (ls_s (ls_s (ls_1 rfl))))))) (Nat.le_of_ble_eq_true rfl) ?_
      refine t_elsewherei (v := w) hp hn hk1 hkn hi0 hj0 (o := o) (by omega) (by omega) (n + 1) (n - 1) w (by omega) (by omega) difQ_0.symm ?_
      refine e_incN o (o + 1) (inc1 _) dX4_isElsewhere_75 rfl (ls_s (ls_s (ls_s (ls_s (ls_s (ls_1 rfl)))))) (Nat.le_of_ble_eq_true rfl) ?_
      refine e_goto 32 dX4_isElsewhere_78 (by decide) ?_
      refine ih (o + 1) _ (by omega) (by omega) ?_ hE
      rw [hw, Nat.add_sub_cancel]
      obtain ⟨q, rfl⟩ : ∃ q, o = q + 1 := ⟨o - 1, by omega⟩
      rfl

set_option maxHeartbeats 4000000 in
set_option maxRecDepth 100000 in
/-- a loop of isElsewhere -/
theorem t_elsewhere3 {pre post : List ACell} {τ0 : Tw} (hp : pre.length = 56) {T : Nat → Int64} {n k : Nat} {b : Int32} (hn : n ≤ 20) (hk1 : 1 ≤ k) (hkn : k < n) {i0 j0 : Nat} (hi0 : i0 < n) (hj0 : j0 < n) {w : Nat → Int64} (hw : ∀ i, i < n → w i = dfL n T k i) {Q : Qfun} : ∀ (fuel : Nat) (q : Nat), q ≤ n - k → n - k < q + fuel → allB (fun q => elP n k b T i0 j0 (k + q)) q = true → Q (some (.int (bI (elN n k b T i0 j0)))) (TW pre (tB (tB τ0 70 T) 71 w) post) →
    E cX4_isElsewhere (RX4, (some .boolean), 8, 2, (0, 0), false, []) Q noX 0 0 84 [some (.ref 56), some (.int (nI n)), some (.int (nI k)), some (.int b), some (.int (nI i0)), some (.int (nI j0)), some (.int (nI (k + q))), none] [] (TW pre (tB (tB τ0 70 T) 71 w) post) := by
  intro fuel
  induction fuel with
  | zero => intro q hq hf hb hQ; exact absurd hf (by omega)
  | succ fuel ih =>
    intro q hq hf hb hQ
    refine e_iload dX4_isElsewhere_84 rfl ?_
    refine e_iload_n dX4_isElsewhere_86 1 rfl rfl ?_
    refine e_icmp_geN (k + q) n 148 (by omega) (by omega) dX4_isElsewhere_87 (by decide) (fun h87 => ?_) (fun h87 => ?_)
    · refine e_iconst 1 dX4_isElsewhere_148 rfl ?_
      refine e_ireturn dX4_isElsewhere_149 rfl rfl (Nat.zero_le _) (Nat.zero_le _) ?_
      have e1 : q = n - k := by omega
      subst e1
      have e2 : elN n k b T i0 j0 = true := hb
      rw [e2] at hQ
      exact hQ
    · refine e_aload_n dX4_isElsewhere_90 0 rfl rfl rfl ?_
      refine e_getf (v := .ref 96) dX4_isElsewhere_91 rfl fX4_149 (tw_o hp) rfl ?_
      refine e_iload dX4_isElsewhere_94 rfl ?_
      refine e_lald (f := w) (j := k + q) dX4_isElsewhere_96 (tw_a71 hp) rfl (by omega) (by decide) ?_
      refine e_callS1 (As := [.long (w (k + q))]) (rest := []) dX4_isElsewhere_97 rfl msX4_451 (m_absL (w (k + q))) (Nat.le_of_ble_eq_true rfl) rfl rfl (Nat.le_of_ble_eq_true rfl) (Nat.zero_le _) (Nat.zero_le _) ?_
      refine e_iload_n dX4_isElsewhere_100 3 rfl rfl ?_
      refine e_i2l dX4_isElsewhere_101 ?_
      refine e_lcmp_le 142 dX4_isElsewhere_102 dX4_isElsewhere_103 (by decide) (fun h102 => ?_) (fun h102 => ?_)
      · refine e_incN (k + q) (k + q + 1) (inc1 _) dX4_isElsewhere_142 rfl (ls_s (ls_s (ls_s (ls_s (ls_s (ls_1 rfl)))))) (Nat.le_of_ble_eq_true rfl) ?_
        refine e_goto 84 dX4_isElsewhere_145 (by decide) ?_
        have e5 : elP n k b T i0 j0 (k + q) = true := by
          have e1 : smP n k b T (k + q) = true := decide_eq_true (by rw [← hw _ (by omega)]; exact h102)
          rw [elP, e1, Bool.true_or]
        exact ih (q + 1) (by omega) (by omega) (by rw [allB, hb, Bool.true_and]; exact e5) hQ
      · refine e_iload dX4_isElsewhere_106 rfl ?_
        refine e_i2l dX4_isElsewhere_108 ?_
        refine e_iload dX4_isElsewhere_109 rfl ?_
        refine e_iload_n dX4_isElsewhere_111 2 rfl rfl ?_
        refine e_isubN (k + q) k (by omega) dX4_isElsewhere_112 ?_
        refine e_i2l dX4_isElsewhere_113 ?_
        refine e_iload dX4_isElsewhere_114 rfl ?_
        refine e_i2l dX4_isElsewhere_116 ?_
        refine e_callSB (As := [.long ((nI i0).toInt64), .long ((nI ((k + q) - k)).toInt64), .long ((nI (k + q)).toInt64)]) (rest := []) dX4_isElsewhere_117 rfl msX4_239 (t_isInI (nI i0) (nI ((k + q) - k)) (nI (k + q)) rfl rfl rfl) (Nat.le_of_ble_eq_true rfl) rfl rfl (Nat.le_of_ble_eq_true rfl) (Nat.zero_le _) (Nat.zero_le _) (fun h117 => ?_) (fun h117 => ?_)
        · refine e_if_ne_t 142 (by decide) dX4_isElsewhere_120 (by decide) ?_
          refine e_incN (k + q) (k + q + 1) (inc1 _) dX4_isElsewhere_142 rfl (ls_s (ls_s (ls_s (ls_s (ls_s (ls_1 rfl)))))) (Nat.le_of_ble_eq_true rfl) ?_
          refine e_goto 84 dX4_isElsewhere_145 (by decide) ?_
          have e5 : elP n k b T i0 j0 (k + q) = true := by
            have e1 : inW k (k + q) i0 = true := decide_eq_true ⟨by have := (nI_leN (by omega) (by omega)).mp h117.1; omega, by have := (nI_leN (by omega) (by omega)).mp h117.2; omega⟩
            rw [elP, e1]; rw [Bool.true_or, Bool.or_true]
          exact ih (q + 1) (by omega) (by omega) (by rw [allB, hb, Bool.true_and]; exact e5) hQ
        · refine e_if_ne_f (by decide) 142 dX4_isElsewhere_120 (by decide) ?_
          refine e_iload dX4_isElsewhere_123 rfl ?_
          refine e_i2l dX4_isElsewhere_125 ?_
          refine e_iload dX4_isElsewhere_126 rfl ?_
          refine e_iload_n dX4_isElsewhere_128 2 rfl rfl ?_
          refine e_isubN (k + q) k (by omega) dX4_isElsewhere_129 ?_
          refine e_i2l dX4_isElsewhere_130 ?_
          refine e_iload dX4_isElsewhere_131 rfl ?_
          refine e_i2l dX4_isElsewhere_133 ?_
          refine e_callSB (As := [.long ((nI j0).toInt64), .long ((nI ((k + q) - k)).toInt64), .long ((nI (k + q)).toInt64)]) (rest := []) dX4_isElsewhere_134 rfl msX4_239 (t_isInI (nI j0) (nI ((k + q) - k)) (nI (k + q)) rfl rfl rfl) (Nat.le_of_ble_eq_true rfl) rfl rfl (Nat.le_of_ble_eq_true rfl) (Nat.zero_le _) (Nat.zero_le _) (fun h134 => ?_) (fun h134 => ?_)
          · refine e_if_ne_t 142 (by decide) dX4_isElsewhere_137 (by decide) ?_
            refine e_incN (k + q) (k + q + 1) (inc1 _) dX4_isElsewhere_142 rfl (ls_s (ls_s (ls_s (ls_s (ls_s (ls_1 rfl)))))) (Nat.le_of_ble_eq_true rfl) ?_
            refine e_goto 84 dX4_isElsewhere_145 (by decide) ?_
            have e5 : elP n k b T i0 j0 (k + q) = true := by
              have e1 : inW k (k + q) j0 = true := decide_eq_true ⟨by have := (nI_leN (by omega) (by omega)).mp h134.1; omega, by have := (nI_leN (by omega) (by omega)).mp h134.2; omega⟩
              rw [elP, e1]; rw [Bool.or_true, Bool.or_true]
            exact ih (q + 1) (by omega) (by omega) (by rw [allB, hb, Bool.true_and]; exact e5) hQ
          · refine e_if_ne_f (by decide) 142 dX4_isElsewhere_137 (by decide) ?_
            refine e_iconst 0 dX4_isElsewhere_140 rfl ?_
            refine e_ireturn dX4_isElsewhere_141 rfl rfl (Nat.zero_le _) (Nat.zero_le _) ?_
            have e1 : smP n k b T (k + q) = false := decide_eq_false (by rw [← hw _ (by omega)]; exact h102)
            have e3 : inW k (k + q) i0 = false := decide_eq_false (fun z => h117 ⟨(nI_leN (by omega) (by omega)).mpr (by omega), (nI_leN (by omega) (by omega)).mpr (by omega)⟩)
            have e4 : inW k (k + q) j0 = false := decide_eq_false (fun z => h134 ⟨(nI_leN (by omega) (by omega)).mpr (by omega), (nI_leN (by omega) (by omega)).mpr (by omega)⟩)
            have e5 : elP n k b T i0 j0 (k + q) = false := by rw [elP, e1, e3, e4]; rfl
            have e2 : elN n k b T i0 j0 = false := allB_f (k := q + 1) (by omega) (by rw [allB, e5, Bool.and_false])
            rw [e2] at hQ
            exact hQ

set_option maxHeartbeats 4000000 in
set_option maxRecDepth 100000 in
/-- WheelTablesModel.isElsewhere -/
theorem t_elsewhere {pre post : List ACell} {τ0 : Tw} (hp : pre.length = 56) {T : Nat → Int64} {n k : Nat} {b : Int32} (hn : n ≤ 20) (hk1 : 1 ≤ k) (hkn : k < n) {i0 j0 : Nat} (hi0 : i0 < n) (hj0 : j0 < n) (w : Nat → Int64) : Ct yX4_isElsewhere (ws_ yX4_isElsewhere cX4_isElsewhere 8 (some .boolean)) 2 0 0 [.ref 56, .int (nI n), .int (nI k), .int b, .int (nI i0), .int (nI j0)] (TW pre (tB (tB τ0 70 T) 71 w) post) (fun v N => ∃ w2, N = TW pre (tB (tB τ0 70 T) 71 w2) post ∧ v = some (.int (bI (elN n k b T i0 j0)))) noX := by
  refine Ct.of (ini := false) (ls := [some (.ref 56), some (.int (nI n)), some (.int (nI k)), some (.int b), some (.int (nI i0)), some (.int (nI j0)), none, none]) (by decide) (Nat.le_of_ble_eq_true rfl) (fun h => by cases h) rfl ?_
  refine e_iconst 0 dX4_isElsewhere_0 rfl ?_
  refine e_istore dX4_isElsewhere_1 (ls_s (ls_s (ls_s (ls_s (ls_s (ls_1 rfl)))))) (Nat.le_of_ble_eq_true rfl) ?_
  refine t_elsewhere1 (w0 := w) hp hn hk1 hkn hi0 hj0 (n + 1) 0 w (by omega) (by omega) (by rw [rngL_0]) ?_
  refine e_iconst 1 dX4_isElsewhere_29 rfl ?_
  refine e_istore dX4_isElsewhere_30 (ls_s (ls_s (ls_s (ls_s (ls_s (ls_1 rfl)))))) (Nat.le_of_ble_eq_true rfl) ?_
  refine t_elsewhere2 (v := rngL w 0 n T) hp hn hk1 hkn hi0 hj0 (k + 2) 1 _ (by omega) (by omega) rfl ?_
  refine e_iload_n dX4_isElsewhere_81 2 rfl rfl ?_
  refine e_istore dX4_isElsewhere_82 (ls_s (ls_s (ls_s (ls_s (ls_s (ls_1 rfl)))))) (Nat.le_of_ble_eq_true rfl) ?_
  exact t_elsewhere3 hp hn hk1 hkn hi0 hj0 (fun i hi => dfL_cg (fun q hq => by unfold rngL; rw [if_pos ⟨by omega, by omega⟩, Nat.sub_zero]) k i hi) (n - k + 1) 0 (by omega) (by omega) rfl ⟨_, rfl, rfl⟩

