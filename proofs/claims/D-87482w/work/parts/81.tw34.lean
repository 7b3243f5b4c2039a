/-! ===== the twin: finer tables (2) ===== -/
set_option maxHeartbeats 4000000 in
set_option maxRecDepth 100000 in
/-- a loop of isEnough -/
theorem t_en1 {pre post : List ACell} {τ0 : Tw} (hp : pre.length = 56) {k m r : Nat} {u g : Int64} {d : Int32} (hk : k ≤ 4) (hk1 : 1 ≤ k) (hm1 : 2 ≤ m) (hm : m ≤ 20) (hr : r ≤ 60) (hu : ¬ u = 0) (hu2 : ¬ 2 * u = 0) (hg2 : ¬ 2 * g = 0) {w0 : Nat → Int64} {Q : Qfun} : ∀ (fuel : Nat) (i : Nat) (w : Nat → Int64), i ≤ k + 1 → k + 1 < i + fuel → w = rngL w0 0 i (fun i => atN (τ0.2.2.2 96) k m i) → E cX4_isEnough (RX4, (some .boolean), 12, 2, (0, 0), false, []) Q noX 0 0 37 [some (.ref 56), some (.int (nI k)), some (.int (nI m)), some (.int (nI r)), some (.long u), none, some (.int d), some (.long g), none, none, none, none] [] (TW pre (tB τ0 26 (rngL w0 0 (k + 1) (fun i => atN (τ0.2.2.2 96) k m i))) post) →
    E cX4_isEnough (RX4, (some .boolean), 12, 2, (0, 0), false, []) Q noX 0 0 10 [some (.ref 56), some (.int (nI k)), some (.int (nI m)), some (.int (nI r)), some (.long u), none, some (.int d), some (.long g), none, some (.int (nI i)), none, none] [] (TW pre (tB τ0 26 w) post) := by
  intro fuel
  induction fuel with
  | zero => intro i w hi hf hw hE; exact absurd hf (by omega)
  | succ fuel ih =>
    intro i w hi hf hw hE
    refine e_iload dX4_isEnough_10 rfl ?_
    refine e_iload_n dX4_isEnough_12 1 rfl rfl ?_
    refine e_icmp_gtN i k 37 (by omega) (by omega) dX4_isEnough_13 (by decide) (fun h13 => ?_) (fun h13 => ?_)
    · refine e_forget (i := 9) (ln_s (ln_s (ln_s (ln_s (ln_s (ln_s (ln_s (ln_s (ln_s ln_0))))))))) ?_
      have e1 : i = k + 1 := by omega
      subst e1
      rw [← hw] at hE
      exact hE
    · refine e_aload_n dX4_isEnough_16 0 rfl rfl rfl ?_
      refine e_getf (v := .ref 72) dX4_isEnough_17 rfl fX4_64 (tw_o hp) rfl ?_
      refine e_iload dX4_isEnough_20 rfl ?_
      refine e_aload_n dX4_isEnough_22 0 rfl rfl rfl ?_
      refine e_iload_n dX4_isEnough_23 1 rfl rfl ?_
      refine e_iload_n dX4_isEnough_24 2 rfl rfl ?_
      refine e_iload dX4_isEnough_25 rfl ?_
      refine e_callV1 (As := [.int (nI k), .int (nI m), .int (nI i)]) (rest := [.int (nI i), .ref 72]) dX4_isEnough_27 rfl mvX4_356 (tw_o hp) rfl (t_atPart hp hk hm1 hm (show i ≤ 60 by omega)) (Nat.le_of_ble_eq_true rfl) rfl rfl (Nat.le_of_ble_eq_true rfl) (Nat.zero_le _) (Nat.zero_le _) ?_
      refine e_last (f := w) (j := i) dX4_isEnough_30 (tw_a26 hp) rfl (by omega) (by decide) ?_
      rw [tw_s26 hp]
      refine e_incN i (i + 1) (inc1 _) dX4_isEnough_31 rfl (ls_s (ls_s (ls_s (ls_s (ls_s (ls_s (ls_s (ls_s (ls_1 rfl))))))))) (Nat.le_of_ble_eq_true rfl) ?_
      refine e_goto 10 dX4_isEnough_34 (by decide) ?_
      rw [tB_tB]
      refine ih (i + 1) _ (by omega) (by omega) ?_ hE
      rw [hw, ← rngL_s, Nat.zero_add]
      rfl

set_option maxHeartbeats 4000000 in
set_option maxRecDepth 100000 in
/-- a loop of isEnough -/
theorem t_en2 {pre post : List ACell} {τ0 : Tw} (hp : pre.length = 56) {k m r : Nat} {u g : Int64} {d : Int32} (hk : k ≤ 4) (hk1 : 1 ≤ k) (hm1 : 2 ≤ m) (hm : m ≤ 20) (hr : r ≤ 60) (hu : ¬ u = 0) (hu2 : ¬ 2 * u = 0) (hg2 : ¬ 2 * g = 0) {v : Nat → Int64} {Q : Qfun} : ∀ (fuel : Nat) (i : Nat) (w : Nat → Int64), i ≤ k + 1 → k + 1 < i + fuel → w = (rngL v 0 i (fun q => fnV u g (v q))) → E cX4_isEnough (RX4, (some .boolean), 12, 2, (0, 0), false, []) Q noX 0 0 107 [some (.ref 56), some (.int (nI k)), some (.int (nI m)), some (.int (nI r)), some (.long u), none, some (.int d), some (.long g), none, none, none, none] [] (TW pre (tB τ0 26 (rngL v 0 (k + 1) (fun q => fnV u g (v q)))) post) →
    E cX4_isEnough (RX4, (some .boolean), 12, 2, (0, 0), false, []) Q noX 0 0 47 [some (.ref 56), some (.int (nI k)), some (.int (nI m)), some (.int (nI r)), some (.long u), none, some (.int d), some (.long g), none, some (.int (nI i)), none, none] [] (TW pre (tB τ0 26 w) post) := by
  intro fuel
  induction fuel with
  | zero => intro i w hi hf hw hE; exact absurd hf (by omega)
  | succ fuel ih =>
    intro i w hi hf hw hE
    refine e_iload dX4_isEnough_47 rfl ?_
    refine e_iload_n dX4_isEnough_49 1 rfl rfl ?_
    refine e_icmp_gtN i k 107 (by omega) (by omega) dX4_isEnough_50 (by decide) (fun h50 => ?_) (fun h50 => ?_)
    · refine e_forget (i := 9) (ln_s (ln_s (ln_s (ln_s (ln_s (ln_s (ln_s (ln_s (ln_s ln_0))))))))) ?_
      have e1 : i = k + 1 := by omega
      subst e1
      rw [← hw] at hE
      exact hE
    · refine e_aload_n dX4_isEnough_53 0 rfl rfl rfl ?_
      refine e_getf (v := .ref 72) dX4_isEnough_54 rfl fX4_64 (tw_o hp) rfl ?_
      refine e_iload dX4_isEnough_57 rfl ?_
      refine e_lald (f := w) (j := i) dX4_isEnough_59 (tw_a26 hp) rfl (by omega) (by decide) ?_
      refine e_lload dX4_isEnough_60 rfl ?_
      refine e_callS1 (As := [.long (w i), .long u]) (rest := []) dX4_isEnough_62 rfl msX4_337 (m_fdL (w i) u hu) (Nat.le_of_ble_eq_true rfl) rfl rfl (Nat.le_of_ble_eq_true rfl) (Nat.zero_le _) (Nat.zero_le _) ?_
      refine e_lstore dX4_isEnough_65 (ls_s (ls_s (ls_s (ls_s (ls_s (ls_s (ls_s (ls_s (ls_s (ls_1 rfl)))))))))) (ln_s (ln_s (ln_s (ln_s (ln_s (ln_s (ln_s (ln_s (ln_s (ln_s (ln_s ln_0))))))))))) (Nat.le_of_ble_eq_true rfl) ?_
      refine e_aload_n dX4_isEnough_67 0 rfl rfl rfl ?_
      refine e_getf (v := .ref 72) dX4_isEnough_68 rfl fX4_64 (tw_o hp) rfl ?_
      refine e_iload dX4_isEnough_71 rfl ?_
      refine e_lload dX4_isEnough_73 rfl ?_
      refine e_lload dX4_isEnough_75 rfl ?_
      refine e_lmul dX4_isEnough_77 ?_
      refine e_aload_n dX4_isEnough_78 0 rfl rfl rfl ?_
      refine e_getf (v := .ref 72) dX4_isEnough_79 rfl fX4_64 (tw_o hp) rfl ?_
      refine e_iload dX4_isEnough_82 rfl ?_
      refine e_lald (f := w) (j := i) dX4_isEnough_84 (tw_a26 hp) rfl (by omega) (by decide) ?_
      refine e_lload dX4_isEnough_85 rfl ?_
      refine e_lload dX4_isEnough_87 rfl ?_
      refine e_lmul dX4_isEnough_89 ?_
      refine e_lsub dX4_isEnough_90 ?_
      refine e_lload dX4_isEnough_91 rfl ?_
      refine e_lmul dX4_isEnough_93 ?_
      refine e_lload dX4_isEnough_94 rfl ?_
      refine e_callS1 (As := [.long (((w i) - ((fdL (w i) u) * u)) * g), .long u]) (rest := [.long ((fdL (w i) u) * g), .int (nI i), .ref 72]) dX4_isEnough_96 rfl msX4_360 (t_nearest (((w i) - ((fdL (w i) u) * u)) * g) u hu2) (Nat.le_of_ble_eq_true rfl) rfl rfl (Nat.le_of_ble_eq_true rfl) (Nat.zero_le _) (Nat.zero_le _) ?_
      refine e_ladd dX4_isEnough_99 ?_
      refine e_last (f := w) (j := i) dX4_isEnough_100 (tw_a26 hp) rfl (by omega) (by decide) ?_
      rw [tw_s26 hp]
      refine e_incN i (i + 1) (inc1 _) dX4_isEnough_101 rfl (ls_s (ls_s (ls_s (ls_s (ls_s (ls_s (ls_s (ls_s (ls_1 rfl))))))))) (Nat.le_of_ble_eq_true rfl) ?_
      refine e_goto 47 dX4_isEnough_104 (by decide) ?_
      refine e_forget (i := 10) (ln_s (ln_s (ln_s (ln_s (ln_s (ln_s (ln_s (ln_s (ln_s (ln_s ln_0)))))))))) ?_
      rw [tB_tB]
      refine ih (i + 1) _ (by omega) (by omega) ?_ hE
      have e1 : w i = v i := by rw [hw]; exact rngL_out (by omega)
      rw [e1, hw, ← rngL_s, Nat.zero_add]
      rfl

set_option maxHeartbeats 4000000 in
set_option maxRecDepth 100000 in
/-- a loop of isEnough -/
theorem t_enO {pre post : List ACell} {τ0 : Tw} (hp : pre.length = 56) {k m r : Nat} {u g : Int64} {d : Int32} (hk : k ≤ 4) (hk1 : 1 ≤ k) (hm1 : 2 ≤ m) (hm : m ≤ 20) (hr : r ≤ 60) (hu : ¬ u = 0) (hu2 : ¬ 2 * u = 0) (hg2 : ¬ 2 * g = 0) {v : Nat → Int64} {t : Nat} (ht : t ≤ 60) {Q : Qfun} : ∀ (fuel : Nat) (x : Nat) (w : Nat → Int64), x % 2 = 1 - 0 ∧ 1 ≤ x ∧ x ≤ k + 2 → k + 2 < x + fuel → w = adQ 0 x v → E cX4_isEnough (RX4, (some .boolean), 12, 2, (0, 0), false, []) Q noX 0 0 180 [some (.ref 56), some (.int (nI k)), some (.int (nI m)), some (.int (nI r)), some (.long u), none, some (.int d), some (.long g), none, some (.int (nI t)), none, none] [] (TW pre (tB τ0 26 (adO k v)) post) →
    E cX4_isEnough (RX4, (some .boolean), 12, 2, (0, 0), false, []) Q noX 0 0 149 [some (.ref 56), some (.int (nI k)), some (.int (nI m)), some (.int (nI r)), some (.long u), none, some (.int d), some (.long g), none, some (.int (nI t)), some (.int (nI x)), none] [] (TW pre (tB τ0 26 w) post) := by
  intro fuel
  induction fuel with
  | zero => intro x w hx hf hw hE; exact absurd hf (by omega)
  | succ fuel ih =>
    intro x w hx hf hw hE
    refine e_iload dX4_isEnough_149 rfl ?_
    refine e_iload_n dX4_isEnough_151 1 rfl rfl ?_
    refine e_icmp_gtN x k 180 (by omega) (by omega) dX4_isEnough_152 (by decide) (fun h152 => ?_) (fun h152 => ?_)
    · refine e_forget (i := 10) (ln_s (ln_s (ln_s (ln_s (ln_s (ln_s (ln_s (ln_s (ln_s (ln_s ln_0)))))))))) ?_
      have e1 : w = adO k v := by
        rw [hw]
        funext q
        unfold adQ adO
        by_cases h : q % 2 = 0 ∧ q + 1 ≤ k
        · rw [if_pos h, if_pos (by omega)]
        · rw [if_neg h, if_neg (by omega)]
      rw [← e1] at hE
      exact hE
    · refine e_aload_n dX4_isEnough_155 0 rfl rfl rfl ?_
      refine e_getf (v := .ref 72) dX4_isEnough_156 rfl fX4_64 (tw_o hp) rfl ?_
      refine e_iload dX4_isEnough_159 rfl ?_
      refine e_iconst 1 dX4_isEnough_161 rfl ?_
      refine e_isubN x 1 (by omega) dX4_isEnough_162 ?_
      refine e_dup2 dX4_isEnough_163 rfl rfl ?_
      refine e_lald (f := w) (j := x - 1) dX4_isEnough_164 (tw_a26 hp) rfl (by omega) (by decide) ?_
      refine e_aload_n dX4_isEnough_165 0 rfl rfl rfl ?_
      refine e_getf (v := .ref 72) dX4_isEnough_166 rfl fX4_64 (tw_o hp) rfl ?_
      refine e_iload dX4_isEnough_169 rfl ?_
      refine e_lald (f := w) (j := x) dX4_isEnough_171 (tw_a26 hp) rfl (by omega) (by decide) ?_
      refine e_ladd dX4_isEnough_172 ?_
      refine e_last (f := w) (j := x - 1) dX4_isEnough_173 (tw_a26 hp) rfl (by omega) (by decide) ?_
      rw [tw_s26 hp]
      refine e_incN x (x + 2) (nI_add _ 2) dX4_isEnough_174 rfl (ls_s (ls_s (ls_s (ls_s (ls_s (ls_s (ls_s (ls_s (ls_s (ls_1 rfl)))))))))) (Nat.le_of_ble_eq_true rfl) ?_
      refine e_goto 149 dX4_isEnough_177 (by decide) ?_
      rw [tB_tB]
      refine ih (x + 2) _ (by omega) (by omega) ?_ hE
      rw [hw]
      exact adQ_s (by omega) (by omega) (by omega)

set_option maxHeartbeats 4000000 in
set_option maxRecDepth 100000 in
/-- a loop of isEnough -/
theorem t_enE {pre post : List ACell} {τ0 : Tw} (hp : pre.length = 56) {k m r : Nat} {u g : Int64} {d : Int32} (hk : k ≤ 4) (hk1 : 1 ≤ k) (hm1 : 2 ≤ m) (hm : m ≤ 20) (hr : r ≤ 60) (hu : ¬ u = 0) (hu2 : ¬ 2 * u = 0) (hg2 : ¬ 2 * g = 0) {v : Nat → Int64} {t : Nat} (ht : t ≤ 60) {Q : Qfun} : ∀ (fuel : Nat) (x : Nat) (w : Nat → Int64), x % 2 = 1 - 1 ∧ 1 ≤ x ∧ x ≤ k + 2 → k + 2 < x + fuel → w = adQ 1 x v → E cX4_isEnough (RX4, (some .boolean), 12, 2, (0, 0), false, []) Q noX 0 0 214 [some (.ref 56), some (.int (nI k)), some (.int (nI m)), some (.int (nI r)), some (.long u), none, some (.int d), some (.long g), none, some (.int (nI t)), none, none] [] (TW pre (tB τ0 26 (adE k v)) post) →
    E cX4_isEnough (RX4, (some .boolean), 12, 2, (0, 0), false, []) Q noX 0 0 183 [some (.ref 56), some (.int (nI k)), some (.int (nI m)), some (.int (nI r)), some (.long u), none, some (.int d), some (.long g), none, some (.int (nI t)), some (.int (nI x)), none] [] (TW pre (tB τ0 26 w) post) := by
  intro fuel
  induction fuel with
  | zero => intro x w hx hf hw hE; exact absurd hf (by omega)
  | succ fuel ih =>
    intro x w hx hf hw hE
    refine e_iload dX4_isEnough_183 rfl ?_
    refine e_iload_n dX4_isEnough_185 1 rfl rfl ?_
    refine e_icmp_gtN x k 214 (by omega) (by omega) dX4_isEnough_186 (by decide) (fun h186 => ?_) (fun h186 => ?_)
    · refine e_forget (i := 10) (ln_s (ln_s (ln_s (ln_s (ln_s (ln_s (ln_s (ln_s (ln_s (ln_s ln_0)))))))))) ?_
      have e1 : w = adE k v := by
        rw [hw]
        funext q
        unfold adQ adE
        by_cases h : q % 2 = 1 ∧ q + 1 ≤ k
        · rw [if_pos h, if_pos (by omega)]
        · rw [if_neg h, if_neg (by omega)]
      rw [← e1] at hE
      exact hE
    · refine e_aload_n dX4_isEnough_189 0 rfl rfl rfl ?_
      refine e_getf (v := .ref 72) dX4_isEnough_190 rfl fX4_64 (tw_o hp) rfl ?_
      refine e_iload dX4_isEnough_193 rfl ?_
      refine e_iconst 1 dX4_isEnough_195 rfl ?_
      refine e_isubN x 1 (by omega) dX4_isEnough_196 ?_
      refine e_dup2 dX4_isEnough_197 rfl rfl ?_
      refine e_lald (f := w) (j := x - 1) dX4_isEnough_198 (tw_a26 hp) rfl (by omega) (by decide) ?_
      refine e_aload_n dX4_isEnough_199 0 rfl rfl rfl ?_
      refine e_getf (v := .ref 72) dX4_isEnough_200 rfl fX4_64 (tw_o hp) rfl ?_
      refine e_iload dX4_isEnough_203 rfl ?_
      refine e_lald (f := w) (j := x) dX4_isEnough_205 (tw_a26 hp) rfl (by omega) (by decide) ?_
      refine e_ladd dX4_isEnough_206 ?_
      refine e_last (f := w) (j := x - 1) dX4_isEnough_207 (tw_a26 hp) rfl (by omega) (by decide) ?_
      rw [tw_s26 hp]
      refine e_incN x (x + 2) (nI_add _ 2) dX4_isEnough_208 rfl (ls_s (ls_s (ls_s (ls_s (ls_s (ls_s (ls_s (ls_s (ls_s (ls_1 rfl)))))))))) (Nat.le_of_ble_eq_true rfl) ?_
      refine e_goto 183 dX4_isEnough_211 (by decide) ?_
      rw [tB_tB]
      refine ih (x + 2) _ (by omega) (by omega) ?_ hE
      rw [hw]
      exact adQ_s (by omega) (by omega) (by omega)

