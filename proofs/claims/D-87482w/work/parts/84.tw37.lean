/-! ===== the twin: finer tables (5) ===== -/
def spTen (t n : Nat) (ς : Tw) : Bool := allB (fun q => decide (-10000 ≤ ς.2.2.2 4 (60 * t + q) ∧ ς.2.2.2 4 (60 * t + q) ≤ 10000)) n
set_option maxHeartbeats 4000000 in
set_option maxRecDepth 100000 in
/-- a loop of finer -/
theorem t_fiA {pre post : List ACell} {τ : Tw} (hp : pre.length = 56) {y k m r : Nat} (hy : y < 4) (hk : k ≤ 4) (hk1 : 1 ≤ k) {Q : Qfun} : ∀ (fuel : Nat) (q : Nat), q ≤ k + 1 → k + 1 < q + fuel → allB (fun q => decide (-10000 ≤ τ.2.2.2 4 (60 * y + q) ∧ τ.2.2.2 4 (60 * y + q) ≤ 10000)) q = true → (¬ spTen y (k + 1) τ = true → Q (some (.int (-1))) (TW pre (tI τ 0 5) post)) → (spTen y (k + 1) τ = true → E cX4_finer (RX4, (some .int), 8, 3, (0, 0), false, []) Q noX 0 0 126 [some (.ref 56), some (.int (nI y)), some (.int (nI k)), some (.int (nI m)), some (.int (nI r)), none, none, none] [] (TW pre τ post)) →
    E cX4_finer (RX4, (some .int), 8, 3, (0, 0), false, []) Q noX 0 0 89 [some (.ref 56), some (.int (nI y)), some (.int (nI k)), some (.int (nI m)), some (.int (nI r)), some (.int (nI q)), none, none] [] (TW pre τ post) := by
  intro fuel
  induction fuel with
  | zero => intro q hq hf hb hR hE; exact absurd hf (by omega)
  | succ fuel ih =>
    intro q hq hf hb hR hE
    refine e_iload dX4_finer_89 rfl ?_
    refine e_iload_n dX4_finer_91 2 rfl rfl ?_
    refine e_icmp_gtN q k 126 (by omega) (by omega) dX4_finer_92 (by decide) (fun h92 => ?_) (fun h92 => ?_)
    · refine e_forget (i := 5) (ln_s (ln_s (ln_s (ln_s (ln_s ln_0))))) ?_
      have e1 : q = k + 1 := by omega
      subst e1
      exact hE hb
    · refine e_aload_n dX4_finer_95 0 rfl rfl rfl ?_
      refine e_iload_n dX4_finer_96 1 rfl rfl ?_
      refine e_iload dX4_finer_97 rfl ?_
      refine e_callV1 (As := [.int (nI y), .int (nI q)]) (rest := []) dX4_finer_99 rfl mvX4_255 (tw_o hp) rfl (t_numberOf hp y q (by omega) (by omega)) (Nat.le_of_ble_eq_true rfl) rfl rfl (Nat.le_of_ble_eq_true rfl) (Nat.zero_le _) (Nat.zero_le _) ?_
      refine e_ldc2 rfl q1579 dX4_finer_102 ?_
      refine e_ldc2 rfl q1580 dX4_finer_105 ?_
      refine e_callSB (As := [.long (τ.2.2.2 4 (60 * y + q)), .long (-10000), .long 10000]) (rest := []) dX4_finer_108 rfl msX4_239 (t_isIn (τ.2.2.2 4 (60 * y + q)) (-10000) 10000) (Nat.le_of_ble_eq_true rfl) rfl rfl (Nat.le_of_ble_eq_true rfl) (Nat.zero_le _) (Nat.zero_le _) (fun h108 => ?_) (fun h108 => ?_)
      · have h108 : ((-10000) ≤ (τ.2.2.2 4 (60 * y + q)) ∧ (τ.2.2.2 4 (60 * y + q)) ≤ 10000) := h108
        refine e_if_ne_t 120 (by decide) dX4_finer_111 (by decide) ?_
        refine e_incN q (q + 1) (inc1 _) dX4_finer_120 rfl (ls_s (ls_s (ls_s (ls_s (ls_1 rfl))))) (Nat.le_of_ble_eq_true rfl) ?_
        refine e_goto 89 dX4_finer_123 (by decide) ?_
        exact ih (q + 1) (by omega) (by omega) (by rw [allB, hb, Bool.true_and]; exact decide_eq_true h108) hR hE
      · have h108 : ¬ ((-10000) ≤ (τ.2.2.2 4 (60 * y + q)) ∧ (τ.2.2.2 4 (60 * y + q)) ≤ 10000) := h108
        refine e_if_ne_f (by decide) 120 dX4_finer_111 (by decide) ?_
        refine e_aload_n dX4_finer_114 0 rfl rfl rfl ?_
        refine e_iconst 5 dX4_finer_115 rfl ?_
        refine e_callV1 (As := [.int 5]) (rest := []) dX4_finer_116 rfl mvX4_252 (tw_o hp) rfl (t_refuse hp 5) (Nat.le_of_ble_eq_true rfl) rfl rfl (Nat.le_of_ble_eq_true rfl) (Nat.zero_le _) (Nat.zero_le _) ?_
        refine e_ireturn dX4_finer_119 rfl rfl (Nat.zero_le _) (Nat.zero_le _) ?_
        refine hR (fun z => ?_)
        have := (allB_iff.mp z) q (by omega)
        exact h108 (of_decide_eq_true this)

set_option maxHeartbeats 4000000 in
set_option maxRecDepth 100000 in
/-- a loop of finer -/
theorem t_fiB {pre post : List ACell} {τ0 : Tw} (hp : pre.length = 56) {y k m r : Nat} (hy : y < 4) (hk : k ≤ 4) (hk1 : 1 ≤ k) {Q : Qfun} : ∀ (fuel : Nat) (q : Nat) (w : Nat → Int64), q ≤ k + 1 → k + 1 < q + fuel → w = (rngL (τ0.2.2.2 96) 0 q (fun q => τ0.2.2.2 4 (60 * y + q))) → E cX4_finer (RX4, (some .int), 8, 3, (0, 0), false, []) Q noX 0 0 155 [some (.ref 56), some (.int (nI y)), some (.int (nI k)), some (.int (nI m)), some (.int (nI r)), none, none, none] [] (TW pre (tB τ0 96 (rngL (τ0.2.2.2 96) 0 (k + 1) (fun q => τ0.2.2.2 4 (60 * y + q)))) post) →
    E cX4_finer (RX4, (some .int), 8, 3, (0, 0), false, []) Q noX 0 0 129 [some (.ref 56), some (.int (nI y)), some (.int (nI k)), some (.int (nI m)), some (.int (nI r)), some (.int (nI q)), none, none] [] (TW pre (tB τ0 96 w) post) := by
  intro fuel
  induction fuel with
  | zero => intro q w hq hf hw hE; exact absurd hf (by omega)
  | succ fuel ih =>
    intro q w hq hf hw hE
    refine e_iload dX4_finer_129 rfl ?_
    refine e_iload_n dX4_finer_131 2 rfl rfl ?_
    refine e_icmp_gtN q k 155 (by omega) (by omega) dX4_finer_132 (by decide) (fun h132 => ?_) (fun h132 => ?_)
    · refine e_forget (i := 5) (ln_s (ln_s (ln_s (ln_s (ln_s ln_0))))) ?_
      have e1 : q = k + 1 := by omega
      subst e1
      rw [← hw] at hE
      exact hE
    · refine e_aload_n dX4_finer_135 0 rfl rfl rfl ?_
      refine e_getf (v := .ref 114) dX4_finer_136 rfl fX4_203 (tw_o hp) rfl ?_
      refine e_iload dX4_finer_139 rfl ?_
      refine e_aload_n dX4_finer_141 0 rfl rfl rfl ?_
      refine e_iload_n dX4_finer_142 1 rfl rfl ?_
      refine e_iload dX4_finer_143 rfl ?_
      refine e_callV1 (As := [.int (nI y), .int (nI q)]) (rest := [.int (nI q), .ref 114]) dX4_finer_145 rfl mvX4_255 (tw_o hp) rfl (t_numberOf hp y q (by omega) (by omega)) (Nat.le_of_ble_eq_true rfl) rfl rfl (Nat.le_of_ble_eq_true rfl) (Nat.zero_le _) (Nat.zero_le _) ?_
      refine e_last (f := w) (j := q) dX4_finer_148 (tw_a96 hp) rfl (by omega) (by decide) ?_
      rw [tw_s96 hp]
      refine e_incN q (q + 1) (inc1 _) dX4_finer_149 rfl (ls_s (ls_s (ls_s (ls_s (ls_1 rfl))))) (Nat.le_of_ble_eq_true rfl) ?_
      refine e_goto 129 dX4_finer_152 (by decide) ?_
      rw [tB_tB]
      refine ih (q + 1) _ (by omega) (by omega) ?_ hE
      rw [hw, ← rngL_s, Nat.zero_add]
      rfl

set_option maxHeartbeats 4000000 in
set_option maxRecDepth 100000 in
/-- a loop of finer -/
theorem t_fiCi {pre post : List ACell} {τ0 : Tw} (hp : pre.length = 56) {y k m r : Nat} (hy : y < 4) (hk : k ≤ 4) (hk1 : 1 ≤ k) {v : Nat → Int64} {o : Nat} (ho : 1 ≤ o) (hok : o ≤ k) {Q : Qfun} : ∀ (fuel : Nat) (i : Nat) (w : Nat → Int64), o ≤ i + 1 ∧ i ≤ k → i < fuel → w = difQ i (k + 1) v → E cX4_finer (RX4, (some .int), 8, 3, (0, 0), false, []) Q noX 0 0 199 [some (.ref 56), some (.int (nI y)), some (.int (nI k)), some (.int (nI m)), some (.int (nI r)), some (.int (nI o)), none, none] [] (TW pre (tB τ0 96 (difP o (k + 1) v)) post) →
    E cX4_finer (RX4, (some .int), 8, 3, (0, 0), false, []) Q noX 0 0 167 [some (.ref 56), some (.int (nI y)), some (.int (nI k)), some (.int (nI m)), some (.int (nI r)), some (.int (nI o)), some (.int (nI i)), none] [] (TW pre (tB τ0 96 w) post) := by
  intro fuel
  induction fuel with
  | zero => intro i w hi hf hw hE; exact absurd hf (by omega)
  | succ fuel ih =>
    intro i w hi hf hw hE
    refine e_iload dX4_finer_167 rfl ?_
    refine e_iload dX4_finer_169 rfl ?_
    refine e_icmp_ltN i o 199 (by omega) (by omega) dX4_finer_171 (by decide) (fun h171 => ?_) (fun h171 => ?_)
    · refine e_forget (i := 6) (ln_s (ln_s (ln_s (ln_s (ln_s (ln_s ln_0)))))) ?_
      have e1 : o = i + 1 := by omega
      subst e1
      rw [← difQ_e, ← hw] at hE
      exact hE
    · obtain ⟨q, rfl⟩ : ∃ q, i = q + 1 := ⟨i - 1, by omega⟩
      refine e_aload_n dX4_finer_174 0 rfl rfl rfl ?_
      refine e_getf (v := .ref 114) dX4_finer_175 rfl fX4_203 (tw_o hp) rfl ?_
      refine e_iload dX4_finer_178 rfl ?_
      refine e_dup2 dX4_finer_180 rfl rfl ?_
      refine e_lald (f := w) (j := q + 1) dX4_finer_181 (tw_a96 hp) rfl (by omega) (by decide) ?_
      refine e_aload_n dX4_finer_182 0 rfl rfl rfl ?_
      refine e_getf (v := .ref 114) dX4_finer_183 rfl fX4_203 (tw_o hp) rfl ?_
      refine e_iload dX4_finer_186 rfl ?_
      refine e_iconst 1 dX4_finer_188 rfl ?_
      refine e_isubN (q + 1) 1 (by omega) dX4_finer_189 ?_
      refine e_lald (f := w) (j := (q + 1) - 1) dX4_finer_190 (tw_a96 hp) rfl (by omega) (by decide) ?_
      refine e_lsub dX4_finer_191 ?_
      refine e_last (f := w) (j := q + 1) dX4_finer_192 (tw_a96 hp) rfl (by omega) (by decide) ?_
      rw [tw_s96 hp]
      refine e_incN (q + 1) q (decS _) dX4_finer_193 rfl (ls_s (ls_s (ls_s (ls_s (ls_s (ls_1 rfl)))))) (Nat.le_of_ble_eq_true rfl) ?_
      refine e_goto 167 dX4_finer_196 (by decide) ?_
      rw [tB_tB]
      refine ih q _ (by omega) (by omega) ?_ hE
      subst hw
      exact difQ_s (by omega)

set_option maxHeartbeats 4000000 in
set_option maxRecDepth 100000 in
/-- a loop of finer -/
theorem t_fiC {pre post : List ACell} {τ0 : Tw} (hp : pre.length = 56) {y k m r : Nat} (hy : y < 4) (hk : k ≤ 4) (hk1 : 1 ≤ k) {v : Nat → Int64} {Q : Qfun} : ∀ (fuel : Nat) (o : Nat) (w : Nat → Int64), 1 ≤ o ∧ o ≤ k + 1 → k + 1 < o + fuel → w = dfL (k + 1) v (o - 1) → E cX4_finer (RX4, (some .int), 8, 3, (0, 0), false, []) Q noX 0 0 205 [some (.ref 56), some (.int (nI y)), some (.int (nI k)), some (.int (nI m)), some (.int (nI r)), none, none, none] [] (TW pre (tB τ0 96 (dfL (k + 1) v k)) post) →
    E cX4_finer (RX4, (some .int), 8, 3, (0, 0), false, []) Q noX 0 0 158 [some (.ref 56), some (.int (nI y)), some (.int (nI k)), some (.int (nI m)), some (.int (nI r)), some (.int (nI o)), none, none] [] (TW pre (tB τ0 96 w) post) := by
  intro fuel
  induction fuel with
  | zero => intro o w ho hf hw hE; exact absurd hf (by omega)
  | succ fuel ih =>
    intro o w ho hf hw hE
    refine e_iload dX4_finer_158 rfl ?_
    refine e_iload_n dX4_finer_160 2 rfl rfl ?_
    refine e_icmp_gtN o k 205 (by omega) (by omega) dX4_finer_161 (by decide) (fun h161 => ?_) (fun h161 => ?_)
    · refine e_forget (i := 5) (ln_s (ln_s (ln_s (ln_s (ln_s ln_0))))) ?_
      have e1 : o = k + 1 := by omega
      subst e1
      rw [Nat.add_sub_cancel] at hw
      rw [← hw] at hE
      exact hE
    · refine e_iload_n dX4_finer_164 2 rfl rfl ?_
      refine e_istore dX4_finer_165 (ls_s (ls_s (ls_s (ls_s (ls_s (ls_1 rfl)))))) (Nat.le_of_ble_eq_true rfl) ?_
      refine t_fiCi (v := w) hp hy hk hk1 (o := o) (by omega) (by omega) (k + 1) k w (by omega) (by omega) (difQ_0 (n := k + 1)).symm ?_
      refine e_incN o (o + 1) (inc1 _) dX4_finer_199 rfl (ls_s (ls_s (ls_s (ls_s (ls_1 rfl))))) (Nat.le_of_ble_eq_true rfl) ?_
      refine e_goto 158 dX4_finer_202 (by decide) ?_
      refine ih (o + 1) _ (by omega) (by omega) ?_ hE
      rw [hw, Nat.add_sub_cancel]
      obtain ⟨q, rfl⟩ : ∃ q, o = q + 1 := ⟨o - 1, by omega⟩
      rfl

set_option maxHeartbeats 4000000 in
set_option maxRecDepth 100000 in
/-- a loop of finer -/
theorem t_fiD {pre post : List ACell} {τ : Tw} (hp : pre.length = 56) {y k m r : Nat} (hy : y < 4) (hk : k ≤ 4) (hk1 : 1 ≤ k) {Q : Qfun} : ∀ (fuel : Nat) (n : Nat), n ≤ k → k < n + fuel → E cX4_finer (RX4, (some .int), 8, 3, (0, 0), false, []) Q noX 0 0 236 [some (.ref 56), some (.int (nI y)), some (.int (nI k)), some (.int (nI m)), some (.int (nI r)), some (.long (unL m k)), none, none] [] (TW pre τ post) →
    E cX4_finer (RX4, (some .int), 8, 3, (0, 0), false, []) Q noX 0 0 211 [some (.ref 56), some (.int (nI y)), some (.int (nI k)), some (.int (nI m)), some (.int (nI r)), some (.long (unL m n)), none, some (.int (nI n))] [] (TW pre τ post) := by
  intro fuel
  induction fuel with
  | zero => intro n hn hf hE; exact absurd hf (by omega)
  | succ fuel ih =>
    intro n hn hf hE
    refine e_iload dX4_finer_211 rfl ?_
    refine e_iload_n dX4_finer_213 2 rfl rfl ?_
    refine e_icmp_geN n k 236 (by omega) (by omega) dX4_finer_214 (by decide) (fun h214 => ?_) (fun h214 => ?_)
    · refine e_forget (i := 7) (ln_s (ln_s (ln_s (ln_s (ln_s (ln_s (ln_s ln_0))))))) ?_
      have e1 : n = k := by omega
      subst e1
      exact hE
    · refine e_lload dX4_finer_217 rfl ?_
      refine e_iload_n dX4_finer_219 3 rfl rfl ?_
      refine e_i2l dX4_finer_220 ?_
      refine e_iload dX4_finer_221 rfl ?_
      refine e_iconst 1 dX4_finer_223 rfl ?_
      refine e_iaddN n 1 dX4_finer_224 ?_
      refine e_i2l dX4_finer_225 ?_
      refine e_lmul dX4_finer_226 ?_
      refine e_lmul dX4_finer_227 ?_
      refine e_lstore dX4_finer_228 (ls_s (ls_s (ls_s (ls_s (ls_1 rfl))))) (ln_s (ln_s (ln_s (ln_s (ln_s (ln_s ln_0)))))) (Nat.le_of_ble_eq_true rfl) ?_
      refine e_incN n (n + 1) (inc1 _) dX4_finer_230 rfl (ls_s (ls_s (ls_s (ls_s (ls_s (ls_s (ls_1 rfl))))))) (Nat.le_of_ble_eq_true rfl) ?_
      refine e_goto 211 dX4_finer_233 (by decide) ?_
      exact ih (n + 1) (by omega) (by omega) hE

set_option maxHeartbeats 4000000 in
set_option maxRecDepth 100000 in
/-- a loop of finer -/
theorem t_fiE {pre post : List ACell} {τ0 : Tw} (hp : pre.length = 56) {y k m r : Nat} (hy : y < 4) (hk : k ≤ 4) (hk1 : 1 ≤ k) (hm1 : 2 ≤ m) (hm : m ≤ 20) (hr : r ≤ 60) (hu : ¬ unL m k = 0) (hu2 : ¬ 2 * unL m k = 0) {Q : Qfun} : ∀ (fuel : Nat) (d : Nat) (w : Nat → Int64), d ≤ 7 → 7 < d + fuel → (∀ q, q < d → enN (τ0.2.2.2 96) k m r (unL m k) (tnL q) = false) → (∀ d w, d < 7 → enN (τ0.2.2.2 96) k m r (unL m k) (tnL d) = true → (∀ q, q < d → enN (τ0.2.2.2 96) k m r (unL m k) (tnL q) = false) → Q (some (.int (nI d))) (TW pre (tB τ0 26 w) post)) → ((∀ q, q < 7 → enN (τ0.2.2.2 96) k m r (unL m k) (tnL q) = false) → ∀ w, Q (some (.int (-1))) (TW pre (tI (tB τ0 26 w) 0 8) post)) →
    E cX4_finer (RX4, (some .int), 8, 3, (0, 0), false, []) Q noX 0 0 239 [some (.ref 56), some (.int (nI y)), some (.int (nI k)), some (.int (nI m)), some (.int (nI r)), some (.long (unL m k)), none, some (.int (nI d))] [] (TW pre (tB τ0 26 w) post) := by
  intro fuel
  induction fuel with
  | zero => intro d w hd hf hz hS hN; exact absurd hf (by omega)
  | succ fuel ih =>
    intro d w hd hf hz hS hN
    refine e_iload dX4_finer_239 rfl ?_
    refine e_bipush 6 dX4_finer_241 rfl ?_
    refine e_icmp_gtN d 6 270 (by omega) (by omega) dX4_finer_243 (by decide) (fun h243 => ?_) (fun h243 => ?_)
    · refine e_aload_n dX4_finer_270 0 rfl rfl rfl ?_
      refine e_bipush 8 dX4_finer_271 rfl ?_
      refine e_callV1 (As := [.int 8]) (rest := []) dX4_finer_273 rfl mvX4_252 (tw_o hp) rfl (t_refuse hp 8) (Nat.le_of_ble_eq_true rfl) rfl rfl (Nat.le_of_ble_eq_true rfl) (Nat.zero_le _) (Nat.zero_le _) ?_
      refine e_ireturn dX4_finer_276 rfl rfl (Nat.zero_le _) (Nat.zero_le _) ?_
      exact hN (fun q hq => hz q (by omega)) w
    · refine e_aload_n dX4_finer_246 0 rfl rfl rfl ?_
      refine e_iload_n dX4_finer_247 2 rfl rfl ?_
      refine e_iload_n dX4_finer_248 3 rfl rfl ?_
      refine e_iload dX4_finer_249 rfl ?_
      refine e_lload dX4_finer_251 rfl ?_
      refine e_iload dX4_finer_253 rfl ?_
      refine e_callVQ (As := [.int (nI k), .int (nI m), .int (nI r), .long (unL m k), .int (nI d)]) (rest := []) dX4_finer_255 rfl mvX4_348 (tw_o hp) rfl (t_isEnough (u := unL m k) hp hk hk1 hm1 hm hr hu hu2 (show d ≤ 6 by omega) w) (Nat.le_of_ble_eq_true rfl) rfl rfl (Nat.le_of_ble_eq_true rfl) (Nat.zero_le _) (Nat.zero_le _) (fun v0 M0 h0 _ => ?_)
      obtain ⟨w2, rfl, rfl⟩ := h0
      refine e_if_eq 264 dX4_finer_258 (by decide) (fun h258 => ?_) (fun h258 => ?_)
      · refine e_incN d (d + 1) (inc1 _) dX4_finer_264 rfl (ls_s (ls_s (ls_s (ls_s (ls_s (ls_s (ls_1 rfl))))))) (Nat.le_of_ble_eq_true rfl) ?_
        refine e_goto 239 dX4_finer_267 (by decide) ?_
        refine ih (d + 1) w2 (by omega) (by omega) (fun q hq => ?_) hS hN
        by_cases e : q = d
        · rw [e]; exact bI_f h258
        · exact hz q (by omega)
      · refine e_iload dX4_finer_261 rfl ?_
        refine e_ireturn dX4_finer_263 rfl rfl (Nat.zero_le _) (Nat.zero_le _) ?_
        exact hS d w2 (by omega) (bI_t h258) hz

