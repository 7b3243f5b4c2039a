/-! ===== the twin: an engine set (2) ===== -/
/-- figures laid: axes below x, and of axis x the wheels below k -/
def setP (Fs F0 : Mx) (x k : Nat) : Mx := fun a i => if a < x ∨ (a = x ∧ i < k) then Fs a i else F0 a i
theorem setP_s {Fs F0 : Mx} {x k : Nat} : upM (setP Fs F0 x k) x k (Fs x k) = setP Fs F0 x (k + 1) := by
  funext a i
  unfold upM
  by_cases h : a = x ∧ i = k
  · obtain ⟨rfl, rfl⟩ := h
    unfold setP
    rw [if_pos ⟨rfl, rfl⟩, if_pos (Or.inr ⟨rfl, by omega⟩)]
  · rw [if_neg h]
    unfold setP
    by_cases h2 : a < x ∨ (a = x ∧ i < k)
    · rw [if_pos h2, if_pos (by omega)]
    · rw [if_neg h2, if_neg (by omega)]
theorem setP_r {a0 : Nat → Int32} {e A W : Nat} {Fs F0 : Mx} {x : Nat} : fgUp a0 e A W (setP Fs F0 (x + 1) 0) = fgUp a0 e A W (setP Fs F0 x W) := by
  refine fgUp_cg (fun a ha i hi => ?_)
  unfold setP
  by_cases h2 : a < x + 1 ∨ (a = x + 1 ∧ i < 0)
  · rw [if_pos h2, if_pos (by omega)]
  · rw [if_neg h2, if_neg (by omega)]
theorem setP_e {a0 : Nat → Int32} {e A W : Nat} {Fs F0 : Mx} : fgUp a0 e A W (setP Fs F0 A 0) = fgUp a0 e A W Fs := by
  refine fgUp_cg (fun a ha i hi => ?_)
  unfold setP
  rw [if_pos (by omega)]
theorem setP_0 {Fs F0 : Mx} : setP Fs F0 0 0 = F0 := by
  funext a i
  unfold setP
  rw [if_neg (by omega)]
set_option maxHeartbeats 4000000 in
set_option maxRecDepth 100000 in
/-- a loop of set -/
theorem t_set1 {pre post : List ACell} {τ : Tw} (hp : pre.length = 56) {e y n : Nat} (hy : y < 4) (hn : n ≤ 7) {Q : Qfun} : ∀ (fuel : Nat) (k : Nat), k ≤ n → n < k + fuel → allB (fun k => decide (-1000000000 ≤ τ.2.2.2 4 (60 * y + k) ∧ τ.2.2.2 4 (60 * y + k) ≤ 1000000000)) k = true → (¬ spBil y n τ = true → Q (some (.int 0)) (TW pre (tI τ 0 5) post)) → (spBil y n τ = true → E cX4_set (RX4, (some .boolean), 10, 2, (0, 0), false, []) Q noX 0 0 132 [some (.ref 56), some (.int (nI e)), some (.int (nI y)), some (.int (nI n)), none, none, none, none, none, none] [] (TW pre τ post)) →
    E cX4_set (RX4, (some .boolean), 10, 2, (0, 0), false, []) Q noX 0 0 95 [some (.ref 56), some (.int (nI e)), some (.int (nI y)), some (.int (nI n)), some (.int (nI k)), none, none, none, none, none] [] (TW pre τ post) := by
  intro fuel
  induction fuel with
  | zero => intro k hk hf hb hR hE; exact absurd hf (by omega)
  | succ fuel ih =>
    intro k hk hf hb hR hE
    refine e_iload dX4_set_95 rfl ?_
    refine e_iload_n dX4_set_97 3 rfl rfl ?_
    refine e_icmp_geN k n 132 (by omega) (by omega) dX4_set_98 (by decide) (fun h98 => ?_) (fun h98 => ?_)
    · refine e_forget (i := 4) (ln_s (ln_s (ln_s (ln_s ln_0)))) ?_
      have e1 : k = n := by omega
      subst e1
      exact hE hb
    · refine e_aload_n dX4_set_101 0 rfl rfl rfl ?_
      refine e_iload_n dX4_set_102 2 rfl rfl ?_
      refine e_iload dX4_set_103 rfl ?_
      refine e_callV1 (As := [.int (nI y), .int (nI k)]) (rest := []) dX4_set_105 rfl mvX4_255 (tw_o hp) rfl (t_numberOf hp y k (by omega) (by omega)) (Nat.le_of_ble_eq_true rfl) rfl rfl (Nat.le_of_ble_eq_true rfl) (Nat.zero_le _) (Nat.zero_le _) ?_
      refine e_ldc2 rfl q1511 dX4_set_108 ?_
      refine e_ldc2 rfl q1512 dX4_set_111 ?_
      refine e_callSB (As := [.long (τ.2.2.2 4 (60 * y + k)), .long (-1000000000), .long 1000000000]) (rest := []) dX4_set_114 rfl msX4_239 (t_isIn (τ.2.2.2 4 (60 * y + k)) (-1000000000) 1000000000) (Nat.le_of_ble_eq_true rfl) rfl rfl (Nat.le_of_ble_eq_true rfl) (Nat.zero_le _) (Nat.zero_le _) (fun h114 => ?_) (fun h114 => ?_)
      · have h114 : ((-1000000000) ≤ (τ.2.2.2 4 (60 * y + k)) ∧ (τ.2.2.2 4 (60 * y + k)) ≤ 1000000000) := h114
        refine e_if_ne_t 126 (by decide) dX4_set_117 (by decide) ?_
        refine e_incN k (k + 1) (inc1 _) dX4_set_126 rfl (ls_s (ls_s (ls_s (ls_1 rfl)))) (Nat.le_of_ble_eq_true rfl) ?_
        refine e_goto 95 dX4_set_129 (by decide) ?_
        exact ih (k + 1) (by omega) (by omega) (by rw [allB, hb, Bool.true_and]; exact decide_eq_true h114) hR hE
      · have h114 : ¬ ((-1000000000) ≤ (τ.2.2.2 4 (60 * y + k)) ∧ (τ.2.2.2 4 (60 * y + k)) ≤ 1000000000) := h114
        refine e_if_ne_f (by decide) 126 dX4_set_117 (by decide) ?_
        refine e_aload_n dX4_set_120 0 rfl rfl rfl ?_
        refine e_iconst 5 dX4_set_121 rfl ?_
        refine e_callV1 (As := [.int 5]) (rest := []) dX4_set_122 rfl mvX4_218 (tw_o hp) rfl (t_no hp 5) (Nat.le_of_ble_eq_true rfl) rfl rfl (Nat.le_of_ble_eq_true rfl) (Nat.zero_le _) (Nat.zero_le _) ?_
        refine e_ireturn dX4_set_125 rfl rfl (Nat.zero_le _) (Nat.zero_le _) ?_
        refine hR (fun z => ?_)
        have := (allB_iff.mp z) k (by omega)
        exact h114 (of_decide_eq_true this)

set_option maxHeartbeats 4000000 in
set_option maxRecDepth 100000 in
/-- a loop of set -/
theorem t_set2 {pre post : List ACell} {τ0 : Tw} (hp : pre.length = 56) {e y n : Nat} (hy : y < 4) (hn : n ≤ 7) {Q : Qfun} : ∀ (fuel : Nat) (k : Nat) (w : Nat → Int64), k ≤ n → n < k + fuel → w = (rngL (τ0.2.2.2 26) 0 k (fun k => τ0.2.2.2 4 (60 * y + k))) → E cX4_set (RX4, (some .boolean), 10, 2, (0, 0), false, []) Q noX 0 0 161 [some (.ref 56), some (.int (nI e)), some (.int (nI y)), some (.int (nI n)), none, none, none, none, none, none] [] (TW pre (tB τ0 26 (rngL (τ0.2.2.2 26) 0 n (fun k => τ0.2.2.2 4 (60 * y + k)))) post) →
    E cX4_set (RX4, (some .boolean), 10, 2, (0, 0), false, []) Q noX 0 0 135 [some (.ref 56), some (.int (nI e)), some (.int (nI y)), some (.int (nI n)), some (.int (nI k)), none, none, none, none, none] [] (TW pre (tB τ0 26 w) post) := by
  intro fuel
  induction fuel with
  | zero => intro k w hk hf hw hE; exact absurd hf (by omega)
  | succ fuel ih =>
    intro k w hk hf hw hE
    refine e_iload dX4_set_135 rfl ?_
    refine e_iload_n dX4_set_137 3 rfl rfl ?_
    refine e_icmp_geN k n 161 (by omega) (by omega) dX4_set_138 (by decide) (fun h138 => ?_) (fun h138 => ?_)
    · refine e_forget (i := 4) (ln_s (ln_s (ln_s (ln_s ln_0)))) ?_
      have e1 : k = n := by omega
      subst e1
      rw [← hw] at hE
      exact hE
    · refine e_aload_n dX4_set_141 0 rfl rfl rfl ?_
      refine e_getf (v := .ref 72) dX4_set_142 rfl fX4_64 (tw_o hp) rfl ?_
      refine e_iload dX4_set_145 rfl ?_
      refine e_aload_n dX4_set_147 0 rfl rfl rfl ?_
      refine e_iload_n dX4_set_148 2 rfl rfl ?_
      refine e_iload dX4_set_149 rfl ?_
      refine e_callV1 (As := [.int (nI y), .int (nI k)]) (rest := [.int (nI k), .ref 72]) dX4_set_151 rfl mvX4_255 (tw_o hp) rfl (t_numberOf hp y k (by omega) (by omega)) (Nat.le_of_ble_eq_true rfl) rfl rfl (Nat.le_of_ble_eq_true rfl) (Nat.zero_le _) (Nat.zero_le _) ?_
      refine e_last (f := w) (j := k) dX4_set_154 (tw_a26 hp) rfl (by omega) (by decide) ?_
      rw [tw_s26 hp]
      refine e_incN k (k + 1) (inc1 _) dX4_set_155 rfl (ls_s (ls_s (ls_s (ls_1 rfl)))) (Nat.le_of_ble_eq_true rfl) ?_
      refine e_goto 135 dX4_set_158 (by decide) ?_
      rw [tB_tB]
      refine ih (k + 1) _ (by omega) (by omega) ?_ hE
      rw [hw, ← rngL_s, Nat.zero_add]
      rfl

set_option maxHeartbeats 4000000 in
set_option maxRecDepth 100000 in
/-- a loop of set -/
theorem t_set_in {pre post : List ACell} (hp : pre.length = 56) {τ1 : Tw} {a0 : Nat → Int32} {Fs F0 : Mx} {e y n A W M : Nat} {rd : Nat → Nat} (hN : EnF τ1 e A W M rd) (hn : n ≤ 7) {x : Nat} {u0 : Int64} (hx : x < A) (hF : ∀ i, i < W → Fs x i = ix (dgF rd u0 i)) {Q : Qfun} : ∀ (fuel : Nat) (k : Nat) (u : Int64), k ≤ W → W < k + fuel → u = dgV rd u0 k → E cX4_set (RX4, (some .boolean), 10, 2, (0, 0), false, []) Q noX 0 0 271 [some (.ref 56), some (.int (nI e)), some (.int (nI y)), some (.int (nI n)), some (.int (nI x)), none, none, none, none, none] [] (TW pre (tA τ1 10 (fgUp a0 e A W (setP Fs F0 x W))) post) →
    E cX4_set (RX4, (some .boolean), 10, 2, (0, 0), false, []) Q noX 0 0 202 [some (.ref 56), some (.int (nI e)), some (.int (nI y)), some (.int (nI n)), some (.int (nI x)), some (.long u), none, some (.int (nI k)), none, none] [] (TW pre (tA τ1 10 (fgUp a0 e A W (setP Fs F0 x k))) post) := by
  intro fuel
  induction fuel with
  | zero => intro k u hk hf hu hE; exact absurd hf (by omega)
  | succ fuel ih =>
    intro k u hk hf hu hE
    obtain ⟨he, hA, hA2, hW1, hW, eA, eW, hM, eM, hrd, hr⟩ := id hN
    refine e_iload dX4_set_202 rfl ?_
    refine e_aload_n dX4_set_204 0 rfl rfl rfl ?_
    refine e_getf (v := .ref 61) dX4_set_205 rfl fX4_23 (tw_o hp) rfl ?_
    refine e_iload_n dX4_set_208 1 rfl rfl ?_
    refine e_iald (f := τ1.2.2.1 7) (j := e) dX4_set_209 (tw_a7 hp) rfl (by omega) (by decide) ?_
    refine e_top (congrArg Value.int eW) ?_
    refine e_icmp_geN k W 271 (by omega) (by omega) dX4_set_210 (by decide) (fun h210 => ?_) (fun h210 => ?_)
    · refine e_forget (i := 5) (ln_s (ln_s (ln_s (ln_s (ln_s ln_0))))) ?_
      refine e_forget (i := 7) (ln_s (ln_s (ln_s (ln_s (ln_s (ln_s (ln_s ln_0))))))) ?_
      have e1 : k = W := by omega
      subst e1
      exact hE
    · refine e_aload_n dX4_set_213 0 rfl rfl rfl ?_
      refine e_getf (v := .ref 63) dX4_set_214 rfl fX4_29 (tw_o hp) rfl ?_
      refine e_bipush 12 dX4_set_217 rfl ?_
      refine e_iload_n dX4_set_219 1 rfl rfl ?_
      refine e_imulN 12 e dX4_set_220 ?_
      refine e_iload dX4_set_221 rfl ?_
      refine e_iaddN (12 * e) k dX4_set_223 ?_
      refine e_iald (f := τ1.2.2.1 9) (j := (12 * e) + k) dX4_set_224 (tw_a9 hp) rfl (by omega) (by decide) ?_
      refine e_top (congrArg Value.int (hr k (by omega))) ?_
      refine e_istore dX4_set_225 (ls_s (ls_s (ls_s (ls_s (ls_s (ls_s (ls_s (ls_1 rfl)))))))) (Nat.le_of_ble_eq_true rfl) ?_
      have hrl := rL_ne (hrd k (by omega)).1 (hrd k (by omega)).2
      refine e_lload dX4_set_227 rfl ?_
      refine e_iload dX4_set_229 rfl ?_
      refine e_i2l dX4_set_231 ?_
      refine e_callS1 (As := [.long u, .long ((nI (rd k)).toInt64)]) (rest := []) dX4_set_232 rfl msX4_282 (m_fmL u ((nI (rd k)).toInt64) hrl) (Nat.le_of_ble_eq_true rfl) rfl rfl (Nat.le_of_ble_eq_true rfl) (Nat.zero_le _) (Nat.zero_le _) ?_
      refine e_l2i dX4_set_235 ?_
      obtain ⟨f, hf1, -, ef, -⟩ := fm_nat u (hrd k (by omega)).1 (hrd k (by omega)).2
      refine e_top (congrArg Value.int ef) ?_
      refine e_istore dX4_set_236 (ls_s (ls_s (ls_s (ls_s (ls_s (ls_s (ls_s (ls_s (ls_1 rfl))))))))) (Nat.le_of_ble_eq_true rfl) ?_
      refine e_aload_n dX4_set_238 0 rfl rfl rfl ?_
      refine e_getf (v := .ref 64) dX4_set_239 rfl fX4_32 (tw_o hp) rfl ?_
      refine e_iload_n dX4_set_242 1 rfl rfl ?_
      refine e_iload dX4_set_243 rfl ?_
      refine e_iload dX4_set_245 rfl ?_
      refine e_callS1 (As := [.int (nI e), .int (nI x), .int (nI k)]) (rest := [.ref 64]) dX4_set_247 rfl msX4_263 (t_cell e x k) (Nat.le_of_ble_eq_true rfl) rfl rfl (Nat.le_of_ble_eq_true rfl) (Nat.zero_le _) (Nat.zero_le _) ?_
      refine e_iload dX4_set_250 rfl ?_
      refine e_iast (f := (fgUp a0 e A W (setP Fs F0 x k))) (j := 12 * (7 * e + x) + k) dX4_set_252 (tw_a10 hp) rfl (by omega) (by decide) ?_
      rw [tw_s10 hp]
      refine e_lload dX4_set_253 rfl ?_
      refine e_iload dX4_set_255 rfl ?_
      refine e_i2l dX4_set_257 ?_
      refine e_lsub dX4_set_258 ?_
      refine e_iload dX4_set_259 rfl ?_
      refine e_i2l dX4_set_261 ?_
      refine e_ldiv dX4_set_262 (by assumption) ?_
      refine e_lstore dX4_set_263 (ls_s (ls_s (ls_s (ls_s (ls_1 rfl))))) (ln_s (ln_s (ln_s (ln_s (ln_s (ln_s ln_0)))))) (Nat.le_of_ble_eq_true rfl) ?_
      refine e_incN k (k + 1) (inc1 _) dX4_set_265 rfl (ls_s (ls_s (ls_s (ls_s (ls_s (ls_s (ls_1 rfl))))))) (Nat.le_of_ble_eq_true rfl) ?_
      refine e_goto 202 dX4_set_268 (by decide) ?_
      refine e_forget (i := 8) (ln_s (ln_s (ln_s (ln_s (ln_s (ln_s (ln_s (ln_s ln_0)))))))) ?_
      refine e_forget (i := 9) (ln_s (ln_s (ln_s (ln_s (ln_s (ln_s (ln_s (ln_s (ln_s ln_0))))))))) ?_
      have e2 : Fs x k = f := by rw [hF k (by omega), dgF, ← hu, ef, ix_nI (by have := (hrd k (by omega)).2; omega)]
      have e1 : upd (fgUp a0 e A W (setP Fs F0 x k)) (12 * (7 * e + x) + k) (nI f) = fgUp a0 e A W (setP Fs F0 x (k + 1)) := by
        rw [fgUp_up hA hW hx (by omega), ← e2, setP_s]
      rw [tA_tA, e1]
      refine ih (k + 1) _ (by omega) (by omega) ?_ hE
      rw [dgV, ← hu, ef]

set_option maxHeartbeats 4000000 in
set_option maxRecDepth 100000 in
/-- a loop of set -/
theorem t_set3 {pre post : List ACell} (hp : pre.length = 56) {τ1 : Tw} {a0 : Nat → Int32} {Fs F0 : Mx} {e y n A W M : Nat} {rd : Nat → Nat} (hN : EnF τ1 e A W M rd) (hn : n ≤ 7) {v : Nat → Int64} (hv : τ1.2.2.2 26 = v) (hFs : ∀ a i, Fs a i = ix (dgF rd (if a < n then v a else 0) i)) {Q : Qfun} : ∀ (fuel : Nat) (x : Nat), x ≤ A → A < x + fuel → Q (some (.int 1)) (TW pre (tA (tA τ1 10 (fgUp a0 e A W Fs)) 8 (upd (τ1.2.2.1 8) e 0)) post) →
    E cX4_set (RX4, (some .boolean), 10, 2, (0, 0), false, []) Q noX 0 0 169 [some (.ref 56), some (.int (nI e)), some (.int (nI y)), some (.int (nI n)), some (.int (nI x)), none, none, none, none, none] [] (TW pre (tA τ1 10 (fgUp a0 e A W (setP Fs F0 x 0))) post) := by
  intro fuel
  induction fuel with
  | zero => intro x hx hf hQ; exact absurd hf (by omega)
  | succ fuel ih =>
    intro x hx hf hQ
    obtain ⟨he, hA, hA2, hW1, hW, eA, eW, hM, eM, hrd, hr⟩ := id hN
    refine e_iload dX4_set_169 rfl ?_
    refine e_aload_n dX4_set_171 0 rfl rfl rfl ?_
    refine e_getf (v := .ref 60) dX4_set_172 rfl fX4_20 (tw_o hp) rfl ?_
    refine e_iload_n dX4_set_175 1 rfl rfl ?_
    refine e_iald (f := τ1.2.2.1 6) (j := e) dX4_set_176 (tw_a6 hp) rfl (by omega) (by decide) ?_
    refine e_top (congrArg Value.int eA) ?_
    refine e_icmp_geN x A 277 (by omega) (by omega) dX4_set_177 (by decide) (fun h177 => ?_) (fun h177 => ?_)
    · refine e_aload_n dX4_set_277 0 rfl rfl rfl ?_
      refine e_getf (v := .ref 62) dX4_set_278 rfl fX4_26 (tw_o hp) rfl ?_
      refine e_iload_n dX4_set_281 1 rfl rfl ?_
      refine e_iconst 0 dX4_set_282 rfl ?_
      refine e_iast (f := τ1.2.2.1 8) (j := e) dX4_set_283 (tw_a8 hp) rfl (by omega) (by decide) ?_
      rw [tw_s8 hp]
      refine e_iconst 1 dX4_set_284 rfl ?_
      refine e_ireturn dX4_set_285 rfl rfl (Nat.zero_le _) (Nat.zero_le _) ?_
      have e1 : x = A := by omega
      subst e1
      rw [setP_e]
      exact hQ
    · refine e_iload dX4_set_180 rfl ?_
      refine e_iload_n dX4_set_182 3 rfl rfl ?_
      refine e_icmp_geN x n 196 (by omega) (by omega) dX4_set_183 (by decide) (fun h183 => ?_) (fun h183 => ?_)
      · refine e_lconst 0 dX4_set_196 rfl ?_
        refine e_lstore dX4_set_197 (ls_s (ls_s (ls_s (ls_s (ls_1 rfl))))) (ln_s (ln_s (ln_s (ln_s (ln_s (ln_s ln_0)))))) (Nat.le_of_ble_eq_true rfl) ?_
        refine e_iconst 0 dX4_set_199 rfl ?_
        refine e_istore dX4_set_200 (ls_s (ls_s (ls_s (ls_s (ls_s (ls_s (ls_1 rfl))))))) (Nat.le_of_ble_eq_true rfl) ?_
        refine t_set_in hp hN hn (x := x) (u0 := 0) (by omega) (fun i hi => by rw [hFs x i, if_neg (show ¬ x < n by omega)]) (W + 1) 0 _ (by omega) (by omega) rfl ?_
        refine e_incN x (x + 1) (inc1 _) dX4_set_271 rfl (ls_s (ls_s (ls_s (ls_1 rfl)))) (Nat.le_of_ble_eq_true rfl) ?_
        refine e_goto 169 dX4_set_274 (by decide) ?_
        rw [← setP_r]
        exact ih (x + 1) (by omega) (by omega) hQ
      · refine e_aload_n dX4_set_186 0 rfl rfl rfl ?_
        refine e_getf (v := .ref 72) dX4_set_187 rfl fX4_64 (tw_o hp) rfl ?_
        refine e_iload dX4_set_190 rfl ?_
        refine e_lald (f := τ1.2.2.2 26) (j := x) dX4_set_192 (tw_a26 hp) rfl (by omega) (by decide) ?_
        refine e_goto 197 dX4_set_193 (by decide) ?_
        refine e_lstore dX4_set_197 (ls_s (ls_s (ls_s (ls_s (ls_1 rfl))))) (ln_s (ln_s (ln_s (ln_s (ln_s (ln_s ln_0)))))) (Nat.le_of_ble_eq_true rfl) ?_
        refine e_iconst 0 dX4_set_199 rfl ?_
        refine e_istore dX4_set_200 (ls_s (ls_s (ls_s (ls_s (ls_s (ls_s (ls_1 rfl))))))) (Nat.le_of_ble_eq_true rfl) ?_
        refine t_set_in hp hN hn (x := x) (u0 := τ1.2.2.2 26 x) (by omega) (fun i hi => by rw [hFs x i, if_pos (show x < n by omega), ← hv]) (W + 1) 0 _ (by omega) (by omega) rfl ?_
        refine e_incN x (x + 1) (inc1 _) dX4_set_271 rfl (ls_s (ls_s (ls_s (ls_1 rfl)))) (Nat.le_of_ble_eq_true rfl) ?_
        refine e_goto 169 dX4_set_274 (by decide) ?_
        rw [← setP_r]
        exact ih (x + 1) (by omega) (by omega) hQ

set_option maxHeartbeats 4000000 in
set_option maxRecDepth 100000 in
/-- WheelTablesModel.set -/
theorem t_setM {pre post : List ACell} {τ : Tw} (hp : pre.length = 56) (hI : InvE τ) (hT : InvT τ) (e t n : Int32) : Ct yX4_set (ws_ yX4_set cX4_set 10 (some .boolean)) 2 0 0 [.ref 56, .int e, .int t, .int n] (TW pre τ post) (TQi pre post (sp_set e t n τ)) noX := by
  refine Ct.of (ini := false) (ls := [some (.ref 56), some (.int e), some (.int t), some (.int n), none, none, none, none, none, none]) (by decide) (Nat.le_of_ble_eq_true rfl) (fun h => by cases h) rfl ?_
  refine e_aload_n dX4_set_0 0 rfl rfl rfl ?_
  refine e_iconst 0 dX4_set_1 rfl ?_
  refine e_tputI dX4_set_2 rfl pX4_212 rfl hp (Nat.le_of_ble_eq_true rfl) (tw_f1 _) ?_
  refine e_aload_n dX4_set_5 0 rfl rfl rfl ?_
  refine e_iconst 0 dX4_set_6 rfl ?_
  refine e_tputI dX4_set_7 rfl pX4_215 rfl hp (Nat.le_of_ble_eq_true rfl) (tw_f0 _) ?_
  refine e_iload_n dX4_set_10 2 rfl rfl ?_
  refine e_if_lt 19 dX4_set_11 (by decide) (fun h11 => ?_) (fun h11 => ?_)
  · refine e_aload_n dX4_set_19 0 rfl rfl rfl ?_
    refine e_iconst 1 dX4_set_20 rfl ?_
    refine e_callV1 (As := [.int 1]) (rest := []) dX4_set_21 rfl mvX4_218 (tw_o hp) rfl (t_no hp 1) (Nat.le_of_ble_eq_true rfl) rfl rfl (Nat.le_of_ble_eq_true rfl) (Nat.zero_le _) (Nat.zero_le _) ?_
    refine e_ireturn dX4_set_24 rfl rfl (Nat.zero_le _) (Nat.zero_le _) ?_
    refine TQi.of ?_
    rw [sp_set, if_pos (Or.inl h11)]
    rfl
  · refine e_iload_n dX4_set_14 2 rfl rfl ?_
    refine e_iconst 4 dX4_set_15 rfl ?_
    refine e_icmp_lt 25 dX4_set_16 (by decide) (fun h16 => ?_) (fun h16 => ?_)
    · refine e_aload_n dX4_set_25 0 rfl rfl rfl ?_
      refine e_iload_n dX4_set_26 1 rfl rfl ?_
      refine e_callVB (As := [.int e]) (rest := []) dX4_set_27 rfl mvX4_243 (tw_o hp) rfl (t_isEngine hp (by exact hI) e) (Nat.le_of_ble_eq_true rfl) rfl rfl (Nat.le_of_ble_eq_true rfl) (Nat.zero_le _) (Nat.zero_le _) (fun h27 => ?_) (fun h27 => ?_)
      · have h27 : (IsE e τ) := h27
        refine e_if_ne_t 39 (by decide) dX4_set_30 (by decide) ?_
        have g6 : ¬ (t < 0 ∨ 4 ≤ t) := fun z => z.elim h11 (fun z => absurd h16 (Int32.not_lt.mpr z))
        obtain ⟨y, hy, rfl⟩ := in_lt (x := t) 4 (by decide) h11 h16
        obtain ⟨j, hj, hj4, rfl⟩ := eng_of hI h27
        obtain ⟨hO, hM⟩ := hI.2.2.1 j hj
        have hN := hO.F hj4
        obtain ⟨-, hA, hA2, hW1, hW, eA, eW, hM20, eM, hrd, hr⟩ := id hN
        have hU := hO.2.2.1.1
        have eU := hO.2.2.1.2
        refine e_aload_n dX4_set_39 0 rfl rfl rfl ?_
        refine e_getf (v := .ref 58) dX4_set_40 rfl fX4_13 (tw_o hp) rfl ?_
        refine e_iload_n dX4_set_43 2 rfl rfl ?_
        refine e_iald (f := τ.2.2.1 3) (j := y) dX4_set_44 (tw_a3 hp) rfl (by omega) (by decide) ?_
        refine e_if_ge 54 dX4_set_45 (by decide) (fun h45 => ?_) (fun h45 => ?_)
        · refine e_iload_n dX4_set_54 3 rfl rfl ?_
          refine e_i2l dX4_set_55 ?_
          refine e_lconst 1 dX4_set_56 rfl ?_
          refine e_aload_n dX4_set_57 0 rfl rfl rfl ?_
          refine e_getf (v := .ref 60) dX4_set_58 rfl fX4_20 (tw_o hp) rfl ?_
          refine e_iload_n dX4_set_61 1 rfl rfl ?_
          refine e_iald (f := τ.2.2.1 6) (j := j) dX4_set_62 (tw_a6 hp) rfl (by omega) (by decide) ?_
          refine e_top (congrArg Value.int eA) ?_
          refine e_i2l dX4_set_63 ?_
          refine e_callSB (As := [.long n.toInt64, .long 1, .long ((nI (gA τ j)).toInt64)]) (rest := []) dX4_set_64 rfl msX4_239 (t_isInI n 1 (nI (gA τ j)) rfl (by decide) rfl) (Nat.le_of_ble_eq_true rfl) rfl rfl (Nat.le_of_ble_eq_true rfl) (Nat.zero_le _) (Nat.zero_le _) (fun h64 => ?_) (fun h64 => ?_)
          · refine e_if_ne_t 76 (by decide) dX4_set_67 (by decide) ?_
            obtain ⟨m, hm0, rfl⟩ := in_oc (x := n) (c := nI (gA τ j)) (gA τ j) (nI_toInt (by omega)) (Int32.le_trans (by decide) h64.1) h64.2
            have hm : m ≤ gA τ j := hm0
            have hm1 : 1 ≤ m := (nI_leN (a := 1) (b := m) (by omega) (by omega)).mp h64.1
            obtain ⟨q, hq, eq⟩ : ∃ q, q ≤ 60 ∧ τ.2.2.1 3 y = nI q := (hT y hy).1.elim (fun z => absurd h45 (by rw [z]; decide)) id
            refine e_aload_n dX4_set_76 0 rfl rfl rfl ?_
            refine e_getf (v := .ref 58) dX4_set_77 rfl fX4_13 (tw_o hp) rfl ?_
            refine e_iload_n dX4_set_80 2 rfl rfl ?_
            refine e_iald (f := τ.2.2.1 3) (j := y) dX4_set_81 (tw_a3 hp) rfl (by omega) (by decide) ?_
            refine e_top (congrArg Value.int eq) ?_
            refine e_iload_n dX4_set_82 3 rfl rfl ?_
            refine e_icmp_geN q m 92 (by omega) (by omega) dX4_set_83 (by decide) (fun h83 => ?_) (fun h83 => ?_)
            · refine e_iconst 0 dX4_set_92 rfl ?_
              refine e_istore dX4_set_93 (ls_s (ls_s (ls_s (ls_1 rfl)))) (Nat.le_of_ble_eq_true rfl) ?_
              have h83' : ¬ nI q < nI m := fun z => absurd ((nI_ltN (by omega) (by omega)).mp z) (by omega)
              refine t_set1 (τ := tI (tI τ 1 0) 0 0) hp hy (show m ≤ 7 by omega) (m + 1) 0 (by omega) (by omega) rfl (fun z => ?_) (fun hz => ?_)
              · refine TQi.of ?_
                rw [sp_set, if_neg g6, if_neg (fun z => z h27), ix_nI (show j < 2147483648 by omega), ix_nI (show y < 2147483648 by omega), if_neg (Int32.not_lt.mpr h45), eA, if_neg (fun z => z h64), eq, if_neg h83', ix_nI (show m < 2147483648 by omega), if_pos (show ¬ spBil y m τ = true from z)]
                rfl
              refine e_iconst 0 dX4_set_132 rfl ?_
              refine e_istore dX4_set_133 (ls_s (ls_s (ls_s (ls_1 rfl)))) (Nat.le_of_ble_eq_true rfl) ?_
              rw [← tB_self (tI (tI τ 1 0) 0 0) 26]
              refine t_set2 (τ0 := tI (tI τ 1 0) 0 0) hp hy (show m ≤ 7 by omega) (m + 1) 0 _ (by omega) (by omega) (by rw [rngL_0]) ?_
              refine e_aload_n dX4_set_161 0 rfl rfl rfl ?_
              refine e_iload_n dX4_set_162 3 rfl rfl ?_
              refine e_callV0 (As := [.int (nI m)]) (rest := []) dX4_set_163 rfl mvX4_278 (tw_o hp) rfl (t_back hp (v := (rngL (τ.2.2.2 26) 0 m (fun k => τ.2.2.2 4 (60 * y + k)))) (show m ≤ 7 by omega) hm1) (Nat.le_of_ble_eq_true rfl) rfl rfl (Nat.le_of_ble_eq_true rfl) (Nat.zero_le _) (Nat.zero_le _) ?_
              refine e_iconst 0 dX4_set_166 rfl ?_
              refine e_istore dX4_set_167 (ls_s (ls_s (ls_s (ls_1 rfl)))) (Nat.le_of_ble_eq_true rfl) ?_
              rw [← tA_self (tB (tI (tI τ 1 0) 0 0) 26 (bkN m (rngL (τ.2.2.2 26) 0 m (fun k => τ.2.2.2 4 (60 * y + k))))) 10]
              have e0 : fgUp (τ.2.2.1 10) j (gA τ j) (gW τ j) (setP (fun a i => ix (dgF (gR τ j) (if a < m then bkN m (rngL (τ.2.2.2 26) 0 m (fun k => τ.2.2.2 4 (60 * y + k))) a else 0) i)) (gF τ j) 0 0) = (tB (tI (tI τ 1 0) 0 0) 26 (bkN m (rngL (τ.2.2.2 26) 0 m (fun k => τ.2.2.2 4 (60 * y + k))))).2.2.1 10 := by rw [setP_0]; exact hO.self
              rw [← e0]
              refine t_set3 (τ1 := (tB (tI (tI τ 1 0) 0 0) 26 (bkN m (rngL (τ.2.2.2 26) 0 m (fun k => τ.2.2.2 4 (60 * y + k)))))) (Fs := (fun a i => ix (dgF (gR τ j) (if a < m then bkN m (rngL (τ.2.2.2 26) 0 m (fun k => τ.2.2.2 4 (60 * y + k))) a else 0) i))) (n := m) (v := bkN m (rngL (τ.2.2.2 26) 0 m (fun k => τ.2.2.2 4 (60 * y + k)))) hp (by exact hN) (show m ≤ 7 by omega) (by rw [tB_at]) (fun a i => rfl) (gA τ j + 1) 0 (by omega) (by omega) ?_
              have eS : sp_set (nI j) (nI y) (nI m) τ = (1, tA (tA (b0 τ) 10 (fgUp (τ.2.2.1 10) j (gA τ j) (gW τ j) (setM (gR τ j) m (fun k => τ.2.2.2 4 (60 * y + k))))) 8 (upd (τ.2.2.1 8) j 0)) := by
                rw [sp_set, if_neg g6, if_neg (fun z => z h27), ix_nI (show j < 2147483648 by omega), ix_nI (show y < 2147483648 by omega), if_neg (Int32.not_lt.mpr h45), eA, if_neg (fun z => z h64), eq, if_neg h83', ix_nI (show m < 2147483648 by omega), if_neg (fun z => z (show spBil y m τ = true from hz))]
              have e1 : fgUp (τ.2.2.1 10) j (gA τ j) (gW τ j) (fun a i => ix (dgF (gR τ j) (if a < m then bkN m (rngL (τ.2.2.2 26) 0 m (fun k => τ.2.2.2 4 (60 * y + k))) a else 0) i)) = fgUp (τ.2.2.1 10) j (gA τ j) (gW τ j) (setM (gR τ j) m (fun k => τ.2.2.2 4 (60 * y + k))) := by
                refine fgUp_cg (fun a ha i hi => ?_)
                show ix (dgF _ (if a < m then _ else 0) i) = ix (dgF _ (if a < m then _ else 0) i)
                by_cases h : a < m
                · rw [if_pos h, if_pos h, bkN_cg (w := fun k => τ.2.2.2 4 (60 * y + k)) (fun q hq => by unfold rngL; rw [if_pos ⟨by omega, by omega⟩, Nat.sub_zero]) a h]
                · rw [if_neg h, if_neg h]
              rw [e1]
              exact TQi.q eS (((Tq.rf.b 26 _ (by decide)).A 10 _).A 8 _)
            · refine e_aload_n dX4_set_86 0 rfl rfl rfl ?_
              refine e_iconst 4 dX4_set_87 rfl ?_
              refine e_callV1 (As := [.int 4]) (rest := []) dX4_set_88 rfl mvX4_218 (tw_o hp) rfl (t_no hp 4) (Nat.le_of_ble_eq_true rfl) rfl rfl (Nat.le_of_ble_eq_true rfl) (Nat.zero_le _) (Nat.zero_le _) ?_
              refine e_ireturn dX4_set_91 rfl rfl (Nat.zero_le _) (Nat.zero_le _) ?_
              refine TQi.of ?_
              rw [sp_set, if_neg g6, if_neg (fun z => z h27), ix_nI (show j < 2147483648 by omega), ix_nI (show y < 2147483648 by omega), if_neg (Int32.not_lt.mpr h45), eA, if_neg (fun z => z h64), eq, if_pos ((nI_ltN (by omega) (by omega)).mpr (by omega))]
              rfl
          · refine e_if_ne_f (by decide) 76 dX4_set_67 (by decide) ?_
            refine e_aload_n dX4_set_70 0 rfl rfl rfl ?_
            refine e_iconst 5 dX4_set_71 rfl ?_
            refine e_callV1 (As := [.int 5]) (rest := []) dX4_set_72 rfl mvX4_218 (tw_o hp) rfl (t_no hp 5) (Nat.le_of_ble_eq_true rfl) rfl rfl (Nat.le_of_ble_eq_true rfl) (Nat.zero_le _) (Nat.zero_le _) ?_
            refine e_ireturn dX4_set_75 rfl rfl (Nat.zero_le _) (Nat.zero_le _) ?_
            refine TQi.of ?_
            rw [sp_set, if_neg g6, if_neg (fun z => z h27), ix_nI (show j < 2147483648 by omega), ix_nI (show y < 2147483648 by omega), if_neg (Int32.not_lt.mpr h45), eA, if_pos h64]
            rfl
        · refine e_aload_n dX4_set_48 0 rfl rfl rfl ?_
          refine e_iconst 3 dX4_set_49 rfl ?_
          refine e_callV1 (As := [.int 3]) (rest := []) dX4_set_50 rfl mvX4_218 (tw_o hp) rfl (t_no hp 3) (Nat.le_of_ble_eq_true rfl) rfl rfl (Nat.le_of_ble_eq_true rfl) (Nat.zero_le _) (Nat.zero_le _) ?_
          refine e_ireturn dX4_set_53 rfl rfl (Nat.zero_le _) (Nat.zero_le _) ?_
          refine TQi.of ?_
          rw [sp_set, if_neg g6, if_neg (fun z => z h27), ix_nI (show j < 2147483648 by omega), ix_nI (show y < 2147483648 by omega), if_pos (Int32.not_le.mp h45)]
          rfl
      · have h27 : ¬ (IsE e τ) := h27
        refine e_if_ne_f (by decide) 39 dX4_set_30 (by decide) ?_
        refine e_aload_n dX4_set_33 0 rfl rfl rfl ?_
        refine e_iconst 2 dX4_set_34 rfl ?_
        refine e_callV1 (As := [.int 2]) (rest := []) dX4_set_35 rfl mvX4_218 (tw_o hp) rfl (t_no hp 2) (Nat.le_of_ble_eq_true rfl) rfl rfl (Nat.le_of_ble_eq_true rfl) (Nat.zero_le _) (Nat.zero_le _) ?_
        refine e_ireturn dX4_set_38 rfl rfl (Nat.zero_le _) (Nat.zero_le _) ?_
        refine TQi.of ?_
        rw [sp_set, if_neg (fun z => z.elim h11 (fun z => absurd h16 (Int32.not_lt.mpr z))), if_pos h27]
        rfl
    · refine e_aload_n dX4_set_19 0 rfl rfl rfl ?_
      refine e_iconst 1 dX4_set_20 rfl ?_
      refine e_callV1 (As := [.int 1]) (rest := []) dX4_set_21 rfl mvX4_218 (tw_o hp) rfl (t_no hp 1) (Nat.le_of_ble_eq_true rfl) rfl rfl (Nat.le_of_ble_eq_true rfl) (Nat.zero_le _) (Nat.zero_le _) ?_
      refine e_ireturn dX4_set_24 rfl rfl (Nat.zero_le _) (Nat.zero_le _) ?_
      refine TQi.of ?_
      rw [sp_set, if_pos (Or.inr (Int32.not_lt.mp h16))]
      rfl

