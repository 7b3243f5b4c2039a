/-! ===== the component: finer tables (2) ===== -/
set_option maxHeartbeats 4000000 in
set_option maxRecDepth 100000 in
/-- a loop of finer -/
theorem x_fin1 {ξ : Xs} {mid dyn : List ACell} {τ : Tw} (hm : mid.length = 61) {k m r y s n r0 : Nat} {g : Nat → Int64} (hkn : k < n) (hn60 : n ≤ 60) (hs : s < 4) (hy : y < 4) (hTr : ξ.2.2.2.2.2.2 y = (some (117 + r0), nI s)) (hD : dyn[r0]? = some (rowC s n g)) (hg : ∀ k, k < n → g k = τ.2.2.2 4 (60 * y + k) ∧ fitS s (g k)) {Q : Qfun} : ∀ (fuel : Nat) (j : Nat), j ≤ k + 1 → k + 1 < j + fuel → allB (fun k => decide (-10000 ≤ τ.2.2.2 4 (60 * y + k) ∧ τ.2.2.2 4 (60 * y + k) ≤ 10000)) j = true → (¬ spTen y (k + 1) τ = true → Q (some (.int (-1))) (XM (xI ξ 8 5) mid dyn)) → (spTen y (k + 1) τ = true → E cX0_finer (RX0, (some .int), 9, 3, (0, 0), false, []) Q noX 0 0 139 [some (.ref 0), some (.int (nI y)), some (.int (nI k)), some (.int (nI m)), some (.int (nI r)), some (.ref (52 + y)), none, none, none] [] (XM ξ mid dyn)) →
    E cX0_finer (RX0, (some .int), 9, 3, (0, 0), false, []) Q noX 0 0 93 [some (.ref 0), some (.int (nI y)), some (.int (nI k)), some (.int (nI m)), some (.int (nI r)), some (.ref (52 + y)), some (.int (nI j)), none, none] [] (XM ξ mid dyn) := by
  intro fuel
  induction fuel with
  | zero => intro j hj hf hb hR hE; exact absurd hf (by omega)
  | succ fuel ih =>
    intro j hj hf hb hR hE
    refine e_iload dX0_finer_93 rfl ?_
    refine e_iload_n dX0_finer_95 2 rfl rfl ?_
    refine e_icmp_gtN j k 139 (by omega) (by omega) dX0_finer_96 (by decide) (fun h96 => ?_) (fun h96 => ?_)
    · refine e_forget (i := 6) (ln_s (ln_s (ln_s (ln_s (ln_s (ln_s ln_0)))))) ?_
      obtain rfl : j = k + 1 := by omega
      exact hE hb
    · refine e_aload dX0_finer_99 rfl rfl ?_
      refine e_iload dX0_finer_101 rfl ?_
      refine e_callV1 (As := [.int (nI j)]) (rest := []) dX0_finer_103 rfl mvX0_173 (xm_oT hy) rfl (z_get hm hy hs hn60 hTr hD (by omega) (hg j (by omega)).2) (Nat.le_of_ble_eq_true rfl) rfl rfl (Nat.le_of_ble_eq_true rfl) (Nat.zero_le _) (Nat.zero_le _) ?_
      refine e_top (congrArg Value.long (hg j (by omega)).1) ?_
      refine e_ldc2 rfl q758 dX0_finer_106 ?_
      refine e_lcmp_lt 127 dX0_finer_109 dX0_finer_110 (by decide) (fun h109 => ?_) (fun h109 => ?_)
      · refine e_aload_n dX0_finer_127 0 rfl rfl rfl ?_
        refine e_iconst 5 dX0_finer_128 rfl ?_
        refine e_callV1 (As := [.int 5]) (rest := []) dX0_finer_129 rfl mvX0_169 (xm_o0) rfl (x_none 5) (Nat.le_of_ble_eq_true rfl) rfl rfl (Nat.le_of_ble_eq_true rfl) (Nat.zero_le _) (Nat.zero_le _) ?_
        refine e_ireturn dX0_finer_132 rfl rfl (Nat.zero_le _) (Nat.zero_le _) ?_
        refine hR (fun z => ?_)
        have hz := of_decide_eq_true ((allB_iff.mp z) j (by omega))
        exact absurd hz.1 (Int64.not_le.mpr h109)
      · refine e_aload dX0_finer_113 rfl rfl ?_
        refine e_iload dX0_finer_115 rfl ?_
        refine e_callV1 (As := [.int (nI j)]) (rest := []) dX0_finer_117 rfl mvX0_173 (xm_oT hy) rfl (z_get hm hy hs hn60 hTr hD (by omega) (hg j (by omega)).2) (Nat.le_of_ble_eq_true rfl) rfl rfl (Nat.le_of_ble_eq_true rfl) (Nat.zero_le _) (Nat.zero_le _) ?_
        refine e_top (congrArg Value.long (hg j (by omega)).1) ?_
        refine e_ldc2 rfl q759 dX0_finer_120 ?_
        refine e_lcmp_le 133 dX0_finer_123 dX0_finer_124 (by decide) (fun h123 => ?_) (fun h123 => ?_)
        · refine e_incN j (j + 1) (inc1 _) dX0_finer_133 rfl (ls_s (ls_s (ls_s (ls_s (ls_s (ls_1 rfl)))))) (Nat.le_of_ble_eq_true rfl) ?_
          refine e_goto 93 dX0_finer_136 (by decide) ?_
          exact ih (j + 1) (by omega) (by omega) (by rw [allB, hb, Bool.true_and]; exact decide_eq_true ⟨Int64.not_lt.mp h109, h123⟩) hR hE
        · refine e_aload_n dX0_finer_127 0 rfl rfl rfl ?_
          refine e_iconst 5 dX0_finer_128 rfl ?_
          refine e_callV1 (As := [.int 5]) (rest := []) dX0_finer_129 rfl mvX0_169 (xm_o0) rfl (x_none 5) (Nat.le_of_ble_eq_true rfl) rfl rfl (Nat.le_of_ble_eq_true rfl) (Nat.zero_le _) (Nat.zero_le _) ?_
          refine e_ireturn dX0_finer_132 rfl rfl (Nat.zero_le _) (Nat.zero_le _) ?_
          refine hR (fun z => ?_)
          have hz := of_decide_eq_true ((allB_iff.mp z) j (by omega))
          exact h123 hz.2

set_option maxHeartbeats 4000000 in
set_option maxRecDepth 100000 in
/-- a loop of finer -/
theorem x_fin2 {ξ : Xs} {mid dyn : List ACell} {τ : Tw} (hm : mid.length = 61) {k m r y s n r0 : Nat} {g : Nat → Int64} (hkn : k < n) (hn60 : n ≤ 60) (hs : s < 4) (hy : y < 4) (hTr : ξ.2.2.2.2.2.2 y = (some (117 + r0), nI s)) (hD : dyn[r0]? = some (rowC s n g)) (hg : ∀ k, k < n → g k = τ.2.2.2 4 (60 * y + k) ∧ fitS s (g k)) (hk : k ≤ 4) {Q : Qfun} : ∀ (fuel : Nat) (j : Nat), j ≤ k + 1 → k + 1 < j + fuel → E cX0_finer (RX0, (some .int), 9, 3, (0, 0), false, []) Q noX 0 0 168 [some (.ref 0), some (.int (nI y)), some (.int (nI k)), some (.int (nI m)), some (.int (nI r)), some (.ref (52 + y)), none, none, none] [] (XM (xB ξ 11 (rngL (ξ.2.2.2.1 11) 0 (k + 1) (fun k => τ.2.2.2 4 (60 * y + k)))) mid dyn) →
    E cX0_finer (RX0, (some .int), 9, 3, (0, 0), false, []) Q noX 0 0 142 [some (.ref 0), some (.int (nI y)), some (.int (nI k)), some (.int (nI m)), some (.int (nI r)), some (.ref (52 + y)), some (.int (nI j)), none, none] [] (XM (xB ξ 11 (rngL (ξ.2.2.2.1 11) 0 j (fun k => τ.2.2.2 4 (60 * y + k)))) mid dyn) := by
  intro fuel
  induction fuel with
  | zero => intro j hj hf hE; exact absurd hf (by omega)
  | succ fuel ih =>
    intro j hj hf hE
    refine e_iload dX0_finer_142 rfl ?_
    refine e_iload_n dX0_finer_144 2 rfl rfl ?_
    refine e_icmp_gtN j k 168 (by omega) (by omega) dX0_finer_145 (by decide) (fun h145 => ?_) (fun h145 => ?_)
    · refine e_forget (i := 6) (ln_s (ln_s (ln_s (ln_s (ln_s (ln_s ln_0)))))) ?_
      obtain rfl : j = k + 1 := by omega
      exact hE
    · refine e_aload_n dX0_finer_148 0 rfl rfl rfl ?_
      refine e_getf (v := (.ref 8)) dX0_finer_149 rfl fX0_56 (xm_o0) rfl ?_
      refine e_iload dX0_finer_152 rfl ?_
      refine e_aload dX0_finer_154 rfl rfl ?_
      refine e_iload dX0_finer_156 rfl ?_
      refine e_callV1 (As := [.int (nI j)]) (rest := [.int (nI j), .ref 8]) dX0_finer_158 rfl mvX0_173 (xm_oT hy) rfl (z_get (ξ := xB ξ 11 (rngL (ξ.2.2.2.1 11) 0 j (fun k => τ.2.2.2 4 (60 * y + k)))) hm hy hs hn60 hTr hD (by omega) (hg j (by omega)).2) (Nat.le_of_ble_eq_true rfl) rfl rfl (Nat.le_of_ble_eq_true rfl) (Nat.zero_le _) (Nat.zero_le _) ?_
      refine e_top (congrArg Value.long (hg j (by omega)).1) ?_
      refine e_last (f := (rngL (ξ.2.2.2.1 11) 0 j (fun k => τ.2.2.2 4 (60 * y + k)))) (j := j) dX0_finer_161 (xm_a11) rfl (by omega) (by decide) ?_
      rw [xm_s11]
      refine e_incN j (j + 1) (inc1 _) dX0_finer_162 rfl (ls_s (ls_s (ls_s (ls_s (ls_s (ls_1 rfl)))))) (Nat.le_of_ble_eq_true rfl) ?_
      refine e_goto 142 dX0_finer_165 (by decide) ?_
      rw [xB_xB]
      refine E_mem (M' := XM (xB ξ 11 (rngL (ξ.2.2.2.1 11) 0 (j + 1) (fun k => τ.2.2.2 4 (60 * y + k)))) mid dyn) ?_ ?_
      · rw [← rngL_s, Nat.zero_add]
      exact ih (j + 1) (by omega) (by omega) hE

theorem xL_xL (ξ : Xs) (k : Nat) (a b : Int64) : xL (xL ξ k a) k b = xL ξ k b := by
  have h : vp_updL (vp_updL ξ.2.1 k a) k b = vp_updL ξ.2.1 k b := by funext j; unfold vp_updL; split <;> rfl
  unfold xL
  exact congrArg (fun z => (ξ.1, z, ξ.2.2)) h
theorem xB_cm (ξ : Xs) {a b : Nat} (h : ¬ a = b) (f g : Nat → Int64) : xB (xB ξ a f) b g = xB (xB ξ b g) a f := by
  have e : va_up (va_up ξ.2.2.2.1 a f) b g = va_up (va_up ξ.2.2.2.1 b g) a f := by
    funext j
    unfold va_up
    by_cases h1 : j = b
    · rw [if_pos h1, if_neg (fun z => h (z.symm.trans h1)), if_pos h1]
    · rw [if_neg h1]
      by_cases h2 : j = a
      · rw [if_pos h2, if_pos h2]
      · rw [if_neg h2, if_neg h2, if_neg h1]
  unfold xB
  exact congrArg (fun z => (ξ.1, ξ.2.1, ξ.2.2.1, z, ξ.2.2.2.2)) e
set_option maxHeartbeats 4000000 in
set_option maxRecDepth 100000 in
/-- a loop of finer -/
theorem x_fin3 {ξ : Xs} {mid dyn : List ACell} {k m r y : Nat} (hk : k ≤ 4) (hm2 : 2 ≤ m ∧ m ≤ 20) {Q : Qfun} : ∀ (fuel : Nat) (j : Nat) (u : Int64), j ≤ k → k < j + fuel → u = reL m 0 j → E cX0_finer (RX0, (some .int), 9, 3, (0, 0), false, []) Q noX 0 0 228 [some (.ref 0), some (.int (nI y)), some (.int (nI k)), some (.int (nI m)), some (.int (nI r)), some (.ref (52 + y)), none, none, none] [] (XM (xL ξ 14 (unL m k)) mid dyn) →
    E cX0_finer (RX0, (some .int), 9, 3, (0, 0), false, []) Q noX 0 0 199 [some (.ref 0), some (.int (nI y)), some (.int (nI k)), some (.int (nI m)), some (.int (nI r)), some (.ref (52 + y)), some (.int (nI j)), none, none] [] (XM (xL ξ 14 u) mid dyn) := by
  intro fuel
  induction fuel with
  | zero => intro j u hj hf hu hE; exact absurd hf (by omega)
  | succ fuel ih =>
    intro j u hj hf hu hE
    refine e_iload dX0_finer_199 rfl ?_
    refine e_iload_n dX0_finer_201 2 rfl rfl ?_
    refine e_icmp_geN j k 228 (by omega) (by omega) dX0_finer_202 (by decide) (fun h202 => ?_) (fun h202 => ?_)
    · refine e_forget (i := 6) (ln_s (ln_s (ln_s (ln_s (ln_s (ln_s ln_0)))))) ?_
      obtain rfl : j = k := by omega
      rw [hu, (lo_of (n := 0) hm2 hk (Nat.zero_le _)).2.2.2]
      exact hE
    · refine e_aload_n dX0_finer_205 0 rfl rfl rfl ?_
      refine e_dup dX0_finer_206 rfl ?_
      refine e_getf (v := (.long u)) dX0_finer_207 rfl fX0_295 (xm_o0) rfl ?_
      refine e_iload_n dX0_finer_210 3 rfl rfl ?_
      refine e_i2l dX0_finer_211 ?_
      refine e_iload dX0_finer_212 rfl ?_
      refine e_i2l dX0_finer_214 ?_
      refine e_lconst 1 dX0_finer_215 rfl ?_
      refine e_ladd dX0_finer_216 ?_
      refine e_lmul dX0_finer_217 ?_
      refine e_lmul dX0_finer_218 ?_
      refine e_xputL dX0_finer_219 rfl pX0_295 (xm_o0) (Nat.le_of_ble_eq_true rfl) (xm_f14 _) ?_
      refine e_incN j (j + 1) (inc1 _) dX0_finer_222 rfl (ls_s (ls_s (ls_s (ls_s (ls_s (ls_1 rfl)))))) (Nat.le_of_ble_eq_true rfl) ?_
      refine e_goto 199 dX0_finer_225 (by decide) ?_
      rw [xL_xL]
      refine ih (j + 1) _ (by omega) (by omega) ?_ hE
      rw [hu, reL, Nat.zero_add]

set_option maxHeartbeats 4000000 in
set_option maxRecDepth 100000 in
/-- a loop of finer -/
theorem x_fin4 {ξ : Xs} {mid dyn : List ACell} {k m r y : Nat} {st f0 : Nat → Int64} (hk : k ≤ 4) (hm2 : 2 ≤ m ∧ m ≤ 20) (hpv : ∀ q, q ≤ k → ξ.2.2.2.1 15 q = st q) {Q : Qfun} : ∀ (fuel : Nat) (j : Nat), j ≤ k + 1 → k + 1 < j + fuel → E cX0_finer (RX0, (some .int), 9, 3, (0, 0), false, []) Q noX 0 0 258 [some (.ref 0), some (.int (nI y)), some (.int (nI k)), some (.int (nI m)), some (.int (nI r)), some (.ref (52 + y)), none, none, none] [] (XM (xB ξ 11 (rngL f0 0 (k + 1) (fun i => atN st k m i))) mid dyn) →
    E cX0_finer (RX0, (some .int), 9, 3, (0, 0), false, []) Q noX 0 0 231 [some (.ref 0), some (.int (nI y)), some (.int (nI k)), some (.int (nI m)), some (.int (nI r)), some (.ref (52 + y)), some (.int (nI j)), none, none] [] (XM (xB ξ 11 (rngL f0 0 j (fun i => atN st k m i))) mid dyn) := by
  intro fuel
  induction fuel with
  | zero => intro j hj hf hE; exact absurd hf (by omega)
  | succ fuel ih =>
    intro j hj hf hE
    refine e_iload dX0_finer_231 rfl ?_
    refine e_iload_n dX0_finer_233 2 rfl rfl ?_
    refine e_icmp_gtN j k 258 (by omega) (by omega) dX0_finer_234 (by decide) (fun h234 => ?_) (fun h234 => ?_)
    · refine e_forget (i := 6) (ln_s (ln_s (ln_s (ln_s (ln_s (ln_s ln_0)))))) ?_
      obtain rfl : j = k + 1 := by omega
      exact hE
    · refine e_aload_n dX0_finer_237 0 rfl rfl rfl ?_
      refine e_getf (v := (.ref 8)) dX0_finer_238 rfl fX0_56 (xm_o0) rfl ?_
      refine e_iload dX0_finer_241 rfl ?_
      refine e_aload_n dX0_finer_243 0 rfl rfl rfl ?_
      refine e_iload dX0_finer_244 rfl ?_
      refine e_iload_n dX0_finer_246 2 rfl rfl ?_
      refine e_iload_n dX0_finer_247 3 rfl rfl ?_
      refine e_callV1 (As := [.int (nI j), .int (nI k), .int (nI m)]) (rest := [.int (nI j), .ref 8]) dX0_finer_248 rfl mvX0_303 (xm_o0) rfl (x_at (ξ := xB ξ 11 (rngL f0 0 j (fun i => atN st k m i))) hk hm2 (show j < 60 by omega) hpv) (Nat.le_of_ble_eq_true rfl) rfl rfl (Nat.le_of_ble_eq_true rfl) (Nat.zero_le _) (Nat.zero_le _) ?_
      refine e_last (f := (rngL f0 0 j (fun i => atN st k m i))) (j := j) dX0_finer_251 (xm_a11) rfl (by omega) (by decide) ?_
      rw [xm_s11]
      refine e_incN j (j + 1) (inc1 _) dX0_finer_252 rfl (ls_s (ls_s (ls_s (ls_s (ls_s (ls_1 rfl)))))) (Nat.le_of_ble_eq_true rfl) ?_
      refine e_goto 231 dX0_finer_255 (by decide) ?_
      rw [xB_xB]
      refine E_mem (M' := XM (xB ξ 11 (rngL f0 0 (j + 1) (fun i => atN st k m i))) mid dyn) ?_ ?_
      · rw [← rngL_s, Nat.zero_add]
      exact ih (j + 1) (by omega) (by omega) hE

set_option maxHeartbeats 4000000 in
set_option maxRecDepth 100000 in
/-- a loop of finer -/
theorem x_fin5 {ξ : Xs} {mid dyn : List ACell} {k m r y : Nat} {v f0 e0 : Nat → Int64} (hk : k ≤ 4) {Q : Qfun} : ∀ (fuel : Nat) (j : Nat), j ≤ k + 1 → k + 1 < j + fuel → (∀ f, E cX0_finer (RX0, (some .int), 9, 3, (0, 0), false, []) Q noX 0 0 313 [some (.ref 0), some (.int (nI y)), some (.int (nI k)), some (.int (nI m)), some (.int (nI r)), some (.ref (52 + y)), none, none, none] [] (XM (xB (xB ξ 16 (rngL e0 0 (k + 1) (fun q => bkN (k + 1) (fun i => atN (dfL (k + 1) v k) k m i) q))) 11 f) mid dyn)) →
    E cX0_finer (RX0, (some .int), 9, 3, (0, 0), false, []) Q noX 0 0 268 [some (.ref 0), some (.int (nI y)), some (.int (nI k)), some (.int (nI m)), some (.int (nI r)), some (.ref (52 + y)), some (.int (nI j)), none, none] [] (XM (xB (xB ξ 16 (rngL e0 0 j (fun q => bkN (k + 1) (fun i => atN (dfL (k + 1) v k) k m i) q))) 11 (stT (k + 1) (dfL (k + 1) (rngL f0 0 (k + 1) (fun i => atN (dfL (k + 1) v k) k m i)) k) ((j - 1) / 2))) mid dyn) := by
  intro fuel
  induction fuel with
  | zero => intro j hj hf hE; exact absurd hf (by omega)
  | succ fuel ih =>
    intro j hj hf hE
    have hval0 : j ≤ k → stT (k + 1) (dfL (k + 1) (rngL f0 0 (k + 1) (fun i => atN (dfL (k + 1) v k) k m i)) k) (j / 2) j = (fun q => bkN (k + 1) (fun i => atN (dfL (k + 1) v k) k m i) q) j := fun h => by
      show _ = bkN (k + 1) (fun i => atN (dfL (k + 1) v k) k m i) j
      rw [← bkN_cg (v := (rngL f0 0 (k + 1) (fun i => atN (dfL (k + 1) v k) k m i))) (fun i hi => by unfold rngL; rw [if_pos (by omega), Nat.sub_zero]) j (by omega), bkN_st (by omega) (by omega)]
      rfl
    refine e_iload dX0_finer_268 rfl ?_
    refine e_iload_n dX0_finer_270 2 rfl rfl ?_
    refine e_icmp_gtN j k 313 (by omega) (by omega) dX0_finer_271 (by decide) (fun h271 => ?_) (fun h271 => ?_)
    · refine e_forget (i := 6) (ln_s (ln_s (ln_s (ln_s (ln_s (ln_s ln_0)))))) ?_
      obtain rfl : j = k + 1 := by omega
      exact hE _
    · refine e_iload dX0_finer_274 rfl ?_
      refine e_if_leN j 293 (by omega) dX0_finer_276 (by decide) (fun h276 => ?_) (fun h276 => ?_)
      · have hval : (stT (k + 1) (dfL (k + 1) (rngL f0 0 (k + 1) (fun i => atN (dfL (k + 1) v k) k m i)) k) ((j - 1) / 2)) j = (fun q => bkN (k + 1) (fun i => atN (dfL (k + 1) v k) k m i) q) j := by
          rw [show (j - 1) / 2 = j / 2 by omega]
          exact hval0 (by omega)
        refine e_aload_n dX0_finer_293 0 rfl rfl rfl ?_
        refine e_getf (v := (.ref 11)) dX0_finer_294 rfl fX0_67 (xm_o0) rfl ?_
        refine e_iload dX0_finer_297 rfl ?_
        refine e_aload_n dX0_finer_299 0 rfl rfl rfl ?_
        refine e_getf (v := (.ref 8)) dX0_finer_300 rfl fX0_56 (xm_o0) rfl ?_
        refine e_iload dX0_finer_303 rfl ?_
        refine e_lald (f := (stT (k + 1) (dfL (k + 1) (rngL f0 0 (k + 1) (fun i => atN (dfL (k + 1) v k) k m i)) k) ((j - 1) / 2))) (j := j) dX0_finer_305 (xm_a11) rfl (by omega) (by decide) ?_
        refine e_top (congrArg Value.long hval) ?_
        refine e_last (f := (rngL e0 0 j (fun q => bkN (k + 1) (fun i => atN (dfL (k + 1) v k) k m i) q))) (j := j) dX0_finer_306 (xm_a16) rfl (by omega) (by decide) ?_
        rw [xm_s16]
        refine e_incN j (j + 1) (inc1 _) dX0_finer_307 rfl (ls_s (ls_s (ls_s (ls_s (ls_s (ls_1 rfl)))))) (Nat.le_of_ble_eq_true rfl) ?_
        refine e_goto 268 dX0_finer_310 (by decide) ?_
        refine E_mem (M' := XM (xB (xB ξ 16 (rngL e0 0 (j + 1) (fun q => bkN (k + 1) (fun i => atN (dfL (k + 1) v k) k m i) q))) 11 (stT (k + 1) (dfL (k + 1) (rngL f0 0 (k + 1) (fun i => atN (dfL (k + 1) v k) k m i)) k) ((j + 1 - 1) / 2))) mid dyn) ?_ ?_
        · rw [xB_cm _ (show ¬ 11 = 16 by decide), xB_xB, ← rngL_s, Nat.zero_add]
          rw [show (j + 1 - 1) / 2 = (j - 1) / 2 by omega]
        exact ih (j + 1) (by omega) (by omega) hE
      · refine e_iload dX0_finer_279 rfl ?_
        refine e_iconst 2 dX0_finer_281 rfl ?_
        refine e_iremN j 2 (by omega) (by omega) (by omega) dX0_finer_282 ?_
        refine e_if_neN (j % 2) 293 (by omega) dX0_finer_283 (by decide) (fun h283 => ?_) (fun h283 => ?_)
        · have hval : (stT (k + 1) (dfL (k + 1) (rngL f0 0 (k + 1) (fun i => atN (dfL (k + 1) v k) k m i)) k) ((j - 1) / 2)) j = (fun q => bkN (k + 1) (fun i => atN (dfL (k + 1) v k) k m i) q) j := by
            rw [show (j - 1) / 2 = j / 2 by omega]
            exact hval0 (by omega)
          refine e_aload_n dX0_finer_293 0 rfl rfl rfl ?_
          refine e_getf (v := (.ref 11)) dX0_finer_294 rfl fX0_67 (xm_o0) rfl ?_
          refine e_iload dX0_finer_297 rfl ?_
          refine e_aload_n dX0_finer_299 0 rfl rfl rfl ?_
          refine e_getf (v := (.ref 8)) dX0_finer_300 rfl fX0_56 (xm_o0) rfl ?_
          refine e_iload dX0_finer_303 rfl ?_
          refine e_lald (f := (stT (k + 1) (dfL (k + 1) (rngL f0 0 (k + 1) (fun i => atN (dfL (k + 1) v k) k m i)) k) ((j - 1) / 2))) (j := j) dX0_finer_305 (xm_a11) rfl (by omega) (by decide) ?_
          refine e_top (congrArg Value.long hval) ?_
          refine e_last (f := (rngL e0 0 j (fun q => bkN (k + 1) (fun i => atN (dfL (k + 1) v k) k m i) q))) (j := j) dX0_finer_306 (xm_a16) rfl (by omega) (by decide) ?_
          rw [xm_s16]
          refine e_incN j (j + 1) (inc1 _) dX0_finer_307 rfl (ls_s (ls_s (ls_s (ls_s (ls_s (ls_1 rfl)))))) (Nat.le_of_ble_eq_true rfl) ?_
          refine e_goto 268 dX0_finer_310 (by decide) ?_
          refine E_mem (M' := XM (xB (xB ξ 16 (rngL e0 0 (j + 1) (fun q => bkN (k + 1) (fun i => atN (dfL (k + 1) v k) k m i) q))) 11 (stT (k + 1) (dfL (k + 1) (rngL f0 0 (k + 1) (fun i => atN (dfL (k + 1) v k) k m i)) k) ((j + 1 - 1) / 2))) mid dyn) ?_ ?_
          · rw [xB_cm _ (show ¬ 11 = 16 by decide), xB_xB, ← rngL_s, Nat.zero_add]
            rw [show (j + 1 - 1) / 2 = (j - 1) / 2 by omega]
          exact ih (j + 1) (by omega) (by omega) hE
        · refine e_aload_n dX0_finer_286 0 rfl rfl rfl ?_
          refine e_iload_n dX0_finer_287 2 rfl rfl ?_
          refine e_iconst 1 dX0_finer_288 rfl ?_
          refine e_iaddN k 1 dX0_finer_289 ?_
          refine e_callV0 (As := [.int (nI (k + 1))]) (rest := []) dX0_finer_290 rfl mvX0_249 (xm_o0) rfl (x_steps (n := k + 1) (by omega) (by omega)) (Nat.le_of_ble_eq_true rfl) rfl rfl (Nat.le_of_ble_eq_true rfl) (Nat.zero_le _) (Nat.zero_le _) ?_
          have hval : (stP 0 (k + 1) (stT (k + 1) (dfL (k + 1) (rngL f0 0 (k + 1) (fun i => atN (dfL (k + 1) v k) k m i)) k) ((j - 1) / 2))) j = (fun q => bkN (k + 1) (fun i => atN (dfL (k + 1) v k) k m i) q) j := by
            show stT (k + 1) (dfL (k + 1) (rngL f0 0 (k + 1) (fun i => atN (dfL (k + 1) v k) k m i)) k) ((j - 1) / 2 + 1) j = _
            rw [show (j - 1) / 2 + 1 = j / 2 by omega]
            exact hval0 (by omega)
          refine e_aload_n dX0_finer_293 0 rfl rfl rfl ?_
          refine e_getf (v := (.ref 11)) dX0_finer_294 rfl fX0_67 (xm_o0) rfl ?_
          refine e_iload dX0_finer_297 rfl ?_
          refine e_aload_n dX0_finer_299 0 rfl rfl rfl ?_
          refine e_getf (v := (.ref 8)) dX0_finer_300 rfl fX0_56 (xm_o0) rfl ?_
          refine e_iload dX0_finer_303 rfl ?_
          refine e_lald (f := (stP 0 (k + 1) (stT (k + 1) (dfL (k + 1) (rngL f0 0 (k + 1) (fun i => atN (dfL (k + 1) v k) k m i)) k) ((j - 1) / 2)))) (j := j) dX0_finer_305 (xm_a11) rfl (by omega) (by decide) ?_
          refine e_top (congrArg Value.long hval) ?_
          refine e_last (f := (rngL e0 0 j (fun q => bkN (k + 1) (fun i => atN (dfL (k + 1) v k) k m i) q))) (j := j) dX0_finer_306 (xm_a16) rfl (by omega) (by decide) ?_
          rw [xm_s16]
          refine e_incN j (j + 1) (inc1 _) dX0_finer_307 rfl (ls_s (ls_s (ls_s (ls_s (ls_s (ls_1 rfl)))))) (Nat.le_of_ble_eq_true rfl) ?_
          refine e_goto 268 dX0_finer_310 (by decide) ?_
          refine E_mem (M' := XM (xB (xB ξ 16 (rngL e0 0 (j + 1) (fun q => bkN (k + 1) (fun i => atN (dfL (k + 1) v k) k m i) q))) 11 (stT (k + 1) (dfL (k + 1) (rngL f0 0 (k + 1) (fun i => atN (dfL (k + 1) v k) k m i)) k) ((j + 1 - 1) / 2))) mid dyn) ?_ ?_
          · rw [xB_cm _ (show ¬ 11 = 16 by decide), xB_xB, ← rngL_s, Nat.zero_add]
            rw [show (j + 1 - 1) / 2 = (j - 1) / 2 + 1 by omega]
            rfl
          exact ih (j + 1) (by omega) (by omega) hE

