/-! ===== the twin: errata (3) ===== -/
set_option maxHeartbeats 4000000 in
set_option maxRecDepth 100000 in
/-- a loop of errata -/
theorem t_errD {pre post : List ACell} {τ0 : Tw} (hp : pre.length = 56) {T0 : Nat → Int64} {xs : Nat → Nat} {n k : Nat} {b : Int32} (hn : n ≤ 20) (hk1 : 1 ≤ k) (hkn : k < n) (hV : ∀ q, q < n → VO q (corL (xs q)) (τ0.2.2.2 72) (τ0.2.2.1 73)) {y : Nat} {Q : Qfun} : ∀ (fuel : Nat) (i : Nat) (w : Nat → Int64), i ≤ n → n < i + fuel → (∀ q, q < i → spOne n k b T0 xs q = none) → ((∀ q, q < n → spOne n k b T0 xs q = none) → ∀ w, E cX4_errata (RX4, (some .int), 8, 4, (0, 0), false, []) Q noX 0 0 232 [some (.ref 56), some (.int (nI y)), some (.int (nI n)), some (.int (nI k)), some (.int b), some (.int (-1)), none, none] [] (TW pre (tB (tB τ0 70 T0) 71 w) post)) → (∀ i m w2 T2, i < n → spOne n k b T0 xs i = some m → (∀ q, q < i → spOne n k b T0 xs q = none) → E cX4_errata (RX4, (some .int), 8, 4, (0, 0), false, []) Q noX 0 0 232 [some (.ref 56), some (.int (nI y)), some (.int (nI n)), some (.int (nI k)), some (.int b), some (.int 1), none, none] [] (TW pre (rgS (tB (tB τ0 70 T2) 71 w2) i ((corL (xs i)).2 m) i ((corL (xs i)).2 m)) post)) →
    E cX4_errata (RX4, (some .int), 8, 4, (0, 0), false, []) Q noX 0 0 197 [some (.ref 56), some (.int (nI y)), some (.int (nI n)), some (.int (nI k)), some (.int b), some (.int (-1)), some (.int (nI i)), none] [] (TW pre (tB (tB τ0 70 T0) 71 w) post) := by
  intro fuel
  induction fuel with
  | zero => intro i w hi hf hz hN hS; exact absurd hf (by omega)
  | succ fuel ih =>
    intro i w hi hf hz hN hS
    refine e_iload dX4_errata_197 rfl ?_
    refine e_iload_n dX4_errata_199 2 rfl rfl ?_
    refine e_icmp_geN i n 232 (by omega) (by omega) dX4_errata_200 (by decide) (fun h200 => ?_) (fun h200 => ?_)
    · refine e_forget (i := 6) (ln_s (ln_s (ln_s (ln_s (ln_s (ln_s ln_0)))))) ?_
      have e1 : i = n := by omega
      subst e1
      exact hN hz w
    · refine e_iload dX4_errata_203 rfl ?_
      refine e_if_ge_f (by decide) 232 dX4_errata_205 (by decide) ?_
      refine e_aload_n dX4_errata_208 0 rfl rfl rfl ?_
      refine e_iload_n dX4_errata_209 2 rfl rfl ?_
      refine e_iload_n dX4_errata_210 3 rfl rfl ?_
      refine e_iload dX4_errata_211 rfl ?_
      refine e_iload dX4_errata_213 rfl ?_
      refine e_iload dX4_errata_215 rfl ?_
      refine e_callVQ (As := [.int (nI n), .int (nI k), .int b, .int (nI i), .int (nI i)]) (rest := []) dX4_errata_217 rfl mvX4_514 (tw_o hp) rfl (t_corr1 (T0 := T0) hp hn hk1 hkn hV (show i < n by omega) w) (Nat.le_of_ble_eq_true rfl) rfl rfl (Nat.le_of_ble_eq_true rfl) (Nat.zero_le _) (Nat.zero_le _) (fun v0 M0 h0 _ => ?_)
      rcases h0 with ⟨eo, rfl, w2, rfl⟩ | ⟨m, eo, rfl, w2, T2, rfl⟩
      · refine e_if_eq_t 226 (by decide) dX4_errata_220 (by decide) ?_
        refine e_incN i (i + 1) (inc1 _) dX4_errata_226 rfl (ls_s (ls_s (ls_s (ls_s (ls_s (ls_1 rfl)))))) (Nat.le_of_ble_eq_true rfl) ?_
        refine e_goto 197 dX4_errata_229 (by decide) ?_
        refine ih (i + 1) w2 (by omega) (by omega) (fun q hq => ?_) hN hS
        by_cases eq : q = i
        · rw [eq]; exact eo
        · exact hz q (by omega)
      · refine e_if_eq_f (by decide) 226 dX4_errata_220 (by decide) ?_
        refine e_iconst 1 dX4_errata_223 rfl ?_
        refine e_istore dX4_errata_224 (ls_s (ls_s (ls_s (ls_s (ls_1 rfl))))) (Nat.le_of_ble_eq_true rfl) ?_
        refine e_incN i (i + 1) (inc1 _) dX4_errata_226 rfl (ls_s (ls_s (ls_s (ls_s (ls_s (ls_1 rfl)))))) (Nat.le_of_ble_eq_true rfl) ?_
        refine e_goto 197 dX4_errata_229 (by decide) ?_
        refine e_iload dX4_errata_197 rfl ?_
        refine e_iload_n dX4_errata_199 2 rfl rfl ?_
        refine e_icmp_geN (i + 1) n 232 (by omega) (by omega) dX4_errata_200 (by decide) (fun h200 => ?_) (fun h200 => ?_)
        · refine e_forget (i := 6) (ln_s (ln_s (ln_s (ln_s (ln_s (ln_s ln_0)))))) ?_
          exact hS i m w2 T2 (by omega) eo hz
        · refine e_iload dX4_errata_203 rfl ?_
          refine e_if_ge_t 232 (by decide) dX4_errata_205 (by decide) ?_
          refine e_forget (i := 6) (ln_s (ln_s (ln_s (ln_s (ln_s (ln_s ln_0)))))) ?_
          exact hS i m w2 T2 (by omega) eo hz

set_option maxHeartbeats 4000000 in
set_option maxRecDepth 100000 in
/-- a loop of errata -/
theorem t_errF {pre post : List ACell} {τ0 : Tw} (hp : pre.length = 56) {T0 : Nat → Int64} {xs : Nat → Nat} {n k : Nat} {b : Int32} (hn : n ≤ 20) (hk1 : 1 ≤ k) (hkn : k < n) (hV : ∀ q, q < n → VO q (corL (xs q)) (τ0.2.2.2 72) (τ0.2.2.1 73)) {y : Nat} {i : Nat} (hi : i < n) (hzz : ∀ p q, p < i → p < q → q < n → spTwo n k b T0 xs p q = none) {Q : Qfun} : ∀ (fuel : Nat) (j : Nat) (w : Nat → Int64), i < j ∧ j ≤ n → n < j + fuel → (∀ q, i < q → q < j → spTwo n k b T0 xs i q = none) → ((∀ q, i < q → q < n → spTwo n k b T0 xs i q = none) → ∀ w, E cX4_errata (RX4, (some .int), 8, 4, (0, 0), false, []) Q noX 0 0 287 [some (.ref 56), some (.int (nI y)), some (.int (nI n)), some (.int (nI k)), some (.int b), some (.int (-1)), some (.int (nI i)), none] [] (TW pre (tB (tB τ0 70 T0) 71 w) post)) → (∀ i j m w2 T2, i < j → j < n → spTwo n k b T0 xs i j = some m → (∀ p q, p < i → p < q → q < n → spTwo n k b T0 xs p q = none) → (∀ q, i < q → q < j → spTwo n k b T0 xs i q = none) → E cX4_errata (RX4, (some .int), 8, 4, (0, 0), false, []) Q noX 0 0 293 [some (.ref 56), some (.int (nI y)), some (.int (nI n)), some (.int (nI k)), some (.int b), some (.int 2), none, none] [] (TW pre (rgS (tB (tB τ0 70 T2) 71 w2) i ((corL (xs i)).2 (m / rgM xs j)) j ((corL (xs j)).2 (m % rgM xs j))) post)) →
    E cX4_errata (RX4, (some .int), 8, 4, (0, 0), false, []) Q noX 0 0 252 [some (.ref 56), some (.int (nI y)), some (.int (nI n)), some (.int (nI k)), some (.int b), some (.int (-1)), some (.int (nI i)), some (.int (nI j))] [] (TW pre (tB (tB τ0 70 T0) 71 w) post) := by
  intro fuel
  induction fuel with
  | zero => intro j w hj hf hz hN hS; exact absurd hf (by omega)
  | succ fuel ih =>
    intro j w hj hf hz hN hS
    refine e_iload dX4_errata_252 rfl ?_
    refine e_iload_n dX4_errata_254 2 rfl rfl ?_
    refine e_icmp_geN j n 287 (by omega) (by omega) dX4_errata_255 (by decide) (fun h255 => ?_) (fun h255 => ?_)
    · refine e_forget (i := 7) (ln_s (ln_s (ln_s (ln_s (ln_s (ln_s (ln_s ln_0))))))) ?_
      have e1 : j = n := by omega
      subst e1
      exact hN hz w
    · refine e_iload dX4_errata_258 rfl ?_
      refine e_if_ge_f (by decide) 287 dX4_errata_260 (by decide) ?_
      refine e_aload_n dX4_errata_263 0 rfl rfl rfl ?_
      refine e_iload_n dX4_errata_264 2 rfl rfl ?_
      refine e_iload_n dX4_errata_265 3 rfl rfl ?_
      refine e_iload dX4_errata_266 rfl ?_
      refine e_iload dX4_errata_268 rfl ?_
      refine e_iload dX4_errata_270 rfl ?_
      refine e_callVQ (As := [.int (nI n), .int (nI k), .int b, .int (nI i), .int (nI j)]) (rest := []) dX4_errata_272 rfl mvX4_514 (tw_o hp) rfl (t_corr2 (T0 := T0) hp hn hk1 hkn hV (show i < n by omega) (show j < n by omega) (show i ≠ j by omega) w) (Nat.le_of_ble_eq_true rfl) rfl rfl (Nat.le_of_ble_eq_true rfl) (Nat.zero_le _) (Nat.zero_le _) (fun v0 M0 h0 _ => ?_)
      rcases h0 with ⟨eo, rfl, w2, rfl⟩ | ⟨m, eo, rfl, w2, T2, rfl⟩
      · refine e_if_eq_t 281 (by decide) dX4_errata_275 (by decide) ?_
        refine e_incN j (j + 1) (inc1 _) dX4_errata_281 rfl (ls_s (ls_s (ls_s (ls_s (ls_s (ls_s (ls_1 rfl))))))) (Nat.le_of_ble_eq_true rfl) ?_
        refine e_goto 252 dX4_errata_284 (by decide) ?_
        refine ih (j + 1) w2 (by omega) (by omega) (fun q hq1 hq2 => ?_) hN hS
        by_cases eq : q = j
        · rw [eq]; exact eo
        · exact hz q hq1 (by omega)
      · refine e_if_eq_f (by decide) 281 dX4_errata_275 (by decide) ?_
        refine e_iconst 2 dX4_errata_278 rfl ?_
        refine e_istore dX4_errata_279 (ls_s (ls_s (ls_s (ls_s (ls_1 rfl))))) (Nat.le_of_ble_eq_true rfl) ?_
        refine e_incN j (j + 1) (inc1 _) dX4_errata_281 rfl (ls_s (ls_s (ls_s (ls_s (ls_s (ls_s (ls_1 rfl))))))) (Nat.le_of_ble_eq_true rfl) ?_
        refine e_goto 252 dX4_errata_284 (by decide) ?_
        refine e_iload dX4_errata_252 rfl ?_
        refine e_iload_n dX4_errata_254 2 rfl rfl ?_
        refine e_icmp_geN (j + 1) n 287 (by omega) (by omega) dX4_errata_255 (by decide) (fun h255 => ?_) (fun h255 => ?_)
        · refine e_incN i (i + 1) (inc1 _) dX4_errata_287 rfl (ls_s (ls_s (ls_s (ls_s (ls_s (ls_1 rfl)))))) (Nat.le_of_ble_eq_true rfl) ?_
          refine e_goto 235 dX4_errata_290 (by decide) ?_
          refine e_iload dX4_errata_235 rfl ?_
          refine e_iload_n dX4_errata_237 2 rfl rfl ?_
          refine e_icmp_geN (i + 1) n 293 (by omega) (by omega) dX4_errata_238 (by decide) (fun h238 => ?_) (fun h238 => ?_)
          · refine e_forget (i := 6) (ln_s (ln_s (ln_s (ln_s (ln_s (ln_s ln_0)))))) ?_
            refine e_forget (i := 7) (ln_s (ln_s (ln_s (ln_s (ln_s (ln_s (ln_s ln_0))))))) ?_
            exact hS i j m w2 T2 (by omega) (by omega) eo hzz hz
          · refine e_iload dX4_errata_241 rfl ?_
            refine e_if_ge_t 293 (by decide) dX4_errata_243 (by decide) ?_
            refine e_forget (i := 6) (ln_s (ln_s (ln_s (ln_s (ln_s (ln_s ln_0)))))) ?_
            refine e_forget (i := 7) (ln_s (ln_s (ln_s (ln_s (ln_s (ln_s (ln_s ln_0))))))) ?_
            exact hS i j m w2 T2 (by omega) (by omega) eo hzz hz
        · refine e_iload dX4_errata_258 rfl ?_
          refine e_if_ge_t 287 (by decide) dX4_errata_260 (by decide) ?_
          refine e_incN i (i + 1) (inc1 _) dX4_errata_287 rfl (ls_s (ls_s (ls_s (ls_s (ls_s (ls_1 rfl)))))) (Nat.le_of_ble_eq_true rfl) ?_
          refine e_goto 235 dX4_errata_290 (by decide) ?_
          refine e_iload dX4_errata_235 rfl ?_
          refine e_iload_n dX4_errata_237 2 rfl rfl ?_
          refine e_icmp_geN (i + 1) n 293 (by omega) (by omega) dX4_errata_238 (by decide) (fun h238 => ?_) (fun h238 => ?_)
          · refine e_forget (i := 6) (ln_s (ln_s (ln_s (ln_s (ln_s (ln_s ln_0)))))) ?_
            refine e_forget (i := 7) (ln_s (ln_s (ln_s (ln_s (ln_s (ln_s (ln_s ln_0))))))) ?_
            exact hS i j m w2 T2 (by omega) (by omega) eo hzz hz
          · refine e_iload dX4_errata_241 rfl ?_
            refine e_if_ge_t 293 (by decide) dX4_errata_243 (by decide) ?_
            refine e_forget (i := 6) (ln_s (ln_s (ln_s (ln_s (ln_s (ln_s ln_0)))))) ?_
            refine e_forget (i := 7) (ln_s (ln_s (ln_s (ln_s (ln_s (ln_s (ln_s ln_0))))))) ?_
            exact hS i j m w2 T2 (by omega) (by omega) eo hzz hz

set_option maxHeartbeats 4000000 in
set_option maxRecDepth 100000 in
/-- a loop of errata -/
theorem t_errE {pre post : List ACell} {τ0 : Tw} (hp : pre.length = 56) {T0 : Nat → Int64} {xs : Nat → Nat} {n k : Nat} {b : Int32} (hn : n ≤ 20) (hk1 : 1 ≤ k) (hkn : k < n) (hV : ∀ q, q < n → VO q (corL (xs q)) (τ0.2.2.2 72) (τ0.2.2.1 73)) {y : Nat} {Q : Qfun} : ∀ (fuel : Nat) (i : Nat) (w : Nat → Int64), i ≤ n → n < i + fuel → (∀ p q, p < i → p < q → q < n → spTwo n k b T0 xs p q = none) → ((∀ p q, p < q → q < n → spTwo n k b T0 xs p q = none) → ∀ w, E cX4_errata (RX4, (some .int), 8, 4, (0, 0), false, []) Q noX 0 0 293 [some (.ref 56), some (.int (nI y)), some (.int (nI n)), some (.int (nI k)), some (.int b), some (.int (-1)), none, none] [] (TW pre (tB (tB τ0 70 T0) 71 w) post)) → (∀ i j m w2 T2, i < j → j < n → spTwo n k b T0 xs i j = some m → (∀ p q, p < i → p < q → q < n → spTwo n k b T0 xs p q = none) → (∀ q, i < q → q < j → spTwo n k b T0 xs i q = none) → E cX4_errata (RX4, (some .int), 8, 4, (0, 0), false, []) Q noX 0 0 293 [some (.ref 56), some (.int (nI y)), some (.int (nI n)), some (.int (nI k)), some (.int b), some (.int 2), none, none] [] (TW pre (rgS (tB (tB τ0 70 T2) 71 w2) i ((corL (xs i)).2 (m / rgM xs j)) j ((corL (xs j)).2 (m % rgM xs j))) post)) →
    E cX4_errata (RX4, (some .int), 8, 4, (0, 0), false, []) Q noX 0 0 235 [some (.ref 56), some (.int (nI y)), some (.int (nI n)), some (.int (nI k)), some (.int b), some (.int (-1)), some (.int (nI i)), none] [] (TW pre (tB (tB τ0 70 T0) 71 w) post) := by
  intro fuel
  induction fuel with
  | zero => intro i w hi hf hz hN hS; exact absurd hf (by omega)
  | succ fuel ih =>
    intro i w hi hf hz hN hS
    refine e_iload dX4_errata_235 rfl ?_
    refine e_iload_n dX4_errata_237 2 rfl rfl ?_
    refine e_icmp_geN i n 293 (by omega) (by omega) dX4_errata_238 (by decide) (fun h238 => ?_) (fun h238 => ?_)
    · refine e_forget (i := 6) (ln_s (ln_s (ln_s (ln_s (ln_s (ln_s ln_0)))))) ?_
      have e1 : i = n := by omega
      subst e1
      exact hN (fun p q h1 h2 => hz p q (by omega) h1 h2) w
    · refine e_iload dX4_errata_241 rfl ?_
      refine e_if_ge_f (by decide) 293 dX4_errata_243 (by decide) ?_
      refine e_iload dX4_errata_246 rfl ?_
      refine e_iconst 1 dX4_errata_248 rfl ?_
      refine e_iaddN i 1 dX4_errata_249 ?_
      refine e_istore dX4_errata_250 (ls_s (ls_s (ls_s (ls_s (ls_s (ls_s (ls_1 rfl))))))) (Nat.le_of_ble_eq_true rfl) ?_
      refine t_errF hp hn hk1 hkn hV (show i < n by omega) hz (n + 1) (i + 1) w (by omega) (by omega) (fun q h1 h2 => absurd h2 (by omega)) (fun hz1 w1 => ?_) hS
      refine e_incN i (i + 1) (inc1 _) dX4_errata_287 rfl (ls_s (ls_s (ls_s (ls_s (ls_s (ls_1 rfl)))))) (Nat.le_of_ble_eq_true rfl) ?_
      refine e_goto 235 dX4_errata_290 (by decide) ?_
      refine ih (i + 1) w1 (by omega) (by omega) (fun p q h1 h2 h3 => ?_) hN hS
      by_cases ep : p = i
      · rw [ep] at h2 ⊢; exact hz1 q h2 h3
      · exact hz p q (by omega) h2 h3

theorem cpF_eq (τ : Tw) (m : Nat) : tA (tA (tA (tA (tI τ 74 (nI m)) 97 (upd (τ.2.2.1 97) 0 (τ.2.2.1 75 0))) 98 (upd (τ.2.2.1 98) 0 (τ.2.2.1 76 0))) 97 (upd (upd (τ.2.2.1 97) 0 (τ.2.2.1 75 0)) 1 (τ.2.2.1 75 1))) 98 (upd (upd (τ.2.2.1 98) 0 (τ.2.2.1 76 0)) 1 (τ.2.2.1 76 1)) = cpF τ m := by
  have h : ∀ (F : Nat → Nat → Int32) (a b c d : Nat → Int32), va_up (va_up (va_up (va_up F 97 a) 98 b) 97 c) 98 d = va_up (va_up F 97 c) 98 d := by
    intro F a b c d
    funext q
    by_cases h1 : q = 98
    · subst h1; rw [va_up_self, va_up_self]
    · rw [va_up_ne _ _ h1, va_up_ne _ _ h1]
      by_cases h2 : q = 97
      · subst h2; rw [va_up_self, va_up_self]
      · rw [va_up_ne _ _ h2, va_up_ne _ _ h1, va_up_ne _ _ h2, va_up_ne _ _ h2]
  unfold cpF tA
  exact congrArg (fun z => (_, τ.2.1, z, τ.2.2.2)) (h ..)
set_option maxHeartbeats 4000000 in
set_option maxRecDepth 100000 in
/-- a loop of errata -/
theorem t_fin0 {pre post : List ACell} (hp : pre.length = 56) {y n k : Nat} {b : Int32} {Q : Qfun} : ∀ (fuel : Nat) (τ : Tw), 0 < fuel → Q (some (.int 0)) (TW pre (cpF τ 0) post) →
    E cX4_errata (RX4, (some .int), 8, 4, (0, 0), false, []) Q noX 0 0 293 [some (.ref 56), some (.int (nI y)), some (.int (nI n)), some (.int (nI k)), some (.int b), some (.int 0), none, none] [] (TW pre τ post) := by
  intro fuel
  induction fuel with
  | zero => intro τ hf hQ; exact absurd hf (by omega)
  | succ fuel ih =>
    intro τ hf hQ
    refine e_iload dX4_errata_293 rfl ?_
    refine e_if_ge_t 305 (by decide) dX4_errata_295 (by decide) ?_
    refine e_aload_n dX4_errata_305 0 rfl rfl rfl ?_
    refine e_iload dX4_errata_306 rfl ?_
    refine e_tputI dX4_errata_308 rfl pX4_517 rfl hp (Nat.le_of_ble_eq_true rfl) (tw_f74 _) ?_
    refine e_iconst 0 dX4_errata_311 rfl ?_
    refine e_istore dX4_errata_312 (ls_s (ls_s (ls_s (ls_s (ls_s (ls_1 rfl)))))) (Nat.le_of_ble_eq_true rfl) ?_
    refine e_iload dX4_errata_314 rfl ?_
    refine e_iconst 2 dX4_errata_316 rfl ?_
    refine e_icmp_ge 354 dX4_errata_317 (by decide) (fun h => absurd h (by decide)) (fun _ => ?_)
    refine e_aload_n dX4_errata_320 0 rfl rfl rfl ?_
    refine e_getf (v := .ref 115) dX4_errata_321 rfl fX4_206 (tw_o hp) rfl ?_
    refine e_iload dX4_errata_324 rfl ?_
    refine e_aload_n dX4_errata_326 0 rfl rfl rfl ?_
    refine e_getf (v := .ref 99) dX4_errata_327 rfl fX4_158 (tw_o hp) rfl ?_
    refine e_iload dX4_errata_330 rfl ?_
    refine e_iald (f := τ.2.2.1 75) (j := 0) dX4_errata_332 (tw_a75 hp) rfl (by omega) (by decide) ?_
    refine e_iast (f := τ.2.2.1 97) (j := 0) dX4_errata_333 (tw_a97 hp) rfl (by omega) (by decide) ?_
    rw [tw_s97 hp]
    refine e_aload_n dX4_errata_334 0 rfl rfl rfl ?_
    refine e_getf (v := .ref 116) dX4_errata_335 rfl fX4_209 (tw_o hp) rfl ?_
    refine e_iload dX4_errata_338 rfl ?_
    refine e_aload_n dX4_errata_340 0 rfl rfl rfl ?_
    refine e_getf (v := .ref 100) dX4_errata_341 rfl fX4_161 (tw_o hp) rfl ?_
    refine e_iload dX4_errata_344 rfl ?_
    refine e_iald (f := τ.2.2.1 76) (j := 0) dX4_errata_346 (tw_a76 hp) rfl (by omega) (by decide) ?_
    refine e_iast (f := τ.2.2.1 98) (j := 0) dX4_errata_347 (tw_a98 hp) rfl (by omega) (by decide) ?_
    rw [tw_s98 hp]
    refine e_iinc 1 dX4_errata_348 rfl (by decide) (ls_s (ls_s (ls_s (ls_s (ls_s (ls_1 rfl)))))) (Nat.le_of_ble_eq_true rfl) ?_
    refine e_goto 314 dX4_errata_351 (by decide) ?_
    refine e_iload dX4_errata_314 rfl ?_
    refine e_iconst 2 dX4_errata_316 rfl ?_
    refine e_icmp_ge 354 dX4_errata_317 (by decide) (fun h => absurd h (by decide)) (fun _ => ?_)
    refine e_aload_n dX4_errata_320 0 rfl rfl rfl ?_
    refine e_getf (v := .ref 115) dX4_errata_321 rfl fX4_206 (tw_o hp) rfl ?_
    refine e_iload dX4_errata_324 rfl ?_
    refine e_aload_n dX4_errata_326 0 rfl rfl rfl ?_
    refine e_getf (v := .ref 99) dX4_errata_327 rfl fX4_158 (tw_o hp) rfl ?_
    refine e_iload dX4_errata_330 rfl ?_
    refine e_iald (f := τ.2.2.1 75) (j := 1) dX4_errata_332 (tw_a75 hp) rfl (by omega) (by decide) ?_
    refine e_iast (f := (upd (τ.2.2.1 97) 0 (τ.2.2.1 75 0))) (j := 1) dX4_errata_333 (tw_a97 hp) rfl (by omega) (by decide) ?_
    rw [tw_s97 hp]
    refine e_aload_n dX4_errata_334 0 rfl rfl rfl ?_
    refine e_getf (v := .ref 116) dX4_errata_335 rfl fX4_209 (tw_o hp) rfl ?_
    refine e_iload dX4_errata_338 rfl ?_
    refine e_aload_n dX4_errata_340 0 rfl rfl rfl ?_
    refine e_getf (v := .ref 100) dX4_errata_341 rfl fX4_161 (tw_o hp) rfl ?_
    refine e_iload dX4_errata_344 rfl ?_
    refine e_iald (f := τ.2.2.1 76) (j := 1) dX4_errata_346 (tw_a76 hp) rfl (by omega) (by decide) ?_
    refine e_iast (f := (upd (τ.2.2.1 98) 0 (τ.2.2.1 76 0))) (j := 1) dX4_errata_347 (tw_a98 hp) rfl (by omega) (by decide) ?_
    rw [tw_s98 hp]
    refine e_iinc 2 dX4_errata_348 rfl (by decide) (ls_s (ls_s (ls_s (ls_s (ls_s (ls_1 rfl)))))) (Nat.le_of_ble_eq_true rfl) ?_
    refine e_goto 314 dX4_errata_351 (by decide) ?_
    refine e_iload dX4_errata_314 rfl ?_
    refine e_iconst 2 dX4_errata_316 rfl ?_
    refine e_icmp_ge 354 dX4_errata_317 (by decide) (fun _ => ?_) (fun h => absurd h (by decide))
    refine e_iload dX4_errata_354 rfl ?_
    refine e_ireturn dX4_errata_356 rfl rfl (Nat.zero_le _) (Nat.zero_le _) ?_
    rw [← cpF_eq] at hQ
    exact hQ

set_option maxHeartbeats 4000000 in
set_option maxRecDepth 100000 in
/-- a loop of errata -/
theorem t_fin1 {pre post : List ACell} (hp : pre.length = 56) {y n k : Nat} {b : Int32} {Q : Qfun} : ∀ (fuel : Nat) (τ : Tw), 0 < fuel → Q (some (.int 1)) (TW pre (cpF τ 1) post) →
    E cX4_errata (RX4, (some .int), 8, 4, (0, 0), false, []) Q noX 0 0 293 [some (.ref 56), some (.int (nI y)), some (.int (nI n)), some (.int (nI k)), some (.int b), some (.int 1), none, none] [] (TW pre τ post) := by
  intro fuel
  induction fuel with
  | zero => intro τ hf hQ; exact absurd hf (by omega)
  | succ fuel ih =>
    intro τ hf hQ
    refine e_iload dX4_errata_293 rfl ?_
    refine e_if_ge_t 305 (by decide) dX4_errata_295 (by decide) ?_
    refine e_aload_n dX4_errata_305 0 rfl rfl rfl ?_
    refine e_iload dX4_errata_306 rfl ?_
    refine e_tputI dX4_errata_308 rfl pX4_517 rfl hp (Nat.le_of_ble_eq_true rfl) (tw_f74 _) ?_
    refine e_iconst 0 dX4_errata_311 rfl ?_
    refine e_istore dX4_errata_312 (ls_s (ls_s (ls_s (ls_s (ls_s (ls_1 rfl)))))) (Nat.le_of_ble_eq_true rfl) ?_
    refine e_iload dX4_errata_314 rfl ?_
    refine e_iconst 2 dX4_errata_316 rfl ?_
    refine e_icmp_ge 354 dX4_errata_317 (by decide) (fun h => absurd h (by decide)) (fun _ => ?_)
    refine e_aload_n dX4_errata_320 0 rfl rfl rfl ?_
    refine e_getf (v := .ref 115) dX4_errata_321 rfl fX4_206 (tw_o hp) rfl ?_
    refine e_iload dX4_errata_324 rfl ?_
    refine e_aload_n dX4_errata_326 0 rfl rfl rfl ?_
    refine e_getf (v := .ref 99) dX4_errata_327 rfl fX4_158 (tw_o hp) rfl ?_
    refine e_iload dX4_errata_330 rfl ?_
    refine e_iald (f := τ.2.2.1 75) (j := 0) dX4_errata_332 (tw_a75 hp) rfl (by omega) (by decide) ?_
    refine e_iast (f := τ.2.2.1 97) (j := 0) dX4_errata_333 (tw_a97 hp) rfl (by omega) (by decide) ?_
    rw [tw_s97 hp]
    refine e_aload_n dX4_errata_334 0 rfl rfl rfl ?_
    refine e_getf (v := .ref 116) dX4_errata_335 rfl fX4_209 (tw_o hp) rfl ?_
    refine e_iload dX4_errata_338 rfl ?_
    refine e_aload_n dX4_errata_340 0 rfl rfl rfl ?_
    refine e_getf (v := .ref 100) dX4_errata_341 rfl fX4_161 (tw_o hp) rfl ?_
    refine e_iload dX4_errata_344 rfl ?_
    refine e_iald (f := τ.2.2.1 76) (j := 0) dX4_errata_346 (tw_a76 hp) rfl (by omega) (by decide) ?_
    refine e_iast (f := τ.2.2.1 98) (j := 0) dX4_errata_347 (tw_a98 hp) rfl (by omega) (by decide) ?_
    rw [tw_s98 hp]
    refine e_iinc 1 dX4_errata_348 rfl (by decide) (ls_s (ls_s (ls_s (ls_s (ls_s (ls_1 rfl)))))) (Nat.le_of_ble_eq_true rfl) ?_
    refine e_goto 314 dX4_errata_351 (by decide) ?_
    refine e_iload dX4_errata_314 rfl ?_
    refine e_iconst 2 dX4_errata_316 rfl ?_
    refine e_icmp_ge 354 dX4_errata_317 (by decide) (fun h => absurd h (by decide)) (fun _ => ?_)
    refine e_aload_n dX4_errata_320 0 rfl rfl rfl ?_
    refine e_getf (v := .ref 115) dX4_errata_321 rfl fX4_206 (tw_o hp) rfl ?_
    refine e_iload dX4_errata_324 rfl ?_
    refine e_aload_n dX4_errata_326 0 rfl rfl rfl ?_
    refine e_getf (v := .ref 99) dX4_errata_327 rfl fX4_158 (tw_o hp) rfl ?_
    refine e_iload dX4_errata_330 rfl ?_
    refine e_iald (f := τ.2.2.1 75) (j := 1) dX4_errata_332 (tw_a75 hp) rfl (by omega) (by decide) ?_
    refine e_iast (f := (upd (τ.2.2.1 97) 0 (τ.2.2.1 75 0))) (j := 1) dX4_errata_333 (tw_a97 hp) rfl (by omega) (by decide) ?_
    rw [tw_s97 hp]
    refine e_aload_n dX4_errata_334 0 rfl rfl rfl ?_
    refine e_getf (v := .ref 116) dX4_errata_335 rfl fX4_209 (tw_o hp) rfl ?_
    refine e_iload dX4_errata_338 rfl ?_
    refine e_aload_n dX4_errata_340 0 rfl rfl rfl ?_
    refine e_getf (v := .ref 100) dX4_errata_341 rfl fX4_161 (tw_o hp) rfl ?_
    refine e_iload dX4_errata_344 rfl ?_
    refine e_iald (f := τ.2.2.1 76) (j := 1) dX4_errata_346 (tw_a76 hp) rfl (by omega) (by decide) ?_
    refine e_iast (f := (upd (τ.2.2.1 98) 0 (τ.2.2.1 76 0))) (j := 1) dX4_errata_347 (tw_a98 hp) rfl (by omega) (by decide) ?_
    rw [tw_s98 hp]
    refine e_iinc 2 dX4_errata_348 rfl (by decide) (ls_s (ls_s (ls_s (ls_s (ls_s (ls_1 rfl)))))) (Nat.le_of_ble_eq_true rfl) ?_
    refine e_goto 314 dX4_errata_351 (by decide) ?_
    refine e_iload dX4_errata_314 rfl ?_
    refine e_iconst 2 dX4_errata_316 rfl ?_
    refine e_icmp_ge 354 dX4_errata_317 (by decide) (fun _ => ?_) (fun h => absurd h (by decide))
    refine e_iload dX4_errata_354 rfl ?_
    refine e_ireturn dX4_errata_356 rfl rfl (Nat.zero_le _) (Nat.zero_le _) ?_
    rw [← cpF_eq] at hQ
    exact hQ

set_option maxHeartbeats 4000000 in
set_option maxRecDepth 100000 in
/-- a loop of errata -/
theorem t_fin2 {pre post : List ACell} (hp : pre.length = 56) {y n k : Nat} {b : Int32} {Q : Qfun} : ∀ (fuel : Nat) (τ : Tw), 0 < fuel → Q (some (.int 2)) (TW pre (cpF τ 2) post) →
    E cX4_errata (RX4, (some .int), 8, 4, (0, 0), false, []) Q noX 0 0 293 [some (.ref 56), some (.int (nI y)), some (.int (nI n)), some (.int (nI k)), some (.int b), some (.int 2), none, none] [] (TW pre τ post) := by
  intro fuel
  induction fuel with
  | zero => intro τ hf hQ; exact absurd hf (by omega)
  | succ fuel ih =>
    intro τ hf hQ
    refine e_iload dX4_errata_293 rfl ?_
    refine e_if_ge_t 305 (by decide) dX4_errata_295 (by decide) ?_
    refine e_aload_n dX4_errata_305 0 rfl rfl rfl ?_
    refine e_iload dX4_errata_306 rfl ?_
    refine e_tputI dX4_errata_308 rfl pX4_517 rfl hp (Nat.le_of_ble_eq_true rfl) (tw_f74 _) ?_
    refine e_iconst 0 dX4_errata_311 rfl ?_
    refine e_istore dX4_errata_312 (ls_s (ls_s (ls_s (ls_s (ls_s (ls_1 rfl)))))) (Nat.le_of_ble_eq_true rfl) ?_
    refine e_iload dX4_errata_314 rfl ?_
    refine e_iconst 2 dX4_errata_316 rfl ?_
    refine e_icmp_ge 354 dX4_errata_317 (by decide) (fun h => absurd h (by decide)) (fun _ => ?_)
    refine e_aload_n dX4_errata_320 0 rfl rfl rfl ?_
    refine e_getf (v := .ref 115) dX4_errata_321 rfl fX4_206 (tw_o hp) rfl ?_
    refine e_iload dX4_errata_324 rfl ?_
    refine e_aload_n dX4_errata_326 0 rfl rfl rfl ?_
    refine e_getf (v := .ref 99) dX4_errata_327 rfl fX4_158 (tw_o hp) rfl ?_
    refine e_iload dX4_errata_330 rfl ?_
    refine e_iald (f := τ.2.2.1 75) (j := 0) dX4_errata_332 (tw_a75 hp) rfl (by omega) (by decide) ?_
    refine e_iast (f := τ.2.2.1 97) (j := 0) dX4_errata_333 (tw_a97 hp) rfl (by omega) (by decide) ?_
    rw [tw_s97 hp]
    refine e_aload_n dX4_errata_334 0 rfl rfl rfl ?_
    refine e_getf (v := .ref 116) dX4_errata_335 rfl fX4_209 (tw_o hp) rfl ?_
    refine e_iload dX4_errata_338 rfl ?_
    refine e_aload_n dX4_errata_340 0 rfl rfl rfl ?_
    refine e_getf (v := .ref 100) dX4_errata_341 rfl fX4_161 (tw_o hp) rfl ?_
    refine e_iload dX4_errata_344 rfl ?_
    refine e_iald (f := τ.2.2.1 76) (j := 0) dX4_errata_346 (tw_a76 hp) rfl (by omega) (by decide) ?_
    refine e_iast (f := τ.2.2.1 98) (j := 0) dX4_errata_347 (tw_a98 hp) rfl (by omega) (by decide) ?_
    rw [tw_s98 hp]
    refine e_iinc 1 dX4_errata_348 rfl (by decide) (ls_s (ls_s (ls_s (ls_s (ls_s (ls_1 rfl)))))) (Nat.le_of_ble_eq_true rfl) ?_
    refine e_goto 314 dX4_errata_351 (by decide) ?_
    refine e_iload dX4_errata_314 rfl ?_
    refine e_iconst 2 dX4_errata_316 rfl ?_
    refine e_icmp_ge 354 dX4_errata_317 (by decide) (fun h => absurd h (by decide)) (fun _ => ?_)
    refine e_aload_n dX4_errata_320 0 rfl rfl rfl ?_
    refine e_getf (v := .ref 115) dX4_errata_321 rfl fX4_206 (tw_o hp) rfl ?_
    refine e_iload dX4_errata_324 rfl ?_
    refine e_aload_n dX4_errata_326 0 rfl rfl rfl ?_
    refine e_getf (v := .ref 99) dX4_errata_327 rfl fX4_158 (tw_o hp) rfl ?_
    refine e_iload dX4_errata_330 rfl ?_
    refine e_iald (f := τ.2.2.1 75) (j := 1) dX4_errata_332 (tw_a75 hp) rfl (by omega) (by decide) ?_
    refine e_iast (f := (upd (τ.2.2.1 97) 0 (τ.2.2.1 75 0))) (j := 1) dX4_errata_333 (tw_a97 hp) rfl (by omega) (by decide) ?_
    rw [tw_s97 hp]
    refine e_aload_n dX4_errata_334 0 rfl rfl rfl ?_
    refine e_getf (v := .ref 116) dX4_errata_335 rfl fX4_209 (tw_o hp) rfl ?_
    refine e_iload dX4_errata_338 rfl ?_
    refine e_aload_n dX4_errata_340 0 rfl rfl rfl ?_
    refine e_getf (v := .ref 100) dX4_errata_341 rfl fX4_161 (tw_o hp) rfl ?_
    refine e_iload dX4_errata_344 rfl ?_
    refine e_iald (f := τ.2.2.1 76) (j := 1) dX4_errata_346 (tw_a76 hp) rfl (by omega) (by decide) ?_
    refine e_iast (f := (upd (τ.2.2.1 98) 0 (τ.2.2.1 76 0))) (j := 1) dX4_errata_347 (tw_a98 hp) rfl (by omega) (by decide) ?_
    rw [tw_s98 hp]
    refine e_iinc 2 dX4_errata_348 rfl (by decide) (ls_s (ls_s (ls_s (ls_s (ls_s (ls_1 rfl)))))) (Nat.le_of_ble_eq_true rfl) ?_
    refine e_goto 314 dX4_errata_351 (by decide) ?_
    refine e_iload dX4_errata_314 rfl ?_
    refine e_iconst 2 dX4_errata_316 rfl ?_
    refine e_icmp_ge 354 dX4_errata_317 (by decide) (fun _ => ?_) (fun h => absurd h (by decide))
    refine e_iload dX4_errata_354 rfl ?_
    refine e_ireturn dX4_errata_356 rfl rfl (Nat.zero_le _) (Nat.zero_le _) ?_
    rw [← cpF_eq] at hQ
    exact hQ

