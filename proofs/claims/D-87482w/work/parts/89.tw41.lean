/-! ===== the twin: tokens (3) ===== -/
set_option maxHeartbeats 4000000 in
set_option maxRecDepth 100000 in
/-- a loop of next -/
theorem t_nx3 {pre post : List ACell} {τ0 : Tw} (hp : pre.length = 56) {f : Nat → Int32} {n : Nat} (hn : n ≤ 500) (e30 : τ0.1 30 = nI n) (e28 : τ0.2.2.1 28 = f) {a : Nat} {v : Int32} {Q : Qfun} : ∀ (fuel : Nat) (e : Nat) (w : Int64) (τ : Tw), e ≤ n → a ≤ e → n < e + fuel → Sx [35, 36, 37, 38] [39, 40] [] [] τ τ0 → τ.1 36 = nI a → τ.1 37 = nI e → τ.2.1 40 = w → (∀ τ : Tw, Sx [35, 36, 37, 38] [39, 40] [] [] τ τ0 → τ.1 36 = nI a → τ.1 37 = nI (nuN f n a fuel e w).1 → (nuN f n a fuel e w).1 ≤ n → a ≤ (nuN f n a fuel e w).1 → τ.2.1 40 = (nuN f n a fuel e w).2 → E cX4_next (RX4, none, 2, 1, (0, 0), false, []) Q noX 0 0 277 [some (.ref 56), some (.int v)] [] (TW pre τ post)) →
    E cX4_next (RX4, none, 2, 1, (0, 0), false, []) Q noX 0 0 210 [some (.ref 56), some (.int v)] [] (TW pre τ post) := by
  intro fuel
  induction fuel with
  | zero => intro e w τ hen hae hf hS h36 h37 hw hE; exact absurd hf (by omega)
  | succ fuel ih =>
    intro e w τ hen hae hf hS h36 h37 hw hE
    have e30t : τ.1 30 = nI n := by rw [hS.1 30 (by decide)]; exact e30
    have e28t : τ.2.2.1 28 = f := by rw [hS.2.2.1 28 (by simp)]; exact e28
    refine e_aload_n dX4_next_210 0 rfl rfl rfl ?_
    refine e_aload_n dX4_next_211 0 rfl rfl rfl ?_
    refine e_getf (v := .int (τ.1 37)) dX4_next_212 rfl fX4_366 (tw_o hp) rfl ?_
    refine e_top (congrArg Value.int h37) ?_
    refine e_callV1 (As := [.int (nI e)]) (rest := []) dX4_next_215 rfl mvX4_372 (tw_o hp) rfl (t_look hp (show e ≤ 501 by omega) hn (by exact e30t)) (Nat.le_of_ble_eq_true rfl) rfl rfl (Nat.le_of_ble_eq_true rfl) (Nat.zero_le _) (Nat.zero_le _) ?_
    refine e_callSB (As := [.int (lkN (τ.2.2.1 28) n e)]) (rest := []) dX4_next_218 rfl msX4_392 (t_isDigit (lkN (τ.2.2.1 28) n e)) (Nat.le_of_ble_eq_true rfl) rfl rfl (Nat.le_of_ble_eq_true rfl) (Nat.zero_le _) (Nat.zero_le _) (fun h218 => ?_) (fun h218 => ?_)
    · have h218 : (isDg (lkN (τ.2.2.1 28) n e)) := h218
      refine e_if_eq_f (by decide) 277 dX4_next_221 (by decide) ?_
      have hlt : e < n := lk_lt (Or.inr h218)
      refine e_aload_n dX4_next_224 0 rfl rfl rfl ?_
      refine e_getf (v := .int (τ.1 37)) dX4_next_225 rfl fX4_366 (tw_o hp) rfl ?_
      refine e_top (congrArg Value.int h37) ?_
      refine e_aload_n dX4_next_228 0 rfl rfl rfl ?_
      refine e_getf (v := .int (τ.1 36)) dX4_next_229 rfl fX4_369 (tw_o hp) rfl ?_
      refine e_top (congrArg Value.int h36) ?_
      refine e_isubN e a (by omega) dX4_next_232 ?_
      refine e_bipush 12 dX4_next_233 rfl ?_
      refine e_icmp_geN (e - a) 12 264 (by omega) (by omega) dX4_next_235 (by decide) (fun h235 => ?_) (fun h235 => ?_)
      · refine e_aload_n dX4_next_264 0 rfl rfl rfl ?_
        refine e_dup dX4_next_265 rfl ?_
        refine e_getf (v := .int (τ.1 37)) dX4_next_266 rfl fX4_366 (tw_o hp) rfl ?_
        refine e_top (congrArg Value.int h37) ?_
        refine e_iconst 1 dX4_next_269 rfl ?_
        refine e_iaddN e 1 dX4_next_270 ?_
        refine e_tputI dX4_next_271 rfl pX4_366 rfl hp (Nat.le_of_ble_eq_true rfl) (tw_f37 _) ?_
        refine e_goto 210 dX4_next_274 (by decide) ?_
        rw [e28t] at h218
        have eW : nuN f n a (fuel + 1) e w = nuN f n a fuel (e + 1) w := by rw [nuN, if_pos h218, if_neg (show ¬ e < a + 12 by omega)]
        rw [eW] at hE
        exact ih (e + 1) _ _ (by omega) (by omega) (by omega) (hS.I _ (by decide)) h36 rfl hw hE
      · refine e_aload_n dX4_next_238 0 rfl rfl rfl ?_
        refine e_ldc2 rfl q1588 dX4_next_239 ?_
        refine e_aload_n dX4_next_242 0 rfl rfl rfl ?_
        refine e_getf (v := .long (τ.2.1 40)) dX4_next_243 rfl fX4_395 (tw_o hp) rfl ?_
        refine e_lmul dX4_next_246 ?_
        refine e_aload_n dX4_next_247 0 rfl rfl rfl ?_
        refine e_aload_n dX4_next_248 0 rfl rfl rfl ?_
        refine e_getf (v := .int (τ.1 37)) dX4_next_249 rfl fX4_366 (tw_o hp) rfl ?_
        refine e_top (congrArg Value.int h37) ?_
        refine e_callV1 (As := [.int (nI e)]) (rest := [.long (10 * (τ.2.1 40)), .ref 56]) dX4_next_252 rfl mvX4_372 (tw_o hp) rfl (t_look hp (show e ≤ 501 by omega) hn (by exact e30t)) (Nat.le_of_ble_eq_true rfl) rfl rfl (Nat.le_of_ble_eq_true rfl) (Nat.zero_le _) (Nat.zero_le _) ?_
        refine e_i2l dX4_next_255 ?_
        refine e_ladd dX4_next_256 ?_
        refine e_ldc2 rfl q1625 dX4_next_257 ?_
        refine e_lsub dX4_next_260 ?_
        refine e_tputL dX4_next_261 rfl pX4_395 hp (Nat.le_of_ble_eq_true rfl) (tw_f40 _) ?_
        refine e_aload_n dX4_next_264 0 rfl rfl rfl ?_
        refine e_dup dX4_next_265 rfl ?_
        refine e_getf (v := .int (τ.1 37)) dX4_next_266 rfl fX4_366 (tw_o hp) rfl ?_
        refine e_top (congrArg Value.int h37) ?_
        refine e_iconst 1 dX4_next_269 rfl ?_
        refine e_iaddN e 1 dX4_next_270 ?_
        refine e_tputI dX4_next_271 rfl pX4_366 rfl hp (Nat.le_of_ble_eq_true rfl) (tw_f37 _) ?_
        refine e_goto 210 dX4_next_274 (by decide) ?_
        rw [e28t] at h218
        have eW : nuN f n a (fuel + 1) e w = nuN f n a fuel (e + 1) (10 * w + (lkN f n e).toInt64 - 48) := by rw [nuN, if_pos h218, if_pos (show e < a + 12 by omega)]
        rw [eW] at hE
        exact ih (e + 1) _ _ (by omega) (by omega) (by omega) ((hS.L _ (by decide)).I _ (by decide)) h36 rfl (by show 10 * τ.2.1 40 + (lkN (τ.2.2.1 28) n e).toInt64 - 48 = _; rw [hw, e28t]) hE
    · have h218 : ¬ (isDg (lkN (τ.2.2.1 28) n e)) := h218
      refine e_if_eq_t 277 (by decide) dX4_next_221 (by decide) ?_
      rw [e28t] at h218
      have eW : nuN f n a (fuel + 1) e w = (e, w) := by rw [nuN, if_neg h218]
      rw [eW] at hE
      exact hE τ hS h36 h37 hen hae hw

set_option maxHeartbeats 4000000 in
set_option maxRecDepth 100000 in
/-- WheelTablesModel.next -/
theorem t_next {pre post : List ACell} {τ0 : Tw} (hp : pre.length = 56) {f : Nat → Int32} {n : Nat} (hn : n ≤ 500) (e30 : τ0.1 30 = nI n) (e28 : τ0.2.2.1 28 = f) {p : Nat} (hpn : p ≤ n) (h37 : τ0.1 37 = nI p) : Ct yX4_next (ws_ yX4_next cX4_next 2 none) 1 0 0 [.ref 56] (TW pre τ0 post) (fun v0 N => ∃ τ1, N = TW pre τ1 post ∧ v0 = none ∧ Sx [35, 36, 37, 38] [39, 40] [] [] τ1 τ0 ∧ TkOk τ1 (tokN f n p)) noX := by
  refine Ct.of (ini := false) (ls := [some (.ref 56), none]) (by decide) (Nat.le_of_ble_eq_true rfl) (fun h => by cases h) rfl ?_
  refine e_aload_n dX4_next_0 0 rfl rfl rfl ?_
  refine e_aload_n dX4_next_1 0 rfl rfl rfl ?_
  refine e_getf (v := .int (τ0.1 37)) dX4_next_2 rfl fX4_366 (tw_o hp) rfl ?_
  refine e_top (congrArg Value.int h37) ?_
  refine e_tputI dX4_next_5 rfl pX4_369 rfl hp (Nat.le_of_ble_eq_true rfl) (tw_f36 _) ?_
  refine t_nx1 (τ0 := τ0) hp hn e30 e28 501 p _ hpn (by omega) (Sx.rf.I _ (by decide)) rfl (fun τ1 hS1 h361 => ?_)
  have hsk := skN_le (f := f) (n := n) 501 p hpn
  have e30t : τ1.1 30 = nI n := by rw [hS1.1 30 (by decide)]; exact e30
  have e28t : τ1.2.2.1 28 = f := by rw [hS1.2.2.1 28 (by simp)]; exact e28
  generalize hae : skN f n 501 p = a at *
  have hN : tokN f n p = tokA f n a := by rw [tokN, hae]
  rw [hN]
  refine e_aload_n dX4_next_58 0 rfl rfl rfl ?_
  refine e_aload_n dX4_next_59 0 rfl rfl rfl ?_
  refine e_getf (v := .int (τ1.1 36)) dX4_next_60 rfl fX4_369 (tw_o hp) rfl ?_
  refine e_top (congrArg Value.int h361) ?_
  refine e_tputI dX4_next_63 rfl pX4_366 rfl hp (Nat.le_of_ble_eq_true rfl) (tw_f37 _) ?_
  refine e_aload_n dX4_next_66 0 rfl rfl rfl ?_
  refine e_getf (v := .int (τ1.1 36)) dX4_next_67 rfl fX4_369 (tw_o hp) rfl ?_
  refine e_top (congrArg Value.int h361) ?_
  refine e_aload_n dX4_next_70 0 rfl rfl rfl ?_
  refine e_getf (v := .int (τ1.1 30)) dX4_next_71 rfl fX4_363 (tw_o hp) rfl ?_
  refine e_top (congrArg Value.int e30t) ?_
  refine e_icmp_ltN a n 83 (by omega) (by omega) dX4_next_74 (by decide) (fun h74 => ?_) (fun h74 => ?_)
  · refine e_aload_n dX4_next_83 0 rfl rfl rfl ?_
    refine e_aload_n dX4_next_84 0 rfl rfl rfl ?_
    refine e_getf (v := .int (τ1.1 36)) dX4_next_85 rfl fX4_369 (tw_o hp) rfl ?_
    refine e_top (congrArg Value.int h361) ?_
    refine e_callV1 (As := [.int (nI a)]) (rest := []) dX4_next_88 rfl mvX4_372 (tw_o hp) rfl (t_look hp (show a ≤ 501 by omega) hn (by exact e30t)) (Nat.le_of_ble_eq_true rfl) rfl rfl (Nat.le_of_ble_eq_true rfl) (Nat.zero_le _) (Nat.zero_le _) ?_
    refine e_istore_n dX4_next_91 1 rfl (ls_1 rfl) (Nat.le_of_ble_eq_true rfl) ?_
    refine e_iload_n dX4_next_92 1 rfl rfl ?_
    refine e_callSB (As := [.int (lkN (τ1.2.2.1 28) n a)]) (rest := []) dX4_next_93 rfl msX4_378 (t_isLetter (lkN (τ1.2.2.1 28) n a)) (Nat.le_of_ble_eq_true rfl) rfl rfl (Nat.le_of_ble_eq_true rfl) (Nat.zero_le _) (Nat.zero_le _) (fun h93 => ?_) (fun h93 => ?_)
    · have h93 : (isLt (lkN (τ1.2.2.1 28) n a)) := h93
      refine e_if_eq_f (by decide) 198 dX4_next_96 (by decide) ?_
      refine e_aload_n dX4_next_99 0 rfl rfl rfl ?_
      refine e_iconst 1 dX4_next_100 rfl ?_
      refine e_tputI dX4_next_101 rfl pX4_375 rfl hp (Nat.le_of_ble_eq_true rfl) (tw_f35 _) ?_
      refine e_aload_n dX4_next_104 0 rfl rfl rfl ?_
      refine e_lconst 0 dX4_next_105 rfl ?_
      refine e_tputL dX4_next_106 rfl pX4_381 hp (Nat.le_of_ble_eq_true rfl) (tw_f39 _) ?_
      refine t_nx2 (τ0 := τ0) (a := a) hp hn e30 e28 501 a 0 _ (by omega) (Nat.le_refl _) (by omega) (((hS1.I _ (by decide)).I _ (by decide)).L _ (by decide)) (by exact h361) rfl rfl rfl (fun τ2 hS2 h362 h372 hle hal hw2 h352 => ?_)
      refine e_aload_n dX4_next_182 0 rfl rfl rfl ?_
      refine e_aload_n dX4_next_183 0 rfl rfl rfl ?_
      refine e_getf (v := .int (τ2.1 37)) dX4_next_184 rfl fX4_366 (tw_o hp) rfl ?_
      refine e_top (congrArg Value.int h372) ?_
      refine e_aload_n dX4_next_187 0 rfl rfl rfl ?_
      refine e_getf (v := .int (τ2.1 36)) dX4_next_188 rfl fX4_369 (tw_o hp) rfl ?_
      refine e_top (congrArg Value.int h362) ?_
      refine e_isubN ((wdN f n a 501 a 0).1) a (by omega) dX4_next_191 ?_
      refine e_tputI dX4_next_192 rfl pX4_389 rfl hp (Nat.le_of_ble_eq_true rfl) (tw_f38 _) ?_
      refine e_goto 340 dX4_next_195 (by decide) ?_
      refine e_return dX4_next_340 rfl (Nat.zero_le _) (Nat.zero_le _) ?_
      rw [e28t] at h93
      refine ⟨_, rfl, rfl, hS2.I _ (by decide), ?_⟩
      rw [tokA, if_neg (by omega), if_pos h93]
      exact ⟨h352, h362, h372, fun _ => hw2, (fun z => z.elim (fun z => absurd (show (1 : Nat) = 2 from z) (by decide)) (fun z => absurd (show (1 : Nat) = 3 from z) (by decide)))⟩
    · have h93 : ¬ (isLt (lkN (τ1.2.2.1 28) n a)) := h93
      refine e_if_eq_t 198 (by decide) dX4_next_96 (by decide) ?_
      refine e_iload_n dX4_next_198 1 rfl rfl ?_
      refine e_callSB (As := [.int (lkN (τ1.2.2.1 28) n a)]) (rest := []) dX4_next_199 rfl msX4_392 (t_isDigit (lkN (τ1.2.2.1 28) n a)) (Nat.le_of_ble_eq_true rfl) rfl rfl (Nat.le_of_ble_eq_true rfl) (Nat.zero_le _) (Nat.zero_le _) (fun h199 => ?_) (fun h199 => ?_)
      · have h199 : (isDg (lkN (τ1.2.2.1 28) n a)) := h199
        refine e_if_eq_f (by decide) 303 dX4_next_202 (by decide) ?_
        refine e_aload_n dX4_next_205 0 rfl rfl rfl ?_
        refine e_lconst 0 dX4_next_206 rfl ?_
        refine e_tputL dX4_next_207 rfl pX4_395 hp (Nat.le_of_ble_eq_true rfl) (tw_f40 _) ?_
        refine t_nx3 (τ0 := τ0) (a := a) hp hn e30 e28 501 a 0 _ (by omega) (Nat.le_refl _) (by omega) ((hS1.I _ (by decide)).L _ (by decide)) (by exact h361) rfl rfl (fun τ2 hS2 h362 h372 hle hal hw2 => ?_)
        refine e_aload_n dX4_next_277 0 rfl rfl rfl ?_
        refine e_aload_n dX4_next_278 0 rfl rfl rfl ?_
        refine e_getf (v := .int (τ2.1 37)) dX4_next_279 rfl fX4_366 (tw_o hp) rfl ?_
        refine e_top (congrArg Value.int h372) ?_
        refine e_aload_n dX4_next_282 0 rfl rfl rfl ?_
        refine e_getf (v := .int (τ2.1 36)) dX4_next_283 rfl fX4_369 (tw_o hp) rfl ?_
        refine e_top (congrArg Value.int h362) ?_
        refine e_isubN ((nuN f n a 501 a 0).1) a (by omega) dX4_next_286 ?_
        refine e_bipush 12 dX4_next_287 rfl ?_
        refine e_icmp_leN (((nuN f n a 501 a 0).1) - a) 12 296 (by omega) (by omega) dX4_next_289 (by decide) (fun h289 => ?_) (fun h289 => ?_)
        · refine e_iconst 2 dX4_next_296 rfl ?_
          refine e_tputI dX4_next_297 rfl pX4_375 rfl hp (Nat.le_of_ble_eq_true rfl) (tw_f35 _) ?_
          refine e_goto 340 dX4_next_300 (by decide) ?_
          refine e_return dX4_next_340 rfl (Nat.zero_le _) (Nat.zero_le _) ?_
          rw [e28t] at h93 h199
          refine ⟨_, rfl, rfl, hS2.I _ (by decide), ?_⟩
          rw [tokA, if_neg (by omega), if_neg h93, if_pos h199, if_neg (by omega)]
          exact ⟨rfl, h362, h372, (fun z => absurd (show (2 : Nat) = 1 from z) (by decide)), fun _ => hw2⟩
        · refine e_iconst 4 dX4_next_292 rfl ?_
          refine e_goto 297 dX4_next_293 (by decide) ?_
          refine e_tputI dX4_next_297 rfl pX4_375 rfl hp (Nat.le_of_ble_eq_true rfl) (tw_f35 _) ?_
          refine e_goto 340 dX4_next_300 (by decide) ?_
          refine e_return dX4_next_340 rfl (Nat.zero_le _) (Nat.zero_le _) ?_
          rw [e28t] at h93 h199
          refine ⟨_, rfl, rfl, hS2.I _ (by decide), ?_⟩
          rw [tokA, if_neg (by omega), if_neg h93, if_pos h199, if_pos (by omega)]
          exact ⟨rfl, h362, h372, (fun z => absurd (show (4 : Nat) = 1 from z) (by decide)), (fun z => z.elim (fun z => absurd (show (4 : Nat) = 2 from z) (by decide)) (fun z => absurd (show (4 : Nat) = 3 from z) (by decide)))⟩
      · have h199 : ¬ (isDg (lkN (τ1.2.2.1 28) n a)) := h199
        refine e_if_eq_t 303 (by decide) dX4_next_202 (by decide) ?_
        refine e_aload_n dX4_next_303 0 rfl rfl rfl ?_
        refine e_aload_n dX4_next_304 0 rfl rfl rfl ?_
        refine e_getf (v := .int (τ1.1 36)) dX4_next_305 rfl fX4_369 (tw_o hp) rfl ?_
        refine e_top (congrArg Value.int h361) ?_
        refine e_iconst 1 dX4_next_308 rfl ?_
        refine e_iaddN a 1 dX4_next_309 ?_
        refine e_tputI dX4_next_310 rfl pX4_366 rfl hp (Nat.le_of_ble_eq_true rfl) (tw_f37 _) ?_
        refine e_aload_n dX4_next_313 0 rfl rfl rfl ?_
        refine e_iload_n dX4_next_314 1 rfl rfl ?_
        refine e_i2l dX4_next_315 ?_
        refine e_tputL dX4_next_316 rfl pX4_395 hp (Nat.le_of_ble_eq_true rfl) (tw_f40 _) ?_
        refine e_aload_n dX4_next_319 0 rfl rfl rfl ?_
        refine e_iload_n dX4_next_320 1 rfl rfl ?_
        refine e_bipush 59 dX4_next_321 rfl ?_
        refine e_icmp_eq 332 dX4_next_323 (by decide) (fun h323 => ?_) (fun h323 => ?_)
        · refine e_iconst 3 dX4_next_332 rfl ?_
          refine e_goto 337 dX4_next_333 (by decide) ?_
          refine e_tputI dX4_next_337 rfl pX4_375 rfl hp (Nat.le_of_ble_eq_true rfl) (tw_f35 _) ?_
          refine e_return dX4_next_340 rfl (Nat.zero_le _) (Nat.zero_le _) ?_
          replace h323 : lkN (τ1.2.2.1 28) n a = 59 := h323
          rw [e28t] at h93 h199 h323
          refine ⟨_, rfl, rfl, ((((hS1.I _ (by decide)).I _ (by decide)).L _ (by decide)).I _ (by decide)), ?_⟩
          rw [tokA, if_neg (by omega), if_neg h93, if_neg h199, if_pos (Or.inl h323)]
          exact ⟨rfl, h361, rfl, (fun z => absurd (show (3 : Nat) = 1 from z) (by decide)), (fun _ => by rw [← e28t]; rfl)⟩
        · refine e_iload_n dX4_next_326 1 rfl rfl ?_
          refine e_bipush 45 dX4_next_327 rfl ?_
          refine e_icmp_ne 336 dX4_next_329 (by decide) (fun h329 => ?_) (fun h329 => ?_)
          · refine e_iconst 4 dX4_next_336 rfl ?_
            refine e_tputI dX4_next_337 rfl pX4_375 rfl hp (Nat.le_of_ble_eq_true rfl) (tw_f35 _) ?_
            refine e_return dX4_next_340 rfl (Nat.zero_le _) (Nat.zero_le _) ?_
            replace h323 : ¬ lkN (τ1.2.2.1 28) n a = 59 := h323
            replace h329 : ¬ lkN (τ1.2.2.1 28) n a = 45 := h329
            rw [e28t] at h93 h199 h323 h329
            refine ⟨_, rfl, rfl, ((((hS1.I _ (by decide)).I _ (by decide)).L _ (by decide)).I _ (by decide)), ?_⟩
            rw [tokA, if_neg (by omega), if_neg h93, if_neg h199, if_neg (fun z => z.elim h323 h329)]
            exact ⟨rfl, h361, rfl, (fun z => absurd (show (4 : Nat) = 1 from z) (by decide)), (fun z => z.elim (fun z => absurd (show (4 : Nat) = 2 from z) (by decide)) (fun z => absurd (show (4 : Nat) = 3 from z) (by decide)))⟩
          · refine e_iconst 3 dX4_next_332 rfl ?_
            refine e_goto 337 dX4_next_333 (by decide) ?_
            refine e_tputI dX4_next_337 rfl pX4_375 rfl hp (Nat.le_of_ble_eq_true rfl) (tw_f35 _) ?_
            refine e_return dX4_next_340 rfl (Nat.zero_le _) (Nat.zero_le _) ?_
            replace h323 : ¬ lkN (τ1.2.2.1 28) n a = 59 := h323
            replace h329 : lkN (τ1.2.2.1 28) n a = 45 := h329
            rw [e28t] at h93 h199 h323 h329
            refine ⟨_, rfl, rfl, ((((hS1.I _ (by decide)).I _ (by decide)).L _ (by decide)).I _ (by decide)), ?_⟩
            rw [tokA, if_neg (by omega), if_neg h93, if_neg h199, if_pos (Or.inr h329)]
            exact ⟨rfl, h361, rfl, (fun z => absurd (show (3 : Nat) = 1 from z) (by decide)), (fun _ => by rw [← e28t]; rfl)⟩
  · refine e_aload_n dX4_next_77 0 rfl rfl rfl ?_
    refine e_iconst 0 dX4_next_78 rfl ?_
    refine e_tputI dX4_next_79 rfl pX4_375 rfl hp (Nat.le_of_ble_eq_true rfl) (tw_f35 _) ?_
    refine e_return dX4_next_82 rfl (Nat.zero_le _) (Nat.zero_le _) ?_
    refine ⟨_, rfl, rfl, (hS1.I _ (by decide)).I _ (by decide), ?_⟩
    rw [tokA, if_pos (by omega)]
    exact ⟨rfl, h361, rfl, (fun z => absurd (show (0 : Nat) = 1 from z) (by decide)), (fun z => z.elim (fun z => absurd (show (0 : Nat) = 2 from z) (by decide)) (fun z => absurd (show (0 : Nat) = 3 from z) (by decide)))⟩

