/-! ===== the component: the mill, jumps; a card done ===== -/
theorem spIs_iff {ς : Tw} {k : Nat} : spIs ς k = true ↔ (ς.2.2.1 48 k = 0 ∨ (ς.2.2.1 48 k = 1 ∧ ς.1 61 = 1) ∨ (¬ ς.2.2.1 48 k = 1 ∧ ς.1 61 = 0)) := by
  unfold spIs; simp
set_option maxHeartbeats 4000000 in
set_option maxRecDepth 100000 in
/-- WheelTables.does -/
theorem x_does6 {ξ : Xs} {mid dyn : List ACell} (hm : mid.length = 61) {b k : Nat} (hk : k < 40) {cw cp : Int32} {cv : Int64} {at_ : Nat → Int32} (hcd0 : dyn[b]? = some (.inr (7, [.int 6, .ref (117 + b + 1), .long cv, .int cw, .int cp]))) (hcd1 : dyn[b + 1]? = some (.inl (0, 4, .inl at_))) {τ : Tw} (hI : RIm ξ τ) (hB : RB ξ τ) (h64 : τ.1 64 = 0) {a0 a1 a2 a3 : Nat} (hz0 : at_ 0 = nI a0) (hz1 : at_ 1 = nI a1) (hz2 : at_ 2 = nI a2) (hz3 : at_ 3 = nI a3) (ha0 : a0 < 20) (ha1 : a1 < 20) (ha2 : a2 < 20) (ha3 : a3 < 20) (hb : ∀ p, p < 20 → -999999999999 ≤ τ.2.2.2 58 p ∧ τ.2.2.2 58 p ≤ 999999999999) (eK : τ.2.2.1 43 k = 6) (ew : cw = τ.2.2.1 48 k) {a : Nat} (ha : a ≤ 40) (e44 : τ.2.2.1 44 k = nI a) (hcv : cv = (nI a).toInt64) (hak : a ≤ k) : Ct yX0_does (ws_ yX0_does cX0_does 7 (some .int)) 3 0 0 [.ref 0, .ref (117 + b), .int (nI k)] (XM ξ mid dyn) (DoX mid dyn ξ τ k) noX := by
  refine Ct.of (ini := false) (ls := [some (.ref 0), some (.ref (117 + b)), some (.int (nI k)), none, none, none, none]) (by decide) (Nat.le_of_ble_eq_true rfl) (fun h => by cases h) rfl ?_
  refine e_aload_n dX0_does_0 0 rfl rfl rfl ?_
  refine e_getf (v := (.ref 13)) dX0_does_1 rfl fX0_73 (xm_o0) rfl ?_
  refine e_aload_n dX0_does_4 1 rfl rfl rfl ?_
  refine e_getf (v := (.ref (117 + b + 1))) dX0_does_5 rfl fX0_362 ((xm_d hm b).trans hcd0) rfl ?_
  refine e_iconst 0 dX0_does_8 rfl ?_
  refine e_iald (f := at_) (j := 0) dX0_does_9 ((show (XM _ mid dyn)[117 + b + 1]? = _ from (xm_d hm (b + 1)).trans hcd1)) rfl (by omega) (by decide) ?_
  refine e_top (congrArg Value.int hz0) ?_
  refine e_lald (f := ξ.2.2.2.1 18) (j := a0) dX0_does_10 (xm_a18) rfl (by omega) (by decide) ?_
  refine e_top (congrArg Value.long (congrFun (hB.at 18 58 (by decide)) _)) ?_
  refine e_lstore_n dX0_does_11 3 rfl (ls_s (ls_s (ls_1 rfl))) (ln_s (ln_s (ln_s (ln_s ln_0)))) (Nat.le_of_ble_eq_true rfl) ?_
  refine e_aload_n dX0_does_12 0 rfl rfl rfl ?_
  refine e_getf (v := (.ref 13)) dX0_does_13 rfl fX0_73 (xm_o0) rfl ?_
  refine e_aload_n dX0_does_16 1 rfl rfl rfl ?_
  refine e_getf (v := (.ref (117 + b + 1))) dX0_does_17 rfl fX0_362 ((xm_d hm b).trans hcd0) rfl ?_
  refine e_iconst 1 dX0_does_20 rfl ?_
  refine e_iald (f := at_) (j := 1) dX0_does_21 ((show (XM _ mid dyn)[117 + b + 1]? = _ from (xm_d hm (b + 1)).trans hcd1)) rfl (by omega) (by decide) ?_
  refine e_top (congrArg Value.int hz1) ?_
  refine e_lald (f := ξ.2.2.2.1 18) (j := a1) dX0_does_22 (xm_a18) rfl (by omega) (by decide) ?_
  refine e_top (congrArg Value.long (congrFun (hB.at 18 58 (by decide)) _)) ?_
  refine e_lstore dX0_does_23 (ls_s (ls_s (ls_s (ls_s (ls_1 rfl))))) (ln_s (ln_s (ln_s (ln_s (ln_s (ln_s ln_0)))))) (Nat.le_of_ble_eq_true rfl) ?_
  refine e_aload_n dX0_does_25 1 rfl rfl rfl ?_
  refine e_getf (v := (.int 6)) dX0_does_26 rfl fX0_364 ((xm_d hm b).trans hcd0) rfl ?_
  refine e_tableIn (off := 172) 201 dX0_does_29 (by decide) (by decide) (by decide) (by decide) ?_
  refine e_aload_n dX0_does_201 0 rfl rfl rfl ?_
  refine e_aload_n dX0_does_202 1 rfl rfl rfl ?_
  refine e_callVB (As := [.ref (117 + b)]) (rest := []) dX0_does_203 rfl mvX0_388 (xm_o0) rfl (x_stands hm hcd0) (Nat.le_of_ble_eq_true rfl) rfl rfl (Nat.le_of_ble_eq_true rfl) (Nat.zero_le _) (Nat.zero_le _) (fun h203 => ?_) (fun h203 => ?_)
  · have h203 : (cw = 0 ∨ (cw = 1 ∧ ξ.1 26 = 1) ∨ (¬ cw = 1 ∧ ξ.1 26 = 0)) := h203
    refine e_if_ne_t 212 (by decide) dX0_does_206 (by decide) ?_
    refine e_aload_n dX0_does_212 0 rfl rfl rfl ?_
    refine e_dup dX0_does_213 rfl ?_
    refine e_getf (v := (.int (ξ.1 21))) dX0_does_214 rfl fX0_340 (xm_o0) rfl ?_
    refine e_aload_n dX0_does_217 1 rfl rfl rfl ?_
    refine e_getf (v := (.long cv)) dX0_does_218 rfl fX0_365 ((xm_d hm b).trans hcd0) rfl ?_
    refine e_l2i dX0_does_221 ?_
    refine e_top (congrArg Value.int ((congrArg Int64.toInt32 hcv).trans (Int32.toInt32_toInt64 _))) ?_
    refine e_iadd dX0_does_222 ?_
    refine e_xputI dX0_does_223 rfl pX0_340 rfl (xm_o0) (Nat.le_of_ble_eq_true rfl) (xm_f21 _) ?_
    refine e_aload_n dX0_does_226 0 rfl rfl rfl ?_
    refine e_dup dX0_does_227 rfl ?_
    refine e_getf (v := (.int (ξ.1 24))) dX0_does_228 rfl fX0_349 (xm_o0) rfl ?_
    refine e_iconst 1 dX0_does_231 rfl ?_
    refine e_iadd dX0_does_232 ?_
    refine e_xputI dX0_does_233 rfl pX0_349 rfl (xm_o0) (Nat.le_of_ble_eq_true rfl) (xm_f24 _) ?_
    refine e_iload_n dX0_does_236 2 rfl rfl ?_
    refine e_aload_n dX0_does_237 1 rfl rfl rfl ?_
    refine e_getf (v := (.long cv)) dX0_does_238 rfl fX0_365 ((xm_d hm b).trans hcd0) rfl ?_
    refine e_l2i dX0_does_241 ?_
    refine e_top (congrArg Value.int ((congrArg Int64.toInt32 hcv).trans (Int32.toInt32_toInt64 _))) ?_
    refine e_isubN k a (by omega) dX0_does_242 ?_
    refine e_ireturn dX0_does_243 rfl rfl (Nat.zero_le _) (Nat.zero_le _) ?_
    have hI1 := hI
    have hB1 := hB
    have eA : spAlm τ k = (0) := by unfold spAlm; rw [eK, if_neg (by decide), if_neg (by decide), if_neg (by decide), if_neg (by decide), if_neg (by decide)]
    have hs : spIs (tI (tI τ 64 0) 66 (τ.1 66 + 1)) k = true := by rw [spIs_iff]; show (τ.2.2.1 48 k = 0 ∨ (τ.2.2.1 48 k = 1 ∧ τ.1 61 = 1) ∨ (¬ τ.2.2.1 48 k = 1 ∧ τ.1 61 = 0)); rw [← ew, ← hI.at 26 61 (by decide)]; exact h203
    have eD : spDoes (tI (tI τ 64 0) 66 (τ.1 66 + 1)) k = (k - a, spCr (tI (tI τ 64 0) 66 (τ.1 66 + 1)) (nI a)) := by unfold spDoes; rw [show (tI (tI τ 64 0) 66 (τ.1 66 + 1)).2.2.1 43 k = 6 from eK, if_neg (by decide), if_neg (by decide), if_neg (by decide), if_neg (by decide), if_neg (by decide), if_neg (by decide), if_pos rfl, if_pos hs, if_pos hs, show (tI (tI τ 64 0) 66 (τ.1 66 + 1)).2.2.1 44 k = nI a from e44, ix_nI (by omega)]
    refine ⟨_, rfl, ((Sy.rf.I _ rfl).I _ rfl), Or.inr ⟨by rw [eA]; decide, by rw [eD], ?_, ?_⟩⟩
    · rw [eD]
      exact (by
      intro q hq
      simp only [rlM, List.mem_cons, List.not_mem_nil, or_false] at hq
      rcases hq with rfl | rfl | rfl | rfl | rfl | rfl | rfl | rfl | rfl | rfl | rfl | rfl | rfl | rfl | rfl | rfl | rfl | rfl
      · exact hI1.at 8 0 (by decide)
      · exact hI1.at 6 5 (by decide)
      · exact hI1.at 7 41 (by decide)
      · exact hI1.at 9 31 (by decide)
      · exact hI1.at 10 32 (by decide)
      · exact hI1.at 101 29 (by decide)
      · exact hI1.at 25 60 (by decide)
      · exact hI1.at 26 61 (by decide)
      · exact hI1.at 20 62 (by decide)
      · show (ξ.1 21) + (nI a) = (τ.1 63) + (nI a)
        rw [hI1.at 21 63 (by decide)]
      · exact (hI1.at 22 64 (by decide)).trans h64
      · show (ξ.1 24) + 1 = (τ.1 66) + 1
        rw [hI1.at 24 66 (by decide)]
      · exact hI1.at 45 78 (by decide)
      · exact hI1.at 46 79 (by decide)
      · exact hI1.at 47 81 (by decide)
      · exact hI1.at 48 77 (by decide)
      · exact hI1.at 55 82 (by decide)
      · exact hI1.at 23 65 (by decide))
    · rw [eD]
      exact hB1
  · have h203 : ¬ (cw = 0 ∨ (cw = 1 ∧ ξ.1 26 = 1) ∨ (¬ cw = 1 ∧ ξ.1 26 = 0)) := h203
    refine e_if_ne_f (by decide) 212 dX0_does_206 (by decide) ?_
    refine e_goto 273 dX0_does_209 (by decide) ?_
    refine e_aload_n dX0_does_273 0 rfl rfl rfl ?_
    refine e_getf (v := (.int (ξ.1 22))) dX0_does_274 rfl fX0_343 (xm_o0) rfl ?_
    refine e_top (congrArg Value.int ((hI.at 22 64 (by decide)).trans h64)) ?_
    refine e_if_ne_f (by decide) 290 dX0_does_277 (by decide) ?_
    refine e_aload_n dX0_does_280 0 rfl rfl rfl ?_
    refine e_dup dX0_does_281 rfl ?_
    refine e_getf (v := (.int (ξ.1 24))) dX0_does_282 rfl fX0_349 (xm_o0) rfl ?_
    refine e_iconst 1 dX0_does_285 rfl ?_
    refine e_iadd dX0_does_286 ?_
    refine e_xputI dX0_does_287 rfl pX0_349 rfl (xm_o0) (Nat.le_of_ble_eq_true rfl) (xm_f24 _) ?_
    refine e_iload_n dX0_does_290 2 rfl rfl ?_
    refine e_iconst 1 dX0_does_291 rfl ?_
    refine e_iaddN k 1 dX0_does_292 ?_
    refine e_ireturn dX0_does_293 rfl rfl (Nat.zero_le _) (Nat.zero_le _) ?_
    have hI1 := hI
    have hB1 := hB
    have eA : spAlm τ k = (0) := by unfold spAlm; rw [eK, if_neg (by decide), if_neg (by decide), if_neg (by decide), if_neg (by decide), if_neg (by decide)]
    have hs : ¬ spIs (tI (tI τ 64 0) 66 (τ.1 66 + 1)) k = true := by rw [spIs_iff]; show ¬ (τ.2.2.1 48 k = 0 ∨ (τ.2.2.1 48 k = 1 ∧ τ.1 61 = 1) ∨ (¬ τ.2.2.1 48 k = 1 ∧ τ.1 61 = 0)); rw [← ew, ← hI.at 26 61 (by decide)]; exact h203
    have eD : spDoes (tI (tI τ 64 0) 66 (τ.1 66 + 1)) k = (k + 1, spCr (tI (tI τ 64 0) 66 (τ.1 66 + 1)) 0) := by unfold spDoes; rw [show (tI (tI τ 64 0) 66 (τ.1 66 + 1)).2.2.1 43 k = 6 from eK, if_neg (by decide), if_neg (by decide), if_neg (by decide), if_neg (by decide), if_neg (by decide), if_neg (by decide), if_pos rfl, if_neg hs, if_neg hs]
    refine ⟨_, rfl, (Sy.rf.I _ rfl), Or.inr ⟨by rw [eA]; decide, by rw [eD], ?_, ?_⟩⟩
    · rw [eD]
      exact (by
      intro q hq
      simp only [rlM, List.mem_cons, List.not_mem_nil, or_false] at hq
      rcases hq with rfl | rfl | rfl | rfl | rfl | rfl | rfl | rfl | rfl | rfl | rfl | rfl | rfl | rfl | rfl | rfl | rfl | rfl
      · exact hI1.at 8 0 (by decide)
      · exact hI1.at 6 5 (by decide)
      · exact hI1.at 7 41 (by decide)
      · exact hI1.at 9 31 (by decide)
      · exact hI1.at 10 32 (by decide)
      · exact hI1.at 101 29 (by decide)
      · exact hI1.at 25 60 (by decide)
      · exact hI1.at 26 61 (by decide)
      · exact hI1.at 20 62 (by decide)
      · exact (hI1.at 21 63 (by decide)).trans (Int32.add_zero _).symm
      · exact (hI1.at 22 64 (by decide)).trans h64
      · show (ξ.1 24) + 1 = (τ.1 66) + 1
        rw [hI1.at 24 66 (by decide)]
      · exact hI1.at 45 78 (by decide)
      · exact hI1.at 46 79 (by decide)
      · exact hI1.at 47 81 (by decide)
      · exact hI1.at 48 77 (by decide)
      · exact hI1.at 55 82 (by decide)
      · exact hI1.at 23 65 (by decide))
    · rw [eD]
      exact hB1

set_option maxHeartbeats 4000000 in
set_option maxRecDepth 100000 in
/-- WheelTables.does -/
theorem x_does7 {ξ : Xs} {mid dyn : List ACell} (hm : mid.length = 61) {b k : Nat} (hk : k < 40) {cw cp : Int32} {cv : Int64} {at_ : Nat → Int32} (hcd0 : dyn[b]? = some (.inr (7, [.int 7, .ref (117 + b + 1), .long cv, .int cw, .int cp]))) (hcd1 : dyn[b + 1]? = some (.inl (0, 4, .inl at_))) {τ : Tw} (hI : RIm ξ τ) (hB : RB ξ τ) (h64 : τ.1 64 = 0) {a0 a1 a2 a3 : Nat} (hz0 : at_ 0 = nI a0) (hz1 : at_ 1 = nI a1) (hz2 : at_ 2 = nI a2) (hz3 : at_ 3 = nI a3) (ha0 : a0 < 20) (ha1 : a1 < 20) (ha2 : a2 < 20) (ha3 : a3 < 20) (hb : ∀ p, p < 20 → -999999999999 ≤ τ.2.2.2 58 p ∧ τ.2.2.2 58 p ≤ 999999999999) (eK : τ.2.2.1 43 k = 7) (ew : cw = τ.2.2.1 48 k) {a : Nat} (ha : a ≤ 40) (e44 : τ.2.2.1 44 k = nI a) (hcv : cv = (nI a).toInt64) : Ct yX0_does (ws_ yX0_does cX0_does 7 (some .int)) 3 0 0 [.ref 0, .ref (117 + b), .int (nI k)] (XM ξ mid dyn) (DoX mid dyn ξ τ k) noX := by
  refine Ct.of (ini := false) (ls := [some (.ref 0), some (.ref (117 + b)), some (.int (nI k)), none, none, none, none]) (by decide) (Nat.le_of_ble_eq_true rfl) (fun h => by cases h) rfl ?_
  refine e_aload_n dX0_does_0 0 rfl rfl rfl ?_
  refine e_getf (v := (.ref 13)) dX0_does_1 rfl fX0_73 (xm_o0) rfl ?_
  refine e_aload_n dX0_does_4 1 rfl rfl rfl ?_
  refine e_getf (v := (.ref (117 + b + 1))) dX0_does_5 rfl fX0_362 ((xm_d hm b).trans hcd0) rfl ?_
  refine e_iconst 0 dX0_does_8 rfl ?_
  refine e_iald (f := at_) (j := 0) dX0_does_9 ((show (XM _ mid dyn)[117 + b + 1]? = _ from (xm_d hm (b + 1)).trans hcd1)) rfl (by omega) (by decide) ?_
  refine e_top (congrArg Value.int hz0) ?_
  refine e_lald (f := ξ.2.2.2.1 18) (j := a0) dX0_does_10 (xm_a18) rfl (by omega) (by decide) ?_
  refine e_top (congrArg Value.long (congrFun (hB.at 18 58 (by decide)) _)) ?_
  refine e_lstore_n dX0_does_11 3 rfl (ls_s (ls_s (ls_1 rfl))) (ln_s (ln_s (ln_s (ln_s ln_0)))) (Nat.le_of_ble_eq_true rfl) ?_
  refine e_aload_n dX0_does_12 0 rfl rfl rfl ?_
  refine e_getf (v := (.ref 13)) dX0_does_13 rfl fX0_73 (xm_o0) rfl ?_
  refine e_aload_n dX0_does_16 1 rfl rfl rfl ?_
  refine e_getf (v := (.ref (117 + b + 1))) dX0_does_17 rfl fX0_362 ((xm_d hm b).trans hcd0) rfl ?_
  refine e_iconst 1 dX0_does_20 rfl ?_
  refine e_iald (f := at_) (j := 1) dX0_does_21 ((show (XM _ mid dyn)[117 + b + 1]? = _ from (xm_d hm (b + 1)).trans hcd1)) rfl (by omega) (by decide) ?_
  refine e_top (congrArg Value.int hz1) ?_
  refine e_lald (f := ξ.2.2.2.1 18) (j := a1) dX0_does_22 (xm_a18) rfl (by omega) (by decide) ?_
  refine e_top (congrArg Value.long (congrFun (hB.at 18 58 (by decide)) _)) ?_
  refine e_lstore dX0_does_23 (ls_s (ls_s (ls_s (ls_s (ls_1 rfl))))) (ln_s (ln_s (ln_s (ln_s (ln_s (ln_s ln_0)))))) (Nat.le_of_ble_eq_true rfl) ?_
  refine e_aload_n dX0_does_25 1 rfl rfl rfl ?_
  refine e_getf (v := (.int 7)) dX0_does_26 rfl fX0_364 ((xm_d hm b).trans hcd0) rfl ?_
  refine e_tableOut 244 dX0_does_29 (by decide) (by decide) ?_
  refine e_aload_n dX0_does_244 0 rfl rfl rfl ?_
  refine e_aload_n dX0_does_245 1 rfl rfl rfl ?_
  refine e_callVB (As := [.ref (117 + b)]) (rest := []) dX0_does_246 rfl mvX0_388 (xm_o0) rfl (x_stands hm hcd0) (Nat.le_of_ble_eq_true rfl) rfl rfl (Nat.le_of_ble_eq_true rfl) (Nat.zero_le _) (Nat.zero_le _) (fun h246 => ?_) (fun h246 => ?_)
  · have h246 : (cw = 0 ∨ (cw = 1 ∧ ξ.1 26 = 1) ∨ (¬ cw = 1 ∧ ξ.1 26 = 0)) := h246
    refine e_if_ne_t 255 (by decide) dX0_does_249 (by decide) ?_
    refine e_aload_n dX0_does_255 0 rfl rfl rfl ?_
    refine e_dup dX0_does_256 rfl ?_
    refine e_getf (v := (.int (ξ.1 24))) dX0_does_257 rfl fX0_349 (xm_o0) rfl ?_
    refine e_iconst 1 dX0_does_260 rfl ?_
    refine e_iadd dX0_does_261 ?_
    refine e_xputI dX0_does_262 rfl pX0_349 rfl (xm_o0) (Nat.le_of_ble_eq_true rfl) (xm_f24 _) ?_
    refine e_iload_n dX0_does_265 2 rfl rfl ?_
    refine e_aload_n dX0_does_266 1 rfl rfl rfl ?_
    refine e_getf (v := (.long cv)) dX0_does_267 rfl fX0_365 ((xm_d hm b).trans hcd0) rfl ?_
    refine e_l2i dX0_does_270 ?_
    refine e_top (congrArg Value.int ((congrArg Int64.toInt32 hcv).trans (Int32.toInt32_toInt64 _))) ?_
    refine e_iaddN k a dX0_does_271 ?_
    refine e_ireturn dX0_does_272 rfl rfl (Nat.zero_le _) (Nat.zero_le _) ?_
    have hI1 := hI
    have hB1 := hB
    have eA : spAlm τ k = (0) := by unfold spAlm; rw [eK, if_neg (by decide), if_neg (by decide), if_neg (by decide), if_neg (by decide), if_neg (by decide)]
    have hs : spIs (tI (tI τ 64 0) 66 (τ.1 66 + 1)) k = true := by rw [spIs_iff]; show (τ.2.2.1 48 k = 0 ∨ (τ.2.2.1 48 k = 1 ∧ τ.1 61 = 1) ∨ (¬ τ.2.2.1 48 k = 1 ∧ τ.1 61 = 0)); rw [← ew, ← hI.at 26 61 (by decide)]; exact h246
    have eD : spDoes (tI (tI τ 64 0) 66 (τ.1 66 + 1)) k = (k + a, (tI (tI τ 64 0) 66 (τ.1 66 + 1))) := by unfold spDoes; rw [show (tI (tI τ 64 0) 66 (τ.1 66 + 1)).2.2.1 43 k = 7 from eK, if_neg (by decide), if_neg (by decide), if_neg (by decide), if_neg (by decide), if_neg (by decide), if_neg (by decide), if_neg (by decide), if_pos hs, show (tI (tI τ 64 0) 66 (τ.1 66 + 1)).2.2.1 44 k = nI a from e44, ix_nI (by omega)]
    refine ⟨_, rfl, (Sy.rf.I _ rfl), Or.inr ⟨by rw [eA]; decide, by rw [eD], ?_, ?_⟩⟩
    · rw [eD]
      exact (by
      intro q hq
      simp only [rlM, List.mem_cons, List.not_mem_nil, or_false] at hq
      rcases hq with rfl | rfl | rfl | rfl | rfl | rfl | rfl | rfl | rfl | rfl | rfl | rfl | rfl | rfl | rfl | rfl | rfl | rfl
      · exact hI1.at 8 0 (by decide)
      · exact hI1.at 6 5 (by decide)
      · exact hI1.at 7 41 (by decide)
      · exact hI1.at 9 31 (by decide)
      · exact hI1.at 10 32 (by decide)
      · exact hI1.at 101 29 (by decide)
      · exact hI1.at 25 60 (by decide)
      · exact hI1.at 26 61 (by decide)
      · exact hI1.at 20 62 (by decide)
      · exact hI1.at 21 63 (by decide)
      · exact (hI1.at 22 64 (by decide)).trans h64
      · show (ξ.1 24) + 1 = (τ.1 66) + 1
        rw [hI1.at 24 66 (by decide)]
      · exact hI1.at 45 78 (by decide)
      · exact hI1.at 46 79 (by decide)
      · exact hI1.at 47 81 (by decide)
      · exact hI1.at 48 77 (by decide)
      · exact hI1.at 55 82 (by decide)
      · exact hI1.at 23 65 (by decide))
    · rw [eD]
      exact hB1
  · have h246 : ¬ (cw = 0 ∨ (cw = 1 ∧ ξ.1 26 = 1) ∨ (¬ cw = 1 ∧ ξ.1 26 = 0)) := h246
    refine e_if_ne_f (by decide) 255 dX0_does_249 (by decide) ?_
    refine e_goto 273 dX0_does_252 (by decide) ?_
    refine e_aload_n dX0_does_273 0 rfl rfl rfl ?_
    refine e_getf (v := (.int (ξ.1 22))) dX0_does_274 rfl fX0_343 (xm_o0) rfl ?_
    refine e_top (congrArg Value.int ((hI.at 22 64 (by decide)).trans h64)) ?_
    refine e_if_ne_f (by decide) 290 dX0_does_277 (by decide) ?_
    refine e_aload_n dX0_does_280 0 rfl rfl rfl ?_
    refine e_dup dX0_does_281 rfl ?_
    refine e_getf (v := (.int (ξ.1 24))) dX0_does_282 rfl fX0_349 (xm_o0) rfl ?_
    refine e_iconst 1 dX0_does_285 rfl ?_
    refine e_iadd dX0_does_286 ?_
    refine e_xputI dX0_does_287 rfl pX0_349 rfl (xm_o0) (Nat.le_of_ble_eq_true rfl) (xm_f24 _) ?_
    refine e_iload_n dX0_does_290 2 rfl rfl ?_
    refine e_iconst 1 dX0_does_291 rfl ?_
    refine e_iaddN k 1 dX0_does_292 ?_
    refine e_ireturn dX0_does_293 rfl rfl (Nat.zero_le _) (Nat.zero_le _) ?_
    have hI1 := hI
    have hB1 := hB
    have eA : spAlm τ k = (0) := by unfold spAlm; rw [eK, if_neg (by decide), if_neg (by decide), if_neg (by decide), if_neg (by decide), if_neg (by decide)]
    have hs : ¬ spIs (tI (tI τ 64 0) 66 (τ.1 66 + 1)) k = true := by rw [spIs_iff]; show ¬ (τ.2.2.1 48 k = 0 ∨ (τ.2.2.1 48 k = 1 ∧ τ.1 61 = 1) ∨ (¬ τ.2.2.1 48 k = 1 ∧ τ.1 61 = 0)); rw [← ew, ← hI.at 26 61 (by decide)]; exact h246
    have eD : spDoes (tI (tI τ 64 0) 66 (τ.1 66 + 1)) k = (k + 1, (tI (tI τ 64 0) 66 (τ.1 66 + 1))) := by unfold spDoes; rw [show (tI (tI τ 64 0) 66 (τ.1 66 + 1)).2.2.1 43 k = 7 from eK, if_neg (by decide), if_neg (by decide), if_neg (by decide), if_neg (by decide), if_neg (by decide), if_neg (by decide), if_neg (by decide), if_neg hs]
    refine ⟨_, rfl, (Sy.rf.I _ rfl), Or.inr ⟨by rw [eA]; decide, by rw [eD], ?_, ?_⟩⟩
    · rw [eD]
      exact (by
      intro q hq
      simp only [rlM, List.mem_cons, List.not_mem_nil, or_false] at hq
      rcases hq with rfl | rfl | rfl | rfl | rfl | rfl | rfl | rfl | rfl | rfl | rfl | rfl | rfl | rfl | rfl | rfl | rfl | rfl
      · exact hI1.at 8 0 (by decide)
      · exact hI1.at 6 5 (by decide)
      · exact hI1.at 7 41 (by decide)
      · exact hI1.at 9 31 (by decide)
      · exact hI1.at 10 32 (by decide)
      · exact hI1.at 101 29 (by decide)
      · exact hI1.at 25 60 (by decide)
      · exact hI1.at 26 61 (by decide)
      · exact hI1.at 20 62 (by decide)
      · exact hI1.at 21 63 (by decide)
      · exact (hI1.at 22 64 (by decide)).trans h64
      · show (ξ.1 24) + 1 = (τ.1 66) + 1
        rw [hI1.at 24 66 (by decide)]
      · exact hI1.at 45 78 (by decide)
      · exact hI1.at 46 79 (by decide)
      · exact hI1.at 47 81 (by decide)
      · exact hI1.at 48 77 (by decide)
      · exact hI1.at 55 82 (by decide)
      · exact hI1.at 23 65 (by decide))
    · rw [eD]
      exact hB1

theorem x_does {ξ : Xs} {mid dyn : List ACell} (hm : mid.length = 61) {b k n P : Nat} (hk : k < 40) {K cw cp : Int32} {cv : Int64} {at_ : Nat → Int32} (hcd : HlD dyn b (cdB (117 + b) K at_ cv cw cp)) {τ : Tw} (hI : RIm ξ τ) (hB : RB ξ τ) (h64 : τ.1 64 = 0) (hR : CdR K at_ cv cw τ k) (hO : CdOk τ n k) (hb : ∀ p, p < 20 → -999999999999 ≤ τ.2.2.2 58 p ∧ τ.2.2.2 58 p ≤ 999999999999) (hP : P ≤ 40) (eP : τ.1 62 = nI P) : Ct yX0_does (ws_ yX0_does cX0_does 7 (some .int)) 3 0 0 [.ref 0, .ref (117 + b), .int (nI k)] (XM ξ mid dyn) (DoX mid dyn ξ τ k) noX := by
  have hcd0 := hcd 0 _ rfl
  have hcd1 := hcd 1 _ rfl
  obtain ⟨hK, hw, hat, hc0, hc15, hc14, hc4, hc6⟩ := hR
  obtain ⟨a0, ha0, hz0⟩ := hat 0 (by omega)
  obtain ⟨a1, ha1, hz1⟩ := hat 1 (by omega)
  obtain ⟨a2, ha2, hz2⟩ := hat 2 (by omega)
  obtain ⟨a3, ha3, hz3⟩ := hat 3 (by omega)
  obtain ⟨K', a, b', c', e', h7, eK, ⟨e44, hak, hak2, hk6, hk7⟩, -⟩ := hO
  have hKe := hK.trans eK
  rcases (show K' = 0 ∨ K' = 1 ∨ K' = 2 ∨ K' = 3 ∨ K' = 4 ∨ K' = 5 ∨ K' = 6 ∨ K' = 7 by omega) with rfl | rfl | rfl | rfl | rfl | rfl | rfl | rfl
  · subst hKe
    exact x_does0 hm hk hcd0 hcd1 hI hB h64 hz0 hz1 hz2 hz3 ha0 ha1 ha2 ha3 hb eK (by rw [← (hc0 eK).1, hz0, ix_nI (by omega)]) (hc0 eK).2.1
  · subst hKe
    exact x_does1 hm hk hcd0 hcd1 hI hB h64 hz0 hz1 hz2 hz3 ha0 ha1 ha2 ha3 hb eK (by rw [spX, ← hc15 (by rw [eK]; decide), hz0, ix_nI (by omega)]) (by rw [spY, ← (hc14 (by rw [eK]; decide)).1, hz1, ix_nI (by omega)]) (by rw [← (hc14 (by rw [eK]; decide)).2, hz2, ix_nI (by omega)])
  · subst hKe
    exact x_does2 hm hk hcd0 hcd1 hI hB h64 hz0 hz1 hz2 hz3 ha0 ha1 ha2 ha3 hb eK (by rw [spX, ← hc15 (by rw [eK]; decide), hz0, ix_nI (by omega)]) (by rw [spY, ← (hc14 (by rw [eK]; decide)).1, hz1, ix_nI (by omega)]) (by rw [← (hc14 (by rw [eK]; decide)).2, hz2, ix_nI (by omega)])
  · subst hKe
    exact x_does3 hm hk hcd0 hcd1 hI hB h64 hz0 hz1 hz2 hz3 ha0 ha1 ha2 ha3 hb eK (by rw [spX, ← hc15 (by rw [eK]; decide), hz0, ix_nI (by omega)]) (by rw [spY, ← (hc14 (by rw [eK]; decide)).1, hz1, ix_nI (by omega)]) (by rw [← (hc14 (by rw [eK]; decide)).2, hz2, ix_nI (by omega)])
  · subst hKe
    exact x_does4 hm hk hcd0 hcd1 hI hB h64 hz0 hz1 hz2 hz3 ha0 ha1 ha2 ha3 hb eK (by rw [spX, ← hc15 (by rw [eK]; decide), hz0, ix_nI (by omega)]) (by rw [spY, ← (hc14 (by rw [eK]; decide)).1, hz1, ix_nI (by omega)]) (by rw [← (hc14 (by rw [eK]; decide)).2, hz2, ix_nI (by omega)]) (by rw [← hc4 eK, hz3, ix_nI (by omega)])
  · subst hKe
    exact x_does5 hm hk hcd0 hcd1 hI hB h64 hz0 hz1 hz2 hz3 ha0 ha1 ha2 ha3 hb eK (by rw [spX, ← hc15 (by rw [eK]; decide), hz0, ix_nI (by omega)])  hP ((hI.at 20 62 (by decide)).trans eP)
  · subst hKe
    exact x_does6 hm hk hcd0 hcd1 hI hB h64 hz0 hz1 hz2 hz3 ha0 ha1 ha2 ha3 hb eK hw hak e44 (by rw [hc6 (by rw [eK]; decide), e44]) (hk6 rfl)
  · subst hKe
    exact x_does7 hm hk hcd0 hcd1 hI hB h64 hz0 hz1 hz2 hz3 ha0 ha1 ha2 ha3 hb eK hw hak e44 (by rw [hc6 (by rw [eK]; decide), e44])
