/-! ===== the component: the mill, a card done: by kinds ===== -/
theorem TRM (ξ1 : Xs) (T : Tw) (h : ∀ i j, (i, j) ∈ rlM → ξ1.1 i = T.1 j) : RIm ξ1 T := fun q hq => h q.1 q.2 hq
/-- a step of the mill: what holds behind it -/
def DoX (mid dyn : List ACell) (ξ : Xs) (τ : Tw) (k : Nat) : Qfun := fun v0 N => ∃ ξ1, N = XM ξ1 mid dyn ∧ Sy mI lA mB ξ1 ξ ∧
  ((0 < spAlm τ k ∧ v0 = some (.int (nI (k + 1))) ∧ RIm ξ1 (tI (tI τ 64 (spAlm τ k)) 65 (nI k)) ∧ RB ξ1 τ) ∨
   (¬ 0 < spAlm τ k ∧ v0 = some (.int (nI (spDoes (tI (tI τ 64 0) 66 (τ.1 66 + 1)) k).1)) ∧ RIm ξ1 (spDoes (tI (tI τ 64 0) 66 (τ.1 66 + 1)) k).2 ∧ RB ξ1 (spDoes (tI (tI τ 64 0) 66 (τ.1 66 + 1)) k).2))
set_option maxHeartbeats 4000000 in
set_option maxRecDepth 100000 in
/-- WheelTables.does -/
theorem x_does0 {ξ : Xs} {mid dyn : List ACell} (hm : mid.length = 61) {b k : Nat} (hk : k < 40) {cw cp : Int32} {cv : Int64} {at_ : Nat → Int32} (hcd0 : dyn[b]? = some (.inr (7, [.int 0, .ref (117 + b + 1), .long cv, .int cw, .int cp]))) (hcd1 : dyn[b + 1]? = some (.inl (0, 4, .inl at_))) {τ : Tw} (hI : RIm ξ τ) (hB : RB ξ τ) (h64 : τ.1 64 = 0) {a0 a1 a2 a3 : Nat} (hz0 : at_ 0 = nI a0) (hz1 : at_ 1 = nI a1) (hz2 : at_ 2 = nI a2) (hz3 : at_ 3 = nI a3) (ha0 : a0 < 20) (ha1 : a1 < 20) (ha2 : a2 < 20) (ha3 : a3 < 20) (hb : ∀ p, p < 20 → -999999999999 ≤ τ.2.2.2 58 p ∧ τ.2.2.2 58 p ≤ 999999999999) (eK : τ.2.2.1 43 k = 0) (h44 : ix (τ.2.2.1 44 k) = a0) (hcv : cv = τ.2.2.2 56 k) : Ct yX0_does (ws_ yX0_does cX0_does 7 (some .int)) 3 0 0 [.ref 0, .ref (117 + b), .int (nI k)] (XM ξ mid dyn) (DoX mid dyn ξ τ k) noX := by
  refine Ct.of (ini := false) (ls := [some (.ref 0), some (.ref (117 + b)), some (.int (nI k)), none, none, none, none]) (by decide) (Nat.le_of_ble_eq_true rfl) (fun h => by cases h) rfl ?_
  refine e_aload_n dX0_does_0 0 rfl rfl rfl ?_
  refine e_getf (v := (.ref 13)) dX0_does_1 rfl fX0_73 (xm_o0) rfl ?_
  refine e_aload_n dX0_does_4 1 rfl rfl rfl ?_
  refine e_getf (v := (.ref (117 + b + 1))) dX0_does_5 rfl fX0_362 ((xm_d hm b).trans hcd0) rfl ?_
  refine e_iconst 0 dX0_does_8 rfl ?_
  refine e_iald (f := at_) (j := 0) dX0_does_9 ((show (XM _ mid dyn)[117 + b + 1]? = _ from (xm_d hm (b + 1)).trans hcd1)) rfl (by omega) (by decide) ?_
  refine e_top (congrArg Value.int hz0) ?_
  refine e_lald (f := ξ.2.2.2.1 18) (j := a0) dX0_does_10 (xm_a18) rfl (by omega) (by decide) ?_
  refine e_top (congrArg Value.long (congrFun (hB.at 18 58 (by decide)) _)) ?_
  refine e_lstore_n dX0_does_11 3 rfl (ls_s (ls_s (ls_1 rfl))) (ln_s (ln_s (ln_s (ln_s ln_0)))) (Nat.le_of_ble_eq_true rfl) ?_
  refine e_aload_n dX0_does_12 0 rfl rfl rfl ?_
  refine e_getf (v := (.ref 13)) dX0_does_13 rfl fX0_73 (xm_o0) rfl ?_
  refine e_aload_n dX0_does_16 1 rfl rfl rfl ?_
  refine e_getf (v := (.ref (117 + b + 1))) dX0_does_17 rfl fX0_362 ((xm_d hm b).trans hcd0) rfl ?_
  refine e_iconst 1 dX0_does_20 rfl ?_
  refine e_iald (f := at_) (j := 1) dX0_does_21 ((show (XM _ mid dyn)[117 + b + 1]? = _ from (xm_d hm (b + 1)).trans hcd1)) rfl (by omega) (by decide) ?_
  refine e_top (congrArg Value.int hz1) ?_
  refine e_lald (f := ξ.2.2.2.1 18) (j := a1) dX0_does_22 (xm_a18) rfl (by omega) (by decide) ?_
  refine e_top (congrArg Value.long (congrFun (hB.at 18 58 (by decide)) _)) ?_
  refine e_lstore dX0_does_23 (ls_s (ls_s (ls_s (ls_s (ls_1 rfl))))) (ln_s (ln_s (ln_s (ln_s (ln_s (ln_s ln_0)))))) (Nat.le_of_ble_eq_true rfl) ?_
  refine e_aload_n dX0_does_25 1 rfl rfl rfl ?_
  refine e_getf (v := (.int 0)) dX0_does_26 rfl fX0_364 ((xm_d hm b).trans hcd0) rfl ?_
  refine e_tableIn (off := 43) 72 dX0_does_29 (by decide) (by decide) (by decide) (by decide) ?_
  refine e_aload_n dX0_does_72 0 rfl rfl rfl ?_
  refine e_getf (v := (.ref 13)) dX0_does_73 rfl fX0_73 (xm_o0) rfl ?_
  refine e_aload_n dX0_does_76 1 rfl rfl rfl ?_
  refine e_getf (v := (.ref (117 + b + 1))) dX0_does_77 rfl fX0_362 ((xm_d hm b).trans hcd0) rfl ?_
  refine e_iconst 0 dX0_does_80 rfl ?_
  refine e_iald (f := at_) (j := 0) dX0_does_81 ((show (XM _ mid dyn)[117 + b + 1]? = _ from (xm_d hm (b + 1)).trans hcd1)) rfl (by omega) (by decide) ?_
  refine e_top (congrArg Value.int hz0) ?_
  refine e_aload_n dX0_does_82 1 rfl rfl rfl ?_
  refine e_getf (v := (.long cv)) dX0_does_83 rfl fX0_365 ((xm_d hm b).trans hcd0) rfl ?_
  refine e_top (congrArg Value.long hcv) ?_
  refine e_last (f := ξ.2.2.2.1 18) (j := a0) dX0_does_86 (xm_a18) rfl (by omega) (by decide) ?_
  rw [xm_s18]
  refine e_aload_n dX0_does_87 0 rfl rfl rfl ?_
  refine e_dup dX0_does_88 rfl ?_
  refine e_getf (v := (.int (ξ.1 21))) dX0_does_89 rfl fX0_340 (xm_o0) rfl ?_
  refine e_iconst 1 dX0_does_92 rfl ?_
  refine e_iadd dX0_does_93 ?_
  refine e_xputI dX0_does_94 rfl pX0_340 rfl (xm_o0) (Nat.le_of_ble_eq_true rfl) (xm_f21 _) ?_
  refine e_goto 273 dX0_does_97 (by decide) ?_
  refine e_aload_n dX0_does_273 0 rfl rfl rfl ?_
  refine e_getf (v := (.int (ξ.1 22))) dX0_does_274 rfl fX0_343 (xm_o0) rfl ?_
  refine e_top (congrArg Value.int ((hI.at 22 64 (by decide)).trans h64)) ?_
  refine e_if_ne_f (by decide) 290 dX0_does_277 (by decide) ?_
  refine e_aload_n dX0_does_280 0 rfl rfl rfl ?_
  refine e_dup dX0_does_281 rfl ?_
  refine e_getf (v := (.int (ξ.1 24))) dX0_does_282 rfl fX0_349 (xm_o0) rfl ?_
  refine e_iconst 1 dX0_does_285 rfl ?_
  refine e_iadd dX0_does_286 ?_
  refine e_xputI dX0_does_287 rfl pX0_349 rfl (xm_o0) (Nat.le_of_ble_eq_true rfl) (xm_f24 _) ?_
  refine e_iload_n dX0_does_290 2 rfl rfl ?_
  refine e_iconst 1 dX0_does_291 rfl ?_
  refine e_iaddN k 1 dX0_does_292 ?_
  refine e_ireturn dX0_does_293 rfl rfl (Nat.zero_le _) (Nat.zero_le _) ?_
  have hI1 := hI
  have hB1 := hB
  have eA : spAlm τ k = (0) := by unfold spAlm; rw [eK, if_neg (by decide), if_neg (by decide), if_neg (by decide), if_neg (by decide), if_neg (by decide)]
  have eD : spDoes (tI (tI τ 64 0) 66 (τ.1 66 + 1)) k = (k + 1, spCr (tB (tI (tI τ 64 0) 66 (τ.1 66 + 1)) 58 (vp_updL (τ.2.2.2 58) a0 (τ.2.2.2 56 k))) 1) := by unfold spDoes; rw [show (tI (tI τ 64 0) 66 (τ.1 66 + 1)).2.2.1 43 k = 0 from eK, if_pos rfl, show ix ((tI (tI τ 64 0) 66 (τ.1 66 + 1)).2.2.1 44 k) = a0 from h44]; rfl
  refine ⟨_, rfl, (by first | exact Sy.rf | exact (Sy.rf.I _ rfl) | exact ((Sy.rf.I _ rfl).I _ rfl) | exact (((Sy.rf.I _ rfl).I _ rfl).I _ rfl) | exact (((Sy.rf.B _ rfl).I _ rfl).I _ rfl) | exact ((((Sy.rf.B _ rfl).I _ rfl).I _ rfl).I _ rfl) | exact (((((Sy.rf.B _ rfl).I _ rfl).I _ rfl).B _ rfl).I _ rfl)), Or.inr ⟨by rw [eA]; decide, by rw [eD], ?_, ?_⟩⟩
  · rw [eD]
    exact (by
    intro q hq
    simp only [rlM, List.mem_cons, List.not_mem_nil, or_false] at hq
    rcases hq with rfl | rfl | rfl | rfl | rfl | rfl | rfl | rfl | rfl | rfl | rfl | rfl | rfl | rfl | rfl | rfl | rfl | rfl
    · exact hI1.at 8 0 (by decide)
    · exact hI1.at 6 5 (by decide)
    · exact hI1.at 7 41 (by decide)
    · exact hI1.at 9 31 (by decide)
    · exact hI1.at 10 32 (by decide)
    · exact hI1.at 101 29 (by decide)
    · exact hI1.at 25 60 (by decide)
    · exact hI1.at 26 61 (by decide)
    · exact hI1.at 20 62 (by decide)
    · show (ξ.1 21) + 1 = (τ.1 63) + 1
      rw [hI1.at 21 63 (by decide)]
    · exact (hI1.at 22 64 (by decide)).trans h64
    · show (ξ.1 24) + 1 = (τ.1 66) + 1
      rw [hI1.at 24 66 (by decide)]
    · exact hI1.at 45 78 (by decide)
    · exact hI1.at 46 79 (by decide)
    · exact hI1.at 47 81 (by decide)
    · exact hI1.at 48 77 (by decide)
    · exact hI1.at 55 82 (by decide)
    · exact hI1.at 23 65 (by decide))
  · rw [eD]
    exact (by
    intro q hq
    simp only [rlB, List.mem_cons, List.not_mem_nil, or_false] at hq
    rcases hq with rfl | rfl
    · first | exact hB1 (18, 58) (by decide) | rfl | exact congrArg (fun z => vp_updL z _ _) (hB1 (18, 58) (by decide)) | exact congrArg (fun z => vp_updL (vp_updL z _ _) _ _) (hB1 (18, 58) (by decide)) | (rw [← hI.at 20 62 (by decide)]; exact congrArg (fun z => vp_updL z _ _) (hB1 (18, 58) (by decide)))
    · first | exact hB1 (19, 59) (by decide) | rfl | exact congrArg (fun z => vp_updL z _ _) (hB1 (19, 59) (by decide)) | exact congrArg (fun z => vp_updL (vp_updL z _ _) _ _) (hB1 (19, 59) (by decide)) | (rw [← hI.at 20 62 (by decide)]; exact congrArg (fun z => vp_updL z _ _) (hB1 (19, 59) (by decide))))

set_option maxHeartbeats 4000000 in
set_option maxRecDepth 100000 in
/-- WheelTables.does -/
theorem x_does1 {ξ : Xs} {mid dyn : List ACell} (hm : mid.length = 61) {b k : Nat} (hk : k < 40) {cw cp : Int32} {cv : Int64} {at_ : Nat → Int32} (hcd0 : dyn[b]? = some (.inr (7, [.int 1, .ref (117 + b + 1), .long cv, .int cw, .int cp]))) (hcd1 : dyn[b + 1]? = some (.inl (0, 4, .inl at_))) {τ : Tw} (hI : RIm ξ τ) (hB : RB ξ τ) (h64 : τ.1 64 = 0) {a0 a1 a2 a3 : Nat} (hz0 : at_ 0 = nI a0) (hz1 : at_ 1 = nI a1) (hz2 : at_ 2 = nI a2) (hz3 : at_ 3 = nI a3) (ha0 : a0 < 20) (ha1 : a1 < 20) (ha2 : a2 < 20) (ha3 : a3 < 20) (hb : ∀ p, p < 20 → -999999999999 ≤ τ.2.2.2 58 p ∧ τ.2.2.2 58 p ≤ 999999999999) (eK : τ.2.2.1 43 k = 1) (hX : spX τ k = τ.2.2.2 58 a0) (hY : spY τ k = τ.2.2.2 58 a1) (h46 : ix (τ.2.2.1 46 k) = a2) : Ct yX0_does (ws_ yX0_does cX0_does 7 (some .int)) 3 0 0 [.ref 0, .ref (117 + b), .int (nI k)] (XM ξ mid dyn) (DoX mid dyn ξ τ k) noX := by
  refine Ct.of (ini := false) (ls := [some (.ref 0), some (.ref (117 + b)), some (.int (nI k)), none, none, none, none]) (by decide) (Nat.le_of_ble_eq_true rfl) (fun h => by cases h) rfl ?_
  refine e_aload_n dX0_does_0 0 rfl rfl rfl ?_
  refine e_getf (v := (.ref 13)) dX0_does_1 rfl fX0_73 (xm_o0) rfl ?_
  refine e_aload_n dX0_does_4 1 rfl rfl rfl ?_
  refine e_getf (v := (.ref (117 + b + 1))) dX0_does_5 rfl fX0_362 ((xm_d hm b).trans hcd0) rfl ?_
  refine e_iconst 0 dX0_does_8 rfl ?_
  refine e_iald (f := at_) (j := 0) dX0_does_9 ((show (XM _ mid dyn)[117 + b + 1]? = _ from (xm_d hm (b + 1)).trans hcd1)) rfl (by omega) (by decide) ?_
  refine e_top (congrArg Value.int hz0) ?_
  refine e_lald (f := ξ.2.2.2.1 18) (j := a0) dX0_does_10 (xm_a18) rfl (by omega) (by decide) ?_
  refine e_top (congrArg Value.long (congrFun (hB.at 18 58 (by decide)) _)) ?_
  refine e_lstore_n dX0_does_11 3 rfl (ls_s (ls_s (ls_1 rfl))) (ln_s (ln_s (ln_s (ln_s ln_0)))) (Nat.le_of_ble_eq_true rfl) ?_
  refine e_aload_n dX0_does_12 0 rfl rfl rfl ?_
  refine e_getf (v := (.ref 13)) dX0_does_13 rfl fX0_73 (xm_o0) rfl ?_
  refine e_aload_n dX0_does_16 1 rfl rfl rfl ?_
  refine e_getf (v := (.ref (117 + b + 1))) dX0_does_17 rfl fX0_362 ((xm_d hm b).trans hcd0) rfl ?_
  refine e_iconst 1 dX0_does_20 rfl ?_
  refine e_iald (f := at_) (j := 1) dX0_does_21 ((show (XM _ mid dyn)[117 + b + 1]? = _ from (xm_d hm (b + 1)).trans hcd1)) rfl (by omega) (by decide) ?_
  refine e_top (congrArg Value.int hz1) ?_
  refine e_lald (f := ξ.2.2.2.1 18) (j := a1) dX0_does_22 (xm_a18) rfl (by omega) (by decide) ?_
  refine e_top (congrArg Value.long (congrFun (hB.at 18 58 (by decide)) _)) ?_
  refine e_lstore dX0_does_23 (ls_s (ls_s (ls_s (ls_s (ls_1 rfl))))) (ln_s (ln_s (ln_s (ln_s (ln_s (ln_s ln_0)))))) (Nat.le_of_ble_eq_true rfl) ?_
  refine e_aload_n dX0_does_25 1 rfl rfl rfl ?_
  refine e_getf (v := (.int 1)) dX0_does_26 rfl fX0_364 ((xm_d hm b).trans hcd0) rfl ?_
  refine e_tableIn (off := 71) 100 dX0_does_29 (by decide) (by decide) (by decide) (by decide) ?_
  refine e_aload_n dX0_does_100 0 rfl rfl rfl ?_
  refine e_aload_n dX0_does_101 1 rfl rfl rfl ?_
  refine e_lload_n dX0_does_102 3 rfl rfl ?_
  refine e_lload dX0_does_103 rfl ?_
  refine e_ladd dX0_does_105 ?_
  refine e_iload_n dX0_does_106 2 rfl rfl ?_
  refine e_iconst 2 dX0_does_107 rfl ?_
  refine e_callVQ (As := [.ref (117 + b), .long ((τ.2.2.2 58 a0) + (τ.2.2.2 58 a1)), .int (nI k), .int 2]) (rest := []) dX0_does_108 rfl mvX0_367 (xm_o0) rfl (x_results (ξ := ξ) hm hk hcd0 hcd1 hz0 hz1 hz2 hz3 ha0 ha1 ha2 ha3 ((τ.2.2.2 58 a0) + (τ.2.2.2 58 a1)) 2) (Nat.le_of_ble_eq_true rfl) rfl rfl (Nat.le_of_ble_eq_true rfl) (Nat.zero_le _) (Nat.zero_le _) (fun v0 M0 h0_ _ => ?_)
  obtain ⟨rfl, ⟨hal, rfl⟩ | ⟨hal, rfl⟩⟩ := h0_
  · refine e_goto 273 dX0_does_111 (by decide) ?_
    refine e_aload_n dX0_does_273 0 rfl rfl rfl ?_
    refine e_getf (v := (.int 1)) dX0_does_274 rfl fX0_343 (xm_o0) rfl ?_
    refine e_if_ne_t 290 (by decide) dX0_does_277 (by decide) ?_
    refine e_iload_n dX0_does_290 2 rfl rfl ?_
    refine e_iconst 1 dX0_does_291 rfl ?_
    refine e_iaddN k 1 dX0_does_292 ?_
    refine e_ireturn dX0_does_293 rfl rfl (Nat.zero_le _) (Nat.zero_le _) ?_
    have hI1 := hI
    have hB1 := hB
    have eA : spAlm τ k = (if 999999999999 < abL (τ.2.2.2 58 a0 + τ.2.2.2 58 a1) then 1 else 0) := by unfold spAlm; rw [eK, if_pos rfl, hX, hY]
    rw [if_pos hal] at eA
    refine ⟨_, rfl, (by first | exact Sy.rf | exact (Sy.rf.I _ rfl) | exact ((Sy.rf.I _ rfl).I _ rfl) | exact (((Sy.rf.I _ rfl).I _ rfl).I _ rfl) | exact (((Sy.rf.B _ rfl).I _ rfl).I _ rfl) | exact ((((Sy.rf.B _ rfl).I _ rfl).I _ rfl).I _ rfl) | exact (((((Sy.rf.B _ rfl).I _ rfl).I _ rfl).B _ rfl).I _ rfl)), Or.inl ⟨by rw [eA]; decide, rfl, ?_, hB1⟩⟩
    rw [eA]
    exact (by
      intro q hq
      simp only [rlM, List.mem_cons, List.not_mem_nil, or_false] at hq
      rcases hq with rfl | rfl | rfl | rfl | rfl | rfl | rfl | rfl | rfl | rfl | rfl | rfl | rfl | rfl | rfl | rfl | rfl | rfl
      · exact hI1.at 8 0 (by decide)
      · exact hI1.at 6 5 (by decide)
      · exact hI1.at 7 41 (by decide)
      · exact hI1.at 9 31 (by decide)
      · exact hI1.at 10 32 (by decide)
      · exact hI1.at 101 29 (by decide)
      · exact hI1.at 25 60 (by decide)
      · exact hI1.at 26 61 (by decide)
      · exact hI1.at 20 62 (by decide)
      · exact hI1.at 21 63 (by decide)
      · rfl
      · exact hI1.at 24 66 (by decide)
      · exact hI1.at 45 78 (by decide)
      · exact hI1.at 46 79 (by decide)
      · exact hI1.at 47 81 (by decide)
      · exact hI1.at 48 77 (by decide)
      · exact hI1.at 55 82 (by decide)
      · rfl)
  · refine e_goto 273 dX0_does_111 (by decide) ?_
    refine e_aload_n dX0_does_273 0 rfl rfl rfl ?_
    refine e_getf (v := (.int (ξ.1 22))) dX0_does_274 rfl fX0_343 (xm_o0) rfl ?_
    refine e_top (congrArg Value.int ((hI.at 22 64 (by decide)).trans h64)) ?_
    refine e_if_ne_f (by decide) 290 dX0_does_277 (by decide) ?_
    refine e_aload_n dX0_does_280 0 rfl rfl rfl ?_
    refine e_dup dX0_does_281 rfl ?_
    refine e_getf (v := (.int (ξ.1 24))) dX0_does_282 rfl fX0_349 (xm_o0) rfl ?_
    refine e_iconst 1 dX0_does_285 rfl ?_
    refine e_iadd dX0_does_286 ?_
    refine e_xputI dX0_does_287 rfl pX0_349 rfl (xm_o0) (Nat.le_of_ble_eq_true rfl) (xm_f24 _) ?_
    refine e_iload_n dX0_does_290 2 rfl rfl ?_
    refine e_iconst 1 dX0_does_291 rfl ?_
    refine e_iaddN k 1 dX0_does_292 ?_
    refine e_ireturn dX0_does_293 rfl rfl (Nat.zero_le _) (Nat.zero_le _) ?_
    have hI1 := hI
    have hB1 := hB
    have eA : spAlm τ k = (if 999999999999 < abL (τ.2.2.2 58 a0 + τ.2.2.2 58 a1) then 1 else 0) := by unfold spAlm; rw [eK, if_pos rfl, hX, hY]
    rw [if_neg hal] at eA
    have eD : spDoes (tI (tI τ 64 0) 66 (τ.1 66 + 1)) k = (k + 1, spCr (spComes (tI (tI τ 64 0) 66 (τ.1 66 + 1)) k (τ.2.2.2 58 a0 + τ.2.2.2 58 a1)) 2) := by unfold spDoes; rw [show (tI (tI τ 64 0) 66 (τ.1 66 + 1)).2.2.1 43 k = 1 from eK, if_neg (by decide), if_pos rfl, show spX (tI (tI τ 64 0) 66 (τ.1 66 + 1)) k = τ.2.2.2 58 a0 from hX, show spY (tI (tI τ 64 0) 66 (τ.1 66 + 1)) k = τ.2.2.2 58 a1 from hY]
    have e46 : ∀ (Z : Tw) (v : Int64), Z.2.2.1 = τ.2.2.1 → spComes Z k v = tI (tB Z 58 (vp_updL (Z.2.2.2 58) a2 v)) 61 (spUp v) := fun Z v hZ => by unfold spComes; rw [hZ, h46]
    rw [e46 (tI (tI τ 64 0) 66 (τ.1 66 + 1)) _ rfl] at eD
    refine ⟨_, rfl, (by first | exact Sy.rf | exact (Sy.rf.I _ rfl) | exact ((Sy.rf.I _ rfl).I _ rfl) | exact (((Sy.rf.I _ rfl).I _ rfl).I _ rfl) | exact (((Sy.rf.B _ rfl).I _ rfl).I _ rfl) | exact ((((Sy.rf.B _ rfl).I _ rfl).I _ rfl).I _ rfl) | exact (((((Sy.rf.B _ rfl).I _ rfl).I _ rfl).B _ rfl).I _ rfl)), Or.inr ⟨by rw [eA]; decide, by rw [eD], ?_, ?_⟩⟩
    · rw [eD]
      exact (by
      intro q hq
      simp only [rlM, List.mem_cons, List.not_mem_nil, or_false] at hq
      rcases hq with rfl | rfl | rfl | rfl | rfl | rfl | rfl | rfl | rfl | rfl | rfl | rfl | rfl | rfl | rfl | rfl | rfl | rfl
      · exact hI1.at 8 0 (by decide)
      · exact hI1.at 6 5 (by decide)
      · exact hI1.at 7 41 (by decide)
      · exact hI1.at 9 31 (by decide)
      · exact hI1.at 10 32 (by decide)
      · exact hI1.at 101 29 (by decide)
      · exact hI1.at 25 60 (by decide)
      · rfl
      · exact hI1.at 20 62 (by decide)
      · show ξ.1 21 + 2 = τ.1 63 + 2
        rw [hI1.at 21 63 (by decide)]
      · exact (hI1.at 22 64 (by decide)).trans h64
      · show (ξ.1 24) + 1 = (τ.1 66) + 1
        rw [hI1.at 24 66 (by decide)]
      · exact hI1.at 45 78 (by decide)
      · exact hI1.at 46 79 (by decide)
      · exact hI1.at 47 81 (by decide)
      · exact hI1.at 48 77 (by decide)
      · exact hI1.at 55 82 (by decide)
      · exact hI1.at 23 65 (by decide))
    · rw [eD]
      exact (by
      intro q hq
      simp only [rlB, List.mem_cons, List.not_mem_nil, or_false] at hq
      rcases hq with rfl | rfl
      · first | exact hB1 (18, 58) (by decide) | rfl | exact congrArg (fun z => vp_updL z _ _) (hB1 (18, 58) (by decide)) | exact congrArg (fun z => vp_updL (vp_updL z _ _) _ _) (hB1 (18, 58) (by decide)) | (rw [← hI.at 20 62 (by decide)]; exact congrArg (fun z => vp_updL z _ _) (hB1 (18, 58) (by decide)))
      · first | exact hB1 (19, 59) (by decide) | rfl | exact congrArg (fun z => vp_updL z _ _) (hB1 (19, 59) (by decide)) | exact congrArg (fun z => vp_updL (vp_updL z _ _) _ _) (hB1 (19, 59) (by decide)) | (rw [← hI.at 20 62 (by decide)]; exact congrArg (fun z => vp_updL z _ _) (hB1 (19, 59) (by decide))))

set_option maxHeartbeats 4000000 in
set_option maxRecDepth 100000 in
/-- WheelTables.does -/
theorem x_does2 {ξ : Xs} {mid dyn : List ACell} (hm : mid.length = 61) {b k : Nat} (hk : k < 40) {cw cp : Int32} {cv : Int64} {at_ : Nat → Int32} (hcd0 : dyn[b]? = some (.inr (7, [.int 2, .ref (117 + b + 1), .long cv, .int cw, .int cp]))) (hcd1 : dyn[b + 1]? = some (.inl (0, 4, .inl at_))) {τ : Tw} (hI : RIm ξ τ) (hB : RB ξ τ) (h64 : τ.1 64 = 0) {a0 a1 a2 a3 : Nat} (hz0 : at_ 0 = nI a0) (hz1 : at_ 1 = nI a1) (hz2 : at_ 2 = nI a2) (hz3 : at_ 3 = nI a3) (ha0 : a0 < 20) (ha1 : a1 < 20) (ha2 : a2 < 20) (ha3 : a3 < 20) (hb : ∀ p, p < 20 → -999999999999 ≤ τ.2.2.2 58 p ∧ τ.2.2.2 58 p ≤ 999999999999) (eK : τ.2.2.1 43 k = 2) (hX : spX τ k = τ.2.2.2 58 a0) (hY : spY τ k = τ.2.2.2 58 a1) (h46 : ix (τ.2.2.1 46 k) = a2) : Ct yX0_does (ws_ yX0_does cX0_does 7 (some .int)) 3 0 0 [.ref 0, .ref (117 + b), .int (nI k)] (XM ξ mid dyn) (DoX mid dyn ξ τ k) noX := by
  refine Ct.of (ini := false) (ls := [some (.ref 0), some (.ref (117 + b)), some (.int (nI k)), none, none, none, none]) (by decide) (Nat.le_of_ble_eq_true rfl) (fun h => by cases h) rfl ?_
  refine e_aload_n dX0_does_0 0 rfl rfl rfl ?_
  refine e_getf (v := (.ref 13)) dX0_does_1 rfl fX0_73 (xm_o0) rfl ?_
  refine e_aload_n dX0_does_4 1 rfl rfl rfl ?_
  refine e_getf (v := (.ref (117 + b + 1))) dX0_does_5 rfl fX0_362 ((xm_d hm b).trans hcd0) rfl ?_
  refine e_iconst 0 dX0_does_8 rfl ?_
  refine e_iald (f := at_) (j := 0) dX0_does_9 ((show (XM _ mid dyn)[117 + b + 1]? = _ from (xm_d hm (b + 1)).trans hcd1)) rfl (by omega) (by decide) ?_
  refine e_top (congrArg Value.int hz0) ?_
  refine e_lald (f := ξ.2.2.2.1 18) (j := a0) dX0_does_10 (xm_a18) rfl (by omega) (by decide) ?_
  refine e_top (congrArg Value.long (congrFun (hB.at 18 58 (by decide)) _)) ?_
  refine e_lstore_n dX0_does_11 3 rfl (ls_s (ls_s (ls_1 rfl))) (ln_s (ln_s (ln_s (ln_s ln_0)))) (Nat.le_of_ble_eq_true rfl) ?_
  refine e_aload_n dX0_does_12 0 rfl rfl rfl ?_
  refine e_getf (v := (.ref 13)) dX0_does_13 rfl fX0_73 (xm_o0) rfl ?_
  refine e_aload_n dX0_does_16 1 rfl rfl rfl ?_
  refine e_getf (v := (.ref (117 + b + 1))) dX0_does_17 rfl fX0_362 ((xm_d hm b).trans hcd0) rfl ?_
  refine e_iconst 1 dX0_does_20 rfl ?_
  refine e_iald (f := at_) (j := 1) dX0_does_21 ((show (XM _ mid dyn)[117 + b + 1]? = _ from (xm_d hm (b + 1)).trans hcd1)) rfl (by omega) (by decide) ?_
  refine e_top (congrArg Value.int hz1) ?_
  refine e_lald (f := ξ.2.2.2.1 18) (j := a1) dX0_does_22 (xm_a18) rfl (by omega) (by decide) ?_
  refine e_top (congrArg Value.long (congrFun (hB.at 18 58 (by decide)) _)) ?_
  refine e_lstore dX0_does_23 (ls_s (ls_s (ls_s (ls_s (ls_1 rfl))))) (ln_s (ln_s (ln_s (ln_s (ln_s (ln_s ln_0)))))) (Nat.le_of_ble_eq_true rfl) ?_
  refine e_aload_n dX0_does_25 1 rfl rfl rfl ?_
  refine e_getf (v := (.int 2)) dX0_does_26 rfl fX0_364 ((xm_d hm b).trans hcd0) rfl ?_
  refine e_tableIn (off := 85) 114 dX0_does_29 (by decide) (by decide) (by decide) (by decide) ?_
  refine e_aload_n dX0_does_114 0 rfl rfl rfl ?_
  refine e_aload_n dX0_does_115 1 rfl rfl rfl ?_
  refine e_lload_n dX0_does_116 3 rfl rfl ?_
  refine e_lload dX0_does_117 rfl ?_
  refine e_lsub dX0_does_119 ?_
  refine e_iload_n dX0_does_120 2 rfl rfl ?_
  refine e_iconst 2 dX0_does_121 rfl ?_
  refine e_callVQ (As := [.ref (117 + b), .long ((τ.2.2.2 58 a0) - (τ.2.2.2 58 a1)), .int (nI k), .int 2]) (rest := []) dX0_does_122 rfl mvX0_367 (xm_o0) rfl (x_results (ξ := ξ) hm hk hcd0 hcd1 hz0 hz1 hz2 hz3 ha0 ha1 ha2 ha3 ((τ.2.2.2 58 a0) - (τ.2.2.2 58 a1)) 2) (Nat.le_of_ble_eq_true rfl) rfl rfl (Nat.le_of_ble_eq_true rfl) (Nat.zero_le _) (Nat.zero_le _) (fun v0 M0 h0_ _ => ?_)
  obtain ⟨rfl, ⟨hal, rfl⟩ | ⟨hal, rfl⟩⟩ := h0_
  · refine e_goto 273 dX0_does_125 (by decide) ?_
    refine e_aload_n dX0_does_273 0 rfl rfl rfl ?_
    refine e_getf (v := (.int 1)) dX0_does_274 rfl fX0_343 (xm_o0) rfl ?_
    refine e_if_ne_t 290 (by decide) dX0_does_277 (by decide) ?_
    refine e_iload_n dX0_does_290 2 rfl rfl ?_
    refine e_iconst 1 dX0_does_291 rfl ?_
    refine e_iaddN k 1 dX0_does_292 ?_
    refine e_ireturn dX0_does_293 rfl rfl (Nat.zero_le _) (Nat.zero_le _) ?_
    have hI1 := hI
    have hB1 := hB
    have eA : spAlm τ k = (if 999999999999 < abL (τ.2.2.2 58 a0 - τ.2.2.2 58 a1) then 1 else 0) := by unfold spAlm; rw [eK, if_neg (by decide), if_pos rfl, hX, hY]
    rw [if_pos hal] at eA
    refine ⟨_, rfl, (by first | exact Sy.rf | exact (Sy.rf.I _ rfl) | exact ((Sy.rf.I _ rfl).I _ rfl) | exact (((Sy.rf.I _ rfl).I _ rfl).I _ rfl) | exact (((Sy.rf.B _ rfl).I _ rfl).I _ rfl) | exact ((((Sy.rf.B _ rfl).I _ rfl).I _ rfl).I _ rfl) | exact (((((Sy.rf.B _ rfl).I _ rfl).I _ rfl).B _ rfl).I _ rfl)), Or.inl ⟨by rw [eA]; decide, rfl, ?_, hB1⟩⟩
    rw [eA]
    exact (by
      intro q hq
      simp only [rlM, List.mem_cons, List.not_mem_nil, or_false] at hq
      rcases hq with rfl | rfl | rfl | rfl | rfl | rfl | rfl | rfl | rfl | rfl | rfl | rfl | rfl | rfl | rfl | rfl | rfl | rfl
      · exact hI1.at 8 0 (by decide)
      · exact hI1.at 6 5 (by decide)
      · exact hI1.at 7 41 (by decide)
      · exact hI1.at 9 31 (by decide)
      · exact hI1.at 10 32 (by decide)
      · exact hI1.at 101 29 (by decide)
      · exact hI1.at 25 60 (by decide)
      · exact hI1.at 26 61 (by decide)
      · exact hI1.at 20 62 (by decide)
      · exact hI1.at 21 63 (by decide)
      · rfl
      · exact hI1.at 24 66 (by decide)
      · exact hI1.at 45 78 (by decide)
      · exact hI1.at 46 79 (by decide)
      · exact hI1.at 47 81 (by decide)
      · exact hI1.at 48 77 (by decide)
      · exact hI1.at 55 82 (by decide)
      · rfl)
  · refine e_goto 273 dX0_does_125 (by decide) ?_
    refine e_aload_n dX0_does_273 0 rfl rfl rfl ?_
    refine e_getf (v := (.int (ξ.1 22))) dX0_does_274 rfl fX0_343 (xm_o0) rfl ?_
    refine e_top (congrArg Value.int ((hI.at 22 64 (by decide)).trans h64)) ?_
    refine e_if_ne_f (by decide) 290 dX0_does_277 (by decide) ?_
    refine e_aload_n dX0_does_280 0 rfl rfl rfl ?_
    refine e_dup dX0_does_281 rfl ?_
    refine e_getf (v := (.int (ξ.1 24))) dX0_does_282 rfl fX0_349 (xm_o0) rfl ?_
    refine e_iconst 1 dX0_does_285 rfl ?_
    refine e_iadd dX0_does_286 ?_
    refine e_xputI dX0_does_287 rfl pX0_349 rfl (xm_o0) (Nat.le_of_ble_eq_true rfl) (xm_f24 _) ?_
    refine e_iload_n dX0_does_290 2 rfl rfl ?_
    refine e_iconst 1 dX0_does_291 rfl ?_
    refine e_iaddN k 1 dX0_does_292 ?_
    refine e_ireturn dX0_does_293 rfl rfl (Nat.zero_le _) (Nat.zero_le _) ?_
    have hI1 := hI
    have hB1 := hB
    have eA : spAlm τ k = (if 999999999999 < abL (τ.2.2.2 58 a0 - τ.2.2.2 58 a1) then 1 else 0) := by unfold spAlm; rw [eK, if_neg (by decide), if_pos rfl, hX, hY]
    rw [if_neg hal] at eA
    have eD : spDoes (tI (tI τ 64 0) 66 (τ.1 66 + 1)) k = (k + 1, spCr (spComes (tI (tI τ 64 0) 66 (τ.1 66 + 1)) k (τ.2.2.2 58 a0 - τ.2.2.2 58 a1)) 2) := by unfold spDoes; rw [show (tI (tI τ 64 0) 66 (τ.1 66 + 1)).2.2.1 43 k = 2 from eK, if_neg (by decide), if_neg (by decide), if_pos rfl, show spX (tI (tI τ 64 0) 66 (τ.1 66 + 1)) k = τ.2.2.2 58 a0 from hX, show spY (tI (tI τ 64 0) 66 (τ.1 66 + 1)) k = τ.2.2.2 58 a1 from hY]
    have e46 : ∀ (Z : Tw) (v : Int64), Z.2.2.1 = τ.2.2.1 → spComes Z k v = tI (tB Z 58 (vp_updL (Z.2.2.2 58) a2 v)) 61 (spUp v) := fun Z v hZ => by unfold spComes; rw [hZ, h46]
    rw [e46 (tI (tI τ 64 0) 66 (τ.1 66 + 1)) _ rfl] at eD
    refine ⟨_, rfl, (by first | exact Sy.rf | exact (Sy.rf.I _ rfl) | exact ((Sy.rf.I _ rfl).I _ rfl) | exact (((Sy.rf.I _ rfl).I _ rfl).I _ rfl) | exact (((Sy.rf.B _ rfl).I _ rfl).I _ rfl) | exact ((((Sy.rf.B _ rfl).I _ rfl).I _ rfl).I _ rfl) | exact (((((Sy.rf.B _ rfl).I _ rfl).I _ rfl).B _ rfl).I _ rfl)), Or.inr ⟨by rw [eA]; decide, by rw [eD], ?_, ?_⟩⟩
    · rw [eD]
      exact (by
      intro q hq
      simp only [rlM, List.mem_cons, List.not_mem_nil, or_false] at hq
      rcases hq with rfl | rfl | rfl | rfl | rfl | rfl | rfl | rfl | rfl | rfl | rfl | rfl | rfl | rfl | rfl | rfl | rfl | rfl
      · exact hI1.at 8 0 (by decide)
      · exact hI1.at 6 5 (by decide)
      · exact hI1.at 7 41 (by decide)
      · exact hI1.at 9 31 (by decide)
      · exact hI1.at 10 32 (by decide)
      · exact hI1.at 101 29 (by decide)
      · exact hI1.at 25 60 (by decide)
      · rfl
      · exact hI1.at 20 62 (by decide)
      · show ξ.1 21 + 2 = τ.1 63 + 2
        rw [hI1.at 21 63 (by decide)]
      · exact (hI1.at 22 64 (by decide)).trans h64
      · show (ξ.1 24) + 1 = (τ.1 66) + 1
        rw [hI1.at 24 66 (by decide)]
      · exact hI1.at 45 78 (by decide)
      · exact hI1.at 46 79 (by decide)
      · exact hI1.at 47 81 (by decide)
      · exact hI1.at 48 77 (by decide)
      · exact hI1.at 55 82 (by decide)
      · exact hI1.at 23 65 (by decide))
    · rw [eD]
      exact (by
      intro q hq
      simp only [rlB, List.mem_cons, List.not_mem_nil, or_false] at hq
      rcases hq with rfl | rfl
      · first | exact hB1 (18, 58) (by decide) | rfl | exact congrArg (fun z => vp_updL z _ _) (hB1 (18, 58) (by decide)) | exact congrArg (fun z => vp_updL (vp_updL z _ _) _ _) (hB1 (18, 58) (by decide)) | (rw [← hI.at 20 62 (by decide)]; exact congrArg (fun z => vp_updL z _ _) (hB1 (18, 58) (by decide)))
      · first | exact hB1 (19, 59) (by decide) | rfl | exact congrArg (fun z => vp_updL z _ _) (hB1 (19, 59) (by decide)) | exact congrArg (fun z => vp_updL (vp_updL z _ _) _ _) (hB1 (19, 59) (by decide)) | (rw [← hI.at 20 62 (by decide)]; exact congrArg (fun z => vp_updL z _ _) (hB1 (19, 59) (by decide))))

set_option maxHeartbeats 4000000 in
set_option maxRecDepth 100000 in
/-- WheelTables.does -/
theorem x_does3 {ξ : Xs} {mid dyn : List ACell} (hm : mid.length = 61) {b k : Nat} (hk : k < 40) {cw cp : Int32} {cv : Int64} {at_ : Nat → Int32} (hcd0 : dyn[b]? = some (.inr (7, [.int 3, .ref (117 + b + 1), .long cv, .int cw, .int cp]))) (hcd1 : dyn[b + 1]? = some (.inl (0, 4, .inl at_))) {τ : Tw} (hI : RIm ξ τ) (hB : RB ξ τ) (h64 : τ.1 64 = 0) {a0 a1 a2 a3 : Nat} (hz0 : at_ 0 = nI a0) (hz1 : at_ 1 = nI a1) (hz2 : at_ 2 = nI a2) (hz3 : at_ 3 = nI a3) (ha0 : a0 < 20) (ha1 : a1 < 20) (ha2 : a2 < 20) (ha3 : a3 < 20) (hb : ∀ p, p < 20 → -999999999999 ≤ τ.2.2.2 58 p ∧ τ.2.2.2 58 p ≤ 999999999999) (eK : τ.2.2.1 43 k = 3) (hX : spX τ k = τ.2.2.2 58 a0) (hY : spY τ k = τ.2.2.2 58 a1) (h46 : ix (τ.2.2.1 46 k) = a2) : Ct yX0_does (ws_ yX0_does cX0_does 7 (some .int)) 3 0 0 [.ref 0, .ref (117 + b), .int (nI k)] (XM ξ mid dyn) (DoX mid dyn ξ τ k) noX := by
  refine Ct.of (ini := false) (ls := [some (.ref 0), some (.ref (117 + b)), some (.int (nI k)), none, none, none, none]) (by decide) (Nat.le_of_ble_eq_true rfl) (fun h => by cases h) rfl ?_
  refine e_aload_n dX0_does_0 0 rfl rfl rfl ?_
  refine e_getf (v := (.ref 13)) dX0_does_1 rfl fX0_73 (xm_o0) rfl ?_
  refine e_aload_n dX0_does_4 1 rfl rfl rfl ?_
  refine e_getf (v := (.ref (117 + b + 1))) dX0_does_5 rfl fX0_362 ((xm_d hm b).trans hcd0) rfl ?_
  refine e_iconst 0 dX0_does_8 rfl ?_
  refine e_iald (f := at_) (j := 0) dX0_does_9 ((show (XM _ mid dyn)[117 + b + 1]? = _ from (xm_d hm (b + 1)).trans hcd1)) rfl (by omega) (by decide) ?_
  refine e_top (congrArg Value.int hz0) ?_
  refine e_lald (f := ξ.2.2.2.1 18) (j := a0) dX0_does_10 (xm_a18) rfl (by omega) (by decide) ?_
  refine e_top (congrArg Value.long (congrFun (hB.at 18 58 (by decide)) _)) ?_
  refine e_lstore_n dX0_does_11 3 rfl (ls_s (ls_s (ls_1 rfl))) (ln_s (ln_s (ln_s (ln_s ln_0)))) (Nat.le_of_ble_eq_true rfl) ?_
  refine e_aload_n dX0_does_12 0 rfl rfl rfl ?_
  refine e_getf (v := (.ref 13)) dX0_does_13 rfl fX0_73 (xm_o0) rfl ?_
  refine e_aload_n dX0_does_16 1 rfl rfl rfl ?_
  refine e_getf (v := (.ref (117 + b + 1))) dX0_does_17 rfl fX0_362 ((xm_d hm b).trans hcd0) rfl ?_
  refine e_iconst 1 dX0_does_20 rfl ?_
  refine e_iald (f := at_) (j := 1) dX0_does_21 ((show (XM _ mid dyn)[117 + b + 1]? = _ from (xm_d hm (b + 1)).trans hcd1)) rfl (by omega) (by decide) ?_
  refine e_top (congrArg Value.int hz1) ?_
  refine e_lald (f := ξ.2.2.2.1 18) (j := a1) dX0_does_22 (xm_a18) rfl (by omega) (by decide) ?_
  refine e_top (congrArg Value.long (congrFun (hB.at 18 58 (by decide)) _)) ?_
  refine e_lstore dX0_does_23 (ls_s (ls_s (ls_s (ls_s (ls_1 rfl))))) (ln_s (ln_s (ln_s (ln_s (ln_s (ln_s ln_0)))))) (Nat.le_of_ble_eq_true rfl) ?_
  refine e_aload_n dX0_does_25 1 rfl rfl rfl ?_
  refine e_getf (v := (.int 3)) dX0_does_26 rfl fX0_364 ((xm_d hm b).trans hcd0) rfl ?_
  refine e_tableIn (off := 99) 128 dX0_does_29 (by decide) (by decide) (by decide) (by decide) ?_
  refine e_aload_n dX0_does_128 0 rfl rfl rfl ?_
  refine e_aload_n dX0_does_129 1 rfl rfl rfl ?_
  refine e_lload_n dX0_does_130 3 rfl rfl ?_
  refine e_lconst 0 dX0_does_131 rfl ?_
  refine e_lcmp_eq 159 dX0_does_132 dX0_does_133 (by decide) (fun h132 => ?_) (fun h132 => ?_)
  · refine e_lload_n dX0_does_159 3 rfl rfl ?_
    refine e_lload dX0_does_160 rfl ?_
    refine e_lmul dX0_does_162 ?_
    have hov : ¬ spOver (τ.2.2.2 58 a0) (τ.2.2.2 58 a1) := fun z => z.1 h132
    have hnal := abL_mul (hb a0 ha0).1 (hb a0 ha0).2 (hb a1 ha1).1 (hb a1 ha1).2 hov
    have hv := (abL_b (hb a0 ha0).1 (hb a0 ha0).2).1
    have hv2 := (abL_b (hb a0 ha0).1 (hb a0 ha0).2).2.1
    refine e_iload_n dX0_does_163 2 rfl rfl ?_
    refine e_iconst 2 dX0_does_164 rfl ?_
    refine e_aload_n dX0_does_165 0 rfl rfl rfl ?_
    refine e_lload_n dX0_does_166 3 rfl rfl ?_
    refine e_callS1 (As := [.long (τ.2.2.2 58 a0)]) (rest := [.ref 0, .int 2, .int (nI k), .long ((τ.2.2.2 58 a0) * (τ.2.2.2 58 a1)), .ref (117 + b), .ref 0]) dX0_does_167 rfl msX0_371 (m_absL (τ.2.2.2 58 a0)) (Nat.le_of_ble_eq_true rfl) rfl rfl (Nat.le_of_ble_eq_true rfl) (Nat.zero_le _) (Nat.zero_le _) ?_
    refine e_callVQ (As := [.long (abL (τ.2.2.2 58 a0))]) (rest := [.int 2, .int (nI k), .long ((τ.2.2.2 58 a0) * (τ.2.2.2 58 a1)), .ref (117 + b), .ref 0]) dX0_does_170 rfl mvX0_377 (xm_o0) rfl (x_least (ξ := ξ) (v := abL (τ.2.2.2 58 a0)) hv) (Nat.le_of_ble_eq_true rfl) rfl rfl (Nat.le_of_ble_eq_true rfl) (Nat.zero_le _) (Nat.zero_le _) (fun v0 M0 h0_ _ => ?_)
    obtain ⟨ξ1, rfl, rfl, hS1, -⟩ := h0_
    rw [few_eq hv hv2]
    refine e_iadd dX0_does_173 ?_
    refine e_callVQ (As := [.ref (117 + b), .long ((τ.2.2.2 58 a0) * (τ.2.2.2 58 a1)), .int (nI k), .int (2 + (spFew (abL (τ.2.2.2 58 a0))))]) (rest := []) dX0_does_174 rfl mvX0_367 (xm_o0) rfl (x_results (ξ := ξ1) hm hk hcd0 hcd1 hz0 hz1 hz2 hz3 ha0 ha1 ha2 ha3 ((τ.2.2.2 58 a0) * (τ.2.2.2 58 a1)) (2 + (spFew (abL (τ.2.2.2 58 a0))))) (Nat.le_of_ble_eq_true rfl) rfl rfl (Nat.le_of_ble_eq_true rfl) (Nat.zero_le _) (Nat.zero_le _) (fun v0 M0 h0_ _ => ?_)
    obtain ⟨rfl, ⟨hal, rfl⟩ | ⟨hal, rfl⟩⟩ := h0_
    · exact absurd hal hnal
    refine e_goto 273 dX0_does_177 (by decide) ?_
    refine e_aload_n dX0_does_273 0 rfl rfl rfl ?_
    refine e_getf (v := (.int (ξ1.1 22))) dX0_does_274 rfl fX0_343 (xm_o0) rfl ?_
    refine e_top (congrArg Value.int ((hS1.1 22 rfl).trans ((hI.at 22 64 (by decide)).trans h64))) ?_
    refine e_if_ne_f (by decide) 290 dX0_does_277 (by decide) ?_
    refine e_aload_n dX0_does_280 0 rfl rfl rfl ?_
    refine e_dup dX0_does_281 rfl ?_
    refine e_getf (v := (.int (ξ1.1 24))) dX0_does_282 rfl fX0_349 (xm_o0) rfl ?_
    refine e_iconst 1 dX0_does_285 rfl ?_
    refine e_iadd dX0_does_286 ?_
    refine e_xputI dX0_does_287 rfl pX0_349 rfl (xm_o0) (Nat.le_of_ble_eq_true rfl) (xm_f24 _) ?_
    refine e_iload_n dX0_does_290 2 rfl rfl ?_
    refine e_iconst 1 dX0_does_291 rfl ?_
    refine e_iaddN k 1 dX0_does_292 ?_
    refine e_ireturn dX0_does_293 rfl rfl (Nat.zero_le _) (Nat.zero_le _) ?_
    have hI1 : RIm ξ1 τ := fun q hq => (hS1.1 q.1 rfl).trans (hI q hq)
    have hB1 : RB ξ1 τ := fun q hq => (hS1.2.2.1 q.1 rfl).trans (hB q hq)
    have eA : spAlm τ k = (if spOver (τ.2.2.2 58 a0) (τ.2.2.2 58 a1) then 1 else 0) := by unfold spAlm; rw [eK, if_neg (by decide), if_neg (by decide), if_pos rfl, hX, hY]
    rw [if_neg hov] at eA
    have eD : spDoes (tI (tI τ 64 0) 66 (τ.1 66 + 1)) k = (k + 1, spComes (spCr (tI (tI τ 64 0) 66 (τ.1 66 + 1)) (2 + spFew (abL (τ.2.2.2 58 a0)))) k (τ.2.2.2 58 a0 * τ.2.2.2 58 a1)) := by unfold spDoes; rw [show (tI (tI τ 64 0) 66 (τ.1 66 + 1)).2.2.1 43 k = 3 from eK, if_neg (by decide), if_neg (by decide), if_neg (by decide), if_pos rfl, show spX (tI (tI τ 64 0) 66 (τ.1 66 + 1)) k = τ.2.2.2 58 a0 from hX, show spY (tI (tI τ 64 0) 66 (τ.1 66 + 1)) k = τ.2.2.2 58 a1 from hY]
    have e46 : ∀ (Z : Tw) (v : Int64), Z.2.2.1 = τ.2.2.1 → spComes Z k v = tI (tB Z 58 (vp_updL (Z.2.2.2 58) a2 v)) 61 (spUp v) := fun Z v hZ => by unfold spComes; rw [hZ, h46]
    rw [e46 (spCr (tI (tI τ 64 0) 66 (τ.1 66 + 1)) _) _ rfl] at eD
    refine ⟨_, rfl, (by first | exact (hS1.mono (fun k h => by cases h) (fun k h => h) (fun k h => by cases h)) | exact ((hS1.mono (fun k h => by cases h) (fun k h => h) (fun k h => by cases h)).I _ rfl) | exact (((hS1.mono (fun k h => by cases h) (fun k h => h) (fun k h => by cases h)).I _ rfl).I _ rfl) | exact ((((hS1.mono (fun k h => by cases h) (fun k h => h) (fun k h => by cases h)).I _ rfl).I _ rfl).I _ rfl) | exact ((((hS1.mono (fun k h => by cases h) (fun k h => h) (fun k h => by cases h)).B _ rfl).I _ rfl).I _ rfl) | exact (((((hS1.mono (fun k h => by cases h) (fun k h => h) (fun k h => by cases h)).B _ rfl).I _ rfl).I _ rfl).I _ rfl) | exact ((((((hS1.mono (fun k h => by cases h) (fun k h => h) (fun k h => by cases h)).B _ rfl).I _ rfl).I _ rfl).B _ rfl).I _ rfl)), Or.inr ⟨by rw [eA]; decide, by rw [eD], ?_, ?_⟩⟩
    · rw [eD]
      exact (by
      intro q hq
      simp only [rlM, List.mem_cons, List.not_mem_nil, or_false] at hq
      rcases hq with rfl | rfl | rfl | rfl | rfl | rfl | rfl | rfl | rfl | rfl | rfl | rfl | rfl | rfl | rfl | rfl | rfl | rfl
      · exact hI1.at 8 0 (by decide)
      · exact hI1.at 6 5 (by decide)
      · exact hI1.at 7 41 (by decide)
      · exact hI1.at 9 31 (by decide)
      · exact hI1.at 10 32 (by decide)
      · exact hI1.at 101 29 (by decide)
      · exact hI1.at 25 60 (by decide)
      · rfl
      · exact hI1.at 20 62 (by decide)
      · show ξ1.1 21 + (2 + (spFew (abL (τ.2.2.2 58 a0)))) = τ.1 63 + (2 + (spFew (abL (τ.2.2.2 58 a0))))
        rw [hI1.at 21 63 (by decide)]
      · exact (hI1.at 22 64 (by decide)).trans h64
      · show (ξ1.1 24) + 1 = (τ.1 66) + 1
        rw [hI1.at 24 66 (by decide)]
      · exact hI1.at 45 78 (by decide)
      · exact hI1.at 46 79 (by decide)
      · exact hI1.at 47 81 (by decide)
      · exact hI1.at 48 77 (by decide)
      · exact hI1.at 55 82 (by decide)
      · exact hI1.at 23 65 (by decide))
    · rw [eD]
      exact (by
      intro q hq
      simp only [rlB, List.mem_cons, List.not_mem_nil, or_false] at hq
      rcases hq with rfl | rfl
      · first | exact hB1 (18, 58) (by decide) | rfl | exact congrArg (fun z => vp_updL z _ _) (hB1 (18, 58) (by decide)) | exact congrArg (fun z => vp_updL (vp_updL z _ _) _ _) (hB1 (18, 58) (by decide)) | (rw [← hI.at 20 62 (by decide)]; exact congrArg (fun z => vp_updL z _ _) (hB1 (18, 58) (by decide)))
      · first | exact hB1 (19, 59) (by decide) | rfl | exact congrArg (fun z => vp_updL z _ _) (hB1 (19, 59) (by decide)) | exact congrArg (fun z => vp_updL (vp_updL z _ _) _ _) (hB1 (19, 59) (by decide)) | (rw [← hI.at 20 62 (by decide)]; exact congrArg (fun z => vp_updL z _ _) (hB1 (19, 59) (by decide))))
  · refine e_lload dX0_does_136 rfl ?_
    refine e_callS1 (As := [.long (τ.2.2.2 58 a1)]) (rest := [.ref (117 + b), .ref 0]) dX0_does_138 rfl msX0_371 (m_absL (τ.2.2.2 58 a1)) (Nat.le_of_ble_eq_true rfl) rfl rfl (Nat.le_of_ble_eq_true rfl) (Nat.zero_le _) (Nat.zero_le _) ?_
    refine e_ldc2 rfl q951 dX0_does_141 ?_
    refine e_lload_n dX0_does_144 3 rfl rfl ?_
    refine e_callS1 (As := [.long (τ.2.2.2 58 a0)]) (rest := [.long 999999999999, .long (abL (τ.2.2.2 58 a1)), .ref (117 + b), .ref 0]) dX0_does_145 rfl msX0_371 (m_absL (τ.2.2.2 58 a0)) (Nat.le_of_ble_eq_true rfl) rfl rfl (Nat.le_of_ble_eq_true rfl) (Nat.zero_le _) (Nat.zero_le _) ?_
    have hax : ¬ abL (τ.2.2.2 58 a0) = 0 := fun z => h132 (by
      have h5 := (abL_b (hb a0 ha0).1 (hb a0 ha0).2).2.2
      rw [z, show (0 : Int64).toInt = 0 from rfl] at h5
      exact Int64.toInt_inj.mp (by rw [show (0 : Int64).toInt = 0 from rfl]; omega))
    refine e_ldiv dX0_does_148 (by assumption) ?_
    refine e_lcmp_le 159 dX0_does_149 dX0_does_150 (by decide) (fun h149 => ?_) (fun h149 => ?_)
    · refine e_lload_n dX0_does_159 3 rfl rfl ?_
      refine e_lload dX0_does_160 rfl ?_
      refine e_lmul dX0_does_162 ?_
      have hov : ¬ spOver (τ.2.2.2 58 a0) (τ.2.2.2 58 a1) := fun z => absurd z.2 (Int64.not_lt.mpr h149)
      have hnal := abL_mul (hb a0 ha0).1 (hb a0 ha0).2 (hb a1 ha1).1 (hb a1 ha1).2 hov
      have hv := (abL_b (hb a0 ha0).1 (hb a0 ha0).2).1
      have hv2 := (abL_b (hb a0 ha0).1 (hb a0 ha0).2).2.1
      refine e_iload_n dX0_does_163 2 rfl rfl ?_
      refine e_iconst 2 dX0_does_164 rfl ?_
      refine e_aload_n dX0_does_165 0 rfl rfl rfl ?_
      refine e_lload_n dX0_does_166 3 rfl rfl ?_
      refine e_callS1 (As := [.long (τ.2.2.2 58 a0)]) (rest := [.ref 0, .int 2, .int (nI k), .long ((τ.2.2.2 58 a0) * (τ.2.2.2 58 a1)), .ref (117 + b), .ref 0]) dX0_does_167 rfl msX0_371 (m_absL (τ.2.2.2 58 a0)) (Nat.le_of_ble_eq_true rfl) rfl rfl (Nat.le_of_ble_eq_true rfl) (Nat.zero_le _) (Nat.zero_le _) ?_
      refine e_callVQ (As := [.long (abL (τ.2.2.2 58 a0))]) (rest := [.int 2, .int (nI k), .long ((τ.2.2.2 58 a0) * (τ.2.2.2 58 a1)), .ref (117 + b), .ref 0]) dX0_does_170 rfl mvX0_377 (xm_o0) rfl (x_least (ξ := ξ) (v := abL (τ.2.2.2 58 a0)) hv) (Nat.le_of_ble_eq_true rfl) rfl rfl (Nat.le_of_ble_eq_true rfl) (Nat.zero_le _) (Nat.zero_le _) (fun v0 M0 h0_ _ => ?_)
      obtain ⟨ξ1, rfl, rfl, hS1, -⟩ := h0_
      rw [few_eq hv hv2]
      refine e_iadd dX0_does_173 ?_
      refine e_callVQ (As := [.ref (117 + b), .long ((τ.2.2.2 58 a0) * (τ.2.2.2 58 a1)), .int (nI k), .int (2 + (spFew (abL (τ.2.2.2 58 a0))))]) (rest := []) dX0_does_174 rfl mvX0_367 (xm_o0) rfl (x_results (ξ := ξ1) hm hk hcd0 hcd1 hz0 hz1 hz2 hz3 ha0 ha1 ha2 ha3 ((τ.2.2.2 58 a0) * (τ.2.2.2 58 a1)) (2 + (spFew (abL (τ.2.2.2 58 a0))))) (Nat.le_of_ble_eq_true rfl) rfl rfl (Nat.le_of_ble_eq_true rfl) (Nat.zero_le _) (Nat.zero_le _) (fun v0 M0 h0_ _ => ?_)
      obtain ⟨rfl, ⟨hal, rfl⟩ | ⟨hal, rfl⟩⟩ := h0_
      · exact absurd hal hnal
      refine e_goto 273 dX0_does_177 (by decide) ?_
      refine e_aload_n dX0_does_273 0 rfl rfl rfl ?_
      refine e_getf (v := (.int (ξ1.1 22))) dX0_does_274 rfl fX0_343 (xm_o0) rfl ?_
      refine e_top (congrArg Value.int ((hS1.1 22 rfl).trans ((hI.at 22 64 (by decide)).trans h64))) ?_
      refine e_if_ne_f (by decide) 290 dX0_does_277 (by decide) ?_
      refine e_aload_n dX0_does_280 0 rfl rfl rfl ?_
      refine e_dup dX0_does_281 rfl ?_
      refine e_getf (v := (.int (ξ1.1 24))) dX0_does_282 rfl fX0_349 (xm_o0) rfl ?_
      refine e_iconst 1 dX0_does_285 rfl ?_
      refine e_iadd dX0_does_286 ?_
      refine e_xputI dX0_does_287 rfl pX0_349 rfl (xm_o0) (Nat.le_of_ble_eq_true rfl) (xm_f24 _) ?_
      refine e_iload_n dX0_does_290 2 rfl rfl ?_
      refine e_iconst 1 dX0_does_291 rfl ?_
      refine e_iaddN k 1 dX0_does_292 ?_
      refine e_ireturn dX0_does_293 rfl rfl (Nat.zero_le _) (Nat.zero_le _) ?_
      have hI1 : RIm ξ1 τ := fun q hq => (hS1.1 q.1 rfl).trans (hI q hq)
      have hB1 : RB ξ1 τ := fun q hq => (hS1.2.2.1 q.1 rfl).trans (hB q hq)
      have eA : spAlm τ k = (if spOver (τ.2.2.2 58 a0) (τ.2.2.2 58 a1) then 1 else 0) := by unfold spAlm; rw [eK, if_neg (by decide), if_neg (by decide), if_pos rfl, hX, hY]
      rw [if_neg hov] at eA
      have eD : spDoes (tI (tI τ 64 0) 66 (τ.1 66 + 1)) k = (k + 1, spComes (spCr (tI (tI τ 64 0) 66 (τ.1 66 + 1)) (2 + spFew (abL (τ.2.2.2 58 a0)))) k (τ.2.2.2 58 a0 * τ.2.2.2 58 a1)) := by unfold spDoes; rw [show (tI (tI τ 64 0) 66 (τ.1 66 + 1)).2.2.1 43 k = 3 from eK, if_neg (by decide), if_neg (by decide), if_neg (by decide), if_pos rfl, show spX (tI (tI τ 64 0) 66 (τ.1 66 + 1)) k = τ.2.2.2 58 a0 from hX, show spY (tI (tI τ 64 0) 66 (τ.1 66 + 1)) k = τ.2.2.2 58 a1 from hY]
      have e46 : ∀ (Z : Tw) (v : Int64), Z.2.2.1 = τ.2.2.1 → spComes Z k v = tI (tB Z 58 (vp_updL (Z.2.2.2 58) a2 v)) 61 (spUp v) := fun Z v hZ => by unfold spComes; rw [hZ, h46]
      rw [e46 (spCr (tI (tI τ 64 0) 66 (τ.1 66 + 1)) _) _ rfl] at eD
      refine ⟨_, rfl, (by first | exact (hS1.mono (fun k h => by cases h) (fun k h => h) (fun k h => by cases h)) | exact ((hS1.mono (fun k h => by cases h) (fun k h => h) (fun k h => by cases h)).I _ rfl) | exact (((hS1.mono (fun k h => by cases h) (fun k h => h) (fun k h => by cases h)).I _ rfl).I _ rfl) | exact ((((hS1.mono (fun k h => by cases h) (fun k h => h) (fun k h => by cases h)).I _ rfl).I _ rfl).I _ rfl) | exact ((((hS1.mono (fun k h => by cases h) (fun k h => h) (fun k h => by cases h)).B _ rfl).I _ rfl).I _ rfl) | exact (((((hS1.mono (fun k h => by cases h) (fun k h => h) (fun k h => by cases h)).B _ rfl).I _ rfl).I _ rfl).I _ rfl) | exact ((((((hS1.mono (fun k h => by cases h) (fun k h => h) (fun k h => by cases h)).B _ rfl).I _ rfl).I _ rfl).B _ rfl).I _ rfl)), Or.inr ⟨by rw [eA]; decide, by rw [eD], ?_, ?_⟩⟩
      · rw [eD]
        exact (by
        intro q hq
        simp only [rlM, List.mem_cons, List.not_mem_nil, or_false] at hq
        rcases hq with rfl | rfl | rfl | rfl | rfl | rfl | rfl | rfl | rfl | rfl | rfl | rfl | rfl | rfl | rfl | rfl | rfl | rfl
        · exact hI1.at 8 0 (by decide)
        · exact hI1.at 6 5 (by decide)
        · exact hI1.at 7 41 (by decide)
        · exact hI1.at 9 31 (by decide)
        · exact hI1.at 10 32 (by decide)
        · exact hI1.at 101 29 (by decide)
        · exact hI1.at 25 60 (by decide)
        · rfl
        · exact hI1.at 20 62 (by decide)
        · show ξ1.1 21 + (2 + (spFew (abL (τ.2.2.2 58 a0)))) = τ.1 63 + (2 + (spFew (abL (τ.2.2.2 58 a0))))
          rw [hI1.at 21 63 (by decide)]
        · exact (hI1.at 22 64 (by decide)).trans h64
        · show (ξ1.1 24) + 1 = (τ.1 66) + 1
          rw [hI1.at 24 66 (by decide)]
        · exact hI1.at 45 78 (by decide)
        · exact hI1.at 46 79 (by decide)
        · exact hI1.at 47 81 (by decide)
        · exact hI1.at 48 77 (by decide)
        · exact hI1.at 55 82 (by decide)
        · exact hI1.at 23 65 (by decide))
      · rw [eD]
        exact (by
        intro q hq
        simp only [rlB, List.mem_cons, List.not_mem_nil, or_false] at hq
        rcases hq with rfl | rfl
        · first | exact hB1 (18, 58) (by decide) | rfl | exact congrArg (fun z => vp_updL z _ _) (hB1 (18, 58) (by decide)) | exact congrArg (fun z => vp_updL (vp_updL z _ _) _ _) (hB1 (18, 58) (by decide)) | (rw [← hI.at 20 62 (by decide)]; exact congrArg (fun z => vp_updL z _ _) (hB1 (18, 58) (by decide)))
        · first | exact hB1 (19, 59) (by decide) | rfl | exact congrArg (fun z => vp_updL z _ _) (hB1 (19, 59) (by decide)) | exact congrArg (fun z => vp_updL (vp_updL z _ _) _ _) (hB1 (19, 59) (by decide)) | (rw [← hI.at 20 62 (by decide)]; exact congrArg (fun z => vp_updL z _ _) (hB1 (19, 59) (by decide))))
    · refine e_ldc2 rfl q956 dX0_does_153 ?_
      refine e_goto 163 dX0_does_156 (by decide) ?_
      have hov : spOver (τ.2.2.2 58 a0) (τ.2.2.2 58 a1) := ⟨h132, Int64.not_le.mp h149⟩
      have hnal : (999999999999 : Int64) < abL 1000000000000 := by decide
      have hv := (abL_b (hb a0 ha0).1 (hb a0 ha0).2).1
      have hv2 := (abL_b (hb a0 ha0).1 (hb a0 ha0).2).2.1
      refine e_iload_n dX0_does_163 2 rfl rfl ?_
      refine e_iconst 2 dX0_does_164 rfl ?_
      refine e_aload_n dX0_does_165 0 rfl rfl rfl ?_
      refine e_lload_n dX0_does_166 3 rfl rfl ?_
      refine e_callS1 (As := [.long (τ.2.2.2 58 a0)]) (rest := [.ref 0, .int 2, .int (nI k), .long 1000000000000, .ref (117 + b), .ref 0]) dX0_does_167 rfl msX0_371 (m_absL (τ.2.2.2 58 a0)) (Nat.le_of_ble_eq_true rfl) rfl rfl (Nat.le_of_ble_eq_true rfl) (Nat.zero_le _) (Nat.zero_le _) ?_
      refine e_callVQ (As := [.long (abL (τ.2.2.2 58 a0))]) (rest := [.int 2, .int (nI k), .long 1000000000000, .ref (117 + b), .ref 0]) dX0_does_170 rfl mvX0_377 (xm_o0) rfl (x_least (ξ := ξ) (v := abL (τ.2.2.2 58 a0)) hv) (Nat.le_of_ble_eq_true rfl) rfl rfl (Nat.le_of_ble_eq_true rfl) (Nat.zero_le _) (Nat.zero_le _) (fun v0 M0 h0_ _ => ?_)
      obtain ⟨ξ1, rfl, rfl, hS1, -⟩ := h0_
      rw [few_eq hv hv2]
      refine e_iadd dX0_does_173 ?_
      refine e_callVQ (As := [.ref (117 + b), .long 1000000000000, .int (nI k), .int (2 + (spFew (abL (τ.2.2.2 58 a0))))]) (rest := []) dX0_does_174 rfl mvX0_367 (xm_o0) rfl (x_results (ξ := ξ1) hm hk hcd0 hcd1 hz0 hz1 hz2 hz3 ha0 ha1 ha2 ha3 1000000000000 (2 + (spFew (abL (τ.2.2.2 58 a0))))) (Nat.le_of_ble_eq_true rfl) rfl rfl (Nat.le_of_ble_eq_true rfl) (Nat.zero_le _) (Nat.zero_le _) (fun v0 M0 h0_ _ => ?_)
      obtain ⟨rfl, ⟨hal, rfl⟩ | ⟨hal, rfl⟩⟩ := h0_
      rotate_left
      · exact absurd hnal hal
      refine e_goto 273 dX0_does_177 (by decide) ?_
      refine e_aload_n dX0_does_273 0 rfl rfl rfl ?_
      refine e_getf (v := (.int 1)) dX0_does_274 rfl fX0_343 (xm_o0) rfl ?_
      refine e_if_ne_t 290 (by decide) dX0_does_277 (by decide) ?_
      refine e_iload_n dX0_does_290 2 rfl rfl ?_
      refine e_iconst 1 dX0_does_291 rfl ?_
      refine e_iaddN k 1 dX0_does_292 ?_
      refine e_ireturn dX0_does_293 rfl rfl (Nat.zero_le _) (Nat.zero_le _) ?_
      have hI1 : RIm ξ1 τ := fun q hq => (hS1.1 q.1 rfl).trans (hI q hq)
      have hB1 : RB ξ1 τ := fun q hq => (hS1.2.2.1 q.1 rfl).trans (hB q hq)
      have eA : spAlm τ k = (if spOver (τ.2.2.2 58 a0) (τ.2.2.2 58 a1) then 1 else 0) := by unfold spAlm; rw [eK, if_neg (by decide), if_neg (by decide), if_pos rfl, hX, hY]
      rw [if_pos hov] at eA
      refine ⟨_, rfl, (by first | exact (hS1.mono (fun k h => by cases h) (fun k h => h) (fun k h => by cases h)) | exact ((hS1.mono (fun k h => by cases h) (fun k h => h) (fun k h => by cases h)).I _ rfl) | exact (((hS1.mono (fun k h => by cases h) (fun k h => h) (fun k h => by cases h)).I _ rfl).I _ rfl) | exact ((((hS1.mono (fun k h => by cases h) (fun k h => h) (fun k h => by cases h)).I _ rfl).I _ rfl).I _ rfl) | exact ((((hS1.mono (fun k h => by cases h) (fun k h => h) (fun k h => by cases h)).B _ rfl).I _ rfl).I _ rfl) | exact (((((hS1.mono (fun k h => by cases h) (fun k h => h) (fun k h => by cases h)).B _ rfl).I _ rfl).I _ rfl).I _ rfl) | exact ((((((hS1.mono (fun k h => by cases h) (fun k h => h) (fun k h => by cases h)).B _ rfl).I _ rfl).I _ rfl).B _ rfl).I _ rfl)), Or.inl ⟨by rw [eA]; decide, rfl, ?_, hB1⟩⟩
      rw [eA]
      exact (by
        intro q hq
        simp only [rlM, List.mem_cons, List.not_mem_nil, or_false] at hq
        rcases hq with rfl | rfl | rfl | rfl | rfl | rfl | rfl | rfl | rfl | rfl | rfl | rfl | rfl | rfl | rfl | rfl | rfl | rfl
        · exact hI1.at 8 0 (by decide)
        · exact hI1.at 6 5 (by decide)
        · exact hI1.at 7 41 (by decide)
        · exact hI1.at 9 31 (by decide)
        · exact hI1.at 10 32 (by decide)
        · exact hI1.at 101 29 (by decide)
        · exact hI1.at 25 60 (by decide)
        · exact hI1.at 26 61 (by decide)
        · exact hI1.at 20 62 (by decide)
        · exact hI1.at 21 63 (by decide)
        · rfl
        · exact hI1.at 24 66 (by decide)
        · exact hI1.at 45 78 (by decide)
        · exact hI1.at 46 79 (by decide)
        · exact hI1.at 47 81 (by decide)
        · exact hI1.at 48 77 (by decide)
        · exact hI1.at 55 82 (by decide)
        · rfl)

set_option maxHeartbeats 4000000 in
set_option maxRecDepth 100000 in
/-- WheelTables.does -/
theorem x_does4 {ξ : Xs} {mid dyn : List ACell} (hm : mid.length = 61) {b k : Nat} (hk : k < 40) {cw cp : Int32} {cv : Int64} {at_ : Nat → Int32} (hcd0 : dyn[b]? = some (.inr (7, [.int 4, .ref (117 + b + 1), .long cv, .int cw, .int cp]))) (hcd1 : dyn[b + 1]? = some (.inl (0, 4, .inl at_))) {τ : Tw} (hI : RIm ξ τ) (hB : RB ξ τ) (h64 : τ.1 64 = 0) {a0 a1 a2 a3 : Nat} (hz0 : at_ 0 = nI a0) (hz1 : at_ 1 = nI a1) (hz2 : at_ 2 = nI a2) (hz3 : at_ 3 = nI a3) (ha0 : a0 < 20) (ha1 : a1 < 20) (ha2 : a2 < 20) (ha3 : a3 < 20) (hb : ∀ p, p < 20 → -999999999999 ≤ τ.2.2.2 58 p ∧ τ.2.2.2 58 p ≤ 999999999999) (eK : τ.2.2.1 43 k = 4) (hX : spX τ k = τ.2.2.2 58 a0) (hY : spY τ k = τ.2.2.2 58 a1) (h46 : ix (τ.2.2.1 46 k) = a2) (h47 : ix (τ.2.2.1 47 k) = a3) : Ct yX0_does (ws_ yX0_does cX0_does 7 (some .int)) 3 0 0 [.ref 0, .ref (117 + b), .int (nI k)] (XM ξ mid dyn) (DoX mid dyn ξ τ k) noX := by
  refine Ct.of (ini := false) (ls := [some (.ref 0), some (.ref (117 + b)), some (.int (nI k)), none, none, none, none]) (by decide) (Nat.le_of_ble_eq_true rfl) (fun h => by cases h) rfl ?_
  refine e_aload_n dX0_does_0 0 rfl rfl rfl ?_
  refine e_getf (v := (.ref 13)) dX0_does_1 rfl fX0_73 (xm_o0) rfl ?_
  refine e_aload_n dX0_does_4 1 rfl rfl rfl ?_
  refine e_getf (v := (.ref (117 + b + 1))) dX0_does_5 rfl fX0_362 ((xm_d hm b).trans hcd0) rfl ?_
  refine e_iconst 0 dX0_does_8 rfl ?_
  refine e_iald (f := at_) (j := 0) dX0_does_9 ((show (XM _ mid dyn)[117 + b + 1]? = _ from (xm_d hm (b + 1)).trans hcd1)) rfl (by omega) (by decide) ?_
  refine e_top (congrArg Value.int hz0) ?_
  refine e_lald (f := ξ.2.2.2.1 18) (j := a0) dX0_does_10 (xm_a18) rfl (by omega) (by decide) ?_
  refine e_top (congrArg Value.long (congrFun (hB.at 18 58 (by decide)) _)) ?_
  refine e_lstore_n dX0_does_11 3 rfl (ls_s (ls_s (ls_1 rfl))) (ln_s (ln_s (ln_s (ln_s ln_0)))) (Nat.le_of_ble_eq_true rfl) ?_
  refine e_aload_n dX0_does_12 0 rfl rfl rfl ?_
  refine e_getf (v := (.ref 13)) dX0_does_13 rfl fX0_73 (xm_o0) rfl ?_
  refine e_aload_n dX0_does_16 1 rfl rfl rfl ?_
  refine e_getf (v := (.ref (117 + b + 1))) dX0_does_17 rfl fX0_362 ((xm_d hm b).trans hcd0) rfl ?_
  refine e_iconst 1 dX0_does_20 rfl ?_
  refine e_iald (f := at_) (j := 1) dX0_does_21 ((show (XM _ mid dyn)[117 + b + 1]? = _ from (xm_d hm (b + 1)).trans hcd1)) rfl (by omega) (by decide) ?_
  refine e_top (congrArg Value.int hz1) ?_
  refine e_lald (f := ξ.2.2.2.1 18) (j := a1) dX0_does_22 (xm_a18) rfl (by omega) (by decide) ?_
  refine e_top (congrArg Value.long (congrFun (hB.at 18 58 (by decide)) _)) ?_
  refine e_lstore dX0_does_23 (ls_s (ls_s (ls_s (ls_s (ls_1 rfl))))) (ln_s (ln_s (ln_s (ln_s (ln_s (ln_s ln_0)))))) (Nat.le_of_ble_eq_true rfl) ?_
  refine e_aload_n dX0_does_25 1 rfl rfl rfl ?_
  refine e_getf (v := (.int 4)) dX0_does_26 rfl fX0_364 ((xm_d hm b).trans hcd0) rfl ?_
  refine e_tableIn (off := 151) 180 dX0_does_29 (by decide) (by decide) (by decide) (by decide) ?_
  refine e_aload_n dX0_does_180 0 rfl rfl rfl ?_
  refine e_aload_n dX0_does_181 1 rfl rfl rfl ?_
  refine e_lload_n dX0_does_182 3 rfl rfl ?_
  refine e_lload dX0_does_183 rfl ?_
  refine e_iload_n dX0_does_185 2 rfl rfl ?_
  refine e_callVQ (As := [.ref (117 + b), .long (τ.2.2.2 58 a0), .long (τ.2.2.2 58 a1), .int (nI k)]) (rest := []) dX0_does_186 rfl mvX0_381 (xm_o0) rfl (x_divides hm hk hcd0 hcd1 hz0 hz1 hz2 hz3 ha0 ha1 ha2 ha3 (τ.2.2.2 58 a0) (τ.2.2.2 58 a1) (fun hy => ⟨(abL_div (hb a0 ha0).1 (hb a0 ha0).2 hy).1, (abL_div (hb a0 ha0).1 (hb a0 ha0).2 hy).2.1⟩)) (Nat.le_of_ble_eq_true rfl) rfl rfl (Nat.le_of_ble_eq_true rfl) (Nat.zero_le _) (Nat.zero_le _) (fun v0 M0 h0_ _ => ?_)
  obtain ⟨rfl, ⟨hal, rfl⟩ | ⟨hal, ξ1, hS1, rfl⟩⟩ := h0_
  · refine e_goto 273 dX0_does_189 (by decide) ?_
    refine e_aload_n dX0_does_273 0 rfl rfl rfl ?_
    refine e_getf (v := (.int 2)) dX0_does_274 rfl fX0_343 (xm_o0) rfl ?_
    refine e_if_ne_t 290 (by decide) dX0_does_277 (by decide) ?_
    refine e_iload_n dX0_does_290 2 rfl rfl ?_
    refine e_iconst 1 dX0_does_291 rfl ?_
    refine e_iaddN k 1 dX0_does_292 ?_
    refine e_ireturn dX0_does_293 rfl rfl (Nat.zero_le _) (Nat.zero_le _) ?_
    have hI1 := hI
    have hB1 := hB
    have eA : spAlm τ k = (if τ.2.2.2 58 a1 = 0 then 2 else 0) := by unfold spAlm; rw [eK, if_neg (by decide), if_neg (by decide), if_neg (by decide), if_pos rfl, hY]
    rw [if_pos hal] at eA
    refine ⟨_, rfl, (by first | exact Sy.rf | exact (Sy.rf.I _ rfl) | exact ((Sy.rf.I _ rfl).I _ rfl) | exact (((Sy.rf.I _ rfl).I _ rfl).I _ rfl) | exact (((Sy.rf.B _ rfl).I _ rfl).I _ rfl) | exact ((((Sy.rf.B _ rfl).I _ rfl).I _ rfl).I _ rfl) | exact (((((Sy.rf.B _ rfl).I _ rfl).I _ rfl).B _ rfl).I _ rfl)), Or.inl ⟨by rw [eA]; decide, rfl, ?_, hB1⟩⟩
    rw [eA]
    exact (by
      intro q hq
      simp only [rlM, List.mem_cons, List.not_mem_nil, or_false] at hq
      rcases hq with rfl | rfl | rfl | rfl | rfl | rfl | rfl | rfl | rfl | rfl | rfl | rfl | rfl | rfl | rfl | rfl | rfl | rfl
      · exact hI1.at 8 0 (by decide)
      · exact hI1.at 6 5 (by decide)
      · exact hI1.at 7 41 (by decide)
      · exact hI1.at 9 31 (by decide)
      · exact hI1.at 10 32 (by decide)
      · exact hI1.at 101 29 (by decide)
      · exact hI1.at 25 60 (by decide)
      · exact hI1.at 26 61 (by decide)
      · exact hI1.at 20 62 (by decide)
      · exact hI1.at 21 63 (by decide)
      · rfl
      · exact hI1.at 24 66 (by decide)
      · exact hI1.at 45 78 (by decide)
      · exact hI1.at 46 79 (by decide)
      · exact hI1.at 47 81 (by decide)
      · exact hI1.at 48 77 (by decide)
      · exact hI1.at 55 82 (by decide)
      · rfl)
  · refine e_goto 273 dX0_does_189 (by decide) ?_
    refine e_aload_n dX0_does_273 0 rfl rfl rfl ?_
    refine e_getf (v := (.int (ξ1.1 22))) dX0_does_274 rfl fX0_343 (xm_o0) rfl ?_
    refine e_top (congrArg Value.int ((hS1.1 22 rfl).trans ((hI.at 22 64 (by decide)).trans h64))) ?_
    refine e_if_ne_f (by decide) 290 dX0_does_277 (by decide) ?_
    refine e_aload_n dX0_does_280 0 rfl rfl rfl ?_
    refine e_dup dX0_does_281 rfl ?_
    refine e_getf (v := (.int (ξ1.1 24))) dX0_does_282 rfl fX0_349 (xm_o0) rfl ?_
    refine e_iconst 1 dX0_does_285 rfl ?_
    refine e_iadd dX0_does_286 ?_
    refine e_xputI dX0_does_287 rfl pX0_349 rfl (xm_o0) (Nat.le_of_ble_eq_true rfl) (xm_f24 _) ?_
    refine e_iload_n dX0_does_290 2 rfl rfl ?_
    refine e_iconst 1 dX0_does_291 rfl ?_
    refine e_iaddN k 1 dX0_does_292 ?_
    refine e_ireturn dX0_does_293 rfl rfl (Nat.zero_le _) (Nat.zero_le _) ?_
    have hI1 : RIm ξ1 τ := fun q hq => (hS1.1 q.1 rfl).trans (hI q hq)
    have hB1 : RB ξ1 τ := fun q hq => (hS1.2.2.1 q.1 rfl).trans (hB q hq)
    have eA : spAlm τ k = (if τ.2.2.2 58 a1 = 0 then 2 else 0) := by unfold spAlm; rw [eK, if_neg (by decide), if_neg (by decide), if_neg (by decide), if_pos rfl, hY]
    rw [if_neg hal] at eA
    have eD : spDoes (tI (tI τ 64 0) 66 (τ.1 66 + 1)) k = (k + 1, spRest (spComes (spCr (tI (tI τ 64 0) 66 (τ.1 66 + 1)) (3 + spFew (abL (τ.2.2.2 58 a0 / τ.2.2.2 58 a1)))) k (τ.2.2.2 58 a0 / τ.2.2.2 58 a1)) a3 (τ.2.2.2 58 a0 - τ.2.2.2 58 a0 / τ.2.2.2 58 a1 * τ.2.2.2 58 a1)) := by unfold spDoes; rw [show (tI (tI τ 64 0) 66 (τ.1 66 + 1)).2.2.1 43 k = 4 from eK, if_neg (by decide), if_neg (by decide), if_neg (by decide), if_neg (by decide), if_pos rfl, show spX (tI (tI τ 64 0) 66 (τ.1 66 + 1)) k = τ.2.2.2 58 a0 from hX, show spY (tI (tI τ 64 0) 66 (τ.1 66 + 1)) k = τ.2.2.2 58 a1 from hY, show ix ((tI (tI τ 64 0) 66 (τ.1 66 + 1)).2.2.1 47 k) = a3 from h47]
    have e46 : ∀ (Z : Tw) (v : Int64), Z.2.2.1 = τ.2.2.1 → spComes Z k v = tI (tB Z 58 (vp_updL (Z.2.2.2 58) a2 v)) 61 (spUp v) := fun Z v hZ => by unfold spComes; rw [hZ, h46]
    rw [e46 (spCr (tI (tI τ 64 0) 66 (τ.1 66 + 1)) _) _ rfl] at eD
    refine ⟨_, rfl, (by first | exact (hS1.mono (fun k h => by cases h) (fun k h => h) (fun k h => by cases h)) | exact ((hS1.mono (fun k h => by cases h) (fun k h => h) (fun k h => by cases h)).I _ rfl) | exact (((hS1.mono (fun k h => by cases h) (fun k h => h) (fun k h => by cases h)).I _ rfl).I _ rfl) | exact ((((hS1.mono (fun k h => by cases h) (fun k h => h) (fun k h => by cases h)).I _ rfl).I _ rfl).I _ rfl) | exact ((((hS1.mono (fun k h => by cases h) (fun k h => h) (fun k h => by cases h)).B _ rfl).I _ rfl).I _ rfl) | exact (((((hS1.mono (fun k h => by cases h) (fun k h => h) (fun k h => by cases h)).B _ rfl).I _ rfl).I _ rfl).I _ rfl) | exact ((((((hS1.mono (fun k h => by cases h) (fun k h => h) (fun k h => by cases h)).B _ rfl).I _ rfl).I _ rfl).B _ rfl).I _ rfl)), Or.inr ⟨by rw [eA]; decide, by rw [eD], ?_, ?_⟩⟩
    · rw [eD]
      exact (by
      intro q hq
      simp only [rlM, List.mem_cons, List.not_mem_nil, or_false] at hq
      rcases hq with rfl | rfl | rfl | rfl | rfl | rfl | rfl | rfl | rfl | rfl | rfl | rfl | rfl | rfl | rfl | rfl | rfl | rfl
      · exact hI1.at 8 0 (by decide)
      · exact hI1.at 6 5 (by decide)
      · exact hI1.at 7 41 (by decide)
      · exact hI1.at 9 31 (by decide)
      · exact hI1.at 10 32 (by decide)
      · exact hI1.at 101 29 (by decide)
      · exact hI1.at 25 60 (by decide)
      · rfl
      · exact hI1.at 20 62 (by decide)
      · show ξ1.1 21 + (3 + spFew (abL (τ.2.2.2 58 a0 / τ.2.2.2 58 a1))) = τ.1 63 + (3 + spFew (abL (τ.2.2.2 58 a0 / τ.2.2.2 58 a1)))
        rw [hI1.at 21 63 (by decide)]
      · exact (hI1.at 22 64 (by decide)).trans h64
      · show (ξ1.1 24) + 1 = (τ.1 66) + 1
        rw [hI1.at 24 66 (by decide)]
      · exact hI1.at 45 78 (by decide)
      · exact hI1.at 46 79 (by decide)
      · exact hI1.at 47 81 (by decide)
      · exact hI1.at 48 77 (by decide)
      · exact hI1.at 55 82 (by decide)
      · exact hI1.at 23 65 (by decide))
    · rw [eD]
      exact (by
      intro q hq
      simp only [rlB, List.mem_cons, List.not_mem_nil, or_false] at hq
      rcases hq with rfl | rfl
      · first | exact hB1 (18, 58) (by decide) | rfl | exact congrArg (fun z => vp_updL z _ _) (hB1 (18, 58) (by decide)) | exact congrArg (fun z => vp_updL (vp_updL z _ _) _ _) (hB1 (18, 58) (by decide)) | (rw [← hI.at 20 62 (by decide)]; exact congrArg (fun z => vp_updL z _ _) (hB1 (18, 58) (by decide)))
      · first | exact hB1 (19, 59) (by decide) | rfl | exact congrArg (fun z => vp_updL z _ _) (hB1 (19, 59) (by decide)) | exact congrArg (fun z => vp_updL (vp_updL z _ _) _ _) (hB1 (19, 59) (by decide)) | (rw [← hI.at 20 62 (by decide)]; exact congrArg (fun z => vp_updL z _ _) (hB1 (19, 59) (by decide))))

set_option maxHeartbeats 4000000 in
set_option maxRecDepth 100000 in
/-- WheelTables.does -/
theorem x_does5 {ξ : Xs} {mid dyn : List ACell} (hm : mid.length = 61) {b k : Nat} (hk : k < 40) {cw cp : Int32} {cv : Int64} {at_ : Nat → Int32} (hcd0 : dyn[b]? = some (.inr (7, [.int 5, .ref (117 + b + 1), .long cv, .int cw, .int cp]))) (hcd1 : dyn[b + 1]? = some (.inl (0, 4, .inl at_))) {τ : Tw} (hI : RIm ξ τ) (hB : RB ξ τ) (h64 : τ.1 64 = 0) {a0 a1 a2 a3 : Nat} (hz0 : at_ 0 = nI a0) (hz1 : at_ 1 = nI a1) (hz2 : at_ 2 = nI a2) (hz3 : at_ 3 = nI a3) (ha0 : a0 < 20) (ha1 : a1 < 20) (ha2 : a2 < 20) (ha3 : a3 < 20) (hb : ∀ p, p < 20 → -999999999999 ≤ τ.2.2.2 58 p ∧ τ.2.2.2 58 p ≤ 999999999999) (eK : τ.2.2.1 43 k = 5) (hX : spX τ k = τ.2.2.2 58 a0) {P : Nat} (hP : P ≤ 40) (e20 : ξ.1 20 = nI P) : Ct yX0_does (ws_ yX0_does cX0_does 7 (some .int)) 3 0 0 [.ref 0, .ref (117 + b), .int (nI k)] (XM ξ mid dyn) (DoX mid dyn ξ τ k) noX := by
  refine Ct.of (ini := false) (ls := [some (.ref 0), some (.ref (117 + b)), some (.int (nI k)), none, none, none, none]) (by decide) (Nat.le_of_ble_eq_true rfl) (fun h => by cases h) rfl ?_
  refine e_aload_n dX0_does_0 0 rfl rfl rfl ?_
  refine e_getf (v := (.ref 13)) dX0_does_1 rfl fX0_73 (xm_o0) rfl ?_
  refine e_aload_n dX0_does_4 1 rfl rfl rfl ?_
  refine e_getf (v := (.ref (117 + b + 1))) dX0_does_5 rfl fX0_362 ((xm_d hm b).trans hcd0) rfl ?_
  refine e_iconst 0 dX0_does_8 rfl ?_
  refine e_iald (f := at_) (j := 0) dX0_does_9 ((show (XM _ mid dyn)[117 + b + 1]? = _ from (xm_d hm (b + 1)).trans hcd1)) rfl (by omega) (by decide) ?_
  refine e_top (congrArg Value.int hz0) ?_
  refine e_lald (f := ξ.2.2.2.1 18) (j := a0) dX0_does_10 (xm_a18) rfl (by omega) (by decide) ?_
  refine e_top (congrArg Value.long (congrFun (hB.at 18 58 (by decide)) _)) ?_
  refine e_lstore_n dX0_does_11 3 rfl (ls_s (ls_s (ls_1 rfl))) (ln_s (ln_s (ln_s (ln_s ln_0)))) (Nat.le_of_ble_eq_true rfl) ?_
  refine e_aload_n dX0_does_12 0 rfl rfl rfl ?_
  refine e_getf (v := (.ref 13)) dX0_does_13 rfl fX0_73 (xm_o0) rfl ?_
  refine e_aload_n dX0_does_16 1 rfl rfl rfl ?_
  refine e_getf (v := (.ref (117 + b + 1))) dX0_does_17 rfl fX0_362 ((xm_d hm b).trans hcd0) rfl ?_
  refine e_iconst 1 dX0_does_20 rfl ?_
  refine e_iald (f := at_) (j := 1) dX0_does_21 ((show (XM _ mid dyn)[117 + b + 1]? = _ from (xm_d hm (b + 1)).trans hcd1)) rfl (by omega) (by decide) ?_
  refine e_top (congrArg Value.int hz1) ?_
  refine e_lald (f := ξ.2.2.2.1 18) (j := a1) dX0_does_22 (xm_a18) rfl (by omega) (by decide) ?_
  refine e_top (congrArg Value.long (congrFun (hB.at 18 58 (by decide)) _)) ?_
  refine e_lstore dX0_does_23 (ls_s (ls_s (ls_s (ls_s (ls_1 rfl))))) (ln_s (ln_s (ln_s (ln_s (ln_s (ln_s ln_0)))))) (Nat.le_of_ble_eq_true rfl) ?_
  refine e_aload_n dX0_does_25 1 rfl rfl rfl ?_
  refine e_getf (v := (.int 5)) dX0_does_26 rfl fX0_364 ((xm_d hm b).trans hcd0) rfl ?_
  refine e_tableIn (off := 163) 192 dX0_does_29 (by decide) (by decide) (by decide) (by decide) ?_
  refine e_aload_n dX0_does_192 0 rfl rfl rfl ?_
  refine e_lload_n dX0_does_193 3 rfl rfl ?_
  refine e_iload_n dX0_does_194 2 rfl rfl ?_
  refine e_callVQ (As := [.long (τ.2.2.2 58 a0), .int (nI k)]) (rest := []) dX0_does_195 rfl mvX0_385 (xm_o0) rfl (x_prints hP e20 (τ.2.2.2 58 a0)) (Nat.le_of_ble_eq_true rfl) rfl rfl (Nat.le_of_ble_eq_true rfl) (Nat.zero_le _) (Nat.zero_le _) (fun v0 M0 h0_ _ => ?_)
  obtain ⟨rfl, ⟨hal, rfl⟩ | ⟨hal, rfl⟩⟩ := h0_
  · refine e_goto 273 dX0_does_198 (by decide) ?_
    refine e_aload_n dX0_does_273 0 rfl rfl rfl ?_
    refine e_getf (v := (.int 3)) dX0_does_274 rfl fX0_343 (xm_o0) rfl ?_
    refine e_if_ne_t 290 (by decide) dX0_does_277 (by decide) ?_
    refine e_iload_n dX0_does_290 2 rfl rfl ?_
    refine e_iconst 1 dX0_does_291 rfl ?_
    refine e_iaddN k 1 dX0_does_292 ?_
    refine e_ireturn dX0_does_293 rfl rfl (Nat.zero_le _) (Nat.zero_le _) ?_
    have hI1 := hI
    have hB1 := hB
    have eA : spAlm τ k = (if τ.1 62 = 40 then 3 else 0) := by unfold spAlm; rw [eK, if_neg (by decide), if_neg (by decide), if_neg (by decide), if_neg (by decide), if_pos rfl]
    rw [if_pos (by rw [← hI.at 20 62 (by decide)]; exact hal)] at eA
    refine ⟨_, rfl, (by first | exact Sy.rf | exact (Sy.rf.I _ rfl) | exact ((Sy.rf.I _ rfl).I _ rfl) | exact (((Sy.rf.I _ rfl).I _ rfl).I _ rfl) | exact (((Sy.rf.B _ rfl).I _ rfl).I _ rfl) | exact ((((Sy.rf.B _ rfl).I _ rfl).I _ rfl).I _ rfl) | exact (((((Sy.rf.B _ rfl).I _ rfl).I _ rfl).B _ rfl).I _ rfl)), Or.inl ⟨by rw [eA]; decide, rfl, ?_, hB1⟩⟩
    rw [eA]
    exact (by
      intro q hq
      simp only [rlM, List.mem_cons, List.not_mem_nil, or_false] at hq
      rcases hq with rfl | rfl | rfl | rfl | rfl | rfl | rfl | rfl | rfl | rfl | rfl | rfl | rfl | rfl | rfl | rfl | rfl | rfl
      · exact hI1.at 8 0 (by decide)
      · exact hI1.at 6 5 (by decide)
      · exact hI1.at 7 41 (by decide)
      · exact hI1.at 9 31 (by decide)
      · exact hI1.at 10 32 (by decide)
      · exact hI1.at 101 29 (by decide)
      · exact hI1.at 25 60 (by decide)
      · exact hI1.at 26 61 (by decide)
      · exact hI1.at 20 62 (by decide)
      · exact hI1.at 21 63 (by decide)
      · rfl
      · exact hI1.at 24 66 (by decide)
      · exact hI1.at 45 78 (by decide)
      · exact hI1.at 46 79 (by decide)
      · exact hI1.at 47 81 (by decide)
      · exact hI1.at 48 77 (by decide)
      · exact hI1.at 55 82 (by decide)
      · rfl)
  · refine e_goto 273 dX0_does_198 (by decide) ?_
    refine e_aload_n dX0_does_273 0 rfl rfl rfl ?_
    refine e_getf (v := (.int (ξ.1 22))) dX0_does_274 rfl fX0_343 (xm_o0) rfl ?_
    refine e_top (congrArg Value.int ((hI.at 22 64 (by decide)).trans h64)) ?_
    refine e_if_ne_f (by decide) 290 dX0_does_277 (by decide) ?_
    refine e_aload_n dX0_does_280 0 rfl rfl rfl ?_
    refine e_dup dX0_does_281 rfl ?_
    refine e_getf (v := (.int (ξ.1 24))) dX0_does_282 rfl fX0_349 (xm_o0) rfl ?_
    refine e_iconst 1 dX0_does_285 rfl ?_
    refine e_iadd dX0_does_286 ?_
    refine e_xputI dX0_does_287 rfl pX0_349 rfl (xm_o0) (Nat.le_of_ble_eq_true rfl) (xm_f24 _) ?_
    refine e_iload_n dX0_does_290 2 rfl rfl ?_
    refine e_iconst 1 dX0_does_291 rfl ?_
    refine e_iaddN k 1 dX0_does_292 ?_
    refine e_ireturn dX0_does_293 rfl rfl (Nat.zero_le _) (Nat.zero_le _) ?_
    have hI1 := hI
    have hB1 := hB
    have eA : spAlm τ k = (if τ.1 62 = 40 then 3 else 0) := by unfold spAlm; rw [eK, if_neg (by decide), if_neg (by decide), if_neg (by decide), if_neg (by decide), if_pos rfl]
    rw [if_neg (show ¬ τ.1 62 = 40 from fun z => hal ((hI.at 20 62 (by decide)).trans z))] at eA
    have eD : spDoes (tI (tI τ 64 0) 66 (τ.1 66 + 1)) k = (k + 1, spCr (tI (tB (tI (tI τ 64 0) 66 (τ.1 66 + 1)) 59 (vp_updL (τ.2.2.2 59) (ix (τ.1 62)) (τ.2.2.2 58 a0))) 62 (τ.1 62 + 1)) 1) := by unfold spDoes; rw [show (tI (tI τ 64 0) 66 (τ.1 66 + 1)).2.2.1 43 k = 5 from eK, if_neg (by decide), if_neg (by decide), if_neg (by decide), if_neg (by decide), if_neg (by decide), if_pos rfl, show spX (tI (tI τ 64 0) 66 (τ.1 66 + 1)) k = τ.2.2.2 58 a0 from hX]; rfl
    refine ⟨_, rfl, (by first | exact Sy.rf | exact (Sy.rf.I _ rfl) | exact ((Sy.rf.I _ rfl).I _ rfl) | exact (((Sy.rf.I _ rfl).I _ rfl).I _ rfl) | exact (((Sy.rf.B _ rfl).I _ rfl).I _ rfl) | exact ((((Sy.rf.B _ rfl).I _ rfl).I _ rfl).I _ rfl) | exact (((((Sy.rf.B _ rfl).I _ rfl).I _ rfl).B _ rfl).I _ rfl)), Or.inr ⟨by rw [eA]; decide, by rw [eD], ?_, ?_⟩⟩
    · rw [eD]
      exact (by
      intro q hq
      simp only [rlM, List.mem_cons, List.not_mem_nil, or_false] at hq
      rcases hq with rfl | rfl | rfl | rfl | rfl | rfl | rfl | rfl | rfl | rfl | rfl | rfl | rfl | rfl | rfl | rfl | rfl | rfl
      · exact hI1.at 8 0 (by decide)
      · exact hI1.at 6 5 (by decide)
      · exact hI1.at 7 41 (by decide)
      · exact hI1.at 9 31 (by decide)
      · exact hI1.at 10 32 (by decide)
      · exact hI1.at 101 29 (by decide)
      · exact hI1.at 25 60 (by decide)
      · exact hI1.at 26 61 (by decide)
      · show ξ.1 20 + 1 = τ.1 62 + 1
        rw [hI1.at 20 62 (by decide)]
      · show ξ.1 21 + 1 = τ.1 63 + 1
        rw [hI1.at 21 63 (by decide)]
      · exact (hI1.at 22 64 (by decide)).trans h64
      · show (ξ.1 24) + 1 = (τ.1 66) + 1
        rw [hI1.at 24 66 (by decide)]
      · exact hI1.at 45 78 (by decide)
      · exact hI1.at 46 79 (by decide)
      · exact hI1.at 47 81 (by decide)
      · exact hI1.at 48 77 (by decide)
      · exact hI1.at 55 82 (by decide)
      · exact hI1.at 23 65 (by decide))
    · rw [eD]
      exact (by
      intro q hq
      simp only [rlB, List.mem_cons, List.not_mem_nil, or_false] at hq
      rcases hq with rfl | rfl
      · first | exact hB1 (18, 58) (by decide) | rfl | exact congrArg (fun z => vp_updL z _ _) (hB1 (18, 58) (by decide)) | exact congrArg (fun z => vp_updL (vp_updL z _ _) _ _) (hB1 (18, 58) (by decide)) | (rw [← hI.at 20 62 (by decide)]; exact congrArg (fun z => vp_updL z _ _) (hB1 (18, 58) (by decide)))
      · first | exact hB1 (19, 59) (by decide) | rfl | exact congrArg (fun z => vp_updL z _ _) (hB1 (19, 59) (by decide)) | exact congrArg (fun z => vp_updL (vp_updL z _ _) _ _) (hB1 (19, 59) (by decide)) | (rw [← hI.at 20 62 (by decide)]; exact congrArg (fun z => vp_updL z _ _) (hB1 (19, 59) (by decide))))

