/-! ===== the twin: engines ===== -/
set_option maxHeartbeats 4000000 in
set_option maxRecDepth 100000 in
/-- WheelTablesModel.isEngine -/
theorem t_isEngine {pre post : List ACell} {τ : Tw} (hp : pre.length = 56) (hI : InvE τ) (e : Int32) : Ct yX4_isEngine (ws_ yX4_isEngine cX4_isEngine 2 (some .boolean)) 1 0 0 [.ref 56, .int e] (TW pre τ post) (QB (IsE e τ) (TW pre τ post)) noX := by
  have hE4 := hI.1
  refine Ct.of (ini := false) (ls := [some (.ref 56), some (.int e)]) (by decide) (Nat.le_of_ble_eq_true rfl) (fun h => by cases h) rfl ?_
  refine e_iload_n dX4_isEngine_0 1 rfl rfl ?_
  refine e_i2l dX4_isEngine_1 ?_
  refine e_lconst 0 dX4_isEngine_2 rfl ?_
  refine e_aload_n dX4_isEngine_3 0 rfl rfl rfl ?_
  refine e_getf (v := .int (τ.1 5)) dX4_isEngine_4 rfl fX4_236 (tw_o hp) rfl ?_
  refine e_iconst 1 dX4_isEngine_7 rfl ?_
  refine e_isub dX4_isEngine_8 ?_
  refine e_i2l dX4_isEngine_9 ?_
  refine e_callSB (As := [.long e.toInt64, .long 0, .long (((τ.1 5) - 1).toInt64)]) (rest := []) dX4_isEngine_10 rfl msX4_239 (t_isInI e 0 ((τ.1 5) - 1) rfl (by decide) rfl) (Nat.le_of_ble_eq_true rfl) rfl rfl (Nat.le_of_ble_eq_true rfl) (Nat.zero_le _) (Nat.zero_le _) (fun h10 => ?_) (fun h10 => ?_)
  · refine e_ireturn dX4_isEngine_13 rfl rfl (Nat.zero_le _) (Nat.zero_le _) ?_
    exact ⟨rfl, Or.inl ⟨⟨h10.1, by rw [hI.2.1]; exact (le_pred (by omega) e).mp (by rw [← hI.2.1]; exact h10.2)⟩, rfl⟩⟩
  · refine e_ireturn dX4_isEngine_13 rfl rfl (Nat.zero_le _) (Nat.zero_le _) ?_
    exact ⟨rfl, Or.inr ⟨(fun z => h10 ⟨z.1, by have z2 := z.2; rw [hI.2.1] at z2 ⊢; exact (le_pred (by omega) e).mpr z2⟩), rfl⟩⟩

set_option maxHeartbeats 4000000 in
set_option maxRecDepth 100000 in
/-- WheelTablesModel.isWheel -/
theorem t_isWheel {pre post : List ACell} {τ : Tw} (hp : pre.length = 56) (hI : InvE τ) (e x w : Int32) : Ct yX4_isWheel (ws_ yX4_isWheel cX4_isWheel 4 (some .boolean)) 2 0 0 [.ref 56, .int e, .int x, .int w] (TW pre τ post) (QB (IsWh e x w τ) (TW pre τ post)) noX := by
  refine Ct.of (ini := false) (ls := [some (.ref 56), some (.int e), some (.int x), some (.int w)]) (by decide) (Nat.le_of_ble_eq_true rfl) (fun h => by cases h) rfl ?_
  refine e_aload_n dX4_isWheel_0 0 rfl rfl rfl ?_
  refine e_iload_n dX4_isWheel_1 1 rfl rfl ?_
  refine e_callVB (As := [.int e]) (rest := []) dX4_isWheel_2 rfl mvX4_243 (tw_o hp) rfl (t_isEngine hp (by exact hI) e) (Nat.le_of_ble_eq_true rfl) rfl rfl (Nat.le_of_ble_eq_true rfl) (Nat.zero_le _) (Nat.zero_le _) (fun h2 => ?_) (fun h2 => ?_)
  · have h2 : (IsE e τ) := h2
    refine e_if_eq_f (by decide) 48 dX4_isWheel_5 (by decide) ?_
    obtain ⟨j, hj, hj4, rfl⟩ := eng_of hI h2
    obtain ⟨hO, hM⟩ := hI.2.2.1 j hj
    have hN := hO.F hj4
    obtain ⟨-, hA, hA2, hW1, hW, eA, eW, hM20, eM, hrd, hr⟩ := id hN
    have hU := hO.2.2.1.1
    have eU := hO.2.2.1.2
    refine e_iload_n dX4_isWheel_8 2 rfl rfl ?_
    refine e_i2l dX4_isWheel_9 ?_
    refine e_lconst 0 dX4_isWheel_10 rfl ?_
    refine e_aload_n dX4_isWheel_11 0 rfl rfl rfl ?_
    refine e_getf (v := .ref 60) dX4_isWheel_12 rfl fX4_20 (tw_o hp) rfl ?_
    refine e_iload_n dX4_isWheel_15 1 rfl rfl ?_
    refine e_iald (f := τ.2.2.1 6) (j := j) dX4_isWheel_16 (tw_a6 hp) rfl (by omega) (by decide) ?_
    refine e_top (congrArg Value.int eA) ?_
    refine e_iconst 1 dX4_isWheel_17 rfl ?_
    refine e_isubN (gA τ j) 1 (by omega) dX4_isWheel_18 ?_
    refine e_i2l dX4_isWheel_19 ?_
    refine e_callSB (As := [.long x.toInt64, .long 0, .long ((nI ((gA τ j) - 1)).toInt64)]) (rest := []) dX4_isWheel_20 rfl msX4_239 (t_isInI x 0 (nI ((gA τ j) - 1)) rfl (by decide) rfl) (Nat.le_of_ble_eq_true rfl) rfl rfl (Nat.le_of_ble_eq_true rfl) (Nat.zero_le _) (Nat.zero_le _) (fun h20 => ?_) (fun h20 => ?_)
    · refine e_if_eq_f (by decide) 48 dX4_isWheel_23 (by decide) ?_
      refine e_iload_n dX4_isWheel_26 3 rfl rfl ?_
      refine e_i2l dX4_isWheel_27 ?_
      refine e_lconst 0 dX4_isWheel_28 rfl ?_
      refine e_aload_n dX4_isWheel_29 0 rfl rfl rfl ?_
      refine e_getf (v := .ref 61) dX4_isWheel_30 rfl fX4_23 (tw_o hp) rfl ?_
      refine e_iload_n dX4_isWheel_33 1 rfl rfl ?_
      refine e_iald (f := τ.2.2.1 7) (j := j) dX4_isWheel_34 (tw_a7 hp) rfl (by omega) (by decide) ?_
      refine e_top (congrArg Value.int eW) ?_
      refine e_iconst 1 dX4_isWheel_35 rfl ?_
      refine e_isubN (gW τ j) 1 (by omega) dX4_isWheel_36 ?_
      refine e_i2l dX4_isWheel_37 ?_
      refine e_callSB (As := [.long w.toInt64, .long 0, .long ((nI ((gW τ j) - 1)).toInt64)]) (rest := []) dX4_isWheel_38 rfl msX4_239 (t_isInI w 0 (nI ((gW τ j) - 1)) rfl (by decide) rfl) (Nat.le_of_ble_eq_true rfl) rfl rfl (Nat.le_of_ble_eq_true rfl) (Nat.zero_le _) (Nat.zero_le _) (fun h38 => ?_) (fun h38 => ?_)
      · refine e_if_eq_f (by decide) 48 dX4_isWheel_41 (by decide) ?_
        refine e_iconst 1 dX4_isWheel_44 rfl ?_
        refine e_goto 49 dX4_isWheel_45 (by decide) ?_
        refine e_ireturn dX4_isWheel_49 rfl rfl (Nat.zero_le _) (Nat.zero_le _) ?_
        exact ⟨rfl, Or.inl ⟨⟨h2, ⟨h20.1, by rw [ix_nI (by omega), eA]; exact (le_p (by omega) (by omega) x).mp h20.2⟩, h38.1, by rw [ix_nI (by omega), eW]; exact (le_p (by omega) (by omega) w).mp h38.2⟩, rfl⟩⟩
      · refine e_if_eq_t 48 (by decide) dX4_isWheel_41 (by decide) ?_
        refine e_iconst 0 dX4_isWheel_48 rfl ?_
        refine e_ireturn dX4_isWheel_49 rfl rfl (Nat.zero_le _) (Nat.zero_le _) ?_
        exact ⟨rfl, Or.inr ⟨(fun z => h38 ⟨z.2.2.1, by have z2 := z.2.2.2; rw [ix_nI (by omega), eW] at z2; exact (le_p (by omega) (by omega) w).mpr z2⟩), rfl⟩⟩
    · refine e_if_eq_t 48 (by decide) dX4_isWheel_23 (by decide) ?_
      refine e_iconst 0 dX4_isWheel_48 rfl ?_
      refine e_ireturn dX4_isWheel_49 rfl rfl (Nat.zero_le _) (Nat.zero_le _) ?_
      exact ⟨rfl, Or.inr ⟨(fun z => h20 ⟨z.2.1.1, by have z2 := z.2.1.2; rw [ix_nI (by omega), eA] at z2; exact (le_p (by omega) (by omega) x).mpr z2⟩), rfl⟩⟩
  · have h2 : ¬ (IsE e τ) := h2
    refine e_if_eq_t 48 (by decide) dX4_isWheel_5 (by decide) ?_
    refine e_iconst 0 dX4_isWheel_48 rfl ?_
    refine e_ireturn dX4_isWheel_49 rfl rfl (Nat.zero_le _) (Nat.zero_le _) ?_
    exact ⟨rfl, Or.inr ⟨(fun z => h2 z.1), rfl⟩⟩

set_option maxHeartbeats 4000000 in
set_option maxRecDepth 100000 in
/-- WheelTablesModel.figure -/
theorem t_figure {pre post : List ACell} {τ : Tw} (hp : pre.length = 56) (hI : InvE τ) (e x w : Int32) : Ct yX4_figure (ws_ yX4_figure cX4_figure 4 (some .int)) 3 0 0 [.ref 56, .int e, .int x, .int w] (TW pre τ post) (TQi pre post (sp_figure e x w τ)) noX := by
  refine Ct.of (ini := false) (ls := [some (.ref 56), some (.int e), some (.int x), some (.int w)]) (by decide) (Nat.le_of_ble_eq_true rfl) (fun h => by cases h) rfl ?_
  refine e_aload_n dX4_figure_0 0 rfl rfl rfl ?_
  refine e_iconst 0 dX4_figure_1 rfl ?_
  refine e_tputI dX4_figure_2 rfl pX4_212 rfl hp (Nat.le_of_ble_eq_true rfl) (tw_f1 _) ?_
  refine e_aload_n dX4_figure_5 0 rfl rfl rfl ?_
  refine e_iconst 0 dX4_figure_6 rfl ?_
  refine e_tputI dX4_figure_7 rfl pX4_215 rfl hp (Nat.le_of_ble_eq_true rfl) (tw_f0 _) ?_
  refine e_aload_n dX4_figure_10 0 rfl rfl rfl ?_
  refine e_iload_n dX4_figure_11 1 rfl rfl ?_
  refine e_iload_n dX4_figure_12 2 rfl rfl ?_
  refine e_iload_n dX4_figure_13 3 rfl rfl ?_
  refine e_callVB (As := [.int e, .int x, .int w]) (rest := []) dX4_figure_14 rfl mvX4_259 (tw_o hp) rfl (t_isWheel hp (by exact hI) e x w) (Nat.le_of_ble_eq_true rfl) rfl rfl (Nat.le_of_ble_eq_true rfl) (Nat.zero_le _) (Nat.zero_le _) (fun h14 => ?_) (fun h14 => ?_)
  · have h14 : (IsWh e x w τ) := h14
    refine e_if_eq_f (by decide) 34 dX4_figure_17 (by decide) ?_
    obtain ⟨j, a, i, hj, hj4, rfl, ha, rfl, hi, rfl⟩ := wheel_of hI h14
    obtain ⟨hO, hM⟩ := hI.2.2.1 j hj
    have hN := hO.F hj4
    obtain ⟨-, hA, hA2, hW1, hW, eA, eW, hM20, eM, hrd, hr⟩ := id hN
    refine e_aload_n dX4_figure_20 0 rfl rfl rfl ?_
    refine e_getf (v := .ref 64) dX4_figure_21 rfl fX4_32 (tw_o hp) rfl ?_
    refine e_iload_n dX4_figure_24 1 rfl rfl ?_
    refine e_iload_n dX4_figure_25 2 rfl rfl ?_
    refine e_iload_n dX4_figure_26 3 rfl rfl ?_
    refine e_callS1 (As := [.int (nI j), .int (nI a), .int (nI i)]) (rest := [.ref 64]) dX4_figure_27 rfl msX4_263 (t_cell j a i) (Nat.le_of_ble_eq_true rfl) rfl rfl (Nat.le_of_ble_eq_true rfl) (Nat.zero_le _) (Nat.zero_le _) ?_
    refine e_iald (f := τ.2.2.1 10) (j := 12 * (7 * j + a) + i) dX4_figure_30 (tw_a10 hp) rfl (by omega) (by decide) ?_
    refine e_goto 39 dX4_figure_31 (by decide) ?_
    refine e_ireturn dX4_figure_39 rfl rfl (Nat.zero_le _) (Nat.zero_le _) ?_
    refine TQi.of ?_
    rw [sp_figure, if_pos h14, ix_nI (by omega), ix_nI (by omega), ix_nI (by omega)]
    rfl
  · have h14 : ¬ (IsWh e x w τ) := h14
    refine e_if_eq_t 34 (by decide) dX4_figure_17 (by decide) ?_
    refine e_aload_n dX4_figure_34 0 rfl rfl rfl ?_
    refine e_iconst 2 dX4_figure_35 rfl ?_
    refine e_callV1 (As := [.int 2]) (rest := []) dX4_figure_36 rfl mvX4_252 (tw_o hp) rfl (t_refuse hp 2) (Nat.le_of_ble_eq_true rfl) rfl rfl (Nat.le_of_ble_eq_true rfl) (Nat.zero_le _) (Nat.zero_le _) ?_
    refine e_ireturn dX4_figure_39 rfl rfl (Nat.zero_le _) (Nat.zero_le _) ?_
    refine TQi.of ?_
    rw [sp_figure, if_neg h14]
    rfl

set_option maxHeartbeats 4000000 in
set_option maxRecDepth 100000 in
/-- WheelTablesModel.put -/
theorem t_put {pre post : List ACell} {τ : Tw} (hp : pre.length = 56) (hI : InvE τ) (e x w f : Int32) : Ct yX4_put (ws_ yX4_put cX4_put 5 (some .boolean)) 3 0 0 [.ref 56, .int e, .int x, .int w, .int f] (TW pre τ post) (TQi pre post (sp_put e x w f τ)) noX := by
  refine Ct.of (ini := false) (ls := [some (.ref 56), some (.int e), some (.int x), some (.int w), some (.int f)]) (by decide) (Nat.le_of_ble_eq_true rfl) (fun h => by cases h) rfl ?_
  refine e_aload_n dX4_put_0 0 rfl rfl rfl ?_
  refine e_iconst 0 dX4_put_1 rfl ?_
  refine e_tputI dX4_put_2 rfl pX4_212 rfl hp (Nat.le_of_ble_eq_true rfl) (tw_f1 _) ?_
  refine e_aload_n dX4_put_5 0 rfl rfl rfl ?_
  refine e_iconst 0 dX4_put_6 rfl ?_
  refine e_tputI dX4_put_7 rfl pX4_215 rfl hp (Nat.le_of_ble_eq_true rfl) (tw_f0 _) ?_
  refine e_aload_n dX4_put_10 0 rfl rfl rfl ?_
  refine e_iload_n dX4_put_11 1 rfl rfl ?_
  refine e_iload_n dX4_put_12 2 rfl rfl ?_
  refine e_iload_n dX4_put_13 3 rfl rfl ?_
  refine e_callVB (As := [.int e, .int x, .int w]) (rest := []) dX4_put_14 rfl mvX4_259 (tw_o hp) rfl (t_isWheel hp (by exact hI) e x w) (Nat.le_of_ble_eq_true rfl) rfl rfl (Nat.le_of_ble_eq_true rfl) (Nat.zero_le _) (Nat.zero_le _) (fun h14 => ?_) (fun h14 => ?_)
  · have h14 : (IsWh e x w τ) := h14
    refine e_if_ne_t 26 (by decide) dX4_put_17 (by decide) ?_
    obtain ⟨j, a, i, hj, hj4, rfl, ha, rfl, hi, rfl⟩ := wheel_of hI h14
    obtain ⟨hO, hM⟩ := hI.2.2.1 j hj
    have hN := hO.F hj4
    obtain ⟨-, hA, hA2, hW1, hW, eA, eW, hM20, eM, hrd, hr⟩ := id hN
    have hrk := hrd i hi
    refine e_iload dX4_put_26 rfl ?_
    refine e_i2l dX4_put_28 ?_
    refine e_lconst 0 dX4_put_29 rfl ?_
    refine e_aload_n dX4_put_30 0 rfl rfl rfl ?_
    refine e_getf (v := .ref 63) dX4_put_31 rfl fX4_29 (tw_o hp) rfl ?_
    refine e_bipush 12 dX4_put_34 rfl ?_
    refine e_iload_n dX4_put_36 1 rfl rfl ?_
    refine e_imulN 12 j dX4_put_37 ?_
    refine e_iload_n dX4_put_38 3 rfl rfl ?_
    refine e_iaddN (12 * j) i dX4_put_39 ?_
    refine e_iald (f := τ.2.2.1 9) (j := (12 * j) + i) dX4_put_40 (tw_a9 hp) rfl (by omega) (by decide) ?_
    refine e_top (congrArg Value.int (hr i hi)) ?_
    refine e_iconst 1 dX4_put_41 rfl ?_
    refine e_isubN (gR τ j i) 1 (by omega) dX4_put_42 ?_
    refine e_i2l dX4_put_43 ?_
    refine e_callSB (As := [.long f.toInt64, .long 0, .long ((nI ((gR τ j i) - 1)).toInt64)]) (rest := []) dX4_put_44 rfl msX4_239 (t_isInI f 0 (nI ((gR τ j i) - 1)) rfl (by decide) rfl) (Nat.le_of_ble_eq_true rfl) rfl rfl (Nat.le_of_ble_eq_true rfl) (Nat.zero_le _) (Nat.zero_le _) (fun h44 => ?_) (fun h44 => ?_)
    · refine e_if_ne_t 56 (by decide) dX4_put_47 (by decide) ?_
      refine e_aload_n dX4_put_56 0 rfl rfl rfl ?_
      refine e_getf (v := .ref 64) dX4_put_57 rfl fX4_32 (tw_o hp) rfl ?_
      refine e_iload_n dX4_put_60 1 rfl rfl ?_
      refine e_iload_n dX4_put_61 2 rfl rfl ?_
      refine e_iload_n dX4_put_62 3 rfl rfl ?_
      refine e_callS1 (As := [.int (nI j), .int (nI a), .int (nI i)]) (rest := [.ref 64]) dX4_put_63 rfl msX4_263 (t_cell j a i) (Nat.le_of_ble_eq_true rfl) rfl rfl (Nat.le_of_ble_eq_true rfl) (Nat.zero_le _) (Nat.zero_le _) ?_
      refine e_iload dX4_put_66 rfl ?_
      refine e_iast (f := τ.2.2.1 10) (j := 12 * (7 * j + a) + i) dX4_put_68 (tw_a10 hp) rfl (by omega) (by decide) ?_
      rw [tw_s10 hp]
      refine e_iconst 1 dX4_put_69 rfl ?_
      refine e_ireturn dX4_put_70 rfl rfl (Nat.zero_le _) (Nat.zero_le _) ?_
      have g : 0 ≤ f ∧ f < τ.2.2.1 9 (12 * ix (nI j) + ix (nI i)) := ⟨h44.1, by rw [ix_nI (by omega), ix_nI (by omega), hr i hi]; exact (le_p (by omega) (by omega) f).mp h44.2⟩
      refine TQi.of ?_
      rw [sp_put, if_neg (fun z => z h14), if_neg (fun z => z g), ix_nI (by omega), ix_nI (by omega), ix_nI (by omega)]
      rfl
    · refine e_if_ne_f (by decide) 56 dX4_put_47 (by decide) ?_
      refine e_aload_n dX4_put_50 0 rfl rfl rfl ?_
      refine e_iconst 5 dX4_put_51 rfl ?_
      refine e_callV1 (As := [.int 5]) (rest := []) dX4_put_52 rfl mvX4_218 (tw_o hp) rfl (t_no hp 5) (Nat.le_of_ble_eq_true rfl) rfl rfl (Nat.le_of_ble_eq_true rfl) (Nat.zero_le _) (Nat.zero_le _) ?_
      refine e_ireturn dX4_put_55 rfl rfl (Nat.zero_le _) (Nat.zero_le _) ?_
      have g : ¬ (0 ≤ f ∧ f < τ.2.2.1 9 (12 * ix (nI j) + ix (nI i))) := fun z => h44 ⟨z.1, (le_p (by omega) (by omega) f).mpr (by have z2 := z.2; rw [ix_nI (by omega), ix_nI (by omega), hr i hi] at z2; exact z2)⟩
      refine TQi.of ?_
      rw [sp_put, if_neg (fun z => z h14), if_pos g]
      rfl
  · have h14 : ¬ (IsWh e x w τ) := h14
    refine e_if_ne_f (by decide) 26 dX4_put_17 (by decide) ?_
    refine e_aload_n dX4_put_20 0 rfl rfl rfl ?_
    refine e_iconst 2 dX4_put_21 rfl ?_
    refine e_callV1 (As := [.int 2]) (rest := []) dX4_put_22 rfl mvX4_218 (tw_o hp) rfl (t_no hp 2) (Nat.le_of_ble_eq_true rfl) rfl rfl (Nat.le_of_ble_eq_true rfl) (Nat.zero_le _) (Nat.zero_le _) ?_
    refine e_ireturn dX4_put_25 rfl rfl (Nat.zero_le _) (Nat.zero_le _) ?_
    refine TQi.of ?_
    rw [sp_put, if_pos h14]
    rfl

set_option maxHeartbeats 4000000 in
set_option maxRecDepth 100000 in
/-- WheelTablesModel.number -/
theorem t_number {pre post : List ACell} {τ : Tw} (hp : pre.length = 56) (hI : InvE τ) (e x : Int32) : Ct yX4_number (ws_ yX4_number cX4_number 3 (some .long)) 2 0 0 [.ref 56, .int e, .int x] (TW pre τ post) (TQl pre post (sp_number e x τ)) noX := by
  refine Ct.of (ini := false) (ls := [some (.ref 56), some (.int e), some (.int x)]) (by decide) (Nat.le_of_ble_eq_true rfl) (fun h => by cases h) rfl ?_
  refine e_aload_n dX4_number_0 0 rfl rfl rfl ?_
  refine e_iconst 0 dX4_number_1 rfl ?_
  refine e_tputI dX4_number_2 rfl pX4_212 rfl hp (Nat.le_of_ble_eq_true rfl) (tw_f1 _) ?_
  refine e_aload_n dX4_number_5 0 rfl rfl rfl ?_
  refine e_iconst 0 dX4_number_6 rfl ?_
  refine e_tputI dX4_number_7 rfl pX4_215 rfl hp (Nat.le_of_ble_eq_true rfl) (tw_f0 _) ?_
  refine e_aload_n dX4_number_10 0 rfl rfl rfl ?_
  refine e_iload_n dX4_number_11 1 rfl rfl ?_
  refine e_callVB (As := [.int e]) (rest := []) dX4_number_12 rfl mvX4_243 (tw_o hp) rfl (t_isEngine hp (by exact hI) e) (Nat.le_of_ble_eq_true rfl) rfl rfl (Nat.le_of_ble_eq_true rfl) (Nat.zero_le _) (Nat.zero_le _) (fun h12 => ?_) (fun h12 => ?_)
  · have h12 : (IsE e τ) := h12
    refine e_if_eq_f (by decide) 45 dX4_number_15 (by decide) ?_
    obtain ⟨j, hj, hj4, rfl⟩ := eng_of hI h12
    obtain ⟨hO, hM⟩ := hI.2.2.1 j hj
    have hN := hO.F hj4
    obtain ⟨-, hA, hA2, hW1, hW, eA, eW, hM20, eM, hrd, hr⟩ := id hN
    have hU := hO.2.2.1.1
    have eU := hO.2.2.1.2
    refine e_iload_n dX4_number_18 2 rfl rfl ?_
    refine e_i2l dX4_number_19 ?_
    refine e_lconst 0 dX4_number_20 rfl ?_
    refine e_aload_n dX4_number_21 0 rfl rfl rfl ?_
    refine e_getf (v := .ref 60) dX4_number_22 rfl fX4_20 (tw_o hp) rfl ?_
    refine e_iload_n dX4_number_25 1 rfl rfl ?_
    refine e_iald (f := τ.2.2.1 6) (j := j) dX4_number_26 (tw_a6 hp) rfl (by omega) (by decide) ?_
    refine e_top (congrArg Value.int eA) ?_
    refine e_iconst 1 dX4_number_27 rfl ?_
    refine e_isubN (gA τ j) 1 (by omega) dX4_number_28 ?_
    refine e_i2l dX4_number_29 ?_
    refine e_callSB (As := [.long x.toInt64, .long 0, .long ((nI ((gA τ j) - 1)).toInt64)]) (rest := []) dX4_number_30 rfl msX4_239 (t_isInI x 0 (nI ((gA τ j) - 1)) rfl (by decide) rfl) (Nat.le_of_ble_eq_true rfl) rfl rfl (Nat.le_of_ble_eq_true rfl) (Nat.zero_le _) (Nat.zero_le _) (fun h30 => ?_) (fun h30 => ?_)
    · refine e_if_eq_f (by decide) 45 dX4_number_33 (by decide) ?_
      have g : IsX (nI j) x τ := ⟨h30.1, by rw [ix_nI (by omega), eA]; exact (le_p (by omega) (by omega) x).mp h30.2⟩
      obtain ⟨a, ha, rfl⟩ := axis_of hj4 hO g
      refine e_aload_n dX4_number_36 0 rfl rfl rfl ?_
      refine e_iload_n dX4_number_37 1 rfl rfl ?_
      refine e_iload_n dX4_number_38 2 rfl rfl ?_
      refine e_callV1 (As := [.int (nI j), .int (nI a)]) (rest := []) dX4_number_39 rfl mvX4_267 (tw_o hp) rfl (t_onAxis hp (by exact hN) ha) (Nat.le_of_ble_eq_true rfl) rfl rfl (Nat.le_of_ble_eq_true rfl) (Nat.zero_le _) (Nat.zero_le _) ?_
      refine e_goto 51 dX4_number_42 (by decide) ?_
      refine e_lreturn dX4_number_51 rfl (Nat.zero_le _) (Nat.zero_le _) ?_
      refine TQl.of ?_
      rw [sp_number, if_pos ⟨h12, g⟩, ix_nI (by omega), ix_nI (by omega)]
      rfl
    · refine e_if_eq_t 45 (by decide) dX4_number_33 (by decide) ?_
      refine e_aload_n dX4_number_45 0 rfl rfl rfl ?_
      refine e_iconst 2 dX4_number_46 rfl ?_
      refine e_callV1 (As := [.int 2]) (rest := []) dX4_number_47 rfl mvX4_252 (tw_o hp) rfl (t_refuse hp 2) (Nat.le_of_ble_eq_true rfl) rfl rfl (Nat.le_of_ble_eq_true rfl) (Nat.zero_le _) (Nat.zero_le _) ?_
      refine e_i2l dX4_number_50 ?_
      refine e_lreturn dX4_number_51 rfl (Nat.zero_le _) (Nat.zero_le _) ?_
      refine TQl.of ?_
      rw [sp_number, if_neg (fun z => h30 ⟨z.2.1, by have z2 := z.2.2; rw [ix_nI (by omega), eA] at z2; exact (le_p (by omega) (by omega) x).mpr z2⟩)]
      rfl
  · have h12 : ¬ (IsE e τ) := h12
    refine e_if_eq_t 45 (by decide) dX4_number_15 (by decide) ?_
    refine e_aload_n dX4_number_45 0 rfl rfl rfl ?_
    refine e_iconst 2 dX4_number_46 rfl ?_
    refine e_callV1 (As := [.int 2]) (rest := []) dX4_number_47 rfl mvX4_252 (tw_o hp) rfl (t_refuse hp 2) (Nat.le_of_ble_eq_true rfl) rfl rfl (Nat.le_of_ble_eq_true rfl) (Nat.zero_le _) (Nat.zero_le _) ?_
    refine e_i2l dX4_number_50 ?_
    refine e_lreturn dX4_number_51 rfl (Nat.zero_le _) (Nat.zero_le _) ?_
    refine TQl.of ?_
    rw [sp_number, if_neg (fun z => h12 z.1)]
    rfl

set_option maxHeartbeats 4000000 in
set_option maxRecDepth 100000 in
/-- WheelTablesModel.mishap -/
theorem t_mishap {pre post : List ACell} {τ : Tw} (hp : pre.length = 56) (hI : InvE τ) (e t x w k : Int32) : Ct yX4_mishap (ws_ yX4_mishap cX4_mishap 7 (some .boolean)) 3 0 0 [.ref 56, .int e, .int t, .int x, .int w, .int k] (TW pre τ post) (TQi pre post (sp_mishap e t x w k τ)) noX := by
  refine Ct.of (ini := false) (ls := [some (.ref 56), some (.int e), some (.int t), some (.int x), some (.int w), some (.int k), none]) (by decide) (Nat.le_of_ble_eq_true rfl) (fun h => by cases h) rfl ?_
  refine e_aload_n dX4_mishap_0 0 rfl rfl rfl ?_
  refine e_iconst 0 dX4_mishap_1 rfl ?_
  refine e_tputI dX4_mishap_2 rfl pX4_212 rfl hp (Nat.le_of_ble_eq_true rfl) (tw_f1 _) ?_
  refine e_aload_n dX4_mishap_5 0 rfl rfl rfl ?_
  refine e_iconst 0 dX4_mishap_6 rfl ?_
  refine e_tputI dX4_mishap_7 rfl pX4_215 rfl hp (Nat.le_of_ble_eq_true rfl) (tw_f0 _) ?_
  refine e_aload_n dX4_mishap_10 0 rfl rfl rfl ?_
  refine e_iload_n dX4_mishap_11 1 rfl rfl ?_
  refine e_iload_n dX4_mishap_12 3 rfl rfl ?_
  refine e_iload dX4_mishap_13 rfl ?_
  refine e_callVB (As := [.int e, .int x, .int w]) (rest := []) dX4_mishap_15 rfl mvX4_259 (tw_o hp) rfl (t_isWheel hp (by exact hI) e x w) (Nat.le_of_ble_eq_true rfl) rfl rfl (Nat.le_of_ble_eq_true rfl) (Nat.zero_le _) (Nat.zero_le _) (fun h15 => ?_) (fun h15 => ?_)
  · have h15 : (IsWh e x w τ) := h15
    refine e_if_eq_f (by decide) 33 dX4_mishap_18 (by decide) ?_
    obtain ⟨j, a, i, hj, hj4, rfl, ha, rfl, hi, rfl⟩ := wheel_of hI h15
    obtain ⟨hO, hM⟩ := hI.2.2.1 j hj
    have hN := hO.F hj4
    obtain ⟨-, hA, hA2, hW1, hW, eA, eW, hM20, eM, hrd, hr⟩ := id hN
    refine e_iload_n dX4_mishap_21 3 rfl rfl ?_
    refine e_aload_n dX4_mishap_22 0 rfl rfl rfl ?_
    refine e_getf (v := .ref 60) dX4_mishap_23 rfl fX4_20 (tw_o hp) rfl ?_
    refine e_iload_n dX4_mishap_26 1 rfl rfl ?_
    refine e_iald (f := τ.2.2.1 6) (j := j) dX4_mishap_27 (tw_a6 hp) rfl (by omega) (by decide) ?_
    refine e_top (congrArg Value.int eA) ?_
    refine e_iconst 1 dX4_mishap_28 rfl ?_
    refine e_isubN (gA τ j) 1 (by omega) dX4_mishap_29 ?_
    refine e_icmp_neN a ((gA τ j) - 1) 39 (by omega) (by omega) dX4_mishap_30 (by decide) (fun h30 => ?_) (fun h30 => ?_)
    · refine e_iload_n dX4_mishap_39 2 rfl rfl ?_
      refine e_i2l dX4_mishap_40 ?_
      refine e_lconst 1 dX4_mishap_41 rfl ?_
      refine e_ldc2 rfl q1526 dX4_mishap_42 ?_
      refine e_callSB (As := [.long t.toInt64, .long 1, .long 1000]) (rest := []) dX4_mishap_45 rfl msX4_239 (t_isInI t 1 1000 rfl (by decide) (by decide)) (Nat.le_of_ble_eq_true rfl) rfl rfl (Nat.le_of_ble_eq_true rfl) (Nat.zero_le _) (Nat.zero_le _) (fun h45 => ?_) (fun h45 => ?_)
      · refine e_if_eq_f (by decide) 64 dX4_mishap_48 (by decide) ?_
        refine e_iload dX4_mishap_51 rfl ?_
        refine e_i2l dX4_mishap_53 ?_
        refine e_lconst 0 dX4_mishap_54 rfl ?_
        refine e_ldc2 rfl q1466 dX4_mishap_55 ?_
        refine e_callSB (As := [.long k.toInt64, .long 0, .long 2]) (rest := []) dX4_mishap_58 rfl msX4_239 (t_isInI k 0 2 rfl (by decide) (by decide)) (Nat.le_of_ble_eq_true rfl) rfl rfl (Nat.le_of_ble_eq_true rfl) (Nat.zero_le _) (Nat.zero_le _) (fun h58 => ?_) (fun h58 => ?_)
        · refine e_if_ne_t 70 (by decide) dX4_mishap_61 (by decide) ?_
          refine e_aload_n dX4_mishap_70 0 rfl rfl rfl ?_
          refine e_getf (v := .ref 66) dX4_mishap_71 rfl fX4_38 (tw_o hp) rfl ?_
          refine e_iload_n dX4_mishap_74 1 rfl rfl ?_
          refine e_iald (f := τ.2.2.1 12) (j := j) dX4_mishap_75 (tw_a12 hp) rfl (by omega) (by decide) ?_
          refine e_top (congrArg Value.int eM) ?_
          refine e_bipush 20 dX4_mishap_76 rfl ?_
          refine e_icmp_neN (gM τ j) 20 88 (by omega) (by omega) dX4_mishap_78 (by decide) (fun h78 => ?_) (fun h78 => ?_)
          · refine e_bipush 20 dX4_mishap_88 rfl ?_
            refine e_iload_n dX4_mishap_90 1 rfl rfl ?_
            refine e_imulN 20 j dX4_mishap_91 ?_
            refine e_aload_n dX4_mishap_92 0 rfl rfl rfl ?_
            refine e_getf (v := .ref 66) dX4_mishap_93 rfl fX4_38 (tw_o hp) rfl ?_
            refine e_iload_n dX4_mishap_96 1 rfl rfl ?_
            refine e_iald (f := τ.2.2.1 12) (j := j) dX4_mishap_97 (tw_a12 hp) rfl (by omega) (by decide) ?_
            refine e_top (congrArg Value.int eM) ?_
            refine e_iaddN (20 * j) (gM τ j) dX4_mishap_98 ?_
            refine e_istore dX4_mishap_99 (ls_s (ls_s (ls_s (ls_s (ls_s (ls_1 rfl)))))) (Nat.le_of_ble_eq_true rfl) ?_
            refine e_aload_n dX4_mishap_101 0 rfl rfl rfl ?_
            refine e_getf (v := .ref 67) dX4_mishap_102 rfl fX4_41 (tw_o hp) rfl ?_
            refine e_iload dX4_mishap_105 rfl ?_
            refine e_iload_n dX4_mishap_107 2 rfl rfl ?_
            refine e_iast (f := τ.2.2.1 13) (j := (20 * j) + (gM τ j)) dX4_mishap_108 (tw_a13 hp) rfl (by omega) (by decide) ?_
            rw [tw_s13 hp]
            refine e_aload_n dX4_mishap_109 0 rfl rfl rfl ?_
            refine e_getf (v := .ref 68) dX4_mishap_110 rfl fX4_44 (tw_o hp) rfl ?_
            refine e_iload dX4_mishap_113 rfl ?_
            refine e_iload_n dX4_mishap_115 3 rfl rfl ?_
            refine e_iast (f := τ.2.2.1 14) (j := (20 * j) + (gM τ j)) dX4_mishap_116 (tw_a14 hp) rfl (by omega) (by decide) ?_
            rw [tw_s14 hp]
            refine e_aload_n dX4_mishap_117 0 rfl rfl rfl ?_
            refine e_getf (v := .ref 69) dX4_mishap_118 rfl fX4_47 (tw_o hp) rfl ?_
            refine e_iload dX4_mishap_121 rfl ?_
            refine e_iload dX4_mishap_123 rfl ?_
            refine e_iast (f := τ.2.2.1 15) (j := (20 * j) + (gM τ j)) dX4_mishap_125 (tw_a15 hp) rfl (by omega) (by decide) ?_
            rw [tw_s15 hp]
            refine e_aload_n dX4_mishap_126 0 rfl rfl rfl ?_
            refine e_getf (v := .ref 70) dX4_mishap_127 rfl fX4_50 (tw_o hp) rfl ?_
            refine e_iload dX4_mishap_130 rfl ?_
            refine e_iload dX4_mishap_132 rfl ?_
            refine e_iast (f := τ.2.2.1 16) (j := (20 * j) + (gM τ j)) dX4_mishap_134 (tw_a16 hp) rfl (by omega) (by decide) ?_
            rw [tw_s16 hp]
            refine e_aload_n dX4_mishap_135 0 rfl rfl rfl ?_
            refine e_getf (v := .ref 66) dX4_mishap_136 rfl fX4_38 (tw_o hp) rfl ?_
            refine e_iload_n dX4_mishap_139 1 rfl rfl ?_
            refine e_dup2 dX4_mishap_140 rfl rfl ?_
            refine e_iald (f := τ.2.2.1 12) (j := j) dX4_mishap_141 (tw_a12 hp) rfl (by omega) (by decide) ?_
            refine e_top (congrArg Value.int eM) ?_
            refine e_iconst 1 dX4_mishap_142 rfl ?_
            refine e_iaddN (gM τ j) 1 dX4_mishap_143 ?_
            refine e_iast (f := τ.2.2.1 12) (j := j) dX4_mishap_144 (tw_a12 hp) rfl (by omega) (by decide) ?_
            rw [tw_s12 hp]
            refine e_iconst 1 dX4_mishap_145 rfl ?_
            refine e_ireturn dX4_mishap_146 rfl rfl (Nat.zero_le _) (Nat.zero_le _) ?_
            have gl : (nI a = τ.2.2.1 6 (ix (nI j)) - 1) = (a = gA τ j - 1) := by rw [ix_nI (by omega), eA, show nI (gA τ j) - 1 = nI (gA τ j - 1) from pk_sub (b := 1) (by omega)]; exact propext (nI_eqN (by omega) (by omega))
            have g0 : IsWh (nI j) (nI a) (nI i) τ ∧ nI a ≠ τ.2.2.1 6 (ix (nI j)) - 1 := ⟨h15, fun z => h30 (by rw [gl] at z; exact z)⟩
            have e20 : (τ.2.2.1 12 (ix (nI j)) = 20) = (gM τ j = 20) := by rw [ix_nI (by omega), eM]; exact propext (nI_eqN (b := 20) (by omega) (by omega))
            refine TQi.of ?_
            rw [sp_mishap, if_neg (fun z => z g0), if_neg (fun z => z ⟨h45, h58⟩), if_neg (by rw [e20]; exact h78), ix_nI (by omega), eM, show nI (gM τ j) + 1 = nI (gM τ j + 1) from nI_add _ 1]
            rfl
          · refine e_aload_n dX4_mishap_81 0 rfl rfl rfl ?_
            refine e_bipush 7 dX4_mishap_82 rfl ?_
            refine e_callV1 (As := [.int 7]) (rest := []) dX4_mishap_84 rfl mvX4_218 (tw_o hp) rfl (t_no hp 7) (Nat.le_of_ble_eq_true rfl) rfl rfl (Nat.le_of_ble_eq_true rfl) (Nat.zero_le _) (Nat.zero_le _) ?_
            refine e_ireturn dX4_mishap_87 rfl rfl (Nat.zero_le _) (Nat.zero_le _) ?_
            have gl : (nI a = τ.2.2.1 6 (ix (nI j)) - 1) = (a = gA τ j - 1) := by rw [ix_nI (by omega), eA, show nI (gA τ j) - 1 = nI (gA τ j - 1) from pk_sub (b := 1) (by omega)]; exact propext (nI_eqN (by omega) (by omega))
            have g0 : IsWh (nI j) (nI a) (nI i) τ ∧ nI a ≠ τ.2.2.1 6 (ix (nI j)) - 1 := ⟨h15, fun z => h30 (by rw [gl] at z; exact z)⟩
            have e20 : (τ.2.2.1 12 (ix (nI j)) = 20) = (gM τ j = 20) := by rw [ix_nI (by omega), eM]; exact propext (nI_eqN (b := 20) (by omega) (by omega))
            refine TQi.of ?_
            rw [sp_mishap, if_neg (fun z => z g0), if_neg (fun z => z ⟨h45, h58⟩), if_pos (by rw [e20]; exact h78)]
            rfl
        · refine e_if_ne_f (by decide) 70 dX4_mishap_61 (by decide) ?_
          refine e_aload_n dX4_mishap_64 0 rfl rfl rfl ?_
          refine e_iconst 5 dX4_mishap_65 rfl ?_
          refine e_callV1 (As := [.int 5]) (rest := []) dX4_mishap_66 rfl mvX4_218 (tw_o hp) rfl (t_no hp 5) (Nat.le_of_ble_eq_true rfl) rfl rfl (Nat.le_of_ble_eq_true rfl) (Nat.zero_le _) (Nat.zero_le _) ?_
          refine e_ireturn dX4_mishap_69 rfl rfl (Nat.zero_le _) (Nat.zero_le _) ?_
          have gl : (nI a = τ.2.2.1 6 (ix (nI j)) - 1) = (a = gA τ j - 1) := by rw [ix_nI (by omega), eA, show nI (gA τ j) - 1 = nI (gA τ j - 1) from pk_sub (b := 1) (by omega)]; exact propext (nI_eqN (by omega) (by omega))
          have g0 : IsWh (nI j) (nI a) (nI i) τ ∧ nI a ≠ τ.2.2.1 6 (ix (nI j)) - 1 := ⟨h15, fun z => h30 (by rw [gl] at z; exact z)⟩
          refine TQi.of ?_
          rw [sp_mishap, if_neg (fun z => z g0), if_pos (fun z => h58 z.2)]
          rfl
      · refine e_if_eq_t 64 (by decide) dX4_mishap_48 (by decide) ?_
        refine e_aload_n dX4_mishap_64 0 rfl rfl rfl ?_
        refine e_iconst 5 dX4_mishap_65 rfl ?_
        refine e_callV1 (As := [.int 5]) (rest := []) dX4_mishap_66 rfl mvX4_218 (tw_o hp) rfl (t_no hp 5) (Nat.le_of_ble_eq_true rfl) rfl rfl (Nat.le_of_ble_eq_true rfl) (Nat.zero_le _) (Nat.zero_le _) ?_
        refine e_ireturn dX4_mishap_69 rfl rfl (Nat.zero_le _) (Nat.zero_le _) ?_
        have gl : (nI a = τ.2.2.1 6 (ix (nI j)) - 1) = (a = gA τ j - 1) := by rw [ix_nI (by omega), eA, show nI (gA τ j) - 1 = nI (gA τ j - 1) from pk_sub (b := 1) (by omega)]; exact propext (nI_eqN (by omega) (by omega))
        have g0 : IsWh (nI j) (nI a) (nI i) τ ∧ nI a ≠ τ.2.2.1 6 (ix (nI j)) - 1 := ⟨h15, fun z => h30 (by rw [gl] at z; exact z)⟩
        refine TQi.of ?_
        rw [sp_mishap, if_neg (fun z => z g0), if_pos (fun z => h45 z.1)]
        rfl
    · refine e_aload_n dX4_mishap_33 0 rfl rfl rfl ?_
      refine e_iconst 2 dX4_mishap_34 rfl ?_
      refine e_callV1 (As := [.int 2]) (rest := []) dX4_mishap_35 rfl mvX4_218 (tw_o hp) rfl (t_no hp 2) (Nat.le_of_ble_eq_true rfl) rfl rfl (Nat.le_of_ble_eq_true rfl) (Nat.zero_le _) (Nat.zero_le _) ?_
      refine e_ireturn dX4_mishap_38 rfl rfl (Nat.zero_le _) (Nat.zero_le _) ?_
      have gl : (nI a = τ.2.2.1 6 (ix (nI j)) - 1) = (a = gA τ j - 1) := by rw [ix_nI (by omega), eA, show nI (gA τ j) - 1 = nI (gA τ j - 1) from pk_sub (b := 1) (by omega)]; exact propext (nI_eqN (by omega) (by omega))
      refine TQi.of ?_
      rw [sp_mishap, if_pos (fun z => z.2 (by rw [gl]; exact h30))]
      rfl
  · have h15 : ¬ (IsWh e x w τ) := h15
    refine e_if_eq_t 33 (by decide) dX4_mishap_18 (by decide) ?_
    refine e_aload_n dX4_mishap_33 0 rfl rfl rfl ?_
    refine e_iconst 2 dX4_mishap_34 rfl ?_
    refine e_callV1 (As := [.int 2]) (rest := []) dX4_mishap_35 rfl mvX4_218 (tw_o hp) rfl (t_no hp 2) (Nat.le_of_ble_eq_true rfl) rfl rfl (Nat.le_of_ble_eq_true rfl) (Nat.zero_le _) (Nat.zero_le _) ?_
    refine e_ireturn dX4_mishap_38 rfl rfl (Nat.zero_le _) (Nat.zero_le _) ?_
    refine TQi.of ?_
    rw [sp_mishap, if_pos (fun z => h15 z.1)]
    rfl

set_option maxHeartbeats 4000000 in
set_option maxRecDepth 100000 in
/-- WheelTablesModel.mend -/
theorem t_mend {pre post : List ACell} {τ : Tw} (hp : pre.length = 56) (hI : InvE τ) (e : Int32) : Ct yX4_mend (ws_ yX4_mend cX4_mend 2 (some .boolean)) 2 0 0 [.ref 56, .int e] (TW pre τ post) (TQi pre post (sp_mend e τ)) noX := by
  refine Ct.of (ini := false) (ls := [some (.ref 56), some (.int e)]) (by decide) (Nat.le_of_ble_eq_true rfl) (fun h => by cases h) rfl ?_
  refine e_aload_n dX4_mend_0 0 rfl rfl rfl ?_
  refine e_iconst 0 dX4_mend_1 rfl ?_
  refine e_tputI dX4_mend_2 rfl pX4_212 rfl hp (Nat.le_of_ble_eq_true rfl) (tw_f1 _) ?_
  refine e_aload_n dX4_mend_5 0 rfl rfl rfl ?_
  refine e_iconst 0 dX4_mend_6 rfl ?_
  refine e_tputI dX4_mend_7 rfl pX4_215 rfl hp (Nat.le_of_ble_eq_true rfl) (tw_f0 _) ?_
  refine e_aload_n dX4_mend_10 0 rfl rfl rfl ?_
  refine e_iload_n dX4_mend_11 1 rfl rfl ?_
  refine e_callVB (As := [.int e]) (rest := []) dX4_mend_12 rfl mvX4_243 (tw_o hp) rfl (t_isEngine hp (by exact hI) e) (Nat.le_of_ble_eq_true rfl) rfl rfl (Nat.le_of_ble_eq_true rfl) (Nat.zero_le _) (Nat.zero_le _) (fun h12 => ?_) (fun h12 => ?_)
  · have h12 : (IsE e τ) := h12
    refine e_if_ne_t 24 (by decide) dX4_mend_15 (by decide) ?_
    obtain ⟨j, hj, hj4, rfl⟩ := eng_of hI h12
    obtain ⟨hO, hM⟩ := hI.2.2.1 j hj
    have hN := hO.F hj4
    obtain ⟨-, hA, hA2, hW1, hW, eA, eW, hM20, eM, hrd, hr⟩ := id hN
    have hU := hO.2.2.1.1
    have eU := hO.2.2.1.2
    refine e_aload_n dX4_mend_24 0 rfl rfl rfl ?_
    refine e_getf (v := .ref 66) dX4_mend_25 rfl fX4_38 (tw_o hp) rfl ?_
    refine e_iload_n dX4_mend_28 1 rfl rfl ?_
    refine e_iconst 0 dX4_mend_29 rfl ?_
    refine e_iast (f := τ.2.2.1 12) (j := j) dX4_mend_30 (tw_a12 hp) rfl (by omega) (by decide) ?_
    rw [tw_s12 hp]
    refine e_iconst 1 dX4_mend_31 rfl ?_
    refine e_ireturn dX4_mend_32 rfl rfl (Nat.zero_le _) (Nat.zero_le _) ?_
    refine TQi.of ?_
    rw [sp_mend, if_neg (fun z => z h12), ix_nI (by omega)]
    rfl
  · have h12 : ¬ (IsE e τ) := h12
    refine e_if_ne_f (by decide) 24 dX4_mend_15 (by decide) ?_
    refine e_aload_n dX4_mend_18 0 rfl rfl rfl ?_
    refine e_iconst 2 dX4_mend_19 rfl ?_
    refine e_callV1 (As := [.int 2]) (rest := []) dX4_mend_20 rfl mvX4_218 (tw_o hp) rfl (t_no hp 2) (Nat.le_of_ble_eq_true rfl) rfl rfl (Nat.le_of_ble_eq_true rfl) (Nat.zero_le _) (Nat.zero_le _) ?_
    refine e_ireturn dX4_mend_23 rfl rfl (Nat.zero_le _) (Nat.zero_le _) ?_
    refine TQi.of ?_
    rw [sp_mend, if_pos h12]
    rfl

set_option maxHeartbeats 4000000 in
set_option maxRecDepth 100000 in
/-- a loop of engine -/
theorem t_eng1 {pre post : List ACell} {τ : Tw} (hp : pre.length = 56) {a : Int32} {t n : Nat} (ht : t < 4) (hn : n ≤ 12) {Q : Qfun} : ∀ (fuel : Nat) (k : Nat), k ≤ n → n < k + fuel → allB (fun k => decide (2 ≤ τ.2.2.2 4 (60 * t + k) ∧ τ.2.2.2 4 (60 * t + k) ≤ 12)) k = true → (¬ spWheels t n τ = true → Q (some (.int (-1))) (TW pre (tI τ 0 5) post)) → (spWheels t n τ = true → E cX4_engine (RX4, some .int, 5, 1, (0, 0), false, []) Q noX 0 0 111 [some (.ref 56), some (.int a), some (.int (nI n)), some (.int (nI t)), none] [] (TW pre τ post)) →
    E cX4_engine (RX4, (some .int), 5, 1, (0, 0), false, []) Q noX 0 0 74 [some (.ref 56), some (.int a), some (.int (nI n)), some (.int (nI t)), some (.int (nI k))] [] (TW pre τ post) := by
  intro fuel
  induction fuel with
  | zero => intro k hk hf hb hR hE; exact absurd hf (by omega)
  | succ fuel ih =>
    intro k hk hf hb hR hE
    refine e_iload dX4_engine_74 rfl ?_
    refine e_iload_n dX4_engine_76 2 rfl rfl ?_
    refine e_icmp_geN k n 111 (by omega) (by omega) dX4_engine_77 (by decide) (fun h77 => ?_) (fun h77 => ?_)
    · refine e_forget (i := 4) (ln_s (ln_s (ln_s (ln_s ln_0)))) ?_
      have e1 : k = n := by omega
      subst e1
      exact hE hb
    · refine e_aload_n dX4_engine_80 0 rfl rfl rfl ?_
      refine e_iload_n dX4_engine_81 3 rfl rfl ?_
      refine e_iload dX4_engine_82 rfl ?_
      refine e_callV1 (As := [.int (nI t), .int (nI k)]) (rest := []) dX4_engine_84 rfl mvX4_255 (tw_o hp) rfl (t_numberOf hp t k (by omega) (by omega)) (Nat.le_of_ble_eq_true rfl) rfl rfl (Nat.le_of_ble_eq_true rfl) (Nat.zero_le _) (Nat.zero_le _) ?_
      refine e_ldc2 rfl q1466 dX4_engine_87 ?_
      refine e_ldc2 rfl q1471 dX4_engine_90 ?_
      refine e_callSB (As := [.long (τ.2.2.2 4 (60 * t + k)), .long 2, .long 12]) (rest := []) dX4_engine_93 rfl msX4_239 (t_isIn (τ.2.2.2 4 (60 * t + k)) 2 12) (Nat.le_of_ble_eq_true rfl) rfl rfl (Nat.le_of_ble_eq_true rfl) (Nat.zero_le _) (Nat.zero_le _) (fun h93 => ?_) (fun h93 => ?_)
      · have h93 : (2 ≤ (τ.2.2.2 4 (60 * t + k)) ∧ (τ.2.2.2 4 (60 * t + k)) ≤ 12) := h93
        refine e_if_ne_t 105 (by decide) dX4_engine_96 (by decide) ?_
        refine e_incN k (k + 1) (inc1 _) dX4_engine_105 rfl (ls_s (ls_s (ls_s (ls_1 rfl)))) (Nat.le_of_ble_eq_true rfl) ?_
        refine e_goto 74 dX4_engine_108 (by decide) ?_
        exact ih (k + 1) (by omega) (by omega) (by rw [allB, hb, Bool.true_and]; exact decide_eq_true h93) hR hE
      · have h93 : ¬ (2 ≤ (τ.2.2.2 4 (60 * t + k)) ∧ (τ.2.2.2 4 (60 * t + k)) ≤ 12) := h93
        refine e_if_ne_f (by decide) 105 dX4_engine_96 (by decide) ?_
        refine e_aload_n dX4_engine_99 0 rfl rfl rfl ?_
        refine e_iconst 5 dX4_engine_100 rfl ?_
        refine e_callV1 (As := [.int 5]) (rest := []) dX4_engine_101 rfl mvX4_252 (tw_o hp) rfl (t_refuse hp 5) (Nat.le_of_ble_eq_true rfl) rfl rfl (Nat.le_of_ble_eq_true rfl) (Nat.zero_le _) (Nat.zero_le _) ?_
        refine e_ireturn dX4_engine_104 rfl rfl (Nat.zero_le _) (Nat.zero_le _) ?_
        refine hR (fun z => ?_)
        have := (allB_iff.mp z) k (by omega)
        exact h93 (of_decide_eq_true this)

set_option maxHeartbeats 4000000 in
set_option maxRecDepth 100000 in
/-- a loop of engine -/
theorem t_eng2 {pre post : List ACell} {τ0 : Tw} (hp : pre.length = 56) {a : Int32} {t n : Nat} (ht : t < 4) (hn : n ≤ 12) {E0 : Nat} (hE0 : E0 < 4) (eE : τ0.1 5 = nI E0) {Q : Qfun} : ∀ (fuel : Nat) (k : Nat) (τ : Tw), k ≤ n → n < k + fuel → τ = tA τ0 9 (rngI (τ0.2.2.1 9) (12 * E0) k (fun k => (τ0.2.2.2 4 (60 * t + k)).toInt32)) → E cX4_engine (RX4, some .int, 5, 1, (0, 0), false, []) Q noX 0 0 184 [some (.ref 56), some (.int a), some (.int (nI n)), some (.int (nI t)), none] [] (TW pre (tA τ0 9 (rngI (τ0.2.2.1 9) (12 * E0) n (fun k => (τ0.2.2.2 4 (60 * t + k)).toInt32))) post) →
    E cX4_engine (RX4, (some .int), 5, 1, (0, 0), false, []) Q noX 0 0 149 [some (.ref 56), some (.int a), some (.int (nI n)), some (.int (nI t)), some (.int (nI k))] [] (TW pre τ post) := by
  intro fuel
  induction fuel with
  | zero => intro k τ hk hf hS hE; exact absurd hf (by omega)
  | succ fuel ih =>
    intro k τ hk hf hS hE
    have eE1 : τ.1 5 = nI E0 := by rw [hS]; exact eE
    refine e_iload dX4_engine_149 rfl ?_
    refine e_iload_n dX4_engine_151 2 rfl rfl ?_
    refine e_icmp_geN k n 184 (by omega) (by omega) dX4_engine_152 (by decide) (fun h152 => ?_) (fun h152 => ?_)
    · refine e_forget (i := 4) (ln_s (ln_s (ln_s (ln_s ln_0)))) ?_
      have e1 : k = n := by omega
      subst e1
      rw [← hS] at hE
      exact hE
    · refine e_aload_n dX4_engine_155 0 rfl rfl rfl ?_
      refine e_getf (v := .ref 63) dX4_engine_156 rfl fX4_29 (tw_o hp) rfl ?_
      refine e_bipush 12 dX4_engine_159 rfl ?_
      refine e_aload_n dX4_engine_161 0 rfl rfl rfl ?_
      refine e_getf (v := .int (τ.1 5)) dX4_engine_162 rfl fX4_236 (tw_o hp) rfl ?_
      refine e_top (congrArg Value.int eE1) ?_
      refine e_imulN 12 E0 dX4_engine_165 ?_
      refine e_iload dX4_engine_166 rfl ?_
      refine e_iaddN (12 * E0) k dX4_engine_168 ?_
      refine e_aload_n dX4_engine_169 0 rfl rfl rfl ?_
      refine e_iload_n dX4_engine_170 3 rfl rfl ?_
      refine e_iload dX4_engine_171 rfl ?_
      refine e_callV1 (As := [.int (nI t), .int (nI k)]) (rest := [.int (nI ((12 * E0) + k)), .ref 63]) dX4_engine_173 rfl mvX4_255 (tw_o hp) rfl (t_numberOf hp t k (by omega) (by omega)) (Nat.le_of_ble_eq_true rfl) rfl rfl (Nat.le_of_ble_eq_true rfl) (Nat.zero_le _) (Nat.zero_le _) ?_
      refine e_l2i dX4_engine_176 ?_
      refine e_iast (f := τ.2.2.1 9) (j := (12 * E0) + k) dX4_engine_177 (tw_a9 hp) rfl (by omega) (by decide) ?_
      rw [tw_s9 hp]
      refine e_incN k (k + 1) (inc1 _) dX4_engine_178 rfl (ls_s (ls_s (ls_s (ls_1 rfl)))) (Nat.le_of_ble_eq_true rfl) ?_
      refine e_goto 149 dX4_engine_181 (by decide) ?_
      subst hS
      refine ih (k + 1) _ (by omega) (by omega) ?_ hE
      rw [tA_tA, ← rngI_s]
      show tA τ0 9 (upd (va_up τ0.2.2.1 9 _ 9) _ _) = _
      rw [va_up_self]
      rfl

theorem tA_self (τ : Tw) (k : Nat) : tA τ k (τ.2.2.1 k) = τ := by
  have h : va_up τ.2.2.1 k (τ.2.2.1 k) = τ.2.2.1 := by
    funext j; unfold va_up; split
    · rename_i h; subst h; rfl
    · rfl
  unfold tA; rw [h]
theorem tB_self (τ : Tw) (k : Nat) : tB τ k (τ.2.2.2 k) = τ := by
  have h : va_up τ.2.2.2 k (τ.2.2.2 k) = τ.2.2.2 := by
    funext j; unfold va_up; split
    · rename_i h; subst h; rfl
    · rfl
  unfold tB; rw [h]
theorem tB_tB (τ : Tw) (k : Nat) (a b : Nat → Int64) : tB (tB τ k a) k b = tB τ k b := by
  have h : va_up (va_up τ.2.2.2 k a) k b = va_up τ.2.2.2 k b := by funext j; unfold va_up; split <;> rfl
  unfold tB; exact congrArg (fun z => (τ.1, τ.2.1, τ.2.2.1, z)) h
set_option maxHeartbeats 4000000 in
set_option maxRecDepth 100000 in
/-- WheelTablesModel.engine -/
theorem t_engine {pre post : List ACell} {τ : Tw} (hp : pre.length = 56) (hI : InvE τ) (hT : InvT τ) (a w t : Int32) : Ct yX4_engine (ws_ yX4_engine cX4_engine 5 (some .int)) 1 0 0 [.ref 56, .int a, .int w, .int t] (TW pre τ post) (TQi pre post (sp_engine a w t τ)) noX := by
  have hE4 := hI.1
  refine Ct.of (ini := false) (ls := [some (.ref 56), some (.int a), some (.int w), some (.int t), none]) (by decide) (Nat.le_of_ble_eq_true rfl) (fun h => by cases h) rfl ?_
  refine e_aload_n dX4_engine_0 0 rfl rfl rfl ?_
  refine e_iconst 0 dX4_engine_1 rfl ?_
  refine e_tputI dX4_engine_2 rfl pX4_212 rfl hp (Nat.le_of_ble_eq_true rfl) (tw_f1 _) ?_
  refine e_aload_n dX4_engine_5 0 rfl rfl rfl ?_
  refine e_aload_n dX4_engine_6 0 rfl rfl rfl ?_
  refine e_iload_n dX4_engine_7 3 rfl rfl ?_
  refine e_callV1 (As := [.int t]) (rest := [.ref 56]) dX4_engine_8 rfl mvX4_222 (tw_o hp) rfl (t_trayed hp (by exact hT) t) (Nat.le_of_ble_eq_true rfl) rfl rfl (Nat.le_of_ble_eq_true rfl) (Nat.zero_le _) (Nat.zero_le _) ?_
  refine e_tputI dX4_engine_11 rfl pX4_215 rfl hp (Nat.le_of_ble_eq_true rfl) (tw_f0 _) ?_
  refine e_aload_n dX4_engine_14 0 rfl rfl rfl ?_
  refine e_getf (v := .int (spT t τ)) dX4_engine_15 rfl fX4_215 (tw_o hp) rfl ?_
  refine e_if_le 23 dX4_engine_18 (by decide) (fun h18 => ?_) (fun h18 => ?_)
  · have h18' := Int32.not_lt.mpr h18
    have z0 := (spT_0 hT h18').1
    rw [show spT t (tI τ 1 0) = 0 from z0]
    refine e_iload_n dX4_engine_23 1 rfl rfl ?_
    refine e_i2l dX4_engine_24 ?_
    refine e_ldc2 rfl q1466 dX4_engine_25 ?_
    refine e_ldc2 rfl q1467 dX4_engine_28 ?_
    refine e_callSB (As := [.long a.toInt64, .long 2, .long 7]) (rest := []) dX4_engine_31 rfl msX4_239 (t_isInI a 2 7 rfl (by decide) (by decide)) (Nat.le_of_ble_eq_true rfl) rfl rfl (Nat.le_of_ble_eq_true rfl) (Nat.zero_le _) (Nat.zero_le _) (fun h31 => ?_) (fun h31 => ?_)
    · refine e_if_eq_f (by decide) 49 dX4_engine_34 (by decide) ?_
      refine e_iload_n dX4_engine_37 2 rfl rfl ?_
      refine e_i2l dX4_engine_38 ?_
      refine e_lconst 1 dX4_engine_39 rfl ?_
      refine e_ldc2 rfl q1471 dX4_engine_40 ?_
      refine e_callSB (As := [.long w.toInt64, .long 1, .long 12]) (rest := []) dX4_engine_43 rfl msX4_239 (t_isInI w 1 12 rfl (by decide) (by decide)) (Nat.le_of_ble_eq_true rfl) rfl rfl (Nat.le_of_ble_eq_true rfl) (Nat.zero_le _) (Nat.zero_le _) (fun h43 => ?_) (fun h43 => ?_)
      · refine e_if_ne_t 55 (by decide) dX4_engine_46 (by decide) ?_
        obtain ⟨-, j, hj, rfl, n, hn, en⟩ := spT_0 hT h18'
        obtain ⟨m, hm, rfl⟩ := in_oc (x := w) (c := 12) 12 (by decide) (Int32.le_trans (by decide) h43.1) h43.2
        obtain ⟨x, hx, rfl⟩ := in_oc (x := a) (c := 7) 7 (by decide) (Int32.le_trans (by decide) h31.1) h31.2
        refine e_aload_n dX4_engine_55 0 rfl rfl rfl ?_
        refine e_getf (v := .ref 58) dX4_engine_56 rfl fX4_13 (tw_o hp) rfl ?_
        refine e_iload_n dX4_engine_59 3 rfl rfl ?_
        refine e_iald (f := τ.2.2.1 3) (j := j) dX4_engine_60 (tw_a3 hp) rfl (by omega) (by decide) ?_
        refine e_top (congrArg Value.int en) ?_
        refine e_iload_n dX4_engine_61 2 rfl rfl ?_
        refine e_icmp_geN n m 71 (by omega) (by omega) dX4_engine_62 (by decide) (fun h62 => ?_) (fun h62 => ?_)
        · have h62' : ¬ nI n < nI m := fun z => absurd ((nI_ltN (by omega) (by omega)).mp z) (by omega)
          refine e_iconst 0 dX4_engine_71 rfl ?_
          refine e_istore dX4_engine_72 (ls_s (ls_s (ls_s (ls_1 rfl)))) (Nat.le_of_ble_eq_true rfl) ?_
          refine t_eng1 (τ := tI (tI τ 1 0) 0 0) hp hj hm (m + 1) 0 (by omega) (by omega) rfl (fun z => ?_) (fun hz => ?_)
          · refine TQi.of ?_
            rw [sp_engine, if_neg h18', if_neg (fun z => z ⟨h31, h43⟩), ix_nI (show j < 2147483648 by omega), ix_nI (show m < 2147483648 by omega), en, if_neg h62', if_pos (show ¬ spWheels j m τ = true from z)]
            rfl
          refine e_aload_n dX4_engine_111 0 rfl rfl rfl ?_
          refine e_getf (v := .int (τ.1 5)) dX4_engine_112 rfl fX4_236 (tw_o hp) rfl ?_
          refine e_top (congrArg Value.int hI.2.1) ?_
          refine e_iconst 4 dX4_engine_115 rfl ?_
          refine e_icmp_neN (gE τ) 4 126 (by omega) (by omega) dX4_engine_116 (by decide) (fun h116 => ?_) (fun h116 => ?_)
          · refine e_aload_n dX4_engine_126 0 rfl rfl rfl ?_
            refine e_getf (v := .ref 60) dX4_engine_127 rfl fX4_20 (tw_o hp) rfl ?_
            refine e_aload_n dX4_engine_130 0 rfl rfl rfl ?_
            refine e_getf (v := .int (τ.1 5)) dX4_engine_131 rfl fX4_236 (tw_o hp) rfl ?_
            refine e_top (congrArg Value.int hI.2.1) ?_
            refine e_iload_n dX4_engine_134 1 rfl rfl ?_
            refine e_iast (f := τ.2.2.1 6) (j := gE τ) dX4_engine_135 (tw_a6 hp) rfl (by omega) (by decide) ?_
            rw [tw_s6 hp]
            refine e_aload_n dX4_engine_136 0 rfl rfl rfl ?_
            refine e_getf (v := .ref 61) dX4_engine_137 rfl fX4_23 (tw_o hp) rfl ?_
            refine e_aload_n dX4_engine_140 0 rfl rfl rfl ?_
            refine e_getf (v := .int (τ.1 5)) dX4_engine_141 rfl fX4_236 (tw_o hp) rfl ?_
            refine e_top (congrArg Value.int hI.2.1) ?_
            refine e_iload_n dX4_engine_144 2 rfl rfl ?_
            refine e_iast (f := τ.2.2.1 7) (j := gE τ) dX4_engine_145 (tw_a7 hp) rfl (by omega) (by decide) ?_
            rw [tw_s7 hp]
            refine e_iconst 0 dX4_engine_146 rfl ?_
            refine e_istore dX4_engine_147 (ls_s (ls_s (ls_s (ls_1 rfl)))) (Nat.le_of_ble_eq_true rfl) ?_
            refine t_eng2 (τ0 := tA (tA (tI (tI τ 1 0) 0 0) 6 (upd (τ.2.2.1 6) (gE τ) (nI x))) 7 (upd (τ.2.2.1 7) (gE τ) (nI m))) hp hj hm (E0 := gE τ) (by omega) (by exact hI.2.1) (m + 1) 0 _ (by omega) (by omega) (by rw [rngI_0, tA_self]) ?_
            refine e_aload_n dX4_engine_184 0 rfl rfl rfl ?_
            refine e_dup dX4_engine_185 rfl ?_
            refine e_getf (v := .int (τ.1 5)) dX4_engine_186 rfl fX4_236 (tw_o hp) rfl ?_
            refine e_top (congrArg Value.int hI.2.1) ?_
            refine e_iconst 1 dX4_engine_189 rfl ?_
            refine e_iaddN (gE τ) 1 dX4_engine_190 ?_
            refine e_tputI dX4_engine_191 rfl pX4_236 rfl hp (Nat.le_of_ble_eq_true rfl) (tw_f5 _) ?_
            refine e_aload_n dX4_engine_194 0 rfl rfl rfl ?_
            refine e_getf (v := .int (nI ((gE τ) + 1))) dX4_engine_195 rfl fX4_236 (tw_o hp) rfl ?_
            refine e_iconst 1 dX4_engine_198 rfl ?_
            refine e_isubN ((gE τ) + 1) 1 (by omega) dX4_engine_199 ?_
            refine e_ireturn dX4_engine_200 rfl rfl (Nat.zero_le _) (Nat.zero_le _) ?_
            have e4 : (τ.1 5 = 4) = (gE τ = 4) := by rw [hI.2.1]; exact propext (nI_eqN (b := 4) (by omega) (by omega))
            refine TQi.of ?_
            rw [sp_engine, if_neg h18', if_neg (fun z => z ⟨h31, h43⟩), ix_nI (show j < 2147483648 by omega), ix_nI (show m < 2147483648 by omega), en, if_neg h62', if_neg (fun z => z (show spWheels j m τ = true from hz)), if_neg (by rw [e4]; exact h116), hI.2.1, ix_nI (show gE τ < 2147483648 by omega), show nI (gE τ) + 1 = nI (gE τ + 1) from nI_add _ 1]
            rfl
          · refine e_aload_n dX4_engine_119 0 rfl rfl rfl ?_
            refine e_bipush 7 dX4_engine_120 rfl ?_
            refine e_callV1 (As := [.int 7]) (rest := []) dX4_engine_122 rfl mvX4_252 (tw_o hp) rfl (t_refuse hp 7) (Nat.le_of_ble_eq_true rfl) rfl rfl (Nat.le_of_ble_eq_true rfl) (Nat.zero_le _) (Nat.zero_le _) ?_
            refine e_ireturn dX4_engine_125 rfl rfl (Nat.zero_le _) (Nat.zero_le _) ?_
            have e4 : (τ.1 5 = 4) = (gE τ = 4) := by rw [hI.2.1]; exact propext (nI_eqN (b := 4) (by omega) (by omega))
            refine TQi.of ?_
            rw [sp_engine, if_neg h18', if_neg (fun z => z ⟨h31, h43⟩), ix_nI (show j < 2147483648 by omega), ix_nI (show m < 2147483648 by omega), en, if_neg h62', if_neg (fun z => z (show spWheels j m τ = true from hz)), if_pos (by rw [e4]; exact h116)]
            rfl
        · refine e_aload_n dX4_engine_65 0 rfl rfl rfl ?_
          refine e_iconst 4 dX4_engine_66 rfl ?_
          refine e_callV1 (As := [.int 4]) (rest := []) dX4_engine_67 rfl mvX4_252 (tw_o hp) rfl (t_refuse hp 4) (Nat.le_of_ble_eq_true rfl) rfl rfl (Nat.le_of_ble_eq_true rfl) (Nat.zero_le _) (Nat.zero_le _) ?_
          refine e_ireturn dX4_engine_70 rfl rfl (Nat.zero_le _) (Nat.zero_le _) ?_
          refine TQi.of ?_
          rw [sp_engine, if_neg h18', if_neg (fun z => z ⟨h31, h43⟩), ix_nI (show j < 2147483648 by omega), ix_nI (show m < 2147483648 by omega), en, if_pos ((nI_ltN (by omega) (by omega)).mpr (by omega))]
          rfl
      · refine e_if_ne_f (by decide) 55 dX4_engine_46 (by decide) ?_
        refine e_aload_n dX4_engine_49 0 rfl rfl rfl ?_
        refine e_iconst 5 dX4_engine_50 rfl ?_
        refine e_callV1 (As := [.int 5]) (rest := []) dX4_engine_51 rfl mvX4_252 (tw_o hp) rfl (t_refuse hp 5) (Nat.le_of_ble_eq_true rfl) rfl rfl (Nat.le_of_ble_eq_true rfl) (Nat.zero_le _) (Nat.zero_le _) ?_
        refine e_ireturn dX4_engine_54 rfl rfl (Nat.zero_le _) (Nat.zero_le _) ?_
        refine TQi.of ?_
        rw [sp_engine, if_neg h18', if_pos (fun z => h43 z.2)]
        rfl
    · refine e_if_eq_t 49 (by decide) dX4_engine_34 (by decide) ?_
      refine e_aload_n dX4_engine_49 0 rfl rfl rfl ?_
      refine e_iconst 5 dX4_engine_50 rfl ?_
      refine e_callV1 (As := [.int 5]) (rest := []) dX4_engine_51 rfl mvX4_252 (tw_o hp) rfl (t_refuse hp 5) (Nat.le_of_ble_eq_true rfl) rfl rfl (Nat.le_of_ble_eq_true rfl) (Nat.zero_le _) (Nat.zero_le _) ?_
      refine e_ireturn dX4_engine_54 rfl rfl (Nat.zero_le _) (Nat.zero_le _) ?_
      refine TQi.of ?_
      rw [sp_engine, if_neg h18', if_pos (fun z => h31 z.1)]
      rfl
  · refine e_iconst (-1) dX4_engine_21 rfl ?_
    refine e_ireturn dX4_engine_22 rfl rfl (Nat.zero_le _) (Nat.zero_le _) ?_
    refine TQi.of ?_
    rw [sp_engine, if_pos (Int32.not_le.mp h18)]
    rfl

theorem mhN_A8 {τ : Tw} {f : Nat → Int32} {e : Nat} {t : Int32} {tr : Bool} : mhN (tA τ 8 f) e t tr = mhN τ e t tr := mhN_cg (τ' := tA τ 8 f) (τ := τ) rfl rfl rfl rfl rfl rfl rfl rfl rfl e t tr
theorem mhN_b0 {τ : Tw} {e : Nat} {t : Int32} {tr : Bool} : mhN (tI (tI τ 1 0) 0 0) e t tr = mhN τ e t tr := mhN_cg (τ' := tI (tI τ 1 0) 0 0) (τ := τ) rfl rfl rfl rfl rfl rfl rfl rfl rfl e t tr
theorem upd_upd (f : Nat → Int32) (k : Nat) (a b : Int32) : upd (upd f k a) k b = upd f k b := by funext j; unfold upd; split <;> rfl
theorem upd_self (f : Nat → Int32) (k : Nat) : upd f k (f k) = f := by
  funext j; unfold upd; split
  · rename_i h; subst h; rfl
  · rfl
set_option maxHeartbeats 4000000 in
set_option maxRecDepth 100000 in
/-- a loop of turn -/
theorem t_turn1 {pre post : List ACell} {τ0 : Tw} (hp : pre.length = 56) {A W M u : Nat} {rd : Nat → Nat} {cnt : Nat → Nat → Nat → Nat → Nat} {F : Mx} {e n : Nat} (hB : Bnd A W rd F) (hu : u + n ≤ 1000) {Q : Qfun} : ∀ (fuel : Nat) (k : Nat) (τ : Tw), k ≤ n → n < k + fuel → Sx [] [] [8, 10, 17] [] τ τ0 → EnF τ e A W M rd → (∀ t, mhN τ e (nI t) false = cnt t) → τ.2.2.1 8 = upd (τ0.2.2.1 8) e (nI (u + k)) → τ.2.2.1 10 = fgUp (τ0.2.2.1 10) e A W (trnN A W rd cnt u F k) → (∀ τ : Tw, Sx [] [] [8, 10, 17] [] τ τ0 → EnF τ e A W M rd → τ.2.2.1 8 = upd (τ0.2.2.1 8) e (nI (u + n)) → τ.2.2.1 10 = fgUp (τ0.2.2.1 10) e A W (trnN A W rd cnt u F n) → E cX4_turn (RX4, (some .int), 4, 4, (0, 0), false, []) Q noX 0 0 98 [some (.ref 56), some (.int (nI e)), some (.int (nI n)), none] [] (TW pre τ post)) →
    E cX4_turn (RX4, (some .int), 4, 4, (0, 0), false, []) Q noX 0 0 65 [some (.ref 56), some (.int (nI e)), some (.int (nI n)), some (.int (nI k))] [] (TW pre τ post) := by
  intro fuel
  induction fuel with
  | zero => intro k τ hk hf hS hN hcn h8 hfig hE; exact absurd hf (by omega)
  | succ fuel ih =>
    intro k τ hk hf hS hN hcn h8 hfig hE
    obtain ⟨he, hA, hA2, hW1, hW, eA, eW, hM, eM, hrd, hr⟩ := id hN
    refine e_iload_n dX4_turn_65 3 rfl rfl ?_
    refine e_iload_n dX4_turn_66 2 rfl rfl ?_
    refine e_icmp_geN k n 98 (by omega) (by omega) dX4_turn_67 (by decide) (fun h67 => ?_) (fun h67 => ?_)
    · refine e_forget (i := 3) (ln_s (ln_s (ln_s ln_0))) ?_
      have e1 : k = n := by omega
      subst e1
      exact hE τ hS hN h8 hfig
    · refine e_aload_n dX4_turn_70 0 rfl rfl rfl ?_
      refine e_getf (v := .ref 62) dX4_turn_71 rfl fX4_26 (tw_o hp) rfl ?_
      refine e_iload_n dX4_turn_74 1 rfl rfl ?_
      refine e_dup2 dX4_turn_75 rfl rfl ?_
      refine e_iald (f := τ.2.2.1 8) (j := e) dX4_turn_76 (tw_a8 hp) rfl (by omega) (by decide) ?_
      refine e_top (congrArg Value.int ((congrFun h8 e).trans (pk_us ..))) ?_
      refine e_iconst 1 dX4_turn_77 rfl ?_
      refine e_iaddN (u + k) 1 dX4_turn_78 ?_
      refine e_iast (f := τ.2.2.1 8) (j := e) dX4_turn_79 (tw_a8 hp) rfl (by omega) (by decide) ?_
      rw [tw_s8 hp]
      refine e_aload_n dX4_turn_80 0 rfl rfl rfl ?_
      refine e_iload_n dX4_turn_81 1 rfl rfl ?_
      refine e_aload_n dX4_turn_82 0 rfl rfl rfl ?_
      refine e_getf (v := .ref 62) dX4_turn_83 rfl fX4_26 (tw_o hp) rfl ?_
      refine e_iload_n dX4_turn_86 1 rfl rfl ?_
      refine e_iald (f := (upd (τ.2.2.1 8) e (nI ((u + k) + 1)))) (j := e) dX4_turn_87 (tw_a8 hp) rfl (by omega) (by decide) ?_
      refine e_top (congrArg Value.int (pk_us ..)) ?_
      refine e_iconst 0 dX4_turn_88 rfl ?_
      refine e_callVQ (As := [.int (nI e), .int (nI (u + k + 1)), .int 0]) (rest := []) dX4_turn_89 rfl mvX4_309 (tw_o hp) rfl (t_turnOne hp (t := nI (u + k + 1)) (tr := false) (trnN_ok hW1 hrd hB k) (by exact hN) (cnt := cnt (u + k + 1)) (mhN_A8.trans (hcn (u + k + 1))) (by exact hfig)) (Nat.le_of_ble_eq_true rfl) rfl rfl (Nat.le_of_ble_eq_true rfl) (Nat.zero_le _) (Nat.zero_le _) (fun v0 M0 h0 _ => ?_)
      obtain ⟨τ1, rfl, rfl, hS1, hf1⟩ := h0
      refine e_incN k (k + 1) (inc1 _) dX4_turn_92 rfl (ls_s (ls_s (ls_1 rfl))) (Nat.le_of_ble_eq_true rfl) ?_
      refine e_goto 65 dX4_turn_95 (by decide) ?_
      have hS2 : Sx [] [] [8, 10, 17] [] τ1 τ0 := (hS1.mono (by decide) (by decide) (by decide) (by decide)).trans (hS.A _ (by decide))
      refine ih (k + 1) τ1 (by omega) (by omega) hS2 (EnF.sx (τ := tA τ 8 _) hN hS1 (by decide) (by decide) (by decide) (by decide)) (fun t => (mhN_sx hS1 (by decide) (by decide) (by decide) (by decide) (by decide) e _ _).trans (mhN_A8.trans (hcn t))) ?_ hf1 hE
      rw [hS1.2.2.1 8 (by decide)]
      show upd (τ.2.2.1 8) e _ = _
      rw [h8, upd_upd]
      rfl

/-- two states the same but for arrays that are laid anew -/
theorem Tq.Sx3 {τ' τ : Tw} {f g : Nat → Int32} (h : Sx [] [] [8, 10, 17] [] τ' τ) : Tq (tA (tA τ' 8 f) 10 g) (tA (tA τ 8 f) 10 g) := by
  refine ⟨fun k _ => h.1 k (by simp), fun k hk => ?_, fun k _ => h.2.2.2 k (by simp)⟩
  show va_up (va_up τ'.2.2.1 8 f) 10 g k = va_up (va_up τ.2.2.1 8 f) 10 g k
  by_cases e : k = 10
  · subst e; rw [va_up_self, va_up_self]
  · rw [va_up_ne _ _ e, va_up_ne _ _ e]
    by_cases e8 : k = 8
    · subst e8; rw [va_up_self, va_up_self]
    · rw [va_up_ne _ _ e8, va_up_ne _ _ e8]
      refine h.2.2.1 k (fun z => ?_)
      rcases List.mem_cons.mp z with z | z
      · exact e8 z
      · rcases List.mem_cons.mp z with z | z
        · exact e z
        · rcases List.mem_cons.mp z with z | z
          · subst z; exact absurd hk (by decide)
          · exact absurd z (by simp)
set_option maxHeartbeats 4000000 in
set_option maxRecDepth 100000 in
/-- WheelTablesModel.turn -/
theorem t_turn {pre post : List ACell} {τ : Tw} (hp : pre.length = 56) (hI : InvE τ) (e n : Int32) : Ct yX4_turn (ws_ yX4_turn cX4_turn 4 (some .int)) 4 0 0 [.ref 56, .int e, .int n] (TW pre τ post) (TQi pre post (sp_turn e n τ)) noX := by
  refine Ct.of (ini := false) (ls := [some (.ref 56), some (.int e), some (.int n), none]) (by decide) (Nat.le_of_ble_eq_true rfl) (fun h => by cases h) rfl ?_
  refine e_aload_n dX4_turn_0 0 rfl rfl rfl ?_
  refine e_iconst 0 dX4_turn_1 rfl ?_
  refine e_tputI dX4_turn_2 rfl pX4_212 rfl hp (Nat.le_of_ble_eq_true rfl) (tw_f1 _) ?_
  refine e_aload_n dX4_turn_5 0 rfl rfl rfl ?_
  refine e_iconst 0 dX4_turn_6 rfl ?_
  refine e_tputI dX4_turn_7 rfl pX4_215 rfl hp (Nat.le_of_ble_eq_true rfl) (tw_f0 _) ?_
  refine e_aload_n dX4_turn_10 0 rfl rfl rfl ?_
  refine e_iload_n dX4_turn_11 1 rfl rfl ?_
  refine e_callVB (As := [.int e]) (rest := []) dX4_turn_12 rfl mvX4_243 (tw_o hp) rfl (t_isEngine hp (by exact hI) e) (Nat.le_of_ble_eq_true rfl) rfl rfl (Nat.le_of_ble_eq_true rfl) (Nat.zero_le _) (Nat.zero_le _) (fun h12 => ?_) (fun h12 => ?_)
  · have h12 : (IsE e τ) := h12
    refine e_if_ne_t 24 (by decide) dX4_turn_15 (by decide) ?_
    obtain ⟨j, hj, hj4, rfl⟩ := eng_of hI h12
    obtain ⟨hO, hM⟩ := hI.2.2.1 j hj
    have hN := hO.F hj4
    obtain ⟨-, hA, hA2, hW1, hW, eA, eW, hM20, eM, hrd, hr⟩ := id hN
    have hU := hO.2.2.1.1
    have eU := hO.2.2.1.2
    refine e_iload_n dX4_turn_24 2 rfl rfl ?_
    refine e_i2l dX4_turn_25 ?_
    refine e_lconst 1 dX4_turn_26 rfl ?_
    refine e_ldc2 rfl q1535 dX4_turn_27 ?_
    refine e_callSB (As := [.long n.toInt64, .long 1, .long 200]) (rest := []) dX4_turn_30 rfl msX4_239 (t_isInI n 1 200 rfl (by decide) (by decide)) (Nat.le_of_ble_eq_true rfl) rfl rfl (Nat.le_of_ble_eq_true rfl) (Nat.zero_le _) (Nat.zero_le _) (fun h30 => ?_) (fun h30 => ?_)
    · refine e_if_ne_t 42 (by decide) dX4_turn_33 (by decide) ?_
      obtain ⟨m, hm, rfl⟩ := in_oc (x := n) (c := 200) 200 (by decide) (Int32.le_trans (by decide) h30.1) h30.2
      refine e_aload_n dX4_turn_42 0 rfl rfl rfl ?_
      refine e_getf (v := .ref 62) dX4_turn_43 rfl fX4_26 (tw_o hp) rfl ?_
      refine e_iload_n dX4_turn_46 1 rfl rfl ?_
      refine e_iald (f := τ.2.2.1 8) (j := j) dX4_turn_47 (tw_a8 hp) rfl (by omega) (by decide) ?_
      refine e_top (congrArg Value.int eU) ?_
      refine e_iload_n dX4_turn_48 2 rfl rfl ?_
      refine e_iaddN (gU τ j) m dX4_turn_49 ?_
      refine e_sipush 1000 dX4_turn_50 rfl ?_
      refine e_icmp_leN ((gU τ j) + m) 1000 63 (by omega) (by omega) dX4_turn_53 (by decide) (fun h53 => ?_) (fun h53 => ?_)
      · refine e_iconst 0 dX4_turn_63 rfl ?_
        refine e_istore_n dX4_turn_64 3 rfl (ls_s (ls_s (ls_1 rfl))) (Nat.le_of_ble_eq_true rfl) ?_
        refine t_turn1 (τ0 := tI (tI τ 1 0) 0 0) (u := gU τ j) (F := gF τ j) (cnt := fun t => mhN τ j (nI t) false) hp hO.B (by omega) (m + 1) 0 _ (by omega) (by omega) Sx.rf (by exact hN) (fun t => mhN_b0) ?_ (by exact hO.self.symm) (fun τ1 hS1 hN1 h81 hf1 => ?_)
        · rw [Nat.add_zero, ← eU]; exact (upd_self _ _).symm
        refine e_aload_n dX4_turn_98 0 rfl rfl rfl ?_
        refine e_getf (v := .ref 62) dX4_turn_99 rfl fX4_26 (tw_o hp) rfl ?_
        refine e_iload_n dX4_turn_102 1 rfl rfl ?_
        refine e_iald (f := τ1.2.2.1 8) (j := j) dX4_turn_103 (tw_a8 hp) rfl (by omega) (by decide) ?_
        refine e_top (congrArg Value.int ((congrFun h81 j).trans (pk_us ..))) ?_
        refine e_ireturn dX4_turn_104 rfl rfl (Nat.zero_le _) (Nat.zero_le _) ?_
        have eS : sp_turn (nI j) (nI m) τ = (nI (gU τ j + m), tA (tA (b0 τ) 8 (upd (τ.2.2.1 8) j (nI (gU τ j + m)))) 10 (fgUp (τ.2.2.1 10) j (gA τ j) (gW τ j) (spTrn j m τ))) := by
          rw [sp_turn, if_neg (fun z => z h12), if_neg (fun z => z h30), ix_nI (show j < 2147483648 by omega), ix_nI (show m < 2147483648 by omega), eU, nI_add, if_neg (show ¬ (1000 : Int32) < nI (gU τ j + m) from fun z => absurd ((nI_ltN (a := 1000) (by omega) (by omega)).mp z) (by omega))]
        rw [eS]
        refine ⟨τ1, rfl, rfl, ?_⟩
        show Tq τ1 (tA (tA (b0 τ) 8 _) 10 _)
        have e1 : τ1 = tA (tA τ1 8 (τ1.2.2.1 8)) 10 (τ1.2.2.1 10) := by rw [tA_self]; exact (tA_self τ1 10).symm
        rw [e1, h81, hf1]
        refine Tq.Sx3 hS1
      · refine e_aload_n dX4_turn_56 0 rfl rfl rfl ?_
        refine e_bipush 9 dX4_turn_57 rfl ?_
        refine e_callV1 (As := [.int 9]) (rest := []) dX4_turn_59 rfl mvX4_252 (tw_o hp) rfl (t_refuse hp 9) (Nat.le_of_ble_eq_true rfl) rfl rfl (Nat.le_of_ble_eq_true rfl) (Nat.zero_le _) (Nat.zero_le _) ?_
        refine e_ireturn dX4_turn_62 rfl rfl (Nat.zero_le _) (Nat.zero_le _) ?_
        refine TQi.of ?_
        rw [sp_turn, if_neg (fun z => z h12), if_neg (fun z => z h30), ix_nI (show j < 2147483648 by omega), ix_nI (show m < 2147483648 by omega), eU, nI_add, if_pos (show (1000 : Int32) < nI (gU τ j + m) from (nI_ltN (a := 1000) (by omega) (by omega)).mpr (by omega))]
        rfl
    · refine e_if_ne_f (by decide) 42 dX4_turn_33 (by decide) ?_
      refine e_aload_n dX4_turn_36 0 rfl rfl rfl ?_
      refine e_iconst 5 dX4_turn_37 rfl ?_
      refine e_callV1 (As := [.int 5]) (rest := []) dX4_turn_38 rfl mvX4_252 (tw_o hp) rfl (t_refuse hp 5) (Nat.le_of_ble_eq_true rfl) rfl rfl (Nat.le_of_ble_eq_true rfl) (Nat.zero_le _) (Nat.zero_le _) ?_
      refine e_ireturn dX4_turn_41 rfl rfl (Nat.zero_le _) (Nat.zero_le _) ?_
      refine TQi.of ?_
      rw [sp_turn, if_neg (fun z => z h12), if_pos h30]
      rfl
  · have h12 : ¬ (IsE e τ) := h12
    refine e_if_ne_f (by decide) 24 dX4_turn_15 (by decide) ?_
    refine e_aload_n dX4_turn_18 0 rfl rfl rfl ?_
    refine e_iconst 2 dX4_turn_19 rfl ?_
    refine e_callV1 (As := [.int 2]) (rest := []) dX4_turn_20 rfl mvX4_252 (tw_o hp) rfl (t_refuse hp 2) (Nat.le_of_ble_eq_true rfl) rfl rfl (Nat.le_of_ble_eq_true rfl) (Nat.zero_le _) (Nat.zero_le _) ?_
    refine e_ireturn dX4_turn_23 rfl rfl (Nat.zero_le _) (Nat.zero_le _) ?_
    refine TQi.of ?_
    rw [sp_turn, if_pos h12]
    rfl

