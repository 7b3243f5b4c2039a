/-! ===== the twin: sheets ===== -/
set_option maxHeartbeats 4000000 in
set_option maxRecDepth 100000 in
/-- WheelTablesModel.cutTo -/
theorem t_cutTo {M : List ACell} (s : Int32) (v : Int64) : Ct yX4_cutTo (ws_ yX4_cutTo cX4_cutTo 3 (some .long)) 0 0 0 [.int s, .long v] M (Q1 (some (.long (spCut s v))) M) noX := by
  refine Ct.of (ini := false) (ls := [some (.int s), some (.long v), none]) (by decide) (Nat.le_of_ble_eq_true rfl) (fun h => by cases h) rfl ?_
  refine e_iload_n dX4_cutTo_0 0 rfl rfl ?_
  refine e_if_ne 11 dX4_cutTo_1 (by decide) (fun h1 => ?_) (fun h1 => ?_)
  · refine e_iload_n dX4_cutTo_11 0 rfl rfl ?_
    refine e_iconst 1 dX4_cutTo_12 rfl ?_
    refine e_icmp_ne 23 dX4_cutTo_13 (by decide) (fun h13 => ?_) (fun h13 => ?_)
    · refine e_iload_n dX4_cutTo_23 0 rfl rfl ?_
      refine e_iconst 2 dX4_cutTo_24 rfl ?_
      refine e_icmp_ne 34 dX4_cutTo_25 (by decide) (fun h25 => ?_) (fun h25 => ?_)
      · refine e_lload_n dX4_cutTo_34 1 rfl rfl ?_
        refine e_lreturn dX4_cutTo_35 rfl (Nat.zero_le _) (Nat.zero_le _) ?_
        refine ⟨?_, rfl⟩
        rw [spCut, if_neg h1, if_neg h13, if_neg h25]
      · refine e_lload_n dX4_cutTo_28 1 rfl rfl ?_
        refine e_l2i dX4_cutTo_29 ?_
        refine e_i2l dX4_cutTo_30 ?_
        refine e_goto 35 dX4_cutTo_31 (by decide) ?_
        refine e_lreturn dX4_cutTo_35 rfl (Nat.zero_le _) (Nat.zero_le _) ?_
        refine ⟨?_, rfl⟩
        rw [spCut, if_neg h1, if_neg h13, if_pos h25]
    · refine e_lload_n dX4_cutTo_16 1 rfl rfl ?_
      refine e_l2i dX4_cutTo_17 ?_
      refine e_i2s dX4_cutTo_18 ?_
      refine e_i2l dX4_cutTo_19 ?_
      refine e_goto 35 dX4_cutTo_20 (by decide) ?_
      refine e_lreturn dX4_cutTo_35 rfl (Nat.zero_le _) (Nat.zero_le _) ?_
      refine ⟨?_, rfl⟩
      rw [spCut, if_neg h1, if_pos h13]
  · refine e_lload_n dX4_cutTo_4 1 rfl rfl ?_
    refine e_l2i dX4_cutTo_5 ?_
    refine e_i2b dX4_cutTo_6 ?_
    refine e_i2l dX4_cutTo_7 ?_
    refine e_goto 35 dX4_cutTo_8 (by decide) ?_
    refine e_lreturn dX4_cutTo_35 rfl (Nat.zero_le _) (Nat.zero_le _) ?_
    refine ⟨?_, rfl⟩
    rw [spCut, if_pos h1]

set_option maxHeartbeats 4000000 in
set_option maxRecDepth 100000 in
/-- WheelTablesModel.asksSheet -/
theorem t_ask {pre post : List ACell} {τ : Tw} (hp : pre.length = 56) (hI : InvE τ) (e t r : Int32) : Ct yX4_asksSheet (ws_ yX4_asksSheet cX4_asksSheet 4 (some .int)) 2 0 0 [.ref 56, .int e, .int t, .int r] (TW pre τ post) (Q1 (some (.int (spAsk e t r τ))) (TW pre τ post)) noX := by
  refine Ct.of (ini := false) (ls := [some (.ref 56), some (.int e), some (.int t), some (.int r)]) (by decide) (Nat.le_of_ble_eq_true rfl) (fun h => by cases h) rfl ?_
  refine e_iload_n dX4_asksSheet_0 2 rfl rfl ?_
  refine e_if_lt 9 dX4_asksSheet_1 (by decide) (fun h1 => ?_) (fun h1 => ?_)
  · refine e_iconst 1 dX4_asksSheet_9 rfl ?_
    refine e_ireturn dX4_asksSheet_10 rfl rfl (Nat.zero_le _) (Nat.zero_le _) ?_
    refine ⟨?_, rfl⟩
    rw [spAsk, if_pos (Or.inl h1)]
  · refine e_iload_n dX4_asksSheet_4 2 rfl rfl ?_
    refine e_iconst 4 dX4_asksSheet_5 rfl ?_
    refine e_icmp_lt 11 dX4_asksSheet_6 (by decide) (fun h6 => ?_) (fun h6 => ?_)
    · have g6 : ¬ (t < 0 ∨ 4 ≤ t) := fun z => z.elim h1 (fun z => absurd h6 (Int32.not_lt.mpr z))
      obtain ⟨y, hy, rfl⟩ := in_lt (x := t) 4 (by decide) h1 h6
      refine e_aload_n dX4_asksSheet_11 0 rfl rfl rfl ?_
      refine e_iload_n dX4_asksSheet_12 1 rfl rfl ?_
      refine e_callVB (As := [.int e]) (rest := []) dX4_asksSheet_13 rfl mvX4_243 (tw_o hp) rfl (t_isEngine hp (by exact hI) e) (Nat.le_of_ble_eq_true rfl) rfl rfl (Nat.le_of_ble_eq_true rfl) (Nat.zero_le _) (Nat.zero_le _) (fun h13 => ?_) (fun h13 => ?_)
      · have h13 : (IsE e τ) := h13
        refine e_if_ne_t 21 (by decide) dX4_asksSheet_16 (by decide) ?_
        refine e_aload_n dX4_asksSheet_21 0 rfl rfl rfl ?_
        refine e_getf (v := .ref 58) dX4_asksSheet_22 rfl fX4_13 (tw_o hp) rfl ?_
        refine e_iload_n dX4_asksSheet_25 2 rfl rfl ?_
        refine e_iald (f := τ.2.2.1 3) (j := y) dX4_asksSheet_26 (tw_a3 hp) rfl (by omega) (by decide) ?_
        refine e_if_ge 32 dX4_asksSheet_27 (by decide) (fun h27 => ?_) (fun h27 => ?_)
        · refine e_iload_n dX4_asksSheet_32 3 rfl rfl ?_
          refine e_i2l dX4_asksSheet_33 ?_
          refine e_lconst 1 dX4_asksSheet_34 rfl ?_
          refine e_ldc2 rfl q1556 dX4_asksSheet_35 ?_
          refine e_callSB (As := [.long r.toInt64, .long 1, .long 60]) (rest := []) dX4_asksSheet_38 rfl msX4_239 (t_isInI r 1 60 rfl (by decide) (by decide)) (Nat.le_of_ble_eq_true rfl) rfl rfl (Nat.le_of_ble_eq_true rfl) (Nat.zero_le _) (Nat.zero_le _) (fun h38 => ?_) (fun h38 => ?_)
          · refine e_if_ne_t 46 (by decide) dX4_asksSheet_41 (by decide) ?_
            refine e_aload_n dX4_asksSheet_46 0 rfl rfl rfl ?_
            refine e_getf (v := .ref 58) dX4_asksSheet_47 rfl fX4_13 (tw_o hp) rfl ?_
            refine e_iload_n dX4_asksSheet_50 2 rfl rfl ?_
            refine e_iald (f := τ.2.2.1 3) (j := y) dX4_asksSheet_51 (tw_a3 hp) rfl (by omega) (by decide) ?_
            refine e_iload_n dX4_asksSheet_52 3 rfl rfl ?_
            refine e_icmp_ge 60 dX4_asksSheet_53 (by decide) (fun h53 => ?_) (fun h53 => ?_)
            · refine e_iconst 0 dX4_asksSheet_60 rfl ?_
              refine e_ireturn dX4_asksSheet_61 rfl rfl (Nat.zero_le _) (Nat.zero_le _) ?_
              refine ⟨?_, rfl⟩
              rw [spAsk, if_neg g6, if_neg (fun z => z h13), ix_nI (show y < 2147483648 by omega), if_neg (Int32.not_lt.mpr h27), if_neg (fun z => z h38), if_neg (Int32.not_lt.mpr h53)]
            · refine e_iconst 4 dX4_asksSheet_56 rfl ?_
              refine e_goto 61 dX4_asksSheet_57 (by decide) ?_
              refine e_ireturn dX4_asksSheet_61 rfl rfl (Nat.zero_le _) (Nat.zero_le _) ?_
              refine ⟨?_, rfl⟩
              rw [spAsk, if_neg g6, if_neg (fun z => z h13), ix_nI (show y < 2147483648 by omega), if_neg (Int32.not_lt.mpr h27), if_neg (fun z => z h38), if_pos (Int32.not_le.mp h53)]
          · refine e_if_ne_f (by decide) 46 dX4_asksSheet_41 (by decide) ?_
            refine e_iconst 5 dX4_asksSheet_44 rfl ?_
            refine e_ireturn dX4_asksSheet_45 rfl rfl (Nat.zero_le _) (Nat.zero_le _) ?_
            refine ⟨?_, rfl⟩
            rw [spAsk, if_neg g6, if_neg (fun z => z h13), ix_nI (show y < 2147483648 by omega), if_neg (Int32.not_lt.mpr h27), if_pos h38]
        · refine e_iconst 3 dX4_asksSheet_30 rfl ?_
          refine e_ireturn dX4_asksSheet_31 rfl rfl (Nat.zero_le _) (Nat.zero_le _) ?_
          refine ⟨?_, rfl⟩
          rw [spAsk, if_neg g6, if_neg (fun z => z h13), ix_nI (show y < 2147483648 by omega), if_pos (Int32.not_le.mp h27)]
      · have h13 : ¬ (IsE e τ) := h13
        refine e_if_ne_f (by decide) 21 dX4_asksSheet_16 (by decide) ?_
        refine e_iconst 2 dX4_asksSheet_19 rfl ?_
        refine e_ireturn dX4_asksSheet_20 rfl rfl (Nat.zero_le _) (Nat.zero_le _) ?_
        refine ⟨?_, rfl⟩
        rw [spAsk, if_neg g6, if_pos h13]
    · refine e_iconst 1 dX4_asksSheet_9 rfl ?_
      refine e_ireturn dX4_asksSheet_10 rfl rfl (Nat.zero_le _) (Nat.zero_le _) ?_
      refine ⟨?_, rfl⟩
      rw [spAsk, if_pos (Or.inr (Int32.not_lt.mp h6))]

theorem t_onM {pre post : List ACell} {τ : Tw} (hp : pre.length = 56) {a0 : Nat → Int32} {e x A W M : Nat} {rd : Nat → Nat} {G : Mx} (hN : EnF τ e A W M rd) (hx : x < A) (hfig : τ.2.2.1 10 = fgUp a0 e A W G) : Ct yX4_onAxis (ws_ yX4_onAxis cX4_onAxis 6 (some .long)) 1 0 0 [.ref 56, .int (nI e), .int (nI x)] (TW pre τ post) (Q1 (some (.long (oaM W rd G x))) (TW pre τ post)) noX := by
  obtain ⟨he, hA, hA2, hW1, hW, eA, eW, hM, eM, hrd, hr⟩ := id hN
  rw [← oaM_of hA hW hx hr hfig]
  exact t_onAxis hp hN hx
set_option maxHeartbeats 4000000 in
set_option maxRecDepth 100000 in
/-- a loop of sheet -/
theorem t_sheet1 {pre post : List ACell} {τ0 : Tw} (hp : pre.length = 56) {A W M u : Nat} {rd : Nat → Nat} {cnt : Nat → Nat → Nat → Nat → Nat} {F : Mx} {y e n : Nat} (hB : Bnd A W rd F) (hu : u + n ≤ 1000) (hn : n ≤ 60) (hy : y < 4) {Q : Qfun} : ∀ (fuel : Nat) (k : Nat) (τ : Tw), k ≤ n → n < k + fuel → Sx [] [] [8, 10, 17] [4] τ τ0 → EnF τ e A W M rd → (∀ t, mhN τ e (nI t) false = cnt t) → τ.2.2.1 8 = upd (τ0.2.2.1 8) e (nI (u + k)) → τ.2.2.1 10 = fgUp (τ0.2.2.1 10) e A W (trnN A W rd cnt u F k) → τ.2.2.2 4 = rngL (τ0.2.2.2 4) (60 * y) k (fun i => spCut (τ0.2.2.1 2 y) (oaM W rd (trnN A W rd cnt u F (i + 1)) 0)) → (∀ τ : Tw, Sx [] [] [8, 10, 17] [4] τ τ0 → τ.2.2.1 8 = upd (τ0.2.2.1 8) e (nI (u + n)) → τ.2.2.1 10 = fgUp (τ0.2.2.1 10) e A W (trnN A W rd cnt u F n) → τ.2.2.2 4 = rngL (τ0.2.2.2 4) (60 * y) n (fun i => spCut (τ0.2.2.1 2 y) (oaM W rd (trnN A W rd cnt u F (i + 1)) 0)) → Q (some (.int 1)) (TW pre τ post)) →
    E cX4_sheet (RX4, (some .boolean), 5, 4, (0, 0), false, []) Q noX 0 0 55 [some (.ref 56), some (.int (nI e)), some (.int (nI y)), some (.int (nI n)), some (.int (nI k))] [] (TW pre τ post) := by
  intro fuel
  induction fuel with
  | zero => intro k τ hk hf hS hN hcn h8 hfig h4 hQ; exact absurd hf (by omega)
  | succ fuel ih =>
    intro k τ hk hf hS hN hcn h8 hfig h4 hQ
    obtain ⟨he, hA, hA2, hW1, hW, eA, eW, hM, eM, hrd, hr⟩ := id hN
    refine e_iload dX4_sheet_55 rfl ?_
    refine e_iload_n dX4_sheet_57 3 rfl rfl ?_
    refine e_icmp_geN k n 116 (by omega) (by omega) dX4_sheet_58 (by decide) (fun h58 => ?_) (fun h58 => ?_)
    · refine e_iconst 1 dX4_sheet_116 rfl ?_
      refine e_ireturn dX4_sheet_117 rfl rfl (Nat.zero_le _) (Nat.zero_le _) ?_
      have e1 : k = n := by omega
      subst e1
      exact hQ τ hS h8 hfig h4
    · refine e_aload_n dX4_sheet_61 0 rfl rfl rfl ?_
      refine e_getf (v := .ref 62) dX4_sheet_62 rfl fX4_26 (tw_o hp) rfl ?_
      refine e_iload_n dX4_sheet_65 1 rfl rfl ?_
      refine e_dup2 dX4_sheet_66 rfl rfl ?_
      refine e_iald (f := τ.2.2.1 8) (j := e) dX4_sheet_67 (tw_a8 hp) rfl (by omega) (by decide) ?_
      refine e_top (congrArg Value.int ((congrFun h8 e).trans (pk_us ..))) ?_
      refine e_iconst 1 dX4_sheet_68 rfl ?_
      refine e_iaddN (u + k) 1 dX4_sheet_69 ?_
      refine e_iast (f := τ.2.2.1 8) (j := e) dX4_sheet_70 (tw_a8 hp) rfl (by omega) (by decide) ?_
      rw [tw_s8 hp]
      refine e_aload_n dX4_sheet_71 0 rfl rfl rfl ?_
      refine e_iload_n dX4_sheet_72 1 rfl rfl ?_
      refine e_aload_n dX4_sheet_73 0 rfl rfl rfl ?_
      refine e_getf (v := .ref 62) dX4_sheet_74 rfl fX4_26 (tw_o hp) rfl ?_
      refine e_iload_n dX4_sheet_77 1 rfl rfl ?_
      refine e_iald (f := (upd (τ.2.2.1 8) e (nI ((u + k) + 1)))) (j := e) dX4_sheet_78 (tw_a8 hp) rfl (by omega) (by decide) ?_
      refine e_top (congrArg Value.int (pk_us ..)) ?_
      refine e_iconst 0 dX4_sheet_79 rfl ?_
      refine e_callVQ (As := [.int (nI e), .int (nI (u + k + 1)), .int 0]) (rest := []) dX4_sheet_80 rfl mvX4_309 (tw_o hp) rfl (t_turnOne hp (t := nI (u + k + 1)) (tr := false) (trnN_ok hW1 hrd hB k) (by exact hN) (cnt := cnt (u + k + 1)) (mhN_A8.trans (hcn (u + k + 1))) (by exact hfig)) (Nat.le_of_ble_eq_true rfl) rfl rfl (Nat.le_of_ble_eq_true rfl) (Nat.zero_le _) (Nat.zero_le _) (fun v0 M0 h0 _ => ?_)
      obtain ⟨τ1, rfl, rfl, hS1, hf1⟩ := h0
      refine e_aload_n dX4_sheet_83 0 rfl rfl rfl ?_
      refine e_getf (v := .ref 59) dX4_sheet_84 rfl fX4_16 (tw_o hp) rfl ?_
      refine e_bipush 60 dX4_sheet_87 rfl ?_
      refine e_iload_n dX4_sheet_89 2 rfl rfl ?_
      refine e_imulN 60 y dX4_sheet_90 ?_
      refine e_iload dX4_sheet_91 rfl ?_
      refine e_iaddN (60 * y) k dX4_sheet_93 ?_
      refine e_aload_n dX4_sheet_94 0 rfl rfl rfl ?_
      refine e_getf (v := .ref 57) dX4_sheet_95 rfl fX4_7 (tw_o hp) rfl ?_
      refine e_iload_n dX4_sheet_98 2 rfl rfl ?_
      refine e_iald (f := τ1.2.2.1 2) (j := y) dX4_sheet_99 (tw_a2 hp) rfl (by omega) (by decide) ?_
      refine e_aload_n dX4_sheet_100 0 rfl rfl rfl ?_
      refine e_iload_n dX4_sheet_101 1 rfl rfl ?_
      refine e_iconst 0 dX4_sheet_102 rfl ?_
      refine e_callV1 (As := [.int (nI e), .int 0]) (rest := [.int (τ1.2.2.1 2 y), .int (nI ((60 * y) + k)), .ref 59]) dX4_sheet_103 rfl mvX4_267 (tw_o hp) rfl (t_onM (x := 0) hp (EnF.sx (τ := tA τ 8 _) hN hS1 (by decide) (by decide) (by decide) (by decide)) (by omega) (by exact hf1)) (Nat.le_of_ble_eq_true rfl) rfl rfl (Nat.le_of_ble_eq_true rfl) (Nat.zero_le _) (Nat.zero_le _) ?_
      refine e_callS1 (As := [.int (τ1.2.2.1 2 y), .long (oaM W rd (trnN A W rd cnt u F (k + 1)) 0)]) (rest := [.int (nI ((60 * y) + k)), .ref 59]) dX4_sheet_106 rfl msX4_318 (t_cutTo (τ1.2.2.1 2 y) (oaM W rd (trnN A W rd cnt u F (k + 1)) 0)) (Nat.le_of_ble_eq_true rfl) rfl rfl (Nat.le_of_ble_eq_true rfl) (Nat.zero_le _) (Nat.zero_le _) ?_
      refine e_last (f := τ1.2.2.2 4) (j := (60 * y) + k) dX4_sheet_109 (tw_a4 hp) rfl (by omega) (by decide) ?_
      rw [tw_s4 hp]
      refine e_incN k (k + 1) (inc1 _) dX4_sheet_110 rfl (ls_s (ls_s (ls_s (ls_1 rfl)))) (Nat.le_of_ble_eq_true rfl) ?_
      refine e_goto 55 dX4_sheet_113 (by decide) ?_
      have hS2 : Sx [] [] [8, 10, 17] [4] τ1 τ0 := (hS1.mono (by decide) (by decide) (by decide) (by decide)).trans (hS.A _ (by decide))
      have hN1 : EnF τ1 e A W M rd := (EnF.sx (τ := tA τ 8 _) hN hS1 (by decide) (by decide) (by decide) (by decide))
      refine ih (k + 1) _ (by omega) (by omega) (hS2.B _ (by decide)) (by exact hN1) (fun t => Eq.trans ?_ ((mhN_sx hS1 (by decide) (by decide) (by decide) (by decide) (by decide) e (nI t) false).trans (mhN_A8.trans (hcn t)))) ?_ (by exact hf1) ?_ hQ
      · exact mhN_cg (τ' := tB τ1 4 _) (τ := τ1) rfl rfl rfl rfl rfl rfl rfl rfl rfl e _ _
      · show τ1.2.2.1 8 = _
        rw [hS1.2.2.1 8 (by decide)]
        show upd (τ.2.2.1 8) e _ = _
        rw [h8, upd_upd]
        rfl
      · show va_up τ1.2.2.2 4 (vp_updL (τ1.2.2.2 4) _ _) 4 = _
        rw [va_up_self, ← rngL_s, hS1.2.2.2 4 (by simp), ← h4, hS2.2.2.1 2 (by decide)]
        rfl

theorem Tq.B4 {τ' τ : Tw} {f g : Nat → Int32} {q : Nat → Int64} (h : Sx [] [] [8, 10, 17] [4] τ' τ) : Tq (tB (tA (tA τ' 8 f) 10 g) 4 q) (tB (tA (tA τ 8 f) 10 g) 4 q) := by
  have h2 : Sx [] [] [8, 10, 17] [] (tB τ' 4 (τ.2.2.2 4)) τ := ⟨h.1, h.2.1, h.2.2.1, fun k _ => by
    show va_up τ'.2.2.2 4 (τ.2.2.2 4) k = _
    by_cases e : k = 4
    · subst e; rw [va_up_self]
    · rw [va_up_ne _ _ e]; exact h.2.2.2 k (fun z => e (by simpa using z))⟩
  have h3 := (Tq.Sx3 (f := f) (g := g) h2).B 4 q
  rw [show tA (tA (tB τ' 4 (τ.2.2.2 4)) 8 f) 10 g = tB (tA (tA τ' 8 f) 10 g) 4 (τ.2.2.2 4) from rfl, tB_tB] at h3
  exact h3
set_option maxHeartbeats 4000000 in
set_option maxRecDepth 100000 in
/-- WheelTablesModel.sheet -/
theorem t_sheet {pre post : List ACell} {τ : Tw} (hp : pre.length = 56) (hI : InvE τ) (hT : InvT τ) (e t r : Int32) : Ct yX4_sheet (ws_ yX4_sheet cX4_sheet 5 (some .boolean)) 4 0 0 [.ref 56, .int e, .int t, .int r] (TW pre τ post) (TQi pre post (sp_sheet e t r τ)) noX := by
  refine Ct.of (ini := false) (ls := [some (.ref 56), some (.int e), some (.int t), some (.int r), none]) (by decide) (Nat.le_of_ble_eq_true rfl) (fun h => by cases h) rfl ?_
  refine e_aload_n dX4_sheet_0 0 rfl rfl rfl ?_
  refine e_iconst 0 dX4_sheet_1 rfl ?_
  refine e_tputI dX4_sheet_2 rfl pX4_212 rfl hp (Nat.le_of_ble_eq_true rfl) (tw_f1 _) ?_
  refine e_aload_n dX4_sheet_5 0 rfl rfl rfl ?_
  refine e_aload_n dX4_sheet_6 0 rfl rfl rfl ?_
  refine e_iload_n dX4_sheet_7 1 rfl rfl ?_
  refine e_iload_n dX4_sheet_8 2 rfl rfl ?_
  refine e_iload_n dX4_sheet_9 3 rfl rfl ?_
  refine e_callV1 (As := [.int e, .int t, .int r]) (rest := [.ref 56]) dX4_sheet_10 rfl mvX4_315 (tw_o hp) rfl (t_ask hp (by exact hI) e t r) (Nat.le_of_ble_eq_true rfl) rfl rfl (Nat.le_of_ble_eq_true rfl) (Nat.zero_le _) (Nat.zero_le _) ?_
  refine e_tputI dX4_sheet_13 rfl pX4_215 rfl hp (Nat.le_of_ble_eq_true rfl) (tw_f0 _) ?_
  refine e_aload_n dX4_sheet_16 0 rfl rfl rfl ?_
  refine e_getf (v := .int (spAsk e t r τ)) dX4_sheet_17 rfl fX4_215 (tw_o hp) rfl ?_
  refine e_if_ne 43 dX4_sheet_20 (by decide) (fun h20 => ?_) (fun h20 => ?_)
  · refine e_aload_n dX4_sheet_43 0 rfl rfl rfl ?_
    refine e_getf (v := .int (spAsk e t r τ)) dX4_sheet_44 rfl fX4_215 (tw_o hp) rfl ?_
    refine e_if_le 52 dX4_sheet_47 (by decide) (fun h47 => ?_) (fun h47 => ?_)
    · exact absurd (spAsk_0 hI hT (i32_le h47)).1 h20
    · refine e_iconst 0 dX4_sheet_50 rfl ?_
      refine e_ireturn dX4_sheet_51 rfl rfl (Nat.zero_le _) (Nat.zero_le _) ?_
      have h0 : 0 < spAsk e t r τ := Int32.not_le.mp h47
      refine TQi.of ?_
      rw [sp_sheet, if_pos h0]
      rfl
  · have gA0 : ¬ 0 < spAsk e t r τ := by rw [show spAsk e t r τ = 0 from h20]; decide
    obtain ⟨-, hiE, y, n, m, hy, rfl, hn, en, hm1, hmn, rfl⟩ := spAsk_0 hI hT gA0
    obtain ⟨j, hj, hj4, rfl⟩ := eng_of hI hiE
    obtain ⟨hO, hM⟩ := hI.2.2.1 j hj
    have hN := hO.F hj4
    obtain ⟨-, hA, hA2, hW1, hW, eA, eW, hM20, eM, hrd, hr⟩ := id hN
    have hU := hO.2.2.1.1
    have eU := hO.2.2.1.2
    have z0 : spAsk (nI j) (nI y) (nI m) τ = 0 := h20
    rw [show spAsk (nI j) (nI y) (nI m) (tI τ 1 0) = 0 from z0]
    refine e_aload_n dX4_sheet_23 0 rfl rfl rfl ?_
    refine e_getf (v := .ref 62) dX4_sheet_24 rfl fX4_26 (tw_o hp) rfl ?_
    refine e_iload_n dX4_sheet_27 1 rfl rfl ?_
    refine e_iald (f := τ.2.2.1 8) (j := j) dX4_sheet_28 (tw_a8 hp) rfl (by omega) (by decide) ?_
    refine e_top (congrArg Value.int eU) ?_
    refine e_iload_n dX4_sheet_29 3 rfl rfl ?_
    refine e_iaddN (gU τ j) m dX4_sheet_30 ?_
    refine e_sipush 1000 dX4_sheet_31 rfl ?_
    refine e_icmp_leN ((gU τ j) + m) 1000 43 (by omega) (by omega) dX4_sheet_34 (by decide) (fun h34 => ?_) (fun h34 => ?_)
    · refine e_aload_n dX4_sheet_43 0 rfl rfl rfl ?_
      refine e_getf (v := .int 0) dX4_sheet_44 rfl fX4_215 (tw_o hp) rfl ?_
      refine e_if_le_t 52 (by decide) dX4_sheet_47 (by decide) ?_
      refine e_iconst 0 dX4_sheet_52 rfl ?_
      refine e_istore dX4_sheet_53 (ls_s (ls_s (ls_s (ls_1 rfl)))) (Nat.le_of_ble_eq_true rfl) ?_
      refine t_sheet1 (τ0 := tI (tI τ 1 0) 0 0) (u := gU τ j) (F := gF τ j) (cnt := fun t => mhN τ j (nI t) false) hp hO.B (by omega) (by omega) hy (m + 1) 0 _ (by omega) (by omega) Sx.rf (by exact hN) (fun t => mhN_b0) ?_ (by exact hO.self.symm) (by rw [rngL_0]) (fun τ1 hS1 h81 hf1 h41 => ?_)
      · rw [Nat.add_zero, ← eU]; exact (upd_self _ _).symm
      have eS : sp_sheet (nI j) (nI y) (nI m) τ = (1, tB (tA (tA (b0 τ) 8 (upd (τ.2.2.1 8) j (nI (gU τ j + m)))) 10 (fgUp (τ.2.2.1 10) j (gA τ j) (gW τ j) (spTrn j m τ))) 4 (rngL (τ.2.2.2 4) (60 * y) m (spLine j y τ))) := by
        rw [sp_sheet, if_neg gA0, ix_nI (show j < 2147483648 by omega), ix_nI (show y < 2147483648 by omega), ix_nI (show m < 2147483648 by omega), eU, nI_add, if_neg (show ¬ (1000 : Int32) < nI (gU τ j + m) from fun z => absurd ((nI_ltN (a := 1000) (by omega) (by omega)).mp z) (by omega))]
      rw [eS]
      refine ⟨τ1, rfl, rfl, ?_⟩
      show Tq τ1 (tB (tA (tA (b0 τ) 8 _) 10 _) 4 _)
      have e1 : τ1 = tB (tA (tA τ1 8 (τ1.2.2.1 8)) 10 (τ1.2.2.1 10)) 4 (τ1.2.2.2 4) := by rw [tA_self, tA_self τ1 10, tB_self]
      rw [e1, h81, hf1, h41]
      exact Tq.B4 hS1
    · refine e_aload_n dX4_sheet_37 0 rfl rfl rfl ?_
      refine e_bipush 9 dX4_sheet_38 rfl ?_
      refine e_tputI dX4_sheet_40 rfl pX4_215 rfl hp (Nat.le_of_ble_eq_true rfl) (tw_f0 _) ?_
      refine e_aload_n dX4_sheet_43 0 rfl rfl rfl ?_
      refine e_getf (v := .int 9) dX4_sheet_44 rfl fX4_215 (tw_o hp) rfl ?_
      refine e_if_le_f (by decide) 52 dX4_sheet_47 (by decide) ?_
      refine e_iconst 0 dX4_sheet_50 rfl ?_
      refine e_ireturn dX4_sheet_51 rfl rfl (Nat.zero_le _) (Nat.zero_le _) ?_
      refine TQi.of ?_
      rw [sp_sheet, if_neg gA0, ix_nI (show j < 2147483648 by omega), eU, nI_add, if_pos (show (1000 : Int32) < nI (gU τ j + m) from (nI_ltN (a := 1000) (by omega) (by omega)).mpr (by omega))]
      rfl

