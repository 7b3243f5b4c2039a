/-! ===== the twin: the mill (2) ===== -/
set_option maxHeartbeats 4000000 in
set_option maxRecDepth 100000 in
/-- WheelTablesModel.comes -/
theorem t_comes {pre post : List ACell} {τ : Tw} (hp : pre.length = 56) {k c : Nat} (hk : k < 40) (hc : τ.2.2.1 46 k = nI c ∧ c < 20) (v : Int64) : Ct yX4_comes (ws_ yX4_comes cX4_comes 4 none) 0 0 0 [.ref 56, .int (nI k), .long v] (TW pre τ post) (Q1 none (TW pre (spComes τ k v) post)) noX := by
  refine Ct.of (ini := false) (ls := [some (.ref 56), some (.int (nI k)), some (.long v), none]) (by decide) (Nat.le_of_ble_eq_true rfl) (fun h => by cases h) rfl ?_
  refine e_aload_n dX4_comes_0 0 rfl rfl rfl ?_
  refine e_getf (v := .ref 90) dX4_comes_1 rfl fX4_128 (tw_o hp) rfl ?_
  refine e_aload_n dX4_comes_4 0 rfl rfl rfl ?_
  refine e_getf (v := .ref 78) dX4_comes_5 rfl fX4_92 (tw_o hp) rfl ?_
  refine e_iload_n dX4_comes_8 1 rfl rfl ?_
  refine e_iald (f := τ.2.2.1 46) (j := k) dX4_comes_9 (tw_a46 hp) rfl (by omega) (by decide) ?_
  refine e_top (congrArg Value.int hc.1) ?_
  refine e_lload_n dX4_comes_10 2 rfl rfl ?_
  refine e_last (f := τ.2.2.2 58) (j := c) dX4_comes_11 (tw_a58 hp) rfl (by omega) (by decide) ?_
  rw [tw_s58 hp]
  refine e_aload_n dX4_comes_12 0 rfl rfl rfl ?_
  refine e_lload_n dX4_comes_13 2 rfl rfl ?_
  refine e_lconst 0 dX4_comes_14 rfl ?_
  refine e_lcmp_ge 23 dX4_comes_15 dX4_comes_16 (by decide) (fun h15 => ?_) (fun h15 => ?_)
  · refine e_iconst 0 dX4_comes_23 rfl ?_
    refine e_tputI dX4_comes_24 rfl pX4_464 rfl hp (Nat.le_of_ble_eq_true rfl) (tw_f61 _) ?_
    refine e_return dX4_comes_27 rfl (Nat.zero_le _) (Nat.zero_le _) ?_
    refine ⟨rfl, ?_⟩
    rw [spComes, spUp, hc.1, ix_nI (by omega), if_neg (Int64.not_lt.mpr h15)]
  · refine e_iconst 1 dX4_comes_19 rfl ?_
    refine e_goto 24 dX4_comes_20 (by decide) ?_
    refine e_tputI dX4_comes_24 rfl pX4_464 rfl hp (Nat.le_of_ble_eq_true rfl) (tw_f61 _) ?_
    refine e_return dX4_comes_27 rfl (Nat.zero_le _) (Nat.zero_le _) ?_
    refine ⟨rfl, ?_⟩
    rw [spComes, spUp, hc.1, ix_nI (by omega), if_pos (Int64.not_le.mp h15)]

theorem Sx.II {c : List Nat} {τ' τ : Tw} (h : Sx [] [] c [] τ' τ) (k : Nat) (v : Int32) : Sx [] [] c [] (tI τ' k v) (tI τ k v) := by
  have e : τ'.1 = τ.1 := funext (fun j => h.1 j (by simp))
  exact ⟨fun j _ => by show upd τ'.1 k v j = upd τ.1 k v j; rw [e], h.2⟩
theorem Sx.BB {c : List Nat} {τ' τ : Tw} (h : Sx [] [] c [] τ' τ) (k : Nat) (f : Nat → Int64) : Sx [] [] c [] (tB τ' k f) (tB τ k f) := by
  have e : τ'.2.2.2 = τ.2.2.2 := funext (fun j => h.2.2.2 j (by simp))
  exact ⟨h.1, h.2.1, h.2.2.1, fun j _ => by show va_up τ'.2.2.2 k f j = va_up τ.2.2.2 k f j; rw [e]⟩
theorem Sx.cm {τ' τ : Tw} (h : Sx [] [] [67, 68, 69] [] τ' τ) (k : Nat) (v : Int64) : Sx [] [] [67, 68, 69] [] (spComes τ' k v) (spComes τ k v) := by
  unfold spComes
  rw [h.2.2.2 58 (by simp), h.2.2.1 46 (by decide)]
  exact (h.BB 58 _).II 61 _
theorem Sx.rs {τ' τ : Tw} (h : Sx [] [] [67, 68, 69] [] τ' τ) (d : Nat) (v : Int64) : Sx [] [] [67, 68, 69] [] (spRest τ' d v) (spRest τ d v) := by
  unfold spRest
  rw [h.2.2.2 58 (by simp)]
  exact h.BB 58 _
set_option maxHeartbeats 4000000 in
set_option maxRecDepth 100000 in
/-- WheelTablesModel.does -/
theorem t_does0 {pre post : List ACell} {τ : Tw} (hp : pre.length = 56) {k a b c e P : Nat} (hk : k < 40) (hK : τ.2.2.1 43 k = 0) (ha : τ.2.2.1 44 k = nI a ∧ a < 20) (hb : τ.2.2.1 45 k = nI b ∧ b < 20) (hc : τ.2.2.1 46 k = nI c ∧ c < 20) (he : τ.2.2.1 47 k = nI e ∧ e < 20) (hP : P ≤ 40 ∧ τ.1 62 = nI P) (hPP : τ.2.2.1 43 k = 5 → P < 40) (hD : τ.2.2.1 43 k = 4 → ¬ spY τ k = 0) : Ct yX4_does (ws_ yX4_does cX4_does 7 (some .int)) 2 0 0 [.ref 56, .int (nI k)] (TW pre τ post) (fun v0 N => ∃ τ1, N = TW pre τ1 post ∧ v0 = some (.int (nI (spDoes τ k).1)) ∧ Sx [] [] [67, 68, 69] [] τ1 (spDoes τ k).2) noX := by
  have eX : spX τ k = τ.2.2.2 58 a := by rw [spX, ha.1, ix_nI (by omega)]
  have eY : spY τ k = τ.2.2.2 58 b := by rw [spY, hb.1, ix_nI (by omega)]
  refine Ct.of (ini := false) (ls := [some (.ref 56), some (.int (nI k)), none, none, none, none, none]) (by decide) (Nat.le_of_ble_eq_true rfl) (fun h => by cases h) rfl ?_
  refine e_aload_n dX4_does_0 0 rfl rfl rfl ?_
  refine e_getf (v := .ref 75) dX4_does_1 rfl fX4_83 (tw_o hp) rfl ?_
  refine e_iload_n dX4_does_4 1 rfl rfl ?_
  refine e_iald (f := τ.2.2.1 43) (j := k) dX4_does_5 (tw_a43 hp) rfl (by omega) (by decide) ?_
  refine e_top (congrArg Value.int hK) ?_
  refine e_bipush 6 dX4_does_6 rfl ?_
  refine e_icmp_eq 22 dX4_does_8 (by decide) (fun h => absurd h (by decide)) (fun _ => ?_)
  refine e_aload_n dX4_does_11 0 rfl rfl rfl ?_
  refine e_getf (v := .ref 75) dX4_does_12 rfl fX4_83 (tw_o hp) rfl ?_
  refine e_iload_n dX4_does_15 1 rfl rfl ?_
  refine e_iald (f := τ.2.2.1 43) (j := k) dX4_does_16 (tw_a43 hp) rfl (by omega) (by decide) ?_
  refine e_top (congrArg Value.int hK) ?_
  refine e_bipush 7 dX4_does_17 rfl ?_
  refine e_icmp_ne 26 dX4_does_19 (by decide) (fun _ => ?_) (fun h => absurd h (by decide))
  refine e_aload_n dX4_does_26 0 rfl rfl rfl ?_
  refine e_getf (v := .ref 90) dX4_does_27 rfl fX4_128 (tw_o hp) rfl ?_
  refine e_aload_n dX4_does_30 0 rfl rfl rfl ?_
  refine e_getf (v := .ref 76) dX4_does_31 rfl fX4_86 (tw_o hp) rfl ?_
  refine e_iload_n dX4_does_34 1 rfl rfl ?_
  refine e_iald (f := τ.2.2.1 44) (j := k) dX4_does_35 (tw_a44 hp) rfl (by omega) (by decide) ?_
  refine e_top (congrArg Value.int ha.1) ?_
  refine e_lald (f := τ.2.2.2 58) (j := a) dX4_does_36 (tw_a58 hp) rfl (by omega) (by decide) ?_
  refine e_lstore_n dX4_does_37 2 rfl (ls_s (ls_1 rfl)) (ln_s (ln_s (ln_s ln_0))) (Nat.le_of_ble_eq_true rfl) ?_
  refine e_aload_n dX4_does_38 0 rfl rfl rfl ?_
  refine e_getf (v := .ref 75) dX4_does_39 rfl fX4_83 (tw_o hp) rfl ?_
  refine e_iload_n dX4_does_42 1 rfl rfl ?_
  refine e_iald (f := τ.2.2.1 43) (j := k) dX4_does_43 (tw_a43 hp) rfl (by omega) (by decide) ?_
  refine e_top (congrArg Value.int hK) ?_
  refine e_i2l dX4_does_44 ?_
  refine e_lconst 1 dX4_does_45 rfl ?_
  refine e_ldc2 rfl q1577 dX4_does_46 ?_
  refine e_callSB (As := [.long ((0 : Int32).toInt64), .long 1, .long 4]) (rest := []) dX4_does_49 rfl msX4_239 (t_isInI 0 1 4 rfl (by decide) (by decide)) (Nat.le_of_ble_eq_true rfl) rfl rfl (Nat.le_of_ble_eq_true rfl) (Nat.zero_le _) (Nat.zero_le _) (fun h49 => ?_) (fun h49 => ?_)
  · exact absurd h49 (by decide)
  · refine e_if_eq_t 69 (by decide) dX4_does_52 (by decide) ?_
    refine e_lconst 0 dX4_does_69 rfl ?_
    refine e_lstore dX4_does_70 (ls_s (ls_s (ls_s (ls_1 rfl)))) (ln_s (ln_s (ln_s (ln_s (ln_s ln_0))))) (Nat.le_of_ble_eq_true rfl) ?_
    refine e_aload_n dX4_does_72 0 rfl rfl rfl ?_
    refine e_getf (v := .ref 80) dX4_does_73 rfl fX4_98 (tw_o hp) rfl ?_
    refine e_iload_n dX4_does_76 1 rfl rfl ?_
    refine e_iald (f := τ.2.2.1 48) (j := k) dX4_does_77 (tw_a48 hp) rfl (by omega) (by decide) ?_
    refine e_if_eq 103 dX4_does_78 (by decide) (fun h78 => ?_) (fun h78 => ?_)
    · refine e_iconst 1 dX4_does_103 rfl ?_
      refine e_goto 108 dX4_does_104 (by decide) ?_
      refine e_istore dX4_does_108 (ls_s (ls_s (ls_s (ls_s (ls_s (ls_1 rfl)))))) (Nat.le_of_ble_eq_true rfl) ?_
      refine e_aload_n dX4_does_110 0 rfl rfl rfl ?_
      refine e_getf (v := .ref 75) dX4_does_111 rfl fX4_83 (tw_o hp) rfl ?_
      refine e_iload_n dX4_does_114 1 rfl rfl ?_
      refine e_iald (f := τ.2.2.1 43) (j := k) dX4_does_115 (tw_a43 hp) rfl (by omega) (by decide) ?_
      refine e_top (congrArg Value.int hK) ?_
      refine e_tableIn (off := 44) 160 dX4_does_116 (by decide) (by decide) (by decide) (by decide) ?_
      refine e_aload_n dX4_does_160 0 rfl rfl rfl ?_
      refine e_getf (v := .ref 90) dX4_does_161 rfl fX4_128 (tw_o hp) rfl ?_
      refine e_aload_n dX4_does_164 0 rfl rfl rfl ?_
      refine e_getf (v := .ref 76) dX4_does_165 rfl fX4_86 (tw_o hp) rfl ?_
      refine e_iload_n dX4_does_168 1 rfl rfl ?_
      refine e_iald (f := τ.2.2.1 44) (j := k) dX4_does_169 (tw_a44 hp) rfl (by omega) (by decide) ?_
      refine e_top (congrArg Value.int ha.1) ?_
      refine e_aload_n dX4_does_170 0 rfl rfl rfl ?_
      refine e_getf (v := .ref 88) dX4_does_171 rfl fX4_122 (tw_o hp) rfl ?_
      refine e_iload_n dX4_does_174 1 rfl rfl ?_
      refine e_lald (f := τ.2.2.2 56) (j := k) dX4_does_175 (tw_a56 hp) rfl (by omega) (by decide) ?_
      refine e_last (f := τ.2.2.2 58) (j := a) dX4_does_176 (tw_a58 hp) rfl (by omega) (by decide) ?_
      rw [tw_s58 hp]
      refine e_aload_n dX4_does_177 0 rfl rfl rfl ?_
      refine e_dup dX4_does_178 rfl ?_
      refine e_getf (v := .int (τ.1 63)) dX4_does_179 rfl fX4_468 (tw_o hp) rfl ?_
      refine e_iconst 1 dX4_does_182 rfl ?_
      refine e_iadd dX4_does_183 ?_
      refine e_tputI dX4_does_184 rfl pX4_468 rfl hp (Nat.le_of_ble_eq_true rfl) (tw_f63 _) ?_
      refine e_iload_n dX4_does_187 1 rfl rfl ?_
      refine e_iconst 1 dX4_does_188 rfl ?_
      refine e_iaddN k 1 dX4_does_189 ?_
      refine e_ireturn dX4_does_190 rfl rfl (Nat.zero_le _) (Nat.zero_le _) ?_
      have eD : spDoes τ k = (k + 1, spCr (tB τ 58 (vp_updL (τ.2.2.2 58) a (τ.2.2.2 56 k))) 1) := by
        rw [spDoes, hK, if_pos rfl, ha.1, ix_nI (by omega)]
      refine ⟨_, rfl, by rw [eD], ?_⟩
      rw [eD]
      exact Sx.rf
    · refine e_aload_n dX4_does_81 0 rfl rfl rfl ?_
      refine e_getf (v := .int (τ.1 61)) dX4_does_82 rfl fX4_464 (tw_o hp) rfl ?_
      refine e_aload_n dX4_does_85 0 rfl rfl rfl ?_
      refine e_getf (v := .ref 80) dX4_does_86 rfl fX4_98 (tw_o hp) rfl ?_
      refine e_iload_n dX4_does_89 1 rfl rfl ?_
      refine e_iald (f := τ.2.2.1 48) (j := k) dX4_does_90 (tw_a48 hp) rfl (by omega) (by decide) ?_
      refine e_iconst 1 dX4_does_91 rfl ?_
      refine e_icmp_ne 99 dX4_does_92 (by decide) (fun h92 => ?_) (fun h92 => ?_)
      · refine e_iconst 0 dX4_does_99 rfl ?_
        refine e_icmp_ne 107 dX4_does_100 (by decide) (fun h100 => ?_) (fun h100 => ?_)
        · refine e_iconst 0 dX4_does_107 rfl ?_
          refine e_istore dX4_does_108 (ls_s (ls_s (ls_s (ls_s (ls_s (ls_1 rfl)))))) (Nat.le_of_ble_eq_true rfl) ?_
          refine e_aload_n dX4_does_110 0 rfl rfl rfl ?_
          refine e_getf (v := .ref 75) dX4_does_111 rfl fX4_83 (tw_o hp) rfl ?_
          refine e_iload_n dX4_does_114 1 rfl rfl ?_
          refine e_iald (f := τ.2.2.1 43) (j := k) dX4_does_115 (tw_a43 hp) rfl (by omega) (by decide) ?_
          refine e_top (congrArg Value.int hK) ?_
          refine e_tableIn (off := 44) 160 dX4_does_116 (by decide) (by decide) (by decide) (by decide) ?_
          refine e_aload_n dX4_does_160 0 rfl rfl rfl ?_
          refine e_getf (v := .ref 90) dX4_does_161 rfl fX4_128 (tw_o hp) rfl ?_
          refine e_aload_n dX4_does_164 0 rfl rfl rfl ?_
          refine e_getf (v := .ref 76) dX4_does_165 rfl fX4_86 (tw_o hp) rfl ?_
          refine e_iload_n dX4_does_168 1 rfl rfl ?_
          refine e_iald (f := τ.2.2.1 44) (j := k) dX4_does_169 (tw_a44 hp) rfl (by omega) (by decide) ?_
          refine e_top (congrArg Value.int ha.1) ?_
          refine e_aload_n dX4_does_170 0 rfl rfl rfl ?_
          refine e_getf (v := .ref 88) dX4_does_171 rfl fX4_122 (tw_o hp) rfl ?_
          refine e_iload_n dX4_does_174 1 rfl rfl ?_
          refine e_lald (f := τ.2.2.2 56) (j := k) dX4_does_175 (tw_a56 hp) rfl (by omega) (by decide) ?_
          refine e_last (f := τ.2.2.2 58) (j := a) dX4_does_176 (tw_a58 hp) rfl (by omega) (by decide) ?_
          rw [tw_s58 hp]
          refine e_aload_n dX4_does_177 0 rfl rfl rfl ?_
          refine e_dup dX4_does_178 rfl ?_
          refine e_getf (v := .int (τ.1 63)) dX4_does_179 rfl fX4_468 (tw_o hp) rfl ?_
          refine e_iconst 1 dX4_does_182 rfl ?_
          refine e_iadd dX4_does_183 ?_
          refine e_tputI dX4_does_184 rfl pX4_468 rfl hp (Nat.le_of_ble_eq_true rfl) (tw_f63 _) ?_
          refine e_iload_n dX4_does_187 1 rfl rfl ?_
          refine e_iconst 1 dX4_does_188 rfl ?_
          refine e_iaddN k 1 dX4_does_189 ?_
          refine e_ireturn dX4_does_190 rfl rfl (Nat.zero_le _) (Nat.zero_le _) ?_
          have eD : spDoes τ k = (k + 1, spCr (tB τ 58 (vp_updL (τ.2.2.2 58) a (τ.2.2.2 56 k))) 1) := by
            rw [spDoes, hK, if_pos rfl, ha.1, ix_nI (by omega)]
          refine ⟨_, rfl, by rw [eD], ?_⟩
          rw [eD]
          exact Sx.rf
        · refine e_iconst 1 dX4_does_103 rfl ?_
          refine e_goto 108 dX4_does_104 (by decide) ?_
          refine e_istore dX4_does_108 (ls_s (ls_s (ls_s (ls_s (ls_s (ls_1 rfl)))))) (Nat.le_of_ble_eq_true rfl) ?_
          refine e_aload_n dX4_does_110 0 rfl rfl rfl ?_
          refine e_getf (v := .ref 75) dX4_does_111 rfl fX4_83 (tw_o hp) rfl ?_
          refine e_iload_n dX4_does_114 1 rfl rfl ?_
          refine e_iald (f := τ.2.2.1 43) (j := k) dX4_does_115 (tw_a43 hp) rfl (by omega) (by decide) ?_
          refine e_top (congrArg Value.int hK) ?_
          refine e_tableIn (off := 44) 160 dX4_does_116 (by decide) (by decide) (by decide) (by decide) ?_
          refine e_aload_n dX4_does_160 0 rfl rfl rfl ?_
          refine e_getf (v := .ref 90) dX4_does_161 rfl fX4_128 (tw_o hp) rfl ?_
          refine e_aload_n dX4_does_164 0 rfl rfl rfl ?_
          refine e_getf (v := .ref 76) dX4_does_165 rfl fX4_86 (tw_o hp) rfl ?_
          refine e_iload_n dX4_does_168 1 rfl rfl ?_
          refine e_iald (f := τ.2.2.1 44) (j := k) dX4_does_169 (tw_a44 hp) rfl (by omega) (by decide) ?_
          refine e_top (congrArg Value.int ha.1) ?_
          refine e_aload_n dX4_does_170 0 rfl rfl rfl ?_
          refine e_getf (v := .ref 88) dX4_does_171 rfl fX4_122 (tw_o hp) rfl ?_
          refine e_iload_n dX4_does_174 1 rfl rfl ?_
          refine e_lald (f := τ.2.2.2 56) (j := k) dX4_does_175 (tw_a56 hp) rfl (by omega) (by decide) ?_
          refine e_last (f := τ.2.2.2 58) (j := a) dX4_does_176 (tw_a58 hp) rfl (by omega) (by decide) ?_
          rw [tw_s58 hp]
          refine e_aload_n dX4_does_177 0 rfl rfl rfl ?_
          refine e_dup dX4_does_178 rfl ?_
          refine e_getf (v := .int (τ.1 63)) dX4_does_179 rfl fX4_468 (tw_o hp) rfl ?_
          refine e_iconst 1 dX4_does_182 rfl ?_
          refine e_iadd dX4_does_183 ?_
          refine e_tputI dX4_does_184 rfl pX4_468 rfl hp (Nat.le_of_ble_eq_true rfl) (tw_f63 _) ?_
          refine e_iload_n dX4_does_187 1 rfl rfl ?_
          refine e_iconst 1 dX4_does_188 rfl ?_
          refine e_iaddN k 1 dX4_does_189 ?_
          refine e_ireturn dX4_does_190 rfl rfl (Nat.zero_le _) (Nat.zero_le _) ?_
          have eD : spDoes τ k = (k + 1, spCr (tB τ 58 (vp_updL (τ.2.2.2 58) a (τ.2.2.2 56 k))) 1) := by
            rw [spDoes, hK, if_pos rfl, ha.1, ix_nI (by omega)]
          refine ⟨_, rfl, by rw [eD], ?_⟩
          rw [eD]
          exact Sx.rf
      · refine e_iconst 1 dX4_does_95 rfl ?_
        refine e_goto 100 dX4_does_96 (by decide) ?_
        refine e_icmp_ne 107 dX4_does_100 (by decide) (fun h100 => ?_) (fun h100 => ?_)
        · refine e_iconst 0 dX4_does_107 rfl ?_
          refine e_istore dX4_does_108 (ls_s (ls_s (ls_s (ls_s (ls_s (ls_1 rfl)))))) (Nat.le_of_ble_eq_true rfl) ?_
          refine e_aload_n dX4_does_110 0 rfl rfl rfl ?_
          refine e_getf (v := .ref 75) dX4_does_111 rfl fX4_83 (tw_o hp) rfl ?_
          refine e_iload_n dX4_does_114 1 rfl rfl ?_
          refine e_iald (f := τ.2.2.1 43) (j := k) dX4_does_115 (tw_a43 hp) rfl (by omega) (by decide) ?_
          refine e_top (congrArg Value.int hK) ?_
          refine e_tableIn (off := 44) 160 dX4_does_116 (by decide) (by decide) (by decide) (by decide) ?_
          refine e_aload_n dX4_does_160 0 rfl rfl rfl ?_
          refine e_getf (v := .ref 90) dX4_does_161 rfl fX4_128 (tw_o hp) rfl ?_
          refine e_aload_n dX4_does_164 0 rfl rfl rfl ?_
          refine e_getf (v := .ref 76) dX4_does_165 rfl fX4_86 (tw_o hp) rfl ?_
          refine e_iload_n dX4_does_168 1 rfl rfl ?_
          refine e_iald (f := τ.2.2.1 44) (j := k) dX4_does_169 (tw_a44 hp) rfl (by omega) (by decide) ?_
          refine e_top (congrArg Value.int ha.1) ?_
          refine e_aload_n dX4_does_170 0 rfl rfl rfl ?_
          refine e_getf (v := .ref 88) dX4_does_171 rfl fX4_122 (tw_o hp) rfl ?_
          refine e_iload_n dX4_does_174 1 rfl rfl ?_
          refine e_lald (f := τ.2.2.2 56) (j := k) dX4_does_175 (tw_a56 hp) rfl (by omega) (by decide) ?_
          refine e_last (f := τ.2.2.2 58) (j := a) dX4_does_176 (tw_a58 hp) rfl (by omega) (by decide) ?_
          rw [tw_s58 hp]
          refine e_aload_n dX4_does_177 0 rfl rfl rfl ?_
          refine e_dup dX4_does_178 rfl ?_
          refine e_getf (v := .int (τ.1 63)) dX4_does_179 rfl fX4_468 (tw_o hp) rfl ?_
          refine e_iconst 1 dX4_does_182 rfl ?_
          refine e_iadd dX4_does_183 ?_
          refine e_tputI dX4_does_184 rfl pX4_468 rfl hp (Nat.le_of_ble_eq_true rfl) (tw_f63 _) ?_
          refine e_iload_n dX4_does_187 1 rfl rfl ?_
          refine e_iconst 1 dX4_does_188 rfl ?_
          refine e_iaddN k 1 dX4_does_189 ?_
          refine e_ireturn dX4_does_190 rfl rfl (Nat.zero_le _) (Nat.zero_le _) ?_
          have eD : spDoes τ k = (k + 1, spCr (tB τ 58 (vp_updL (τ.2.2.2 58) a (τ.2.2.2 56 k))) 1) := by
            rw [spDoes, hK, if_pos rfl, ha.1, ix_nI (by omega)]
          refine ⟨_, rfl, by rw [eD], ?_⟩
          rw [eD]
          exact Sx.rf
        · refine e_iconst 1 dX4_does_103 rfl ?_
          refine e_goto 108 dX4_does_104 (by decide) ?_
          refine e_istore dX4_does_108 (ls_s (ls_s (ls_s (ls_s (ls_s (ls_1 rfl)))))) (Nat.le_of_ble_eq_true rfl) ?_
          refine e_aload_n dX4_does_110 0 rfl rfl rfl ?_
          refine e_getf (v := .ref 75) dX4_does_111 rfl fX4_83 (tw_o hp) rfl ?_
          refine e_iload_n dX4_does_114 1 rfl rfl ?_
          refine e_iald (f := τ.2.2.1 43) (j := k) dX4_does_115 (tw_a43 hp) rfl (by omega) (by decide) ?_
          refine e_top (congrArg Value.int hK) ?_
          refine e_tableIn (off := 44) 160 dX4_does_116 (by decide) (by decide) (by decide) (by decide) ?_
          refine e_aload_n dX4_does_160 0 rfl rfl rfl ?_
          refine e_getf (v := .ref 90) dX4_does_161 rfl fX4_128 (tw_o hp) rfl ?_
          refine e_aload_n dX4_does_164 0 rfl rfl rfl ?_
          refine e_getf (v := .ref 76) dX4_does_165 rfl fX4_86 (tw_o hp) rfl ?_
          refine e_iload_n dX4_does_168 1 rfl rfl ?_
          refine e_iald (f := τ.2.2.1 44) (j := k) dX4_does_169 (tw_a44 hp) rfl (by omega) (by decide) ?_
          refine e_top (congrArg Value.int ha.1) ?_
          refine e_aload_n dX4_does_170 0 rfl rfl rfl ?_
          refine e_getf (v := .ref 88) dX4_does_171 rfl fX4_122 (tw_o hp) rfl ?_
          refine e_iload_n dX4_does_174 1 rfl rfl ?_
          refine e_lald (f := τ.2.2.2 56) (j := k) dX4_does_175 (tw_a56 hp) rfl (by omega) (by decide) ?_
          refine e_last (f := τ.2.2.2 58) (j := a) dX4_does_176 (tw_a58 hp) rfl (by omega) (by decide) ?_
          rw [tw_s58 hp]
          refine e_aload_n dX4_does_177 0 rfl rfl rfl ?_
          refine e_dup dX4_does_178 rfl ?_
          refine e_getf (v := .int (τ.1 63)) dX4_does_179 rfl fX4_468 (tw_o hp) rfl ?_
          refine e_iconst 1 dX4_does_182 rfl ?_
          refine e_iadd dX4_does_183 ?_
          refine e_tputI dX4_does_184 rfl pX4_468 rfl hp (Nat.le_of_ble_eq_true rfl) (tw_f63 _) ?_
          refine e_iload_n dX4_does_187 1 rfl rfl ?_
          refine e_iconst 1 dX4_does_188 rfl ?_
          refine e_iaddN k 1 dX4_does_189 ?_
          refine e_ireturn dX4_does_190 rfl rfl (Nat.zero_le _) (Nat.zero_le _) ?_
          have eD : spDoes τ k = (k + 1, spCr (tB τ 58 (vp_updL (τ.2.2.2 58) a (τ.2.2.2 56 k))) 1) := by
            rw [spDoes, hK, if_pos rfl, ha.1, ix_nI (by omega)]
          refine ⟨_, rfl, by rw [eD], ?_⟩
          rw [eD]
          exact Sx.rf

set_option maxHeartbeats 4000000 in
set_option maxRecDepth 100000 in
/-- WheelTablesModel.does -/
theorem t_does1 {pre post : List ACell} {τ : Tw} (hp : pre.length = 56) {k a b c e P : Nat} (hk : k < 40) (hK : τ.2.2.1 43 k = 1) (ha : τ.2.2.1 44 k = nI a ∧ a < 20) (hb : τ.2.2.1 45 k = nI b ∧ b < 20) (hc : τ.2.2.1 46 k = nI c ∧ c < 20) (he : τ.2.2.1 47 k = nI e ∧ e < 20) (hP : P ≤ 40 ∧ τ.1 62 = nI P) (hPP : τ.2.2.1 43 k = 5 → P < 40) (hD : τ.2.2.1 43 k = 4 → ¬ spY τ k = 0) : Ct yX4_does (ws_ yX4_does cX4_does 7 (some .int)) 2 0 0 [.ref 56, .int (nI k)] (TW pre τ post) (fun v0 N => ∃ τ1, N = TW pre τ1 post ∧ v0 = some (.int (nI (spDoes τ k).1)) ∧ Sx [] [] [67, 68, 69] [] τ1 (spDoes τ k).2) noX := by
  have eX : spX τ k = τ.2.2.2 58 a := by rw [spX, ha.1, ix_nI (by omega)]
  have eY : spY τ k = τ.2.2.2 58 b := by rw [spY, hb.1, ix_nI (by omega)]
  refine Ct.of (ini := false) (ls := [some (.ref 56), some (.int (nI k)), none, none, none, none, none]) (by decide) (Nat.le_of_ble_eq_true rfl) (fun h => by cases h) rfl ?_
  refine e_aload_n dX4_does_0 0 rfl rfl rfl ?_
  refine e_getf (v := .ref 75) dX4_does_1 rfl fX4_83 (tw_o hp) rfl ?_
  refine e_iload_n dX4_does_4 1 rfl rfl ?_
  refine e_iald (f := τ.2.2.1 43) (j := k) dX4_does_5 (tw_a43 hp) rfl (by omega) (by decide) ?_
  refine e_top (congrArg Value.int hK) ?_
  refine e_bipush 6 dX4_does_6 rfl ?_
  refine e_icmp_eq 22 dX4_does_8 (by decide) (fun h => absurd h (by decide)) (fun _ => ?_)
  refine e_aload_n dX4_does_11 0 rfl rfl rfl ?_
  refine e_getf (v := .ref 75) dX4_does_12 rfl fX4_83 (tw_o hp) rfl ?_
  refine e_iload_n dX4_does_15 1 rfl rfl ?_
  refine e_iald (f := τ.2.2.1 43) (j := k) dX4_does_16 (tw_a43 hp) rfl (by omega) (by decide) ?_
  refine e_top (congrArg Value.int hK) ?_
  refine e_bipush 7 dX4_does_17 rfl ?_
  refine e_icmp_ne 26 dX4_does_19 (by decide) (fun _ => ?_) (fun h => absurd h (by decide))
  refine e_aload_n dX4_does_26 0 rfl rfl rfl ?_
  refine e_getf (v := .ref 90) dX4_does_27 rfl fX4_128 (tw_o hp) rfl ?_
  refine e_aload_n dX4_does_30 0 rfl rfl rfl ?_
  refine e_getf (v := .ref 76) dX4_does_31 rfl fX4_86 (tw_o hp) rfl ?_
  refine e_iload_n dX4_does_34 1 rfl rfl ?_
  refine e_iald (f := τ.2.2.1 44) (j := k) dX4_does_35 (tw_a44 hp) rfl (by omega) (by decide) ?_
  refine e_top (congrArg Value.int ha.1) ?_
  refine e_lald (f := τ.2.2.2 58) (j := a) dX4_does_36 (tw_a58 hp) rfl (by omega) (by decide) ?_
  refine e_lstore_n dX4_does_37 2 rfl (ls_s (ls_1 rfl)) (ln_s (ln_s (ln_s ln_0))) (Nat.le_of_ble_eq_true rfl) ?_
  refine e_aload_n dX4_does_38 0 rfl rfl rfl ?_
  refine e_getf (v := .ref 75) dX4_does_39 rfl fX4_83 (tw_o hp) rfl ?_
  refine e_iload_n dX4_does_42 1 rfl rfl ?_
  refine e_iald (f := τ.2.2.1 43) (j := k) dX4_does_43 (tw_a43 hp) rfl (by omega) (by decide) ?_
  refine e_top (congrArg Value.int hK) ?_
  refine e_i2l dX4_does_44 ?_
  refine e_lconst 1 dX4_does_45 rfl ?_
  refine e_ldc2 rfl q1577 dX4_does_46 ?_
  refine e_callSB (As := [.long ((1 : Int32).toInt64), .long 1, .long 4]) (rest := []) dX4_does_49 rfl msX4_239 (t_isInI 1 1 4 rfl (by decide) (by decide)) (Nat.le_of_ble_eq_true rfl) rfl rfl (Nat.le_of_ble_eq_true rfl) (Nat.zero_le _) (Nat.zero_le _) (fun h49 => ?_) (fun h49 => ?_)
  · refine e_if_eq_f (by decide) 69 dX4_does_52 (by decide) ?_
    refine e_aload_n dX4_does_55 0 rfl rfl rfl ?_
    refine e_getf (v := .ref 90) dX4_does_56 rfl fX4_128 (tw_o hp) rfl ?_
    refine e_aload_n dX4_does_59 0 rfl rfl rfl ?_
    refine e_getf (v := .ref 77) dX4_does_60 rfl fX4_89 (tw_o hp) rfl ?_
    refine e_iload_n dX4_does_63 1 rfl rfl ?_
    refine e_iald (f := τ.2.2.1 45) (j := k) dX4_does_64 (tw_a45 hp) rfl (by omega) (by decide) ?_
    refine e_top (congrArg Value.int hb.1) ?_
    refine e_lald (f := τ.2.2.2 58) (j := b) dX4_does_65 (tw_a58 hp) rfl (by omega) (by decide) ?_
    refine e_goto 70 dX4_does_66 (by decide) ?_
    refine e_lstore dX4_does_70 (ls_s (ls_s (ls_s (ls_1 rfl)))) (ln_s (ln_s (ln_s (ln_s (ln_s ln_0))))) (Nat.le_of_ble_eq_true rfl) ?_
    refine e_aload_n dX4_does_72 0 rfl rfl rfl ?_
    refine e_getf (v := .ref 80) dX4_does_73 rfl fX4_98 (tw_o hp) rfl ?_
    refine e_iload_n dX4_does_76 1 rfl rfl ?_
    refine e_iald (f := τ.2.2.1 48) (j := k) dX4_does_77 (tw_a48 hp) rfl (by omega) (by decide) ?_
    refine e_if_eq 103 dX4_does_78 (by decide) (fun h78 => ?_) (fun h78 => ?_)
    · refine e_iconst 1 dX4_does_103 rfl ?_
      refine e_goto 108 dX4_does_104 (by decide) ?_
      refine e_istore dX4_does_108 (ls_s (ls_s (ls_s (ls_s (ls_s (ls_1 rfl)))))) (Nat.le_of_ble_eq_true rfl) ?_
      refine e_aload_n dX4_does_110 0 rfl rfl rfl ?_
      refine e_getf (v := .ref 75) dX4_does_111 rfl fX4_83 (tw_o hp) rfl ?_
      refine e_iload_n dX4_does_114 1 rfl rfl ?_
      refine e_iald (f := τ.2.2.1 43) (j := k) dX4_does_115 (tw_a43 hp) rfl (by omega) (by decide) ?_
      refine e_top (congrArg Value.int hK) ?_
      refine e_tableIn (off := 75) 191 dX4_does_116 (by decide) (by decide) (by decide) (by decide) ?_
      refine e_aload_n dX4_does_191 0 rfl rfl rfl ?_
      refine e_iload_n dX4_does_192 1 rfl rfl ?_
      refine e_aload_n dX4_does_193 0 rfl rfl rfl ?_
      refine e_getf (v := .ref 75) dX4_does_194 rfl fX4_83 (tw_o hp) rfl ?_
      refine e_iload_n dX4_does_197 1 rfl rfl ?_
      refine e_iald (f := τ.2.2.1 43) (j := k) dX4_does_198 (tw_a43 hp) rfl (by omega) (by decide) ?_
      refine e_top (congrArg Value.int hK) ?_
      refine e_iconst 1 dX4_does_199 rfl ?_
      refine e_icmp_ne 210 dX4_does_200 (by decide) (fun h => absurd h (by decide)) (fun _ => ?_)
      refine e_lload_n dX4_does_203 2 rfl rfl ?_
      refine e_lload dX4_does_204 rfl ?_
      refine e_ladd dX4_does_206 ?_
      refine e_goto 214 dX4_does_207 (by decide) ?_
      refine e_callV0 (As := [.int (nI k), .long ((τ.2.2.2 58 a) + (τ.2.2.2 58 b))]) (rest := []) dX4_does_214 rfl mvX4_471 (tw_o hp) rfl (t_comes (τ := τ) hp hk (c := c) hc ((τ.2.2.2 58 a) + (τ.2.2.2 58 b))) (Nat.le_of_ble_eq_true rfl) rfl rfl (Nat.le_of_ble_eq_true rfl) (Nat.zero_le _) (Nat.zero_le _) ?_
      refine e_aload_n dX4_does_217 0 rfl rfl rfl ?_
      refine e_dup dX4_does_218 rfl ?_
      refine e_getf (v := .int ((spComes τ k ((τ.2.2.2 58 a) + (τ.2.2.2 58 b))).1 63)) dX4_does_219 rfl fX4_468 (tw_o hp) rfl ?_
      refine e_iconst 2 dX4_does_222 rfl ?_
      refine e_iadd dX4_does_223 ?_
      refine e_tputI dX4_does_224 rfl pX4_468 rfl hp (Nat.le_of_ble_eq_true rfl) (tw_f63 _) ?_
      refine e_iload_n dX4_does_227 1 rfl rfl ?_
      refine e_iconst 1 dX4_does_228 rfl ?_
      refine e_iaddN k 1 dX4_does_229 ?_
      refine e_ireturn dX4_does_230 rfl rfl (Nat.zero_le _) (Nat.zero_le _) ?_
      have eD : spDoes τ k = (k + 1, spCr (spComes τ k (τ.2.2.2 58 a + τ.2.2.2 58 b)) 2) := by
        rw [spDoes, hK, if_neg (by decide), if_pos rfl, eX, eY]
      refine ⟨_, rfl, by rw [eD], ?_⟩
      rw [eD]
      exact Sx.rf
    · refine e_aload_n dX4_does_81 0 rfl rfl rfl ?_
      refine e_getf (v := .int (τ.1 61)) dX4_does_82 rfl fX4_464 (tw_o hp) rfl ?_
      refine e_aload_n dX4_does_85 0 rfl rfl rfl ?_
      refine e_getf (v := .ref 80) dX4_does_86 rfl fX4_98 (tw_o hp) rfl ?_
      refine e_iload_n dX4_does_89 1 rfl rfl ?_
      refine e_iald (f := τ.2.2.1 48) (j := k) dX4_does_90 (tw_a48 hp) rfl (by omega) (by decide) ?_
      refine e_iconst 1 dX4_does_91 rfl ?_
      refine e_icmp_ne 99 dX4_does_92 (by decide) (fun h92 => ?_) (fun h92 => ?_)
      · refine e_iconst 0 dX4_does_99 rfl ?_
        refine e_icmp_ne 107 dX4_does_100 (by decide) (fun h100 => ?_) (fun h100 => ?_)
        · refine e_iconst 0 dX4_does_107 rfl ?_
          refine e_istore dX4_does_108 (ls_s (ls_s (ls_s (ls_s (ls_s (ls_1 rfl)))))) (Nat.le_of_ble_eq_true rfl) ?_
          refine e_aload_n dX4_does_110 0 rfl rfl rfl ?_
          refine e_getf (v := .ref 75) dX4_does_111 rfl fX4_83 (tw_o hp) rfl ?_
          refine e_iload_n dX4_does_114 1 rfl rfl ?_
          refine e_iald (f := τ.2.2.1 43) (j := k) dX4_does_115 (tw_a43 hp) rfl (by omega) (by decide) ?_
          refine e_top (congrArg Value.int hK) ?_
          refine e_tableIn (off := 75) 191 dX4_does_116 (by decide) (by decide) (by decide) (by decide) ?_
          refine e_aload_n dX4_does_191 0 rfl rfl rfl ?_
          refine e_iload_n dX4_does_192 1 rfl rfl ?_
          refine e_aload_n dX4_does_193 0 rfl rfl rfl ?_
          refine e_getf (v := .ref 75) dX4_does_194 rfl fX4_83 (tw_o hp) rfl ?_
          refine e_iload_n dX4_does_197 1 rfl rfl ?_
          refine e_iald (f := τ.2.2.1 43) (j := k) dX4_does_198 (tw_a43 hp) rfl (by omega) (by decide) ?_
          refine e_top (congrArg Value.int hK) ?_
          refine e_iconst 1 dX4_does_199 rfl ?_
          refine e_icmp_ne 210 dX4_does_200 (by decide) (fun h => absurd h (by decide)) (fun _ => ?_)
          refine e_lload_n dX4_does_203 2 rfl rfl ?_
          refine e_lload dX4_does_204 rfl ?_
          refine e_ladd dX4_does_206 ?_
          refine e_goto 214 dX4_does_207 (by decide) ?_
          refine e_callV0 (As := [.int (nI k), .long ((τ.2.2.2 58 a) + (τ.2.2.2 58 b))]) (rest := []) dX4_does_214 rfl mvX4_471 (tw_o hp) rfl (t_comes (τ := τ) hp hk (c := c) hc ((τ.2.2.2 58 a) + (τ.2.2.2 58 b))) (Nat.le_of_ble_eq_true rfl) rfl rfl (Nat.le_of_ble_eq_true rfl) (Nat.zero_le _) (Nat.zero_le _) ?_
          refine e_aload_n dX4_does_217 0 rfl rfl rfl ?_
          refine e_dup dX4_does_218 rfl ?_
          refine e_getf (v := .int ((spComes τ k ((τ.2.2.2 58 a) + (τ.2.2.2 58 b))).1 63)) dX4_does_219 rfl fX4_468 (tw_o hp) rfl ?_
          refine e_iconst 2 dX4_does_222 rfl ?_
          refine e_iadd dX4_does_223 ?_
          refine e_tputI dX4_does_224 rfl pX4_468 rfl hp (Nat.le_of_ble_eq_true rfl) (tw_f63 _) ?_
          refine e_iload_n dX4_does_227 1 rfl rfl ?_
          refine e_iconst 1 dX4_does_228 rfl ?_
          refine e_iaddN k 1 dX4_does_229 ?_
          refine e_ireturn dX4_does_230 rfl rfl (Nat.zero_le _) (Nat.zero_le _) ?_
          have eD : spDoes τ k = (k + 1, spCr (spComes τ k (τ.2.2.2 58 a + τ.2.2.2 58 b)) 2) := by
            rw [spDoes, hK, if_neg (by decide), if_pos rfl, eX, eY]
          refine ⟨_, rfl, by rw [eD], ?_⟩
          rw [eD]
          exact Sx.rf
        · refine e_iconst 1 dX4_does_103 rfl ?_
          refine e_goto 108 dX4_does_104 (by decide) ?_
          refine e_istore dX4_does_108 (ls_s (ls_s (ls_s (ls_s (ls_s (ls_1 rfl)))))) (Nat.le_of_ble_eq_true rfl) ?_
          refine e_aload_n dX4_does_110 0 rfl rfl rfl ?_
          refine e_getf (v := .ref 75) dX4_does_111 rfl fX4_83 (tw_o hp) rfl ?_
          refine e_iload_n dX4_does_114 1 rfl rfl ?_
          refine e_iald (f := τ.2.2.1 43) (j := k) dX4_does_115 (tw_a43 hp) rfl (by omega) (by decide) ?_
          refine e_top (congrArg Value.int hK) ?_
          refine e_tableIn (off := 75) 191 dX4_does_116 (by decide) (by decide) (by decide) (by decide) ?_
          refine e_aload_n dX4_does_191 0 rfl rfl rfl ?_
          refine e_iload_n dX4_does_192 1 rfl rfl ?_
          refine e_aload_n dX4_does_193 0 rfl rfl rfl ?_
          refine e_getf (v := .ref 75) dX4_does_194 rfl fX4_83 (tw_o hp) rfl ?_
          refine e_iload_n dX4_does_197 1 rfl rfl ?_
          refine e_iald (f := τ.2.2.1 43) (j := k) dX4_does_198 (tw_a43 hp) rfl (by omega) (by decide) ?_
          refine e_top (congrArg Value.int hK) ?_
          refine e_iconst 1 dX4_does_199 rfl ?_
          refine e_icmp_ne 210 dX4_does_200 (by decide) (fun h => absurd h (by decide)) (fun _ => ?_)
          refine e_lload_n dX4_does_203 2 rfl rfl ?_
          refine e_lload dX4_does_204 rfl ?_
          refine e_ladd dX4_does_206 ?_
          refine e_goto 214 dX4_does_207 (by decide) ?_
          refine e_callV0 (As := [.int (nI k), .long ((τ.2.2.2 58 a) + (τ.2.2.2 58 b))]) (rest := []) dX4_does_214 rfl mvX4_471 (tw_o hp) rfl (t_comes (τ := τ) hp hk (c := c) hc ((τ.2.2.2 58 a) + (τ.2.2.2 58 b))) (Nat.le_of_ble_eq_true rfl) rfl rfl (Nat.le_of_ble_eq_true rfl) (Nat.zero_le _) (Nat.zero_le _) ?_
          refine e_aload_n dX4_does_217 0 rfl rfl rfl ?_
          refine e_dup dX4_does_218 rfl ?_
          refine e_getf (v := .int ((spComes τ k ((τ.2.2.2 58 a) + (τ.2.2.2 58 b))).1 63)) dX4_does_219 rfl fX4_468 (tw_o hp) rfl ?_
          refine e_iconst 2 dX4_does_222 rfl ?_
          refine e_iadd dX4_does_223 ?_
          refine e_tputI dX4_does_224 rfl pX4_468 rfl hp (Nat.le_of_ble_eq_true rfl) (tw_f63 _) ?_
          refine e_iload_n dX4_does_227 1 rfl rfl ?_
          refine e_iconst 1 dX4_does_228 rfl ?_
          refine e_iaddN k 1 dX4_does_229 ?_
          refine e_ireturn dX4_does_230 rfl rfl (Nat.zero_le _) (Nat.zero_le _) ?_
          have eD : spDoes τ k = (k + 1, spCr (spComes τ k (τ.2.2.2 58 a + τ.2.2.2 58 b)) 2) := by
            rw [spDoes, hK, if_neg (by decide), if_pos rfl, eX, eY]
          refine ⟨_, rfl, by rw [eD], ?_⟩
          rw [eD]
          exact Sx.rf
      · refine e_iconst 1 dX4_does_95 rfl ?_
        refine e_goto 100 dX4_does_96 (by decide) ?_
        refine e_icmp_ne 107 dX4_does_100 (by decide) (fun h100 => ?_) (fun h100 => ?_)
        · refine e_iconst 0 dX4_does_107 rfl ?_
          refine e_istore dX4_does_108 (ls_s (ls_s (ls_s (ls_s (ls_s (ls_1 rfl)))))) (Nat.le_of_ble_eq_true rfl) ?_
          refine e_aload_n dX4_does_110 0 rfl rfl rfl ?_
          refine e_getf (v := .ref 75) dX4_does_111 rfl fX4_83 (tw_o hp) rfl ?_
          refine e_iload_n dX4_does_114 1 rfl rfl ?_
          refine e_iald (f := τ.2.2.1 43) (j := k) dX4_does_115 (tw_a43 hp) rfl (by omega) (by decide) ?_
          refine e_top (congrArg Value.int hK) ?_
          refine e_tableIn (off := 75) 191 dX4_does_116 (by decide) (by decide) (by decide) (by decide) ?_
          refine e_aload_n dX4_does_191 0 rfl rfl rfl ?_
          refine e_iload_n dX4_does_192 1 rfl rfl ?_
          refine e_aload_n dX4_does_193 0 rfl rfl rfl ?_
          refine e_getf (v := .ref 75) dX4_does_194 rfl fX4_83 (tw_o hp) rfl ?_
          refine e_iload_n dX4_does_197 1 rfl rfl ?_
          refine e_iald (f := τ.2.2.1 43) (j := k) dX4_does_198 (tw_a43 hp) rfl (by omega) (by decide) ?_
          refine e_top (congrArg Value.int hK) ?_
          refine e_iconst 1 dX4_does_199 rfl ?_
          refine e_icmp_ne 210 dX4_does_200 (by decide) (fun h => absurd h (by decide)) (fun _ => ?_)
          refine e_lload_n dX4_does_203 2 rfl rfl ?_
          refine e_lload dX4_does_204 rfl ?_
          refine e_ladd dX4_does_206 ?_
          refine e_goto 214 dX4_does_207 (by decide) ?_
          refine e_callV0 (As := [.int (nI k), .long ((τ.2.2.2 58 a) + (τ.2.2.2 58 b))]) (rest := []) dX4_does_214 rfl mvX4_471 (tw_o hp) rfl (t_comes (τ := τ) hp hk (c := c) hc ((τ.2.2.2 58 a) + (τ.2.2.2 58 b))) (Nat.le_of_ble_eq_true rfl) rfl rfl (Nat.le_of_ble_eq_true rfl) (Nat.zero_le _) (Nat.zero_le _) ?_
          refine e_aload_n dX4_does_217 0 rfl rfl rfl ?_
          refine e_dup dX4_does_218 rfl ?_
          refine e_getf (v := .int ((spComes τ k ((τ.2.2.2 58 a) + (τ.2.2.2 58 b))).1 63)) dX4_does_219 rfl fX4_468 (tw_o hp) rfl ?_
          refine e_iconst 2 dX4_does_222 rfl ?_
          refine e_iadd dX4_does_223 ?_
          refine e_tputI dX4_does_224 rfl pX4_468 rfl hp (Nat.le_of_ble_eq_true rfl) (tw_f63 _) ?_
          refine e_iload_n dX4_does_227 1 rfl rfl ?_
          refine e_iconst 1 dX4_does_228 rfl ?_
          refine e_iaddN k 1 dX4_does_229 ?_
          refine e_ireturn dX4_does_230 rfl rfl (Nat.zero_le _) (Nat.zero_le _) ?_
          have eD : spDoes τ k = (k + 1, spCr (spComes τ k (τ.2.2.2 58 a + τ.2.2.2 58 b)) 2) := by
            rw [spDoes, hK, if_neg (by decide), if_pos rfl, eX, eY]
          refine ⟨_, rfl, by rw [eD], ?_⟩
          rw [eD]
          exact Sx.rf
        · refine e_iconst 1 dX4_does_103 rfl ?_
          refine e_goto 108 dX4_does_104 (by decide) ?_
          refine e_istore dX4_does_108 (ls_s (ls_s (ls_s (ls_s (ls_s (ls_1 rfl)))))) (Nat.le_of_ble_eq_true rfl) ?_
          refine e_aload_n dX4_does_110 0 rfl rfl rfl ?_
          refine e_getf (v := .ref 75) dX4_does_111 rfl fX4_83 (tw_o hp) rfl ?_
          refine e_iload_n dX4_does_114 1 rfl rfl ?_
          refine e_iald (f := τ.2.2.1 43) (j := k) dX4_does_115 (tw_a43 hp) rfl (by omega) (by decide) ?_
          refine e_top (congrArg Value.int hK) ?_
          refine e_tableIn (off := 75) 191 dX4_does_116 (by decide) (by decide) (by decide) (by decide) ?_
          refine e_aload_n dX4_does_191 0 rfl rfl rfl ?_
          refine e_iload_n dX4_does_192 1 rfl rfl ?_
          refine e_aload_n dX4_does_193 0 rfl rfl rfl ?_
          refine e_getf (v := .ref 75) dX4_does_194 rfl fX4_83 (tw_o hp) rfl ?_
          refine e_iload_n dX4_does_197 1 rfl rfl ?_
          refine e_iald (f := τ.2.2.1 43) (j := k) dX4_does_198 (tw_a43 hp) rfl (by omega) (by decide) ?_
          refine e_top (congrArg Value.int hK) ?_
          refine e_iconst 1 dX4_does_199 rfl ?_
          refine e_icmp_ne 210 dX4_does_200 (by decide) (fun h => absurd h (by decide)) (fun _ => ?_)
          refine e_lload_n dX4_does_203 2 rfl rfl ?_
          refine e_lload dX4_does_204 rfl ?_
          refine e_ladd dX4_does_206 ?_
          refine e_goto 214 dX4_does_207 (by decide) ?_
          refine e_callV0 (As := [.int (nI k), .long ((τ.2.2.2 58 a) + (τ.2.2.2 58 b))]) (rest := []) dX4_does_214 rfl mvX4_471 (tw_o hp) rfl (t_comes (τ := τ) hp hk (c := c) hc ((τ.2.2.2 58 a) + (τ.2.2.2 58 b))) (Nat.le_of_ble_eq_true rfl) rfl rfl (Nat.le_of_ble_eq_true rfl) (Nat.zero_le _) (Nat.zero_le _) ?_
          refine e_aload_n dX4_does_217 0 rfl rfl rfl ?_
          refine e_dup dX4_does_218 rfl ?_
          refine e_getf (v := .int ((spComes τ k ((τ.2.2.2 58 a) + (τ.2.2.2 58 b))).1 63)) dX4_does_219 rfl fX4_468 (tw_o hp) rfl ?_
          refine e_iconst 2 dX4_does_222 rfl ?_
          refine e_iadd dX4_does_223 ?_
          refine e_tputI dX4_does_224 rfl pX4_468 rfl hp (Nat.le_of_ble_eq_true rfl) (tw_f63 _) ?_
          refine e_iload_n dX4_does_227 1 rfl rfl ?_
          refine e_iconst 1 dX4_does_228 rfl ?_
          refine e_iaddN k 1 dX4_does_229 ?_
          refine e_ireturn dX4_does_230 rfl rfl (Nat.zero_le _) (Nat.zero_le _) ?_
          have eD : spDoes τ k = (k + 1, spCr (spComes τ k (τ.2.2.2 58 a + τ.2.2.2 58 b)) 2) := by
            rw [spDoes, hK, if_neg (by decide), if_pos rfl, eX, eY]
          refine ⟨_, rfl, by rw [eD], ?_⟩
          rw [eD]
          exact Sx.rf
  · exact absurd (by decide) h49

set_option maxHeartbeats 4000000 in
set_option maxRecDepth 100000 in
/-- WheelTablesModel.does -/
theorem t_does2 {pre post : List ACell} {τ : Tw} (hp : pre.length = 56) {k a b c e P : Nat} (hk : k < 40) (hK : τ.2.2.1 43 k = 2) (ha : τ.2.2.1 44 k = nI a ∧ a < 20) (hb : τ.2.2.1 45 k = nI b ∧ b < 20) (hc : τ.2.2.1 46 k = nI c ∧ c < 20) (he : τ.2.2.1 47 k = nI e ∧ e < 20) (hP : P ≤ 40 ∧ τ.1 62 = nI P) (hPP : τ.2.2.1 43 k = 5 → P < 40) (hD : τ.2.2.1 43 k = 4 → ¬ spY τ k = 0) : Ct yX4_does (ws_ yX4_does cX4_does 7 (some .int)) 2 0 0 [.ref 56, .int (nI k)] (TW pre τ post) (fun v0 N => ∃ τ1, N = TW pre τ1 post ∧ v0 = some (.int (nI (spDoes τ k).1)) ∧ Sx [] [] [67, 68, 69] [] τ1 (spDoes τ k).2) noX := by
  have eX : spX τ k = τ.2.2.2 58 a := by rw [spX, ha.1, ix_nI (by omega)]
  have eY : spY τ k = τ.2.2.2 58 b := by rw [spY, hb.1, ix_nI (by omega)]
  refine Ct.of (ini := false) (ls := [some (.ref 56), some (.int (nI k)), none, none, none, none, none]) (by decide) (Nat.le_of_ble_eq_true rfl) (fun h => by cases h) rfl ?_
  refine e_aload_n dX4_does_0 0 rfl rfl rfl ?_
  refine e_getf (v := .ref 75) dX4_does_1 rfl fX4_83 (tw_o hp) rfl ?_
  refine e_iload_n dX4_does_4 1 rfl rfl ?_
  refine e_iald (f := τ.2.2.1 43) (j := k) dX4_does_5 (tw_a43 hp) rfl (by omega) (by decide) ?_
  refine e_top (congrArg Value.int hK) ?_
  refine e_bipush 6 dX4_does_6 rfl ?_
  refine e_icmp_eq 22 dX4_does_8 (by decide) (fun h => absurd h (by decide)) (fun _ => ?_)
  refine e_aload_n dX4_does_11 0 rfl rfl rfl ?_
  refine e_getf (v := .ref 75) dX4_does_12 rfl fX4_83 (tw_o hp) rfl ?_
  refine e_iload_n dX4_does_15 1 rfl rfl ?_
  refine e_iald (f := τ.2.2.1 43) (j := k) dX4_does_16 (tw_a43 hp) rfl (by omega) (by decide) ?_
  refine e_top (congrArg Value.int hK) ?_
  refine e_bipush 7 dX4_does_17 rfl ?_
  refine e_icmp_ne 26 dX4_does_19 (by decide) (fun _ => ?_) (fun h => absurd h (by decide))
  refine e_aload_n dX4_does_26 0 rfl rfl rfl ?_
  refine e_getf (v := .ref 90) dX4_does_27 rfl fX4_128 (tw_o hp) rfl ?_
  refine e_aload_n dX4_does_30 0 rfl rfl rfl ?_
  refine e_getf (v := .ref 76) dX4_does_31 rfl fX4_86 (tw_o hp) rfl ?_
  refine e_iload_n dX4_does_34 1 rfl rfl ?_
  refine e_iald (f := τ.2.2.1 44) (j := k) dX4_does_35 (tw_a44 hp) rfl (by omega) (by decide) ?_
  refine e_top (congrArg Value.int ha.1) ?_
  refine e_lald (f := τ.2.2.2 58) (j := a) dX4_does_36 (tw_a58 hp) rfl (by omega) (by decide) ?_
  refine e_lstore_n dX4_does_37 2 rfl (ls_s (ls_1 rfl)) (ln_s (ln_s (ln_s ln_0))) (Nat.le_of_ble_eq_true rfl) ?_
  refine e_aload_n dX4_does_38 0 rfl rfl rfl ?_
  refine e_getf (v := .ref 75) dX4_does_39 rfl fX4_83 (tw_o hp) rfl ?_
  refine e_iload_n dX4_does_42 1 rfl rfl ?_
  refine e_iald (f := τ.2.2.1 43) (j := k) dX4_does_43 (tw_a43 hp) rfl (by omega) (by decide) ?_
  refine e_top (congrArg Value.int hK) ?_
  refine e_i2l dX4_does_44 ?_
  refine e_lconst 1 dX4_does_45 rfl ?_
  refine e_ldc2 rfl q1577 dX4_does_46 ?_
  refine e_callSB (As := [.long ((2 : Int32).toInt64), .long 1, .long 4]) (rest := []) dX4_does_49 rfl msX4_239 (t_isInI 2 1 4 rfl (by decide) (by decide)) (Nat.le_of_ble_eq_true rfl) rfl rfl (Nat.le_of_ble_eq_true rfl) (Nat.zero_le _) (Nat.zero_le _) (fun h49 => ?_) (fun h49 => ?_)
  · refine e_if_eq_f (by decide) 69 dX4_does_52 (by decide) ?_
    refine e_aload_n dX4_does_55 0 rfl rfl rfl ?_
    refine e_getf (v := .ref 90) dX4_does_56 rfl fX4_128 (tw_o hp) rfl ?_
    refine e_aload_n dX4_does_59 0 rfl rfl rfl ?_
    refine e_getf (v := .ref 77) dX4_does_60 rfl fX4_89 (tw_o hp) rfl ?_
    refine e_iload_n dX4_does_63 1 rfl rfl ?_
    refine e_iald (f := τ.2.2.1 45) (j := k) dX4_does_64 (tw_a45 hp) rfl (by omega) (by decide) ?_
    refine e_top (congrArg Value.int hb.1) ?_
    refine e_lald (f := τ.2.2.2 58) (j := b) dX4_does_65 (tw_a58 hp) rfl (by omega) (by decide) ?_
    refine e_goto 70 dX4_does_66 (by decide) ?_
    refine e_lstore dX4_does_70 (ls_s (ls_s (ls_s (ls_1 rfl)))) (ln_s (ln_s (ln_s (ln_s (ln_s ln_0))))) (Nat.le_of_ble_eq_true rfl) ?_
    refine e_aload_n dX4_does_72 0 rfl rfl rfl ?_
    refine e_getf (v := .ref 80) dX4_does_73 rfl fX4_98 (tw_o hp) rfl ?_
    refine e_iload_n dX4_does_76 1 rfl rfl ?_
    refine e_iald (f := τ.2.2.1 48) (j := k) dX4_does_77 (tw_a48 hp) rfl (by omega) (by decide) ?_
    refine e_if_eq 103 dX4_does_78 (by decide) (fun h78 => ?_) (fun h78 => ?_)
    · refine e_iconst 1 dX4_does_103 rfl ?_
      refine e_goto 108 dX4_does_104 (by decide) ?_
      refine e_istore dX4_does_108 (ls_s (ls_s (ls_s (ls_s (ls_s (ls_1 rfl)))))) (Nat.le_of_ble_eq_true rfl) ?_
      refine e_aload_n dX4_does_110 0 rfl rfl rfl ?_
      refine e_getf (v := .ref 75) dX4_does_111 rfl fX4_83 (tw_o hp) rfl ?_
      refine e_iload_n dX4_does_114 1 rfl rfl ?_
      refine e_iald (f := τ.2.2.1 43) (j := k) dX4_does_115 (tw_a43 hp) rfl (by omega) (by decide) ?_
      refine e_top (congrArg Value.int hK) ?_
      refine e_tableIn (off := 75) 191 dX4_does_116 (by decide) (by decide) (by decide) (by decide) ?_
      refine e_aload_n dX4_does_191 0 rfl rfl rfl ?_
      refine e_iload_n dX4_does_192 1 rfl rfl ?_
      refine e_aload_n dX4_does_193 0 rfl rfl rfl ?_
      refine e_getf (v := .ref 75) dX4_does_194 rfl fX4_83 (tw_o hp) rfl ?_
      refine e_iload_n dX4_does_197 1 rfl rfl ?_
      refine e_iald (f := τ.2.2.1 43) (j := k) dX4_does_198 (tw_a43 hp) rfl (by omega) (by decide) ?_
      refine e_top (congrArg Value.int hK) ?_
      refine e_iconst 1 dX4_does_199 rfl ?_
      refine e_icmp_ne 210 dX4_does_200 (by decide) (fun _ => ?_) (fun h => absurd h (by decide))
      refine e_lload_n dX4_does_210 2 rfl rfl ?_
      refine e_lload dX4_does_211 rfl ?_
      refine e_lsub dX4_does_213 ?_
      refine e_callV0 (As := [.int (nI k), .long ((τ.2.2.2 58 a) - (τ.2.2.2 58 b))]) (rest := []) dX4_does_214 rfl mvX4_471 (tw_o hp) rfl (t_comes (τ := τ) hp hk (c := c) hc ((τ.2.2.2 58 a) - (τ.2.2.2 58 b))) (Nat.le_of_ble_eq_true rfl) rfl rfl (Nat.le_of_ble_eq_true rfl) (Nat.zero_le _) (Nat.zero_le _) ?_
      refine e_aload_n dX4_does_217 0 rfl rfl rfl ?_
      refine e_dup dX4_does_218 rfl ?_
      refine e_getf (v := .int ((spComes τ k ((τ.2.2.2 58 a) - (τ.2.2.2 58 b))).1 63)) dX4_does_219 rfl fX4_468 (tw_o hp) rfl ?_
      refine e_iconst 2 dX4_does_222 rfl ?_
      refine e_iadd dX4_does_223 ?_
      refine e_tputI dX4_does_224 rfl pX4_468 rfl hp (Nat.le_of_ble_eq_true rfl) (tw_f63 _) ?_
      refine e_iload_n dX4_does_227 1 rfl rfl ?_
      refine e_iconst 1 dX4_does_228 rfl ?_
      refine e_iaddN k 1 dX4_does_229 ?_
      refine e_ireturn dX4_does_230 rfl rfl (Nat.zero_le _) (Nat.zero_le _) ?_
      have eD : spDoes τ k = (k + 1, spCr (spComes τ k (τ.2.2.2 58 a - τ.2.2.2 58 b)) 2) := by
        rw [spDoes, hK, if_neg (by decide), if_neg (by decide), if_pos rfl, eX, eY]
      refine ⟨_, rfl, by rw [eD], ?_⟩
      rw [eD]
      exact Sx.rf
    · refine e_aload_n dX4_does_81 0 rfl rfl rfl ?_
      refine e_getf (v := .int (τ.1 61)) dX4_does_82 rfl fX4_464 (tw_o hp) rfl ?_
      refine e_aload_n dX4_does_85 0 rfl rfl rfl ?_
      refine e_getf (v := .ref 80) dX4_does_86 rfl fX4_98 (tw_o hp) rfl ?_
      refine e_iload_n dX4_does_89 1 rfl rfl ?_
      refine e_iald (f := τ.2.2.1 48) (j := k) dX4_does_90 (tw_a48 hp) rfl (by omega) (by decide) ?_
      refine e_iconst 1 dX4_does_91 rfl ?_
      refine e_icmp_ne 99 dX4_does_92 (by decide) (fun h92 => ?_) (fun h92 => ?_)
      · refine e_iconst 0 dX4_does_99 rfl ?_
        refine e_icmp_ne 107 dX4_does_100 (by decide) (fun h100 => ?_) (fun h100 => ?_)
        · refine e_iconst 0 dX4_does_107 rfl ?_
          refine e_istore dX4_does_108 (ls_s (ls_s (ls_s (ls_s (ls_s (ls_1 rfl)))))) (Nat.le_of_ble_eq_true rfl) ?_
          refine e_aload_n dX4_does_110 0 rfl rfl rfl ?_
          refine e_getf (v := .ref 75) dX4_does_111 rfl fX4_83 (tw_o hp) rfl ?_
          refine e_iload_n dX4_does_114 1 rfl rfl ?_
          refine e_iald (f := τ.2.2.1 43) (j := k) dX4_does_115 (tw_a43 hp) rfl (by omega) (by decide) ?_
          refine e_top (congrArg Value.int hK) ?_
          refine e_tableIn (off := 75) 191 dX4_does_116 (by decide) (by decide) (by decide) (by decide) ?_
          refine e_aload_n dX4_does_191 0 rfl rfl rfl ?_
          refine e_iload_n dX4_does_192 1 rfl rfl ?_
          refine e_aload_n dX4_does_193 0 rfl rfl rfl ?_
          refine e_getf (v := .ref 75) dX4_does_194 rfl fX4_83 (tw_o hp) rfl ?_
          refine e_iload_n dX4_does_197 1 rfl rfl ?_
          refine e_iald (f := τ.2.2.1 43) (j := k) dX4_does_198 (tw_a43 hp) rfl (by omega) (by decide) ?_
          refine e_top (congrArg Value.int hK) ?_
          refine e_iconst 1 dX4_does_199 rfl ?_
          refine e_icmp_ne 210 dX4_does_200 (by decide) (fun _ => ?_) (fun h => absurd h (by decide))
          refine e_lload_n dX4_does_210 2 rfl rfl ?_
          refine e_lload dX4_does_211 rfl ?_
          refine e_lsub dX4_does_213 ?_
          refine e_callV0 (As := [.int (nI k), .long ((τ.2.2.2 58 a) - (τ.2.2.2 58 b))]) (rest := []) dX4_does_214 rfl mvX4_471 (tw_o hp) rfl (t_comes (τ := τ) hp hk (c := c) hc ((τ.2.2.2 58 a) - (τ.2.2.2 58 b))) (Nat.le_of_ble_eq_true rfl) rfl rfl (Nat.le_of_ble_eq_true rfl) (Nat.zero_le _) (Nat.zero_le _) ?_
          refine e_aload_n dX4_does_217 0 rfl rfl rfl ?_
          refine e_dup dX4_does_218 rfl ?_
          refine e_getf (v := .int ((spComes τ k ((τ.2.2.2 58 a) - (τ.2.2.2 58 b))).1 63)) dX4_does_219 rfl fX4_468 (tw_o hp) rfl ?_
          refine e_iconst 2 dX4_does_222 rfl ?_
          refine e_iadd dX4_does_223 ?_
          refine e_tputI dX4_does_224 rfl pX4_468 rfl hp (Nat.le_of_ble_eq_true rfl) (tw_f63 _) ?_
          refine e_iload_n dX4_does_227 1 rfl rfl ?_
          refine e_iconst 1 dX4_does_228 rfl ?_
          refine e_iaddN k 1 dX4_does_229 ?_
          refine e_ireturn dX4_does_230 rfl rfl (Nat.zero_le _) (Nat.zero_le _) ?_
          have eD : spDoes τ k = (k + 1, spCr (spComes τ k (τ.2.2.2 58 a - τ.2.2.2 58 b)) 2) := by
            rw [spDoes, hK, if_neg (by decide), if_neg (by decide), if_pos rfl, eX, eY]
          refine ⟨_, rfl, by rw [eD], ?_⟩
          rw [eD]
          exact Sx.rf
        · refine e_iconst 1 dX4_does_103 rfl ?_
          refine e_goto 108 dX4_does_104 (by decide) ?_
          refine e_istore dX4_does_108 (ls_s (ls_s (ls_s (ls_s (ls_s (ls_1 rfl)))))) (Nat.le_of_ble_eq_true rfl) ?_
          refine e_aload_n dX4_does_110 0 rfl rfl rfl ?_
          refine e_getf (v := .ref 75) dX4_does_111 rfl fX4_83 (tw_o hp) rfl ?_
          refine e_iload_n dX4_does_114 1 rfl rfl ?_
          refine e_iald (f := τ.2.2.1 43) (j := k) dX4_does_115 (tw_a43 hp) rfl (by omega) (by decide) ?_
          refine e_top (congrArg Value.int hK) ?_
          refine e_tableIn (off := 75) 191 dX4_does_116 (by decide) (by decide) (by decide) (by decide) ?_
          refine e_aload_n dX4_does_191 0 rfl rfl rfl ?_
          refine e_iload_n dX4_does_192 1 rfl rfl ?_
          refine e_aload_n dX4_does_193 0 rfl rfl rfl ?_
          refine e_getf (v := .ref 75) dX4_does_194 rfl fX4_83 (tw_o hp) rfl ?_
          refine e_iload_n dX4_does_197 1 rfl rfl ?_
          refine e_iald (f := τ.2.2.1 43) (j := k) dX4_does_198 (tw_a43 hp) rfl (by omega) (by decide) ?_
          refine e_top (congrArg Value.int hK) ?_
          refine e_iconst 1 dX4_does_199 rfl ?_
          refine e_icmp_ne 210 dX4_does_200 (by decide) (fun _ => ?_) (fun h => absurd h (by decide))
          refine e_lload_n dX4_does_210 2 rfl rfl ?_
          refine e_lload dX4_does_211 rfl ?_
          refine e_lsub dX4_does_213 ?_
          refine e_callV0 (As := [.int (nI k), .long ((τ.2.2.2 58 a) - (τ.2.2.2 58 b))]) (rest := []) dX4_does_214 rfl mvX4_471 (tw_o hp) rfl (t_comes (τ := τ) hp hk (c := c) hc ((τ.2.2.2 58 a) - (τ.2.2.2 58 b))) (Nat.le_of_ble_eq_true rfl) rfl rfl (Nat.le_of_ble_eq_true rfl) (Nat.zero_le _) (Nat.zero_le _) ?_
          refine e_aload_n dX4_does_217 0 rfl rfl rfl ?_
          refine e_dup dX4_does_218 rfl ?_
          refine e_getf (v := .int ((spComes τ k ((τ.2.2.2 58 a) - (τ.2.2.2 58 b))).1 63)) dX4_does_219 rfl fX4_468 (tw_o hp) rfl ?_
          refine e_iconst 2 dX4_does_222 rfl ?_
          refine e_iadd dX4_does_223 ?_
          refine e_tputI dX4_does_224 rfl pX4_468 rfl hp (Nat.le_of_ble_eq_true rfl) (tw_f63 _) ?_
          refine e_iload_n dX4_does_227 1 rfl rfl ?_
          refine e_iconst 1 dX4_does_228 rfl ?_
          refine e_iaddN k 1 dX4_does_229 ?_
          refine e_ireturn dX4_does_230 rfl rfl (Nat.zero_le _) (Nat.zero_le _) ?_
          have eD : spDoes τ k = (k + 1, spCr (spComes τ k (τ.2.2.2 58 a - τ.2.2.2 58 b)) 2) := by
            rw [spDoes, hK, if_neg (by decide), if_neg (by decide), if_pos rfl, eX, eY]
          refine ⟨_, rfl, by rw [eD], ?_⟩
          rw [eD]
          exact Sx.rf
      · refine e_iconst 1 dX4_does_95 rfl ?_
        refine e_goto 100 dX4_does_96 (by decide) ?_
        refine e_icmp_ne 107 dX4_does_100 (by decide) (fun h100 => ?_) (fun h100 => ?_)
        · refine e_iconst 0 dX4_does_107 rfl ?_
          refine e_istore dX4_does_108 (ls_s (ls_s (ls_s (ls_s (ls_s (ls_1 rfl)))))) (Nat.le_of_ble_eq_true rfl) ?_
          refine e_aload_n dX4_does_110 0 rfl rfl rfl ?_
          refine e_getf (v := .ref 75) dX4_does_111 rfl fX4_83 (tw_o hp) rfl ?_
          refine e_iload_n dX4_does_114 1 rfl rfl ?_
          refine e_iald (f := τ.2.2.1 43) (j := k) dX4_does_115 (tw_a43 hp) rfl (by omega) (by decide) ?_
          refine e_top (congrArg Value.int hK) ?_
          refine e_tableIn (off := 75) 191 dX4_does_116 (by decide) (by decide) (by decide) (by decide) ?_
          refine e_aload_n dX4_does_191 0 rfl rfl rfl ?_
          refine e_iload_n dX4_does_192 1 rfl rfl ?_
          refine e_aload_n dX4_does_193 0 rfl rfl rfl ?_
          refine e_getf (v := .ref 75) dX4_does_194 rfl fX4_83 (tw_o hp) rfl ?_
          refine e_iload_n dX4_does_197 1 rfl rfl ?_
          refine e_iald (f := τ.2.2.1 43) (j := k) dX4_does_198 (tw_a43 hp) rfl (by omega) (by decide) ?_
          refine e_top (congrArg Value.int hK) ?_
          refine e_iconst 1 dX4_does_199 rfl ?_
          refine e_icmp_ne 210 dX4_does_200 (by decide) (fun _ => ?_) (fun h => absurd h (by decide))
          refine e_lload_n dX4_does_210 2 rfl rfl ?_
          refine e_lload dX4_does_211 rfl ?_
          refine e_lsub dX4_does_213 ?_
          refine e_callV0 (As := [.int (nI k), .long ((τ.2.2.2 58 a) - (τ.2.2.2 58 b))]) (rest := []) dX4_does_214 rfl mvX4_471 (tw_o hp) rfl (t_comes (τ := τ) hp hk (c := c) hc ((τ.2.2.2 58 a) - (τ.2.2.2 58 b))) (Nat.le_of_ble_eq_true rfl) rfl rfl (Nat.le_of_ble_eq_true rfl) (Nat.zero_le _) (Nat.zero_le _) ?_
          refine e_aload_n dX4_does_217 0 rfl rfl rfl ?_
          refine e_dup dX4_does_218 rfl ?_
          refine e_getf (v := .int ((spComes τ k ((τ.2.2.2 58 a) - (τ.2.2.2 58 b))).1 63)) dX4_does_219 rfl fX4_468 (tw_o hp) rfl ?_
          refine e_iconst 2 dX4_does_222 rfl ?_
          refine e_iadd dX4_does_223 ?_
          refine e_tputI dX4_does_224 rfl pX4_468 rfl hp (Nat.le_of_ble_eq_true rfl) (tw_f63 _) ?_
          refine e_iload_n dX4_does_227 1 rfl rfl ?_
          refine e_iconst 1 dX4_does_228 rfl ?_
          refine e_iaddN k 1 dX4_does_229 ?_
          refine e_ireturn dX4_does_230 rfl rfl (Nat.zero_le _) (Nat.zero_le _) ?_
          have eD : spDoes τ k = (k + 1, spCr (spComes τ k (τ.2.2.2 58 a - τ.2.2.2 58 b)) 2) := by
            rw [spDoes, hK, if_neg (by decide), if_neg (by decide), if_pos rfl, eX, eY]
          refine ⟨_, rfl, by rw [eD], ?_⟩
          rw [eD]
          exact Sx.rf
        · refine e_iconst 1 dX4_does_103 rfl ?_
          refine e_goto 108 dX4_does_104 (by decide) ?_
          refine e_istore dX4_does_108 (ls_s (ls_s (ls_s (ls_s (ls_s (ls_1 rfl)))))) (Nat.le_of_ble_eq_true rfl) ?_
          refine e_aload_n dX4_does_110 0 rfl rfl rfl ?_
          refine e_getf (v := .ref 75) dX4_does_111 rfl fX4_83 (tw_o hp) rfl ?_
          refine e_iload_n dX4_does_114 1 rfl rfl ?_
          refine e_iald (f := τ.2.2.1 43) (j := k) dX4_does_115 (tw_a43 hp) rfl (by omega) (by decide) ?_
          refine e_top (congrArg Value.int hK) ?_
          refine e_tableIn (off := 75) 191 dX4_does_116 (by decide) (by decide) (by decide) (by decide) ?_
          refine e_aload_n dX4_does_191 0 rfl rfl rfl ?_
          refine e_iload_n dX4_does_192 1 rfl rfl ?_
          refine e_aload_n dX4_does_193 0 rfl rfl rfl ?_
          refine e_getf (v := .ref 75) dX4_does_194 rfl fX4_83 (tw_o hp) rfl ?_
          refine e_iload_n dX4_does_197 1 rfl rfl ?_
          refine e_iald (f := τ.2.2.1 43) (j := k) dX4_does_198 (tw_a43 hp) rfl (by omega) (by decide) ?_
          refine e_top (congrArg Value.int hK) ?_
          refine e_iconst 1 dX4_does_199 rfl ?_
          refine e_icmp_ne 210 dX4_does_200 (by decide) (fun _ => ?_) (fun h => absurd h (by decide))
          refine e_lload_n dX4_does_210 2 rfl rfl ?_
          refine e_lload dX4_does_211 rfl ?_
          refine e_lsub dX4_does_213 ?_
          refine e_callV0 (As := [.int (nI k), .long ((τ.2.2.2 58 a) - (τ.2.2.2 58 b))]) (rest := []) dX4_does_214 rfl mvX4_471 (tw_o hp) rfl (t_comes (τ := τ) hp hk (c := c) hc ((τ.2.2.2 58 a) - (τ.2.2.2 58 b))) (Nat.le_of_ble_eq_true rfl) rfl rfl (Nat.le_of_ble_eq_true rfl) (Nat.zero_le _) (Nat.zero_le _) ?_
          refine e_aload_n dX4_does_217 0 rfl rfl rfl ?_
          refine e_dup dX4_does_218 rfl ?_
          refine e_getf (v := .int ((spComes τ k ((τ.2.2.2 58 a) - (τ.2.2.2 58 b))).1 63)) dX4_does_219 rfl fX4_468 (tw_o hp) rfl ?_
          refine e_iconst 2 dX4_does_222 rfl ?_
          refine e_iadd dX4_does_223 ?_
          refine e_tputI dX4_does_224 rfl pX4_468 rfl hp (Nat.le_of_ble_eq_true rfl) (tw_f63 _) ?_
          refine e_iload_n dX4_does_227 1 rfl rfl ?_
          refine e_iconst 1 dX4_does_228 rfl ?_
          refine e_iaddN k 1 dX4_does_229 ?_
          refine e_ireturn dX4_does_230 rfl rfl (Nat.zero_le _) (Nat.zero_le _) ?_
          have eD : spDoes τ k = (k + 1, spCr (spComes τ k (τ.2.2.2 58 a - τ.2.2.2 58 b)) 2) := by
            rw [spDoes, hK, if_neg (by decide), if_neg (by decide), if_pos rfl, eX, eY]
          refine ⟨_, rfl, by rw [eD], ?_⟩
          rw [eD]
          exact Sx.rf
  · exact absurd (by decide) h49

set_option maxHeartbeats 4000000 in
set_option maxRecDepth 100000 in
/-- WheelTablesModel.does -/
theorem t_does3 {pre post : List ACell} {τ : Tw} (hp : pre.length = 56) {k a b c e P : Nat} (hk : k < 40) (hK : τ.2.2.1 43 k = 3) (ha : τ.2.2.1 44 k = nI a ∧ a < 20) (hb : τ.2.2.1 45 k = nI b ∧ b < 20) (hc : τ.2.2.1 46 k = nI c ∧ c < 20) (he : τ.2.2.1 47 k = nI e ∧ e < 20) (hP : P ≤ 40 ∧ τ.1 62 = nI P) (hPP : τ.2.2.1 43 k = 5 → P < 40) (hD : τ.2.2.1 43 k = 4 → ¬ spY τ k = 0) : Ct yX4_does (ws_ yX4_does cX4_does 7 (some .int)) 2 0 0 [.ref 56, .int (nI k)] (TW pre τ post) (fun v0 N => ∃ τ1, N = TW pre τ1 post ∧ v0 = some (.int (nI (spDoes τ k).1)) ∧ Sx [] [] [67, 68, 69] [] τ1 (spDoes τ k).2) noX := by
  have eX : spX τ k = τ.2.2.2 58 a := by rw [spX, ha.1, ix_nI (by omega)]
  have eY : spY τ k = τ.2.2.2 58 b := by rw [spY, hb.1, ix_nI (by omega)]
  refine Ct.of (ini := false) (ls := [some (.ref 56), some (.int (nI k)), none, none, none, none, none]) (by decide) (Nat.le_of_ble_eq_true rfl) (fun h => by cases h) rfl ?_
  refine e_aload_n dX4_does_0 0 rfl rfl rfl ?_
  refine e_getf (v := .ref 75) dX4_does_1 rfl fX4_83 (tw_o hp) rfl ?_
  refine e_iload_n dX4_does_4 1 rfl rfl ?_
  refine e_iald (f := τ.2.2.1 43) (j := k) dX4_does_5 (tw_a43 hp) rfl (by omega) (by decide) ?_
  refine e_top (congrArg Value.int hK) ?_
  refine e_bipush 6 dX4_does_6 rfl ?_
  refine e_icmp_eq 22 dX4_does_8 (by decide) (fun h => absurd h (by decide)) (fun _ => ?_)
  refine e_aload_n dX4_does_11 0 rfl rfl rfl ?_
  refine e_getf (v := .ref 75) dX4_does_12 rfl fX4_83 (tw_o hp) rfl ?_
  refine e_iload_n dX4_does_15 1 rfl rfl ?_
  refine e_iald (f := τ.2.2.1 43) (j := k) dX4_does_16 (tw_a43 hp) rfl (by omega) (by decide) ?_
  refine e_top (congrArg Value.int hK) ?_
  refine e_bipush 7 dX4_does_17 rfl ?_
  refine e_icmp_ne 26 dX4_does_19 (by decide) (fun _ => ?_) (fun h => absurd h (by decide))
  refine e_aload_n dX4_does_26 0 rfl rfl rfl ?_
  refine e_getf (v := .ref 90) dX4_does_27 rfl fX4_128 (tw_o hp) rfl ?_
  refine e_aload_n dX4_does_30 0 rfl rfl rfl ?_
  refine e_getf (v := .ref 76) dX4_does_31 rfl fX4_86 (tw_o hp) rfl ?_
  refine e_iload_n dX4_does_34 1 rfl rfl ?_
  refine e_iald (f := τ.2.2.1 44) (j := k) dX4_does_35 (tw_a44 hp) rfl (by omega) (by decide) ?_
  refine e_top (congrArg Value.int ha.1) ?_
  refine e_lald (f := τ.2.2.2 58) (j := a) dX4_does_36 (tw_a58 hp) rfl (by omega) (by decide) ?_
  refine e_lstore_n dX4_does_37 2 rfl (ls_s (ls_1 rfl)) (ln_s (ln_s (ln_s ln_0))) (Nat.le_of_ble_eq_true rfl) ?_
  refine e_aload_n dX4_does_38 0 rfl rfl rfl ?_
  refine e_getf (v := .ref 75) dX4_does_39 rfl fX4_83 (tw_o hp) rfl ?_
  refine e_iload_n dX4_does_42 1 rfl rfl ?_
  refine e_iald (f := τ.2.2.1 43) (j := k) dX4_does_43 (tw_a43 hp) rfl (by omega) (by decide) ?_
  refine e_top (congrArg Value.int hK) ?_
  refine e_i2l dX4_does_44 ?_
  refine e_lconst 1 dX4_does_45 rfl ?_
  refine e_ldc2 rfl q1577 dX4_does_46 ?_
  refine e_callSB (As := [.long ((3 : Int32).toInt64), .long 1, .long 4]) (rest := []) dX4_does_49 rfl msX4_239 (t_isInI 3 1 4 rfl (by decide) (by decide)) (Nat.le_of_ble_eq_true rfl) rfl rfl (Nat.le_of_ble_eq_true rfl) (Nat.zero_le _) (Nat.zero_le _) (fun h49 => ?_) (fun h49 => ?_)
  · refine e_if_eq_f (by decide) 69 dX4_does_52 (by decide) ?_
    refine e_aload_n dX4_does_55 0 rfl rfl rfl ?_
    refine e_getf (v := .ref 90) dX4_does_56 rfl fX4_128 (tw_o hp) rfl ?_
    refine e_aload_n dX4_does_59 0 rfl rfl rfl ?_
    refine e_getf (v := .ref 77) dX4_does_60 rfl fX4_89 (tw_o hp) rfl ?_
    refine e_iload_n dX4_does_63 1 rfl rfl ?_
    refine e_iald (f := τ.2.2.1 45) (j := k) dX4_does_64 (tw_a45 hp) rfl (by omega) (by decide) ?_
    refine e_top (congrArg Value.int hb.1) ?_
    refine e_lald (f := τ.2.2.2 58) (j := b) dX4_does_65 (tw_a58 hp) rfl (by omega) (by decide) ?_
    refine e_goto 70 dX4_does_66 (by decide) ?_
    refine e_lstore dX4_does_70 (ls_s (ls_s (ls_s (ls_1 rfl)))) (ln_s (ln_s (ln_s (ln_s (ln_s ln_0))))) (Nat.le_of_ble_eq_true rfl) ?_
    refine e_aload_n dX4_does_72 0 rfl rfl rfl ?_
    refine e_getf (v := .ref 80) dX4_does_73 rfl fX4_98 (tw_o hp) rfl ?_
    refine e_iload_n dX4_does_76 1 rfl rfl ?_
    refine e_iald (f := τ.2.2.1 48) (j := k) dX4_does_77 (tw_a48 hp) rfl (by omega) (by decide) ?_
    refine e_if_eq 103 dX4_does_78 (by decide) (fun h78 => ?_) (fun h78 => ?_)
    · refine e_iconst 1 dX4_does_103 rfl ?_
      refine e_goto 108 dX4_does_104 (by decide) ?_
      refine e_istore dX4_does_108 (ls_s (ls_s (ls_s (ls_s (ls_s (ls_1 rfl)))))) (Nat.le_of_ble_eq_true rfl) ?_
      refine e_aload_n dX4_does_110 0 rfl rfl rfl ?_
      refine e_getf (v := .ref 75) dX4_does_111 rfl fX4_83 (tw_o hp) rfl ?_
      refine e_iload_n dX4_does_114 1 rfl rfl ?_
      refine e_iald (f := τ.2.2.1 43) (j := k) dX4_does_115 (tw_a43 hp) rfl (by omega) (by decide) ?_
      refine e_top (congrArg Value.int hK) ?_
      refine e_tableIn (off := 115) 231 dX4_does_116 (by decide) (by decide) (by decide) (by decide) ?_
      refine e_aload_n dX4_does_231 0 rfl rfl rfl ?_
      refine e_dup dX4_does_232 rfl ?_
      refine e_getf (v := .int (τ.1 63)) dX4_does_233 rfl fX4_468 (tw_o hp) rfl ?_
      refine e_iconst 2 dX4_does_236 rfl ?_
      refine e_aload_n dX4_does_237 0 rfl rfl rfl ?_
      refine e_lload_n dX4_does_238 2 rfl rfl ?_
      refine e_callS1 (As := [.long (τ.2.2.2 58 a)]) (rest := [.ref 56, .int 2, .int (τ.1 63), .ref 56]) dX4_does_239 rfl msX4_451 (m_absL (τ.2.2.2 58 a)) (Nat.le_of_ble_eq_true rfl) rfl rfl (Nat.le_of_ble_eq_true rfl) (Nat.zero_le _) (Nat.zero_le _) ?_
      refine e_callVQ (As := [.long (abL (τ.2.2.2 58 a))]) (rest := [.int 2, .int (τ.1 63), .ref 56]) dX4_does_242 rfl mvX4_475 (tw_o hp) rfl (t_fewest hp (abL (τ.2.2.2 58 a))) (Nat.le_of_ble_eq_true rfl) rfl rfl (Nat.le_of_ble_eq_true rfl) (Nat.zero_le _) (Nat.zero_le _) (fun v0 M0 h0 _ => ?_)
      obtain ⟨τ1, rfl, rfl, hS1, -⟩ := h0
      refine e_iadd dX4_does_245 ?_
      refine e_iadd dX4_does_246 ?_
      refine e_tputI dX4_does_247 rfl pX4_468 rfl hp (Nat.le_of_ble_eq_true rfl) (tw_f63 _) ?_
      refine e_aload_n dX4_does_250 0 rfl rfl rfl ?_
      refine e_iload_n dX4_does_251 1 rfl rfl ?_
      refine e_lload_n dX4_does_252 2 rfl rfl ?_
      refine e_lload dX4_does_253 rfl ?_
      refine e_lmul dX4_does_255 ?_
      refine e_callV0 (As := [.int (nI k), .long ((τ.2.2.2 58 a) * (τ.2.2.2 58 b))]) (rest := []) dX4_does_256 rfl mvX4_471 (tw_o hp) rfl (t_comes (τ := (tI τ1 63 ((τ.1 63) + (2 + (spFew (abL (τ.2.2.2 58 a))))))) hp hk (c := c) ⟨by rw [show (tI τ1 63 _).2.2.1 46 = τ1.2.2.1 46 from rfl, hS1.2.2.1 46 (by decide)]; exact hc.1, hc.2⟩ ((τ.2.2.2 58 a) * (τ.2.2.2 58 b))) (Nat.le_of_ble_eq_true rfl) rfl rfl (Nat.le_of_ble_eq_true rfl) (Nat.zero_le _) (Nat.zero_le _) ?_
      refine e_iload_n dX4_does_259 1 rfl rfl ?_
      refine e_iconst 1 dX4_does_260 rfl ?_
      refine e_iaddN k 1 dX4_does_261 ?_
      refine e_ireturn dX4_does_262 rfl rfl (Nat.zero_le _) (Nat.zero_le _) ?_
      have eD : spDoes τ k = (k + 1, spComes (spCr τ (2 + spFew (abL (τ.2.2.2 58 a)))) k (τ.2.2.2 58 a * τ.2.2.2 58 b)) := by
        rw [spDoes, hK, if_neg (by decide), if_neg (by decide), if_neg (by decide), if_pos rfl, eX, eY]
      refine ⟨_, rfl, by rw [eD], ?_⟩
      rw [eD]
      exact (show Sx [] [] [67, 68, 69] [] _ (spComes (tI τ 63 _) k _) from (hS1.II 63 _).cm k _)
    · refine e_aload_n dX4_does_81 0 rfl rfl rfl ?_
      refine e_getf (v := .int (τ.1 61)) dX4_does_82 rfl fX4_464 (tw_o hp) rfl ?_
      refine e_aload_n dX4_does_85 0 rfl rfl rfl ?_
      refine e_getf (v := .ref 80) dX4_does_86 rfl fX4_98 (tw_o hp) rfl ?_
      refine e_iload_n dX4_does_89 1 rfl rfl ?_
      refine e_iald (f := τ.2.2.1 48) (j := k) dX4_does_90 (tw_a48 hp) rfl (by omega) (by decide) ?_
      refine e_iconst 1 dX4_does_91 rfl ?_
      refine e_icmp_ne 99 dX4_does_92 (by decide) (fun h92 => ?_) (fun h92 => ?_)
      · refine e_iconst 0 dX4_does_99 rfl ?_
        refine e_icmp_ne 107 dX4_does_100 (by decide) (fun h100 => ?_) (fun h100 => ?_)
        · refine e_iconst 0 dX4_does_107 rfl ?_
          refine e_istore dX4_does_108 (ls_s (ls_s (ls_s (ls_s (ls_s (ls_1 rfl)))))) (Nat.le_of_ble_eq_true rfl) ?_
          refine e_aload_n dX4_does_110 0 rfl rfl rfl ?_
          refine e_getf (v := .ref 75) dX4_does_111 rfl fX4_83 (tw_o hp) rfl ?_
          refine e_iload_n dX4_does_114 1 rfl rfl ?_
          refine e_iald (f := τ.2.2.1 43) (j := k) dX4_does_115 (tw_a43 hp) rfl (by omega) (by decide) ?_
          refine e_top (congrArg Value.int hK) ?_
          refine e_tableIn (off := 115) 231 dX4_does_116 (by decide) (by decide) (by decide) (by decide) ?_
          refine e_aload_n dX4_does_231 0 rfl rfl rfl ?_
          refine e_dup dX4_does_232 rfl ?_
          refine e_getf (v := .int (τ.1 63)) dX4_does_233 rfl fX4_468 (tw_o hp) rfl ?_
          refine e_iconst 2 dX4_does_236 rfl ?_
          refine e_aload_n dX4_does_237 0 rfl rfl rfl ?_
          refine e_lload_n dX4_does_238 2 rfl rfl ?_
          refine e_callS1 (As := [.long (τ.2.2.2 58 a)]) (rest := [.ref 56, .int 2, .int (τ.1 63), .ref 56]) dX4_does_239 rfl msX4_451 (m_absL (τ.2.2.2 58 a)) (Nat.le_of_ble_eq_true rfl) rfl rfl (Nat.le_of_ble_eq_true rfl) (Nat.zero_le _) (Nat.zero_le _) ?_
          refine e_callVQ (As := [.long (abL (τ.2.2.2 58 a))]) (rest := [.int 2, .int (τ.1 63), .ref 56]) dX4_does_242 rfl mvX4_475 (tw_o hp) rfl (t_fewest hp (abL (τ.2.2.2 58 a))) (Nat.le_of_ble_eq_true rfl) rfl rfl (Nat.le_of_ble_eq_true rfl) (Nat.zero_le _) (Nat.zero_le _) (fun v0 M0 h0 _ => ?_)
          obtain ⟨τ1, rfl, rfl, hS1, -⟩ := h0
          refine e_iadd dX4_does_245 ?_
          refine e_iadd dX4_does_246 ?_
          refine e_tputI dX4_does_247 rfl pX4_468 rfl hp (Nat.le_of_ble_eq_true rfl) (tw_f63 _) ?_
          refine e_aload_n dX4_does_250 0 rfl rfl rfl ?_
          refine e_iload_n dX4_does_251 1 rfl rfl ?_
          refine e_lload_n dX4_does_252 2 rfl rfl ?_
          refine e_lload dX4_does_253 rfl ?_
          refine e_lmul dX4_does_255 ?_
          refine e_callV0 (As := [.int (nI k), .long ((τ.2.2.2 58 a) * (τ.2.2.2 58 b))]) (rest := []) dX4_does_256 rfl mvX4_471 (tw_o hp) rfl (t_comes (τ := (tI τ1 63 ((τ.1 63) + (2 + (spFew (abL (τ.2.2.2 58 a))))))) hp hk (c := c) ⟨by rw [show (tI τ1 63 _).2.2.1 46 = τ1.2.2.1 46 from rfl, hS1.2.2.1 46 (by decide)]; exact hc.1, hc.2⟩ ((τ.2.2.2 58 a) * (τ.2.2.2 58 b))) (Nat.le_of_ble_eq_true rfl) rfl rfl (Nat.le_of_ble_eq_true rfl) (Nat.zero_le _) (Nat.zero_le _) ?_
          refine e_iload_n dX4_does_259 1 rfl rfl ?_
          refine e_iconst 1 dX4_does_260 rfl ?_
          refine e_iaddN k 1 dX4_does_261 ?_
          refine e_ireturn dX4_does_262 rfl rfl (Nat.zero_le _) (Nat.zero_le _) ?_
          have eD : spDoes τ k = (k + 1, spComes (spCr τ (2 + spFew (abL (τ.2.2.2 58 a)))) k (τ.2.2.2 58 a * τ.2.2.2 58 b)) := by
            rw [spDoes, hK, if_neg (by decide), if_neg (by decide), if_neg (by decide), if_pos rfl, eX, eY]
          refine ⟨_, rfl, by rw [eD], ?_⟩
          rw [eD]
          exact (show Sx [] [] [67, 68, 69] [] _ (spComes (tI τ 63 _) k _) from (hS1.II 63 _).cm k _)
        · refine e_iconst 1 dX4_does_103 rfl ?_
          refine e_goto 108 dX4_does_104 (by decide) ?_
          refine e_istore dX4_does_108 (ls_s (ls_s (ls_s (ls_s (ls_s (ls_1 rfl)))))) (Nat.le_of_ble_eq_true rfl) ?_
          refine e_aload_n dX4_does_110 0 rfl rfl rfl ?_
          refine e_getf (v := .ref 75) dX4_does_111 rfl fX4_83 (tw_o hp) rfl ?_
          refine e_iload_n dX4_does_114 1 rfl rfl ?_
          refine e_iald (f := τ.2.2.1 43) (j := k) dX4_does_115 (tw_a43 hp) rfl (by omega) (by decide) ?_
          refine e_top (congrArg Value.int hK) ?_
          refine e_tableIn (off := 115) 231 dX4_does_116 (by decide) (by decide) (by decide) (by decide) ?_
          refine e_aload_n dX4_does_231 0 rfl rfl rfl ?_
          refine e_dup dX4_does_232 rfl ?_
          refine e_getf (v := .int (τ.1 63)) dX4_does_233 rfl fX4_468 (tw_o hp) rfl ?_
          refine e_iconst 2 dX4_does_236 rfl ?_
          refine e_aload_n dX4_does_237 0 rfl rfl rfl ?_
          refine e_lload_n dX4_does_238 2 rfl rfl ?_
          refine e_callS1 (As := [.long (τ.2.2.2 58 a)]) (rest := [.ref 56, .int 2, .int (τ.1 63), .ref 56]) dX4_does_239 rfl msX4_451 (m_absL (τ.2.2.2 58 a)) (Nat.le_of_ble_eq_true rfl) rfl rfl (Nat.le_of_ble_eq_true rfl) (Nat.zero_le _) (Nat.zero_le _) ?_
          refine e_callVQ (As := [.long (abL (τ.2.2.2 58 a))]) (rest := [.int 2, .int (τ.1 63), .ref 56]) dX4_does_242 rfl mvX4_475 (tw_o hp) rfl (t_fewest hp (abL (τ.2.2.2 58 a))) (Nat.le_of_ble_eq_true rfl) rfl rfl (Nat.le_of_ble_eq_true rfl) (Nat.zero_le _) (Nat.zero_le _) (fun v0 M0 h0 _ => ?_)
          obtain ⟨τ1, rfl, rfl, hS1, -⟩ := h0
          refine e_iadd dX4_does_245 ?_
          refine e_iadd dX4_does_246 ?_
          refine e_tputI dX4_does_247 rfl pX4_468 rfl hp (Nat.le_of_ble_eq_true rfl) (tw_f63 _) ?_
          refine e_aload_n dX4_does_250 0 rfl rfl rfl ?_
          refine e_iload_n dX4_does_251 1 rfl rfl ?_
          refine e_lload_n dX4_does_252 2 rfl rfl ?_
          refine e_lload dX4_does_253 rfl ?_
          refine e_lmul dX4_does_255 ?_
          refine e_callV0 (As := [.int (nI k), .long ((τ.2.2.2 58 a) * (τ.2.2.2 58 b))]) (rest := []) dX4_does_256 rfl mvX4_471 (tw_o hp) rfl (t_comes (τ := (tI τ1 63 ((τ.1 63) + (2 + (spFew (abL (τ.2.2.2 58 a))))))) hp hk (c := c) ⟨by rw [show (tI τ1 63 _).2.2.1 46 = τ1.2.2.1 46 from rfl, hS1.2.2.1 46 (by decide)]; exact hc.1, hc.2⟩ ((τ.2.2.2 58 a) * (τ.2.2.2 58 b))) (Nat.le_of_ble_eq_true rfl) rfl rfl (Nat.le_of_ble_eq_true rfl) (Nat.zero_le _) (Nat.zero_le _) ?_
          refine e_iload_n dX4_does_259 1 rfl rfl ?_
          refine e_iconst 1 dX4_does_260 rfl ?_
          refine e_iaddN k 1 dX4_does_261 ?_
          refine e_ireturn dX4_does_262 rfl rfl (Nat.zero_le _) (Nat.zero_le _) ?_
          have eD : spDoes τ k = (k + 1, spComes (spCr τ (2 + spFew (abL (τ.2.2.2 58 a)))) k (τ.2.2.2 58 a * τ.2.2.2 58 b)) := by
            rw [spDoes, hK, if_neg (by decide), if_neg (by decide), if_neg (by decide), if_pos rfl, eX, eY]
          refine ⟨_, rfl, by rw [eD], ?_⟩
          rw [eD]
          exact (show Sx [] [] [67, 68, 69] [] _ (spComes (tI τ 63 _) k _) from (hS1.II 63 _).cm k _)
      · refine e_iconst 1 dX4_does_95 rfl ?_
        refine e_goto 100 dX4_does_96 (by decide) ?_
        refine e_icmp_ne 107 dX4_does_100 (by decide) (fun h100 => ?_) (fun h100 => ?_)
        · refine e_iconst 0 dX4_does_107 rfl ?_
          refine e_istore dX4_does_108 (ls_s (ls_s (ls_s (ls_s (ls_s (ls_1 rfl)))))) (Nat.le_of_ble_eq_true rfl) ?_
          refine e_aload_n dX4_does_110 0 rfl rfl rfl ?_
          refine e_getf (v := .ref 75) dX4_does_111 rfl fX4_83 (tw_o hp) rfl ?_
          refine e_iload_n dX4_does_114 1 rfl rfl ?_
          refine e_iald (f := τ.2.2.1 43) (j := k) dX4_does_115 (tw_a43 hp) rfl (by omega) (by decide) ?_
          refine e_top (congrArg Value.int hK) ?_
          refine e_tableIn (off := 115) 231 dX4_does_116 (by decide) (by decide) (by decide) (by decide) ?_
          refine e_aload_n dX4_does_231 0 rfl rfl rfl ?_
          refine e_dup dX4_does_232 rfl ?_
          refine e_getf (v := .int (τ.1 63)) dX4_does_233 rfl fX4_468 (tw_o hp) rfl ?_
          refine e_iconst 2 dX4_does_236 rfl ?_
          refine e_aload_n dX4_does_237 0 rfl rfl rfl ?_
          refine e_lload_n dX4_does_238 2 rfl rfl ?_
          refine e_callS1 (As := [.long (τ.2.2.2 58 a)]) (rest := [.ref 56, .int 2, .int (τ.1 63), .ref 56]) dX4_does_239 rfl msX4_451 (m_absL (τ.2.2.2 58 a)) (Nat.le_of_ble_eq_true rfl) rfl rfl (Nat.le_of_ble_eq_true rfl) (Nat.zero_le _) (Nat.zero_le _) ?_
          refine e_callVQ (As := [.long (abL (τ.2.2.2 58 a))]) (rest := [.int 2, .int (τ.1 63), .ref 56]) dX4_does_242 rfl mvX4_475 (tw_o hp) rfl (t_fewest hp (abL (τ.2.2.2 58 a))) (Nat.le_of_ble_eq_true rfl) rfl rfl (Nat.le_of_ble_eq_true rfl) (Nat.zero_le _) (Nat.zero_le _) (fun v0 M0 h0 _ => ?_)
          obtain ⟨τ1, rfl, rfl, hS1, -⟩ := h0
          refine e_iadd dX4_does_245 ?_
          refine e_iadd dX4_does_246 ?_
          refine e_tputI dX4_does_247 rfl pX4_468 rfl hp (Nat.le_of_ble_eq_true rfl) (tw_f63 _) ?_
          refine e_aload_n dX4_does_250 0 rfl rfl rfl ?_
          refine e_iload_n dX4_does_251 1 rfl rfl ?_
          refine e_lload_n dX4_does_252 2 rfl rfl ?_
          refine e_lload dX4_does_253 rfl ?_
          refine e_lmul dX4_does_255 ?_
          refine e_callV0 (As := [.int (nI k), .long ((τ.2.2.2 58 a) * (τ.2.2.2 58 b))]) (rest := []) dX4_does_256 rfl mvX4_471 (tw_o hp) rfl (t_comes (τ := (tI τ1 63 ((τ.1 63) + (2 + (spFew (abL (τ.2.2.2 58 a))))))) hp hk (c := c) ⟨by rw [show (tI τ1 63 _).2.2.1 46 = τ1.2.2.1 46 from rfl, hS1.2.2.1 46 (by decide)]; exact hc.1, hc.2⟩ ((τ.2.2.2 58 a) * (τ.2.2.2 58 b))) (Nat.le_of_ble_eq_true rfl) rfl rfl (Nat.le_of_ble_eq_true rfl) (Nat.zero_le _) (Nat.zero_le _) ?_
          refine e_iload_n dX4_does_259 1 rfl rfl ?_
          refine e_iconst 1 dX4_does_260 rfl ?_
          refine e_iaddN k 1 dX4_does_261 ?_
          refine e_ireturn dX4_does_262 rfl rfl (Nat.zero_le _) (Nat.zero_le _) ?_
          have eD : spDoes τ k = (k + 1, spComes (spCr τ (2 + spFew (abL (τ.2.2.2 58 a)))) k (τ.2.2.2 58 a * τ.2.2.2 58 b)) := by
            rw [spDoes, hK, if_neg (by decide), if_neg (by decide), if_neg (by decide), if_pos rfl, eX, eY]
          refine ⟨_, rfl, by rw [eD], ?_⟩
          rw [eD]
          exact (show Sx [] [] [67, 68, 69] [] _ (spComes (tI τ 63 _) k _) from (hS1.II 63 _).cm k _)
        · refine e_iconst 1 dX4_does_103 rfl ?_
          refine e_goto 108 dX4_does_104 (by decide) ?_
          refine e_istore dX4_does_108 (ls_s (ls_s (ls_s (ls_s (ls_s (ls_1 rfl)))))) (Nat.le_of_ble_eq_true rfl) ?_
          refine e_aload_n dX4_does_110 0 rfl rfl rfl ?_
          refine e_getf (v := .ref 75) dX4_does_111 rfl fX4_83 (tw_o hp) rfl ?_
          refine e_iload_n dX4_does_114 1 rfl rfl ?_
          refine e_iald (f := τ.2.2.1 43) (j := k) dX4_does_115 (tw_a43 hp) rfl (by omega) (by decide) ?_
          refine e_top (congrArg Value.int hK) ?_
          refine e_tableIn (off := 115) 231 dX4_does_116 (by decide) (by decide) (by decide) (by decide) ?_
          refine e_aload_n dX4_does_231 0 rfl rfl rfl ?_
          refine e_dup dX4_does_232 rfl ?_
          refine e_getf (v := .int (τ.1 63)) dX4_does_233 rfl fX4_468 (tw_o hp) rfl ?_
          refine e_iconst 2 dX4_does_236 rfl ?_
          refine e_aload_n dX4_does_237 0 rfl rfl rfl ?_
          refine e_lload_n dX4_does_238 2 rfl rfl ?_
          refine e_callS1 (As := [.long (τ.2.2.2 58 a)]) (rest := [.ref 56, .int 2, .int (τ.1 63), .ref 56]) dX4_does_239 rfl msX4_451 (m_absL (τ.2.2.2 58 a)) (Nat.le_of_ble_eq_true rfl) rfl rfl (Nat.le_of_ble_eq_true rfl) (Nat.zero_le _) (Nat.zero_le _) ?_
          refine e_callVQ (As := [.long (abL (τ.2.2.2 58 a))]) (rest := [.int 2, .int (τ.1 63), .ref 56]) dX4_does_242 rfl mvX4_475 (tw_o hp) rfl (t_fewest hp (abL (τ.2.2.2 58 a))) (Nat.le_of_ble_eq_true rfl) rfl rfl (Nat.le_of_ble_eq_true rfl) (Nat.zero_le _) (Nat.zero_le _) (fun v0 M0 h0 _ => ?_)
          obtain ⟨τ1, rfl, rfl, hS1, -⟩ := h0
          refine e_iadd dX4_does_245 ?_
          refine e_iadd dX4_does_246 ?_
          refine e_tputI dX4_does_247 rfl pX4_468 rfl hp (Nat.le_of_ble_eq_true rfl) (tw_f63 _) ?_
          refine e_aload_n dX4_does_250 0 rfl rfl rfl ?_
          refine e_iload_n dX4_does_251 1 rfl rfl ?_
          refine e_lload_n dX4_does_252 2 rfl rfl ?_
          refine e_lload dX4_does_253 rfl ?_
          refine e_lmul dX4_does_255 ?_
          refine e_callV0 (As := [.int (nI k), .long ((τ.2.2.2 58 a) * (τ.2.2.2 58 b))]) (rest := []) dX4_does_256 rfl mvX4_471 (tw_o hp) rfl (t_comes (τ := (tI τ1 63 ((τ.1 63) + (2 + (spFew (abL (τ.2.2.2 58 a))))))) hp hk (c := c) ⟨by rw [show (tI τ1 63 _).2.2.1 46 = τ1.2.2.1 46 from rfl, hS1.2.2.1 46 (by decide)]; exact hc.1, hc.2⟩ ((τ.2.2.2 58 a) * (τ.2.2.2 58 b))) (Nat.le_of_ble_eq_true rfl) rfl rfl (Nat.le_of_ble_eq_true rfl) (Nat.zero_le _) (Nat.zero_le _) ?_
          refine e_iload_n dX4_does_259 1 rfl rfl ?_
          refine e_iconst 1 dX4_does_260 rfl ?_
          refine e_iaddN k 1 dX4_does_261 ?_
          refine e_ireturn dX4_does_262 rfl rfl (Nat.zero_le _) (Nat.zero_le _) ?_
          have eD : spDoes τ k = (k + 1, spComes (spCr τ (2 + spFew (abL (τ.2.2.2 58 a)))) k (τ.2.2.2 58 a * τ.2.2.2 58 b)) := by
            rw [spDoes, hK, if_neg (by decide), if_neg (by decide), if_neg (by decide), if_pos rfl, eX, eY]
          refine ⟨_, rfl, by rw [eD], ?_⟩
          rw [eD]
          exact (show Sx [] [] [67, 68, 69] [] _ (spComes (tI τ 63 _) k _) from (hS1.II 63 _).cm k _)
  · exact absurd (by decide) h49

set_option maxHeartbeats 4000000 in
set_option maxRecDepth 100000 in
/-- WheelTablesModel.does -/
theorem t_does4 {pre post : List ACell} {τ : Tw} (hp : pre.length = 56) {k a b c e P : Nat} (hk : k < 40) (hK : τ.2.2.1 43 k = 4) (ha : τ.2.2.1 44 k = nI a ∧ a < 20) (hb : τ.2.2.1 45 k = nI b ∧ b < 20) (hc : τ.2.2.1 46 k = nI c ∧ c < 20) (he : τ.2.2.1 47 k = nI e ∧ e < 20) (hP : P ≤ 40 ∧ τ.1 62 = nI P) (hPP : τ.2.2.1 43 k = 5 → P < 40) (hD : τ.2.2.1 43 k = 4 → ¬ spY τ k = 0) : Ct yX4_does (ws_ yX4_does cX4_does 7 (some .int)) 2 0 0 [.ref 56, .int (nI k)] (TW pre τ post) (fun v0 N => ∃ τ1, N = TW pre τ1 post ∧ v0 = some (.int (nI (spDoes τ k).1)) ∧ Sx [] [] [67, 68, 69] [] τ1 (spDoes τ k).2) noX := by
  have eX : spX τ k = τ.2.2.2 58 a := by rw [spX, ha.1, ix_nI (by omega)]
  have eY : spY τ k = τ.2.2.2 58 b := by rw [spY, hb.1, ix_nI (by omega)]
  have hy0 : ¬ τ.2.2.2 58 b = 0 := by rw [← eY]; exact hD hK
  refine Ct.of (ini := false) (ls := [some (.ref 56), some (.int (nI k)), none, none, none, none, none]) (by decide) (Nat.le_of_ble_eq_true rfl) (fun h => by cases h) rfl ?_
  refine e_aload_n dX4_does_0 0 rfl rfl rfl ?_
  refine e_getf (v := .ref 75) dX4_does_1 rfl fX4_83 (tw_o hp) rfl ?_
  refine e_iload_n dX4_does_4 1 rfl rfl ?_
  refine e_iald (f := τ.2.2.1 43) (j := k) dX4_does_5 (tw_a43 hp) rfl (by omega) (by decide) ?_
  refine e_top (congrArg Value.int hK) ?_
  refine e_bipush 6 dX4_does_6 rfl ?_
  refine e_icmp_eq 22 dX4_does_8 (by decide) (fun h => absurd h (by decide)) (fun _ => ?_)
  refine e_aload_n dX4_does_11 0 rfl rfl rfl ?_
  refine e_getf (v := .ref 75) dX4_does_12 rfl fX4_83 (tw_o hp) rfl ?_
  refine e_iload_n dX4_does_15 1 rfl rfl ?_
  refine e_iald (f := τ.2.2.1 43) (j := k) dX4_does_16 (tw_a43 hp) rfl (by omega) (by decide) ?_
  refine e_top (congrArg Value.int hK) ?_
  refine e_bipush 7 dX4_does_17 rfl ?_
  refine e_icmp_ne 26 dX4_does_19 (by decide) (fun _ => ?_) (fun h => absurd h (by decide))
  refine e_aload_n dX4_does_26 0 rfl rfl rfl ?_
  refine e_getf (v := .ref 90) dX4_does_27 rfl fX4_128 (tw_o hp) rfl ?_
  refine e_aload_n dX4_does_30 0 rfl rfl rfl ?_
  refine e_getf (v := .ref 76) dX4_does_31 rfl fX4_86 (tw_o hp) rfl ?_
  refine e_iload_n dX4_does_34 1 rfl rfl ?_
  refine e_iald (f := τ.2.2.1 44) (j := k) dX4_does_35 (tw_a44 hp) rfl (by omega) (by decide) ?_
  refine e_top (congrArg Value.int ha.1) ?_
  refine e_lald (f := τ.2.2.2 58) (j := a) dX4_does_36 (tw_a58 hp) rfl (by omega) (by decide) ?_
  refine e_lstore_n dX4_does_37 2 rfl (ls_s (ls_1 rfl)) (ln_s (ln_s (ln_s ln_0))) (Nat.le_of_ble_eq_true rfl) ?_
  refine e_aload_n dX4_does_38 0 rfl rfl rfl ?_
  refine e_getf (v := .ref 75) dX4_does_39 rfl fX4_83 (tw_o hp) rfl ?_
  refine e_iload_n dX4_does_42 1 rfl rfl ?_
  refine e_iald (f := τ.2.2.1 43) (j := k) dX4_does_43 (tw_a43 hp) rfl (by omega) (by decide) ?_
  refine e_top (congrArg Value.int hK) ?_
  refine e_i2l dX4_does_44 ?_
  refine e_lconst 1 dX4_does_45 rfl ?_
  refine e_ldc2 rfl q1577 dX4_does_46 ?_
  refine e_callSB (As := [.long ((4 : Int32).toInt64), .long 1, .long 4]) (rest := []) dX4_does_49 rfl msX4_239 (t_isInI 4 1 4 rfl (by decide) (by decide)) (Nat.le_of_ble_eq_true rfl) rfl rfl (Nat.le_of_ble_eq_true rfl) (Nat.zero_le _) (Nat.zero_le _) (fun h49 => ?_) (fun h49 => ?_)
  · refine e_if_eq_f (by decide) 69 dX4_does_52 (by decide) ?_
    refine e_aload_n dX4_does_55 0 rfl rfl rfl ?_
    refine e_getf (v := .ref 90) dX4_does_56 rfl fX4_128 (tw_o hp) rfl ?_
    refine e_aload_n dX4_does_59 0 rfl rfl rfl ?_
    refine e_getf (v := .ref 77) dX4_does_60 rfl fX4_89 (tw_o hp) rfl ?_
    refine e_iload_n dX4_does_63 1 rfl rfl ?_
    refine e_iald (f := τ.2.2.1 45) (j := k) dX4_does_64 (tw_a45 hp) rfl (by omega) (by decide) ?_
    refine e_top (congrArg Value.int hb.1) ?_
    refine e_lald (f := τ.2.2.2 58) (j := b) dX4_does_65 (tw_a58 hp) rfl (by omega) (by decide) ?_
    refine e_goto 70 dX4_does_66 (by decide) ?_
    refine e_lstore dX4_does_70 (ls_s (ls_s (ls_s (ls_1 rfl)))) (ln_s (ln_s (ln_s (ln_s (ln_s ln_0))))) (Nat.le_of_ble_eq_true rfl) ?_
    refine e_aload_n dX4_does_72 0 rfl rfl rfl ?_
    refine e_getf (v := .ref 80) dX4_does_73 rfl fX4_98 (tw_o hp) rfl ?_
    refine e_iload_n dX4_does_76 1 rfl rfl ?_
    refine e_iald (f := τ.2.2.1 48) (j := k) dX4_does_77 (tw_a48 hp) rfl (by omega) (by decide) ?_
    refine e_if_eq 103 dX4_does_78 (by decide) (fun h78 => ?_) (fun h78 => ?_)
    · refine e_iconst 1 dX4_does_103 rfl ?_
      refine e_goto 108 dX4_does_104 (by decide) ?_
      refine e_istore dX4_does_108 (ls_s (ls_s (ls_s (ls_s (ls_s (ls_1 rfl)))))) (Nat.le_of_ble_eq_true rfl) ?_
      refine e_aload_n dX4_does_110 0 rfl rfl rfl ?_
      refine e_getf (v := .ref 75) dX4_does_111 rfl fX4_83 (tw_o hp) rfl ?_
      refine e_iload_n dX4_does_114 1 rfl rfl ?_
      refine e_iald (f := τ.2.2.1 43) (j := k) dX4_does_115 (tw_a43 hp) rfl (by omega) (by decide) ?_
      refine e_top (congrArg Value.int hK) ?_
      refine e_tableIn (off := 147) 263 dX4_does_116 (by decide) (by decide) (by decide) (by decide) ?_
      refine e_aload_n dX4_does_263 0 rfl rfl rfl ?_
      refine e_dup dX4_does_264 rfl ?_
      refine e_getf (v := .int (τ.1 63)) dX4_does_265 rfl fX4_468 (tw_o hp) rfl ?_
      refine e_iconst 3 dX4_does_268 rfl ?_
      refine e_aload_n dX4_does_269 0 rfl rfl rfl ?_
      refine e_lload_n dX4_does_270 2 rfl rfl ?_
      refine e_lload dX4_does_271 rfl ?_
      refine e_ldiv dX4_does_273 (by assumption) ?_
      refine e_callS1 (As := [.long ((τ.2.2.2 58 a) / (τ.2.2.2 58 b))]) (rest := [.ref 56, .int 3, .int (τ.1 63), .ref 56]) dX4_does_274 rfl msX4_451 (m_absL ((τ.2.2.2 58 a) / (τ.2.2.2 58 b))) (Nat.le_of_ble_eq_true rfl) rfl rfl (Nat.le_of_ble_eq_true rfl) (Nat.zero_le _) (Nat.zero_le _) ?_
      refine e_callVQ (As := [.long (abL ((τ.2.2.2 58 a) / (τ.2.2.2 58 b)))]) (rest := [.int 3, .int (τ.1 63), .ref 56]) dX4_does_277 rfl mvX4_475 (tw_o hp) rfl (t_fewest hp (abL ((τ.2.2.2 58 a) / (τ.2.2.2 58 b)))) (Nat.le_of_ble_eq_true rfl) rfl rfl (Nat.le_of_ble_eq_true rfl) (Nat.zero_le _) (Nat.zero_le _) (fun v0 M0 h0 _ => ?_)
      obtain ⟨τ1, rfl, rfl, hS1, -⟩ := h0
      refine e_iadd dX4_does_280 ?_
      refine e_iadd dX4_does_281 ?_
      refine e_tputI dX4_does_282 rfl pX4_468 rfl hp (Nat.le_of_ble_eq_true rfl) (tw_f63 _) ?_
      refine e_aload_n dX4_does_285 0 rfl rfl rfl ?_
      refine e_iload_n dX4_does_286 1 rfl rfl ?_
      refine e_lload_n dX4_does_287 2 rfl rfl ?_
      refine e_lload dX4_does_288 rfl ?_
      refine e_ldiv dX4_does_290 (by assumption) ?_
      refine e_callV0 (As := [.int (nI k), .long ((τ.2.2.2 58 a) / (τ.2.2.2 58 b))]) (rest := []) dX4_does_291 rfl mvX4_471 (tw_o hp) rfl (t_comes (τ := (tI τ1 63 ((τ.1 63) + (3 + (spFew (abL ((τ.2.2.2 58 a) / (τ.2.2.2 58 b)))))))) hp hk (c := c) ⟨by rw [show (tI τ1 63 _).2.2.1 46 = τ1.2.2.1 46 from rfl, hS1.2.2.1 46 (by decide)]; exact hc.1, hc.2⟩ ((τ.2.2.2 58 a) / (τ.2.2.2 58 b))) (Nat.le_of_ble_eq_true rfl) rfl rfl (Nat.le_of_ble_eq_true rfl) (Nat.zero_le _) (Nat.zero_le _) ?_
      refine e_aload_n dX4_does_294 0 rfl rfl rfl ?_
      refine e_getf (v := .ref 90) dX4_does_295 rfl fX4_128 (tw_o hp) rfl ?_
      refine e_aload_n dX4_does_298 0 rfl rfl rfl ?_
      refine e_getf (v := .ref 79) dX4_does_299 rfl fX4_95 (tw_o hp) rfl ?_
      refine e_iload_n dX4_does_302 1 rfl rfl ?_
      refine e_iald (f := (spComes (tI τ1 63 ((τ.1 63) + (3 + (spFew (abL ((τ.2.2.2 58 a) / (τ.2.2.2 58 b))))))) k ((τ.2.2.2 58 a) / (τ.2.2.2 58 b))).2.2.1 47) (j := k) dX4_does_303 (tw_a47 hp) rfl (by omega) (by decide) ?_
      refine e_top (congrArg Value.int (show _ = nI e by rw [← he.1, ← hS1.2.2.1 47 (by decide)]; rfl)) ?_
      refine e_lload_n dX4_does_304 2 rfl rfl ?_
      refine e_lload dX4_does_305 rfl ?_
      refine e_lrem dX4_does_307 (by assumption) ?_
      refine e_last (f := (spComes (tI τ1 63 ((τ.1 63) + (3 + (spFew (abL ((τ.2.2.2 58 a) / (τ.2.2.2 58 b))))))) k ((τ.2.2.2 58 a) / (τ.2.2.2 58 b))).2.2.2 58) (j := e) dX4_does_308 (tw_a58 hp) rfl (by omega) (by decide) ?_
      rw [tw_s58 hp]
      refine e_iload_n dX4_does_309 1 rfl rfl ?_
      refine e_iconst 1 dX4_does_310 rfl ?_
      refine e_iaddN k 1 dX4_does_311 ?_
      refine e_ireturn dX4_does_312 rfl rfl (Nat.zero_le _) (Nat.zero_le _) ?_
      have eD : spDoes τ k = (k + 1, spRest (spComes (spCr τ (3 + spFew (abL (τ.2.2.2 58 a / τ.2.2.2 58 b)))) k (τ.2.2.2 58 a / τ.2.2.2 58 b)) e (τ.2.2.2 58 a - τ.2.2.2 58 a / τ.2.2.2 58 b * τ.2.2.2 58 b)) := by
        rw [spDoes, hK, if_neg (by decide), if_neg (by decide), if_neg (by decide), if_neg (by decide), if_pos rfl, eX, eY, he.1, ix_nI (show e < 2147483648 by omega)]
      refine ⟨_, rfl, by rw [eD], ?_⟩
      rw [eD]
      exact (((hS1.II 63 _).cm k _).rs e _)
    · refine e_aload_n dX4_does_81 0 rfl rfl rfl ?_
      refine e_getf (v := .int (τ.1 61)) dX4_does_82 rfl fX4_464 (tw_o hp) rfl ?_
      refine e_aload_n dX4_does_85 0 rfl rfl rfl ?_
      refine e_getf (v := .ref 80) dX4_does_86 rfl fX4_98 (tw_o hp) rfl ?_
      refine e_iload_n dX4_does_89 1 rfl rfl ?_
      refine e_iald (f := τ.2.2.1 48) (j := k) dX4_does_90 (tw_a48 hp) rfl (by omega) (by decide) ?_
      refine e_iconst 1 dX4_does_91 rfl ?_
      refine e_icmp_ne 99 dX4_does_92 (by decide) (fun h92 => ?_) (fun h92 => ?_)
      · refine e_iconst 0 dX4_does_99 rfl ?_
        refine e_icmp_ne 107 dX4_does_100 (by decide) (fun h100 => ?_) (fun h100 => ?_)
        · refine e_iconst 0 dX4_does_107 rfl ?_
          refine e_istore dX4_does_108 (ls_s (ls_s (ls_s (ls_s (ls_s (ls_1 rfl)))))) (Nat.le_of_ble_eq_true rfl) ?_
          refine e_aload_n dX4_does_110 0 rfl rfl rfl ?_
          refine e_getf (v := .ref 75) dX4_does_111 rfl fX4_83 (tw_o hp) rfl ?_
          refine e_iload_n dX4_does_114 1 rfl rfl ?_
          refine e_iald (f := τ.2.2.1 43) (j := k) dX4_does_115 (tw_a43 hp) rfl (by omega) (by decide) ?_
          refine e_top (congrArg Value.int hK) ?_
          refine e_tableIn (off := 147) 263 dX4_does_116 (by decide) (by decide) (by decide) (by decide) ?_
          refine e_aload_n dX4_does_263 0 rfl rfl rfl ?_
          refine e_dup dX4_does_264 rfl ?_
          refine e_getf (v := .int (τ.1 63)) dX4_does_265 rfl fX4_468 (tw_o hp) rfl ?_
          refine e_iconst 3 dX4_does_268 rfl ?_
          refine e_aload_n dX4_does_269 0 rfl rfl rfl ?_
          refine e_lload_n dX4_does_270 2 rfl rfl ?_
          refine e_lload dX4_does_271 rfl ?_
          refine e_ldiv dX4_does_273 (by assumption) ?_
          refine e_callS1 (As := [.long ((τ.2.2.2 58 a) / (τ.2.2.2 58 b))]) (rest := [.ref 56, .int 3, .int (τ.1 63), .ref 56]) dX4_does_274 rfl msX4_451 (m_absL ((τ.2.2.2 58 a) / (τ.2.2.2 58 b))) (Nat.le_of_ble_eq_true rfl) rfl rfl (Nat.le_of_ble_eq_true rfl) (Nat.zero_le _) (Nat.zero_le _) ?_
          refine e_callVQ (As := [.long (abL ((τ.2.2.2 58 a) / (τ.2.2.2 58 b)))]) (rest := [.int 3, .int (τ.1 63), .ref 56]) dX4_does_277 rfl mvX4_475 (tw_o hp) rfl (t_fewest hp (abL ((τ.2.2.2 58 a) / (τ.2.2.2 58 b)))) (Nat.le_of_ble_eq_true rfl) rfl rfl (Nat.le_of_ble_eq_true rfl) (Nat.zero_le _) (Nat.zero_le _) (fun v0 M0 h0 _ => ?_)
          obtain ⟨τ1, rfl, rfl, hS1, -⟩ := h0
          refine e_iadd dX4_does_280 ?_
          refine e_iadd dX4_does_281 ?_
          refine e_tputI dX4_does_282 rfl pX4_468 rfl hp (Nat.le_of_ble_eq_true rfl) (tw_f63 _) ?_
          refine e_aload_n dX4_does_285 0 rfl rfl rfl ?_
          refine e_iload_n dX4_does_286 1 rfl rfl ?_
          refine e_lload_n dX4_does_287 2 rfl rfl ?_
          refine e_lload dX4_does_288 rfl ?_
          refine e_ldiv dX4_does_290 (by assumption) ?_
          refine e_callV0 (As := [.int (nI k), .long ((τ.2.2.2 58 a) / (τ.2.2.2 58 b))]) (rest := []) dX4_does_291 rfl mvX4_471 (tw_o hp) rfl (t_comes (τ := (tI τ1 63 ((τ.1 63) + (3 + (spFew (abL ((τ.2.2.2 58 a) / (τ.2.2.2 58 b)))))))) hp hk (c := c) ⟨by rw [show (tI τ1 63 _).2.2.1 46 = τ1.2.2.1 46 from rfl, hS1.2.2.1 46 (by decide)]; exact hc.1, hc.2⟩ ((τ.2.2.2 58 a) / (τ.2.2.2 58 b))) (Nat.le_of_ble_eq_true rfl) rfl rfl (Nat.le_of_ble_eq_true rfl) (Nat.zero_le _) (Nat.zero_le _) ?_
          refine e_aload_n dX4_does_294 0 rfl rfl rfl ?_
          refine e_getf (v := .ref 90) dX4_does_295 rfl fX4_128 (tw_o hp) rfl ?_
          refine e_aload_n dX4_does_298 0 rfl rfl rfl ?_
          refine e_getf (v := .ref 79) dX4_does_299 rfl fX4_95 (tw_o hp) rfl ?_
          refine e_iload_n dX4_does_302 1 rfl rfl ?_
          refine e_iald (f := (spComes (tI τ1 63 ((τ.1 63) + (3 + (spFew (abL ((τ.2.2.2 58 a) / (τ.2.2.2 58 b))))))) k ((τ.2.2.2 58 a) / (τ.2.2.2 58 b))).2.2.1 47) (j := k) dX4_does_303 (tw_a47 hp) rfl (by omega) (by decide) ?_
          refine e_top (congrArg Value.int (show _ = nI e by rw [← he.1, ← hS1.2.2.1 47 (by decide)]; rfl)) ?_
          refine e_lload_n dX4_does_304 2 rfl rfl ?_
          refine e_lload dX4_does_305 rfl ?_
          refine e_lrem dX4_does_307 (by assumption) ?_
          refine e_last (f := (spComes (tI τ1 63 ((τ.1 63) + (3 + (spFew (abL ((τ.2.2.2 58 a) / (τ.2.2.2 58 b))))))) k ((τ.2.2.2 58 a) / (τ.2.2.2 58 b))).2.2.2 58) (j := e) dX4_does_308 (tw_a58 hp) rfl (by omega) (by decide) ?_
          rw [tw_s58 hp]
          refine e_iload_n dX4_does_309 1 rfl rfl ?_
          refine e_iconst 1 dX4_does_310 rfl ?_
          refine e_iaddN k 1 dX4_does_311 ?_
          refine e_ireturn dX4_does_312 rfl rfl (Nat.zero_le _) (Nat.zero_le _) ?_
          have eD : spDoes τ k = (k + 1, spRest (spComes (spCr τ (3 + spFew (abL (τ.2.2.2 58 a / τ.2.2.2 58 b)))) k (τ.2.2.2 58 a / τ.2.2.2 58 b)) e (τ.2.2.2 58 a - τ.2.2.2 58 a / τ.2.2.2 58 b * τ.2.2.2 58 b)) := by
            rw [spDoes, hK, if_neg (by decide), if_neg (by decide), if_neg (by decide), if_neg (by decide), if_pos rfl, eX, eY, he.1, ix_nI (show e < 2147483648 by omega)]
          refine ⟨_, rfl, by rw [eD], ?_⟩
          rw [eD]
          exact (((hS1.II 63 _).cm k _).rs e _)
        · refine e_iconst 1 dX4_does_103 rfl ?_
          refine e_goto 108 dX4_does_104 (by decide) ?_
          refine e_istore dX4_does_108 (ls_s (ls_s (ls_s (ls_s (ls_s (ls_1 rfl)))))) (Nat.le_of_ble_eq_true rfl) ?_
          refine e_aload_n dX4_does_110 0 rfl rfl rfl ?_
          refine e_getf (v := .ref 75) dX4_does_111 rfl fX4_83 (tw_o hp) rfl ?_
          refine e_iload_n dX4_does_114 1 rfl rfl ?_
          refine e_iald (f := τ.2.2.1 43) (j := k) dX4_does_115 (tw_a43 hp) rfl (by omega) (by decide) ?_
          refine e_top (congrArg Value.int hK) ?_
          refine e_tableIn (off := 147) 263 dX4_does_116 (by decide) (by decide) (by decide) (by decide) ?_
          refine e_aload_n dX4_does_263 0 rfl rfl rfl ?_
          refine e_dup dX4_does_264 rfl ?_
          refine e_getf (v := .int (τ.1 63)) dX4_does_265 rfl fX4_468 (tw_o hp) rfl ?_
          refine e_iconst 3 dX4_does_268 rfl ?_
          refine e_aload_n dX4_does_269 0 rfl rfl rfl ?_
          refine e_lload_n dX4_does_270 2 rfl rfl ?_
          refine e_lload dX4_does_271 rfl ?_
          refine e_ldiv dX4_does_273 (by assumption) ?_
          refine e_callS1 (As := [.long ((τ.2.2.2 58 a) / (τ.2.2.2 58 b))]) (rest := [.ref 56, .int 3, .int (τ.1 63), .ref 56]) dX4_does_274 rfl msX4_451 (m_absL ((τ.2.2.2 58 a) / (τ.2.2.2 58 b))) (Nat.le_of_ble_eq_true rfl) rfl rfl (Nat.le_of_ble_eq_true rfl) (Nat.zero_le _) (Nat.zero_le _) ?_
          refine e_callVQ (As := [.long (abL ((τ.2.2.2 58 a) / (τ.2.2.2 58 b)))]) (rest := [.int 3, .int (τ.1 63), .ref 56]) dX4_does_277 rfl mvX4_475 (tw_o hp) rfl (t_fewest hp (abL ((τ.2.2.2 58 a) / (τ.2.2.2 58 b)))) (Nat.le_of_ble_eq_true rfl) rfl rfl (Nat.le_of_ble_eq_true rfl) (Nat.zero_le _) (Nat.zero_le _) (fun v0 M0 h0 _ => ?_)
          obtain ⟨τ1, rfl, rfl, hS1, -⟩ := h0
          refine e_iadd dX4_does_280 ?_
          refine e_iadd dX4_does_281 ?_
          refine e_tputI dX4_does_282 rfl pX4_468 rfl hp (Nat.le_of_ble_eq_true rfl) (tw_f63 _) ?_
          refine e_aload_n dX4_does_285 0 rfl rfl rfl ?_
          refine e_iload_n dX4_does_286 1 rfl rfl ?_
          refine e_lload_n dX4_does_287 2 rfl rfl ?_
          refine e_lload dX4_does_288 rfl ?_
          refine e_ldiv dX4_does_290 (by assumption) ?_
          refine e_callV0 (As := [.int (nI k), .long ((τ.2.2.2 58 a) / (τ.2.2.2 58 b))]) (rest := []) dX4_does_291 rfl mvX4_471 (tw_o hp) rfl (t_comes (τ := (tI τ1 63 ((τ.1 63) + (3 + (spFew (abL ((τ.2.2.2 58 a) / (τ.2.2.2 58 b)))))))) hp hk (c := c) ⟨by rw [show (tI τ1 63 _).2.2.1 46 = τ1.2.2.1 46 from rfl, hS1.2.2.1 46 (by decide)]; exact hc.1, hc.2⟩ ((τ.2.2.2 58 a) / (τ.2.2.2 58 b))) (Nat.le_of_ble_eq_true rfl) rfl rfl (Nat.le_of_ble_eq_true rfl) (Nat.zero_le _) (Nat.zero_le _) ?_
          refine e_aload_n dX4_does_294 0 rfl rfl rfl ?_
          refine e_getf (v := .ref 90) dX4_does_295 rfl fX4_128 (tw_o hp) rfl ?_
          refine e_aload_n dX4_does_298 0 rfl rfl rfl ?_
          refine e_getf (v := .ref 79) dX4_does_299 rfl fX4_95 (tw_o hp) rfl ?_
          refine e_iload_n dX4_does_302 1 rfl rfl ?_
          refine e_iald (f := (spComes (tI τ1 63 ((τ.1 63) + (3 + (spFew (abL ((τ.2.2.2 58 a) / (τ.2.2.2 58 b))))))) k ((τ.2.2.2 58 a) / (τ.2.2.2 58 b))).2.2.1 47) (j := k) dX4_does_303 (tw_a47 hp) rfl (by omega) (by decide) ?_
          refine e_top (congrArg Value.int (show _ = nI e by rw [← he.1, ← hS1.2.2.1 47 (by decide)]; rfl)) ?_
          refine e_lload_n dX4_does_304 2 rfl rfl ?_
          refine e_lload dX4_does_305 rfl ?_
          refine e_lrem dX4_does_307 (by assumption) ?_
          refine e_last (f := (spComes (tI τ1 63 ((τ.1 63) + (3 + (spFew (abL ((τ.2.2.2 58 a) / (τ.2.2.2 58 b))))))) k ((τ.2.2.2 58 a) / (τ.2.2.2 58 b))).2.2.2 58) (j := e) dX4_does_308 (tw_a58 hp) rfl (by omega) (by decide) ?_
          rw [tw_s58 hp]
          refine e_iload_n dX4_does_309 1 rfl rfl ?_
          refine e_iconst 1 dX4_does_310 rfl ?_
          refine e_iaddN k 1 dX4_does_311 ?_
          refine e_ireturn dX4_does_312 rfl rfl (Nat.zero_le _) (Nat.zero_le _) ?_
          have eD : spDoes τ k = (k + 1, spRest (spComes (spCr τ (3 + spFew (abL (τ.2.2.2 58 a / τ.2.2.2 58 b)))) k (τ.2.2.2 58 a / τ.2.2.2 58 b)) e (τ.2.2.2 58 a - τ.2.2.2 58 a / τ.2.2.2 58 b * τ.2.2.2 58 b)) := by
            rw [spDoes, hK, if_neg (by decide), if_neg (by decide), if_neg (by decide), if_neg (by decide), if_pos rfl, eX, eY, he.1, ix_nI (show e < 2147483648 by omega)]
          refine ⟨_, rfl, by rw [eD], ?_⟩
          rw [eD]
          exact (((hS1.II 63 _).cm k _).rs e _)
      · refine e_iconst 1 dX4_does_95 rfl ?_
        refine e_goto 100 dX4_does_96 (by decide) ?_
        refine e_icmp_ne 107 dX4_does_100 (by decide) (fun h100 => ?_) (fun h100 => ?_)
        · refine e_iconst 0 dX4_does_107 rfl ?_
          refine e_istore dX4_does_108 (ls_s (ls_s (ls_s (ls_s (ls_s (ls_1 rfl)))))) (Nat.le_of_ble_eq_true rfl) ?_
          refine e_aload_n dX4_does_110 0 rfl rfl rfl ?_
          refine e_getf (v := .ref 75) dX4_does_111 rfl fX4_83 (tw_o hp) rfl ?_
          refine e_iload_n dX4_does_114 1 rfl rfl ?_
          refine e_iald (f := τ.2.2.1 43) (j := k) dX4_does_115 (tw_a43 hp) rfl (by omega) (by decide) ?_
          refine e_top (congrArg Value.int hK) ?_
          refine e_tableIn (off := 147) 263 dX4_does_116 (by decide) (by decide) (by decide) (by decide) ?_
          refine e_aload_n dX4_does_263 0 rfl rfl rfl ?_
          refine e_dup dX4_does_264 rfl ?_
          refine e_getf (v := .int (τ.1 63)) dX4_does_265 rfl fX4_468 (tw_o hp) rfl ?_
          refine e_iconst 3 dX4_does_268 rfl ?_
          refine e_aload_n dX4_does_269 0 rfl rfl rfl ?_
          refine e_lload_n dX4_does_270 2 rfl rfl ?_
          refine e_lload dX4_does_271 rfl ?_
          refine e_ldiv dX4_does_273 (by assumption) ?_
          refine e_callS1 (As := [.long ((τ.2.2.2 58 a) / (τ.2.2.2 58 b))]) (rest := [.ref 56, .int 3, .int (τ.1 63), .ref 56]) dX4_does_274 rfl msX4_451 (m_absL ((τ.2.2.2 58 a) / (τ.2.2.2 58 b))) (Nat.le_of_ble_eq_true rfl) rfl rfl (Nat.le_of_ble_eq_true rfl) (Nat.zero_le _) (Nat.zero_le _) ?_
          refine e_callVQ (As := [.long (abL ((τ.2.2.2 58 a) / (τ.2.2.2 58 b)))]) (rest := [.int 3, .int (τ.1 63), .ref 56]) dX4_does_277 rfl mvX4_475 (tw_o hp) rfl (t_fewest hp (abL ((τ.2.2.2 58 a) / (τ.2.2.2 58 b)))) (Nat.le_of_ble_eq_true rfl) rfl rfl (Nat.le_of_ble_eq_true rfl) (Nat.zero_le _) (Nat.zero_le _) (fun v0 M0 h0 _ => ?_)
          obtain ⟨τ1, rfl, rfl, hS1, -⟩ := h0
          refine e_iadd dX4_does_280 ?_
          refine e_iadd dX4_does_281 ?_
          refine e_tputI dX4_does_282 rfl pX4_468 rfl hp (Nat.le_of_ble_eq_true rfl) (tw_f63 _) ?_
          refine e_aload_n dX4_does_285 0 rfl rfl rfl ?_
          refine e_iload_n dX4_does_286 1 rfl rfl ?_
          refine e_lload_n dX4_does_287 2 rfl rfl ?_
          refine e_lload dX4_does_288 rfl ?_
          refine e_ldiv dX4_does_290 (by assumption) ?_
          refine e_callV0 (As := [.int (nI k), .long ((τ.2.2.2 58 a) / (τ.2.2.2 58 b))]) (rest := []) dX4_does_291 rfl mvX4_471 (tw_o hp) rfl (t_comes (τ := (tI τ1 63 ((τ.1 63) + (3 + (spFew (abL ((τ.2.2.2 58 a) / (τ.2.2.2 58 b)))))))) hp hk (c := c) ⟨by rw [show (tI τ1 63 _).2.2.1 46 = τ1.2.2.1 46 from rfl, hS1.2.2.1 46 (by decide)]; exact hc.1, hc.2⟩ ((τ.2.2.2 58 a) / (τ.2.2.2 58 b))) (Nat.le_of_ble_eq_true rfl) rfl rfl (Nat.le_of_ble_eq_true rfl) (Nat.zero_le _) (Nat.zero_le _) ?_
          refine e_aload_n dX4_does_294 0 rfl rfl rfl ?_
          refine e_getf (v := .ref 90) dX4_does_295 rfl fX4_128 (tw_o hp) rfl ?_
          refine e_aload_n dX4_does_298 0 rfl rfl rfl ?_
          refine e_getf (v := .ref 79) dX4_does_299 rfl fX4_95 (tw_o hp) rfl ?_
          refine e_iload_n dX4_does_302 1 rfl rfl ?_
          refine e_iald (f := (spComes (tI τ1 63 ((τ.1 63) + (3 + (spFew (abL ((τ.2.2.2 58 a) / (τ.2.2.2 58 b))))))) k ((τ.2.2.2 58 a) / (τ.2.2.2 58 b))).2.2.1 47) (j := k) dX4_does_303 (tw_a47 hp) rfl (by omega) (by decide) ?_
          refine e_top (congrArg Value.int (show _ = nI e by rw [← he.1, ← hS1.2.2.1 47 (by decide)]; rfl)) ?_
          refine e_lload_n dX4_does_304 2 rfl rfl ?_
          refine e_lload dX4_does_305 rfl ?_
          refine e_lrem dX4_does_307 (by assumption) ?_
          refine e_last (f := (spComes (tI τ1 63 ((τ.1 63) + (3 + (spFew (abL ((τ.2.2.2 58 a) / (τ.2.2.2 58 b))))))) k ((τ.2.2.2 58 a) / (τ.2.2.2 58 b))).2.2.2 58) (j := e) dX4_does_308 (tw_a58 hp) rfl (by omega) (by decide) ?_
          rw [tw_s58 hp]
          refine e_iload_n dX4_does_309 1 rfl rfl ?_
          refine e_iconst 1 dX4_does_310 rfl ?_
          refine e_iaddN k 1 dX4_does_311 ?_
          refine e_ireturn dX4_does_312 rfl rfl (Nat.zero_le _) (Nat.zero_le _) ?_
          have eD : spDoes τ k = (k + 1, spRest (spComes (spCr τ (3 + spFew (abL (τ.2.2.2 58 a / τ.2.2.2 58 b)))) k (τ.2.2.2 58 a / τ.2.2.2 58 b)) e (τ.2.2.2 58 a - τ.2.2.2 58 a / τ.2.2.2 58 b * τ.2.2.2 58 b)) := by
            rw [spDoes, hK, if_neg (by decide), if_neg (by decide), if_neg (by decide), if_neg (by decide), if_pos rfl, eX, eY, he.1, ix_nI (show e < 2147483648 by omega)]
          refine ⟨_, rfl, by rw [eD], ?_⟩
          rw [eD]
          exact (((hS1.II 63 _).cm k _).rs e _)
        · refine e_iconst 1 dX4_does_103 rfl ?_
          refine e_goto 108 dX4_does_104 (by decide) ?_
          refine e_istore dX4_does_108 (ls_s (ls_s (ls_s (ls_s (ls_s (ls_1 rfl)))))) (Nat.le_of_ble_eq_true rfl) ?_
          refine e_aload_n dX4_does_110 0 rfl rfl rfl ?_
          refine e_getf (v := .ref 75) dX4_does_111 rfl fX4_83 (tw_o hp) rfl ?_
          refine e_iload_n dX4_does_114 1 rfl rfl ?_
          refine e_iald (f := τ.2.2.1 43) (j := k) dX4_does_115 (tw_a43 hp) rfl (by omega) (by decide) ?_
          refine e_top (congrArg Value.int hK) ?_
          refine e_tableIn (off := 147) 263 dX4_does_116 (by decide) (by decide) (by decide) (by decide) ?_
          refine e_aload_n dX4_does_263 0 rfl rfl rfl ?_
          refine e_dup dX4_does_264 rfl ?_
          refine e_getf (v := .int (τ.1 63)) dX4_does_265 rfl fX4_468 (tw_o hp) rfl ?_
          refine e_iconst 3 dX4_does_268 rfl ?_
          refine e_aload_n dX4_does_269 0 rfl rfl rfl ?_
          refine e_lload_n dX4_does_270 2 rfl rfl ?_
          refine e_lload dX4_does_271 rfl ?_
          refine e_ldiv dX4_does_273 (by assumption) ?_
          refine e_callS1 (As := [.long ((τ.2.2.2 58 a) / (τ.2.2.2 58 b))]) (rest := [.ref 56, .int 3, .int (τ.1 63), .ref 56]) dX4_does_274 rfl msX4_451 (m_absL ((τ.2.2.2 58 a) / (τ.2.2.2 58 b))) (Nat.le_of_ble_eq_true rfl) rfl rfl (Nat.le_of_ble_eq_true rfl) (Nat.zero_le _) (Nat.zero_le _) ?_
          refine e_callVQ (As := [.long (abL ((τ.2.2.2 58 a) / (τ.2.2.2 58 b)))]) (rest := [.int 3, .int (τ.1 63), .ref 56]) dX4_does_277 rfl mvX4_475 (tw_o hp) rfl (t_fewest hp (abL ((τ.2.2.2 58 a) / (τ.2.2.2 58 b)))) (Nat.le_of_ble_eq_true rfl) rfl rfl (Nat.le_of_ble_eq_true rfl) (Nat.zero_le _) (Nat.zero_le _) (fun v0 M0 h0 _ => ?_)
          obtain ⟨τ1, rfl, rfl, hS1, -⟩ := h0
          refine e_iadd dX4_does_280 ?_
          refine e_iadd dX4_does_281 ?_
          refine e_tputI dX4_does_282 rfl pX4_468 rfl hp (Nat.le_of_ble_eq_true rfl) (tw_f63 _) ?_
          refine e_aload_n dX4_does_285 0 rfl rfl rfl ?_
          refine e_iload_n dX4_does_286 1 rfl rfl ?_
          refine e_lload_n dX4_does_287 2 rfl rfl ?_
          refine e_lload dX4_does_288 rfl ?_
          refine e_ldiv dX4_does_290 (by assumption) ?_
          refine e_callV0 (As := [.int (nI k), .long ((τ.2.2.2 58 a) / (τ.2.2.2 58 b))]) (rest := []) dX4_does_291 rfl mvX4_471 (tw_o hp) rfl (t_comes (τ := (tI τ1 63 ((τ.1 63) + (3 + (spFew (abL ((τ.2.2.2 58 a) / (τ.2.2.2 58 b)))))))) hp hk (c := c) ⟨by rw [show (tI τ1 63 _).2.2.1 46 = τ1.2.2.1 46 from rfl, hS1.2.2.1 46 (by decide)]; exact hc.1, hc.2⟩ ((τ.2.2.2 58 a) / (τ.2.2.2 58 b))) (Nat.le_of_ble_eq_true rfl) rfl rfl (Nat.le_of_ble_eq_true rfl) (Nat.zero_le _) (Nat.zero_le _) ?_
          refine e_aload_n dX4_does_294 0 rfl rfl rfl ?_
          refine e_getf (v := .ref 90) dX4_does_295 rfl fX4_128 (tw_o hp) rfl ?_
          refine e_aload_n dX4_does_298 0 rfl rfl rfl ?_
          refine e_getf (v := .ref 79) dX4_does_299 rfl fX4_95 (tw_o hp) rfl ?_
          refine e_iload_n dX4_does_302 1 rfl rfl ?_
          refine e_iald (f := (spComes (tI τ1 63 ((τ.1 63) + (3 + (spFew (abL ((τ.2.2.2 58 a) / (τ.2.2.2 58 b))))))) k ((τ.2.2.2 58 a) / (τ.2.2.2 58 b))).2.2.1 47) (j := k) dX4_does_303 (tw_a47 hp) rfl (by omega) (by decide) ?_
          refine e_top (congrArg Value.int (show _ = nI e by rw [← he.1, ← hS1.2.2.1 47 (by decide)]; rfl)) ?_
          refine e_lload_n dX4_does_304 2 rfl rfl ?_
          refine e_lload dX4_does_305 rfl ?_
          refine e_lrem dX4_does_307 (by assumption) ?_
          refine e_last (f := (spComes (tI τ1 63 ((τ.1 63) + (3 + (spFew (abL ((τ.2.2.2 58 a) / (τ.2.2.2 58 b))))))) k ((τ.2.2.2 58 a) / (τ.2.2.2 58 b))).2.2.2 58) (j := e) dX4_does_308 (tw_a58 hp) rfl (by omega) (by decide) ?_
          rw [tw_s58 hp]
          refine e_iload_n dX4_does_309 1 rfl rfl ?_
          refine e_iconst 1 dX4_does_310 rfl ?_
          refine e_iaddN k 1 dX4_does_311 ?_
          refine e_ireturn dX4_does_312 rfl rfl (Nat.zero_le _) (Nat.zero_le _) ?_
          have eD : spDoes τ k = (k + 1, spRest (spComes (spCr τ (3 + spFew (abL (τ.2.2.2 58 a / τ.2.2.2 58 b)))) k (τ.2.2.2 58 a / τ.2.2.2 58 b)) e (τ.2.2.2 58 a - τ.2.2.2 58 a / τ.2.2.2 58 b * τ.2.2.2 58 b)) := by
            rw [spDoes, hK, if_neg (by decide), if_neg (by decide), if_neg (by decide), if_neg (by decide), if_pos rfl, eX, eY, he.1, ix_nI (show e < 2147483648 by omega)]
          refine ⟨_, rfl, by rw [eD], ?_⟩
          rw [eD]
          exact (((hS1.II 63 _).cm k _).rs e _)
  · exact absurd (by decide) h49

set_option maxHeartbeats 4000000 in
set_option maxRecDepth 100000 in
/-- WheelTablesModel.does -/
theorem t_does5 {pre post : List ACell} {τ : Tw} (hp : pre.length = 56) {k a b c e P : Nat} (hk : k < 40) (hK : τ.2.2.1 43 k = 5) (ha : τ.2.2.1 44 k = nI a ∧ a < 20) (hb : τ.2.2.1 45 k = nI b ∧ b < 20) (hc : τ.2.2.1 46 k = nI c ∧ c < 20) (he : τ.2.2.1 47 k = nI e ∧ e < 20) (hP : P ≤ 40 ∧ τ.1 62 = nI P) (hPP : τ.2.2.1 43 k = 5 → P < 40) (hD : τ.2.2.1 43 k = 4 → ¬ spY τ k = 0) : Ct yX4_does (ws_ yX4_does cX4_does 7 (some .int)) 2 0 0 [.ref 56, .int (nI k)] (TW pre τ post) (fun v0 N => ∃ τ1, N = TW pre τ1 post ∧ v0 = some (.int (nI (spDoes τ k).1)) ∧ Sx [] [] [67, 68, 69] [] τ1 (spDoes τ k).2) noX := by
  have eX : spX τ k = τ.2.2.2 58 a := by rw [spX, ha.1, ix_nI (by omega)]
  have eY : spY τ k = τ.2.2.2 58 b := by rw [spY, hb.1, ix_nI (by omega)]
  have hP4 := hPP hK
  refine Ct.of (ini := false) (ls := [some (.ref 56), some (.int (nI k)), none, none, none, none, none]) (by decide) (Nat.le_of_ble_eq_true rfl) (fun h => by cases h) rfl ?_
  refine e_aload_n dX4_does_0 0 rfl rfl rfl ?_
  refine e_getf (v := .ref 75) dX4_does_1 rfl fX4_83 (tw_o hp) rfl ?_
  refine e_iload_n dX4_does_4 1 rfl rfl ?_
  refine e_iald (f := τ.2.2.1 43) (j := k) dX4_does_5 (tw_a43 hp) rfl (by omega) (by decide) ?_
  refine e_top (congrArg Value.int hK) ?_
  refine e_bipush 6 dX4_does_6 rfl ?_
  refine e_icmp_eq 22 dX4_does_8 (by decide) (fun h => absurd h (by decide)) (fun _ => ?_)
  refine e_aload_n dX4_does_11 0 rfl rfl rfl ?_
  refine e_getf (v := .ref 75) dX4_does_12 rfl fX4_83 (tw_o hp) rfl ?_
  refine e_iload_n dX4_does_15 1 rfl rfl ?_
  refine e_iald (f := τ.2.2.1 43) (j := k) dX4_does_16 (tw_a43 hp) rfl (by omega) (by decide) ?_
  refine e_top (congrArg Value.int hK) ?_
  refine e_bipush 7 dX4_does_17 rfl ?_
  refine e_icmp_ne 26 dX4_does_19 (by decide) (fun _ => ?_) (fun h => absurd h (by decide))
  refine e_aload_n dX4_does_26 0 rfl rfl rfl ?_
  refine e_getf (v := .ref 90) dX4_does_27 rfl fX4_128 (tw_o hp) rfl ?_
  refine e_aload_n dX4_does_30 0 rfl rfl rfl ?_
  refine e_getf (v := .ref 76) dX4_does_31 rfl fX4_86 (tw_o hp) rfl ?_
  refine e_iload_n dX4_does_34 1 rfl rfl ?_
  refine e_iald (f := τ.2.2.1 44) (j := k) dX4_does_35 (tw_a44 hp) rfl (by omega) (by decide) ?_
  refine e_top (congrArg Value.int ha.1) ?_
  refine e_lald (f := τ.2.2.2 58) (j := a) dX4_does_36 (tw_a58 hp) rfl (by omega) (by decide) ?_
  refine e_lstore_n dX4_does_37 2 rfl (ls_s (ls_1 rfl)) (ln_s (ln_s (ln_s ln_0))) (Nat.le_of_ble_eq_true rfl) ?_
  refine e_aload_n dX4_does_38 0 rfl rfl rfl ?_
  refine e_getf (v := .ref 75) dX4_does_39 rfl fX4_83 (tw_o hp) rfl ?_
  refine e_iload_n dX4_does_42 1 rfl rfl ?_
  refine e_iald (f := τ.2.2.1 43) (j := k) dX4_does_43 (tw_a43 hp) rfl (by omega) (by decide) ?_
  refine e_top (congrArg Value.int hK) ?_
  refine e_i2l dX4_does_44 ?_
  refine e_lconst 1 dX4_does_45 rfl ?_
  refine e_ldc2 rfl q1577 dX4_does_46 ?_
  refine e_callSB (As := [.long ((5 : Int32).toInt64), .long 1, .long 4]) (rest := []) dX4_does_49 rfl msX4_239 (t_isInI 5 1 4 rfl (by decide) (by decide)) (Nat.le_of_ble_eq_true rfl) rfl rfl (Nat.le_of_ble_eq_true rfl) (Nat.zero_le _) (Nat.zero_le _) (fun h49 => ?_) (fun h49 => ?_)
  · exact absurd h49 (by decide)
  · refine e_if_eq_t 69 (by decide) dX4_does_52 (by decide) ?_
    refine e_lconst 0 dX4_does_69 rfl ?_
    refine e_lstore dX4_does_70 (ls_s (ls_s (ls_s (ls_1 rfl)))) (ln_s (ln_s (ln_s (ln_s (ln_s ln_0))))) (Nat.le_of_ble_eq_true rfl) ?_
    refine e_aload_n dX4_does_72 0 rfl rfl rfl ?_
    refine e_getf (v := .ref 80) dX4_does_73 rfl fX4_98 (tw_o hp) rfl ?_
    refine e_iload_n dX4_does_76 1 rfl rfl ?_
    refine e_iald (f := τ.2.2.1 48) (j := k) dX4_does_77 (tw_a48 hp) rfl (by omega) (by decide) ?_
    refine e_if_eq 103 dX4_does_78 (by decide) (fun h78 => ?_) (fun h78 => ?_)
    · refine e_iconst 1 dX4_does_103 rfl ?_
      refine e_goto 108 dX4_does_104 (by decide) ?_
      refine e_istore dX4_does_108 (ls_s (ls_s (ls_s (ls_s (ls_s (ls_1 rfl)))))) (Nat.le_of_ble_eq_true rfl) ?_
      refine e_aload_n dX4_does_110 0 rfl rfl rfl ?_
      refine e_getf (v := .ref 75) dX4_does_111 rfl fX4_83 (tw_o hp) rfl ?_
      refine e_iload_n dX4_does_114 1 rfl rfl ?_
      refine e_iald (f := τ.2.2.1 43) (j := k) dX4_does_115 (tw_a43 hp) rfl (by omega) (by decide) ?_
      refine e_top (congrArg Value.int hK) ?_
      refine e_tableIn (off := 197) 313 dX4_does_116 (by decide) (by decide) (by decide) (by decide) ?_
      refine e_aload_n dX4_does_313 0 rfl rfl rfl ?_
      refine e_getf (v := .ref 91) dX4_does_314 rfl fX4_131 (tw_o hp) rfl ?_
      refine e_aload_n dX4_does_317 0 rfl rfl rfl ?_
      refine e_getf (v := .int (τ.1 62)) dX4_does_318 rfl fX4_461 (tw_o hp) rfl ?_
      refine e_top (congrArg Value.int hP.2) ?_
      refine e_lload_n dX4_does_321 2 rfl rfl ?_
      refine e_last (f := τ.2.2.2 59) (j := P) dX4_does_322 (tw_a59 hp) rfl (by omega) (by decide) ?_
      rw [tw_s59 hp]
      refine e_aload_n dX4_does_323 0 rfl rfl rfl ?_
      refine e_dup dX4_does_324 rfl ?_
      refine e_getf (v := .int (τ.1 62)) dX4_does_325 rfl fX4_461 (tw_o hp) rfl ?_
      refine e_top (congrArg Value.int hP.2) ?_
      refine e_iconst 1 dX4_does_328 rfl ?_
      refine e_iaddN P 1 dX4_does_329 ?_
      refine e_tputI dX4_does_330 rfl pX4_461 rfl hp (Nat.le_of_ble_eq_true rfl) (tw_f62 _) ?_
      refine e_aload_n dX4_does_333 0 rfl rfl rfl ?_
      refine e_dup dX4_does_334 rfl ?_
      refine e_getf (v := .int (τ.1 63)) dX4_does_335 rfl fX4_468 (tw_o hp) rfl ?_
      refine e_iconst 1 dX4_does_338 rfl ?_
      refine e_iadd dX4_does_339 ?_
      refine e_tputI dX4_does_340 rfl pX4_468 rfl hp (Nat.le_of_ble_eq_true rfl) (tw_f63 _) ?_
      refine e_iload_n dX4_does_343 1 rfl rfl ?_
      refine e_iconst 1 dX4_does_344 rfl ?_
      refine e_iaddN k 1 dX4_does_345 ?_
      refine e_ireturn dX4_does_346 rfl rfl (Nat.zero_le _) (Nat.zero_le _) ?_
      have eD : spDoes τ k = (k + 1, spCr (tI (tB τ 59 (vp_updL (τ.2.2.2 59) P (τ.2.2.2 58 a))) 62 (nI (P + 1))) 1) := by
        rw [spDoes, hK, if_neg (by decide), if_neg (by decide), if_neg (by decide), if_neg (by decide), if_neg (by decide), if_pos rfl, eX, hP.2, ix_nI (by omega), show nI P + 1 = nI (P + 1) from nI_add _ 1]
      refine ⟨_, rfl, by rw [eD], ?_⟩
      rw [eD]
      exact Sx.rf
    · refine e_aload_n dX4_does_81 0 rfl rfl rfl ?_
      refine e_getf (v := .int (τ.1 61)) dX4_does_82 rfl fX4_464 (tw_o hp) rfl ?_
      refine e_aload_n dX4_does_85 0 rfl rfl rfl ?_
      refine e_getf (v := .ref 80) dX4_does_86 rfl fX4_98 (tw_o hp) rfl ?_
      refine e_iload_n dX4_does_89 1 rfl rfl ?_
      refine e_iald (f := τ.2.2.1 48) (j := k) dX4_does_90 (tw_a48 hp) rfl (by omega) (by decide) ?_
      refine e_iconst 1 dX4_does_91 rfl ?_
      refine e_icmp_ne 99 dX4_does_92 (by decide) (fun h92 => ?_) (fun h92 => ?_)
      · refine e_iconst 0 dX4_does_99 rfl ?_
        refine e_icmp_ne 107 dX4_does_100 (by decide) (fun h100 => ?_) (fun h100 => ?_)
        · refine e_iconst 0 dX4_does_107 rfl ?_
          refine e_istore dX4_does_108 (ls_s (ls_s (ls_s (ls_s (ls_s (ls_1 rfl)))))) (Nat.le_of_ble_eq_true rfl) ?_
          refine e_aload_n dX4_does_110 0 rfl rfl rfl ?_
          refine e_getf (v := .ref 75) dX4_does_111 rfl fX4_83 (tw_o hp) rfl ?_
          refine e_iload_n dX4_does_114 1 rfl rfl ?_
          refine e_iald (f := τ.2.2.1 43) (j := k) dX4_does_115 (tw_a43 hp) rfl (by omega) (by decide) ?_
          refine e_top (congrArg Value.int hK) ?_
          refine e_tableIn (off := 197) 313 dX4_does_116 (by decide) (by decide) (by decide) (by decide) ?_
          refine e_aload_n dX4_does_313 0 rfl rfl rfl ?_
          refine e_getf (v := .ref 91) dX4_does_314 rfl fX4_131 (tw_o hp) rfl ?_
          refine e_aload_n dX4_does_317 0 rfl rfl rfl ?_
          refine e_getf (v := .int (τ.1 62)) dX4_does_318 rfl fX4_461 (tw_o hp) rfl ?_
          refine e_top (congrArg Value.int hP.2) ?_
          refine e_lload_n dX4_does_321 2 rfl rfl ?_
          refine e_last (f := τ.2.2.2 59) (j := P) dX4_does_322 (tw_a59 hp) rfl (by omega) (by decide) ?_
          rw [tw_s59 hp]
          refine e_aload_n dX4_does_323 0 rfl rfl rfl ?_
          refine e_dup dX4_does_324 rfl ?_
          refine e_getf (v := .int (τ.1 62)) dX4_does_325 rfl fX4_461 (tw_o hp) rfl ?_
          refine e_top (congrArg Value.int hP.2) ?_
          refine e_iconst 1 dX4_does_328 rfl ?_
          refine e_iaddN P 1 dX4_does_329 ?_
          refine e_tputI dX4_does_330 rfl pX4_461 rfl hp (Nat.le_of_ble_eq_true rfl) (tw_f62 _) ?_
          refine e_aload_n dX4_does_333 0 rfl rfl rfl ?_
          refine e_dup dX4_does_334 rfl ?_
          refine e_getf (v := .int (τ.1 63)) dX4_does_335 rfl fX4_468 (tw_o hp) rfl ?_
          refine e_iconst 1 dX4_does_338 rfl ?_
          refine e_iadd dX4_does_339 ?_
          refine e_tputI dX4_does_340 rfl pX4_468 rfl hp (Nat.le_of_ble_eq_true rfl) (tw_f63 _) ?_
          refine e_iload_n dX4_does_343 1 rfl rfl ?_
          refine e_iconst 1 dX4_does_344 rfl ?_
          refine e_iaddN k 1 dX4_does_345 ?_
          refine e_ireturn dX4_does_346 rfl rfl (Nat.zero_le _) (Nat.zero_le _) ?_
          have eD : spDoes τ k = (k + 1, spCr (tI (tB τ 59 (vp_updL (τ.2.2.2 59) P (τ.2.2.2 58 a))) 62 (nI (P + 1))) 1) := by
            rw [spDoes, hK, if_neg (by decide), if_neg (by decide), if_neg (by decide), if_neg (by decide), if_neg (by decide), if_pos rfl, eX, hP.2, ix_nI (by omega), show nI P + 1 = nI (P + 1) from nI_add _ 1]
          refine ⟨_, rfl, by rw [eD], ?_⟩
          rw [eD]
          exact Sx.rf
        · refine e_iconst 1 dX4_does_103 rfl ?_
          refine e_goto 108 dX4_does_104 (by decide) ?_
          refine e_istore dX4_does_108 (ls_s (ls_s (ls_s (ls_s (ls_s (ls_1 rfl)))))) (Nat.le_of_ble_eq_true rfl) ?_
          refine e_aload_n dX4_does_110 0 rfl rfl rfl ?_
          refine e_getf (v := .ref 75) dX4_does_111 rfl fX4_83 (tw_o hp) rfl ?_
          refine e_iload_n dX4_does_114 1 rfl rfl ?_
          refine e_iald (f := τ.2.2.1 43) (j := k) dX4_does_115 (tw_a43 hp) rfl (by omega) (by decide) ?_
          refine e_top (congrArg Value.int hK) ?_
          refine e_tableIn (off := 197) 313 dX4_does_116 (by decide) (by decide) (by decide) (by decide) ?_
          refine e_aload_n dX4_does_313 0 rfl rfl rfl ?_
          refine e_getf (v := .ref 91) dX4_does_314 rfl fX4_131 (tw_o hp) rfl ?_
          refine e_aload_n dX4_does_317 0 rfl rfl rfl ?_
          refine e_getf (v := .int (τ.1 62)) dX4_does_318 rfl fX4_461 (tw_o hp) rfl ?_
          refine e_top (congrArg Value.int hP.2) ?_
          refine e_lload_n dX4_does_321 2 rfl rfl ?_
          refine e_last (f := τ.2.2.2 59) (j := P) dX4_does_322 (tw_a59 hp) rfl (by omega) (by decide) ?_
          rw [tw_s59 hp]
          refine e_aload_n dX4_does_323 0 rfl rfl rfl ?_
          refine e_dup dX4_does_324 rfl ?_
          refine e_getf (v := .int (τ.1 62)) dX4_does_325 rfl fX4_461 (tw_o hp) rfl ?_
          refine e_top (congrArg Value.int hP.2) ?_
          refine e_iconst 1 dX4_does_328 rfl ?_
          refine e_iaddN P 1 dX4_does_329 ?_
          refine e_tputI dX4_does_330 rfl pX4_461 rfl hp (Nat.le_of_ble_eq_true rfl) (tw_f62 _) ?_
          refine e_aload_n dX4_does_333 0 rfl rfl rfl ?_
          refine e_dup dX4_does_334 rfl ?_
          refine e_getf (v := .int (τ.1 63)) dX4_does_335 rfl fX4_468 (tw_o hp) rfl ?_
          refine e_iconst 1 dX4_does_338 rfl ?_
          refine e_iadd dX4_does_339 ?_
          refine e_tputI dX4_does_340 rfl pX4_468 rfl hp (Nat.le_of_ble_eq_true rfl) (tw_f63 _) ?_
          refine e_iload_n dX4_does_343 1 rfl rfl ?_
          refine e_iconst 1 dX4_does_344 rfl ?_
          refine e_iaddN k 1 dX4_does_345 ?_
          refine e_ireturn dX4_does_346 rfl rfl (Nat.zero_le _) (Nat.zero_le _) ?_
          have eD : spDoes τ k = (k + 1, spCr (tI (tB τ 59 (vp_updL (τ.2.2.2 59) P (τ.2.2.2 58 a))) 62 (nI (P + 1))) 1) := by
            rw [spDoes, hK, if_neg (by decide), if_neg (by decide), if_neg (by decide), if_neg (by decide), if_neg (by decide), if_pos rfl, eX, hP.2, ix_nI (by omega), show nI P + 1 = nI (P + 1) from nI_add _ 1]
          refine ⟨_, rfl, by rw [eD], ?_⟩
          rw [eD]
          exact Sx.rf
      · refine e_iconst 1 dX4_does_95 rfl ?_
        refine e_goto 100 dX4_does_96 (by decide) ?_
        refine e_icmp_ne 107 dX4_does_100 (by decide) (fun h100 => ?_) (fun h100 => ?_)
        · refine e_iconst 0 dX4_does_107 rfl ?_
          refine e_istore dX4_does_108 (ls_s (ls_s (ls_s (ls_s (ls_s (ls_1 rfl)))))) (Nat.le_of_ble_eq_true rfl) ?_
          refine e_aload_n dX4_does_110 0 rfl rfl rfl ?_
          refine e_getf (v := .ref 75) dX4_does_111 rfl fX4_83 (tw_o hp) rfl ?_
          refine e_iload_n dX4_does_114 1 rfl rfl ?_
          refine e_iald (f := τ.2.2.1 43) (j := k) dX4_does_115 (tw_a43 hp) rfl (by omega) (by decide) ?_
          refine e_top (congrArg Value.int hK) ?_
          refine e_tableIn (off := 197) 313 dX4_does_116 (by decide) (by decide) (by decide) (by decide) ?_
          refine e_aload_n dX4_does_313 0 rfl rfl rfl ?_
          refine e_getf (v := .ref 91) dX4_does_314 rfl fX4_131 (tw_o hp) rfl ?_
          refine e_aload_n dX4_does_317 0 rfl rfl rfl ?_
          refine e_getf (v := .int (τ.1 62)) dX4_does_318 rfl fX4_461 (tw_o hp) rfl ?_
          refine e_top (congrArg Value.int hP.2) ?_
          refine e_lload_n dX4_does_321 2 rfl rfl ?_
          refine e_last (f := τ.2.2.2 59) (j := P) dX4_does_322 (tw_a59 hp) rfl (by omega) (by decide) ?_
          rw [tw_s59 hp]
          refine e_aload_n dX4_does_323 0 rfl rfl rfl ?_
          refine e_dup dX4_does_324 rfl ?_
          refine e_getf (v := .int (τ.1 62)) dX4_does_325 rfl fX4_461 (tw_o hp) rfl ?_
          refine e_top (congrArg Value.int hP.2) ?_
          refine e_iconst 1 dX4_does_328 rfl ?_
          refine e_iaddN P 1 dX4_does_329 ?_
          refine e_tputI dX4_does_330 rfl pX4_461 rfl hp (Nat.le_of_ble_eq_true rfl) (tw_f62 _) ?_
          refine e_aload_n dX4_does_333 0 rfl rfl rfl ?_
          refine e_dup dX4_does_334 rfl ?_
          refine e_getf (v := .int (τ.1 63)) dX4_does_335 rfl fX4_468 (tw_o hp) rfl ?_
          refine e_iconst 1 dX4_does_338 rfl ?_
          refine e_iadd dX4_does_339 ?_
          refine e_tputI dX4_does_340 rfl pX4_468 rfl hp (Nat.le_of_ble_eq_true rfl) (tw_f63 _) ?_
          refine e_iload_n dX4_does_343 1 rfl rfl ?_
          refine e_iconst 1 dX4_does_344 rfl ?_
          refine e_iaddN k 1 dX4_does_345 ?_
          refine e_ireturn dX4_does_346 rfl rfl (Nat.zero_le _) (Nat.zero_le _) ?_
          have eD : spDoes τ k = (k + 1, spCr (tI (tB τ 59 (vp_updL (τ.2.2.2 59) P (τ.2.2.2 58 a))) 62 (nI (P + 1))) 1) := by
            rw [spDoes, hK, if_neg (by decide), if_neg (by decide), if_neg (by decide), if_neg (by decide), if_neg (by decide), if_pos rfl, eX, hP.2, ix_nI (by omega), show nI P + 1 = nI (P + 1) from nI_add _ 1]
          refine ⟨_, rfl, by rw [eD], ?_⟩
          rw [eD]
          exact Sx.rf
        · refine e_iconst 1 dX4_does_103 rfl ?_
          refine e_goto 108 dX4_does_104 (by decide) ?_
          refine e_istore dX4_does_108 (ls_s (ls_s (ls_s (ls_s (ls_s (ls_1 rfl)))))) (Nat.le_of_ble_eq_true rfl) ?_
          refine e_aload_n dX4_does_110 0 rfl rfl rfl ?_
          refine e_getf (v := .ref 75) dX4_does_111 rfl fX4_83 (tw_o hp) rfl ?_
          refine e_iload_n dX4_does_114 1 rfl rfl ?_
          refine e_iald (f := τ.2.2.1 43) (j := k) dX4_does_115 (tw_a43 hp) rfl (by omega) (by decide) ?_
          refine e_top (congrArg Value.int hK) ?_
          refine e_tableIn (off := 197) 313 dX4_does_116 (by decide) (by decide) (by decide) (by decide) ?_
          refine e_aload_n dX4_does_313 0 rfl rfl rfl ?_
          refine e_getf (v := .ref 91) dX4_does_314 rfl fX4_131 (tw_o hp) rfl ?_
          refine e_aload_n dX4_does_317 0 rfl rfl rfl ?_
          refine e_getf (v := .int (τ.1 62)) dX4_does_318 rfl fX4_461 (tw_o hp) rfl ?_
          refine e_top (congrArg Value.int hP.2) ?_
          refine e_lload_n dX4_does_321 2 rfl rfl ?_
          refine e_last (f := τ.2.2.2 59) (j := P) dX4_does_322 (tw_a59 hp) rfl (by omega) (by decide) ?_
          rw [tw_s59 hp]
          refine e_aload_n dX4_does_323 0 rfl rfl rfl ?_
          refine e_dup dX4_does_324 rfl ?_
          refine e_getf (v := .int (τ.1 62)) dX4_does_325 rfl fX4_461 (tw_o hp) rfl ?_
          refine e_top (congrArg Value.int hP.2) ?_
          refine e_iconst 1 dX4_does_328 rfl ?_
          refine e_iaddN P 1 dX4_does_329 ?_
          refine e_tputI dX4_does_330 rfl pX4_461 rfl hp (Nat.le_of_ble_eq_true rfl) (tw_f62 _) ?_
          refine e_aload_n dX4_does_333 0 rfl rfl rfl ?_
          refine e_dup dX4_does_334 rfl ?_
          refine e_getf (v := .int (τ.1 63)) dX4_does_335 rfl fX4_468 (tw_o hp) rfl ?_
          refine e_iconst 1 dX4_does_338 rfl ?_
          refine e_iadd dX4_does_339 ?_
          refine e_tputI dX4_does_340 rfl pX4_468 rfl hp (Nat.le_of_ble_eq_true rfl) (tw_f63 _) ?_
          refine e_iload_n dX4_does_343 1 rfl rfl ?_
          refine e_iconst 1 dX4_does_344 rfl ?_
          refine e_iaddN k 1 dX4_does_345 ?_
          refine e_ireturn dX4_does_346 rfl rfl (Nat.zero_le _) (Nat.zero_le _) ?_
          have eD : spDoes τ k = (k + 1, spCr (tI (tB τ 59 (vp_updL (τ.2.2.2 59) P (τ.2.2.2 58 a))) 62 (nI (P + 1))) 1) := by
            rw [spDoes, hK, if_neg (by decide), if_neg (by decide), if_neg (by decide), if_neg (by decide), if_neg (by decide), if_pos rfl, eX, hP.2, ix_nI (by omega), show nI P + 1 = nI (P + 1) from nI_add _ 1]
          refine ⟨_, rfl, by rw [eD], ?_⟩
          rw [eD]
          exact Sx.rf

set_option maxHeartbeats 4000000 in
set_option maxRecDepth 100000 in
/-- WheelTablesModel.does -/
theorem t_does6 {pre post : List ACell} {τ : Tw} (hp : pre.length = 56) {k a : Nat} (hk : k < 40) (hK : τ.2.2.1 43 k = 6) (ha : τ.2.2.1 44 k = nI a ∧ a ≤ 40) (hak : τ.2.2.1 43 k = 6 → a ≤ k) : Ct yX4_does (ws_ yX4_does cX4_does 7 (some .int)) 2 0 0 [.ref 56, .int (nI k)] (TW pre τ post) (fun v0 N => ∃ τ1, N = TW pre τ1 post ∧ v0 = some (.int (nI (spDoes τ k).1)) ∧ Sx [] [] [67, 68, 69] [] τ1 (spDoes τ k).2) noX := by
  have hak2 := hak hK
  refine Ct.of (ini := false) (ls := [some (.ref 56), some (.int (nI k)), none, none, none, none, none]) (by decide) (Nat.le_of_ble_eq_true rfl) (fun h => by cases h) rfl ?_
  refine e_aload_n dX4_does_0 0 rfl rfl rfl ?_
  refine e_getf (v := .ref 75) dX4_does_1 rfl fX4_83 (tw_o hp) rfl ?_
  refine e_iload_n dX4_does_4 1 rfl rfl ?_
  refine e_iald (f := τ.2.2.1 43) (j := k) dX4_does_5 (tw_a43 hp) rfl (by omega) (by decide) ?_
  refine e_top (congrArg Value.int hK) ?_
  refine e_bipush 6 dX4_does_6 rfl ?_
  refine e_icmp_eq 22 dX4_does_8 (by decide) (fun _ => ?_) (fun h => absurd h (by decide))
  refine e_lconst 0 dX4_does_22 rfl ?_
  refine e_goto 37 dX4_does_23 (by decide) ?_
  refine e_lstore_n dX4_does_37 2 rfl (ls_s (ls_1 rfl)) (ln_s (ln_s (ln_s ln_0))) (Nat.le_of_ble_eq_true rfl) ?_
  refine e_aload_n dX4_does_38 0 rfl rfl rfl ?_
  refine e_getf (v := .ref 75) dX4_does_39 rfl fX4_83 (tw_o hp) rfl ?_
  refine e_iload_n dX4_does_42 1 rfl rfl ?_
  refine e_iald (f := τ.2.2.1 43) (j := k) dX4_does_43 (tw_a43 hp) rfl (by omega) (by decide) ?_
  refine e_top (congrArg Value.int hK) ?_
  refine e_i2l dX4_does_44 ?_
  refine e_lconst 1 dX4_does_45 rfl ?_
  refine e_ldc2 rfl q1577 dX4_does_46 ?_
  refine e_callSB (As := [.long ((6 : Int32).toInt64), .long 1, .long 4]) (rest := []) dX4_does_49 rfl msX4_239 (t_isInI 6 1 4 rfl (by decide) (by decide)) (Nat.le_of_ble_eq_true rfl) rfl rfl (Nat.le_of_ble_eq_true rfl) (Nat.zero_le _) (Nat.zero_le _) (fun h49 => ?_) (fun h49 => ?_)
  · exact absurd h49 (by decide)
  · refine e_if_eq_t 69 (by decide) dX4_does_52 (by decide) ?_
    refine e_lconst 0 dX4_does_69 rfl ?_
    refine e_lstore dX4_does_70 (ls_s (ls_s (ls_s (ls_1 rfl)))) (ln_s (ln_s (ln_s (ln_s (ln_s ln_0))))) (Nat.le_of_ble_eq_true rfl) ?_
    refine e_aload_n dX4_does_72 0 rfl rfl rfl ?_
    refine e_getf (v := .ref 80) dX4_does_73 rfl fX4_98 (tw_o hp) rfl ?_
    refine e_iload_n dX4_does_76 1 rfl rfl ?_
    refine e_iald (f := τ.2.2.1 48) (j := k) dX4_does_77 (tw_a48 hp) rfl (by omega) (by decide) ?_
    refine e_if_eq 103 dX4_does_78 (by decide) (fun h78 => ?_) (fun h78 => ?_)
    · refine e_iconst 1 dX4_does_103 rfl ?_
      refine e_goto 108 dX4_does_104 (by decide) ?_
      refine e_istore dX4_does_108 (ls_s (ls_s (ls_s (ls_s (ls_s (ls_1 rfl)))))) (Nat.le_of_ble_eq_true rfl) ?_
      refine e_aload_n dX4_does_110 0 rfl rfl rfl ?_
      refine e_getf (v := .ref 75) dX4_does_111 rfl fX4_83 (tw_o hp) rfl ?_
      refine e_iload_n dX4_does_114 1 rfl rfl ?_
      refine e_iald (f := τ.2.2.1 43) (j := k) dX4_does_115 (tw_a43 hp) rfl (by omega) (by decide) ?_
      refine e_top (congrArg Value.int hK) ?_
      refine e_tableIn (off := 231) 347 dX4_does_116 (by decide) (by decide) (by decide) (by decide) ?_
      refine e_aload_n dX4_does_347 0 rfl rfl rfl ?_
      refine e_dup dX4_does_348 rfl ?_
      refine e_getf (v := .int (τ.1 63)) dX4_does_349 rfl fX4_468 (tw_o hp) rfl ?_
      refine e_iload dX4_does_352 rfl ?_
      refine e_if_eq_f (by decide) 366 dX4_does_354 (by decide) ?_
      refine e_aload_n dX4_does_357 0 rfl rfl rfl ?_
      refine e_getf (v := .ref 76) dX4_does_358 rfl fX4_86 (tw_o hp) rfl ?_
      refine e_iload_n dX4_does_361 1 rfl rfl ?_
      refine e_iald (f := τ.2.2.1 44) (j := k) dX4_does_362 (tw_a44 hp) rfl (by omega) (by decide) ?_
      refine e_top (congrArg Value.int ha.1) ?_
      refine e_goto 367 dX4_does_363 (by decide) ?_
      refine e_iadd dX4_does_367 ?_
      refine e_tputI dX4_does_368 rfl pX4_468 rfl hp (Nat.le_of_ble_eq_true rfl) (tw_f63 _) ?_
      refine e_iload dX4_does_371 rfl ?_
      refine e_if_eq_f (by decide) 387 dX4_does_373 (by decide) ?_
      refine e_iload_n dX4_does_376 1 rfl rfl ?_
      refine e_aload_n dX4_does_377 0 rfl rfl rfl ?_
      refine e_getf (v := .ref 76) dX4_does_378 rfl fX4_86 (tw_o hp) rfl ?_
      refine e_iload_n dX4_does_381 1 rfl rfl ?_
      refine e_iald (f := τ.2.2.1 44) (j := k) dX4_does_382 (tw_a44 hp) rfl (by omega) (by decide) ?_
      refine e_top (congrArg Value.int ha.1) ?_
      refine e_isubN k a (by omega) dX4_does_383 ?_
      refine e_goto 390 dX4_does_384 (by decide) ?_
      refine e_ireturn dX4_does_390 rfl rfl (Nat.zero_le _) (Nat.zero_le _) ?_
      have hi : spIs τ k = true := by
        unfold spIs
        simp [h78]
      have eD : spDoes τ k = (k - a, spCr τ (nI a)) := by
        rw [spDoes, hK, if_neg (by decide), if_neg (by decide), if_neg (by decide), if_neg (by decide), if_neg (by decide), if_neg (by decide), if_pos rfl, hi, if_pos rfl, if_pos rfl, ha.1, ix_nI (by omega)]
      refine ⟨_, rfl, by rw [eD], ?_⟩
      rw [eD]
      exact Sx.rf
    · refine e_aload_n dX4_does_81 0 rfl rfl rfl ?_
      refine e_getf (v := .int (τ.1 61)) dX4_does_82 rfl fX4_464 (tw_o hp) rfl ?_
      refine e_aload_n dX4_does_85 0 rfl rfl rfl ?_
      refine e_getf (v := .ref 80) dX4_does_86 rfl fX4_98 (tw_o hp) rfl ?_
      refine e_iload_n dX4_does_89 1 rfl rfl ?_
      refine e_iald (f := τ.2.2.1 48) (j := k) dX4_does_90 (tw_a48 hp) rfl (by omega) (by decide) ?_
      refine e_iconst 1 dX4_does_91 rfl ?_
      refine e_icmp_ne 99 dX4_does_92 (by decide) (fun h92 => ?_) (fun h92 => ?_)
      · refine e_iconst 0 dX4_does_99 rfl ?_
        refine e_icmp_ne 107 dX4_does_100 (by decide) (fun h100 => ?_) (fun h100 => ?_)
        · refine e_iconst 0 dX4_does_107 rfl ?_
          refine e_istore dX4_does_108 (ls_s (ls_s (ls_s (ls_s (ls_s (ls_1 rfl)))))) (Nat.le_of_ble_eq_true rfl) ?_
          refine e_aload_n dX4_does_110 0 rfl rfl rfl ?_
          refine e_getf (v := .ref 75) dX4_does_111 rfl fX4_83 (tw_o hp) rfl ?_
          refine e_iload_n dX4_does_114 1 rfl rfl ?_
          refine e_iald (f := τ.2.2.1 43) (j := k) dX4_does_115 (tw_a43 hp) rfl (by omega) (by decide) ?_
          refine e_top (congrArg Value.int hK) ?_
          refine e_tableIn (off := 231) 347 dX4_does_116 (by decide) (by decide) (by decide) (by decide) ?_
          refine e_aload_n dX4_does_347 0 rfl rfl rfl ?_
          refine e_dup dX4_does_348 rfl ?_
          refine e_getf (v := .int (τ.1 63)) dX4_does_349 rfl fX4_468 (tw_o hp) rfl ?_
          refine e_iload dX4_does_352 rfl ?_
          refine e_if_eq_t 366 (by decide) dX4_does_354 (by decide) ?_
          refine e_iconst 0 dX4_does_366 rfl ?_
          refine e_iadd dX4_does_367 ?_
          refine e_tputI dX4_does_368 rfl pX4_468 rfl hp (Nat.le_of_ble_eq_true rfl) (tw_f63 _) ?_
          refine e_iload dX4_does_371 rfl ?_
          refine e_if_eq_t 387 (by decide) dX4_does_373 (by decide) ?_
          refine e_iload_n dX4_does_387 1 rfl rfl ?_
          refine e_iconst 1 dX4_does_388 rfl ?_
          refine e_iaddN k 1 dX4_does_389 ?_
          refine e_ireturn dX4_does_390 rfl rfl (Nat.zero_le _) (Nat.zero_le _) ?_
          have hi : spIs τ k = false := by
            unfold spIs
            simp [h78, h92, h100]
          have eD : spDoes τ k = (k + 1, spCr τ 0) := by
            rw [spDoes, hK, if_neg (by decide), if_neg (by decide), if_neg (by decide), if_neg (by decide), if_neg (by decide), if_neg (by decide), if_pos rfl, hi, if_neg (by decide), if_neg (by decide)]
          refine ⟨_, rfl, by rw [eD], ?_⟩
          rw [eD]
          exact Sx.rf
        · refine e_iconst 1 dX4_does_103 rfl ?_
          refine e_goto 108 dX4_does_104 (by decide) ?_
          refine e_istore dX4_does_108 (ls_s (ls_s (ls_s (ls_s (ls_s (ls_1 rfl)))))) (Nat.le_of_ble_eq_true rfl) ?_
          refine e_aload_n dX4_does_110 0 rfl rfl rfl ?_
          refine e_getf (v := .ref 75) dX4_does_111 rfl fX4_83 (tw_o hp) rfl ?_
          refine e_iload_n dX4_does_114 1 rfl rfl ?_
          refine e_iald (f := τ.2.2.1 43) (j := k) dX4_does_115 (tw_a43 hp) rfl (by omega) (by decide) ?_
          refine e_top (congrArg Value.int hK) ?_
          refine e_tableIn (off := 231) 347 dX4_does_116 (by decide) (by decide) (by decide) (by decide) ?_
          refine e_aload_n dX4_does_347 0 rfl rfl rfl ?_
          refine e_dup dX4_does_348 rfl ?_
          refine e_getf (v := .int (τ.1 63)) dX4_does_349 rfl fX4_468 (tw_o hp) rfl ?_
          refine e_iload dX4_does_352 rfl ?_
          refine e_if_eq_f (by decide) 366 dX4_does_354 (by decide) ?_
          refine e_aload_n dX4_does_357 0 rfl rfl rfl ?_
          refine e_getf (v := .ref 76) dX4_does_358 rfl fX4_86 (tw_o hp) rfl ?_
          refine e_iload_n dX4_does_361 1 rfl rfl ?_
          refine e_iald (f := τ.2.2.1 44) (j := k) dX4_does_362 (tw_a44 hp) rfl (by omega) (by decide) ?_
          refine e_top (congrArg Value.int ha.1) ?_
          refine e_goto 367 dX4_does_363 (by decide) ?_
          refine e_iadd dX4_does_367 ?_
          refine e_tputI dX4_does_368 rfl pX4_468 rfl hp (Nat.le_of_ble_eq_true rfl) (tw_f63 _) ?_
          refine e_iload dX4_does_371 rfl ?_
          refine e_if_eq_f (by decide) 387 dX4_does_373 (by decide) ?_
          refine e_iload_n dX4_does_376 1 rfl rfl ?_
          refine e_aload_n dX4_does_377 0 rfl rfl rfl ?_
          refine e_getf (v := .ref 76) dX4_does_378 rfl fX4_86 (tw_o hp) rfl ?_
          refine e_iload_n dX4_does_381 1 rfl rfl ?_
          refine e_iald (f := τ.2.2.1 44) (j := k) dX4_does_382 (tw_a44 hp) rfl (by omega) (by decide) ?_
          refine e_top (congrArg Value.int ha.1) ?_
          refine e_isubN k a (by omega) dX4_does_383 ?_
          refine e_goto 390 dX4_does_384 (by decide) ?_
          refine e_ireturn dX4_does_390 rfl rfl (Nat.zero_le _) (Nat.zero_le _) ?_
          have hi : spIs τ k = true := by
            unfold spIs
            simp [h78, h92, h100]
          have eD : spDoes τ k = (k - a, spCr τ (nI a)) := by
            rw [spDoes, hK, if_neg (by decide), if_neg (by decide), if_neg (by decide), if_neg (by decide), if_neg (by decide), if_neg (by decide), if_pos rfl, hi, if_pos rfl, if_pos rfl, ha.1, ix_nI (by omega)]
          refine ⟨_, rfl, by rw [eD], ?_⟩
          rw [eD]
          exact Sx.rf
      · refine e_iconst 1 dX4_does_95 rfl ?_
        refine e_goto 100 dX4_does_96 (by decide) ?_
        refine e_icmp_ne 107 dX4_does_100 (by decide) (fun h100 => ?_) (fun h100 => ?_)
        · refine e_iconst 0 dX4_does_107 rfl ?_
          refine e_istore dX4_does_108 (ls_s (ls_s (ls_s (ls_s (ls_s (ls_1 rfl)))))) (Nat.le_of_ble_eq_true rfl) ?_
          refine e_aload_n dX4_does_110 0 rfl rfl rfl ?_
          refine e_getf (v := .ref 75) dX4_does_111 rfl fX4_83 (tw_o hp) rfl ?_
          refine e_iload_n dX4_does_114 1 rfl rfl ?_
          refine e_iald (f := τ.2.2.1 43) (j := k) dX4_does_115 (tw_a43 hp) rfl (by omega) (by decide) ?_
          refine e_top (congrArg Value.int hK) ?_
          refine e_tableIn (off := 231) 347 dX4_does_116 (by decide) (by decide) (by decide) (by decide) ?_
          refine e_aload_n dX4_does_347 0 rfl rfl rfl ?_
          refine e_dup dX4_does_348 rfl ?_
          refine e_getf (v := .int (τ.1 63)) dX4_does_349 rfl fX4_468 (tw_o hp) rfl ?_
          refine e_iload dX4_does_352 rfl ?_
          refine e_if_eq_t 366 (by decide) dX4_does_354 (by decide) ?_
          refine e_iconst 0 dX4_does_366 rfl ?_
          refine e_iadd dX4_does_367 ?_
          refine e_tputI dX4_does_368 rfl pX4_468 rfl hp (Nat.le_of_ble_eq_true rfl) (tw_f63 _) ?_
          refine e_iload dX4_does_371 rfl ?_
          refine e_if_eq_t 387 (by decide) dX4_does_373 (by decide) ?_
          refine e_iload_n dX4_does_387 1 rfl rfl ?_
          refine e_iconst 1 dX4_does_388 rfl ?_
          refine e_iaddN k 1 dX4_does_389 ?_
          refine e_ireturn dX4_does_390 rfl rfl (Nat.zero_le _) (Nat.zero_le _) ?_
          have hi : spIs τ k = false := by
            unfold spIs
            simp [h78, h92, h100]
          have eD : spDoes τ k = (k + 1, spCr τ 0) := by
            rw [spDoes, hK, if_neg (by decide), if_neg (by decide), if_neg (by decide), if_neg (by decide), if_neg (by decide), if_neg (by decide), if_pos rfl, hi, if_neg (by decide), if_neg (by decide)]
          refine ⟨_, rfl, by rw [eD], ?_⟩
          rw [eD]
          exact Sx.rf
        · refine e_iconst 1 dX4_does_103 rfl ?_
          refine e_goto 108 dX4_does_104 (by decide) ?_
          refine e_istore dX4_does_108 (ls_s (ls_s (ls_s (ls_s (ls_s (ls_1 rfl)))))) (Nat.le_of_ble_eq_true rfl) ?_
          refine e_aload_n dX4_does_110 0 rfl rfl rfl ?_
          refine e_getf (v := .ref 75) dX4_does_111 rfl fX4_83 (tw_o hp) rfl ?_
          refine e_iload_n dX4_does_114 1 rfl rfl ?_
          refine e_iald (f := τ.2.2.1 43) (j := k) dX4_does_115 (tw_a43 hp) rfl (by omega) (by decide) ?_
          refine e_top (congrArg Value.int hK) ?_
          refine e_tableIn (off := 231) 347 dX4_does_116 (by decide) (by decide) (by decide) (by decide) ?_
          refine e_aload_n dX4_does_347 0 rfl rfl rfl ?_
          refine e_dup dX4_does_348 rfl ?_
          refine e_getf (v := .int (τ.1 63)) dX4_does_349 rfl fX4_468 (tw_o hp) rfl ?_
          refine e_iload dX4_does_352 rfl ?_
          refine e_if_eq_f (by decide) 366 dX4_does_354 (by decide) ?_
          refine e_aload_n dX4_does_357 0 rfl rfl rfl ?_
          refine e_getf (v := .ref 76) dX4_does_358 rfl fX4_86 (tw_o hp) rfl ?_
          refine e_iload_n dX4_does_361 1 rfl rfl ?_
          refine e_iald (f := τ.2.2.1 44) (j := k) dX4_does_362 (tw_a44 hp) rfl (by omega) (by decide) ?_
          refine e_top (congrArg Value.int ha.1) ?_
          refine e_goto 367 dX4_does_363 (by decide) ?_
          refine e_iadd dX4_does_367 ?_
          refine e_tputI dX4_does_368 rfl pX4_468 rfl hp (Nat.le_of_ble_eq_true rfl) (tw_f63 _) ?_
          refine e_iload dX4_does_371 rfl ?_
          refine e_if_eq_f (by decide) 387 dX4_does_373 (by decide) ?_
          refine e_iload_n dX4_does_376 1 rfl rfl ?_
          refine e_aload_n dX4_does_377 0 rfl rfl rfl ?_
          refine e_getf (v := .ref 76) dX4_does_378 rfl fX4_86 (tw_o hp) rfl ?_
          refine e_iload_n dX4_does_381 1 rfl rfl ?_
          refine e_iald (f := τ.2.2.1 44) (j := k) dX4_does_382 (tw_a44 hp) rfl (by omega) (by decide) ?_
          refine e_top (congrArg Value.int ha.1) ?_
          refine e_isubN k a (by omega) dX4_does_383 ?_
          refine e_goto 390 dX4_does_384 (by decide) ?_
          refine e_ireturn dX4_does_390 rfl rfl (Nat.zero_le _) (Nat.zero_le _) ?_
          have hi : spIs τ k = true := by
            unfold spIs
            simp [h78, h92, h100]
          have eD : spDoes τ k = (k - a, spCr τ (nI a)) := by
            rw [spDoes, hK, if_neg (by decide), if_neg (by decide), if_neg (by decide), if_neg (by decide), if_neg (by decide), if_neg (by decide), if_pos rfl, hi, if_pos rfl, if_pos rfl, ha.1, ix_nI (by omega)]
          refine ⟨_, rfl, by rw [eD], ?_⟩
          rw [eD]
          exact Sx.rf

set_option maxHeartbeats 4000000 in
set_option maxRecDepth 100000 in
/-- WheelTablesModel.does -/
theorem t_does7 {pre post : List ACell} {τ : Tw} (hp : pre.length = 56) {k a : Nat} (hk : k < 40) (hK : τ.2.2.1 43 k = 7) (ha : τ.2.2.1 44 k = nI a ∧ a ≤ 40) (hak : τ.2.2.1 43 k = 6 → a ≤ k) : Ct yX4_does (ws_ yX4_does cX4_does 7 (some .int)) 2 0 0 [.ref 56, .int (nI k)] (TW pre τ post) (fun v0 N => ∃ τ1, N = TW pre τ1 post ∧ v0 = some (.int (nI (spDoes τ k).1)) ∧ Sx [] [] [67, 68, 69] [] τ1 (spDoes τ k).2) noX := by
  refine Ct.of (ini := false) (ls := [some (.ref 56), some (.int (nI k)), none, none, none, none, none]) (by decide) (Nat.le_of_ble_eq_true rfl) (fun h => by cases h) rfl ?_
  refine e_aload_n dX4_does_0 0 rfl rfl rfl ?_
  refine e_getf (v := .ref 75) dX4_does_1 rfl fX4_83 (tw_o hp) rfl ?_
  refine e_iload_n dX4_does_4 1 rfl rfl ?_
  refine e_iald (f := τ.2.2.1 43) (j := k) dX4_does_5 (tw_a43 hp) rfl (by omega) (by decide) ?_
  refine e_top (congrArg Value.int hK) ?_
  refine e_bipush 6 dX4_does_6 rfl ?_
  refine e_icmp_eq 22 dX4_does_8 (by decide) (fun h => absurd h (by decide)) (fun _ => ?_)
  refine e_aload_n dX4_does_11 0 rfl rfl rfl ?_
  refine e_getf (v := .ref 75) dX4_does_12 rfl fX4_83 (tw_o hp) rfl ?_
  refine e_iload_n dX4_does_15 1 rfl rfl ?_
  refine e_iald (f := τ.2.2.1 43) (j := k) dX4_does_16 (tw_a43 hp) rfl (by omega) (by decide) ?_
  refine e_top (congrArg Value.int hK) ?_
  refine e_bipush 7 dX4_does_17 rfl ?_
  refine e_icmp_ne 26 dX4_does_19 (by decide) (fun h => absurd h (by decide)) (fun _ => ?_)
  refine e_lconst 0 dX4_does_22 rfl ?_
  refine e_goto 37 dX4_does_23 (by decide) ?_
  refine e_lstore_n dX4_does_37 2 rfl (ls_s (ls_1 rfl)) (ln_s (ln_s (ln_s ln_0))) (Nat.le_of_ble_eq_true rfl) ?_
  refine e_aload_n dX4_does_38 0 rfl rfl rfl ?_
  refine e_getf (v := .ref 75) dX4_does_39 rfl fX4_83 (tw_o hp) rfl ?_
  refine e_iload_n dX4_does_42 1 rfl rfl ?_
  refine e_iald (f := τ.2.2.1 43) (j := k) dX4_does_43 (tw_a43 hp) rfl (by omega) (by decide) ?_
  refine e_top (congrArg Value.int hK) ?_
  refine e_i2l dX4_does_44 ?_
  refine e_lconst 1 dX4_does_45 rfl ?_
  refine e_ldc2 rfl q1577 dX4_does_46 ?_
  refine e_callSB (As := [.long ((7 : Int32).toInt64), .long 1, .long 4]) (rest := []) dX4_does_49 rfl msX4_239 (t_isInI 7 1 4 rfl (by decide) (by decide)) (Nat.le_of_ble_eq_true rfl) rfl rfl (Nat.le_of_ble_eq_true rfl) (Nat.zero_le _) (Nat.zero_le _) (fun h49 => ?_) (fun h49 => ?_)
  · exact absurd h49 (by decide)
  · refine e_if_eq_t 69 (by decide) dX4_does_52 (by decide) ?_
    refine e_lconst 0 dX4_does_69 rfl ?_
    refine e_lstore dX4_does_70 (ls_s (ls_s (ls_s (ls_1 rfl)))) (ln_s (ln_s (ln_s (ln_s (ln_s ln_0))))) (Nat.le_of_ble_eq_true rfl) ?_
    refine e_aload_n dX4_does_72 0 rfl rfl rfl ?_
    refine e_getf (v := .ref 80) dX4_does_73 rfl fX4_98 (tw_o hp) rfl ?_
    refine e_iload_n dX4_does_76 1 rfl rfl ?_
    refine e_iald (f := τ.2.2.1 48) (j := k) dX4_does_77 (tw_a48 hp) rfl (by omega) (by decide) ?_
    refine e_if_eq 103 dX4_does_78 (by decide) (fun h78 => ?_) (fun h78 => ?_)
    · refine e_iconst 1 dX4_does_103 rfl ?_
      refine e_goto 108 dX4_does_104 (by decide) ?_
      refine e_istore dX4_does_108 (ls_s (ls_s (ls_s (ls_s (ls_s (ls_1 rfl)))))) (Nat.le_of_ble_eq_true rfl) ?_
      refine e_aload_n dX4_does_110 0 rfl rfl rfl ?_
      refine e_getf (v := .ref 75) dX4_does_111 rfl fX4_83 (tw_o hp) rfl ?_
      refine e_iload_n dX4_does_114 1 rfl rfl ?_
      refine e_iald (f := τ.2.2.1 43) (j := k) dX4_does_115 (tw_a43 hp) rfl (by omega) (by decide) ?_
      refine e_top (congrArg Value.int hK) ?_
      refine e_tableOut 391 dX4_does_116 (by decide) (by decide) ?_
      refine e_iload dX4_does_391 rfl ?_
      refine e_if_eq_f (by decide) 407 dX4_does_393 (by decide) ?_
      refine e_iload_n dX4_does_396 1 rfl rfl ?_
      refine e_aload_n dX4_does_397 0 rfl rfl rfl ?_
      refine e_getf (v := .ref 76) dX4_does_398 rfl fX4_86 (tw_o hp) rfl ?_
      refine e_iload_n dX4_does_401 1 rfl rfl ?_
      refine e_iald (f := τ.2.2.1 44) (j := k) dX4_does_402 (tw_a44 hp) rfl (by omega) (by decide) ?_
      refine e_top (congrArg Value.int ha.1) ?_
      refine e_iaddN k a dX4_does_403 ?_
      refine e_goto 410 dX4_does_404 (by decide) ?_
      refine e_ireturn dX4_does_410 rfl rfl (Nat.zero_le _) (Nat.zero_le _) ?_
      have hi : spIs τ k = true := by
        unfold spIs
        simp [h78]
      have eD : spDoes τ k = (k + a, τ) := by
        rw [spDoes, hK, if_neg (by decide), if_neg (by decide), if_neg (by decide), if_neg (by decide), if_neg (by decide), if_neg (by decide), if_neg (by decide), hi, if_pos rfl, ha.1, ix_nI (by omega)]
      refine ⟨_, rfl, by rw [eD], ?_⟩
      rw [eD]
      exact Sx.rf
    · refine e_aload_n dX4_does_81 0 rfl rfl rfl ?_
      refine e_getf (v := .int (τ.1 61)) dX4_does_82 rfl fX4_464 (tw_o hp) rfl ?_
      refine e_aload_n dX4_does_85 0 rfl rfl rfl ?_
      refine e_getf (v := .ref 80) dX4_does_86 rfl fX4_98 (tw_o hp) rfl ?_
      refine e_iload_n dX4_does_89 1 rfl rfl ?_
      refine e_iald (f := τ.2.2.1 48) (j := k) dX4_does_90 (tw_a48 hp) rfl (by omega) (by decide) ?_
      refine e_iconst 1 dX4_does_91 rfl ?_
      refine e_icmp_ne 99 dX4_does_92 (by decide) (fun h92 => ?_) (fun h92 => ?_)
      · refine e_iconst 0 dX4_does_99 rfl ?_
        refine e_icmp_ne 107 dX4_does_100 (by decide) (fun h100 => ?_) (fun h100 => ?_)
        · refine e_iconst 0 dX4_does_107 rfl ?_
          refine e_istore dX4_does_108 (ls_s (ls_s (ls_s (ls_s (ls_s (ls_1 rfl)))))) (Nat.le_of_ble_eq_true rfl) ?_
          refine e_aload_n dX4_does_110 0 rfl rfl rfl ?_
          refine e_getf (v := .ref 75) dX4_does_111 rfl fX4_83 (tw_o hp) rfl ?_
          refine e_iload_n dX4_does_114 1 rfl rfl ?_
          refine e_iald (f := τ.2.2.1 43) (j := k) dX4_does_115 (tw_a43 hp) rfl (by omega) (by decide) ?_
          refine e_top (congrArg Value.int hK) ?_
          refine e_tableOut 391 dX4_does_116 (by decide) (by decide) ?_
          refine e_iload dX4_does_391 rfl ?_
          refine e_if_eq_t 407 (by decide) dX4_does_393 (by decide) ?_
          refine e_iload_n dX4_does_407 1 rfl rfl ?_
          refine e_iconst 1 dX4_does_408 rfl ?_
          refine e_iaddN k 1 dX4_does_409 ?_
          refine e_ireturn dX4_does_410 rfl rfl (Nat.zero_le _) (Nat.zero_le _) ?_
          have hi : spIs τ k = false := by
            unfold spIs
            simp [h78, h92, h100]
          have eD : spDoes τ k = (k + 1, τ) := by
            rw [spDoes, hK, if_neg (by decide), if_neg (by decide), if_neg (by decide), if_neg (by decide), if_neg (by decide), if_neg (by decide), if_neg (by decide), hi, if_neg (by decide)]
          refine ⟨_, rfl, by rw [eD], ?_⟩
          rw [eD]
          exact Sx.rf
        · refine e_iconst 1 dX4_does_103 rfl ?_
          refine e_goto 108 dX4_does_104 (by decide) ?_
          refine e_istore dX4_does_108 (ls_s (ls_s (ls_s (ls_s (ls_s (ls_1 rfl)))))) (Nat.le_of_ble_eq_true rfl) ?_
          refine e_aload_n dX4_does_110 0 rfl rfl rfl ?_
          refine e_getf (v := .ref 75) dX4_does_111 rfl fX4_83 (tw_o hp) rfl ?_
          refine e_iload_n dX4_does_114 1 rfl rfl ?_
          refine e_iald (f := τ.2.2.1 43) (j := k) dX4_does_115 (tw_a43 hp) rfl (by omega) (by decide) ?_
          refine e_top (congrArg Value.int hK) ?_
          refine e_tableOut 391 dX4_does_116 (by decide) (by decide) ?_
          refine e_iload dX4_does_391 rfl ?_
          refine e_if_eq_f (by decide) 407 dX4_does_393 (by decide) ?_
          refine e_iload_n dX4_does_396 1 rfl rfl ?_
          refine e_aload_n dX4_does_397 0 rfl rfl rfl ?_
          refine e_getf (v := .ref 76) dX4_does_398 rfl fX4_86 (tw_o hp) rfl ?_
          refine e_iload_n dX4_does_401 1 rfl rfl ?_
          refine e_iald (f := τ.2.2.1 44) (j := k) dX4_does_402 (tw_a44 hp) rfl (by omega) (by decide) ?_
          refine e_top (congrArg Value.int ha.1) ?_
          refine e_iaddN k a dX4_does_403 ?_
          refine e_goto 410 dX4_does_404 (by decide) ?_
          refine e_ireturn dX4_does_410 rfl rfl (Nat.zero_le _) (Nat.zero_le _) ?_
          have hi : spIs τ k = true := by
            unfold spIs
            simp [h78, h92, h100]
          have eD : spDoes τ k = (k + a, τ) := by
            rw [spDoes, hK, if_neg (by decide), if_neg (by decide), if_neg (by decide), if_neg (by decide), if_neg (by decide), if_neg (by decide), if_neg (by decide), hi, if_pos rfl, ha.1, ix_nI (by omega)]
          refine ⟨_, rfl, by rw [eD], ?_⟩
          rw [eD]
          exact Sx.rf
      · refine e_iconst 1 dX4_does_95 rfl ?_
        refine e_goto 100 dX4_does_96 (by decide) ?_
        refine e_icmp_ne 107 dX4_does_100 (by decide) (fun h100 => ?_) (fun h100 => ?_)
        · refine e_iconst 0 dX4_does_107 rfl ?_
          refine e_istore dX4_does_108 (ls_s (ls_s (ls_s (ls_s (ls_s (ls_1 rfl)))))) (Nat.le_of_ble_eq_true rfl) ?_
          refine e_aload_n dX4_does_110 0 rfl rfl rfl ?_
          refine e_getf (v := .ref 75) dX4_does_111 rfl fX4_83 (tw_o hp) rfl ?_
          refine e_iload_n dX4_does_114 1 rfl rfl ?_
          refine e_iald (f := τ.2.2.1 43) (j := k) dX4_does_115 (tw_a43 hp) rfl (by omega) (by decide) ?_
          refine e_top (congrArg Value.int hK) ?_
          refine e_tableOut 391 dX4_does_116 (by decide) (by decide) ?_
          refine e_iload dX4_does_391 rfl ?_
          refine e_if_eq_t 407 (by decide) dX4_does_393 (by decide) ?_
          refine e_iload_n dX4_does_407 1 rfl rfl ?_
          refine e_iconst 1 dX4_does_408 rfl ?_
          refine e_iaddN k 1 dX4_does_409 ?_
          refine e_ireturn dX4_does_410 rfl rfl (Nat.zero_le _) (Nat.zero_le _) ?_
          have hi : spIs τ k = false := by
            unfold spIs
            simp [h78, h92, h100]
          have eD : spDoes τ k = (k + 1, τ) := by
            rw [spDoes, hK, if_neg (by decide), if_neg (by decide), if_neg (by decide), if_neg (by decide), if_neg (by decide), if_neg (by decide), if_neg (by decide), hi, if_neg (by decide)]
          refine ⟨_, rfl, by rw [eD], ?_⟩
          rw [eD]
          exact Sx.rf
        · refine e_iconst 1 dX4_does_103 rfl ?_
          refine e_goto 108 dX4_does_104 (by decide) ?_
          refine e_istore dX4_does_108 (ls_s (ls_s (ls_s (ls_s (ls_s (ls_1 rfl)))))) (Nat.le_of_ble_eq_true rfl) ?_
          refine e_aload_n dX4_does_110 0 rfl rfl rfl ?_
          refine e_getf (v := .ref 75) dX4_does_111 rfl fX4_83 (tw_o hp) rfl ?_
          refine e_iload_n dX4_does_114 1 rfl rfl ?_
          refine e_iald (f := τ.2.2.1 43) (j := k) dX4_does_115 (tw_a43 hp) rfl (by omega) (by decide) ?_
          refine e_top (congrArg Value.int hK) ?_
          refine e_tableOut 391 dX4_does_116 (by decide) (by decide) ?_
          refine e_iload dX4_does_391 rfl ?_
          refine e_if_eq_f (by decide) 407 dX4_does_393 (by decide) ?_
          refine e_iload_n dX4_does_396 1 rfl rfl ?_
          refine e_aload_n dX4_does_397 0 rfl rfl rfl ?_
          refine e_getf (v := .ref 76) dX4_does_398 rfl fX4_86 (tw_o hp) rfl ?_
          refine e_iload_n dX4_does_401 1 rfl rfl ?_
          refine e_iald (f := τ.2.2.1 44) (j := k) dX4_does_402 (tw_a44 hp) rfl (by omega) (by decide) ?_
          refine e_top (congrArg Value.int ha.1) ?_
          refine e_iaddN k a dX4_does_403 ?_
          refine e_goto 410 dX4_does_404 (by decide) ?_
          refine e_ireturn dX4_does_410 rfl rfl (Nat.zero_le _) (Nat.zero_le _) ?_
          have hi : spIs τ k = true := by
            unfold spIs
            simp [h78, h92, h100]
          have eD : spDoes τ k = (k + a, τ) := by
            rw [spDoes, hK, if_neg (by decide), if_neg (by decide), if_neg (by decide), if_neg (by decide), if_neg (by decide), if_neg (by decide), if_neg (by decide), hi, if_pos rfl, ha.1, ix_nI (by omega)]
          refine ⟨_, rfl, by rw [eD], ?_⟩
          rw [eD]
          exact Sx.rf

